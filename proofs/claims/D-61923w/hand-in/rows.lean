section
-- ===== PART A: goes FIRST, ahead of the names: the tables' words, and 'selects' of the private methods out of them =====
/-- a private method of a class that the tables say can be made, by its rows of tables_1 -/
def lw_okq (q : MethodName × Nat) : Prop := (q.1.cls ≠ "java/lang/invoke/MethodHandle" ∧ q.1.cls ≠ "java/lang/invoke/VarHandle") ∧ Cond.instantiable q.1.cls q.2 ∈ tables_1 ∧ Cond.privateMethod q.1 ∈ tables_1 ∧ Cond.instanceMethod q.1 ∈ tables_1
set_option maxRecDepth 100000
theorem lw_t1 {w : Cond} (h : w ∈ tables_1_1) : w ∈ tables_1 := List.mem_append_left _ h
theorem lw_t2 {w : Cond} (h : w ∈ tables_1_2) : w ∈ tables_1 := List.mem_append_right _ h
theorem lw_p0 : lw_okq (⟨"BuildGraph", "noTask", "(I)Z"⟩, 28) := ⟨⟨by decide +kernel, by decide +kernel⟩, lw_t1 (List.mem_of_getElem? (i := 4) rfl), lw_t1 (List.mem_of_getElem? (i := 111) rfl), lw_t1 (List.mem_of_getElem? (i := 112) rfl)⟩
theorem lw_p1 : lw_okq (⟨"BuildGraph", "neededSet", "(I)I"⟩, 28) := ⟨⟨by decide +kernel, by decide +kernel⟩, lw_t1 (List.mem_of_getElem? (i := 4) rfl), lw_t1 (List.mem_of_getElem? (i := 123) rfl), lw_t1 (List.mem_of_getElem? (i := 124) rfl)⟩
theorem lw_p2 : lw_okq (⟨"BuildGraph", "inputTasks", "(I)I"⟩, 28) := ⟨⟨by decide +kernel, by decide +kernel⟩, lw_t1 (List.mem_of_getElem? (i := 4) rfl), lw_t1 (List.mem_of_getElem? (i := 127) rfl), lw_t1 (List.mem_of_getElem? (i := 128) rfl)⟩
theorem lw_p3 : lw_okq (⟨"BuildGraph", "handle", "(I)I"⟩, 28) := ⟨⟨by decide +kernel, by decide +kernel⟩, lw_t1 (List.mem_of_getElem? (i := 4) rfl), lw_t1 (List.mem_of_getElem? (i := 131) rfl), lw_t1 (List.mem_of_getElem? (i := 132) rfl)⟩
theorem lw_p4 : lw_okq (⟨"BuildGraph", "untouched", "(I)Z"⟩, 28) := ⟨⟨by decide +kernel, by decide +kernel⟩, lw_t1 (List.mem_of_getElem? (i := 4) rfl), lw_t1 (List.mem_of_getElem? (i := 135) rfl), lw_t1 (List.mem_of_getElem? (i := 136) rfl)⟩
theorem lw_p5 : lw_okq (⟨"BuildGraph", "loadRecord", "(IZ)V"⟩, 28) := ⟨⟨by decide +kernel, by decide +kernel⟩, lw_t1 (List.mem_of_getElem? (i := 4) rfl), lw_t1 (List.mem_of_getElem? (i := 139) rfl), lw_t1 (List.mem_of_getElem? (i := 140) rfl)⟩
theorem lw_p6 : lw_okq (⟨"BuildGraph", "isLast", "(I)Z"⟩, 28) := ⟨⟨by decide +kernel, by decide +kernel⟩, lw_t1 (List.mem_of_getElem? (i := 4) rfl), lw_t1 (List.mem_of_getElem? (i := 143) rfl), lw_t1 (List.mem_of_getElem? (i := 144) rfl)⟩
theorem lw_p7 : lw_okq (⟨"BuildGraph", "inStore", "(I)Z"⟩, 28) := ⟨⟨by decide +kernel, by decide +kernel⟩, lw_t1 (List.mem_of_getElem? (i := 4) rfl), lw_t1 (List.mem_of_getElem? (i := 147) rfl), lw_t1 (List.mem_of_getElem? (i := 148) rfl)⟩
theorem lw_p8 : lw_okq (⟨"BuildGraph", "hashOf", "(I)I"⟩, 28) := ⟨⟨by decide +kernel, by decide +kernel⟩, lw_t1 (List.mem_of_getElem? (i := 4) rfl), lw_t1 (List.mem_of_getElem? (i := 151) rfl), lw_t1 (List.mem_of_getElem? (i := 152) rfl)⟩
theorem lw_p9 : lw_okq (⟨"BuildGraph", "isRecord", "(III)Z"⟩, 28) := ⟨⟨by decide +kernel, by decide +kernel⟩, lw_t1 (List.mem_of_getElem? (i := 4) rfl), lw_t1 (List.mem_of_getElem? (i := 155) rfl), lw_t1 (List.mem_of_getElem? (i := 156) rfl)⟩
theorem lw_p10 : lw_okq (⟨"BuildGraph", "keep", "(I)V"⟩, 28) := ⟨⟨by decide +kernel, by decide +kernel⟩, lw_t1 (List.mem_of_getElem? (i := 4) rfl), lw_t1 (List.mem_of_getElem? (i := 159) rfl), lw_t1 (List.mem_of_getElem? (i := 160) rfl)⟩
theorem lw_p11 : lw_okq (⟨"BuildGraph", "remember", "(I)V"⟩, 28) := ⟨⟨by decide +kernel, by decide +kernel⟩, lw_t1 (List.mem_of_getElem? (i := 4) rfl), lw_t1 (List.mem_of_getElem? (i := 163) rfl), lw_t1 (List.mem_of_getElem? (i := 164) rfl)⟩
theorem lw_p12 : lw_okq (⟨"BuildGraph", "result", "(I)I"⟩, 28) := ⟨⟨by decide +kernel, by decide +kernel⟩, lw_t1 (List.mem_of_getElem? (i := 4) rfl), lw_t1 (List.mem_of_getElem? (i := 167) rfl), lw_t1 (List.mem_of_getElem? (i := 168) rfl)⟩
theorem lw_p13 : lw_okq (⟨"BuildGraph", "workOutNow", "()V"⟩, 28) := ⟨⟨by decide +kernel, by decide +kernel⟩, lw_t1 (List.mem_of_getElem? (i := 4) rfl), lw_t1 (List.mem_of_getElem? (i := 191) rfl), lw_t1 (List.mem_of_getElem? (i := 192) rfl)⟩
theorem lw_p14 : lw_okq (⟨"BuildGraph", "wouldExecute", "(I)Z"⟩, 28) := ⟨⟨by decide +kernel, by decide +kernel⟩, lw_t1 (List.mem_of_getElem? (i := 4) rfl), lw_t1 (List.mem_of_getElem? (i := 203) rfl), lw_t1 (List.mem_of_getElem? (i := 204) rfl)⟩
theorem lw_p15 : lw_okq (⟨"BuildGraphModel", "bad", "(I)Z"⟩, 15) := ⟨⟨by decide +kernel, by decide +kernel⟩, lw_t1 (List.mem_of_getElem? (i := 215) rfl), lw_t2 (List.mem_of_getElem? (i := 39) rfl), lw_t2 (List.mem_of_getElem? (i := 40) rfl)⟩
def lw_privs_1 : List (MethodName × Nat) := [(⟨"BuildGraph", "noTask", "(I)Z"⟩, 28), (⟨"BuildGraph", "neededSet", "(I)I"⟩, 28), (⟨"BuildGraph", "inputTasks", "(I)I"⟩, 28), (⟨"BuildGraph", "handle", "(I)I"⟩, 28), (⟨"BuildGraph", "untouched", "(I)Z"⟩, 28), (⟨"BuildGraph", "loadRecord", "(IZ)V"⟩, 28), (⟨"BuildGraph", "isLast", "(I)Z"⟩, 28), (⟨"BuildGraph", "inStore", "(I)Z"⟩, 28), (⟨"BuildGraph", "hashOf", "(I)I"⟩, 28), (⟨"BuildGraph", "isRecord", "(III)Z"⟩, 28), (⟨"BuildGraph", "keep", "(I)V"⟩, 28), (⟨"BuildGraph", "remember", "(I)V"⟩, 28), (⟨"BuildGraph", "result", "(I)I"⟩, 28), (⟨"BuildGraph", "workOutNow", "()V"⟩, 28), (⟨"BuildGraph", "wouldExecute", "(I)Z"⟩, 28), (⟨"BuildGraphModel", "bad", "(I)Z"⟩, 15)]
theorem lw_r1 : ∀ q ∈ lw_privs_1, lw_okq q := List.forall_mem_cons.mpr ⟨lw_p0, List.forall_mem_cons.mpr ⟨lw_p1, List.forall_mem_cons.mpr ⟨lw_p2, List.forall_mem_cons.mpr ⟨lw_p3, List.forall_mem_cons.mpr ⟨lw_p4, List.forall_mem_cons.mpr ⟨lw_p5, List.forall_mem_cons.mpr ⟨lw_p6, List.forall_mem_cons.mpr ⟨lw_p7, List.forall_mem_cons.mpr ⟨lw_p8, List.forall_mem_cons.mpr ⟨lw_p9, List.forall_mem_cons.mpr ⟨lw_p10, List.forall_mem_cons.mpr ⟨lw_p11, List.forall_mem_cons.mpr ⟨lw_p12, List.forall_mem_cons.mpr ⟨lw_p13, List.forall_mem_cons.mpr ⟨lw_p14, List.forall_mem_cons.mpr ⟨lw_p15, fun _ h => absurd h List.not_mem_nil⟩⟩⟩⟩⟩⟩⟩⟩⟩⟩⟩⟩⟩⟩⟩⟩
theorem lw_p16 : lw_okq (⟨"BuildGraphModel", "workOut", "()V"⟩, 15) := ⟨⟨by decide +kernel, by decide +kernel⟩, lw_t1 (List.mem_of_getElem? (i := 215) rfl), lw_t2 (List.mem_of_getElem? (i := 51) rfl), lw_t2 (List.mem_of_getElem? (i := 52) rfl)⟩
theorem lw_p17 : lw_okq (⟨"BuildGraphModel", "value", "(II)I"⟩, 15) := ⟨⟨by decide +kernel, by decide +kernel⟩, lw_t1 (List.mem_of_getElem? (i := 215) rfl), lw_t2 (List.mem_of_getElem? (i := 55) rfl), lw_t2 (List.mem_of_getElem? (i := 56) rfl)⟩
theorem lw_p18 : lw_okq (⟨"BuildGraphModel", "needs", "(I)I"⟩, 15) := ⟨⟨by decide +kernel, by decide +kernel⟩, lw_t1 (List.mem_of_getElem? (i := 215) rfl), lw_t2 (List.mem_of_getElem? (i := 59) rfl), lw_t2 (List.mem_of_getElem? (i := 60) rfl)⟩
theorem lw_p19 : lw_okq (⟨"BuildGraphModel", "handle", "(I)V"⟩, 15) := ⟨⟨by decide +kernel, by decide +kernel⟩, lw_t1 (List.mem_of_getElem? (i := 215) rfl), lw_t2 (List.mem_of_getElem? (i := 63) rfl), lw_t2 (List.mem_of_getElem? (i := 64) rfl)⟩
theorem lw_p20 : lw_okq (⟨"BuildGraphModel", "isLast", "(I)Z"⟩, 15) := ⟨⟨by decide +kernel, by decide +kernel⟩, lw_t1 (List.mem_of_getElem? (i := 215) rfl), lw_t2 (List.mem_of_getElem? (i := 67) rfl), lw_t2 (List.mem_of_getElem? (i := 68) rfl)⟩
theorem lw_p21 : lw_okq (⟨"BuildGraphModel", "part", "(II)I"⟩, 15) := ⟨⟨by decide +kernel, by decide +kernel⟩, lw_t1 (List.mem_of_getElem? (i := 215) rfl), lw_t2 (List.mem_of_getElem? (i := 71) rfl), lw_t2 (List.mem_of_getElem? (i := 72) rfl)⟩
theorem lw_p22 : lw_okq (⟨"BuildGraphModel", "isStored", "(I)Z"⟩, 15) := ⟨⟨by decide +kernel, by decide +kernel⟩, lw_t1 (List.mem_of_getElem? (i := 215) rfl), lw_t2 (List.mem_of_getElem? (i := 75) rfl), lw_t2 (List.mem_of_getElem? (i := 76) rfl)⟩
theorem lw_p23 : lw_okq (⟨"BuildGraphModel", "isRecord", "(II)Z"⟩, 15) := ⟨⟨by decide +kernel, by decide +kernel⟩, lw_t1 (List.mem_of_getElem? (i := 215) rfl), lw_t2 (List.mem_of_getElem? (i := 79) rfl), lw_t2 (List.mem_of_getElem? (i := 80) rfl)⟩
def lw_privs_2 : List (MethodName × Nat) := [(⟨"BuildGraphModel", "workOut", "()V"⟩, 15), (⟨"BuildGraphModel", "value", "(II)I"⟩, 15), (⟨"BuildGraphModel", "needs", "(I)I"⟩, 15), (⟨"BuildGraphModel", "handle", "(I)V"⟩, 15), (⟨"BuildGraphModel", "isLast", "(I)Z"⟩, 15), (⟨"BuildGraphModel", "part", "(II)I"⟩, 15), (⟨"BuildGraphModel", "isStored", "(I)Z"⟩, 15), (⟨"BuildGraphModel", "isRecord", "(II)Z"⟩, 15)]
theorem lw_r2 : ∀ q ∈ lw_privs_2, lw_okq q := List.forall_mem_cons.mpr ⟨lw_p16, List.forall_mem_cons.mpr ⟨lw_p17, List.forall_mem_cons.mpr ⟨lw_p18, List.forall_mem_cons.mpr ⟨lw_p19, List.forall_mem_cons.mpr ⟨lw_p20, List.forall_mem_cons.mpr ⟨lw_p21, List.forall_mem_cons.mpr ⟨lw_p22, List.forall_mem_cons.mpr ⟨lw_p23, fun _ h => absurd h List.not_mem_nil⟩⟩⟩⟩⟩⟩⟩⟩
def lw_privs : List (MethodName × Nat) := lw_privs_1 ++ (lw_privs_2)
def lw_tbl : List Cond := k2_sels lw_privs ++ tables_1
theorem lw_privs_ok : ∀ q ∈ lw_privs, lw_okq q := by
  show ∀ q ∈ lw_privs_1 ++ (lw_privs_2), lw_okq q
  exact List.forall_mem_append.mpr ⟨lw_r1, lw_r2⟩
-- ===== ONE list of words for every method: the tables' words that hold all through a run =====
def lw_all : List Cond := lw_tbl.filter goodWord
/-- a word of the tables by its place: claim/WORDS.tsv -/
theorem lw_w {w : Cond} (i : Nat) (h : lw_tbl[i]? = some w) (g : goodWord w = true) : w ∈ lw_all := List.mem_filter.mpr ⟨List.mem_of_getElem? h, g⟩
theorem lw_all_tbl {w : Cond} (h : w ∈ lw_all) : w ∈ lw_tbl := (List.mem_filter.mp h).1
theorem lw_self : GoodIn lw_all lw_all := fun w h => ⟨h, good_of_word (List.mem_filter.mp h).2⟩
/-- a class's field words, by their places -/
theorem lw_in (ws : List Cond) (ps : List Nat) (hp : ws = ps.filterMap (fun i => lw_tbl[i]?)) (hg : ws.all goodWord = true) : ∀ w ∈ ws, w ∈ lw_all := by
  intro w h
  have h1 := List.all_eq_true.mp hg w h
  rw [hp] at h
  obtain ⟨i, -, hi⟩ := List.mem_filterMap.mp h
  exact lw_w i hi h1
/-- the words of a contract for the method y with code b, L locals, answer r -/
abbrev ws_ (y : MethodName) (b : ByteArray) (L : Nat) (r : Option FieldType) : List Cond := Cond.code y b L r :: lw_all
theorem lw_meth {y : MethodName} {b : ByteArray} {L : Nat} {r : Option FieldType} (h : Cond.code y b L r ∈ lw_all) : GoodIn lw_all (ws_ y b L r) := by
  intro w hw
  rcases List.mem_cons.mp hw with e | e
  · rw [e]
    exact lw_self _ h
  · exact lw_self _ e
theorem lw_app {a c : List Cond} (ha : ∀ w ∈ a, w ∈ lw_all) (hc : GoodIn lw_all c) : GoodIn lw_all (a ++ c) := by
  intro w hw
  rcases List.mem_append.mp hw with e | e
  · exact lw_self w (ha w e)
  · exact hc w e
/-- what a call through an object asks: cwV n hts (lw_V ..) -/
theorem lw_V {own : String} {idx : Nat} {C : String} {y : MethodName} {b : ByteArray} {L : Nat} {r : Option FieldType} (h1 : Cond.methodLink own idx y ∈ lw_all) (h2 : Cond.instanceMethod y ∈ lw_all) (h3 : Cond.selects C y y ∈ lw_all) (h4 : Cond.initialized C ∈ lw_all) (h5 : Cond.code y b L r ∈ lw_all) : GoodIn lw_all (wsV own idx C y (ws_ y b L r)) := by
  refine lw_app ?_ (lw_meth h5)
  intro w hw
  simp only [List.mem_cons, List.not_mem_nil, or_false] at hw
  rcases hw with e | e | e | e
  · rw [e]; exact h1
  · rw [e]; exact h2
  · rw [e]; exact h3
  · rw [e]; exact h4
/-- what a static call asks: va_cwS n hts (lw_S ..) -/
theorem lw_S {own : String} {idx : Nat} {y : MethodName} {b : ByteArray} {L : Nat} {r : Option FieldType} (h1 : Cond.methodLink own idx y ∈ lw_all) (h2 : Cond.static y ∈ lw_all) (h3 : Cond.initialized y.cls ∈ lw_all) (h4 : Cond.code y b L r ∈ lw_all) : GoodIn lw_all (va_wsS own idx y (ws_ y b L r)) := by
  refine lw_app ?_ (lw_meth h4)
  intro w hw
  simp only [List.mem_cons, List.not_mem_nil, or_false] at hw
  rcases hw with e | e | e
  · rw [e]; exact h1
  · rw [e]; exact h2
  · rw [e]; exact h3
/-- the words of a contract for a method WITH HANDLERS (hh: its table) -/
abbrev wsW_ (y : MethodName) (b : ByteArray) (L : Nat) (r : Option FieldType) (hh : List (Nat × Nat × Nat × Nat)) : List Cond := Cond.codeWith y b L r hh :: lw_all
theorem lw_methW {y : MethodName} {b : ByteArray} {L : Nat} {r : Option FieldType} {hh : List (Nat × Nat × Nat × Nat)} (h : Cond.codeWith y b L r hh ∈ lw_all) : GoodIn lw_all (wsW_ y b L r hh) := by
  intro w hw
  rcases List.mem_cons.mp hw with e | e
  · rw [e]
    exact lw_self _ h
  · exact lw_self _ e
/-- any list of words by their places (lw_in), good -/
theorem lw_good {ws : List Cond} (h : ∀ w ∈ ws, w ∈ lw_all) : GoodIn lw_all ws := fun w hw => lw_self w (h w hw)
/-- what a call of a method with handlers asks: vx_cwVW n hts (lw_VW ..), vx_cwSW n hts (lw_SW ..) -/
theorem lw_VW {own : String} {idx : Nat} {C : String} {y : MethodName} {b : ByteArray} {L : Nat} {r : Option FieldType} {hh : List (Nat × Nat × Nat × Nat)} (h1 : Cond.methodLink own idx y ∈ lw_all) (h2 : Cond.instanceMethod y ∈ lw_all) (h3 : Cond.selects C y y ∈ lw_all) (h4 : Cond.initialized C ∈ lw_all) (h5 : Cond.codeWith y b L r hh ∈ lw_all) : GoodIn lw_all (wsV own idx C y (wsW_ y b L r hh)) := by
  refine lw_app ?_ (lw_methW h5)
  intro w hw
  simp only [List.mem_cons, List.not_mem_nil, or_false] at hw
  rcases hw with e | e | e | e
  · rw [e]; exact h1
  · rw [e]; exact h2
  · rw [e]; exact h3
  · rw [e]; exact h4
theorem lw_SW {own : String} {idx : Nat} {y : MethodName} {b : ByteArray} {L : Nat} {r : Option FieldType} {hh : List (Nat × Nat × Nat × Nat)} (h1 : Cond.methodLink own idx y ∈ lw_all) (h2 : Cond.static y ∈ lw_all) (h3 : Cond.initialized y.cls ∈ lw_all) (h4 : Cond.codeWith y b L r hh ∈ lw_all) : GoodIn lw_all (va_wsS own idx y (wsW_ y b L r hh)) := by
  refine lw_app ?_ (lw_methW h4)
  intro w hw
  simp only [List.mem_cons, List.not_mem_nil, or_false] at hw
  rcases hw with e | e | e
  · rw [e]; exact h1
  · rw [e]; exact h2
  · rw [e]; exact h3
/-- a word by its place in its run of the tables -/
theorem lw_at {r : List Cond} (hr : ∀ w ∈ r, w ∈ lw_tbl) {w : Cond} (i : Nat) (h : r[i]? = some w) : w ∈ lw_tbl := hr w (List.mem_of_getElem? h)
theorem lw_g {w : Cond} (h : w ∈ lw_tbl) (g : goodWord w = true) : w ∈ lw_all := List.mem_filter.mpr ⟨h, g⟩
theorem lw_ms : ∀ w ∈ k2_sels lw_privs, w ∈ lw_tbl := fun w h => show w ∈ k2_sels lw_privs ++ tables_1 from List.mem_append_left _ h
theorem lw_m1 : ∀ w ∈ tables_1_1, w ∈ lw_tbl := fun w h => show w ∈ k2_sels lw_privs ++ tables_1 from List.mem_append_right (k2_sels lw_privs) (show w ∈ tables_1 from List.mem_append_left _ h)
theorem lw_m2 : ∀ w ∈ tables_1_2, w ∈ lw_tbl := fun w h => show w ∈ k2_sels lw_privs ++ tables_1 from List.mem_append_right (k2_sels lw_privs) (show w ∈ tables_1 from List.mem_append_right _ h)
theorem qs0 : (Cond.selects "BuildGraph" ⟨"BuildGraph", "noTask", "(I)Z"⟩ ⟨"BuildGraph", "noTask", "(I)Z"⟩) ∈ lw_all := lw_g (lw_at lw_ms 0 rfl) rfl
theorem qs1 : (Cond.selects "BuildGraph" ⟨"BuildGraph", "neededSet", "(I)I"⟩ ⟨"BuildGraph", "neededSet", "(I)I"⟩) ∈ lw_all := lw_g (lw_at lw_ms 1 rfl) rfl
theorem qs2 : (Cond.selects "BuildGraph" ⟨"BuildGraph", "inputTasks", "(I)I"⟩ ⟨"BuildGraph", "inputTasks", "(I)I"⟩) ∈ lw_all := lw_g (lw_at lw_ms 2 rfl) rfl
theorem qs3 : (Cond.selects "BuildGraph" ⟨"BuildGraph", "handle", "(I)I"⟩ ⟨"BuildGraph", "handle", "(I)I"⟩) ∈ lw_all := lw_g (lw_at lw_ms 3 rfl) rfl
theorem qs4 : (Cond.selects "BuildGraph" ⟨"BuildGraph", "untouched", "(I)Z"⟩ ⟨"BuildGraph", "untouched", "(I)Z"⟩) ∈ lw_all := lw_g (lw_at lw_ms 4 rfl) rfl
theorem qs5 : (Cond.selects "BuildGraph" ⟨"BuildGraph", "loadRecord", "(IZ)V"⟩ ⟨"BuildGraph", "loadRecord", "(IZ)V"⟩) ∈ lw_all := lw_g (lw_at lw_ms 5 rfl) rfl
theorem qs6 : (Cond.selects "BuildGraph" ⟨"BuildGraph", "isLast", "(I)Z"⟩ ⟨"BuildGraph", "isLast", "(I)Z"⟩) ∈ lw_all := lw_g (lw_at lw_ms 6 rfl) rfl
theorem qs7 : (Cond.selects "BuildGraph" ⟨"BuildGraph", "inStore", "(I)Z"⟩ ⟨"BuildGraph", "inStore", "(I)Z"⟩) ∈ lw_all := lw_g (lw_at lw_ms 7 rfl) rfl
theorem qs8 : (Cond.selects "BuildGraph" ⟨"BuildGraph", "hashOf", "(I)I"⟩ ⟨"BuildGraph", "hashOf", "(I)I"⟩) ∈ lw_all := lw_g (lw_at lw_ms 8 rfl) rfl
theorem qs9 : (Cond.selects "BuildGraph" ⟨"BuildGraph", "isRecord", "(III)Z"⟩ ⟨"BuildGraph", "isRecord", "(III)Z"⟩) ∈ lw_all := lw_g (lw_at lw_ms 9 rfl) rfl
theorem qs10 : (Cond.selects "BuildGraph" ⟨"BuildGraph", "keep", "(I)V"⟩ ⟨"BuildGraph", "keep", "(I)V"⟩) ∈ lw_all := lw_g (lw_at lw_ms 10 rfl) rfl
theorem qs11 : (Cond.selects "BuildGraph" ⟨"BuildGraph", "remember", "(I)V"⟩ ⟨"BuildGraph", "remember", "(I)V"⟩) ∈ lw_all := lw_g (lw_at lw_ms 11 rfl) rfl
theorem qs12 : (Cond.selects "BuildGraph" ⟨"BuildGraph", "result", "(I)I"⟩ ⟨"BuildGraph", "result", "(I)I"⟩) ∈ lw_all := lw_g (lw_at lw_ms 12 rfl) rfl
theorem qs13 : (Cond.selects "BuildGraph" ⟨"BuildGraph", "workOutNow", "()V"⟩ ⟨"BuildGraph", "workOutNow", "()V"⟩) ∈ lw_all := lw_g (lw_at lw_ms 13 rfl) rfl
theorem qs14 : (Cond.selects "BuildGraph" ⟨"BuildGraph", "wouldExecute", "(I)Z"⟩ ⟨"BuildGraph", "wouldExecute", "(I)Z"⟩) ∈ lw_all := lw_g (lw_at lw_ms 14 rfl) rfl
theorem qs15 : (Cond.selects "BuildGraphModel" ⟨"BuildGraphModel", "bad", "(I)Z"⟩ ⟨"BuildGraphModel", "bad", "(I)Z"⟩) ∈ lw_all := lw_g (lw_at lw_ms 15 rfl) rfl
theorem qs16 : (Cond.selects "BuildGraphModel" ⟨"BuildGraphModel", "workOut", "()V"⟩ ⟨"BuildGraphModel", "workOut", "()V"⟩) ∈ lw_all := lw_g (lw_at lw_ms 16 rfl) rfl
theorem qs17 : (Cond.selects "BuildGraphModel" ⟨"BuildGraphModel", "value", "(II)I"⟩ ⟨"BuildGraphModel", "value", "(II)I"⟩) ∈ lw_all := lw_g (lw_at lw_ms 17 rfl) rfl
theorem qs18 : (Cond.selects "BuildGraphModel" ⟨"BuildGraphModel", "needs", "(I)I"⟩ ⟨"BuildGraphModel", "needs", "(I)I"⟩) ∈ lw_all := lw_g (lw_at lw_ms 18 rfl) rfl
theorem qs19 : (Cond.selects "BuildGraphModel" ⟨"BuildGraphModel", "handle", "(I)V"⟩ ⟨"BuildGraphModel", "handle", "(I)V"⟩) ∈ lw_all := lw_g (lw_at lw_ms 19 rfl) rfl
theorem qs20 : (Cond.selects "BuildGraphModel" ⟨"BuildGraphModel", "isLast", "(I)Z"⟩ ⟨"BuildGraphModel", "isLast", "(I)Z"⟩) ∈ lw_all := lw_g (lw_at lw_ms 20 rfl) rfl
theorem qs21 : (Cond.selects "BuildGraphModel" ⟨"BuildGraphModel", "part", "(II)I"⟩ ⟨"BuildGraphModel", "part", "(II)I"⟩) ∈ lw_all := lw_g (lw_at lw_ms 21 rfl) rfl
theorem qs22 : (Cond.selects "BuildGraphModel" ⟨"BuildGraphModel", "isStored", "(I)Z"⟩ ⟨"BuildGraphModel", "isStored", "(I)Z"⟩) ∈ lw_all := lw_g (lw_at lw_ms 22 rfl) rfl
theorem qs23 : (Cond.selects "BuildGraphModel" ⟨"BuildGraphModel", "isRecord", "(II)Z"⟩ ⟨"BuildGraphModel", "isRecord", "(II)Z"⟩) ∈ lw_all := lw_g (lw_at lw_ms 23 rfl) rfl
end
section
/-! BuildGraph -/
set_option maxRecDepth 100000
def RX0 : String := "BuildGraph"
def TX0 : u_T := fun k => match k with
  | 0 => ("BuildGraph", "contents", "[I", true)
  | 1 => ("BuildGraph", "contentRevision", "[I", true)
  | 2 => ("BuildGraph", "revision", "I", false)
  | 3 => ("BuildGraph", "tasks", "I", false)
  | 4 => ("BuildGraph", "kind", "[I", true)
  | 5 => ("BuildGraph", "constants", "[I", true)
  | 6 => ("BuildGraph", "inputs", "[I", true)
  | 7 => ("BuildGraph", "input", "[I", true)
  | 8 => ("BuildGraph", "taskRevision", "[I", true)
  | 9 => ("BuildGraph", "hasLast", "[Z", true)
  | 10 => ("BuildGraph", "lastConstant", "[I", true)
  | 11 => ("BuildGraph", "lastInputs", "[I", true)
  | 12 => ("BuildGraph", "lastValue", "[I", true)
  | 13 => ("BuildGraph", "seenRevision", "[I", true)
  | 14 => ("BuildGraph", "outputs", "[I", true)
  | 15 => ("BuildGraph", "outputRevision", "[I", true)
  | 16 => ("BuildGraph", "builds", "I", false)
  | 17 => ("BuildGraph", "records", "I", false)
  | 18 => ("BuildGraph", "newest", "[I", true)
  | 19 => ("BuildGraph", "older", "[I", true)
  | 20 => ("BuildGraph", "hash", "[I", true)
  | 21 => ("BuildGraph", "keptConstant", "[I", true)
  | 22 => ("BuildGraph", "keptInputs", "[I", true)
  | 23 => ("BuildGraph", "keptValue", "[I", true)
  | 24 => ("BuildGraph", "value", "[I", true)
  | 25 => ("BuildGraph", "outcome", "[I", true)
  | 26 => ("BuildGraph", "now", "[I", true)
  | _ => ("BuildGraph", "total", "I", false)
def tyX0 : Nat → FieldType := fun k => match k with
  | 0 => .array .int
  | 1 => .array .int
  | 2 => .int
  | 3 => .int
  | 4 => .array .int
  | 5 => .array .int
  | 6 => .array .int
  | 7 => .array .int
  | 8 => .array .int
  | 9 => .array .boolean
  | 10 => .array .int
  | 11 => .array .int
  | 12 => .array .int
  | 13 => .array .int
  | 14 => .array .int
  | 15 => .array .int
  | 16 => .int
  | 17 => .int
  | 18 => .array .int
  | 19 => .array .int
  | 20 => .array .int
  | 21 => .array .int
  | 22 => .array .int
  | 23 => .array .int
  | 24 => .array .int
  | 25 => .array .int
  | 26 => .array .int
  | _ => .int
abbrev wsX00 : List Cond := u_ws RX0 TX0 28
set_option maxRecDepth 100000 in
theorem nmX0 : ∀ a, a < 28 → ∀ b, b < 28 → a ≠ b → (TX0 a).2.1 ≠ (TX0 b).2.1 := by decide +kernel
set_option maxRecDepth 100000 in
theorem tyX0_ok : ∀ k, k < 28 → parseFieldDescriptor (TX0 k).2.2.1 = some (tyX0 k) := by decide +kernel
abbrev cX0_init : ByteArray := prog_1_method_1_code
def yX0_init : MethodName := ⟨RX0, "<init>", "()V"⟩
theorem dX0_init_0 : decode cX0_init 0 = .ok (.aload_n 0, 1) := by decide +kernel
theorem dX0_init_1 : decode cX0_init 1 = .ok (.invokespecial 1, 3) := by decide +kernel
theorem dX0_init_4 : decode cX0_init 4 = .ok (.aload_n 0, 1) := by decide +kernel
theorem dX0_init_5 : decode cX0_init 5 = .ok (.bipush 8, 2) := by decide +kernel
theorem dX0_init_7 : decode cX0_init 7 = .ok (.newarray .int, 2) := by decide +kernel
theorem dX0_init_9 : decode cX0_init 9 = .ok (.putfield 7, 3) := by decide +kernel
theorem dX0_init_12 : decode cX0_init 12 = .ok (.aload_n 0, 1) := by decide +kernel
theorem dX0_init_13 : decode cX0_init 13 = .ok (.bipush 8, 2) := by decide +kernel
theorem dX0_init_15 : decode cX0_init 15 = .ok (.newarray .int, 2) := by decide +kernel
theorem dX0_init_17 : decode cX0_init 17 = .ok (.putfield 13, 3) := by decide +kernel
theorem dX0_init_20 : decode cX0_init 20 = .ok (.aload_n 0, 1) := by decide +kernel
theorem dX0_init_21 : decode cX0_init 21 = .ok (.bipush 12, 2) := by decide +kernel
theorem dX0_init_23 : decode cX0_init 23 = .ok (.newarray .int, 2) := by decide +kernel
theorem dX0_init_25 : decode cX0_init 25 = .ok (.putfield 16, 3) := by decide +kernel
theorem dX0_init_28 : decode cX0_init 28 = .ok (.aload_n 0, 1) := by decide +kernel
theorem dX0_init_29 : decode cX0_init 29 = .ok (.bipush 12, 2) := by decide +kernel
theorem dX0_init_31 : decode cX0_init 31 = .ok (.newarray .int, 2) := by decide +kernel
theorem dX0_init_33 : decode cX0_init 33 = .ok (.putfield 19, 3) := by decide +kernel
theorem dX0_init_36 : decode cX0_init 36 = .ok (.aload_n 0, 1) := by decide +kernel
theorem dX0_init_37 : decode cX0_init 37 = .ok (.bipush 12, 2) := by decide +kernel
theorem dX0_init_39 : decode cX0_init 39 = .ok (.newarray .int, 2) := by decide +kernel
theorem dX0_init_41 : decode cX0_init 41 = .ok (.putfield 22, 3) := by decide +kernel
theorem dX0_init_44 : decode cX0_init 44 = .ok (.aload_n 0, 1) := by decide +kernel
theorem dX0_init_45 : decode cX0_init 45 = .ok (.bipush 36, 2) := by decide +kernel
theorem dX0_init_47 : decode cX0_init 47 = .ok (.newarray .int, 2) := by decide +kernel
theorem dX0_init_49 : decode cX0_init 49 = .ok (.putfield 25, 3) := by decide +kernel
theorem dX0_init_52 : decode cX0_init 52 = .ok (.aload_n 0, 1) := by decide +kernel
theorem dX0_init_53 : decode cX0_init 53 = .ok (.bipush 12, 2) := by decide +kernel
theorem dX0_init_55 : decode cX0_init 55 = .ok (.newarray .int, 2) := by decide +kernel
theorem dX0_init_57 : decode cX0_init 57 = .ok (.putfield 28, 3) := by decide +kernel
theorem dX0_init_60 : decode cX0_init 60 = .ok (.aload_n 0, 1) := by decide +kernel
theorem dX0_init_61 : decode cX0_init 61 = .ok (.bipush 12, 2) := by decide +kernel
theorem dX0_init_63 : decode cX0_init 63 = .ok (.newarray .boolean, 2) := by decide +kernel
theorem dX0_init_65 : decode cX0_init 65 = .ok (.putfield 31, 3) := by decide +kernel
theorem dX0_init_68 : decode cX0_init 68 = .ok (.aload_n 0, 1) := by decide +kernel
theorem dX0_init_69 : decode cX0_init 69 = .ok (.bipush 12, 2) := by decide +kernel
theorem dX0_init_71 : decode cX0_init 71 = .ok (.newarray .int, 2) := by decide +kernel
theorem dX0_init_73 : decode cX0_init 73 = .ok (.putfield 35, 3) := by decide +kernel
theorem dX0_init_76 : decode cX0_init 76 = .ok (.aload_n 0, 1) := by decide +kernel
theorem dX0_init_77 : decode cX0_init 77 = .ok (.bipush 12, 2) := by decide +kernel
theorem dX0_init_79 : decode cX0_init 79 = .ok (.newarray .int, 2) := by decide +kernel
theorem dX0_init_81 : decode cX0_init 81 = .ok (.putfield 38, 3) := by decide +kernel
theorem dX0_init_84 : decode cX0_init 84 = .ok (.aload_n 0, 1) := by decide +kernel
theorem dX0_init_85 : decode cX0_init 85 = .ok (.bipush 36, 2) := by decide +kernel
theorem dX0_init_87 : decode cX0_init 87 = .ok (.newarray .int, 2) := by decide +kernel
theorem dX0_init_89 : decode cX0_init 89 = .ok (.putfield 41, 3) := by decide +kernel
theorem dX0_init_92 : decode cX0_init 92 = .ok (.aload_n 0, 1) := by decide +kernel
theorem dX0_init_93 : decode cX0_init 93 = .ok (.bipush 12, 2) := by decide +kernel
theorem dX0_init_95 : decode cX0_init 95 = .ok (.newarray .int, 2) := by decide +kernel
theorem dX0_init_97 : decode cX0_init 97 = .ok (.putfield 44, 3) := by decide +kernel
theorem dX0_init_100 : decode cX0_init 100 = .ok (.aload_n 0, 1) := by decide +kernel
theorem dX0_init_101 : decode cX0_init 101 = .ok (.bipush 12, 2) := by decide +kernel
theorem dX0_init_103 : decode cX0_init 103 = .ok (.newarray .int, 2) := by decide +kernel
theorem dX0_init_105 : decode cX0_init 105 = .ok (.putfield 47, 3) := by decide +kernel
theorem dX0_init_108 : decode cX0_init 108 = .ok (.aload_n 0, 1) := by decide +kernel
theorem dX0_init_109 : decode cX0_init 109 = .ok (.bipush 12, 2) := by decide +kernel
theorem dX0_init_111 : decode cX0_init 111 = .ok (.newarray .int, 2) := by decide +kernel
theorem dX0_init_113 : decode cX0_init 113 = .ok (.putfield 50, 3) := by decide +kernel
theorem dX0_init_116 : decode cX0_init 116 = .ok (.aload_n 0, 1) := by decide +kernel
theorem dX0_init_117 : decode cX0_init 117 = .ok (.bipush 12, 2) := by decide +kernel
theorem dX0_init_119 : decode cX0_init 119 = .ok (.newarray .int, 2) := by decide +kernel
theorem dX0_init_121 : decode cX0_init 121 = .ok (.putfield 53, 3) := by decide +kernel
theorem dX0_init_124 : decode cX0_init 124 = .ok (.aload_n 0, 1) := by decide +kernel
theorem dX0_init_125 : decode cX0_init 125 = .ok (.sipush 480, 3) := by decide +kernel
theorem dX0_init_128 : decode cX0_init 128 = .ok (.newarray .int, 2) := by decide +kernel
theorem dX0_init_130 : decode cX0_init 130 = .ok (.putfield 56, 3) := by decide +kernel
theorem dX0_init_133 : decode cX0_init 133 = .ok (.aload_n 0, 1) := by decide +kernel
theorem dX0_init_134 : decode cX0_init 134 = .ok (.sipush 480, 3) := by decide +kernel
theorem dX0_init_137 : decode cX0_init 137 = .ok (.newarray .int, 2) := by decide +kernel
theorem dX0_init_139 : decode cX0_init 139 = .ok (.putfield 59, 3) := by decide +kernel
theorem dX0_init_142 : decode cX0_init 142 = .ok (.aload_n 0, 1) := by decide +kernel
theorem dX0_init_143 : decode cX0_init 143 = .ok (.sipush 480, 3) := by decide +kernel
theorem dX0_init_146 : decode cX0_init 146 = .ok (.newarray .int, 2) := by decide +kernel
theorem dX0_init_148 : decode cX0_init 148 = .ok (.putfield 62, 3) := by decide +kernel
theorem dX0_init_151 : decode cX0_init 151 = .ok (.aload_n 0, 1) := by decide +kernel
theorem dX0_init_152 : decode cX0_init 152 = .ok (.sipush 480, 3) := by decide +kernel
theorem dX0_init_155 : decode cX0_init 155 = .ok (.newarray .int, 2) := by decide +kernel
theorem dX0_init_157 : decode cX0_init 157 = .ok (.putfield 65, 3) := by decide +kernel
theorem dX0_init_160 : decode cX0_init 160 = .ok (.aload_n 0, 1) := by decide +kernel
theorem dX0_init_161 : decode cX0_init 161 = .ok (.sipush 1440, 3) := by decide +kernel
theorem dX0_init_164 : decode cX0_init 164 = .ok (.newarray .int, 2) := by decide +kernel
theorem dX0_init_166 : decode cX0_init 166 = .ok (.putfield 68, 3) := by decide +kernel
theorem dX0_init_169 : decode cX0_init 169 = .ok (.aload_n 0, 1) := by decide +kernel
theorem dX0_init_170 : decode cX0_init 170 = .ok (.iconst 3, 1) := by decide +kernel
theorem dX0_init_171 : decode cX0_init 171 = .ok (.newarray .int, 2) := by decide +kernel
theorem dX0_init_173 : decode cX0_init 173 = .ok (.putfield 71, 3) := by decide +kernel
theorem dX0_init_176 : decode cX0_init 176 = .ok (.aload_n 0, 1) := by decide +kernel
theorem dX0_init_177 : decode cX0_init 177 = .ok (.bipush 12, 2) := by decide +kernel
theorem dX0_init_179 : decode cX0_init 179 = .ok (.newarray .int, 2) := by decide +kernel
theorem dX0_init_181 : decode cX0_init 181 = .ok (.putfield 74, 3) := by decide +kernel
theorem dX0_init_184 : decode cX0_init 184 = .ok (.aload_n 0, 1) := by decide +kernel
theorem dX0_init_185 : decode cX0_init 185 = .ok (.bipush 12, 2) := by decide +kernel
theorem dX0_init_187 : decode cX0_init 187 = .ok (.newarray .int, 2) := by decide +kernel
theorem dX0_init_189 : decode cX0_init 189 = .ok (.putfield 77, 3) := by decide +kernel
theorem dX0_init_192 : decode cX0_init 192 = .ok (.iconst 0, 1) := by decide +kernel
theorem dX0_init_193 : decode cX0_init 193 = .ok (.istore_n 1, 1) := by decide +kernel
theorem dX0_init_194 : decode cX0_init 194 = .ok (.iload_n 1, 1) := by decide +kernel
theorem dX0_init_195 : decode cX0_init 195 = .ok (.bipush 12, 2) := by decide +kernel
theorem dX0_init_197 : decode cX0_init 197 = .ok (.if_icmp .ge 16, 3) := by decide +kernel
theorem dX0_init_200 : decode cX0_init 200 = .ok (.aload_n 0, 1) := by decide +kernel
theorem dX0_init_201 : decode cX0_init 201 = .ok (.getfield 53, 3) := by decide +kernel
theorem dX0_init_204 : decode cX0_init 204 = .ok (.iload_n 1, 1) := by decide +kernel
theorem dX0_init_205 : decode cX0_init 205 = .ok (.iconst (-1), 1) := by decide +kernel
theorem dX0_init_206 : decode cX0_init 206 = .ok (.iastore, 1) := by decide +kernel
theorem dX0_init_207 : decode cX0_init 207 = .ok (.iinc 1 1, 3) := by decide +kernel
theorem dX0_init_210 : decode cX0_init 210 = .ok (.goto (-16), 3) := by decide +kernel
theorem dX0_init_213 : decode cX0_init 213 = .ok (.return_, 1) := by decide +kernel
abbrev cX0_content : ByteArray := prog_1_method_3_code
def yX0_content : MethodName := ⟨RX0, "content", "(II)I"⟩
theorem dX0_content_0 : decode cX0_content 0 = .ok (.iload_n 1, 1) := by decide +kernel
theorem dX0_content_1 : decode cX0_content 1 = .ok (.ifCond .lt 9, 3) := by decide +kernel
theorem dX0_content_4 : decode cX0_content 4 = .ok (.iload_n 1, 1) := by decide +kernel
theorem dX0_content_5 : decode cX0_content 5 = .ok (.bipush 8, 2) := by decide +kernel
theorem dX0_content_7 : decode cX0_content 7 = .ok (.if_icmp .lt 6, 3) := by decide +kernel
theorem dX0_content_10 : decode cX0_content 10 = .ok (.bipush (-2), 2) := by decide +kernel
theorem dX0_content_12 : decode cX0_content 12 = .ok (.ireturn, 1) := by decide +kernel
theorem dX0_content_13 : decode cX0_content 13 = .ok (.aload_n 0, 1) := by decide +kernel
theorem dX0_content_14 : decode cX0_content 14 = .ok (.getfield 7, 3) := by decide +kernel
theorem dX0_content_17 : decode cX0_content 17 = .ok (.iload_n 1, 1) := by decide +kernel
theorem dX0_content_18 : decode cX0_content 18 = .ok (.iaload, 1) := by decide +kernel
theorem dX0_content_19 : decode cX0_content 19 = .ok (.istore_n 3, 1) := by decide +kernel
theorem dX0_content_20 : decode cX0_content 20 = .ok (.aload_n 0, 1) := by decide +kernel
theorem dX0_content_21 : decode cX0_content 21 = .ok (.getfield 7, 3) := by decide +kernel
theorem dX0_content_24 : decode cX0_content 24 = .ok (.iload_n 1, 1) := by decide +kernel
theorem dX0_content_25 : decode cX0_content 25 = .ok (.iload_n 2, 1) := by decide +kernel
theorem dX0_content_26 : decode cX0_content 26 = .ok (.iastore, 1) := by decide +kernel
theorem dX0_content_27 : decode cX0_content 27 = .ok (.aload_n 0, 1) := by decide +kernel
theorem dX0_content_28 : decode cX0_content 28 = .ok (.dup, 1) := by decide +kernel
theorem dX0_content_29 : decode cX0_content 29 = .ok (.getfield 84, 3) := by decide +kernel
theorem dX0_content_32 : decode cX0_content 32 = .ok (.iconst 1, 1) := by decide +kernel
theorem dX0_content_33 : decode cX0_content 33 = .ok (.iadd, 1) := by decide +kernel
theorem dX0_content_34 : decode cX0_content 34 = .ok (.putfield 84, 3) := by decide +kernel
theorem dX0_content_37 : decode cX0_content 37 = .ok (.iload_n 3, 1) := by decide +kernel
theorem dX0_content_38 : decode cX0_content 38 = .ok (.iload_n 2, 1) := by decide +kernel
theorem dX0_content_39 : decode cX0_content 39 = .ok (.if_icmp .eq 13, 3) := by decide +kernel
theorem dX0_content_42 : decode cX0_content 42 = .ok (.aload_n 0, 1) := by decide +kernel
theorem dX0_content_43 : decode cX0_content 43 = .ok (.getfield 13, 3) := by decide +kernel
theorem dX0_content_46 : decode cX0_content 46 = .ok (.iload_n 1, 1) := by decide +kernel
theorem dX0_content_47 : decode cX0_content 47 = .ok (.aload_n 0, 1) := by decide +kernel
theorem dX0_content_48 : decode cX0_content 48 = .ok (.getfield 84, 3) := by decide +kernel
theorem dX0_content_51 : decode cX0_content 51 = .ok (.iastore, 1) := by decide +kernel
theorem dX0_content_52 : decode cX0_content 52 = .ok (.iload_n 3, 1) := by decide +kernel
theorem dX0_content_53 : decode cX0_content 53 = .ok (.ireturn, 1) := by decide +kernel
abbrev cX0_task : ByteArray := prog_1_method_4_code
def yX0_task : MethodName := ⟨RX0, "task", "(II)I"⟩
theorem dX0_task_0 : decode cX0_task 0 = .ok (.aload_n 0, 1) := by decide +kernel
theorem dX0_task_1 : decode cX0_task 1 = .ok (.getfield 80, 3) := by decide +kernel
theorem dX0_task_4 : decode cX0_task 4 = .ok (.bipush 12, 2) := by decide +kernel
theorem dX0_task_6 : decode cX0_task 6 = .ok (.if_icmp .lt 6, 3) := by decide +kernel
theorem dX0_task_9 : decode cX0_task 9 = .ok (.bipush (-4), 2) := by decide +kernel
theorem dX0_task_11 : decode cX0_task 11 = .ok (.ireturn, 1) := by decide +kernel
theorem dX0_task_12 : decode cX0_task 12 = .ok (.aload_n 0, 1) := by decide +kernel
theorem dX0_task_13 : decode cX0_task 13 = .ok (.getfield 80, 3) := by decide +kernel
theorem dX0_task_16 : decode cX0_task 16 = .ok (.istore_n 3, 1) := by decide +kernel
theorem dX0_task_17 : decode cX0_task 17 = .ok (.aload_n 0, 1) := by decide +kernel
theorem dX0_task_18 : decode cX0_task 18 = .ok (.getfield 16, 3) := by decide +kernel
theorem dX0_task_21 : decode cX0_task 21 = .ok (.iload_n 3, 1) := by decide +kernel
theorem dX0_task_22 : decode cX0_task 22 = .ok (.iload_n 1, 1) := by decide +kernel
theorem dX0_task_23 : decode cX0_task 23 = .ok (.iconst 3, 1) := by decide +kernel
theorem dX0_task_24 : decode cX0_task 24 = .ok (.iand, 1) := by decide +kernel
theorem dX0_task_25 : decode cX0_task 25 = .ok (.iastore, 1) := by decide +kernel
theorem dX0_task_26 : decode cX0_task 26 = .ok (.aload_n 0, 1) := by decide +kernel
theorem dX0_task_27 : decode cX0_task 27 = .ok (.getfield 19, 3) := by decide +kernel
theorem dX0_task_30 : decode cX0_task 30 = .ok (.iload_n 3, 1) := by decide +kernel
theorem dX0_task_31 : decode cX0_task 31 = .ok (.iload_n 2, 1) := by decide +kernel
theorem dX0_task_32 : decode cX0_task 32 = .ok (.iastore, 1) := by decide +kernel
theorem dX0_task_33 : decode cX0_task 33 = .ok (.aload_n 0, 1) := by decide +kernel
theorem dX0_task_34 : decode cX0_task 34 = .ok (.getfield 22, 3) := by decide +kernel
theorem dX0_task_37 : decode cX0_task 37 = .ok (.iload_n 3, 1) := by decide +kernel
theorem dX0_task_38 : decode cX0_task 38 = .ok (.iconst 0, 1) := by decide +kernel
theorem dX0_task_39 : decode cX0_task 39 = .ok (.iastore, 1) := by decide +kernel
theorem dX0_task_40 : decode cX0_task 40 = .ok (.aload_n 0, 1) := by decide +kernel
theorem dX0_task_41 : decode cX0_task 41 = .ok (.dup, 1) := by decide +kernel
theorem dX0_task_42 : decode cX0_task 42 = .ok (.getfield 80, 3) := by decide +kernel
theorem dX0_task_45 : decode cX0_task 45 = .ok (.iconst 1, 1) := by decide +kernel
theorem dX0_task_46 : decode cX0_task 46 = .ok (.iadd, 1) := by decide +kernel
theorem dX0_task_47 : decode cX0_task 47 = .ok (.putfield 80, 3) := by decide +kernel
theorem dX0_task_50 : decode cX0_task 50 = .ok (.iload_n 3, 1) := by decide +kernel
theorem dX0_task_51 : decode cX0_task 51 = .ok (.ireturn, 1) := by decide +kernel
abbrev cX0_input : ByteArray := prog_1_method_5_code
def yX0_input : MethodName := ⟨RX0, "input", "(II)I"⟩
theorem dX0_input_0 : decode cX0_input 0 = .ok (.aload_n 0, 1) := by decide +kernel
theorem dX0_input_1 : decode cX0_input 1 = .ok (.iload_n 1, 1) := by decide +kernel
theorem dX0_input_2 : decode cX0_input 2 = .ok (.invokevirtual 87, 3) := by decide +kernel
theorem dX0_input_5 : decode cX0_input 5 = .ok (.ifCond .eq 5, 3) := by decide +kernel
theorem dX0_input_8 : decode cX0_input 8 = .ok (.iconst (-1), 1) := by decide +kernel
theorem dX0_input_9 : decode cX0_input 9 = .ok (.ireturn, 1) := by decide +kernel
theorem dX0_input_10 : decode cX0_input 10 = .ok (.iload_n 2, 1) := by decide +kernel
theorem dX0_input_11 : decode cX0_input 11 = .ok (.ifCond .lt 11, 3) := by decide +kernel
theorem dX0_input_14 : decode cX0_input 14 = .ok (.iload_n 2, 1) := by decide +kernel
theorem dX0_input_15 : decode cX0_input 15 = .ok (.bipush 8, 2) := by decide +kernel
theorem dX0_input_17 : decode cX0_input 17 = .ok (.iload_n 1, 1) := by decide +kernel
theorem dX0_input_18 : decode cX0_input 18 = .ok (.iadd, 1) := by decide +kernel
theorem dX0_input_19 : decode cX0_input 19 = .ok (.if_icmp .lt 6, 3) := by decide +kernel
theorem dX0_input_22 : decode cX0_input 22 = .ok (.bipush (-2), 2) := by decide +kernel
theorem dX0_input_24 : decode cX0_input 24 = .ok (.ireturn, 1) := by decide +kernel
theorem dX0_input_25 : decode cX0_input 25 = .ok (.aload_n 0, 1) := by decide +kernel
theorem dX0_input_26 : decode cX0_input 26 = .ok (.getfield 22, 3) := by decide +kernel
theorem dX0_input_29 : decode cX0_input 29 = .ok (.iload_n 1, 1) := by decide +kernel
theorem dX0_input_30 : decode cX0_input 30 = .ok (.iaload, 1) := by decide +kernel
theorem dX0_input_31 : decode cX0_input 31 = .ok (.iconst 3, 1) := by decide +kernel
theorem dX0_input_32 : decode cX0_input 32 = .ok (.if_icmp .lt 6, 3) := by decide +kernel
theorem dX0_input_35 : decode cX0_input 35 = .ok (.bipush (-4), 2) := by decide +kernel
theorem dX0_input_37 : decode cX0_input 37 = .ok (.ireturn, 1) := by decide +kernel
theorem dX0_input_38 : decode cX0_input 38 = .ok (.aload_n 0, 1) := by decide +kernel
theorem dX0_input_39 : decode cX0_input 39 = .ok (.getfield 25, 3) := by decide +kernel
theorem dX0_input_42 : decode cX0_input 42 = .ok (.iload_n 1, 1) := by decide +kernel
theorem dX0_input_43 : decode cX0_input 43 = .ok (.iconst 3, 1) := by decide +kernel
theorem dX0_input_44 : decode cX0_input 44 = .ok (.imul, 1) := by decide +kernel
theorem dX0_input_45 : decode cX0_input 45 = .ok (.aload_n 0, 1) := by decide +kernel
theorem dX0_input_46 : decode cX0_input 46 = .ok (.getfield 22, 3) := by decide +kernel
theorem dX0_input_49 : decode cX0_input 49 = .ok (.iload_n 1, 1) := by decide +kernel
theorem dX0_input_50 : decode cX0_input 50 = .ok (.iaload, 1) := by decide +kernel
theorem dX0_input_51 : decode cX0_input 51 = .ok (.iadd, 1) := by decide +kernel
theorem dX0_input_52 : decode cX0_input 52 = .ok (.iload_n 2, 1) := by decide +kernel
theorem dX0_input_53 : decode cX0_input 53 = .ok (.iastore, 1) := by decide +kernel
theorem dX0_input_54 : decode cX0_input 54 = .ok (.aload_n 0, 1) := by decide +kernel
theorem dX0_input_55 : decode cX0_input 55 = .ok (.getfield 22, 3) := by decide +kernel
theorem dX0_input_58 : decode cX0_input 58 = .ok (.iload_n 1, 1) := by decide +kernel
theorem dX0_input_59 : decode cX0_input 59 = .ok (.dup2, 1) := by decide +kernel
theorem dX0_input_60 : decode cX0_input 60 = .ok (.iaload, 1) := by decide +kernel
theorem dX0_input_61 : decode cX0_input 61 = .ok (.iconst 1, 1) := by decide +kernel
theorem dX0_input_62 : decode cX0_input 62 = .ok (.iadd, 1) := by decide +kernel
theorem dX0_input_63 : decode cX0_input 63 = .ok (.iastore, 1) := by decide +kernel
theorem dX0_input_64 : decode cX0_input 64 = .ok (.aload_n 0, 1) := by decide +kernel
theorem dX0_input_65 : decode cX0_input 65 = .ok (.dup, 1) := by decide +kernel
theorem dX0_input_66 : decode cX0_input 66 = .ok (.getfield 84, 3) := by decide +kernel
theorem dX0_input_69 : decode cX0_input 69 = .ok (.iconst 1, 1) := by decide +kernel
theorem dX0_input_70 : decode cX0_input 70 = .ok (.iadd, 1) := by decide +kernel
theorem dX0_input_71 : decode cX0_input 71 = .ok (.putfield 84, 3) := by decide +kernel
theorem dX0_input_74 : decode cX0_input 74 = .ok (.aload_n 0, 1) := by decide +kernel
theorem dX0_input_75 : decode cX0_input 75 = .ok (.getfield 28, 3) := by decide +kernel
theorem dX0_input_78 : decode cX0_input 78 = .ok (.iload_n 1, 1) := by decide +kernel
theorem dX0_input_79 : decode cX0_input 79 = .ok (.aload_n 0, 1) := by decide +kernel
theorem dX0_input_80 : decode cX0_input 80 = .ok (.getfield 84, 3) := by decide +kernel
theorem dX0_input_83 : decode cX0_input 83 = .ok (.iastore, 1) := by decide +kernel
theorem dX0_input_84 : decode cX0_input 84 = .ok (.aload_n 0, 1) := by decide +kernel
theorem dX0_input_85 : decode cX0_input 85 = .ok (.getfield 22, 3) := by decide +kernel
theorem dX0_input_88 : decode cX0_input 88 = .ok (.iload_n 1, 1) := by decide +kernel
theorem dX0_input_89 : decode cX0_input 89 = .ok (.iaload, 1) := by decide +kernel
theorem dX0_input_90 : decode cX0_input 90 = .ok (.ireturn, 1) := by decide +kernel
abbrev cX0_noTask : ByteArray := prog_1_method_2_code
def yX0_noTask : MethodName := ⟨RX0, "noTask", "(I)Z"⟩
theorem dX0_noTask_0 : decode cX0_noTask 0 = .ok (.iload_n 1, 1) := by decide +kernel
theorem dX0_noTask_1 : decode cX0_noTask 1 = .ok (.ifCond .lt 11, 3) := by decide +kernel
theorem dX0_noTask_4 : decode cX0_noTask 4 = .ok (.iload_n 1, 1) := by decide +kernel
theorem dX0_noTask_5 : decode cX0_noTask 5 = .ok (.aload_n 0, 1) := by decide +kernel
theorem dX0_noTask_6 : decode cX0_noTask 6 = .ok (.getfield 80, 3) := by decide +kernel
theorem dX0_noTask_9 : decode cX0_noTask 9 = .ok (.if_icmp .lt 7, 3) := by decide +kernel
theorem dX0_noTask_12 : decode cX0_noTask 12 = .ok (.iconst 1, 1) := by decide +kernel
theorem dX0_noTask_13 : decode cX0_noTask 13 = .ok (.goto 4, 3) := by decide +kernel
theorem dX0_noTask_16 : decode cX0_noTask 16 = .ok (.iconst 0, 1) := by decide +kernel
theorem dX0_noTask_17 : decode cX0_noTask 17 = .ok (.ireturn, 1) := by decide +kernel
abbrev cX0_constant : ByteArray := prog_1_method_6_code
def yX0_constant : MethodName := ⟨RX0, "constant", "(II)I"⟩
theorem dX0_constant_0 : decode cX0_constant 0 = .ok (.aload_n 0, 1) := by decide +kernel
theorem dX0_constant_1 : decode cX0_constant 1 = .ok (.iload_n 1, 1) := by decide +kernel
theorem dX0_constant_2 : decode cX0_constant 2 = .ok (.invokevirtual 87, 3) := by decide +kernel
theorem dX0_constant_5 : decode cX0_constant 5 = .ok (.ifCond .eq 5, 3) := by decide +kernel
theorem dX0_constant_8 : decode cX0_constant 8 = .ok (.iconst (-1), 1) := by decide +kernel
theorem dX0_constant_9 : decode cX0_constant 9 = .ok (.ireturn, 1) := by decide +kernel
theorem dX0_constant_10 : decode cX0_constant 10 = .ok (.aload_n 0, 1) := by decide +kernel
theorem dX0_constant_11 : decode cX0_constant 11 = .ok (.getfield 19, 3) := by decide +kernel
theorem dX0_constant_14 : decode cX0_constant 14 = .ok (.iload_n 1, 1) := by decide +kernel
theorem dX0_constant_15 : decode cX0_constant 15 = .ok (.iaload, 1) := by decide +kernel
theorem dX0_constant_16 : decode cX0_constant 16 = .ok (.istore_n 3, 1) := by decide +kernel
theorem dX0_constant_17 : decode cX0_constant 17 = .ok (.aload_n 0, 1) := by decide +kernel
theorem dX0_constant_18 : decode cX0_constant 18 = .ok (.getfield 19, 3) := by decide +kernel
theorem dX0_constant_21 : decode cX0_constant 21 = .ok (.iload_n 1, 1) := by decide +kernel
theorem dX0_constant_22 : decode cX0_constant 22 = .ok (.iload_n 2, 1) := by decide +kernel
theorem dX0_constant_23 : decode cX0_constant 23 = .ok (.iastore, 1) := by decide +kernel
theorem dX0_constant_24 : decode cX0_constant 24 = .ok (.aload_n 0, 1) := by decide +kernel
theorem dX0_constant_25 : decode cX0_constant 25 = .ok (.dup, 1) := by decide +kernel
theorem dX0_constant_26 : decode cX0_constant 26 = .ok (.getfield 84, 3) := by decide +kernel
theorem dX0_constant_29 : decode cX0_constant 29 = .ok (.iconst 1, 1) := by decide +kernel
theorem dX0_constant_30 : decode cX0_constant 30 = .ok (.iadd, 1) := by decide +kernel
theorem dX0_constant_31 : decode cX0_constant 31 = .ok (.putfield 84, 3) := by decide +kernel
theorem dX0_constant_34 : decode cX0_constant 34 = .ok (.aload_n 0, 1) := by decide +kernel
theorem dX0_constant_35 : decode cX0_constant 35 = .ok (.getfield 28, 3) := by decide +kernel
theorem dX0_constant_38 : decode cX0_constant 38 = .ok (.iload_n 1, 1) := by decide +kernel
theorem dX0_constant_39 : decode cX0_constant 39 = .ok (.aload_n 0, 1) := by decide +kernel
theorem dX0_constant_40 : decode cX0_constant 40 = .ok (.getfield 84, 3) := by decide +kernel
theorem dX0_constant_43 : decode cX0_constant 43 = .ok (.iastore, 1) := by decide +kernel
theorem dX0_constant_44 : decode cX0_constant 44 = .ok (.iload_n 3, 1) := by decide +kernel
theorem dX0_constant_45 : decode cX0_constant 45 = .ok (.ireturn, 1) := by decide +kernel
abbrev cX0_build : ByteArray := prog_1_method_19_code
def yX0_build : MethodName := ⟨RX0, "build", "(I)I"⟩
theorem dX0_build_0 : decode cX0_build 0 = .ok (.aload_n 0, 1) := by decide +kernel
theorem dX0_build_1 : decode cX0_build 1 = .ok (.iload_n 1, 1) := by decide +kernel
theorem dX0_build_2 : decode cX0_build 2 = .ok (.invokevirtual 87, 3) := by decide +kernel
theorem dX0_build_5 : decode cX0_build 5 = .ok (.ifCond .eq 5, 3) := by decide +kernel
theorem dX0_build_8 : decode cX0_build 8 = .ok (.iconst (-1), 1) := by decide +kernel
theorem dX0_build_9 : decode cX0_build 9 = .ok (.ireturn, 1) := by decide +kernel
theorem dX0_build_10 : decode cX0_build 10 = .ok (.aload_n 0, 1) := by decide +kernel
theorem dX0_build_11 : decode cX0_build 11 = .ok (.getfield 128, 3) := by decide +kernel
theorem dX0_build_14 : decode cX0_build 14 = .ok (.bipush 40, 2) := by decide +kernel
theorem dX0_build_16 : decode cX0_build 16 = .ok (.if_icmp .lt 6, 3) := by decide +kernel
theorem dX0_build_19 : decode cX0_build 19 = .ok (.bipush (-4), 2) := by decide +kernel
theorem dX0_build_21 : decode cX0_build 21 = .ok (.ireturn, 1) := by decide +kernel
theorem dX0_build_22 : decode cX0_build 22 = .ok (.aload_n 0, 1) := by decide +kernel
theorem dX0_build_23 : decode cX0_build 23 = .ok (.dup, 1) := by decide +kernel
theorem dX0_build_24 : decode cX0_build 24 = .ok (.getfield 128, 3) := by decide +kernel
theorem dX0_build_27 : decode cX0_build 27 = .ok (.iconst 1, 1) := by decide +kernel
theorem dX0_build_28 : decode cX0_build 28 = .ok (.iadd, 1) := by decide +kernel
theorem dX0_build_29 : decode cX0_build 29 = .ok (.putfield 128, 3) := by decide +kernel
theorem dX0_build_32 : decode cX0_build 32 = .ok (.aload_n 0, 1) := by decide +kernel
theorem dX0_build_33 : decode cX0_build 33 = .ok (.dup, 1) := by decide +kernel
theorem dX0_build_34 : decode cX0_build 34 = .ok (.getfield 84, 3) := by decide +kernel
theorem dX0_build_37 : decode cX0_build 37 = .ok (.iconst 1, 1) := by decide +kernel
theorem dX0_build_38 : decode cX0_build 38 = .ok (.iadd, 1) := by decide +kernel
theorem dX0_build_39 : decode cX0_build 39 = .ok (.putfield 84, 3) := by decide +kernel
theorem dX0_build_42 : decode cX0_build 42 = .ok (.aload_n 0, 1) := by decide +kernel
theorem dX0_build_43 : decode cX0_build 43 = .ok (.iload_n 1, 1) := by decide +kernel
theorem dX0_build_44 : decode cX0_build 44 = .ok (.invokevirtual 131, 3) := by decide +kernel
theorem dX0_build_47 : decode cX0_build 47 = .ok (.istore_n 2, 1) := by decide +kernel
theorem dX0_build_48 : decode cX0_build 48 = .ok (.iconst 0, 1) := by decide +kernel
theorem dX0_build_49 : decode cX0_build 49 = .ok (.istore_n 3, 1) := by decide +kernel
theorem dX0_build_50 : decode cX0_build 50 = .ok (.iconst 0, 1) := by decide +kernel
theorem dX0_build_51 : decode cX0_build 51 = .ok (.istore 4, 2) := by decide +kernel
theorem dX0_build_53 : decode cX0_build 53 = .ok (.iload 4, 2) := by decide +kernel
theorem dX0_build_55 : decode cX0_build 55 = .ok (.bipush 12, 2) := by decide +kernel
theorem dX0_build_57 : decode cX0_build 57 = .ok (.if_icmp .ge 50, 3) := by decide +kernel
theorem dX0_build_60 : decode cX0_build 60 = .ok (.aload_n 0, 1) := by decide +kernel
theorem dX0_build_61 : decode cX0_build 61 = .ok (.getfield 74, 3) := by decide +kernel
theorem dX0_build_64 : decode cX0_build 64 = .ok (.iload 4, 2) := by decide +kernel
theorem dX0_build_66 : decode cX0_build 66 = .ok (.iload_n 2, 1) := by decide +kernel
theorem dX0_build_67 : decode cX0_build 67 = .ok (.iload 4, 2) := by decide +kernel
theorem dX0_build_69 : decode cX0_build 69 = .ok (.ishr, 1) := by decide +kernel
theorem dX0_build_70 : decode cX0_build 70 = .ok (.iconst 1, 1) := by decide +kernel
theorem dX0_build_71 : decode cX0_build 71 = .ok (.iand, 1) := by decide +kernel
theorem dX0_build_72 : decode cX0_build 72 = .ok (.iconst 1, 1) := by decide +kernel
theorem dX0_build_73 : decode cX0_build 73 = .ok (.if_icmp .ne 12, 3) := by decide +kernel
theorem dX0_build_76 : decode cX0_build 76 = .ok (.aload_n 0, 1) := by decide +kernel
theorem dX0_build_77 : decode cX0_build 77 = .ok (.iload 4, 2) := by decide +kernel
theorem dX0_build_79 : decode cX0_build 79 = .ok (.invokevirtual 134, 3) := by decide +kernel
theorem dX0_build_82 : decode cX0_build 82 = .ok (.goto 4, 3) := by decide +kernel
theorem dX0_build_85 : decode cX0_build 85 = .ok (.iconst 0, 1) := by decide +kernel
theorem dX0_build_86 : decode cX0_build 86 = .ok (.iastore, 1) := by decide +kernel
theorem dX0_build_87 : decode cX0_build 87 = .ok (.aload_n 0, 1) := by decide +kernel
theorem dX0_build_88 : decode cX0_build 88 = .ok (.getfield 74, 3) := by decide +kernel
theorem dX0_build_91 : decode cX0_build 91 = .ok (.iload 4, 2) := by decide +kernel
theorem dX0_build_93 : decode cX0_build 93 = .ok (.iaload, 1) := by decide +kernel
theorem dX0_build_94 : decode cX0_build 94 = .ok (.iconst 3, 1) := by decide +kernel
theorem dX0_build_95 : decode cX0_build 95 = .ok (.if_icmp .ne 6, 3) := by decide +kernel
theorem dX0_build_98 : decode cX0_build 98 = .ok (.iinc 3 1, 3) := by decide +kernel
theorem dX0_build_101 : decode cX0_build 101 = .ok (.iinc 4 1, 3) := by decide +kernel
theorem dX0_build_104 : decode cX0_build 104 = .ok (.goto (-51), 3) := by decide +kernel
theorem dX0_build_107 : decode cX0_build 107 = .ok (.aload_n 0, 1) := by decide +kernel
theorem dX0_build_108 : decode cX0_build 108 = .ok (.dup, 1) := by decide +kernel
theorem dX0_build_109 : decode cX0_build 109 = .ok (.getfield 137, 3) := by decide +kernel
theorem dX0_build_112 : decode cX0_build 112 = .ok (.iload_n 3, 1) := by decide +kernel
theorem dX0_build_113 : decode cX0_build 113 = .ok (.iadd, 1) := by decide +kernel
theorem dX0_build_114 : decode cX0_build 114 = .ok (.putfield 137, 3) := by decide +kernel
theorem dX0_build_117 : decode cX0_build 117 = .ok (.iload_n 3, 1) := by decide +kernel
theorem dX0_build_118 : decode cX0_build 118 = .ok (.ireturn, 1) := by decide +kernel
abbrev cX0_neededSet : ByteArray := prog_1_method_15_code
def yX0_neededSet : MethodName := ⟨RX0, "neededSet", "(I)I"⟩
theorem dX0_neededSet_0 : decode cX0_neededSet 0 = .ok (.iconst 1, 1) := by decide +kernel
theorem dX0_neededSet_1 : decode cX0_neededSet 1 = .ok (.iload_n 1, 1) := by decide +kernel
theorem dX0_neededSet_2 : decode cX0_neededSet 2 = .ok (.ishl, 1) := by decide +kernel
theorem dX0_neededSet_3 : decode cX0_neededSet 3 = .ok (.istore_n 2, 1) := by decide +kernel
theorem dX0_neededSet_4 : decode cX0_neededSet 4 = .ok (.iload_n 1, 1) := by decide +kernel
theorem dX0_neededSet_5 : decode cX0_neededSet 5 = .ok (.istore_n 3, 1) := by decide +kernel
theorem dX0_neededSet_6 : decode cX0_neededSet 6 = .ok (.iload_n 3, 1) := by decide +kernel
theorem dX0_neededSet_7 : decode cX0_neededSet 7 = .ok (.ifCond .lt 26, 3) := by decide +kernel
theorem dX0_neededSet_10 : decode cX0_neededSet 10 = .ok (.iload_n 2, 1) := by decide +kernel
theorem dX0_neededSet_11 : decode cX0_neededSet 11 = .ok (.iload_n 3, 1) := by decide +kernel
theorem dX0_neededSet_12 : decode cX0_neededSet 12 = .ok (.ishr, 1) := by decide +kernel
theorem dX0_neededSet_13 : decode cX0_neededSet 13 = .ok (.iconst 1, 1) := by decide +kernel
theorem dX0_neededSet_14 : decode cX0_neededSet 14 = .ok (.iand, 1) := by decide +kernel
theorem dX0_neededSet_15 : decode cX0_neededSet 15 = .ok (.iconst 1, 1) := by decide +kernel
theorem dX0_neededSet_16 : decode cX0_neededSet 16 = .ok (.if_icmp .ne 11, 3) := by decide +kernel
theorem dX0_neededSet_19 : decode cX0_neededSet 19 = .ok (.iload_n 2, 1) := by decide +kernel
theorem dX0_neededSet_20 : decode cX0_neededSet 20 = .ok (.aload_n 0, 1) := by decide +kernel
theorem dX0_neededSet_21 : decode cX0_neededSet 21 = .ok (.iload_n 3, 1) := by decide +kernel
theorem dX0_neededSet_22 : decode cX0_neededSet 22 = .ok (.invokevirtual 102, 3) := by decide +kernel
theorem dX0_neededSet_25 : decode cX0_neededSet 25 = .ok (.ior, 1) := by decide +kernel
theorem dX0_neededSet_26 : decode cX0_neededSet 26 = .ok (.istore_n 2, 1) := by decide +kernel
theorem dX0_neededSet_27 : decode cX0_neededSet 27 = .ok (.iinc 3 (-1), 3) := by decide +kernel
theorem dX0_neededSet_30 : decode cX0_neededSet 30 = .ok (.goto (-24), 3) := by decide +kernel
theorem dX0_neededSet_33 : decode cX0_neededSet 33 = .ok (.iload_n 2, 1) := by decide +kernel
theorem dX0_neededSet_34 : decode cX0_neededSet 34 = .ok (.ireturn, 1) := by decide +kernel
abbrev cX0_inputTasks : ByteArray := prog_1_method_16_code
def yX0_inputTasks : MethodName := ⟨RX0, "inputTasks", "(I)I"⟩
theorem dX0_inputTasks_0 : decode cX0_inputTasks 0 = .ok (.iconst 0, 1) := by decide +kernel
theorem dX0_inputTasks_1 : decode cX0_inputTasks 1 = .ok (.istore_n 2, 1) := by decide +kernel
theorem dX0_inputTasks_2 : decode cX0_inputTasks 2 = .ok (.iconst 0, 1) := by decide +kernel
theorem dX0_inputTasks_3 : decode cX0_inputTasks 3 = .ok (.istore_n 3, 1) := by decide +kernel
theorem dX0_inputTasks_4 : decode cX0_inputTasks 4 = .ok (.iload_n 3, 1) := by decide +kernel
theorem dX0_inputTasks_5 : decode cX0_inputTasks 5 = .ok (.aload_n 0, 1) := by decide +kernel
theorem dX0_inputTasks_6 : decode cX0_inputTasks 6 = .ok (.getfield 22, 3) := by decide +kernel
theorem dX0_inputTasks_9 : decode cX0_inputTasks 9 = .ok (.iload_n 1, 1) := by decide +kernel
theorem dX0_inputTasks_10 : decode cX0_inputTasks 10 = .ok (.iaload, 1) := by decide +kernel
theorem dX0_inputTasks_11 : decode cX0_inputTasks 11 = .ok (.if_icmp .ge 38, 3) := by decide +kernel
theorem dX0_inputTasks_14 : decode cX0_inputTasks 14 = .ok (.aload_n 0, 1) := by decide +kernel
theorem dX0_inputTasks_15 : decode cX0_inputTasks 15 = .ok (.getfield 25, 3) := by decide +kernel
theorem dX0_inputTasks_18 : decode cX0_inputTasks 18 = .ok (.iload_n 1, 1) := by decide +kernel
theorem dX0_inputTasks_19 : decode cX0_inputTasks 19 = .ok (.iconst 3, 1) := by decide +kernel
theorem dX0_inputTasks_20 : decode cX0_inputTasks 20 = .ok (.imul, 1) := by decide +kernel
theorem dX0_inputTasks_21 : decode cX0_inputTasks 21 = .ok (.iload_n 3, 1) := by decide +kernel
theorem dX0_inputTasks_22 : decode cX0_inputTasks 22 = .ok (.iadd, 1) := by decide +kernel
theorem dX0_inputTasks_23 : decode cX0_inputTasks 23 = .ok (.iaload, 1) := by decide +kernel
theorem dX0_inputTasks_24 : decode cX0_inputTasks 24 = .ok (.istore 4, 2) := by decide +kernel
theorem dX0_inputTasks_26 : decode cX0_inputTasks 26 = .ok (.iload 4, 2) := by decide +kernel
theorem dX0_inputTasks_28 : decode cX0_inputTasks 28 = .ok (.bipush 8, 2) := by decide +kernel
theorem dX0_inputTasks_30 : decode cX0_inputTasks 30 = .ok (.if_icmp .lt 13, 3) := by decide +kernel
theorem dX0_inputTasks_33 : decode cX0_inputTasks 33 = .ok (.iload_n 2, 1) := by decide +kernel
theorem dX0_inputTasks_34 : decode cX0_inputTasks 34 = .ok (.iconst 1, 1) := by decide +kernel
theorem dX0_inputTasks_35 : decode cX0_inputTasks 35 = .ok (.iload 4, 2) := by decide +kernel
theorem dX0_inputTasks_37 : decode cX0_inputTasks 37 = .ok (.bipush 8, 2) := by decide +kernel
theorem dX0_inputTasks_39 : decode cX0_inputTasks 39 = .ok (.isub, 1) := by decide +kernel
theorem dX0_inputTasks_40 : decode cX0_inputTasks 40 = .ok (.ishl, 1) := by decide +kernel
theorem dX0_inputTasks_41 : decode cX0_inputTasks 41 = .ok (.ior, 1) := by decide +kernel
theorem dX0_inputTasks_42 : decode cX0_inputTasks 42 = .ok (.istore_n 2, 1) := by decide +kernel
theorem dX0_inputTasks_43 : decode cX0_inputTasks 43 = .ok (.iinc 3 1, 3) := by decide +kernel
theorem dX0_inputTasks_46 : decode cX0_inputTasks 46 = .ok (.goto (-42), 3) := by decide +kernel
theorem dX0_inputTasks_49 : decode cX0_inputTasks 49 = .ok (.iload_n 2, 1) := by decide +kernel
theorem dX0_inputTasks_50 : decode cX0_inputTasks 50 = .ok (.ireturn, 1) := by decide +kernel
end
section
set_option maxRecDepth 100000
abbrev cX0_handle : ByteArray := prog_1_method_18_code
def yX0_handle : MethodName := ⟨RX0, "handle", "(I)I"⟩
theorem dX0_handle_0 : decode cX0_handle 0 = .ok (.aload_n 0, 1) := by decide +kernel
theorem dX0_handle_1 : decode cX0_handle 1 = .ok (.iload_n 1, 1) := by decide +kernel
theorem dX0_handle_2 : decode cX0_handle 2 = .ok (.invokevirtual 105, 3) := by decide +kernel
theorem dX0_handle_5 : decode cX0_handle 5 = .ok (.istore_n 2, 1) := by decide +kernel
theorem dX0_handle_6 : decode cX0_handle 6 = .ok (.iload_n 2, 1) := by decide +kernel
theorem dX0_handle_7 : decode cX0_handle 7 = .ok (.ifCond .ne 15, 3) := by decide +kernel
theorem dX0_handle_10 : decode cX0_handle 10 = .ok (.aload_n 0, 1) := by decide +kernel
theorem dX0_handle_11 : decode cX0_handle 11 = .ok (.iload_n 1, 1) := by decide +kernel
theorem dX0_handle_12 : decode cX0_handle 12 = .ok (.iconst 0, 1) := by decide +kernel
theorem dX0_handle_13 : decode cX0_handle 13 = .ok (.invokevirtual 108, 3) := by decide +kernel
theorem dX0_handle_16 : decode cX0_handle 16 = .ok (.aload_n 0, 1) := by decide +kernel
theorem dX0_handle_17 : decode cX0_handle 17 = .ok (.iload_n 1, 1) := by decide +kernel
theorem dX0_handle_18 : decode cX0_handle 18 = .ok (.invokevirtual 112, 3) := by decide +kernel
theorem dX0_handle_21 : decode cX0_handle 21 = .ok (.istore_n 2, 1) := by decide +kernel
theorem dX0_handle_22 : decode cX0_handle 22 = .ok (.aload_n 0, 1) := by decide +kernel
theorem dX0_handle_23 : decode cX0_handle 23 = .ok (.getfield 44, 3) := by decide +kernel
theorem dX0_handle_26 : decode cX0_handle 26 = .ok (.iload_n 1, 1) := by decide +kernel
theorem dX0_handle_27 : decode cX0_handle 27 = .ok (.aload_n 0, 1) := by decide +kernel
theorem dX0_handle_28 : decode cX0_handle 28 = .ok (.getfield 84, 3) := by decide +kernel
theorem dX0_handle_31 : decode cX0_handle 31 = .ok (.iastore, 1) := by decide +kernel
theorem dX0_handle_32 : decode cX0_handle 32 = .ok (.iload_n 2, 1) := by decide +kernel
theorem dX0_handle_33 : decode cX0_handle 33 = .ok (.ifCond .eq 5, 3) := by decide +kernel
theorem dX0_handle_36 : decode cX0_handle 36 = .ok (.iconst 1, 1) := by decide +kernel
theorem dX0_handle_37 : decode cX0_handle 37 = .ok (.ireturn, 1) := by decide +kernel
theorem dX0_handle_38 : decode cX0_handle 38 = .ok (.aload_n 0, 1) := by decide +kernel
theorem dX0_handle_39 : decode cX0_handle 39 = .ok (.iload_n 1, 1) := by decide +kernel
theorem dX0_handle_40 : decode cX0_handle 40 = .ok (.invokevirtual 115, 3) := by decide +kernel
theorem dX0_handle_43 : decode cX0_handle 43 = .ok (.istore_n 3, 1) := by decide +kernel
theorem dX0_handle_44 : decode cX0_handle 44 = .ok (.iload_n 3, 1) := by decide +kernel
theorem dX0_handle_45 : decode cX0_handle 45 = .ok (.ifCond .ne 8, 3) := by decide +kernel
theorem dX0_handle_48 : decode cX0_handle 48 = .ok (.aload_n 0, 1) := by decide +kernel
theorem dX0_handle_49 : decode cX0_handle 49 = .ok (.iload_n 1, 1) := by decide +kernel
theorem dX0_handle_50 : decode cX0_handle 50 = .ok (.invokevirtual 118, 3) := by decide +kernel
theorem dX0_handle_53 : decode cX0_handle 53 = .ok (.aload_n 0, 1) := by decide +kernel
theorem dX0_handle_54 : decode cX0_handle 54 = .ok (.iload_n 1, 1) := by decide +kernel
theorem dX0_handle_55 : decode cX0_handle 55 = .ok (.invokevirtual 122, 3) := by decide +kernel
theorem dX0_handle_58 : decode cX0_handle 58 = .ok (.aload_n 0, 1) := by decide +kernel
theorem dX0_handle_59 : decode cX0_handle 59 = .ok (.iload_n 1, 1) := by decide +kernel
theorem dX0_handle_60 : decode cX0_handle 60 = .ok (.invokevirtual 125, 3) := by decide +kernel
theorem dX0_handle_63 : decode cX0_handle 63 = .ok (.istore 4, 2) := by decide +kernel
theorem dX0_handle_65 : decode cX0_handle 65 = .ok (.iload 4, 2) := by decide +kernel
theorem dX0_handle_67 : decode cX0_handle 67 = .ok (.aload_n 0, 1) := by decide +kernel
theorem dX0_handle_68 : decode cX0_handle 68 = .ok (.getfield 47, 3) := by decide +kernel
theorem dX0_handle_71 : decode cX0_handle 71 = .ok (.iload_n 1, 1) := by decide +kernel
theorem dX0_handle_72 : decode cX0_handle 72 = .ok (.iaload, 1) := by decide +kernel
theorem dX0_handle_73 : decode cX0_handle 73 = .ok (.if_icmp .eq 13, 3) := by decide +kernel
theorem dX0_handle_76 : decode cX0_handle 76 = .ok (.aload_n 0, 1) := by decide +kernel
theorem dX0_handle_77 : decode cX0_handle 77 = .ok (.getfield 50, 3) := by decide +kernel
theorem dX0_handle_80 : decode cX0_handle 80 = .ok (.iload_n 1, 1) := by decide +kernel
theorem dX0_handle_81 : decode cX0_handle 81 = .ok (.aload_n 0, 1) := by decide +kernel
theorem dX0_handle_82 : decode cX0_handle 82 = .ok (.getfield 84, 3) := by decide +kernel
theorem dX0_handle_85 : decode cX0_handle 85 = .ok (.iastore, 1) := by decide +kernel
theorem dX0_handle_86 : decode cX0_handle 86 = .ok (.aload_n 0, 1) := by decide +kernel
theorem dX0_handle_87 : decode cX0_handle 87 = .ok (.getfield 47, 3) := by decide +kernel
theorem dX0_handle_90 : decode cX0_handle 90 = .ok (.iload_n 1, 1) := by decide +kernel
theorem dX0_handle_91 : decode cX0_handle 91 = .ok (.iload 4, 2) := by decide +kernel
theorem dX0_handle_93 : decode cX0_handle 93 = .ok (.iastore, 1) := by decide +kernel
theorem dX0_handle_94 : decode cX0_handle 94 = .ok (.iload_n 3, 1) := by decide +kernel
theorem dX0_handle_95 : decode cX0_handle 95 = .ok (.ifCond .eq 7, 3) := by decide +kernel
theorem dX0_handle_98 : decode cX0_handle 98 = .ok (.iconst 2, 1) := by decide +kernel
theorem dX0_handle_99 : decode cX0_handle 99 = .ok (.goto 4, 3) := by decide +kernel
theorem dX0_handle_102 : decode cX0_handle 102 = .ok (.iconst 3, 1) := by decide +kernel
theorem dX0_handle_103 : decode cX0_handle 103 = .ok (.ireturn, 1) := by decide +kernel
abbrev cX0_untouched : ByteArray := prog_1_method_17_code
def yX0_untouched : MethodName := ⟨RX0, "untouched", "(I)Z"⟩
theorem dX0_untouched_0 : decode cX0_untouched 0 = .ok (.aload_n 0, 1) := by decide +kernel
theorem dX0_untouched_1 : decode cX0_untouched 1 = .ok (.getfield 31, 3) := by decide +kernel
theorem dX0_untouched_4 : decode cX0_untouched 4 = .ok (.iload_n 1, 1) := by decide +kernel
theorem dX0_untouched_5 : decode cX0_untouched 5 = .ok (.baload, 1) := by decide +kernel
theorem dX0_untouched_6 : decode cX0_untouched 6 = .ok (.ifCond .eq 18, 3) := by decide +kernel
theorem dX0_untouched_9 : decode cX0_untouched 9 = .ok (.aload_n 0, 1) := by decide +kernel
theorem dX0_untouched_10 : decode cX0_untouched 10 = .ok (.getfield 28, 3) := by decide +kernel
theorem dX0_untouched_13 : decode cX0_untouched 13 = .ok (.iload_n 1, 1) := by decide +kernel
theorem dX0_untouched_14 : decode cX0_untouched 14 = .ok (.iaload, 1) := by decide +kernel
theorem dX0_untouched_15 : decode cX0_untouched 15 = .ok (.aload_n 0, 1) := by decide +kernel
theorem dX0_untouched_16 : decode cX0_untouched 16 = .ok (.getfield 44, 3) := by decide +kernel
theorem dX0_untouched_19 : decode cX0_untouched 19 = .ok (.iload_n 1, 1) := by decide +kernel
theorem dX0_untouched_20 : decode cX0_untouched 20 = .ok (.iaload, 1) := by decide +kernel
theorem dX0_untouched_21 : decode cX0_untouched 21 = .ok (.if_icmp .le 5, 3) := by decide +kernel
theorem dX0_untouched_24 : decode cX0_untouched 24 = .ok (.iconst 0, 1) := by decide +kernel
theorem dX0_untouched_25 : decode cX0_untouched 25 = .ok (.ireturn, 1) := by decide +kernel
theorem dX0_untouched_26 : decode cX0_untouched 26 = .ok (.iconst 0, 1) := by decide +kernel
theorem dX0_untouched_27 : decode cX0_untouched 27 = .ok (.istore_n 2, 1) := by decide +kernel
theorem dX0_untouched_28 : decode cX0_untouched 28 = .ok (.iload_n 2, 1) := by decide +kernel
theorem dX0_untouched_29 : decode cX0_untouched 29 = .ok (.aload_n 0, 1) := by decide +kernel
theorem dX0_untouched_30 : decode cX0_untouched 30 = .ok (.getfield 22, 3) := by decide +kernel
theorem dX0_untouched_33 : decode cX0_untouched 33 = .ok (.iload_n 1, 1) := by decide +kernel
theorem dX0_untouched_34 : decode cX0_untouched 34 = .ok (.iaload, 1) := by decide +kernel
theorem dX0_untouched_35 : decode cX0_untouched 35 = .ok (.if_icmp .ge 59, 3) := by decide +kernel
theorem dX0_untouched_38 : decode cX0_untouched 38 = .ok (.aload_n 0, 1) := by decide +kernel
theorem dX0_untouched_39 : decode cX0_untouched 39 = .ok (.getfield 25, 3) := by decide +kernel
theorem dX0_untouched_42 : decode cX0_untouched 42 = .ok (.iload_n 1, 1) := by decide +kernel
theorem dX0_untouched_43 : decode cX0_untouched 43 = .ok (.iconst 3, 1) := by decide +kernel
theorem dX0_untouched_44 : decode cX0_untouched 44 = .ok (.imul, 1) := by decide +kernel
theorem dX0_untouched_45 : decode cX0_untouched 45 = .ok (.iload_n 2, 1) := by decide +kernel
theorem dX0_untouched_46 : decode cX0_untouched 46 = .ok (.iadd, 1) := by decide +kernel
theorem dX0_untouched_47 : decode cX0_untouched 47 = .ok (.iaload, 1) := by decide +kernel
theorem dX0_untouched_48 : decode cX0_untouched 48 = .ok (.istore_n 3, 1) := by decide +kernel
theorem dX0_untouched_49 : decode cX0_untouched 49 = .ok (.iload_n 3, 1) := by decide +kernel
theorem dX0_untouched_50 : decode cX0_untouched 50 = .ok (.bipush 8, 2) := by decide +kernel
theorem dX0_untouched_52 : decode cX0_untouched 52 = .ok (.if_icmp .ge 12, 3) := by decide +kernel
theorem dX0_untouched_55 : decode cX0_untouched 55 = .ok (.aload_n 0, 1) := by decide +kernel
theorem dX0_untouched_56 : decode cX0_untouched 56 = .ok (.getfield 13, 3) := by decide +kernel
theorem dX0_untouched_59 : decode cX0_untouched 59 = .ok (.iload_n 3, 1) := by decide +kernel
theorem dX0_untouched_60 : decode cX0_untouched 60 = .ok (.iaload, 1) := by decide +kernel
theorem dX0_untouched_61 : decode cX0_untouched 61 = .ok (.goto 12, 3) := by decide +kernel
theorem dX0_untouched_64 : decode cX0_untouched 64 = .ok (.aload_n 0, 1) := by decide +kernel
theorem dX0_untouched_65 : decode cX0_untouched 65 = .ok (.getfield 50, 3) := by decide +kernel
theorem dX0_untouched_68 : decode cX0_untouched 68 = .ok (.iload_n 3, 1) := by decide +kernel
theorem dX0_untouched_69 : decode cX0_untouched 69 = .ok (.bipush 8, 2) := by decide +kernel
theorem dX0_untouched_71 : decode cX0_untouched 71 = .ok (.isub, 1) := by decide +kernel
theorem dX0_untouched_72 : decode cX0_untouched 72 = .ok (.iaload, 1) := by decide +kernel
theorem dX0_untouched_73 : decode cX0_untouched 73 = .ok (.istore 4, 2) := by decide +kernel
theorem dX0_untouched_75 : decode cX0_untouched 75 = .ok (.iload 4, 2) := by decide +kernel
theorem dX0_untouched_77 : decode cX0_untouched 77 = .ok (.aload_n 0, 1) := by decide +kernel
theorem dX0_untouched_78 : decode cX0_untouched 78 = .ok (.getfield 44, 3) := by decide +kernel
theorem dX0_untouched_81 : decode cX0_untouched 81 = .ok (.iload_n 1, 1) := by decide +kernel
theorem dX0_untouched_82 : decode cX0_untouched 82 = .ok (.iaload, 1) := by decide +kernel
theorem dX0_untouched_83 : decode cX0_untouched 83 = .ok (.if_icmp .le 5, 3) := by decide +kernel
theorem dX0_untouched_86 : decode cX0_untouched 86 = .ok (.iconst 0, 1) := by decide +kernel
theorem dX0_untouched_87 : decode cX0_untouched 87 = .ok (.ireturn, 1) := by decide +kernel
theorem dX0_untouched_88 : decode cX0_untouched 88 = .ok (.iinc 2 1, 3) := by decide +kernel
theorem dX0_untouched_91 : decode cX0_untouched 91 = .ok (.goto (-63), 3) := by decide +kernel
theorem dX0_untouched_94 : decode cX0_untouched 94 = .ok (.iconst 1, 1) := by decide +kernel
theorem dX0_untouched_95 : decode cX0_untouched 95 = .ok (.ireturn, 1) := by decide +kernel
abbrev cX0_loadRecord : ByteArray := prog_1_method_7_code
def yX0_loadRecord : MethodName := ⟨RX0, "loadRecord", "(IZ)V"⟩
theorem dX0_loadRecord_0 : decode cX0_loadRecord 0 = .ok (.iconst 0, 1) := by decide +kernel
theorem dX0_loadRecord_1 : decode cX0_loadRecord 1 = .ok (.istore_n 3, 1) := by decide +kernel
theorem dX0_loadRecord_2 : decode cX0_loadRecord 2 = .ok (.iload_n 3, 1) := by decide +kernel
theorem dX0_loadRecord_3 : decode cX0_loadRecord 3 = .ok (.aload_n 0, 1) := by decide +kernel
theorem dX0_loadRecord_4 : decode cX0_loadRecord 4 = .ok (.getfield 22, 3) := by decide +kernel
theorem dX0_loadRecord_7 : decode cX0_loadRecord 7 = .ok (.iload_n 1, 1) := by decide +kernel
theorem dX0_loadRecord_8 : decode cX0_loadRecord 8 = .ok (.iaload, 1) := by decide +kernel
theorem dX0_loadRecord_9 : decode cX0_loadRecord 9 = .ok (.if_icmp .ge 77, 3) := by decide +kernel
theorem dX0_loadRecord_12 : decode cX0_loadRecord 12 = .ok (.aload_n 0, 1) := by decide +kernel
theorem dX0_loadRecord_13 : decode cX0_loadRecord 13 = .ok (.getfield 25, 3) := by decide +kernel
theorem dX0_loadRecord_16 : decode cX0_loadRecord 16 = .ok (.iload_n 1, 1) := by decide +kernel
theorem dX0_loadRecord_17 : decode cX0_loadRecord 17 = .ok (.iconst 3, 1) := by decide +kernel
theorem dX0_loadRecord_18 : decode cX0_loadRecord 18 = .ok (.imul, 1) := by decide +kernel
theorem dX0_loadRecord_19 : decode cX0_loadRecord 19 = .ok (.iload_n 3, 1) := by decide +kernel
theorem dX0_loadRecord_20 : decode cX0_loadRecord 20 = .ok (.iadd, 1) := by decide +kernel
theorem dX0_loadRecord_21 : decode cX0_loadRecord 21 = .ok (.iaload, 1) := by decide +kernel
theorem dX0_loadRecord_22 : decode cX0_loadRecord 22 = .ok (.istore 4, 2) := by decide +kernel
theorem dX0_loadRecord_24 : decode cX0_loadRecord 24 = .ok (.iload 4, 2) := by decide +kernel
theorem dX0_loadRecord_26 : decode cX0_loadRecord 26 = .ok (.bipush 8, 2) := by decide +kernel
theorem dX0_loadRecord_28 : decode cX0_loadRecord 28 = .ok (.if_icmp .ge 19, 3) := by decide +kernel
theorem dX0_loadRecord_31 : decode cX0_loadRecord 31 = .ok (.aload_n 0, 1) := by decide +kernel
theorem dX0_loadRecord_32 : decode cX0_loadRecord 32 = .ok (.getfield 71, 3) := by decide +kernel
theorem dX0_loadRecord_35 : decode cX0_loadRecord 35 = .ok (.iload_n 3, 1) := by decide +kernel
theorem dX0_loadRecord_36 : decode cX0_loadRecord 36 = .ok (.aload_n 0, 1) := by decide +kernel
theorem dX0_loadRecord_37 : decode cX0_loadRecord 37 = .ok (.getfield 7, 3) := by decide +kernel
theorem dX0_loadRecord_40 : decode cX0_loadRecord 40 = .ok (.iload 4, 2) := by decide +kernel
theorem dX0_loadRecord_42 : decode cX0_loadRecord 42 = .ok (.iaload, 1) := by decide +kernel
theorem dX0_loadRecord_43 : decode cX0_loadRecord 43 = .ok (.iastore, 1) := by decide +kernel
theorem dX0_loadRecord_44 : decode cX0_loadRecord 44 = .ok (.goto 36, 3) := by decide +kernel
theorem dX0_loadRecord_47 : decode cX0_loadRecord 47 = .ok (.aload_n 0, 1) := by decide +kernel
theorem dX0_loadRecord_48 : decode cX0_loadRecord 48 = .ok (.getfield 71, 3) := by decide +kernel
theorem dX0_loadRecord_51 : decode cX0_loadRecord 51 = .ok (.iload_n 3, 1) := by decide +kernel
theorem dX0_loadRecord_52 : decode cX0_loadRecord 52 = .ok (.iload_n 2, 1) := by decide +kernel
theorem dX0_loadRecord_53 : decode cX0_loadRecord 53 = .ok (.ifCond .eq 16, 3) := by decide +kernel
theorem dX0_loadRecord_56 : decode cX0_loadRecord 56 = .ok (.aload_n 0, 1) := by decide +kernel
theorem dX0_loadRecord_57 : decode cX0_loadRecord 57 = .ok (.getfield 77, 3) := by decide +kernel
theorem dX0_loadRecord_60 : decode cX0_loadRecord 60 = .ok (.iload 4, 2) := by decide +kernel
theorem dX0_loadRecord_62 : decode cX0_loadRecord 62 = .ok (.bipush 8, 2) := by decide +kernel
theorem dX0_loadRecord_64 : decode cX0_loadRecord 64 = .ok (.isub, 1) := by decide +kernel
theorem dX0_loadRecord_65 : decode cX0_loadRecord 65 = .ok (.iaload, 1) := by decide +kernel
theorem dX0_loadRecord_66 : decode cX0_loadRecord 66 = .ok (.goto 13, 3) := by decide +kernel
theorem dX0_loadRecord_69 : decode cX0_loadRecord 69 = .ok (.aload_n 0, 1) := by decide +kernel
theorem dX0_loadRecord_70 : decode cX0_loadRecord 70 = .ok (.getfield 47, 3) := by decide +kernel
theorem dX0_loadRecord_73 : decode cX0_loadRecord 73 = .ok (.iload 4, 2) := by decide +kernel
theorem dX0_loadRecord_75 : decode cX0_loadRecord 75 = .ok (.bipush 8, 2) := by decide +kernel
theorem dX0_loadRecord_77 : decode cX0_loadRecord 77 = .ok (.isub, 1) := by decide +kernel
theorem dX0_loadRecord_78 : decode cX0_loadRecord 78 = .ok (.iaload, 1) := by decide +kernel
theorem dX0_loadRecord_79 : decode cX0_loadRecord 79 = .ok (.iastore, 1) := by decide +kernel
theorem dX0_loadRecord_80 : decode cX0_loadRecord 80 = .ok (.iinc 3 1, 3) := by decide +kernel
theorem dX0_loadRecord_83 : decode cX0_loadRecord 83 = .ok (.goto (-81), 3) := by decide +kernel
theorem dX0_loadRecord_86 : decode cX0_loadRecord 86 = .ok (.return_, 1) := by decide +kernel
abbrev cX0_isLast : ByteArray := prog_1_method_10_code
def yX0_isLast : MethodName := ⟨RX0, "isLast", "(I)Z"⟩
theorem dX0_isLast_0 : decode cX0_isLast 0 = .ok (.aload_n 0, 1) := by decide +kernel
theorem dX0_isLast_1 : decode cX0_isLast 1 = .ok (.getfield 31, 3) := by decide +kernel
theorem dX0_isLast_4 : decode cX0_isLast 4 = .ok (.iload_n 1, 1) := by decide +kernel
theorem dX0_isLast_5 : decode cX0_isLast 5 = .ok (.baload, 1) := by decide +kernel
theorem dX0_isLast_6 : decode cX0_isLast 6 = .ok (.ifCond .eq 33, 3) := by decide +kernel
theorem dX0_isLast_9 : decode cX0_isLast 9 = .ok (.aload_n 0, 1) := by decide +kernel
theorem dX0_isLast_10 : decode cX0_isLast 10 = .ok (.getfield 35, 3) := by decide +kernel
theorem dX0_isLast_13 : decode cX0_isLast 13 = .ok (.iload_n 1, 1) := by decide +kernel
theorem dX0_isLast_14 : decode cX0_isLast 14 = .ok (.iaload, 1) := by decide +kernel
theorem dX0_isLast_15 : decode cX0_isLast 15 = .ok (.aload_n 0, 1) := by decide +kernel
theorem dX0_isLast_16 : decode cX0_isLast 16 = .ok (.getfield 19, 3) := by decide +kernel
theorem dX0_isLast_19 : decode cX0_isLast 19 = .ok (.iload_n 1, 1) := by decide +kernel
theorem dX0_isLast_20 : decode cX0_isLast 20 = .ok (.iaload, 1) := by decide +kernel
theorem dX0_isLast_21 : decode cX0_isLast 21 = .ok (.if_icmp .ne 18, 3) := by decide +kernel
theorem dX0_isLast_24 : decode cX0_isLast 24 = .ok (.aload_n 0, 1) := by decide +kernel
theorem dX0_isLast_25 : decode cX0_isLast 25 = .ok (.getfield 38, 3) := by decide +kernel
theorem dX0_isLast_28 : decode cX0_isLast 28 = .ok (.iload_n 1, 1) := by decide +kernel
theorem dX0_isLast_29 : decode cX0_isLast 29 = .ok (.iaload, 1) := by decide +kernel
theorem dX0_isLast_30 : decode cX0_isLast 30 = .ok (.aload_n 0, 1) := by decide +kernel
theorem dX0_isLast_31 : decode cX0_isLast 31 = .ok (.getfield 22, 3) := by decide +kernel
theorem dX0_isLast_34 : decode cX0_isLast 34 = .ok (.iload_n 1, 1) := by decide +kernel
theorem dX0_isLast_35 : decode cX0_isLast 35 = .ok (.iaload, 1) := by decide +kernel
theorem dX0_isLast_36 : decode cX0_isLast 36 = .ok (.if_icmp .eq 5, 3) := by decide +kernel
theorem dX0_isLast_39 : decode cX0_isLast 39 = .ok (.iconst 0, 1) := by decide +kernel
theorem dX0_isLast_40 : decode cX0_isLast 40 = .ok (.ireturn, 1) := by decide +kernel
theorem dX0_isLast_41 : decode cX0_isLast 41 = .ok (.iconst 0, 1) := by decide +kernel
theorem dX0_isLast_42 : decode cX0_isLast 42 = .ok (.istore_n 2, 1) := by decide +kernel
theorem dX0_isLast_43 : decode cX0_isLast 43 = .ok (.iload_n 2, 1) := by decide +kernel
theorem dX0_isLast_44 : decode cX0_isLast 44 = .ok (.aload_n 0, 1) := by decide +kernel
theorem dX0_isLast_45 : decode cX0_isLast 45 = .ok (.getfield 22, 3) := by decide +kernel
theorem dX0_isLast_48 : decode cX0_isLast 48 = .ok (.iload_n 1, 1) := by decide +kernel
theorem dX0_isLast_49 : decode cX0_isLast 49 = .ok (.iaload, 1) := by decide +kernel
theorem dX0_isLast_50 : decode cX0_isLast 50 = .ok (.if_icmp .ge 30, 3) := by decide +kernel
theorem dX0_isLast_53 : decode cX0_isLast 53 = .ok (.aload_n 0, 1) := by decide +kernel
theorem dX0_isLast_54 : decode cX0_isLast 54 = .ok (.getfield 41, 3) := by decide +kernel
theorem dX0_isLast_57 : decode cX0_isLast 57 = .ok (.iload_n 1, 1) := by decide +kernel
theorem dX0_isLast_58 : decode cX0_isLast 58 = .ok (.iconst 3, 1) := by decide +kernel
theorem dX0_isLast_59 : decode cX0_isLast 59 = .ok (.imul, 1) := by decide +kernel
theorem dX0_isLast_60 : decode cX0_isLast 60 = .ok (.iload_n 2, 1) := by decide +kernel
theorem dX0_isLast_61 : decode cX0_isLast 61 = .ok (.iadd, 1) := by decide +kernel
theorem dX0_isLast_62 : decode cX0_isLast 62 = .ok (.iaload, 1) := by decide +kernel
theorem dX0_isLast_63 : decode cX0_isLast 63 = .ok (.aload_n 0, 1) := by decide +kernel
theorem dX0_isLast_64 : decode cX0_isLast 64 = .ok (.getfield 71, 3) := by decide +kernel
theorem dX0_isLast_67 : decode cX0_isLast 67 = .ok (.iload_n 2, 1) := by decide +kernel
theorem dX0_isLast_68 : decode cX0_isLast 68 = .ok (.iaload, 1) := by decide +kernel
theorem dX0_isLast_69 : decode cX0_isLast 69 = .ok (.if_icmp .eq 5, 3) := by decide +kernel
theorem dX0_isLast_72 : decode cX0_isLast 72 = .ok (.iconst 0, 1) := by decide +kernel
theorem dX0_isLast_73 : decode cX0_isLast 73 = .ok (.ireturn, 1) := by decide +kernel
theorem dX0_isLast_74 : decode cX0_isLast 74 = .ok (.iinc 2 1, 3) := by decide +kernel
theorem dX0_isLast_77 : decode cX0_isLast 77 = .ok (.goto (-34), 3) := by decide +kernel
theorem dX0_isLast_80 : decode cX0_isLast 80 = .ok (.iconst 1, 1) := by decide +kernel
theorem dX0_isLast_81 : decode cX0_isLast 81 = .ok (.ireturn, 1) := by decide +kernel
abbrev cX0_inStore : ByteArray := prog_1_method_12_code
def yX0_inStore : MethodName := ⟨RX0, "inStore", "(I)Z"⟩
theorem dX0_inStore_0 : decode cX0_inStore 0 = .ok (.aload_n 0, 1) := by decide +kernel
theorem dX0_inStore_1 : decode cX0_inStore 1 = .ok (.iload_n 1, 1) := by decide +kernel
theorem dX0_inStore_2 : decode cX0_inStore 2 = .ok (.invokevirtual 91, 3) := by decide +kernel
theorem dX0_inStore_5 : decode cX0_inStore 5 = .ok (.istore_n 2, 1) := by decide +kernel
theorem dX0_inStore_6 : decode cX0_inStore 6 = .ok (.aload_n 0, 1) := by decide +kernel
theorem dX0_inStore_7 : decode cX0_inStore 7 = .ok (.getfield 53, 3) := by decide +kernel
theorem dX0_inStore_10 : decode cX0_inStore 10 = .ok (.iload_n 1, 1) := by decide +kernel
theorem dX0_inStore_11 : decode cX0_inStore 11 = .ok (.iaload, 1) := by decide +kernel
theorem dX0_inStore_12 : decode cX0_inStore 12 = .ok (.istore_n 3, 1) := by decide +kernel
theorem dX0_inStore_13 : decode cX0_inStore 13 = .ok (.iconst 0, 1) := by decide +kernel
theorem dX0_inStore_14 : decode cX0_inStore 14 = .ok (.istore 4, 2) := by decide +kernel
theorem dX0_inStore_16 : decode cX0_inStore 16 = .ok (.iload 4, 2) := by decide +kernel
theorem dX0_inStore_18 : decode cX0_inStore 18 = .ok (.sipush 480, 3) := by decide +kernel
theorem dX0_inStore_21 : decode cX0_inStore 21 = .ok (.if_icmp .ge 36, 3) := by decide +kernel
theorem dX0_inStore_24 : decode cX0_inStore 24 = .ok (.iload_n 3, 1) := by decide +kernel
theorem dX0_inStore_25 : decode cX0_inStore 25 = .ok (.ifCond .lt 32, 3) := by decide +kernel
theorem dX0_inStore_28 : decode cX0_inStore 28 = .ok (.aload_n 0, 1) := by decide +kernel
theorem dX0_inStore_29 : decode cX0_inStore 29 = .ok (.iload_n 1, 1) := by decide +kernel
theorem dX0_inStore_30 : decode cX0_inStore 30 = .ok (.iload_n 3, 1) := by decide +kernel
theorem dX0_inStore_31 : decode cX0_inStore 31 = .ok (.iload_n 2, 1) := by decide +kernel
theorem dX0_inStore_32 : decode cX0_inStore 32 = .ok (.invokevirtual 95, 3) := by decide +kernel
theorem dX0_inStore_35 : decode cX0_inStore 35 = .ok (.istore 5, 2) := by decide +kernel
theorem dX0_inStore_37 : decode cX0_inStore 37 = .ok (.iload 5, 2) := by decide +kernel
theorem dX0_inStore_39 : decode cX0_inStore 39 = .ok (.ifCond .eq 5, 3) := by decide +kernel
theorem dX0_inStore_42 : decode cX0_inStore 42 = .ok (.iconst 1, 1) := by decide +kernel
theorem dX0_inStore_43 : decode cX0_inStore 43 = .ok (.ireturn, 1) := by decide +kernel
theorem dX0_inStore_44 : decode cX0_inStore 44 = .ok (.aload_n 0, 1) := by decide +kernel
theorem dX0_inStore_45 : decode cX0_inStore 45 = .ok (.getfield 56, 3) := by decide +kernel
theorem dX0_inStore_48 : decode cX0_inStore 48 = .ok (.iload_n 3, 1) := by decide +kernel
theorem dX0_inStore_49 : decode cX0_inStore 49 = .ok (.iaload, 1) := by decide +kernel
theorem dX0_inStore_50 : decode cX0_inStore 50 = .ok (.istore_n 3, 1) := by decide +kernel
theorem dX0_inStore_51 : decode cX0_inStore 51 = .ok (.iinc 4 1, 3) := by decide +kernel
theorem dX0_inStore_54 : decode cX0_inStore 54 = .ok (.goto (-38), 3) := by decide +kernel
theorem dX0_inStore_57 : decode cX0_inStore 57 = .ok (.iconst 0, 1) := by decide +kernel
theorem dX0_inStore_58 : decode cX0_inStore 58 = .ok (.ireturn, 1) := by decide +kernel
abbrev cX0_hashOf : ByteArray := prog_1_method_9_code
def yX0_hashOf : MethodName := ⟨RX0, "hashOf", "(I)I"⟩
theorem dX0_hashOf_0 : decode cX0_hashOf 0 = .ok (.aload_n 0, 1) := by decide +kernel
theorem dX0_hashOf_1 : decode cX0_hashOf 1 = .ok (.getfield 19, 3) := by decide +kernel
theorem dX0_hashOf_4 : decode cX0_hashOf 4 = .ok (.iload_n 1, 1) := by decide +kernel
theorem dX0_hashOf_5 : decode cX0_hashOf 5 = .ok (.iaload, 1) := by decide +kernel
theorem dX0_hashOf_6 : decode cX0_hashOf 6 = .ok (.bipush 31, 2) := by decide +kernel
theorem dX0_hashOf_8 : decode cX0_hashOf 8 = .ok (.imul, 1) := by decide +kernel
theorem dX0_hashOf_9 : decode cX0_hashOf 9 = .ok (.aload_n 0, 1) := by decide +kernel
theorem dX0_hashOf_10 : decode cX0_hashOf 10 = .ok (.getfield 22, 3) := by decide +kernel
theorem dX0_hashOf_13 : decode cX0_hashOf 13 = .ok (.iload_n 1, 1) := by decide +kernel
theorem dX0_hashOf_14 : decode cX0_hashOf 14 = .ok (.iaload, 1) := by decide +kernel
theorem dX0_hashOf_15 : decode cX0_hashOf 15 = .ok (.iadd, 1) := by decide +kernel
theorem dX0_hashOf_16 : decode cX0_hashOf 16 = .ok (.istore_n 2, 1) := by decide +kernel
theorem dX0_hashOf_17 : decode cX0_hashOf 17 = .ok (.iconst 0, 1) := by decide +kernel
theorem dX0_hashOf_18 : decode cX0_hashOf 18 = .ok (.istore_n 3, 1) := by decide +kernel
theorem dX0_hashOf_19 : decode cX0_hashOf 19 = .ok (.iload_n 3, 1) := by decide +kernel
theorem dX0_hashOf_20 : decode cX0_hashOf 20 = .ok (.aload_n 0, 1) := by decide +kernel
theorem dX0_hashOf_21 : decode cX0_hashOf 21 = .ok (.getfield 22, 3) := by decide +kernel
theorem dX0_hashOf_24 : decode cX0_hashOf 24 = .ok (.iload_n 1, 1) := by decide +kernel
theorem dX0_hashOf_25 : decode cX0_hashOf 25 = .ok (.iaload, 1) := by decide +kernel
theorem dX0_hashOf_26 : decode cX0_hashOf 26 = .ok (.if_icmp .ge 21, 3) := by decide +kernel
theorem dX0_hashOf_29 : decode cX0_hashOf 29 = .ok (.iload_n 2, 1) := by decide +kernel
theorem dX0_hashOf_30 : decode cX0_hashOf 30 = .ok (.bipush 31, 2) := by decide +kernel
theorem dX0_hashOf_32 : decode cX0_hashOf 32 = .ok (.imul, 1) := by decide +kernel
theorem dX0_hashOf_33 : decode cX0_hashOf 33 = .ok (.aload_n 0, 1) := by decide +kernel
theorem dX0_hashOf_34 : decode cX0_hashOf 34 = .ok (.getfield 71, 3) := by decide +kernel
theorem dX0_hashOf_37 : decode cX0_hashOf 37 = .ok (.iload_n 3, 1) := by decide +kernel
theorem dX0_hashOf_38 : decode cX0_hashOf 38 = .ok (.iaload, 1) := by decide +kernel
theorem dX0_hashOf_39 : decode cX0_hashOf 39 = .ok (.iadd, 1) := by decide +kernel
theorem dX0_hashOf_40 : decode cX0_hashOf 40 = .ok (.istore_n 2, 1) := by decide +kernel
theorem dX0_hashOf_41 : decode cX0_hashOf 41 = .ok (.iinc 3 1, 3) := by decide +kernel
theorem dX0_hashOf_44 : decode cX0_hashOf 44 = .ok (.goto (-25), 3) := by decide +kernel
theorem dX0_hashOf_47 : decode cX0_hashOf 47 = .ok (.iload_n 2, 1) := by decide +kernel
theorem dX0_hashOf_48 : decode cX0_hashOf 48 = .ok (.ireturn, 1) := by decide +kernel
abbrev cX0_isRecord : ByteArray := prog_1_method_11_code
def yX0_isRecord : MethodName := ⟨RX0, "isRecord", "(III)Z"⟩
theorem dX0_isRecord_0 : decode cX0_isRecord 0 = .ok (.aload_n 0, 1) := by decide +kernel
theorem dX0_isRecord_1 : decode cX0_isRecord 1 = .ok (.getfield 59, 3) := by decide +kernel
theorem dX0_isRecord_4 : decode cX0_isRecord 4 = .ok (.iload_n 2, 1) := by decide +kernel
theorem dX0_isRecord_5 : decode cX0_isRecord 5 = .ok (.iaload, 1) := by decide +kernel
theorem dX0_isRecord_6 : decode cX0_isRecord 6 = .ok (.iload_n 3, 1) := by decide +kernel
theorem dX0_isRecord_7 : decode cX0_isRecord 7 = .ok (.if_icmp .ne 33, 3) := by decide +kernel
theorem dX0_isRecord_10 : decode cX0_isRecord 10 = .ok (.aload_n 0, 1) := by decide +kernel
theorem dX0_isRecord_11 : decode cX0_isRecord 11 = .ok (.getfield 62, 3) := by decide +kernel
theorem dX0_isRecord_14 : decode cX0_isRecord 14 = .ok (.iload_n 2, 1) := by decide +kernel
theorem dX0_isRecord_15 : decode cX0_isRecord 15 = .ok (.iaload, 1) := by decide +kernel
theorem dX0_isRecord_16 : decode cX0_isRecord 16 = .ok (.aload_n 0, 1) := by decide +kernel
theorem dX0_isRecord_17 : decode cX0_isRecord 17 = .ok (.getfield 19, 3) := by decide +kernel
theorem dX0_isRecord_20 : decode cX0_isRecord 20 = .ok (.iload_n 1, 1) := by decide +kernel
theorem dX0_isRecord_21 : decode cX0_isRecord 21 = .ok (.iaload, 1) := by decide +kernel
theorem dX0_isRecord_22 : decode cX0_isRecord 22 = .ok (.if_icmp .ne 18, 3) := by decide +kernel
theorem dX0_isRecord_25 : decode cX0_isRecord 25 = .ok (.aload_n 0, 1) := by decide +kernel
theorem dX0_isRecord_26 : decode cX0_isRecord 26 = .ok (.getfield 65, 3) := by decide +kernel
theorem dX0_isRecord_29 : decode cX0_isRecord 29 = .ok (.iload_n 2, 1) := by decide +kernel
theorem dX0_isRecord_30 : decode cX0_isRecord 30 = .ok (.iaload, 1) := by decide +kernel
theorem dX0_isRecord_31 : decode cX0_isRecord 31 = .ok (.aload_n 0, 1) := by decide +kernel
theorem dX0_isRecord_32 : decode cX0_isRecord 32 = .ok (.getfield 22, 3) := by decide +kernel
theorem dX0_isRecord_35 : decode cX0_isRecord 35 = .ok (.iload_n 1, 1) := by decide +kernel
theorem dX0_isRecord_36 : decode cX0_isRecord 36 = .ok (.iaload, 1) := by decide +kernel
theorem dX0_isRecord_37 : decode cX0_isRecord 37 = .ok (.if_icmp .eq 5, 3) := by decide +kernel
theorem dX0_isRecord_40 : decode cX0_isRecord 40 = .ok (.iconst 0, 1) := by decide +kernel
theorem dX0_isRecord_41 : decode cX0_isRecord 41 = .ok (.ireturn, 1) := by decide +kernel
theorem dX0_isRecord_42 : decode cX0_isRecord 42 = .ok (.iconst 0, 1) := by decide +kernel
theorem dX0_isRecord_43 : decode cX0_isRecord 43 = .ok (.istore 4, 2) := by decide +kernel
theorem dX0_isRecord_45 : decode cX0_isRecord 45 = .ok (.iload 4, 2) := by decide +kernel
theorem dX0_isRecord_47 : decode cX0_isRecord 47 = .ok (.aload_n 0, 1) := by decide +kernel
theorem dX0_isRecord_48 : decode cX0_isRecord 48 = .ok (.getfield 22, 3) := by decide +kernel
theorem dX0_isRecord_51 : decode cX0_isRecord 51 = .ok (.iload_n 1, 1) := by decide +kernel
theorem dX0_isRecord_52 : decode cX0_isRecord 52 = .ok (.iaload, 1) := by decide +kernel
theorem dX0_isRecord_53 : decode cX0_isRecord 53 = .ok (.if_icmp .ge 32, 3) := by decide +kernel
theorem dX0_isRecord_56 : decode cX0_isRecord 56 = .ok (.aload_n 0, 1) := by decide +kernel
theorem dX0_isRecord_57 : decode cX0_isRecord 57 = .ok (.getfield 68, 3) := by decide +kernel
theorem dX0_isRecord_60 : decode cX0_isRecord 60 = .ok (.iload_n 2, 1) := by decide +kernel
theorem dX0_isRecord_61 : decode cX0_isRecord 61 = .ok (.iconst 3, 1) := by decide +kernel
theorem dX0_isRecord_62 : decode cX0_isRecord 62 = .ok (.imul, 1) := by decide +kernel
theorem dX0_isRecord_63 : decode cX0_isRecord 63 = .ok (.iload 4, 2) := by decide +kernel
theorem dX0_isRecord_65 : decode cX0_isRecord 65 = .ok (.iadd, 1) := by decide +kernel
theorem dX0_isRecord_66 : decode cX0_isRecord 66 = .ok (.iaload, 1) := by decide +kernel
theorem dX0_isRecord_67 : decode cX0_isRecord 67 = .ok (.aload_n 0, 1) := by decide +kernel
theorem dX0_isRecord_68 : decode cX0_isRecord 68 = .ok (.getfield 71, 3) := by decide +kernel
theorem dX0_isRecord_71 : decode cX0_isRecord 71 = .ok (.iload 4, 2) := by decide +kernel
theorem dX0_isRecord_73 : decode cX0_isRecord 73 = .ok (.iaload, 1) := by decide +kernel
theorem dX0_isRecord_74 : decode cX0_isRecord 74 = .ok (.if_icmp .eq 5, 3) := by decide +kernel
theorem dX0_isRecord_77 : decode cX0_isRecord 77 = .ok (.iconst 0, 1) := by decide +kernel
theorem dX0_isRecord_78 : decode cX0_isRecord 78 = .ok (.ireturn, 1) := by decide +kernel
theorem dX0_isRecord_79 : decode cX0_isRecord 79 = .ok (.iinc 4 1, 3) := by decide +kernel
theorem dX0_isRecord_82 : decode cX0_isRecord 82 = .ok (.goto (-37), 3) := by decide +kernel
theorem dX0_isRecord_85 : decode cX0_isRecord 85 = .ok (.iconst 1, 1) := by decide +kernel
theorem dX0_isRecord_86 : decode cX0_isRecord 86 = .ok (.ireturn, 1) := by decide +kernel
abbrev cX0_keep : ByteArray := prog_1_method_13_code
def yX0_keep : MethodName := ⟨RX0, "keep", "(I)V"⟩
theorem dX0_keep_0 : decode cX0_keep 0 = .ok (.aload_n 0, 1) := by decide +kernel
theorem dX0_keep_1 : decode cX0_keep 1 = .ok (.getfield 99, 3) := by decide +kernel
theorem dX0_keep_4 : decode cX0_keep 4 = .ok (.sipush 480, 3) := by decide +kernel
theorem dX0_keep_7 : decode cX0_keep 7 = .ok (.if_icmp .lt 4, 3) := by decide +kernel
theorem dX0_keep_10 : decode cX0_keep 10 = .ok (.return_, 1) := by decide +kernel
theorem dX0_keep_11 : decode cX0_keep 11 = .ok (.aload_n 0, 1) := by decide +kernel
theorem dX0_keep_12 : decode cX0_keep 12 = .ok (.getfield 99, 3) := by decide +kernel
theorem dX0_keep_15 : decode cX0_keep 15 = .ok (.istore_n 2, 1) := by decide +kernel
theorem dX0_keep_16 : decode cX0_keep 16 = .ok (.aload_n 0, 1) := by decide +kernel
theorem dX0_keep_17 : decode cX0_keep 17 = .ok (.getfield 59, 3) := by decide +kernel
theorem dX0_keep_20 : decode cX0_keep 20 = .ok (.iload_n 2, 1) := by decide +kernel
theorem dX0_keep_21 : decode cX0_keep 21 = .ok (.aload_n 0, 1) := by decide +kernel
theorem dX0_keep_22 : decode cX0_keep 22 = .ok (.iload_n 1, 1) := by decide +kernel
theorem dX0_keep_23 : decode cX0_keep 23 = .ok (.invokevirtual 91, 3) := by decide +kernel
theorem dX0_keep_26 : decode cX0_keep 26 = .ok (.iastore, 1) := by decide +kernel
theorem dX0_keep_27 : decode cX0_keep 27 = .ok (.aload_n 0, 1) := by decide +kernel
theorem dX0_keep_28 : decode cX0_keep 28 = .ok (.getfield 62, 3) := by decide +kernel
theorem dX0_keep_31 : decode cX0_keep 31 = .ok (.iload_n 2, 1) := by decide +kernel
theorem dX0_keep_32 : decode cX0_keep 32 = .ok (.aload_n 0, 1) := by decide +kernel
theorem dX0_keep_33 : decode cX0_keep 33 = .ok (.getfield 19, 3) := by decide +kernel
theorem dX0_keep_36 : decode cX0_keep 36 = .ok (.iload_n 1, 1) := by decide +kernel
theorem dX0_keep_37 : decode cX0_keep 37 = .ok (.iaload, 1) := by decide +kernel
theorem dX0_keep_38 : decode cX0_keep 38 = .ok (.iastore, 1) := by decide +kernel
theorem dX0_keep_39 : decode cX0_keep 39 = .ok (.aload_n 0, 1) := by decide +kernel
theorem dX0_keep_40 : decode cX0_keep 40 = .ok (.getfield 65, 3) := by decide +kernel
theorem dX0_keep_43 : decode cX0_keep 43 = .ok (.iload_n 2, 1) := by decide +kernel
theorem dX0_keep_44 : decode cX0_keep 44 = .ok (.aload_n 0, 1) := by decide +kernel
theorem dX0_keep_45 : decode cX0_keep 45 = .ok (.getfield 22, 3) := by decide +kernel
theorem dX0_keep_48 : decode cX0_keep 48 = .ok (.iload_n 1, 1) := by decide +kernel
theorem dX0_keep_49 : decode cX0_keep 49 = .ok (.iaload, 1) := by decide +kernel
theorem dX0_keep_50 : decode cX0_keep 50 = .ok (.iastore, 1) := by decide +kernel
theorem dX0_keep_51 : decode cX0_keep 51 = .ok (.iconst 0, 1) := by decide +kernel
theorem dX0_keep_52 : decode cX0_keep 52 = .ok (.istore_n 3, 1) := by decide +kernel
theorem dX0_keep_53 : decode cX0_keep 53 = .ok (.iload_n 3, 1) := by decide +kernel
theorem dX0_keep_54 : decode cX0_keep 54 = .ok (.aload_n 0, 1) := by decide +kernel
theorem dX0_keep_55 : decode cX0_keep 55 = .ok (.getfield 22, 3) := by decide +kernel
theorem dX0_keep_58 : decode cX0_keep 58 = .ok (.iload_n 1, 1) := by decide +kernel
theorem dX0_keep_59 : decode cX0_keep 59 = .ok (.iaload, 1) := by decide +kernel
theorem dX0_keep_60 : decode cX0_keep 60 = .ok (.if_icmp .ge 25, 3) := by decide +kernel
theorem dX0_keep_63 : decode cX0_keep 63 = .ok (.aload_n 0, 1) := by decide +kernel
theorem dX0_keep_64 : decode cX0_keep 64 = .ok (.getfield 68, 3) := by decide +kernel
theorem dX0_keep_67 : decode cX0_keep 67 = .ok (.iload_n 2, 1) := by decide +kernel
theorem dX0_keep_68 : decode cX0_keep 68 = .ok (.iconst 3, 1) := by decide +kernel
theorem dX0_keep_69 : decode cX0_keep 69 = .ok (.imul, 1) := by decide +kernel
theorem dX0_keep_70 : decode cX0_keep 70 = .ok (.iload_n 3, 1) := by decide +kernel
theorem dX0_keep_71 : decode cX0_keep 71 = .ok (.iadd, 1) := by decide +kernel
theorem dX0_keep_72 : decode cX0_keep 72 = .ok (.aload_n 0, 1) := by decide +kernel
theorem dX0_keep_73 : decode cX0_keep 73 = .ok (.getfield 71, 3) := by decide +kernel
theorem dX0_keep_76 : decode cX0_keep 76 = .ok (.iload_n 3, 1) := by decide +kernel
theorem dX0_keep_77 : decode cX0_keep 77 = .ok (.iaload, 1) := by decide +kernel
theorem dX0_keep_78 : decode cX0_keep 78 = .ok (.iastore, 1) := by decide +kernel
theorem dX0_keep_79 : decode cX0_keep 79 = .ok (.iinc 3 1, 3) := by decide +kernel
theorem dX0_keep_82 : decode cX0_keep 82 = .ok (.goto (-29), 3) := by decide +kernel
theorem dX0_keep_85 : decode cX0_keep 85 = .ok (.aload_n 0, 1) := by decide +kernel
theorem dX0_keep_86 : decode cX0_keep 86 = .ok (.getfield 56, 3) := by decide +kernel
theorem dX0_keep_89 : decode cX0_keep 89 = .ok (.iload_n 2, 1) := by decide +kernel
theorem dX0_keep_90 : decode cX0_keep 90 = .ok (.aload_n 0, 1) := by decide +kernel
theorem dX0_keep_91 : decode cX0_keep 91 = .ok (.getfield 53, 3) := by decide +kernel
theorem dX0_keep_94 : decode cX0_keep 94 = .ok (.iload_n 1, 1) := by decide +kernel
theorem dX0_keep_95 : decode cX0_keep 95 = .ok (.iaload, 1) := by decide +kernel
theorem dX0_keep_96 : decode cX0_keep 96 = .ok (.iastore, 1) := by decide +kernel
theorem dX0_keep_97 : decode cX0_keep 97 = .ok (.aload_n 0, 1) := by decide +kernel
theorem dX0_keep_98 : decode cX0_keep 98 = .ok (.getfield 53, 3) := by decide +kernel
theorem dX0_keep_101 : decode cX0_keep 101 = .ok (.iload_n 1, 1) := by decide +kernel
theorem dX0_keep_102 : decode cX0_keep 102 = .ok (.iload_n 2, 1) := by decide +kernel
theorem dX0_keep_103 : decode cX0_keep 103 = .ok (.iastore, 1) := by decide +kernel
theorem dX0_keep_104 : decode cX0_keep 104 = .ok (.aload_n 0, 1) := by decide +kernel
theorem dX0_keep_105 : decode cX0_keep 105 = .ok (.dup, 1) := by decide +kernel
theorem dX0_keep_106 : decode cX0_keep 106 = .ok (.getfield 99, 3) := by decide +kernel
theorem dX0_keep_109 : decode cX0_keep 109 = .ok (.iconst 1, 1) := by decide +kernel
theorem dX0_keep_110 : decode cX0_keep 110 = .ok (.iadd, 1) := by decide +kernel
theorem dX0_keep_111 : decode cX0_keep 111 = .ok (.putfield 99, 3) := by decide +kernel
theorem dX0_keep_114 : decode cX0_keep 114 = .ok (.return_, 1) := by decide +kernel
abbrev cX0_remember : ByteArray := prog_1_method_14_code
def yX0_remember : MethodName := ⟨RX0, "remember", "(I)V"⟩
theorem dX0_remember_0 : decode cX0_remember 0 = .ok (.aload_n 0, 1) := by decide +kernel
theorem dX0_remember_1 : decode cX0_remember 1 = .ok (.getfield 31, 3) := by decide +kernel
theorem dX0_remember_4 : decode cX0_remember 4 = .ok (.iload_n 1, 1) := by decide +kernel
theorem dX0_remember_5 : decode cX0_remember 5 = .ok (.iconst 1, 1) := by decide +kernel
theorem dX0_remember_6 : decode cX0_remember 6 = .ok (.bastore, 1) := by decide +kernel
theorem dX0_remember_7 : decode cX0_remember 7 = .ok (.aload_n 0, 1) := by decide +kernel
theorem dX0_remember_8 : decode cX0_remember 8 = .ok (.getfield 35, 3) := by decide +kernel
theorem dX0_remember_11 : decode cX0_remember 11 = .ok (.iload_n 1, 1) := by decide +kernel
theorem dX0_remember_12 : decode cX0_remember 12 = .ok (.aload_n 0, 1) := by decide +kernel
theorem dX0_remember_13 : decode cX0_remember 13 = .ok (.getfield 19, 3) := by decide +kernel
theorem dX0_remember_16 : decode cX0_remember 16 = .ok (.iload_n 1, 1) := by decide +kernel
theorem dX0_remember_17 : decode cX0_remember 17 = .ok (.iaload, 1) := by decide +kernel
theorem dX0_remember_18 : decode cX0_remember 18 = .ok (.iastore, 1) := by decide +kernel
theorem dX0_remember_19 : decode cX0_remember 19 = .ok (.aload_n 0, 1) := by decide +kernel
theorem dX0_remember_20 : decode cX0_remember 20 = .ok (.getfield 38, 3) := by decide +kernel
theorem dX0_remember_23 : decode cX0_remember 23 = .ok (.iload_n 1, 1) := by decide +kernel
theorem dX0_remember_24 : decode cX0_remember 24 = .ok (.aload_n 0, 1) := by decide +kernel
theorem dX0_remember_25 : decode cX0_remember 25 = .ok (.getfield 22, 3) := by decide +kernel
theorem dX0_remember_28 : decode cX0_remember 28 = .ok (.iload_n 1, 1) := by decide +kernel
theorem dX0_remember_29 : decode cX0_remember 29 = .ok (.iaload, 1) := by decide +kernel
theorem dX0_remember_30 : decode cX0_remember 30 = .ok (.iastore, 1) := by decide +kernel
theorem dX0_remember_31 : decode cX0_remember 31 = .ok (.iconst 0, 1) := by decide +kernel
theorem dX0_remember_32 : decode cX0_remember 32 = .ok (.istore_n 2, 1) := by decide +kernel
theorem dX0_remember_33 : decode cX0_remember 33 = .ok (.iload_n 2, 1) := by decide +kernel
theorem dX0_remember_34 : decode cX0_remember 34 = .ok (.aload_n 0, 1) := by decide +kernel
theorem dX0_remember_35 : decode cX0_remember 35 = .ok (.getfield 22, 3) := by decide +kernel
theorem dX0_remember_38 : decode cX0_remember 38 = .ok (.iload_n 1, 1) := by decide +kernel
theorem dX0_remember_39 : decode cX0_remember 39 = .ok (.iaload, 1) := by decide +kernel
theorem dX0_remember_40 : decode cX0_remember 40 = .ok (.if_icmp .ge 25, 3) := by decide +kernel
theorem dX0_remember_43 : decode cX0_remember 43 = .ok (.aload_n 0, 1) := by decide +kernel
theorem dX0_remember_44 : decode cX0_remember 44 = .ok (.getfield 41, 3) := by decide +kernel
theorem dX0_remember_47 : decode cX0_remember 47 = .ok (.iload_n 1, 1) := by decide +kernel
theorem dX0_remember_48 : decode cX0_remember 48 = .ok (.iconst 3, 1) := by decide +kernel
theorem dX0_remember_49 : decode cX0_remember 49 = .ok (.imul, 1) := by decide +kernel
theorem dX0_remember_50 : decode cX0_remember 50 = .ok (.iload_n 2, 1) := by decide +kernel
theorem dX0_remember_51 : decode cX0_remember 51 = .ok (.iadd, 1) := by decide +kernel
theorem dX0_remember_52 : decode cX0_remember 52 = .ok (.aload_n 0, 1) := by decide +kernel
theorem dX0_remember_53 : decode cX0_remember 53 = .ok (.getfield 71, 3) := by decide +kernel
theorem dX0_remember_56 : decode cX0_remember 56 = .ok (.iload_n 2, 1) := by decide +kernel
theorem dX0_remember_57 : decode cX0_remember 57 = .ok (.iaload, 1) := by decide +kernel
theorem dX0_remember_58 : decode cX0_remember 58 = .ok (.iastore, 1) := by decide +kernel
theorem dX0_remember_59 : decode cX0_remember 59 = .ok (.iinc 2 1, 3) := by decide +kernel
theorem dX0_remember_62 : decode cX0_remember 62 = .ok (.goto (-29), 3) := by decide +kernel
theorem dX0_remember_65 : decode cX0_remember 65 = .ok (.return_, 1) := by decide +kernel
end
section
set_option maxRecDepth 100000
abbrev cX0_result : ByteArray := prog_1_method_8_code
def yX0_result : MethodName := ⟨RX0, "result", "(I)I"⟩
theorem dX0_result_0 : decode cX0_result 0 = .ok (.aload_n 0, 1) := by decide +kernel
theorem dX0_result_1 : decode cX0_result 1 = .ok (.getfield 16, 3) := by decide +kernel
theorem dX0_result_4 : decode cX0_result 4 = .ok (.iload_n 1, 1) := by decide +kernel
theorem dX0_result_5 : decode cX0_result 5 = .ok (.iaload, 1) := by decide +kernel
theorem dX0_result_6 : decode cX0_result 6 = .ok (.iconst 3, 1) := by decide +kernel
theorem dX0_result_7 : decode cX0_result 7 = .ok (.if_icmp .ne 7, 3) := by decide +kernel
theorem dX0_result_10 : decode cX0_result 10 = .ok (.iconst 0, 1) := by decide +kernel
theorem dX0_result_11 : decode cX0_result 11 = .ok (.goto 9, 3) := by decide +kernel
theorem dX0_result_14 : decode cX0_result 14 = .ok (.aload_n 0, 1) := by decide +kernel
theorem dX0_result_15 : decode cX0_result 15 = .ok (.getfield 19, 3) := by decide +kernel
theorem dX0_result_18 : decode cX0_result 18 = .ok (.iload_n 1, 1) := by decide +kernel
theorem dX0_result_19 : decode cX0_result 19 = .ok (.iaload, 1) := by decide +kernel
theorem dX0_result_20 : decode cX0_result 20 = .ok (.istore_n 2, 1) := by decide +kernel
theorem dX0_result_21 : decode cX0_result 21 = .ok (.iconst 0, 1) := by decide +kernel
theorem dX0_result_22 : decode cX0_result 22 = .ok (.istore_n 3, 1) := by decide +kernel
theorem dX0_result_23 : decode cX0_result 23 = .ok (.iload_n 3, 1) := by decide +kernel
theorem dX0_result_24 : decode cX0_result 24 = .ok (.aload_n 0, 1) := by decide +kernel
theorem dX0_result_25 : decode cX0_result 25 = .ok (.getfield 22, 3) := by decide +kernel
theorem dX0_result_28 : decode cX0_result 28 = .ok (.iload_n 1, 1) := by decide +kernel
theorem dX0_result_29 : decode cX0_result 29 = .ok (.iaload, 1) := by decide +kernel
theorem dX0_result_30 : decode cX0_result 30 = .ok (.if_icmp .ge 69, 3) := by decide +kernel
theorem dX0_result_33 : decode cX0_result 33 = .ok (.aload_n 0, 1) := by decide +kernel
theorem dX0_result_34 : decode cX0_result 34 = .ok (.getfield 71, 3) := by decide +kernel
theorem dX0_result_37 : decode cX0_result 37 = .ok (.iload_n 3, 1) := by decide +kernel
theorem dX0_result_38 : decode cX0_result 38 = .ok (.iaload, 1) := by decide +kernel
theorem dX0_result_39 : decode cX0_result 39 = .ok (.istore 4, 2) := by decide +kernel
theorem dX0_result_41 : decode cX0_result 41 = .ok (.aload_n 0, 1) := by decide +kernel
theorem dX0_result_42 : decode cX0_result 42 = .ok (.getfield 16, 3) := by decide +kernel
theorem dX0_result_45 : decode cX0_result 45 = .ok (.iload_n 1, 1) := by decide +kernel
theorem dX0_result_46 : decode cX0_result 46 = .ok (.iaload, 1) := by decide +kernel
theorem dX0_result_47 : decode cX0_result 47 = .ok (.iconst 1, 1) := by decide +kernel
theorem dX0_result_48 : decode cX0_result 48 = .ok (.if_icmp .ne 14, 3) := by decide +kernel
theorem dX0_result_51 : decode cX0_result 51 = .ok (.iload_n 2, 1) := by decide +kernel
theorem dX0_result_52 : decode cX0_result 52 = .ok (.bipush 31, 2) := by decide +kernel
theorem dX0_result_54 : decode cX0_result 54 = .ok (.imul, 1) := by decide +kernel
theorem dX0_result_55 : decode cX0_result 55 = .ok (.iload 4, 2) := by decide +kernel
theorem dX0_result_57 : decode cX0_result 57 = .ok (.iadd, 1) := by decide +kernel
theorem dX0_result_58 : decode cX0_result 58 = .ok (.istore_n 2, 1) := by decide +kernel
theorem dX0_result_59 : decode cX0_result 59 = .ok (.goto 34, 3) := by decide +kernel
theorem dX0_result_62 : decode cX0_result 62 = .ok (.aload_n 0, 1) := by decide +kernel
theorem dX0_result_63 : decode cX0_result 63 = .ok (.getfield 16, 3) := by decide +kernel
theorem dX0_result_66 : decode cX0_result 66 = .ok (.iload_n 1, 1) := by decide +kernel
theorem dX0_result_67 : decode cX0_result 67 = .ok (.iaload, 1) := by decide +kernel
theorem dX0_result_68 : decode cX0_result 68 = .ok (.iconst 2, 1) := by decide +kernel
theorem dX0_result_69 : decode cX0_result 69 = .ok (.if_icmp .ne 19, 3) := by decide +kernel
theorem dX0_result_72 : decode cX0_result 72 = .ok (.iload 4, 2) := by decide +kernel
theorem dX0_result_74 : decode cX0_result 74 = .ok (.iload_n 2, 1) := by decide +kernel
theorem dX0_result_75 : decode cX0_result 75 = .ok (.if_icmp .le 8, 3) := by decide +kernel
theorem dX0_result_78 : decode cX0_result 78 = .ok (.iload 4, 2) := by decide +kernel
theorem dX0_result_80 : decode cX0_result 80 = .ok (.goto 4, 3) := by decide +kernel
theorem dX0_result_83 : decode cX0_result 83 = .ok (.iload_n 2, 1) := by decide +kernel
theorem dX0_result_84 : decode cX0_result 84 = .ok (.istore_n 2, 1) := by decide +kernel
theorem dX0_result_85 : decode cX0_result 85 = .ok (.goto 8, 3) := by decide +kernel
theorem dX0_result_88 : decode cX0_result 88 = .ok (.iload_n 2, 1) := by decide +kernel
theorem dX0_result_89 : decode cX0_result 89 = .ok (.iload 4, 2) := by decide +kernel
theorem dX0_result_91 : decode cX0_result 91 = .ok (.iadd, 1) := by decide +kernel
theorem dX0_result_92 : decode cX0_result 92 = .ok (.istore_n 2, 1) := by decide +kernel
theorem dX0_result_93 : decode cX0_result 93 = .ok (.iinc 3 1, 3) := by decide +kernel
theorem dX0_result_96 : decode cX0_result 96 = .ok (.goto (-73), 3) := by decide +kernel
theorem dX0_result_99 : decode cX0_result 99 = .ok (.aload_n 0, 1) := by decide +kernel
theorem dX0_result_100 : decode cX0_result 100 = .ok (.getfield 16, 3) := by decide +kernel
theorem dX0_result_103 : decode cX0_result 103 = .ok (.iload_n 1, 1) := by decide +kernel
theorem dX0_result_104 : decode cX0_result 104 = .ok (.iaload, 1) := by decide +kernel
theorem dX0_result_105 : decode cX0_result 105 = .ok (.iconst 3, 1) := by decide +kernel
theorem dX0_result_106 : decode cX0_result 106 = .ok (.if_icmp .ne 10, 3) := by decide +kernel
theorem dX0_result_109 : decode cX0_result 109 = .ok (.iload_n 2, 1) := by decide +kernel
theorem dX0_result_110 : decode cX0_result 110 = .ok (.bipush 15, 2) := by decide +kernel
theorem dX0_result_112 : decode cX0_result 112 = .ok (.iand, 1) := by decide +kernel
theorem dX0_result_113 : decode cX0_result 113 = .ok (.goto 4, 3) := by decide +kernel
theorem dX0_result_116 : decode cX0_result 116 = .ok (.iload_n 2, 1) := by decide +kernel
theorem dX0_result_117 : decode cX0_result 117 = .ok (.ireturn, 1) := by decide +kernel
abbrev cX0_clean : ByteArray := prog_1_method_20_code
def yX0_clean : MethodName := ⟨RX0, "clean", "(I)I"⟩
theorem dX0_clean_0 : decode cX0_clean 0 = .ok (.aload_n 0, 1) := by decide +kernel
theorem dX0_clean_1 : decode cX0_clean 1 = .ok (.iload_n 1, 1) := by decide +kernel
theorem dX0_clean_2 : decode cX0_clean 2 = .ok (.invokevirtual 87, 3) := by decide +kernel
theorem dX0_clean_5 : decode cX0_clean 5 = .ok (.ifCond .eq 5, 3) := by decide +kernel
theorem dX0_clean_8 : decode cX0_clean 8 = .ok (.iconst (-1), 1) := by decide +kernel
theorem dX0_clean_9 : decode cX0_clean 9 = .ok (.ireturn, 1) := by decide +kernel
theorem dX0_clean_10 : decode cX0_clean 10 = .ok (.aload_n 0, 1) := by decide +kernel
theorem dX0_clean_11 : decode cX0_clean 11 = .ok (.getfield 31, 3) := by decide +kernel
theorem dX0_clean_14 : decode cX0_clean 14 = .ok (.iload_n 1, 1) := by decide +kernel
theorem dX0_clean_15 : decode cX0_clean 15 = .ok (.baload, 1) := by decide +kernel
theorem dX0_clean_16 : decode cX0_clean 16 = .ok (.ifCond .eq 7, 3) := by decide +kernel
theorem dX0_clean_19 : decode cX0_clean 19 = .ok (.iconst 1, 1) := by decide +kernel
theorem dX0_clean_20 : decode cX0_clean 20 = .ok (.goto 4, 3) := by decide +kernel
theorem dX0_clean_23 : decode cX0_clean 23 = .ok (.iconst 0, 1) := by decide +kernel
theorem dX0_clean_24 : decode cX0_clean 24 = .ok (.istore_n 2, 1) := by decide +kernel
theorem dX0_clean_25 : decode cX0_clean 25 = .ok (.aload_n 0, 1) := by decide +kernel
theorem dX0_clean_26 : decode cX0_clean 26 = .ok (.getfield 31, 3) := by decide +kernel
theorem dX0_clean_29 : decode cX0_clean 29 = .ok (.iload_n 1, 1) := by decide +kernel
theorem dX0_clean_30 : decode cX0_clean 30 = .ok (.iconst 0, 1) := by decide +kernel
theorem dX0_clean_31 : decode cX0_clean 31 = .ok (.bastore, 1) := by decide +kernel
theorem dX0_clean_32 : decode cX0_clean 32 = .ok (.iload_n 2, 1) := by decide +kernel
theorem dX0_clean_33 : decode cX0_clean 33 = .ok (.ireturn, 1) := by decide +kernel
abbrev cX0_emptyStore : ByteArray := prog_1_method_21_code
def yX0_emptyStore : MethodName := ⟨RX0, "emptyStore", "()V"⟩
theorem dX0_emptyStore_0 : decode cX0_emptyStore 0 = .ok (.aload_n 0, 1) := by decide +kernel
theorem dX0_emptyStore_1 : decode cX0_emptyStore 1 = .ok (.iconst 0, 1) := by decide +kernel
theorem dX0_emptyStore_2 : decode cX0_emptyStore 2 = .ok (.putfield 128, 3) := by decide +kernel
theorem dX0_emptyStore_5 : decode cX0_emptyStore 5 = .ok (.aload_n 0, 1) := by decide +kernel
theorem dX0_emptyStore_6 : decode cX0_emptyStore 6 = .ok (.iconst 0, 1) := by decide +kernel
theorem dX0_emptyStore_7 : decode cX0_emptyStore 7 = .ok (.putfield 99, 3) := by decide +kernel
theorem dX0_emptyStore_10 : decode cX0_emptyStore 10 = .ok (.iconst 0, 1) := by decide +kernel
theorem dX0_emptyStore_11 : decode cX0_emptyStore 11 = .ok (.istore_n 1, 1) := by decide +kernel
theorem dX0_emptyStore_12 : decode cX0_emptyStore 12 = .ok (.iload_n 1, 1) := by decide +kernel
theorem dX0_emptyStore_13 : decode cX0_emptyStore 13 = .ok (.bipush 12, 2) := by decide +kernel
theorem dX0_emptyStore_15 : decode cX0_emptyStore 15 = .ok (.if_icmp .ge 16, 3) := by decide +kernel
theorem dX0_emptyStore_18 : decode cX0_emptyStore 18 = .ok (.aload_n 0, 1) := by decide +kernel
theorem dX0_emptyStore_19 : decode cX0_emptyStore 19 = .ok (.getfield 53, 3) := by decide +kernel
theorem dX0_emptyStore_22 : decode cX0_emptyStore 22 = .ok (.iload_n 1, 1) := by decide +kernel
theorem dX0_emptyStore_23 : decode cX0_emptyStore 23 = .ok (.iconst (-1), 1) := by decide +kernel
theorem dX0_emptyStore_24 : decode cX0_emptyStore 24 = .ok (.iastore, 1) := by decide +kernel
theorem dX0_emptyStore_25 : decode cX0_emptyStore 25 = .ok (.iinc 1 1, 3) := by decide +kernel
theorem dX0_emptyStore_28 : decode cX0_emptyStore 28 = .ok (.goto (-16), 3) := by decide +kernel
theorem dX0_emptyStore_31 : decode cX0_emptyStore 31 = .ok (.return_, 1) := by decide +kernel
abbrev cX0_status : ByteArray := prog_1_method_22_code
def yX0_status : MethodName := ⟨RX0, "status", "(I)I"⟩
theorem dX0_status_0 : decode cX0_status 0 = .ok (.aload_n 0, 1) := by decide +kernel
theorem dX0_status_1 : decode cX0_status 1 = .ok (.iload_n 1, 1) := by decide +kernel
theorem dX0_status_2 : decode cX0_status 2 = .ok (.invokevirtual 87, 3) := by decide +kernel
theorem dX0_status_5 : decode cX0_status 5 = .ok (.ifCond .eq 7, 3) := by decide +kernel
theorem dX0_status_8 : decode cX0_status 8 = .ok (.iconst (-1), 1) := by decide +kernel
theorem dX0_status_9 : decode cX0_status 9 = .ok (.goto 9, 3) := by decide +kernel
theorem dX0_status_12 : decode cX0_status 12 = .ok (.aload_n 0, 1) := by decide +kernel
theorem dX0_status_13 : decode cX0_status 13 = .ok (.getfield 74, 3) := by decide +kernel
theorem dX0_status_16 : decode cX0_status 16 = .ok (.iload_n 1, 1) := by decide +kernel
theorem dX0_status_17 : decode cX0_status 17 = .ok (.iaload, 1) := by decide +kernel
theorem dX0_status_18 : decode cX0_status 18 = .ok (.ireturn, 1) := by decide +kernel
abbrev cX0_output : ByteArray := prog_1_method_23_code
def yX0_output : MethodName := ⟨RX0, "output", "(I)I"⟩
theorem dX0_output_0 : decode cX0_output 0 = .ok (.aload_n 0, 1) := by decide +kernel
theorem dX0_output_1 : decode cX0_output 1 = .ok (.iload_n 1, 1) := by decide +kernel
theorem dX0_output_2 : decode cX0_output 2 = .ok (.invokevirtual 87, 3) := by decide +kernel
theorem dX0_output_5 : decode cX0_output 5 = .ok (.ifCond .eq 7, 3) := by decide +kernel
theorem dX0_output_8 : decode cX0_output 8 = .ok (.iconst 0, 1) := by decide +kernel
theorem dX0_output_9 : decode cX0_output 9 = .ok (.goto 9, 3) := by decide +kernel
theorem dX0_output_12 : decode cX0_output 12 = .ok (.aload_n 0, 1) := by decide +kernel
theorem dX0_output_13 : decode cX0_output 13 = .ok (.getfield 47, 3) := by decide +kernel
theorem dX0_output_16 : decode cX0_output 16 = .ok (.iload_n 1, 1) := by decide +kernel
theorem dX0_output_17 : decode cX0_output 17 = .ok (.iaload, 1) := by decide +kernel
theorem dX0_output_18 : decode cX0_output 18 = .ok (.ireturn, 1) := by decide +kernel
abbrev cX0_fresh : ByteArray := prog_1_method_25_code
def yX0_fresh : MethodName := ⟨RX0, "fresh", "(I)I"⟩
theorem dX0_fresh_0 : decode cX0_fresh 0 = .ok (.aload_n 0, 1) := by decide +kernel
theorem dX0_fresh_1 : decode cX0_fresh 1 = .ok (.iload_n 1, 1) := by decide +kernel
theorem dX0_fresh_2 : decode cX0_fresh 2 = .ok (.invokevirtual 87, 3) := by decide +kernel
theorem dX0_fresh_5 : decode cX0_fresh 5 = .ok (.ifCond .eq 5, 3) := by decide +kernel
theorem dX0_fresh_8 : decode cX0_fresh 8 = .ok (.iconst 0, 1) := by decide +kernel
theorem dX0_fresh_9 : decode cX0_fresh 9 = .ok (.ireturn, 1) := by decide +kernel
theorem dX0_fresh_10 : decode cX0_fresh 10 = .ok (.aload_n 0, 1) := by decide +kernel
theorem dX0_fresh_11 : decode cX0_fresh 11 = .ok (.invokevirtual 140, 3) := by decide +kernel
theorem dX0_fresh_14 : decode cX0_fresh 14 = .ok (.aload_n 0, 1) := by decide +kernel
theorem dX0_fresh_15 : decode cX0_fresh 15 = .ok (.getfield 77, 3) := by decide +kernel
theorem dX0_fresh_18 : decode cX0_fresh 18 = .ok (.iload_n 1, 1) := by decide +kernel
theorem dX0_fresh_19 : decode cX0_fresh 19 = .ok (.iaload, 1) := by decide +kernel
theorem dX0_fresh_20 : decode cX0_fresh 20 = .ok (.ireturn, 1) := by decide +kernel
abbrev cX0_workOutNow : ByteArray := prog_1_method_24_code
def yX0_workOutNow : MethodName := ⟨RX0, "workOutNow", "()V"⟩
theorem dX0_workOutNow_0 : decode cX0_workOutNow 0 = .ok (.iconst 0, 1) := by decide +kernel
theorem dX0_workOutNow_1 : decode cX0_workOutNow 1 = .ok (.istore_n 1, 1) := by decide +kernel
theorem dX0_workOutNow_2 : decode cX0_workOutNow 2 = .ok (.iload_n 1, 1) := by decide +kernel
theorem dX0_workOutNow_3 : decode cX0_workOutNow 3 = .ok (.aload_n 0, 1) := by decide +kernel
theorem dX0_workOutNow_4 : decode cX0_workOutNow 4 = .ok (.getfield 80, 3) := by decide +kernel
theorem dX0_workOutNow_7 : decode cX0_workOutNow 7 = .ok (.if_icmp .ge 26, 3) := by decide +kernel
theorem dX0_workOutNow_10 : decode cX0_workOutNow 10 = .ok (.aload_n 0, 1) := by decide +kernel
theorem dX0_workOutNow_11 : decode cX0_workOutNow 11 = .ok (.iload_n 1, 1) := by decide +kernel
theorem dX0_workOutNow_12 : decode cX0_workOutNow 12 = .ok (.iconst 1, 1) := by decide +kernel
theorem dX0_workOutNow_13 : decode cX0_workOutNow 13 = .ok (.invokevirtual 108, 3) := by decide +kernel
theorem dX0_workOutNow_16 : decode cX0_workOutNow 16 = .ok (.aload_n 0, 1) := by decide +kernel
theorem dX0_workOutNow_17 : decode cX0_workOutNow 17 = .ok (.getfield 77, 3) := by decide +kernel
theorem dX0_workOutNow_20 : decode cX0_workOutNow 20 = .ok (.iload_n 1, 1) := by decide +kernel
theorem dX0_workOutNow_21 : decode cX0_workOutNow 21 = .ok (.aload_n 0, 1) := by decide +kernel
theorem dX0_workOutNow_22 : decode cX0_workOutNow 22 = .ok (.iload_n 1, 1) := by decide +kernel
theorem dX0_workOutNow_23 : decode cX0_workOutNow 23 = .ok (.invokevirtual 125, 3) := by decide +kernel
theorem dX0_workOutNow_26 : decode cX0_workOutNow 26 = .ok (.iastore, 1) := by decide +kernel
theorem dX0_workOutNow_27 : decode cX0_workOutNow 27 = .ok (.iinc 1 1, 3) := by decide +kernel
theorem dX0_workOutNow_30 : decode cX0_workOutNow 30 = .ok (.goto (-28), 3) := by decide +kernel
theorem dX0_workOutNow_33 : decode cX0_workOutNow 33 = .ok (.return_, 1) := by decide +kernel
abbrev cX0_needed : ByteArray := prog_1_method_26_code
def yX0_needed : MethodName := ⟨RX0, "needed", "(I)I"⟩
theorem dX0_needed_0 : decode cX0_needed 0 = .ok (.aload_n 0, 1) := by decide +kernel
theorem dX0_needed_1 : decode cX0_needed 1 = .ok (.iload_n 1, 1) := by decide +kernel
theorem dX0_needed_2 : decode cX0_needed 2 = .ok (.invokevirtual 87, 3) := by decide +kernel
theorem dX0_needed_5 : decode cX0_needed 5 = .ok (.ifCond .eq 5, 3) := by decide +kernel
theorem dX0_needed_8 : decode cX0_needed 8 = .ok (.iconst (-1), 1) := by decide +kernel
theorem dX0_needed_9 : decode cX0_needed 9 = .ok (.ireturn, 1) := by decide +kernel
theorem dX0_needed_10 : decode cX0_needed 10 = .ok (.aload_n 0, 1) := by decide +kernel
theorem dX0_needed_11 : decode cX0_needed 11 = .ok (.iload_n 1, 1) := by decide +kernel
theorem dX0_needed_12 : decode cX0_needed 12 = .ok (.invokevirtual 131, 3) := by decide +kernel
theorem dX0_needed_15 : decode cX0_needed 15 = .ok (.istore_n 2, 1) := by decide +kernel
theorem dX0_needed_16 : decode cX0_needed 16 = .ok (.iconst 0, 1) := by decide +kernel
theorem dX0_needed_17 : decode cX0_needed 17 = .ok (.istore_n 3, 1) := by decide +kernel
theorem dX0_needed_18 : decode cX0_needed 18 = .ok (.iconst 0, 1) := by decide +kernel
theorem dX0_needed_19 : decode cX0_needed 19 = .ok (.istore 4, 2) := by decide +kernel
theorem dX0_needed_21 : decode cX0_needed 21 = .ok (.iload 4, 2) := by decide +kernel
theorem dX0_needed_23 : decode cX0_needed 23 = .ok (.bipush 12, 2) := by decide +kernel
theorem dX0_needed_25 : decode cX0_needed 25 = .ok (.if_icmp .ge 18, 3) := by decide +kernel
theorem dX0_needed_28 : decode cX0_needed 28 = .ok (.iload_n 3, 1) := by decide +kernel
theorem dX0_needed_29 : decode cX0_needed 29 = .ok (.iload_n 2, 1) := by decide +kernel
theorem dX0_needed_30 : decode cX0_needed 30 = .ok (.iload 4, 2) := by decide +kernel
theorem dX0_needed_32 : decode cX0_needed 32 = .ok (.ishr, 1) := by decide +kernel
theorem dX0_needed_33 : decode cX0_needed 33 = .ok (.iconst 1, 1) := by decide +kernel
theorem dX0_needed_34 : decode cX0_needed 34 = .ok (.iand, 1) := by decide +kernel
theorem dX0_needed_35 : decode cX0_needed 35 = .ok (.iadd, 1) := by decide +kernel
theorem dX0_needed_36 : decode cX0_needed 36 = .ok (.istore_n 3, 1) := by decide +kernel
theorem dX0_needed_37 : decode cX0_needed 37 = .ok (.iinc 4 1, 3) := by decide +kernel
theorem dX0_needed_40 : decode cX0_needed 40 = .ok (.goto (-19), 3) := by decide +kernel
theorem dX0_needed_43 : decode cX0_needed 43 = .ok (.iload_n 3, 1) := by decide +kernel
theorem dX0_needed_44 : decode cX0_needed 44 = .ok (.ireturn, 1) := by decide +kernel
abbrev cX0_work : ByteArray := prog_1_method_28_code
def yX0_work : MethodName := ⟨RX0, "work", "(I)I"⟩
theorem dX0_work_0 : decode cX0_work 0 = .ok (.aload_n 0, 1) := by decide +kernel
theorem dX0_work_1 : decode cX0_work 1 = .ok (.iload_n 1, 1) := by decide +kernel
theorem dX0_work_2 : decode cX0_work 2 = .ok (.invokevirtual 87, 3) := by decide +kernel
theorem dX0_work_5 : decode cX0_work 5 = .ok (.ifCond .eq 5, 3) := by decide +kernel
theorem dX0_work_8 : decode cX0_work 8 = .ok (.iconst (-1), 1) := by decide +kernel
theorem dX0_work_9 : decode cX0_work 9 = .ok (.ireturn, 1) := by decide +kernel
theorem dX0_work_10 : decode cX0_work 10 = .ok (.aload_n 0, 1) := by decide +kernel
theorem dX0_work_11 : decode cX0_work 11 = .ok (.invokevirtual 140, 3) := by decide +kernel
theorem dX0_work_14 : decode cX0_work 14 = .ok (.aload_n 0, 1) := by decide +kernel
theorem dX0_work_15 : decode cX0_work 15 = .ok (.iload_n 1, 1) := by decide +kernel
theorem dX0_work_16 : decode cX0_work 16 = .ok (.invokevirtual 131, 3) := by decide +kernel
theorem dX0_work_19 : decode cX0_work 19 = .ok (.istore_n 2, 1) := by decide +kernel
theorem dX0_work_20 : decode cX0_work 20 = .ok (.iconst 0, 1) := by decide +kernel
theorem dX0_work_21 : decode cX0_work 21 = .ok (.istore_n 3, 1) := by decide +kernel
theorem dX0_work_22 : decode cX0_work 22 = .ok (.iconst 0, 1) := by decide +kernel
theorem dX0_work_23 : decode cX0_work 23 = .ok (.istore 4, 2) := by decide +kernel
theorem dX0_work_25 : decode cX0_work 25 = .ok (.iload 4, 2) := by decide +kernel
theorem dX0_work_27 : decode cX0_work 27 = .ok (.aload_n 0, 1) := by decide +kernel
theorem dX0_work_28 : decode cX0_work 28 = .ok (.getfield 80, 3) := by decide +kernel
theorem dX0_work_31 : decode cX0_work 31 = .ok (.if_icmp .ge 35, 3) := by decide +kernel
theorem dX0_work_34 : decode cX0_work 34 = .ok (.iload_n 2, 1) := by decide +kernel
theorem dX0_work_35 : decode cX0_work 35 = .ok (.iload 4, 2) := by decide +kernel
theorem dX0_work_37 : decode cX0_work 37 = .ok (.ishr, 1) := by decide +kernel
theorem dX0_work_38 : decode cX0_work 38 = .ok (.iconst 1, 1) := by decide +kernel
theorem dX0_work_39 : decode cX0_work 39 = .ok (.iand, 1) := by decide +kernel
theorem dX0_work_40 : decode cX0_work 40 = .ok (.iconst 1, 1) := by decide +kernel
theorem dX0_work_41 : decode cX0_work 41 = .ok (.if_icmp .ne 19, 3) := by decide +kernel
theorem dX0_work_44 : decode cX0_work 44 = .ok (.aload_n 0, 1) := by decide +kernel
theorem dX0_work_45 : decode cX0_work 45 = .ok (.iload 4, 2) := by decide +kernel
theorem dX0_work_47 : decode cX0_work 47 = .ok (.invokevirtual 143, 3) := by decide +kernel
theorem dX0_work_50 : decode cX0_work 50 = .ok (.istore 5, 2) := by decide +kernel
theorem dX0_work_52 : decode cX0_work 52 = .ok (.iload 5, 2) := by decide +kernel
theorem dX0_work_54 : decode cX0_work 54 = .ok (.ifCond .eq 6, 3) := by decide +kernel
theorem dX0_work_57 : decode cX0_work 57 = .ok (.iinc 3 1, 3) := by decide +kernel
theorem dX0_work_60 : decode cX0_work 60 = .ok (.iinc 4 1, 3) := by decide +kernel
theorem dX0_work_63 : decode cX0_work 63 = .ok (.goto (-38), 3) := by decide +kernel
theorem dX0_work_66 : decode cX0_work 66 = .ok (.iload_n 3, 1) := by decide +kernel
theorem dX0_work_67 : decode cX0_work 67 = .ok (.ireturn, 1) := by decide +kernel
abbrev cX0_wouldExecute : ByteArray := prog_1_method_27_code
def yX0_wouldExecute : MethodName := ⟨RX0, "wouldExecute", "(I)Z"⟩
theorem dX0_wouldExecute_0 : decode cX0_wouldExecute 0 = .ok (.aload_n 0, 1) := by decide +kernel
theorem dX0_wouldExecute_1 : decode cX0_wouldExecute 1 = .ok (.iload_n 1, 1) := by decide +kernel
theorem dX0_wouldExecute_2 : decode cX0_wouldExecute 2 = .ok (.iconst 1, 1) := by decide +kernel
theorem dX0_wouldExecute_3 : decode cX0_wouldExecute 3 = .ok (.invokevirtual 108, 3) := by decide +kernel
theorem dX0_wouldExecute_6 : decode cX0_wouldExecute 6 = .ok (.aload_n 0, 1) := by decide +kernel
theorem dX0_wouldExecute_7 : decode cX0_wouldExecute 7 = .ok (.iload_n 1, 1) := by decide +kernel
theorem dX0_wouldExecute_8 : decode cX0_wouldExecute 8 = .ok (.invokevirtual 112, 3) := by decide +kernel
theorem dX0_wouldExecute_11 : decode cX0_wouldExecute 11 = .ok (.istore_n 2, 1) := by decide +kernel
theorem dX0_wouldExecute_12 : decode cX0_wouldExecute 12 = .ok (.iload_n 2, 1) := by decide +kernel
theorem dX0_wouldExecute_13 : decode cX0_wouldExecute 13 = .ok (.ifCond .ne 15, 3) := by decide +kernel
theorem dX0_wouldExecute_16 : decode cX0_wouldExecute 16 = .ok (.aload_n 0, 1) := by decide +kernel
theorem dX0_wouldExecute_17 : decode cX0_wouldExecute 17 = .ok (.iload_n 1, 1) := by decide +kernel
theorem dX0_wouldExecute_18 : decode cX0_wouldExecute 18 = .ok (.invokevirtual 115, 3) := by decide +kernel
theorem dX0_wouldExecute_21 : decode cX0_wouldExecute 21 = .ok (.ifCond .ne 7, 3) := by decide +kernel
theorem dX0_wouldExecute_24 : decode cX0_wouldExecute 24 = .ok (.iconst 1, 1) := by decide +kernel
theorem dX0_wouldExecute_25 : decode cX0_wouldExecute 25 = .ok (.goto 4, 3) := by decide +kernel
theorem dX0_wouldExecute_28 : decode cX0_wouldExecute 28 = .ok (.iconst 0, 1) := by decide +kernel
theorem dX0_wouldExecute_29 : decode cX0_wouldExecute 29 = .ok (.ireturn, 1) := by decide +kernel
abbrev cX0_executed : ByteArray := prog_1_method_29_code
def yX0_executed : MethodName := ⟨RX0, "executed", "()I"⟩
theorem dX0_executed_0 : decode cX0_executed 0 = .ok (.aload_n 0, 1) := by decide +kernel
theorem dX0_executed_1 : decode cX0_executed 1 = .ok (.getfield 137, 3) := by decide +kernel
theorem dX0_executed_4 : decode cX0_executed 4 = .ok (.ireturn, 1) := by decide +kernel
abbrev cX0_stale : ByteArray := prog_1_method_30_code
def yX0_stale : MethodName := ⟨RX0, "stale", "()I"⟩
theorem dX0_stale_0 : decode cX0_stale 0 = .ok (.aload_n 0, 1) := by decide +kernel
theorem dX0_stale_1 : decode cX0_stale 1 = .ok (.invokevirtual 140, 3) := by decide +kernel
theorem dX0_stale_4 : decode cX0_stale 4 = .ok (.iconst 0, 1) := by decide +kernel
theorem dX0_stale_5 : decode cX0_stale 5 = .ok (.istore_n 1, 1) := by decide +kernel
theorem dX0_stale_6 : decode cX0_stale 6 = .ok (.iconst 0, 1) := by decide +kernel
theorem dX0_stale_7 : decode cX0_stale 7 = .ok (.istore_n 2, 1) := by decide +kernel
theorem dX0_stale_8 : decode cX0_stale 8 = .ok (.iload_n 2, 1) := by decide +kernel
theorem dX0_stale_9 : decode cX0_stale 9 = .ok (.aload_n 0, 1) := by decide +kernel
theorem dX0_stale_10 : decode cX0_stale 10 = .ok (.getfield 80, 3) := by decide +kernel
theorem dX0_stale_13 : decode cX0_stale 13 = .ok (.if_icmp .ge 28, 3) := by decide +kernel
theorem dX0_stale_16 : decode cX0_stale 16 = .ok (.aload_n 0, 1) := by decide +kernel
theorem dX0_stale_17 : decode cX0_stale 17 = .ok (.iload_n 2, 1) := by decide +kernel
theorem dX0_stale_18 : decode cX0_stale 18 = .ok (.iconst 1, 1) := by decide +kernel
theorem dX0_stale_19 : decode cX0_stale 19 = .ok (.invokevirtual 108, 3) := by decide +kernel
theorem dX0_stale_22 : decode cX0_stale 22 = .ok (.aload_n 0, 1) := by decide +kernel
theorem dX0_stale_23 : decode cX0_stale 23 = .ok (.iload_n 2, 1) := by decide +kernel
theorem dX0_stale_24 : decode cX0_stale 24 = .ok (.invokevirtual 112, 3) := by decide +kernel
theorem dX0_stale_27 : decode cX0_stale 27 = .ok (.istore_n 3, 1) := by decide +kernel
theorem dX0_stale_28 : decode cX0_stale 28 = .ok (.iload_n 3, 1) := by decide +kernel
theorem dX0_stale_29 : decode cX0_stale 29 = .ok (.ifCond .ne 6, 3) := by decide +kernel
theorem dX0_stale_32 : decode cX0_stale 32 = .ok (.iinc 1 1, 3) := by decide +kernel
theorem dX0_stale_35 : decode cX0_stale 35 = .ok (.iinc 2 1, 3) := by decide +kernel
theorem dX0_stale_38 : decode cX0_stale 38 = .ok (.goto (-30), 3) := by decide +kernel
theorem dX0_stale_41 : decode cX0_stale 41 = .ok (.iload_n 1, 1) := by decide +kernel
theorem dX0_stale_42 : decode cX0_stale 42 = .ok (.ireturn, 1) := by decide +kernel
theorem q25 : (Jvm.Cond.initialized "BuildGraph") ∈ lw_all := lw_g (lw_at lw_m1 1 rfl) rfl
theorem q28 : (Jvm.Cond.instantiable "BuildGraph" (28 : Nat)) ∈ lw_all := lw_g (lw_at lw_m1 4 rfl) rfl
theorem q30 : (Jvm.Cond.instanceMethod ({ cls := "BuildGraph", name := "<init>", desc := "()V" } : Jvm.MethodName)) ∈ lw_all := lw_g (lw_at lw_m1 6 rfl) rfl
theorem q31 : (Jvm.Cond.code ({ cls := "BuildGraph", name := "<init>", desc := "()V" } : Jvm.MethodName) prog_1_method_1_code (2 : Nat) (Option.none : Option Jvm.ClassFile.FieldType)) ∈ lw_all := lw_g (lw_at lw_m1 7 rfl) rfl
theorem q32 : (Jvm.Cond.methodLink "BuildGraph" (1 : Nat) ({ cls := "java/lang/Object", name := "<init>", desc := "()V" } : Jvm.MethodName)) ∈ lw_all := lw_g (lw_at lw_m1 8 rfl) rfl
theorem q35 : (Jvm.Cond.fieldLink "BuildGraph" (7 : Nat) "BuildGraph" "contents" "[I") ∈ lw_all := lw_g (lw_at lw_m1 11 rfl) rfl
theorem q36 : (Jvm.Cond.fieldLink "BuildGraph" (13 : Nat) "BuildGraph" "contentRevision" "[I") ∈ lw_all := lw_g (lw_at lw_m1 12 rfl) rfl
theorem q37 : (Jvm.Cond.fieldLink "BuildGraph" (84 : Nat) "BuildGraph" "revision" "I") ∈ lw_all := lw_g (lw_at lw_m1 13 rfl) rfl
theorem q38 : (Jvm.Cond.fieldLink "BuildGraph" (80 : Nat) "BuildGraph" "tasks" "I") ∈ lw_all := lw_g (lw_at lw_m1 14 rfl) rfl
theorem q39 : (Jvm.Cond.fieldLink "BuildGraph" (16 : Nat) "BuildGraph" "kind" "[I") ∈ lw_all := lw_g (lw_at lw_m1 15 rfl) rfl
theorem q40 : (Jvm.Cond.fieldLink "BuildGraph" (19 : Nat) "BuildGraph" "constants" "[I") ∈ lw_all := lw_g (lw_at lw_m1 16 rfl) rfl
theorem q41 : (Jvm.Cond.fieldLink "BuildGraph" (22 : Nat) "BuildGraph" "inputs" "[I") ∈ lw_all := lw_g (lw_at lw_m1 17 rfl) rfl
theorem q42 : (Jvm.Cond.fieldLink "BuildGraph" (25 : Nat) "BuildGraph" "input" "[I") ∈ lw_all := lw_g (lw_at lw_m1 18 rfl) rfl
theorem q43 : (Jvm.Cond.fieldLink "BuildGraph" (28 : Nat) "BuildGraph" "taskRevision" "[I") ∈ lw_all := lw_g (lw_at lw_m1 19 rfl) rfl
theorem q44 : (Jvm.Cond.fieldLink "BuildGraph" (31 : Nat) "BuildGraph" "hasLast" "[Z") ∈ lw_all := lw_g (lw_at lw_m1 20 rfl) rfl
theorem q45 : (Jvm.Cond.fieldLink "BuildGraph" (35 : Nat) "BuildGraph" "lastConstant" "[I") ∈ lw_all := lw_g (lw_at lw_m1 21 rfl) rfl
theorem q46 : (Jvm.Cond.fieldLink "BuildGraph" (38 : Nat) "BuildGraph" "lastInputs" "[I") ∈ lw_all := lw_g (lw_at lw_m1 22 rfl) rfl
theorem q47 : (Jvm.Cond.fieldLink "BuildGraph" (41 : Nat) "BuildGraph" "lastValue" "[I") ∈ lw_all := lw_g (lw_at lw_m1 23 rfl) rfl
theorem q48 : (Jvm.Cond.fieldLink "BuildGraph" (44 : Nat) "BuildGraph" "seenRevision" "[I") ∈ lw_all := lw_g (lw_at lw_m1 24 rfl) rfl
theorem q49 : (Jvm.Cond.fieldLink "BuildGraph" (47 : Nat) "BuildGraph" "outputs" "[I") ∈ lw_all := lw_g (lw_at lw_m1 25 rfl) rfl
theorem q50 : (Jvm.Cond.fieldLink "BuildGraph" (50 : Nat) "BuildGraph" "outputRevision" "[I") ∈ lw_all := lw_g (lw_at lw_m1 26 rfl) rfl
theorem q51 : (Jvm.Cond.fieldLink "BuildGraph" (128 : Nat) "BuildGraph" "builds" "I") ∈ lw_all := lw_g (lw_at lw_m1 27 rfl) rfl
theorem q52 : (Jvm.Cond.fieldLink "BuildGraph" (99 : Nat) "BuildGraph" "records" "I") ∈ lw_all := lw_g (lw_at lw_m1 28 rfl) rfl
theorem q53 : (Jvm.Cond.fieldLink "BuildGraph" (53 : Nat) "BuildGraph" "newest" "[I") ∈ lw_all := lw_g (lw_at lw_m1 29 rfl) rfl
theorem q54 : (Jvm.Cond.fieldLink "BuildGraph" (56 : Nat) "BuildGraph" "older" "[I") ∈ lw_all := lw_g (lw_at lw_m1 30 rfl) rfl
theorem q55 : (Jvm.Cond.fieldLink "BuildGraph" (59 : Nat) "BuildGraph" "hash" "[I") ∈ lw_all := lw_g (lw_at lw_m1 31 rfl) rfl
theorem q56 : (Jvm.Cond.fieldLink "BuildGraph" (62 : Nat) "BuildGraph" "keptConstant" "[I") ∈ lw_all := lw_g (lw_at lw_m1 32 rfl) rfl
theorem q57 : (Jvm.Cond.fieldLink "BuildGraph" (65 : Nat) "BuildGraph" "keptInputs" "[I") ∈ lw_all := lw_g (lw_at lw_m1 33 rfl) rfl
theorem q58 : (Jvm.Cond.fieldLink "BuildGraph" (68 : Nat) "BuildGraph" "keptValue" "[I") ∈ lw_all := lw_g (lw_at lw_m1 34 rfl) rfl
theorem q59 : (Jvm.Cond.fieldLink "BuildGraph" (71 : Nat) "BuildGraph" "value" "[I") ∈ lw_all := lw_g (lw_at lw_m1 35 rfl) rfl
theorem q60 : (Jvm.Cond.fieldLink "BuildGraph" (74 : Nat) "BuildGraph" "outcome" "[I") ∈ lw_all := lw_g (lw_at lw_m1 36 rfl) rfl
theorem q61 : (Jvm.Cond.fieldLink "BuildGraph" (77 : Nat) "BuildGraph" "now" "[I") ∈ lw_all := lw_g (lw_at lw_m1 37 rfl) rfl
theorem q62 : (Jvm.Cond.fieldLink "BuildGraph" (137 : Nat) "BuildGraph" "total" "I") ∈ lw_all := lw_g (lw_at lw_m1 38 rfl) rfl
theorem q63 : (Jvm.Cond.laysFinal "BuildGraph" "BuildGraph" "contents" "[I") ∈ lw_all := lw_g (lw_at lw_m1 39 rfl) rfl
theorem q64 : (Jvm.Cond.soleField "BuildGraph" "contents") ∈ lw_all := lw_g (lw_at lw_m1 40 rfl) rfl
theorem q65 : (Jvm.Cond.laysFinal "BuildGraph" "BuildGraph" "contentRevision" "[I") ∈ lw_all := lw_g (lw_at lw_m1 41 rfl) rfl
theorem q66 : (Jvm.Cond.soleField "BuildGraph" "contentRevision") ∈ lw_all := lw_g (lw_at lw_m1 42 rfl) rfl
theorem q67 : (Jvm.Cond.lays "BuildGraph" "BuildGraph" "revision" "I") ∈ lw_all := lw_g (lw_at lw_m1 43 rfl) rfl
theorem q68 : (Jvm.Cond.soleField "BuildGraph" "revision") ∈ lw_all := lw_g (lw_at lw_m1 44 rfl) rfl
theorem q69 : (Jvm.Cond.lays "BuildGraph" "BuildGraph" "tasks" "I") ∈ lw_all := lw_g (lw_at lw_m1 45 rfl) rfl
theorem q70 : (Jvm.Cond.soleField "BuildGraph" "tasks") ∈ lw_all := lw_g (lw_at lw_m1 46 rfl) rfl
theorem q71 : (Jvm.Cond.laysFinal "BuildGraph" "BuildGraph" "kind" "[I") ∈ lw_all := lw_g (lw_at lw_m1 47 rfl) rfl
theorem q72 : (Jvm.Cond.soleField "BuildGraph" "kind") ∈ lw_all := lw_g (lw_at lw_m1 48 rfl) rfl
theorem q73 : (Jvm.Cond.laysFinal "BuildGraph" "BuildGraph" "constants" "[I") ∈ lw_all := lw_g (lw_at lw_m1 49 rfl) rfl
theorem q74 : (Jvm.Cond.soleField "BuildGraph" "constants") ∈ lw_all := lw_g (lw_at lw_m1 50 rfl) rfl
theorem q75 : (Jvm.Cond.laysFinal "BuildGraph" "BuildGraph" "inputs" "[I") ∈ lw_all := lw_g (lw_at lw_m1 51 rfl) rfl
theorem q76 : (Jvm.Cond.soleField "BuildGraph" "inputs") ∈ lw_all := lw_g (lw_at lw_m1 52 rfl) rfl
theorem q77 : (Jvm.Cond.laysFinal "BuildGraph" "BuildGraph" "input" "[I") ∈ lw_all := lw_g (lw_at lw_m1 53 rfl) rfl
theorem q78 : (Jvm.Cond.soleField "BuildGraph" "input") ∈ lw_all := lw_g (lw_at lw_m1 54 rfl) rfl
theorem q79 : (Jvm.Cond.laysFinal "BuildGraph" "BuildGraph" "taskRevision" "[I") ∈ lw_all := lw_g (lw_at lw_m1 55 rfl) rfl
theorem q80 : (Jvm.Cond.soleField "BuildGraph" "taskRevision") ∈ lw_all := lw_g (lw_at lw_m1 56 rfl) rfl
theorem q81 : (Jvm.Cond.laysFinal "BuildGraph" "BuildGraph" "hasLast" "[Z") ∈ lw_all := lw_g (lw_at lw_m1 57 rfl) rfl
theorem q82 : (Jvm.Cond.soleField "BuildGraph" "hasLast") ∈ lw_all := lw_g (lw_at lw_m1 58 rfl) rfl
theorem q83 : (Jvm.Cond.laysFinal "BuildGraph" "BuildGraph" "lastConstant" "[I") ∈ lw_all := lw_g (lw_at lw_m1 59 rfl) rfl
theorem q84 : (Jvm.Cond.soleField "BuildGraph" "lastConstant") ∈ lw_all := lw_g (lw_at lw_m1 60 rfl) rfl
theorem q85 : (Jvm.Cond.laysFinal "BuildGraph" "BuildGraph" "lastInputs" "[I") ∈ lw_all := lw_g (lw_at lw_m1 61 rfl) rfl
theorem q86 : (Jvm.Cond.soleField "BuildGraph" "lastInputs") ∈ lw_all := lw_g (lw_at lw_m1 62 rfl) rfl
theorem q87 : (Jvm.Cond.laysFinal "BuildGraph" "BuildGraph" "lastValue" "[I") ∈ lw_all := lw_g (lw_at lw_m1 63 rfl) rfl
theorem q88 : (Jvm.Cond.soleField "BuildGraph" "lastValue") ∈ lw_all := lw_g (lw_at lw_m1 64 rfl) rfl
theorem q89 : (Jvm.Cond.laysFinal "BuildGraph" "BuildGraph" "seenRevision" "[I") ∈ lw_all := lw_g (lw_at lw_m1 65 rfl) rfl
theorem q90 : (Jvm.Cond.soleField "BuildGraph" "seenRevision") ∈ lw_all := lw_g (lw_at lw_m1 66 rfl) rfl
theorem q91 : (Jvm.Cond.laysFinal "BuildGraph" "BuildGraph" "outputs" "[I") ∈ lw_all := lw_g (lw_at lw_m1 67 rfl) rfl
theorem q92 : (Jvm.Cond.soleField "BuildGraph" "outputs") ∈ lw_all := lw_g (lw_at lw_m1 68 rfl) rfl
theorem q93 : (Jvm.Cond.laysFinal "BuildGraph" "BuildGraph" "outputRevision" "[I") ∈ lw_all := lw_g (lw_at lw_m1 69 rfl) rfl
theorem q94 : (Jvm.Cond.soleField "BuildGraph" "outputRevision") ∈ lw_all := lw_g (lw_at lw_m1 70 rfl) rfl
theorem q95 : (Jvm.Cond.lays "BuildGraph" "BuildGraph" "builds" "I") ∈ lw_all := lw_g (lw_at lw_m1 71 rfl) rfl
theorem q96 : (Jvm.Cond.soleField "BuildGraph" "builds") ∈ lw_all := lw_g (lw_at lw_m1 72 rfl) rfl
theorem q97 : (Jvm.Cond.lays "BuildGraph" "BuildGraph" "records" "I") ∈ lw_all := lw_g (lw_at lw_m1 73 rfl) rfl
theorem q98 : (Jvm.Cond.soleField "BuildGraph" "records") ∈ lw_all := lw_g (lw_at lw_m1 74 rfl) rfl
theorem q99 : (Jvm.Cond.laysFinal "BuildGraph" "BuildGraph" "newest" "[I") ∈ lw_all := lw_g (lw_at lw_m1 75 rfl) rfl
theorem q100 : (Jvm.Cond.soleField "BuildGraph" "newest") ∈ lw_all := lw_g (lw_at lw_m1 76 rfl) rfl
theorem q101 : (Jvm.Cond.laysFinal "BuildGraph" "BuildGraph" "older" "[I") ∈ lw_all := lw_g (lw_at lw_m1 77 rfl) rfl
theorem q102 : (Jvm.Cond.soleField "BuildGraph" "older") ∈ lw_all := lw_g (lw_at lw_m1 78 rfl) rfl
theorem q103 : (Jvm.Cond.laysFinal "BuildGraph" "BuildGraph" "hash" "[I") ∈ lw_all := lw_g (lw_at lw_m1 79 rfl) rfl
theorem q104 : (Jvm.Cond.soleField "BuildGraph" "hash") ∈ lw_all := lw_g (lw_at lw_m1 80 rfl) rfl
theorem q105 : (Jvm.Cond.laysFinal "BuildGraph" "BuildGraph" "keptConstant" "[I") ∈ lw_all := lw_g (lw_at lw_m1 81 rfl) rfl
theorem q106 : (Jvm.Cond.soleField "BuildGraph" "keptConstant") ∈ lw_all := lw_g (lw_at lw_m1 82 rfl) rfl
theorem q107 : (Jvm.Cond.laysFinal "BuildGraph" "BuildGraph" "keptInputs" "[I") ∈ lw_all := lw_g (lw_at lw_m1 83 rfl) rfl
theorem q108 : (Jvm.Cond.soleField "BuildGraph" "keptInputs") ∈ lw_all := lw_g (lw_at lw_m1 84 rfl) rfl
theorem q109 : (Jvm.Cond.laysFinal "BuildGraph" "BuildGraph" "keptValue" "[I") ∈ lw_all := lw_g (lw_at lw_m1 85 rfl) rfl
theorem q110 : (Jvm.Cond.soleField "BuildGraph" "keptValue") ∈ lw_all := lw_g (lw_at lw_m1 86 rfl) rfl
theorem q111 : (Jvm.Cond.laysFinal "BuildGraph" "BuildGraph" "value" "[I") ∈ lw_all := lw_g (lw_at lw_m1 87 rfl) rfl
theorem q112 : (Jvm.Cond.soleField "BuildGraph" "value") ∈ lw_all := lw_g (lw_at lw_m1 88 rfl) rfl
theorem q113 : (Jvm.Cond.laysFinal "BuildGraph" "BuildGraph" "outcome" "[I") ∈ lw_all := lw_g (lw_at lw_m1 89 rfl) rfl
theorem q114 : (Jvm.Cond.soleField "BuildGraph" "outcome") ∈ lw_all := lw_g (lw_at lw_m1 90 rfl) rfl
theorem q115 : (Jvm.Cond.laysFinal "BuildGraph" "BuildGraph" "now" "[I") ∈ lw_all := lw_g (lw_at lw_m1 91 rfl) rfl
theorem q116 : (Jvm.Cond.soleField "BuildGraph" "now") ∈ lw_all := lw_g (lw_at lw_m1 92 rfl) rfl
theorem q117 : (Jvm.Cond.lays "BuildGraph" "BuildGraph" "total" "I") ∈ lw_all := lw_g (lw_at lw_m1 93 rfl) rfl
theorem q118 : (Jvm.Cond.soleField "BuildGraph" "total") ∈ lw_all := lw_g (lw_at lw_m1 94 rfl) rfl
theorem q119 : (Jvm.Cond.superclass "BuildGraph" "java/lang/Object") ∈ lw_all := lw_g (lw_at lw_m1 95 rfl) rfl
theorem q123 : (Jvm.Cond.instanceMethod ({ cls := "BuildGraph", name := "content", desc := "(II)I" } : Jvm.MethodName)) ∈ lw_all := lw_g (lw_at lw_m1 99 rfl) rfl
theorem q124 : (Jvm.Cond.selects "BuildGraph" ({ cls := "BuildGraph", name := "content", desc := "(II)I" } : Jvm.MethodName) ({ cls := "BuildGraph", name := "content", desc := "(II)I" } : Jvm.MethodName)) ∈ lw_all := lw_g (lw_at lw_m1 100 rfl) rfl
theorem q125 : (Jvm.Cond.code ({ cls := "BuildGraph", name := "content", desc := "(II)I" } : Jvm.MethodName) prog_1_method_3_code (4 : Nat) (Option.some Jvm.ClassFile.FieldType.int)) ∈ lw_all := lw_g (lw_at lw_m1 101 rfl) rfl
theorem q127 : (Jvm.Cond.instanceMethod ({ cls := "BuildGraph", name := "task", desc := "(II)I" } : Jvm.MethodName)) ∈ lw_all := lw_g (lw_at lw_m1 103 rfl) rfl
theorem q128 : (Jvm.Cond.selects "BuildGraph" ({ cls := "BuildGraph", name := "task", desc := "(II)I" } : Jvm.MethodName) ({ cls := "BuildGraph", name := "task", desc := "(II)I" } : Jvm.MethodName)) ∈ lw_all := lw_g (lw_at lw_m1 104 rfl) rfl
theorem q129 : (Jvm.Cond.code ({ cls := "BuildGraph", name := "task", desc := "(II)I" } : Jvm.MethodName) prog_1_method_4_code (4 : Nat) (Option.some Jvm.ClassFile.FieldType.int)) ∈ lw_all := lw_g (lw_at lw_m1 105 rfl) rfl
theorem q131 : (Jvm.Cond.instanceMethod ({ cls := "BuildGraph", name := "input", desc := "(II)I" } : Jvm.MethodName)) ∈ lw_all := lw_g (lw_at lw_m1 107 rfl) rfl
theorem q132 : (Jvm.Cond.selects "BuildGraph" ({ cls := "BuildGraph", name := "input", desc := "(II)I" } : Jvm.MethodName) ({ cls := "BuildGraph", name := "input", desc := "(II)I" } : Jvm.MethodName)) ∈ lw_all := lw_g (lw_at lw_m1 108 rfl) rfl
theorem q133 : (Jvm.Cond.code ({ cls := "BuildGraph", name := "input", desc := "(II)I" } : Jvm.MethodName) prog_1_method_5_code (3 : Nat) (Option.some Jvm.ClassFile.FieldType.int)) ∈ lw_all := lw_g (lw_at lw_m1 109 rfl) rfl
theorem q134 : (Jvm.Cond.methodLink "BuildGraph" (87 : Nat) ({ cls := "BuildGraph", name := "noTask", desc := "(I)Z" } : Jvm.MethodName)) ∈ lw_all := lw_g (lw_at lw_m1 110 rfl) rfl
theorem q135 : (Jvm.Cond.privateMethod ({ cls := "BuildGraph", name := "noTask", desc := "(I)Z" } : Jvm.MethodName)) ∈ lw_tbl := lw_at lw_m1 111 rfl
theorem q136 : (Jvm.Cond.instanceMethod ({ cls := "BuildGraph", name := "noTask", desc := "(I)Z" } : Jvm.MethodName)) ∈ lw_all := lw_g (lw_at lw_m1 112 rfl) rfl
theorem q137 : (Jvm.Cond.code ({ cls := "BuildGraph", name := "noTask", desc := "(I)Z" } : Jvm.MethodName) prog_1_method_2_code (2 : Nat) (Option.some Jvm.ClassFile.FieldType.boolean)) ∈ lw_all := lw_g (lw_at lw_m1 113 rfl) rfl
theorem q139 : (Jvm.Cond.instanceMethod ({ cls := "BuildGraph", name := "constant", desc := "(II)I" } : Jvm.MethodName)) ∈ lw_all := lw_g (lw_at lw_m1 115 rfl) rfl
theorem q140 : (Jvm.Cond.selects "BuildGraph" ({ cls := "BuildGraph", name := "constant", desc := "(II)I" } : Jvm.MethodName) ({ cls := "BuildGraph", name := "constant", desc := "(II)I" } : Jvm.MethodName)) ∈ lw_all := lw_g (lw_at lw_m1 116 rfl) rfl
theorem q141 : (Jvm.Cond.code ({ cls := "BuildGraph", name := "constant", desc := "(II)I" } : Jvm.MethodName) prog_1_method_6_code (4 : Nat) (Option.some Jvm.ClassFile.FieldType.int)) ∈ lw_all := lw_g (lw_at lw_m1 117 rfl) rfl
theorem q143 : (Jvm.Cond.instanceMethod ({ cls := "BuildGraph", name := "build", desc := "(I)I" } : Jvm.MethodName)) ∈ lw_all := lw_g (lw_at lw_m1 119 rfl) rfl
theorem q144 : (Jvm.Cond.selects "BuildGraph" ({ cls := "BuildGraph", name := "build", desc := "(I)I" } : Jvm.MethodName) ({ cls := "BuildGraph", name := "build", desc := "(I)I" } : Jvm.MethodName)) ∈ lw_all := lw_g (lw_at lw_m1 120 rfl) rfl
theorem q145 : (Jvm.Cond.code ({ cls := "BuildGraph", name := "build", desc := "(I)I" } : Jvm.MethodName) prog_1_method_19_code (5 : Nat) (Option.some Jvm.ClassFile.FieldType.int)) ∈ lw_all := lw_g (lw_at lw_m1 121 rfl) rfl
theorem q146 : (Jvm.Cond.methodLink "BuildGraph" (131 : Nat) ({ cls := "BuildGraph", name := "neededSet", desc := "(I)I" } : Jvm.MethodName)) ∈ lw_all := lw_g (lw_at lw_m1 122 rfl) rfl
theorem q147 : (Jvm.Cond.privateMethod ({ cls := "BuildGraph", name := "neededSet", desc := "(I)I" } : Jvm.MethodName)) ∈ lw_tbl := lw_at lw_m1 123 rfl
theorem q148 : (Jvm.Cond.instanceMethod ({ cls := "BuildGraph", name := "neededSet", desc := "(I)I" } : Jvm.MethodName)) ∈ lw_all := lw_g (lw_at lw_m1 124 rfl) rfl
theorem q149 : (Jvm.Cond.code ({ cls := "BuildGraph", name := "neededSet", desc := "(I)I" } : Jvm.MethodName) prog_1_method_15_code (4 : Nat) (Option.some Jvm.ClassFile.FieldType.int)) ∈ lw_all := lw_g (lw_at lw_m1 125 rfl) rfl
theorem q150 : (Jvm.Cond.methodLink "BuildGraph" (102 : Nat) ({ cls := "BuildGraph", name := "inputTasks", desc := "(I)I" } : Jvm.MethodName)) ∈ lw_all := lw_g (lw_at lw_m1 126 rfl) rfl
theorem q151 : (Jvm.Cond.privateMethod ({ cls := "BuildGraph", name := "inputTasks", desc := "(I)I" } : Jvm.MethodName)) ∈ lw_tbl := lw_at lw_m1 127 rfl
theorem q152 : (Jvm.Cond.instanceMethod ({ cls := "BuildGraph", name := "inputTasks", desc := "(I)I" } : Jvm.MethodName)) ∈ lw_all := lw_g (lw_at lw_m1 128 rfl) rfl
theorem q153 : (Jvm.Cond.code ({ cls := "BuildGraph", name := "inputTasks", desc := "(I)I" } : Jvm.MethodName) prog_1_method_16_code (5 : Nat) (Option.some Jvm.ClassFile.FieldType.int)) ∈ lw_all := lw_g (lw_at lw_m1 129 rfl) rfl
theorem q154 : (Jvm.Cond.methodLink "BuildGraph" (134 : Nat) ({ cls := "BuildGraph", name := "handle", desc := "(I)I" } : Jvm.MethodName)) ∈ lw_all := lw_g (lw_at lw_m1 130 rfl) rfl
theorem q155 : (Jvm.Cond.privateMethod ({ cls := "BuildGraph", name := "handle", desc := "(I)I" } : Jvm.MethodName)) ∈ lw_tbl := lw_at lw_m1 131 rfl
theorem q156 : (Jvm.Cond.instanceMethod ({ cls := "BuildGraph", name := "handle", desc := "(I)I" } : Jvm.MethodName)) ∈ lw_all := lw_g (lw_at lw_m1 132 rfl) rfl
theorem q157 : (Jvm.Cond.code ({ cls := "BuildGraph", name := "handle", desc := "(I)I" } : Jvm.MethodName) prog_1_method_18_code (5 : Nat) (Option.some Jvm.ClassFile.FieldType.int)) ∈ lw_all := lw_g (lw_at lw_m1 133 rfl) rfl
theorem q158 : (Jvm.Cond.methodLink "BuildGraph" (105 : Nat) ({ cls := "BuildGraph", name := "untouched", desc := "(I)Z" } : Jvm.MethodName)) ∈ lw_all := lw_g (lw_at lw_m1 134 rfl) rfl
theorem q159 : (Jvm.Cond.privateMethod ({ cls := "BuildGraph", name := "untouched", desc := "(I)Z" } : Jvm.MethodName)) ∈ lw_tbl := lw_at lw_m1 135 rfl
theorem q160 : (Jvm.Cond.instanceMethod ({ cls := "BuildGraph", name := "untouched", desc := "(I)Z" } : Jvm.MethodName)) ∈ lw_all := lw_g (lw_at lw_m1 136 rfl) rfl
theorem q161 : (Jvm.Cond.code ({ cls := "BuildGraph", name := "untouched", desc := "(I)Z" } : Jvm.MethodName) prog_1_method_17_code (5 : Nat) (Option.some Jvm.ClassFile.FieldType.boolean)) ∈ lw_all := lw_g (lw_at lw_m1 137 rfl) rfl
theorem q162 : (Jvm.Cond.methodLink "BuildGraph" (108 : Nat) ({ cls := "BuildGraph", name := "loadRecord", desc := "(IZ)V" } : Jvm.MethodName)) ∈ lw_all := lw_g (lw_at lw_m1 138 rfl) rfl
theorem q163 : (Jvm.Cond.privateMethod ({ cls := "BuildGraph", name := "loadRecord", desc := "(IZ)V" } : Jvm.MethodName)) ∈ lw_tbl := lw_at lw_m1 139 rfl
theorem q164 : (Jvm.Cond.instanceMethod ({ cls := "BuildGraph", name := "loadRecord", desc := "(IZ)V" } : Jvm.MethodName)) ∈ lw_all := lw_g (lw_at lw_m1 140 rfl) rfl
theorem q165 : (Jvm.Cond.code ({ cls := "BuildGraph", name := "loadRecord", desc := "(IZ)V" } : Jvm.MethodName) prog_1_method_7_code (5 : Nat) (Option.none : Option Jvm.ClassFile.FieldType)) ∈ lw_all := lw_g (lw_at lw_m1 141 rfl) rfl
theorem q166 : (Jvm.Cond.methodLink "BuildGraph" (112 : Nat) ({ cls := "BuildGraph", name := "isLast", desc := "(I)Z" } : Jvm.MethodName)) ∈ lw_all := lw_g (lw_at lw_m1 142 rfl) rfl
theorem q167 : (Jvm.Cond.privateMethod ({ cls := "BuildGraph", name := "isLast", desc := "(I)Z" } : Jvm.MethodName)) ∈ lw_tbl := lw_at lw_m1 143 rfl
theorem q168 : (Jvm.Cond.instanceMethod ({ cls := "BuildGraph", name := "isLast", desc := "(I)Z" } : Jvm.MethodName)) ∈ lw_all := lw_g (lw_at lw_m1 144 rfl) rfl
theorem q169 : (Jvm.Cond.code ({ cls := "BuildGraph", name := "isLast", desc := "(I)Z" } : Jvm.MethodName) prog_1_method_10_code (3 : Nat) (Option.some Jvm.ClassFile.FieldType.boolean)) ∈ lw_all := lw_g (lw_at lw_m1 145 rfl) rfl
theorem q170 : (Jvm.Cond.methodLink "BuildGraph" (115 : Nat) ({ cls := "BuildGraph", name := "inStore", desc := "(I)Z" } : Jvm.MethodName)) ∈ lw_all := lw_g (lw_at lw_m1 146 rfl) rfl
theorem q171 : (Jvm.Cond.privateMethod ({ cls := "BuildGraph", name := "inStore", desc := "(I)Z" } : Jvm.MethodName)) ∈ lw_tbl := lw_at lw_m1 147 rfl
theorem q172 : (Jvm.Cond.instanceMethod ({ cls := "BuildGraph", name := "inStore", desc := "(I)Z" } : Jvm.MethodName)) ∈ lw_all := lw_g (lw_at lw_m1 148 rfl) rfl
theorem q173 : (Jvm.Cond.code ({ cls := "BuildGraph", name := "inStore", desc := "(I)Z" } : Jvm.MethodName) prog_1_method_12_code (6 : Nat) (Option.some Jvm.ClassFile.FieldType.boolean)) ∈ lw_all := lw_g (lw_at lw_m1 149 rfl) rfl
theorem q174 : (Jvm.Cond.methodLink "BuildGraph" (91 : Nat) ({ cls := "BuildGraph", name := "hashOf", desc := "(I)I" } : Jvm.MethodName)) ∈ lw_all := lw_g (lw_at lw_m1 150 rfl) rfl
theorem q175 : (Jvm.Cond.privateMethod ({ cls := "BuildGraph", name := "hashOf", desc := "(I)I" } : Jvm.MethodName)) ∈ lw_tbl := lw_at lw_m1 151 rfl
theorem q176 : (Jvm.Cond.instanceMethod ({ cls := "BuildGraph", name := "hashOf", desc := "(I)I" } : Jvm.MethodName)) ∈ lw_all := lw_g (lw_at lw_m1 152 rfl) rfl
theorem q177 : (Jvm.Cond.code ({ cls := "BuildGraph", name := "hashOf", desc := "(I)I" } : Jvm.MethodName) prog_1_method_9_code (4 : Nat) (Option.some Jvm.ClassFile.FieldType.int)) ∈ lw_all := lw_g (lw_at lw_m1 153 rfl) rfl
theorem q178 : (Jvm.Cond.methodLink "BuildGraph" (95 : Nat) ({ cls := "BuildGraph", name := "isRecord", desc := "(III)Z" } : Jvm.MethodName)) ∈ lw_all := lw_g (lw_at lw_m1 154 rfl) rfl
theorem q179 : (Jvm.Cond.privateMethod ({ cls := "BuildGraph", name := "isRecord", desc := "(III)Z" } : Jvm.MethodName)) ∈ lw_tbl := lw_at lw_m1 155 rfl
theorem q180 : (Jvm.Cond.instanceMethod ({ cls := "BuildGraph", name := "isRecord", desc := "(III)Z" } : Jvm.MethodName)) ∈ lw_all := lw_g (lw_at lw_m1 156 rfl) rfl
theorem q181 : (Jvm.Cond.code ({ cls := "BuildGraph", name := "isRecord", desc := "(III)Z" } : Jvm.MethodName) prog_1_method_11_code (5 : Nat) (Option.some Jvm.ClassFile.FieldType.boolean)) ∈ lw_all := lw_g (lw_at lw_m1 157 rfl) rfl
theorem q182 : (Jvm.Cond.methodLink "BuildGraph" (118 : Nat) ({ cls := "BuildGraph", name := "keep", desc := "(I)V" } : Jvm.MethodName)) ∈ lw_all := lw_g (lw_at lw_m1 158 rfl) rfl
theorem q183 : (Jvm.Cond.privateMethod ({ cls := "BuildGraph", name := "keep", desc := "(I)V" } : Jvm.MethodName)) ∈ lw_tbl := lw_at lw_m1 159 rfl
theorem q184 : (Jvm.Cond.instanceMethod ({ cls := "BuildGraph", name := "keep", desc := "(I)V" } : Jvm.MethodName)) ∈ lw_all := lw_g (lw_at lw_m1 160 rfl) rfl
theorem q185 : (Jvm.Cond.code ({ cls := "BuildGraph", name := "keep", desc := "(I)V" } : Jvm.MethodName) prog_1_method_13_code (4 : Nat) (Option.none : Option Jvm.ClassFile.FieldType)) ∈ lw_all := lw_g (lw_at lw_m1 161 rfl) rfl
theorem q186 : (Jvm.Cond.methodLink "BuildGraph" (122 : Nat) ({ cls := "BuildGraph", name := "remember", desc := "(I)V" } : Jvm.MethodName)) ∈ lw_all := lw_g (lw_at lw_m1 162 rfl) rfl
theorem q187 : (Jvm.Cond.privateMethod ({ cls := "BuildGraph", name := "remember", desc := "(I)V" } : Jvm.MethodName)) ∈ lw_tbl := lw_at lw_m1 163 rfl
theorem q188 : (Jvm.Cond.instanceMethod ({ cls := "BuildGraph", name := "remember", desc := "(I)V" } : Jvm.MethodName)) ∈ lw_all := lw_g (lw_at lw_m1 164 rfl) rfl
theorem q189 : (Jvm.Cond.code ({ cls := "BuildGraph", name := "remember", desc := "(I)V" } : Jvm.MethodName) prog_1_method_14_code (3 : Nat) (Option.none : Option Jvm.ClassFile.FieldType)) ∈ lw_all := lw_g (lw_at lw_m1 165 rfl) rfl
theorem q190 : (Jvm.Cond.methodLink "BuildGraph" (125 : Nat) ({ cls := "BuildGraph", name := "result", desc := "(I)I" } : Jvm.MethodName)) ∈ lw_all := lw_g (lw_at lw_m1 166 rfl) rfl
theorem q191 : (Jvm.Cond.privateMethod ({ cls := "BuildGraph", name := "result", desc := "(I)I" } : Jvm.MethodName)) ∈ lw_tbl := lw_at lw_m1 167 rfl
theorem q192 : (Jvm.Cond.instanceMethod ({ cls := "BuildGraph", name := "result", desc := "(I)I" } : Jvm.MethodName)) ∈ lw_all := lw_g (lw_at lw_m1 168 rfl) rfl
theorem q193 : (Jvm.Cond.code ({ cls := "BuildGraph", name := "result", desc := "(I)I" } : Jvm.MethodName) prog_1_method_8_code (5 : Nat) (Option.some Jvm.ClassFile.FieldType.int)) ∈ lw_all := lw_g (lw_at lw_m1 169 rfl) rfl
theorem q195 : (Jvm.Cond.instanceMethod ({ cls := "BuildGraph", name := "clean", desc := "(I)I" } : Jvm.MethodName)) ∈ lw_all := lw_g (lw_at lw_m1 171 rfl) rfl
theorem q196 : (Jvm.Cond.selects "BuildGraph" ({ cls := "BuildGraph", name := "clean", desc := "(I)I" } : Jvm.MethodName) ({ cls := "BuildGraph", name := "clean", desc := "(I)I" } : Jvm.MethodName)) ∈ lw_all := lw_g (lw_at lw_m1 172 rfl) rfl
theorem q197 : (Jvm.Cond.code ({ cls := "BuildGraph", name := "clean", desc := "(I)I" } : Jvm.MethodName) prog_1_method_20_code (3 : Nat) (Option.some Jvm.ClassFile.FieldType.int)) ∈ lw_all := lw_g (lw_at lw_m1 173 rfl) rfl
theorem q199 : (Jvm.Cond.instanceMethod ({ cls := "BuildGraph", name := "emptyStore", desc := "()V" } : Jvm.MethodName)) ∈ lw_all := lw_g (lw_at lw_m1 175 rfl) rfl
theorem q200 : (Jvm.Cond.selects "BuildGraph" ({ cls := "BuildGraph", name := "emptyStore", desc := "()V" } : Jvm.MethodName) ({ cls := "BuildGraph", name := "emptyStore", desc := "()V" } : Jvm.MethodName)) ∈ lw_all := lw_g (lw_at lw_m1 176 rfl) rfl
theorem q201 : (Jvm.Cond.code ({ cls := "BuildGraph", name := "emptyStore", desc := "()V" } : Jvm.MethodName) prog_1_method_21_code (2 : Nat) (Option.none : Option Jvm.ClassFile.FieldType)) ∈ lw_all := lw_g (lw_at lw_m1 177 rfl) rfl
theorem q203 : (Jvm.Cond.instanceMethod ({ cls := "BuildGraph", name := "status", desc := "(I)I" } : Jvm.MethodName)) ∈ lw_all := lw_g (lw_at lw_m1 179 rfl) rfl
theorem q204 : (Jvm.Cond.selects "BuildGraph" ({ cls := "BuildGraph", name := "status", desc := "(I)I" } : Jvm.MethodName) ({ cls := "BuildGraph", name := "status", desc := "(I)I" } : Jvm.MethodName)) ∈ lw_all := lw_g (lw_at lw_m1 180 rfl) rfl
theorem q205 : (Jvm.Cond.code ({ cls := "BuildGraph", name := "status", desc := "(I)I" } : Jvm.MethodName) prog_1_method_22_code (2 : Nat) (Option.some Jvm.ClassFile.FieldType.int)) ∈ lw_all := lw_g (lw_at lw_m1 181 rfl) rfl
theorem q207 : (Jvm.Cond.instanceMethod ({ cls := "BuildGraph", name := "output", desc := "(I)I" } : Jvm.MethodName)) ∈ lw_all := lw_g (lw_at lw_m1 183 rfl) rfl
theorem q208 : (Jvm.Cond.selects "BuildGraph" ({ cls := "BuildGraph", name := "output", desc := "(I)I" } : Jvm.MethodName) ({ cls := "BuildGraph", name := "output", desc := "(I)I" } : Jvm.MethodName)) ∈ lw_all := lw_g (lw_at lw_m1 184 rfl) rfl
theorem q209 : (Jvm.Cond.code ({ cls := "BuildGraph", name := "output", desc := "(I)I" } : Jvm.MethodName) prog_1_method_23_code (2 : Nat) (Option.some Jvm.ClassFile.FieldType.int)) ∈ lw_all := lw_g (lw_at lw_m1 185 rfl) rfl
theorem q211 : (Jvm.Cond.instanceMethod ({ cls := "BuildGraph", name := "fresh", desc := "(I)I" } : Jvm.MethodName)) ∈ lw_all := lw_g (lw_at lw_m1 187 rfl) rfl
theorem q212 : (Jvm.Cond.selects "BuildGraph" ({ cls := "BuildGraph", name := "fresh", desc := "(I)I" } : Jvm.MethodName) ({ cls := "BuildGraph", name := "fresh", desc := "(I)I" } : Jvm.MethodName)) ∈ lw_all := lw_g (lw_at lw_m1 188 rfl) rfl
theorem q213 : (Jvm.Cond.code ({ cls := "BuildGraph", name := "fresh", desc := "(I)I" } : Jvm.MethodName) prog_1_method_25_code (2 : Nat) (Option.some Jvm.ClassFile.FieldType.int)) ∈ lw_all := lw_g (lw_at lw_m1 189 rfl) rfl
theorem q214 : (Jvm.Cond.methodLink "BuildGraph" (140 : Nat) ({ cls := "BuildGraph", name := "workOutNow", desc := "()V" } : Jvm.MethodName)) ∈ lw_all := lw_g (lw_at lw_m1 190 rfl) rfl
theorem q215 : (Jvm.Cond.privateMethod ({ cls := "BuildGraph", name := "workOutNow", desc := "()V" } : Jvm.MethodName)) ∈ lw_tbl := lw_at lw_m1 191 rfl
theorem q216 : (Jvm.Cond.instanceMethod ({ cls := "BuildGraph", name := "workOutNow", desc := "()V" } : Jvm.MethodName)) ∈ lw_all := lw_g (lw_at lw_m1 192 rfl) rfl
theorem q217 : (Jvm.Cond.code ({ cls := "BuildGraph", name := "workOutNow", desc := "()V" } : Jvm.MethodName) prog_1_method_24_code (2 : Nat) (Option.none : Option Jvm.ClassFile.FieldType)) ∈ lw_all := lw_g (lw_at lw_m1 193 rfl) rfl
theorem q219 : (Jvm.Cond.instanceMethod ({ cls := "BuildGraph", name := "needed", desc := "(I)I" } : Jvm.MethodName)) ∈ lw_all := lw_g (lw_at lw_m1 195 rfl) rfl
theorem q220 : (Jvm.Cond.selects "BuildGraph" ({ cls := "BuildGraph", name := "needed", desc := "(I)I" } : Jvm.MethodName) ({ cls := "BuildGraph", name := "needed", desc := "(I)I" } : Jvm.MethodName)) ∈ lw_all := lw_g (lw_at lw_m1 196 rfl) rfl
theorem q221 : (Jvm.Cond.code ({ cls := "BuildGraph", name := "needed", desc := "(I)I" } : Jvm.MethodName) prog_1_method_26_code (5 : Nat) (Option.some Jvm.ClassFile.FieldType.int)) ∈ lw_all := lw_g (lw_at lw_m1 197 rfl) rfl
theorem q223 : (Jvm.Cond.instanceMethod ({ cls := "BuildGraph", name := "work", desc := "(I)I" } : Jvm.MethodName)) ∈ lw_all := lw_g (lw_at lw_m1 199 rfl) rfl
theorem q224 : (Jvm.Cond.selects "BuildGraph" ({ cls := "BuildGraph", name := "work", desc := "(I)I" } : Jvm.MethodName) ({ cls := "BuildGraph", name := "work", desc := "(I)I" } : Jvm.MethodName)) ∈ lw_all := lw_g (lw_at lw_m1 200 rfl) rfl
theorem q225 : (Jvm.Cond.code ({ cls := "BuildGraph", name := "work", desc := "(I)I" } : Jvm.MethodName) prog_1_method_28_code (6 : Nat) (Option.some Jvm.ClassFile.FieldType.int)) ∈ lw_all := lw_g (lw_at lw_m1 201 rfl) rfl
theorem q226 : (Jvm.Cond.methodLink "BuildGraph" (143 : Nat) ({ cls := "BuildGraph", name := "wouldExecute", desc := "(I)Z" } : Jvm.MethodName)) ∈ lw_all := lw_g (lw_at lw_m1 202 rfl) rfl
theorem q227 : (Jvm.Cond.privateMethod ({ cls := "BuildGraph", name := "wouldExecute", desc := "(I)Z" } : Jvm.MethodName)) ∈ lw_tbl := lw_at lw_m1 203 rfl
theorem q228 : (Jvm.Cond.instanceMethod ({ cls := "BuildGraph", name := "wouldExecute", desc := "(I)Z" } : Jvm.MethodName)) ∈ lw_all := lw_g (lw_at lw_m1 204 rfl) rfl
theorem q229 : (Jvm.Cond.code ({ cls := "BuildGraph", name := "wouldExecute", desc := "(I)Z" } : Jvm.MethodName) prog_1_method_27_code (3 : Nat) (Option.some Jvm.ClassFile.FieldType.boolean)) ∈ lw_all := lw_g (lw_at lw_m1 205 rfl) rfl
theorem q231 : (Jvm.Cond.instanceMethod ({ cls := "BuildGraph", name := "executed", desc := "()I" } : Jvm.MethodName)) ∈ lw_all := lw_g (lw_at lw_m1 207 rfl) rfl
theorem q232 : (Jvm.Cond.selects "BuildGraph" ({ cls := "BuildGraph", name := "executed", desc := "()I" } : Jvm.MethodName) ({ cls := "BuildGraph", name := "executed", desc := "()I" } : Jvm.MethodName)) ∈ lw_all := lw_g (lw_at lw_m1 208 rfl) rfl
theorem q233 : (Jvm.Cond.code ({ cls := "BuildGraph", name := "executed", desc := "()I" } : Jvm.MethodName) prog_1_method_29_code (1 : Nat) (Option.some Jvm.ClassFile.FieldType.int)) ∈ lw_all := lw_g (lw_at lw_m1 209 rfl) rfl
theorem q235 : (Jvm.Cond.instanceMethod ({ cls := "BuildGraph", name := "stale", desc := "()I" } : Jvm.MethodName)) ∈ lw_all := lw_g (lw_at lw_m1 211 rfl) rfl
theorem q236 : (Jvm.Cond.selects "BuildGraph" ({ cls := "BuildGraph", name := "stale", desc := "()I" } : Jvm.MethodName) ({ cls := "BuildGraph", name := "stale", desc := "()I" } : Jvm.MethodName)) ∈ lw_all := lw_g (lw_at lw_m1 212 rfl) rfl
theorem q237 : (Jvm.Cond.code ({ cls := "BuildGraph", name := "stale", desc := "()I" } : Jvm.MethodName) prog_1_method_30_code (4 : Nat) (Option.some Jvm.ClassFile.FieldType.int)) ∈ lw_all := lw_g (lw_at lw_m1 213 rfl) rfl
theorem in_X0 : ∀ w ∈ wsX00, w ∈ lw_all := lw_in wsX00 [63, 65, 67, 69, 71, 73, 75, 77, 79, 81, 83, 85, 87, 89, 91, 93, 95, 97, 99, 101, 103, 105, 107, 109, 111, 113, 115, 117] (by decide +kernel) (by decide +kernel)
end
section
/-! BuildGraphModel -/
set_option maxRecDepth 100000
def RX1 : String := "BuildGraphModel"
def TX1 : u_T := fun k => match k with
  | 0 => ("BuildGraphModel", "contents", "[I", true)
  | 1 => ("BuildGraphModel", "tasks", "I", false)
  | 2 => ("BuildGraphModel", "kinds", "[I", true)
  | 3 => ("BuildGraphModel", "constants", "[I", true)
  | 4 => ("BuildGraphModel", "counts", "[I", true)
  | 5 => ("BuildGraphModel", "inputs", "[I", true)
  | 6 => ("BuildGraphModel", "outputs", "[I", true)
  | 7 => ("BuildGraphModel", "states", "[I", true)
  | 8 => ("BuildGraphModel", "hasLast", "[Z", true)
  | 9 => ("BuildGraphModel", "last", "[I", true)
  | 10 => ("BuildGraphModel", "stored", "[I", true)
  | 11 => ("BuildGraphModel", "store", "[I", true)
  | 12 => ("BuildGraphModel", "builds", "I", false)
  | 13 => ("BuildGraphModel", "done", "I", false)
  | _ => ("BuildGraphModel", "now", "[I", true)
def tyX1 : Nat → FieldType := fun k => match k with
  | 0 => .array .int
  | 1 => .int
  | 2 => .array .int
  | 3 => .array .int
  | 4 => .array .int
  | 5 => .array .int
  | 6 => .array .int
  | 7 => .array .int
  | 8 => .array .boolean
  | 9 => .array .int
  | 10 => .array .int
  | 11 => .array .int
  | 12 => .int
  | 13 => .int
  | _ => .array .int
abbrev wsX10 : List Cond := u_ws RX1 TX1 15
set_option maxRecDepth 100000 in
theorem nmX1 : ∀ a, a < 15 → ∀ b, b < 15 → a ≠ b → (TX1 a).2.1 ≠ (TX1 b).2.1 := by decide +kernel
set_option maxRecDepth 100000 in
theorem tyX1_ok : ∀ k, k < 15 → parseFieldDescriptor (TX1 k).2.2.1 = some (tyX1 k) := by decide +kernel
abbrev cX1_init : ByteArray := prog_3_method_1_code
def yX1_init : MethodName := ⟨RX1, "<init>", "()V"⟩
theorem dX1_init_0 : decode cX1_init 0 = .ok (.aload_n 0, 1) := by decide +kernel
theorem dX1_init_1 : decode cX1_init 1 = .ok (.invokespecial 1, 3) := by decide +kernel
theorem dX1_init_4 : decode cX1_init 4 = .ok (.aload_n 0, 1) := by decide +kernel
theorem dX1_init_5 : decode cX1_init 5 = .ok (.bipush 8, 2) := by decide +kernel
theorem dX1_init_7 : decode cX1_init 7 = .ok (.newarray .int, 2) := by decide +kernel
theorem dX1_init_9 : decode cX1_init 9 = .ok (.putfield 7, 3) := by decide +kernel
theorem dX1_init_12 : decode cX1_init 12 = .ok (.aload_n 0, 1) := by decide +kernel
theorem dX1_init_13 : decode cX1_init 13 = .ok (.bipush 12, 2) := by decide +kernel
theorem dX1_init_15 : decode cX1_init 15 = .ok (.newarray .int, 2) := by decide +kernel
theorem dX1_init_17 : decode cX1_init 17 = .ok (.putfield 13, 3) := by decide +kernel
theorem dX1_init_20 : decode cX1_init 20 = .ok (.aload_n 0, 1) := by decide +kernel
theorem dX1_init_21 : decode cX1_init 21 = .ok (.bipush 12, 2) := by decide +kernel
theorem dX1_init_23 : decode cX1_init 23 = .ok (.newarray .int, 2) := by decide +kernel
theorem dX1_init_25 : decode cX1_init 25 = .ok (.putfield 16, 3) := by decide +kernel
theorem dX1_init_28 : decode cX1_init 28 = .ok (.aload_n 0, 1) := by decide +kernel
theorem dX1_init_29 : decode cX1_init 29 = .ok (.bipush 12, 2) := by decide +kernel
theorem dX1_init_31 : decode cX1_init 31 = .ok (.newarray .int, 2) := by decide +kernel
theorem dX1_init_33 : decode cX1_init 33 = .ok (.putfield 19, 3) := by decide +kernel
theorem dX1_init_36 : decode cX1_init 36 = .ok (.aload_n 0, 1) := by decide +kernel
theorem dX1_init_37 : decode cX1_init 37 = .ok (.bipush 36, 2) := by decide +kernel
theorem dX1_init_39 : decode cX1_init 39 = .ok (.newarray .int, 2) := by decide +kernel
theorem dX1_init_41 : decode cX1_init 41 = .ok (.putfield 22, 3) := by decide +kernel
theorem dX1_init_44 : decode cX1_init 44 = .ok (.aload_n 0, 1) := by decide +kernel
theorem dX1_init_45 : decode cX1_init 45 = .ok (.bipush 12, 2) := by decide +kernel
theorem dX1_init_47 : decode cX1_init 47 = .ok (.newarray .int, 2) := by decide +kernel
theorem dX1_init_49 : decode cX1_init 49 = .ok (.putfield 25, 3) := by decide +kernel
theorem dX1_init_52 : decode cX1_init 52 = .ok (.aload_n 0, 1) := by decide +kernel
theorem dX1_init_53 : decode cX1_init 53 = .ok (.bipush 12, 2) := by decide +kernel
theorem dX1_init_55 : decode cX1_init 55 = .ok (.newarray .int, 2) := by decide +kernel
theorem dX1_init_57 : decode cX1_init 57 = .ok (.putfield 28, 3) := by decide +kernel
theorem dX1_init_60 : decode cX1_init 60 = .ok (.aload_n 0, 1) := by decide +kernel
theorem dX1_init_61 : decode cX1_init 61 = .ok (.bipush 12, 2) := by decide +kernel
theorem dX1_init_63 : decode cX1_init 63 = .ok (.newarray .boolean, 2) := by decide +kernel
theorem dX1_init_65 : decode cX1_init 65 = .ok (.putfield 31, 3) := by decide +kernel
theorem dX1_init_68 : decode cX1_init 68 = .ok (.aload_n 0, 1) := by decide +kernel
theorem dX1_init_69 : decode cX1_init 69 = .ok (.bipush 60, 2) := by decide +kernel
theorem dX1_init_71 : decode cX1_init 71 = .ok (.newarray .int, 2) := by decide +kernel
theorem dX1_init_73 : decode cX1_init 73 = .ok (.putfield 35, 3) := by decide +kernel
theorem dX1_init_76 : decode cX1_init 76 = .ok (.aload_n 0, 1) := by decide +kernel
theorem dX1_init_77 : decode cX1_init 77 = .ok (.bipush 12, 2) := by decide +kernel
theorem dX1_init_79 : decode cX1_init 79 = .ok (.newarray .int, 2) := by decide +kernel
theorem dX1_init_81 : decode cX1_init 81 = .ok (.putfield 38, 3) := by decide +kernel
theorem dX1_init_84 : decode cX1_init 84 = .ok (.aload_n 0, 1) := by decide +kernel
theorem dX1_init_85 : decode cX1_init 85 = .ok (.sipush 2400, 3) := by decide +kernel
theorem dX1_init_88 : decode cX1_init 88 = .ok (.newarray .int, 2) := by decide +kernel
theorem dX1_init_90 : decode cX1_init 90 = .ok (.putfield 41, 3) := by decide +kernel
theorem dX1_init_93 : decode cX1_init 93 = .ok (.aload_n 0, 1) := by decide +kernel
theorem dX1_init_94 : decode cX1_init 94 = .ok (.bipush 12, 2) := by decide +kernel
theorem dX1_init_96 : decode cX1_init 96 = .ok (.newarray .int, 2) := by decide +kernel
theorem dX1_init_98 : decode cX1_init 98 = .ok (.putfield 44, 3) := by decide +kernel
theorem dX1_init_101 : decode cX1_init 101 = .ok (.return_, 1) := by decide +kernel
abbrev cX1_content : ByteArray := prog_3_method_3_code
def yX1_content : MethodName := ⟨RX1, "content", "(II)I"⟩
theorem dX1_content_0 : decode cX1_content 0 = .ok (.iload_n 1, 1) := by decide +kernel
theorem dX1_content_1 : decode cX1_content 1 = .ok (.ifCond .lt 9, 3) := by decide +kernel
theorem dX1_content_4 : decode cX1_content 4 = .ok (.iload_n 1, 1) := by decide +kernel
theorem dX1_content_5 : decode cX1_content 5 = .ok (.bipush 7, 2) := by decide +kernel
theorem dX1_content_7 : decode cX1_content 7 = .ok (.if_icmp .le 6, 3) := by decide +kernel
theorem dX1_content_10 : decode cX1_content 10 = .ok (.bipush (-2), 2) := by decide +kernel
theorem dX1_content_12 : decode cX1_content 12 = .ok (.ireturn, 1) := by decide +kernel
theorem dX1_content_13 : decode cX1_content 13 = .ok (.aload_n 0, 1) := by decide +kernel
theorem dX1_content_14 : decode cX1_content 14 = .ok (.getfield 7, 3) := by decide +kernel
theorem dX1_content_17 : decode cX1_content 17 = .ok (.iload_n 1, 1) := by decide +kernel
theorem dX1_content_18 : decode cX1_content 18 = .ok (.iaload, 1) := by decide +kernel
theorem dX1_content_19 : decode cX1_content 19 = .ok (.istore_n 3, 1) := by decide +kernel
theorem dX1_content_20 : decode cX1_content 20 = .ok (.aload_n 0, 1) := by decide +kernel
theorem dX1_content_21 : decode cX1_content 21 = .ok (.getfield 7, 3) := by decide +kernel
theorem dX1_content_24 : decode cX1_content 24 = .ok (.iload_n 1, 1) := by decide +kernel
theorem dX1_content_25 : decode cX1_content 25 = .ok (.iload_n 2, 1) := by decide +kernel
theorem dX1_content_26 : decode cX1_content 26 = .ok (.iastore, 1) := by decide +kernel
theorem dX1_content_27 : decode cX1_content 27 = .ok (.iload_n 3, 1) := by decide +kernel
theorem dX1_content_28 : decode cX1_content 28 = .ok (.ireturn, 1) := by decide +kernel
abbrev cX1_task : ByteArray := prog_3_method_4_code
def yX1_task : MethodName := ⟨RX1, "task", "(II)I"⟩
theorem dX1_task_0 : decode cX1_task 0 = .ok (.aload_n 0, 1) := by decide +kernel
theorem dX1_task_1 : decode cX1_task 1 = .ok (.getfield 47, 3) := by decide +kernel
theorem dX1_task_4 : decode cX1_task 4 = .ok (.bipush 12, 2) := by decide +kernel
theorem dX1_task_6 : decode cX1_task 6 = .ok (.if_icmp .ne 6, 3) := by decide +kernel
theorem dX1_task_9 : decode cX1_task 9 = .ok (.bipush (-4), 2) := by decide +kernel
theorem dX1_task_11 : decode cX1_task 11 = .ok (.ireturn, 1) := by decide +kernel
theorem dX1_task_12 : decode cX1_task 12 = .ok (.aload_n 0, 1) := by decide +kernel
theorem dX1_task_13 : decode cX1_task 13 = .ok (.getfield 13, 3) := by decide +kernel
theorem dX1_task_16 : decode cX1_task 16 = .ok (.aload_n 0, 1) := by decide +kernel
theorem dX1_task_17 : decode cX1_task 17 = .ok (.getfield 47, 3) := by decide +kernel
theorem dX1_task_20 : decode cX1_task 20 = .ok (.iload_n 1, 1) := by decide +kernel
theorem dX1_task_21 : decode cX1_task 21 = .ok (.iconst 3, 1) := by decide +kernel
theorem dX1_task_22 : decode cX1_task 22 = .ok (.iand, 1) := by decide +kernel
theorem dX1_task_23 : decode cX1_task 23 = .ok (.iastore, 1) := by decide +kernel
theorem dX1_task_24 : decode cX1_task 24 = .ok (.aload_n 0, 1) := by decide +kernel
theorem dX1_task_25 : decode cX1_task 25 = .ok (.getfield 16, 3) := by decide +kernel
theorem dX1_task_28 : decode cX1_task 28 = .ok (.aload_n 0, 1) := by decide +kernel
theorem dX1_task_29 : decode cX1_task 29 = .ok (.getfield 47, 3) := by decide +kernel
theorem dX1_task_32 : decode cX1_task 32 = .ok (.iload_n 2, 1) := by decide +kernel
theorem dX1_task_33 : decode cX1_task 33 = .ok (.iastore, 1) := by decide +kernel
theorem dX1_task_34 : decode cX1_task 34 = .ok (.aload_n 0, 1) := by decide +kernel
theorem dX1_task_35 : decode cX1_task 35 = .ok (.aload_n 0, 1) := by decide +kernel
theorem dX1_task_36 : decode cX1_task 36 = .ok (.getfield 47, 3) := by decide +kernel
theorem dX1_task_39 : decode cX1_task 39 = .ok (.iconst 1, 1) := by decide +kernel
theorem dX1_task_40 : decode cX1_task 40 = .ok (.iadd, 1) := by decide +kernel
theorem dX1_task_41 : decode cX1_task 41 = .ok (.putfield 47, 3) := by decide +kernel
theorem dX1_task_44 : decode cX1_task 44 = .ok (.aload_n 0, 1) := by decide +kernel
theorem dX1_task_45 : decode cX1_task 45 = .ok (.getfield 47, 3) := by decide +kernel
theorem dX1_task_48 : decode cX1_task 48 = .ok (.iconst 1, 1) := by decide +kernel
theorem dX1_task_49 : decode cX1_task 49 = .ok (.isub, 1) := by decide +kernel
theorem dX1_task_50 : decode cX1_task 50 = .ok (.ireturn, 1) := by decide +kernel
abbrev cX1_input : ByteArray := prog_3_method_5_code
def yX1_input : MethodName := ⟨RX1, "input", "(II)I"⟩
theorem dX1_input_0 : decode cX1_input 0 = .ok (.aload_n 0, 1) := by decide +kernel
theorem dX1_input_1 : decode cX1_input 1 = .ok (.iload_n 1, 1) := by decide +kernel
theorem dX1_input_2 : decode cX1_input 2 = .ok (.invokevirtual 51, 3) := by decide +kernel
theorem dX1_input_5 : decode cX1_input 5 = .ok (.ifCond .eq 5, 3) := by decide +kernel
theorem dX1_input_8 : decode cX1_input 8 = .ok (.iconst (-1), 1) := by decide +kernel
theorem dX1_input_9 : decode cX1_input 9 = .ok (.ireturn, 1) := by decide +kernel
theorem dX1_input_10 : decode cX1_input 10 = .ok (.iload_n 2, 1) := by decide +kernel
theorem dX1_input_11 : decode cX1_input 11 = .ok (.ifCond .lt 11, 3) := by decide +kernel
theorem dX1_input_14 : decode cX1_input 14 = .ok (.iload_n 2, 1) := by decide +kernel
theorem dX1_input_15 : decode cX1_input 15 = .ok (.bipush 8, 2) := by decide +kernel
theorem dX1_input_17 : decode cX1_input 17 = .ok (.iload_n 1, 1) := by decide +kernel
theorem dX1_input_18 : decode cX1_input 18 = .ok (.iadd, 1) := by decide +kernel
theorem dX1_input_19 : decode cX1_input 19 = .ok (.if_icmp .lt 6, 3) := by decide +kernel
theorem dX1_input_22 : decode cX1_input 22 = .ok (.bipush (-2), 2) := by decide +kernel
theorem dX1_input_24 : decode cX1_input 24 = .ok (.ireturn, 1) := by decide +kernel
theorem dX1_input_25 : decode cX1_input 25 = .ok (.aload_n 0, 1) := by decide +kernel
theorem dX1_input_26 : decode cX1_input 26 = .ok (.getfield 19, 3) := by decide +kernel
theorem dX1_input_29 : decode cX1_input 29 = .ok (.iload_n 1, 1) := by decide +kernel
theorem dX1_input_30 : decode cX1_input 30 = .ok (.iaload, 1) := by decide +kernel
theorem dX1_input_31 : decode cX1_input 31 = .ok (.iconst 3, 1) := by decide +kernel
theorem dX1_input_32 : decode cX1_input 32 = .ok (.if_icmp .ne 6, 3) := by decide +kernel
theorem dX1_input_35 : decode cX1_input 35 = .ok (.bipush (-4), 2) := by decide +kernel
theorem dX1_input_37 : decode cX1_input 37 = .ok (.ireturn, 1) := by decide +kernel
theorem dX1_input_38 : decode cX1_input 38 = .ok (.aload_n 0, 1) := by decide +kernel
theorem dX1_input_39 : decode cX1_input 39 = .ok (.getfield 22, 3) := by decide +kernel
theorem dX1_input_42 : decode cX1_input 42 = .ok (.iload_n 1, 1) := by decide +kernel
theorem dX1_input_43 : decode cX1_input 43 = .ok (.iconst 3, 1) := by decide +kernel
theorem dX1_input_44 : decode cX1_input 44 = .ok (.imul, 1) := by decide +kernel
theorem dX1_input_45 : decode cX1_input 45 = .ok (.aload_n 0, 1) := by decide +kernel
theorem dX1_input_46 : decode cX1_input 46 = .ok (.getfield 19, 3) := by decide +kernel
theorem dX1_input_49 : decode cX1_input 49 = .ok (.iload_n 1, 1) := by decide +kernel
theorem dX1_input_50 : decode cX1_input 50 = .ok (.iaload, 1) := by decide +kernel
theorem dX1_input_51 : decode cX1_input 51 = .ok (.iadd, 1) := by decide +kernel
theorem dX1_input_52 : decode cX1_input 52 = .ok (.iload_n 2, 1) := by decide +kernel
theorem dX1_input_53 : decode cX1_input 53 = .ok (.iastore, 1) := by decide +kernel
theorem dX1_input_54 : decode cX1_input 54 = .ok (.aload_n 0, 1) := by decide +kernel
theorem dX1_input_55 : decode cX1_input 55 = .ok (.getfield 19, 3) := by decide +kernel
theorem dX1_input_58 : decode cX1_input 58 = .ok (.iload_n 1, 1) := by decide +kernel
theorem dX1_input_59 : decode cX1_input 59 = .ok (.aload_n 0, 1) := by decide +kernel
theorem dX1_input_60 : decode cX1_input 60 = .ok (.getfield 19, 3) := by decide +kernel
theorem dX1_input_63 : decode cX1_input 63 = .ok (.iload_n 1, 1) := by decide +kernel
theorem dX1_input_64 : decode cX1_input 64 = .ok (.iaload, 1) := by decide +kernel
theorem dX1_input_65 : decode cX1_input 65 = .ok (.iconst 1, 1) := by decide +kernel
theorem dX1_input_66 : decode cX1_input 66 = .ok (.iadd, 1) := by decide +kernel
theorem dX1_input_67 : decode cX1_input 67 = .ok (.iastore, 1) := by decide +kernel
theorem dX1_input_68 : decode cX1_input 68 = .ok (.aload_n 0, 1) := by decide +kernel
theorem dX1_input_69 : decode cX1_input 69 = .ok (.getfield 19, 3) := by decide +kernel
theorem dX1_input_72 : decode cX1_input 72 = .ok (.iload_n 1, 1) := by decide +kernel
theorem dX1_input_73 : decode cX1_input 73 = .ok (.iaload, 1) := by decide +kernel
theorem dX1_input_74 : decode cX1_input 74 = .ok (.ireturn, 1) := by decide +kernel
abbrev cX1_bad : ByteArray := prog_3_method_2_code
def yX1_bad : MethodName := ⟨RX1, "bad", "(I)Z"⟩
theorem dX1_bad_0 : decode cX1_bad 0 = .ok (.iload_n 1, 1) := by decide +kernel
theorem dX1_bad_1 : decode cX1_bad 1 = .ok (.ifCond .lt 11, 3) := by decide +kernel
theorem dX1_bad_4 : decode cX1_bad 4 = .ok (.iload_n 1, 1) := by decide +kernel
theorem dX1_bad_5 : decode cX1_bad 5 = .ok (.aload_n 0, 1) := by decide +kernel
theorem dX1_bad_6 : decode cX1_bad 6 = .ok (.getfield 47, 3) := by decide +kernel
theorem dX1_bad_9 : decode cX1_bad 9 = .ok (.if_icmp .lt 7, 3) := by decide +kernel
theorem dX1_bad_12 : decode cX1_bad 12 = .ok (.iconst 1, 1) := by decide +kernel
theorem dX1_bad_13 : decode cX1_bad 13 = .ok (.goto 4, 3) := by decide +kernel
theorem dX1_bad_16 : decode cX1_bad 16 = .ok (.iconst 0, 1) := by decide +kernel
theorem dX1_bad_17 : decode cX1_bad 17 = .ok (.ireturn, 1) := by decide +kernel
abbrev cX1_constant : ByteArray := prog_3_method_6_code
def yX1_constant : MethodName := ⟨RX1, "constant", "(II)I"⟩
theorem dX1_constant_0 : decode cX1_constant 0 = .ok (.aload_n 0, 1) := by decide +kernel
theorem dX1_constant_1 : decode cX1_constant 1 = .ok (.iload_n 1, 1) := by decide +kernel
theorem dX1_constant_2 : decode cX1_constant 2 = .ok (.invokevirtual 51, 3) := by decide +kernel
theorem dX1_constant_5 : decode cX1_constant 5 = .ok (.ifCond .eq 5, 3) := by decide +kernel
theorem dX1_constant_8 : decode cX1_constant 8 = .ok (.iconst (-1), 1) := by decide +kernel
theorem dX1_constant_9 : decode cX1_constant 9 = .ok (.ireturn, 1) := by decide +kernel
theorem dX1_constant_10 : decode cX1_constant 10 = .ok (.aload_n 0, 1) := by decide +kernel
theorem dX1_constant_11 : decode cX1_constant 11 = .ok (.getfield 16, 3) := by decide +kernel
theorem dX1_constant_14 : decode cX1_constant 14 = .ok (.iload_n 1, 1) := by decide +kernel
theorem dX1_constant_15 : decode cX1_constant 15 = .ok (.iaload, 1) := by decide +kernel
theorem dX1_constant_16 : decode cX1_constant 16 = .ok (.istore_n 3, 1) := by decide +kernel
theorem dX1_constant_17 : decode cX1_constant 17 = .ok (.aload_n 0, 1) := by decide +kernel
theorem dX1_constant_18 : decode cX1_constant 18 = .ok (.getfield 16, 3) := by decide +kernel
theorem dX1_constant_21 : decode cX1_constant 21 = .ok (.iload_n 1, 1) := by decide +kernel
theorem dX1_constant_22 : decode cX1_constant 22 = .ok (.iload_n 2, 1) := by decide +kernel
theorem dX1_constant_23 : decode cX1_constant 23 = .ok (.iastore, 1) := by decide +kernel
theorem dX1_constant_24 : decode cX1_constant 24 = .ok (.iload_n 3, 1) := by decide +kernel
theorem dX1_constant_25 : decode cX1_constant 25 = .ok (.ireturn, 1) := by decide +kernel
abbrev cX1_build : ByteArray := prog_3_method_15_code
def yX1_build : MethodName := ⟨RX1, "build", "(I)I"⟩
theorem dX1_build_0 : decode cX1_build 0 = .ok (.aload_n 0, 1) := by decide +kernel
theorem dX1_build_1 : decode cX1_build 1 = .ok (.iload_n 1, 1) := by decide +kernel
theorem dX1_build_2 : decode cX1_build 2 = .ok (.invokevirtual 51, 3) := by decide +kernel
theorem dX1_build_5 : decode cX1_build 5 = .ok (.ifCond .eq 5, 3) := by decide +kernel
theorem dX1_build_8 : decode cX1_build 8 = .ok (.iconst (-1), 1) := by decide +kernel
theorem dX1_build_9 : decode cX1_build 9 = .ok (.ireturn, 1) := by decide +kernel
theorem dX1_build_10 : decode cX1_build 10 = .ok (.aload_n 0, 1) := by decide +kernel
theorem dX1_build_11 : decode cX1_build 11 = .ok (.getfield 75, 3) := by decide +kernel
theorem dX1_build_14 : decode cX1_build 14 = .ok (.bipush 40, 2) := by decide +kernel
theorem dX1_build_16 : decode cX1_build 16 = .ok (.if_icmp .ne 6, 3) := by decide +kernel
theorem dX1_build_19 : decode cX1_build 19 = .ok (.bipush (-4), 2) := by decide +kernel
theorem dX1_build_21 : decode cX1_build 21 = .ok (.ireturn, 1) := by decide +kernel
theorem dX1_build_22 : decode cX1_build 22 = .ok (.aload_n 0, 1) := by decide +kernel
theorem dX1_build_23 : decode cX1_build 23 = .ok (.aload_n 0, 1) := by decide +kernel
theorem dX1_build_24 : decode cX1_build 24 = .ok (.getfield 75, 3) := by decide +kernel
theorem dX1_build_27 : decode cX1_build 27 = .ok (.iconst 1, 1) := by decide +kernel
theorem dX1_build_28 : decode cX1_build 28 = .ok (.iadd, 1) := by decide +kernel
theorem dX1_build_29 : decode cX1_build 29 = .ok (.putfield 75, 3) := by decide +kernel
theorem dX1_build_32 : decode cX1_build 32 = .ok (.aload_n 0, 1) := by decide +kernel
theorem dX1_build_33 : decode cX1_build 33 = .ok (.invokevirtual 78, 3) := by decide +kernel
theorem dX1_build_36 : decode cX1_build 36 = .ok (.aload_n 0, 1) := by decide +kernel
theorem dX1_build_37 : decode cX1_build 37 = .ok (.getfield 72, 3) := by decide +kernel
theorem dX1_build_40 : decode cX1_build 40 = .ok (.istore_n 2, 1) := by decide +kernel
theorem dX1_build_41 : decode cX1_build 41 = .ok (.aload_n 0, 1) := by decide +kernel
theorem dX1_build_42 : decode cX1_build 42 = .ok (.iload_n 1, 1) := by decide +kernel
theorem dX1_build_43 : decode cX1_build 43 = .ok (.invokevirtual 81, 3) := by decide +kernel
theorem dX1_build_46 : decode cX1_build 46 = .ok (.istore_n 3, 1) := by decide +kernel
theorem dX1_build_47 : decode cX1_build 47 = .ok (.iconst 0, 1) := by decide +kernel
theorem dX1_build_48 : decode cX1_build 48 = .ok (.istore 4, 2) := by decide +kernel
theorem dX1_build_50 : decode cX1_build 50 = .ok (.iload 4, 2) := by decide +kernel
theorem dX1_build_52 : decode cX1_build 52 = .ok (.aload_n 0, 1) := by decide +kernel
theorem dX1_build_53 : decode cX1_build 53 = .ok (.getfield 47, 3) := by decide +kernel
theorem dX1_build_56 : decode cX1_build 56 = .ok (.if_icmp .ge 33, 3) := by decide +kernel
theorem dX1_build_59 : decode cX1_build 59 = .ok (.aload_n 0, 1) := by decide +kernel
theorem dX1_build_60 : decode cX1_build 60 = .ok (.getfield 28, 3) := by decide +kernel
theorem dX1_build_63 : decode cX1_build 63 = .ok (.iload 4, 2) := by decide +kernel
theorem dX1_build_65 : decode cX1_build 65 = .ok (.iconst 0, 1) := by decide +kernel
theorem dX1_build_66 : decode cX1_build 66 = .ok (.iastore, 1) := by decide +kernel
theorem dX1_build_67 : decode cX1_build 67 = .ok (.iload_n 3, 1) := by decide +kernel
theorem dX1_build_68 : decode cX1_build 68 = .ok (.iload 4, 2) := by decide +kernel
theorem dX1_build_70 : decode cX1_build 70 = .ok (.ishr, 1) := by decide +kernel
theorem dX1_build_71 : decode cX1_build 71 = .ok (.iconst 1, 1) := by decide +kernel
theorem dX1_build_72 : decode cX1_build 72 = .ok (.iand, 1) := by decide +kernel
theorem dX1_build_73 : decode cX1_build 73 = .ok (.iconst 1, 1) := by decide +kernel
theorem dX1_build_74 : decode cX1_build 74 = .ok (.if_icmp .ne 9, 3) := by decide +kernel
theorem dX1_build_77 : decode cX1_build 77 = .ok (.aload_n 0, 1) := by decide +kernel
theorem dX1_build_78 : decode cX1_build 78 = .ok (.iload 4, 2) := by decide +kernel
theorem dX1_build_80 : decode cX1_build 80 = .ok (.invokevirtual 85, 3) := by decide +kernel
theorem dX1_build_83 : decode cX1_build 83 = .ok (.iinc 4 1, 3) := by decide +kernel
theorem dX1_build_86 : decode cX1_build 86 = .ok (.goto (-36), 3) := by decide +kernel
theorem dX1_build_89 : decode cX1_build 89 = .ok (.aload_n 0, 1) := by decide +kernel
theorem dX1_build_90 : decode cX1_build 90 = .ok (.getfield 72, 3) := by decide +kernel
theorem dX1_build_93 : decode cX1_build 93 = .ok (.iload_n 2, 1) := by decide +kernel
theorem dX1_build_94 : decode cX1_build 94 = .ok (.isub, 1) := by decide +kernel
theorem dX1_build_95 : decode cX1_build 95 = .ok (.ireturn, 1) := by decide +kernel
abbrev cX1_workOut : ByteArray := prog_3_method_8_code
def yX1_workOut : MethodName := ⟨RX1, "workOut", "()V"⟩
theorem dX1_workOut_0 : decode cX1_workOut 0 = .ok (.iconst 0, 1) := by decide +kernel
theorem dX1_workOut_1 : decode cX1_workOut 1 = .ok (.istore_n 1, 1) := by decide +kernel
theorem dX1_workOut_2 : decode cX1_workOut 2 = .ok (.iload_n 1, 1) := by decide +kernel
theorem dX1_workOut_3 : decode cX1_workOut 3 = .ok (.aload_n 0, 1) := by decide +kernel
theorem dX1_workOut_4 : decode cX1_workOut 4 = .ok (.getfield 47, 3) := by decide +kernel
theorem dX1_workOut_7 : decode cX1_workOut 7 = .ok (.if_icmp .ge 141, 3) := by decide +kernel
theorem dX1_workOut_10 : decode cX1_workOut 10 = .ok (.aload_n 0, 1) := by decide +kernel
theorem dX1_workOut_11 : decode cX1_workOut 11 = .ok (.getfield 13, 3) := by decide +kernel
theorem dX1_workOut_14 : decode cX1_workOut 14 = .ok (.iload_n 1, 1) := by decide +kernel
theorem dX1_workOut_15 : decode cX1_workOut 15 = .ok (.iaload, 1) := by decide +kernel
theorem dX1_workOut_16 : decode cX1_workOut 16 = .ok (.iconst 3, 1) := by decide +kernel
theorem dX1_workOut_17 : decode cX1_workOut 17 = .ok (.if_icmp .ne 7, 3) := by decide +kernel
theorem dX1_workOut_20 : decode cX1_workOut 20 = .ok (.iconst 0, 1) := by decide +kernel
theorem dX1_workOut_21 : decode cX1_workOut 21 = .ok (.goto 9, 3) := by decide +kernel
theorem dX1_workOut_24 : decode cX1_workOut 24 = .ok (.aload_n 0, 1) := by decide +kernel
theorem dX1_workOut_25 : decode cX1_workOut 25 = .ok (.getfield 16, 3) := by decide +kernel
theorem dX1_workOut_28 : decode cX1_workOut 28 = .ok (.iload_n 1, 1) := by decide +kernel
theorem dX1_workOut_29 : decode cX1_workOut 29 = .ok (.iaload, 1) := by decide +kernel
theorem dX1_workOut_30 : decode cX1_workOut 30 = .ok (.istore_n 2, 1) := by decide +kernel
theorem dX1_workOut_31 : decode cX1_workOut 31 = .ok (.iconst 0, 1) := by decide +kernel
theorem dX1_workOut_32 : decode cX1_workOut 32 = .ok (.istore_n 3, 1) := by decide +kernel
theorem dX1_workOut_33 : decode cX1_workOut 33 = .ok (.iload_n 3, 1) := by decide +kernel
theorem dX1_workOut_34 : decode cX1_workOut 34 = .ok (.aload_n 0, 1) := by decide +kernel
theorem dX1_workOut_35 : decode cX1_workOut 35 = .ok (.getfield 19, 3) := by decide +kernel
theorem dX1_workOut_38 : decode cX1_workOut 38 = .ok (.iload_n 1, 1) := by decide +kernel
theorem dX1_workOut_39 : decode cX1_workOut 39 = .ok (.iaload, 1) := by decide +kernel
theorem dX1_workOut_40 : decode cX1_workOut 40 = .ok (.if_icmp .ge 78, 3) := by decide +kernel
theorem dX1_workOut_43 : decode cX1_workOut 43 = .ok (.aload_n 0, 1) := by decide +kernel
theorem dX1_workOut_44 : decode cX1_workOut 44 = .ok (.iload_n 1, 1) := by decide +kernel
theorem dX1_workOut_45 : decode cX1_workOut 45 = .ok (.iload_n 3, 1) := by decide +kernel
theorem dX1_workOut_46 : decode cX1_workOut 46 = .ok (.invokevirtual 55, 3) := by decide +kernel
theorem dX1_workOut_49 : decode cX1_workOut 49 = .ok (.istore 4, 2) := by decide +kernel
theorem dX1_workOut_51 : decode cX1_workOut 51 = .ok (.aload_n 0, 1) := by decide +kernel
theorem dX1_workOut_52 : decode cX1_workOut 52 = .ok (.getfield 13, 3) := by decide +kernel
theorem dX1_workOut_55 : decode cX1_workOut 55 = .ok (.iload_n 1, 1) := by decide +kernel
theorem dX1_workOut_56 : decode cX1_workOut 56 = .ok (.iaload, 1) := by decide +kernel
theorem dX1_workOut_57 : decode cX1_workOut 57 = .ok (.ifCond .eq 13, 3) := by decide +kernel
theorem dX1_workOut_60 : decode cX1_workOut 60 = .ok (.aload_n 0, 1) := by decide +kernel
theorem dX1_workOut_61 : decode cX1_workOut 61 = .ok (.getfield 13, 3) := by decide +kernel
theorem dX1_workOut_64 : decode cX1_workOut 64 = .ok (.iload_n 1, 1) := by decide +kernel
theorem dX1_workOut_65 : decode cX1_workOut 65 = .ok (.iaload, 1) := by decide +kernel
theorem dX1_workOut_66 : decode cX1_workOut 66 = .ok (.iconst 3, 1) := by decide +kernel
theorem dX1_workOut_67 : decode cX1_workOut 67 = .ok (.if_icmp .ne 11, 3) := by decide +kernel
theorem dX1_workOut_70 : decode cX1_workOut 70 = .ok (.iload_n 2, 1) := by decide +kernel
theorem dX1_workOut_71 : decode cX1_workOut 71 = .ok (.iload 4, 2) := by decide +kernel
theorem dX1_workOut_73 : decode cX1_workOut 73 = .ok (.iadd, 1) := by decide +kernel
theorem dX1_workOut_74 : decode cX1_workOut 74 = .ok (.istore_n 2, 1) := by decide +kernel
theorem dX1_workOut_75 : decode cX1_workOut 75 = .ok (.goto 37, 3) := by decide +kernel
theorem dX1_workOut_78 : decode cX1_workOut 78 = .ok (.aload_n 0, 1) := by decide +kernel
theorem dX1_workOut_79 : decode cX1_workOut 79 = .ok (.getfield 13, 3) := by decide +kernel
theorem dX1_workOut_82 : decode cX1_workOut 82 = .ok (.iload_n 1, 1) := by decide +kernel
theorem dX1_workOut_83 : decode cX1_workOut 83 = .ok (.iaload, 1) := by decide +kernel
theorem dX1_workOut_84 : decode cX1_workOut 84 = .ok (.iconst 1, 1) := by decide +kernel
theorem dX1_workOut_85 : decode cX1_workOut 85 = .ok (.if_icmp .ne 14, 3) := by decide +kernel
theorem dX1_workOut_88 : decode cX1_workOut 88 = .ok (.iload_n 2, 1) := by decide +kernel
theorem dX1_workOut_89 : decode cX1_workOut 89 = .ok (.bipush 31, 2) := by decide +kernel
theorem dX1_workOut_91 : decode cX1_workOut 91 = .ok (.imul, 1) := by decide +kernel
theorem dX1_workOut_92 : decode cX1_workOut 92 = .ok (.iload 4, 2) := by decide +kernel
theorem dX1_workOut_94 : decode cX1_workOut 94 = .ok (.iadd, 1) := by decide +kernel
theorem dX1_workOut_95 : decode cX1_workOut 95 = .ok (.istore_n 2, 1) := by decide +kernel
theorem dX1_workOut_96 : decode cX1_workOut 96 = .ok (.goto 16, 3) := by decide +kernel
theorem dX1_workOut_99 : decode cX1_workOut 99 = .ok (.iload 4, 2) := by decide +kernel
theorem dX1_workOut_101 : decode cX1_workOut 101 = .ok (.iload_n 2, 1) := by decide +kernel
theorem dX1_workOut_102 : decode cX1_workOut 102 = .ok (.if_icmp .le 8, 3) := by decide +kernel
theorem dX1_workOut_105 : decode cX1_workOut 105 = .ok (.iload 4, 2) := by decide +kernel
theorem dX1_workOut_107 : decode cX1_workOut 107 = .ok (.goto 4, 3) := by decide +kernel
theorem dX1_workOut_110 : decode cX1_workOut 110 = .ok (.iload_n 2, 1) := by decide +kernel
theorem dX1_workOut_111 : decode cX1_workOut 111 = .ok (.istore_n 2, 1) := by decide +kernel
theorem dX1_workOut_112 : decode cX1_workOut 112 = .ok (.iinc 3 1, 3) := by decide +kernel
theorem dX1_workOut_115 : decode cX1_workOut 115 = .ok (.goto (-82), 3) := by decide +kernel
theorem dX1_workOut_118 : decode cX1_workOut 118 = .ok (.aload_n 0, 1) := by decide +kernel
theorem dX1_workOut_119 : decode cX1_workOut 119 = .ok (.getfield 44, 3) := by decide +kernel
theorem dX1_workOut_122 : decode cX1_workOut 122 = .ok (.iload_n 1, 1) := by decide +kernel
theorem dX1_workOut_123 : decode cX1_workOut 123 = .ok (.aload_n 0, 1) := by decide +kernel
theorem dX1_workOut_124 : decode cX1_workOut 124 = .ok (.getfield 13, 3) := by decide +kernel
theorem dX1_workOut_127 : decode cX1_workOut 127 = .ok (.iload_n 1, 1) := by decide +kernel
theorem dX1_workOut_128 : decode cX1_workOut 128 = .ok (.iaload, 1) := by decide +kernel
theorem dX1_workOut_129 : decode cX1_workOut 129 = .ok (.iconst 3, 1) := by decide +kernel
theorem dX1_workOut_130 : decode cX1_workOut 130 = .ok (.if_icmp .ne 10, 3) := by decide +kernel
theorem dX1_workOut_133 : decode cX1_workOut 133 = .ok (.iload_n 2, 1) := by decide +kernel
theorem dX1_workOut_134 : decode cX1_workOut 134 = .ok (.bipush 15, 2) := by decide +kernel
theorem dX1_workOut_136 : decode cX1_workOut 136 = .ok (.iand, 1) := by decide +kernel
theorem dX1_workOut_137 : decode cX1_workOut 137 = .ok (.goto 4, 3) := by decide +kernel
theorem dX1_workOut_140 : decode cX1_workOut 140 = .ok (.iload_n 2, 1) := by decide +kernel
theorem dX1_workOut_141 : decode cX1_workOut 141 = .ok (.iastore, 1) := by decide +kernel
theorem dX1_workOut_142 : decode cX1_workOut 142 = .ok (.iinc 1 1, 3) := by decide +kernel
theorem dX1_workOut_145 : decode cX1_workOut 145 = .ok (.goto (-143), 3) := by decide +kernel
theorem dX1_workOut_148 : decode cX1_workOut 148 = .ok (.return_, 1) := by decide +kernel
abbrev cX1_value : ByteArray := prog_3_method_7_code
def yX1_value : MethodName := ⟨RX1, "value", "(II)I"⟩
theorem dX1_value_0 : decode cX1_value 0 = .ok (.iload_n 2, 1) := by decide +kernel
theorem dX1_value_1 : decode cX1_value 1 = .ok (.aload_n 0, 1) := by decide +kernel
theorem dX1_value_2 : decode cX1_value 2 = .ok (.getfield 19, 3) := by decide +kernel
theorem dX1_value_5 : decode cX1_value 5 = .ok (.iload_n 1, 1) := by decide +kernel
theorem dX1_value_6 : decode cX1_value 6 = .ok (.iaload, 1) := by decide +kernel
theorem dX1_value_7 : decode cX1_value 7 = .ok (.if_icmp .lt 5, 3) := by decide +kernel
theorem dX1_value_10 : decode cX1_value 10 = .ok (.iconst 0, 1) := by decide +kernel
theorem dX1_value_11 : decode cX1_value 11 = .ok (.ireturn, 1) := by decide +kernel
theorem dX1_value_12 : decode cX1_value 12 = .ok (.aload_n 0, 1) := by decide +kernel
theorem dX1_value_13 : decode cX1_value 13 = .ok (.getfield 22, 3) := by decide +kernel
theorem dX1_value_16 : decode cX1_value 16 = .ok (.iload_n 1, 1) := by decide +kernel
theorem dX1_value_17 : decode cX1_value 17 = .ok (.iconst 3, 1) := by decide +kernel
theorem dX1_value_18 : decode cX1_value 18 = .ok (.imul, 1) := by decide +kernel
theorem dX1_value_19 : decode cX1_value 19 = .ok (.iload_n 2, 1) := by decide +kernel
theorem dX1_value_20 : decode cX1_value 20 = .ok (.iadd, 1) := by decide +kernel
theorem dX1_value_21 : decode cX1_value 21 = .ok (.iaload, 1) := by decide +kernel
theorem dX1_value_22 : decode cX1_value 22 = .ok (.istore_n 3, 1) := by decide +kernel
theorem dX1_value_23 : decode cX1_value 23 = .ok (.iload_n 3, 1) := by decide +kernel
theorem dX1_value_24 : decode cX1_value 24 = .ok (.bipush 8, 2) := by decide +kernel
theorem dX1_value_26 : decode cX1_value 26 = .ok (.if_icmp .ge 12, 3) := by decide +kernel
theorem dX1_value_29 : decode cX1_value 29 = .ok (.aload_n 0, 1) := by decide +kernel
theorem dX1_value_30 : decode cX1_value 30 = .ok (.getfield 7, 3) := by decide +kernel
theorem dX1_value_33 : decode cX1_value 33 = .ok (.iload_n 3, 1) := by decide +kernel
theorem dX1_value_34 : decode cX1_value 34 = .ok (.iaload, 1) := by decide +kernel
theorem dX1_value_35 : decode cX1_value 35 = .ok (.goto 12, 3) := by decide +kernel
theorem dX1_value_38 : decode cX1_value 38 = .ok (.aload_n 0, 1) := by decide +kernel
theorem dX1_value_39 : decode cX1_value 39 = .ok (.getfield 44, 3) := by decide +kernel
theorem dX1_value_42 : decode cX1_value 42 = .ok (.iload_n 3, 1) := by decide +kernel
theorem dX1_value_43 : decode cX1_value 43 = .ok (.bipush 8, 2) := by decide +kernel
theorem dX1_value_45 : decode cX1_value 45 = .ok (.isub, 1) := by decide +kernel
theorem dX1_value_46 : decode cX1_value 46 = .ok (.iaload, 1) := by decide +kernel
theorem dX1_value_47 : decode cX1_value 47 = .ok (.ireturn, 1) := by decide +kernel
abbrev cX1_needs : ByteArray := prog_3_method_13_code
def yX1_needs : MethodName := ⟨RX1, "needs", "(I)I"⟩
theorem dX1_needs_0 : decode cX1_needs 0 = .ok (.iconst 1, 1) := by decide +kernel
theorem dX1_needs_1 : decode cX1_needs 1 = .ok (.iload_n 1, 1) := by decide +kernel
theorem dX1_needs_2 : decode cX1_needs 2 = .ok (.ishl, 1) := by decide +kernel
theorem dX1_needs_3 : decode cX1_needs 3 = .ok (.istore_n 2, 1) := by decide +kernel
theorem dX1_needs_4 : decode cX1_needs 4 = .ok (.iload_n 1, 1) := by decide +kernel
theorem dX1_needs_5 : decode cX1_needs 5 = .ok (.istore_n 3, 1) := by decide +kernel
theorem dX1_needs_6 : decode cX1_needs 6 = .ok (.iload_n 3, 1) := by decide +kernel
theorem dX1_needs_7 : decode cX1_needs 7 = .ok (.ifCond .lt 73, 3) := by decide +kernel
theorem dX1_needs_10 : decode cX1_needs 10 = .ok (.iconst 0, 1) := by decide +kernel
theorem dX1_needs_11 : decode cX1_needs 11 = .ok (.istore 4, 2) := by decide +kernel
theorem dX1_needs_13 : decode cX1_needs 13 = .ok (.iload 4, 2) := by decide +kernel
theorem dX1_needs_15 : decode cX1_needs 15 = .ok (.aload_n 0, 1) := by decide +kernel
theorem dX1_needs_16 : decode cX1_needs 16 = .ok (.getfield 19, 3) := by decide +kernel
theorem dX1_needs_19 : decode cX1_needs 19 = .ok (.iload_n 3, 1) := by decide +kernel
theorem dX1_needs_20 : decode cX1_needs 20 = .ok (.iaload, 1) := by decide +kernel
theorem dX1_needs_21 : decode cX1_needs 21 = .ok (.if_icmp .ge 53, 3) := by decide +kernel
theorem dX1_needs_24 : decode cX1_needs 24 = .ok (.iload_n 2, 1) := by decide +kernel
theorem dX1_needs_25 : decode cX1_needs 25 = .ok (.iload_n 3, 1) := by decide +kernel
theorem dX1_needs_26 : decode cX1_needs 26 = .ok (.ishr, 1) := by decide +kernel
theorem dX1_needs_27 : decode cX1_needs 27 = .ok (.iconst 1, 1) := by decide +kernel
theorem dX1_needs_28 : decode cX1_needs 28 = .ok (.iand, 1) := by decide +kernel
theorem dX1_needs_29 : decode cX1_needs 29 = .ok (.iconst 1, 1) := by decide +kernel
theorem dX1_needs_30 : decode cX1_needs 30 = .ok (.if_icmp .ne 38, 3) := by decide +kernel
theorem dX1_needs_33 : decode cX1_needs 33 = .ok (.aload_n 0, 1) := by decide +kernel
theorem dX1_needs_34 : decode cX1_needs 34 = .ok (.getfield 22, 3) := by decide +kernel
theorem dX1_needs_37 : decode cX1_needs 37 = .ok (.iload_n 3, 1) := by decide +kernel
theorem dX1_needs_38 : decode cX1_needs 38 = .ok (.iconst 3, 1) := by decide +kernel
theorem dX1_needs_39 : decode cX1_needs 39 = .ok (.imul, 1) := by decide +kernel
theorem dX1_needs_40 : decode cX1_needs 40 = .ok (.iload 4, 2) := by decide +kernel
theorem dX1_needs_42 : decode cX1_needs 42 = .ok (.iadd, 1) := by decide +kernel
theorem dX1_needs_43 : decode cX1_needs 43 = .ok (.iaload, 1) := by decide +kernel
theorem dX1_needs_44 : decode cX1_needs 44 = .ok (.bipush 8, 2) := by decide +kernel
theorem dX1_needs_46 : decode cX1_needs 46 = .ok (.if_icmp .lt 22, 3) := by decide +kernel
theorem dX1_needs_49 : decode cX1_needs 49 = .ok (.iload_n 2, 1) := by decide +kernel
theorem dX1_needs_50 : decode cX1_needs 50 = .ok (.iconst 1, 1) := by decide +kernel
theorem dX1_needs_51 : decode cX1_needs 51 = .ok (.aload_n 0, 1) := by decide +kernel
theorem dX1_needs_52 : decode cX1_needs 52 = .ok (.getfield 22, 3) := by decide +kernel
theorem dX1_needs_55 : decode cX1_needs 55 = .ok (.iload_n 3, 1) := by decide +kernel
theorem dX1_needs_56 : decode cX1_needs 56 = .ok (.iconst 3, 1) := by decide +kernel
theorem dX1_needs_57 : decode cX1_needs 57 = .ok (.imul, 1) := by decide +kernel
theorem dX1_needs_58 : decode cX1_needs 58 = .ok (.iload 4, 2) := by decide +kernel
theorem dX1_needs_60 : decode cX1_needs 60 = .ok (.iadd, 1) := by decide +kernel
theorem dX1_needs_61 : decode cX1_needs 61 = .ok (.iaload, 1) := by decide +kernel
theorem dX1_needs_62 : decode cX1_needs 62 = .ok (.bipush 8, 2) := by decide +kernel
theorem dX1_needs_64 : decode cX1_needs 64 = .ok (.isub, 1) := by decide +kernel
theorem dX1_needs_65 : decode cX1_needs 65 = .ok (.ishl, 1) := by decide +kernel
theorem dX1_needs_66 : decode cX1_needs 66 = .ok (.ior, 1) := by decide +kernel
theorem dX1_needs_67 : decode cX1_needs 67 = .ok (.istore_n 2, 1) := by decide +kernel
theorem dX1_needs_68 : decode cX1_needs 68 = .ok (.iinc 4 1, 3) := by decide +kernel
theorem dX1_needs_71 : decode cX1_needs 71 = .ok (.goto (-58), 3) := by decide +kernel
theorem dX1_needs_74 : decode cX1_needs 74 = .ok (.iinc 3 (-1), 3) := by decide +kernel
theorem dX1_needs_77 : decode cX1_needs 77 = .ok (.goto (-71), 3) := by decide +kernel
theorem dX1_needs_80 : decode cX1_needs 80 = .ok (.iload_n 2, 1) := by decide +kernel
theorem dX1_needs_81 : decode cX1_needs 81 = .ok (.ireturn, 1) := by decide +kernel
end
section
set_option maxRecDepth 100000
abbrev cX1_handle : ByteArray := prog_3_method_14_code
def yX1_handle : MethodName := ⟨RX1, "handle", "(I)V"⟩
theorem dX1_handle_0 : decode cX1_handle 0 = .ok (.aload_n 0, 1) := by decide +kernel
theorem dX1_handle_1 : decode cX1_handle 1 = .ok (.iload_n 1, 1) := by decide +kernel
theorem dX1_handle_2 : decode cX1_handle 2 = .ok (.invokevirtual 66, 3) := by decide +kernel
theorem dX1_handle_5 : decode cX1_handle 5 = .ok (.ifCond .eq 13, 3) := by decide +kernel
theorem dX1_handle_8 : decode cX1_handle 8 = .ok (.aload_n 0, 1) := by decide +kernel
theorem dX1_handle_9 : decode cX1_handle 9 = .ok (.getfield 28, 3) := by decide +kernel
theorem dX1_handle_12 : decode cX1_handle 12 = .ok (.iload_n 1, 1) := by decide +kernel
theorem dX1_handle_13 : decode cX1_handle 13 = .ok (.iconst 1, 1) := by decide +kernel
theorem dX1_handle_14 : decode cX1_handle 14 = .ok (.iastore, 1) := by decide +kernel
theorem dX1_handle_15 : decode cX1_handle 15 = .ok (.goto 91, 3) := by decide +kernel
theorem dX1_handle_18 : decode cX1_handle 18 = .ok (.aload_n 0, 1) := by decide +kernel
theorem dX1_handle_19 : decode cX1_handle 19 = .ok (.iload_n 1, 1) := by decide +kernel
theorem dX1_handle_20 : decode cX1_handle 20 = .ok (.invokevirtual 69, 3) := by decide +kernel
theorem dX1_handle_23 : decode cX1_handle 23 = .ok (.ifCond .eq 13, 3) := by decide +kernel
theorem dX1_handle_26 : decode cX1_handle 26 = .ok (.aload_n 0, 1) := by decide +kernel
theorem dX1_handle_27 : decode cX1_handle 27 = .ok (.getfield 28, 3) := by decide +kernel
theorem dX1_handle_30 : decode cX1_handle 30 = .ok (.iload_n 1, 1) := by decide +kernel
theorem dX1_handle_31 : decode cX1_handle 31 = .ok (.iconst 2, 1) := by decide +kernel
theorem dX1_handle_32 : decode cX1_handle 32 = .ok (.iastore, 1) := by decide +kernel
theorem dX1_handle_33 : decode cX1_handle 33 = .ok (.goto 73, 3) := by decide +kernel
theorem dX1_handle_36 : decode cX1_handle 36 = .ok (.aload_n 0, 1) := by decide +kernel
theorem dX1_handle_37 : decode cX1_handle 37 = .ok (.getfield 28, 3) := by decide +kernel
theorem dX1_handle_40 : decode cX1_handle 40 = .ok (.iload_n 1, 1) := by decide +kernel
theorem dX1_handle_41 : decode cX1_handle 41 = .ok (.iconst 3, 1) := by decide +kernel
theorem dX1_handle_42 : decode cX1_handle 42 = .ok (.iastore, 1) := by decide +kernel
theorem dX1_handle_43 : decode cX1_handle 43 = .ok (.iconst 0, 1) := by decide +kernel
theorem dX1_handle_44 : decode cX1_handle 44 = .ok (.istore_n 2, 1) := by decide +kernel
theorem dX1_handle_45 : decode cX1_handle 45 = .ok (.iload_n 2, 1) := by decide +kernel
theorem dX1_handle_46 : decode cX1_handle 46 = .ok (.iconst 5, 1) := by decide +kernel
theorem dX1_handle_47 : decode cX1_handle 47 = .ok (.if_icmp .ge 35, 3) := by decide +kernel
theorem dX1_handle_50 : decode cX1_handle 50 = .ok (.aload_n 0, 1) := by decide +kernel
theorem dX1_handle_51 : decode cX1_handle 51 = .ok (.getfield 41, 3) := by decide +kernel
theorem dX1_handle_54 : decode cX1_handle 54 = .ok (.iload_n 1, 1) := by decide +kernel
theorem dX1_handle_55 : decode cX1_handle 55 = .ok (.bipush 40, 2) := by decide +kernel
theorem dX1_handle_57 : decode cX1_handle 57 = .ok (.imul, 1) := by decide +kernel
theorem dX1_handle_58 : decode cX1_handle 58 = .ok (.aload_n 0, 1) := by decide +kernel
theorem dX1_handle_59 : decode cX1_handle 59 = .ok (.getfield 38, 3) := by decide +kernel
theorem dX1_handle_62 : decode cX1_handle 62 = .ok (.iload_n 1, 1) := by decide +kernel
theorem dX1_handle_63 : decode cX1_handle 63 = .ok (.iaload, 1) := by decide +kernel
theorem dX1_handle_64 : decode cX1_handle 64 = .ok (.iadd, 1) := by decide +kernel
theorem dX1_handle_65 : decode cX1_handle 65 = .ok (.iconst 5, 1) := by decide +kernel
theorem dX1_handle_66 : decode cX1_handle 66 = .ok (.imul, 1) := by decide +kernel
theorem dX1_handle_67 : decode cX1_handle 67 = .ok (.iload_n 2, 1) := by decide +kernel
theorem dX1_handle_68 : decode cX1_handle 68 = .ok (.iadd, 1) := by decide +kernel
theorem dX1_handle_69 : decode cX1_handle 69 = .ok (.aload_n 0, 1) := by decide +kernel
theorem dX1_handle_70 : decode cX1_handle 70 = .ok (.iload_n 1, 1) := by decide +kernel
theorem dX1_handle_71 : decode cX1_handle 71 = .ok (.iload_n 2, 1) := by decide +kernel
theorem dX1_handle_72 : decode cX1_handle 72 = .ok (.invokevirtual 59, 3) := by decide +kernel
theorem dX1_handle_75 : decode cX1_handle 75 = .ok (.iastore, 1) := by decide +kernel
theorem dX1_handle_76 : decode cX1_handle 76 = .ok (.iinc 2 1, 3) := by decide +kernel
theorem dX1_handle_79 : decode cX1_handle 79 = .ok (.goto (-34), 3) := by decide +kernel
theorem dX1_handle_82 : decode cX1_handle 82 = .ok (.aload_n 0, 1) := by decide +kernel
theorem dX1_handle_83 : decode cX1_handle 83 = .ok (.getfield 38, 3) := by decide +kernel
theorem dX1_handle_86 : decode cX1_handle 86 = .ok (.iload_n 1, 1) := by decide +kernel
theorem dX1_handle_87 : decode cX1_handle 87 = .ok (.aload_n 0, 1) := by decide +kernel
theorem dX1_handle_88 : decode cX1_handle 88 = .ok (.getfield 38, 3) := by decide +kernel
theorem dX1_handle_91 : decode cX1_handle 91 = .ok (.iload_n 1, 1) := by decide +kernel
theorem dX1_handle_92 : decode cX1_handle 92 = .ok (.iaload, 1) := by decide +kernel
theorem dX1_handle_93 : decode cX1_handle 93 = .ok (.iconst 1, 1) := by decide +kernel
theorem dX1_handle_94 : decode cX1_handle 94 = .ok (.iadd, 1) := by decide +kernel
theorem dX1_handle_95 : decode cX1_handle 95 = .ok (.iastore, 1) := by decide +kernel
theorem dX1_handle_96 : decode cX1_handle 96 = .ok (.aload_n 0, 1) := by decide +kernel
theorem dX1_handle_97 : decode cX1_handle 97 = .ok (.aload_n 0, 1) := by decide +kernel
theorem dX1_handle_98 : decode cX1_handle 98 = .ok (.getfield 72, 3) := by decide +kernel
theorem dX1_handle_101 : decode cX1_handle 101 = .ok (.iconst 1, 1) := by decide +kernel
theorem dX1_handle_102 : decode cX1_handle 102 = .ok (.iadd, 1) := by decide +kernel
theorem dX1_handle_103 : decode cX1_handle 103 = .ok (.putfield 72, 3) := by decide +kernel
theorem dX1_handle_106 : decode cX1_handle 106 = .ok (.iconst 0, 1) := by decide +kernel
theorem dX1_handle_107 : decode cX1_handle 107 = .ok (.istore_n 2, 1) := by decide +kernel
theorem dX1_handle_108 : decode cX1_handle 108 = .ok (.iload_n 2, 1) := by decide +kernel
theorem dX1_handle_109 : decode cX1_handle 109 = .ok (.iconst 5, 1) := by decide +kernel
theorem dX1_handle_110 : decode cX1_handle 110 = .ok (.if_icmp .ge 25, 3) := by decide +kernel
theorem dX1_handle_113 : decode cX1_handle 113 = .ok (.aload_n 0, 1) := by decide +kernel
theorem dX1_handle_114 : decode cX1_handle 114 = .ok (.getfield 35, 3) := by decide +kernel
theorem dX1_handle_117 : decode cX1_handle 117 = .ok (.iload_n 1, 1) := by decide +kernel
theorem dX1_handle_118 : decode cX1_handle 118 = .ok (.iconst 5, 1) := by decide +kernel
theorem dX1_handle_119 : decode cX1_handle 119 = .ok (.imul, 1) := by decide +kernel
theorem dX1_handle_120 : decode cX1_handle 120 = .ok (.iload_n 2, 1) := by decide +kernel
theorem dX1_handle_121 : decode cX1_handle 121 = .ok (.iadd, 1) := by decide +kernel
theorem dX1_handle_122 : decode cX1_handle 122 = .ok (.aload_n 0, 1) := by decide +kernel
theorem dX1_handle_123 : decode cX1_handle 123 = .ok (.iload_n 1, 1) := by decide +kernel
theorem dX1_handle_124 : decode cX1_handle 124 = .ok (.iload_n 2, 1) := by decide +kernel
theorem dX1_handle_125 : decode cX1_handle 125 = .ok (.invokevirtual 59, 3) := by decide +kernel
theorem dX1_handle_128 : decode cX1_handle 128 = .ok (.iastore, 1) := by decide +kernel
theorem dX1_handle_129 : decode cX1_handle 129 = .ok (.iinc 2 1, 3) := by decide +kernel
theorem dX1_handle_132 : decode cX1_handle 132 = .ok (.goto (-24), 3) := by decide +kernel
theorem dX1_handle_135 : decode cX1_handle 135 = .ok (.aload_n 0, 1) := by decide +kernel
theorem dX1_handle_136 : decode cX1_handle 136 = .ok (.getfield 31, 3) := by decide +kernel
theorem dX1_handle_139 : decode cX1_handle 139 = .ok (.iload_n 1, 1) := by decide +kernel
theorem dX1_handle_140 : decode cX1_handle 140 = .ok (.iconst 1, 1) := by decide +kernel
theorem dX1_handle_141 : decode cX1_handle 141 = .ok (.bastore, 1) := by decide +kernel
theorem dX1_handle_142 : decode cX1_handle 142 = .ok (.aload_n 0, 1) := by decide +kernel
theorem dX1_handle_143 : decode cX1_handle 143 = .ok (.getfield 25, 3) := by decide +kernel
theorem dX1_handle_146 : decode cX1_handle 146 = .ok (.iload_n 1, 1) := by decide +kernel
theorem dX1_handle_147 : decode cX1_handle 147 = .ok (.aload_n 0, 1) := by decide +kernel
theorem dX1_handle_148 : decode cX1_handle 148 = .ok (.getfield 44, 3) := by decide +kernel
theorem dX1_handle_151 : decode cX1_handle 151 = .ok (.iload_n 1, 1) := by decide +kernel
theorem dX1_handle_152 : decode cX1_handle 152 = .ok (.iaload, 1) := by decide +kernel
theorem dX1_handle_153 : decode cX1_handle 153 = .ok (.iastore, 1) := by decide +kernel
theorem dX1_handle_154 : decode cX1_handle 154 = .ok (.return_, 1) := by decide +kernel
abbrev cX1_isLast : ByteArray := prog_3_method_10_code
def yX1_isLast : MethodName := ⟨RX1, "isLast", "(I)Z"⟩
theorem dX1_isLast_0 : decode cX1_isLast 0 = .ok (.aload_n 0, 1) := by decide +kernel
theorem dX1_isLast_1 : decode cX1_isLast 1 = .ok (.getfield 31, 3) := by decide +kernel
theorem dX1_isLast_4 : decode cX1_isLast 4 = .ok (.iload_n 1, 1) := by decide +kernel
theorem dX1_isLast_5 : decode cX1_isLast 5 = .ok (.baload, 1) := by decide +kernel
theorem dX1_isLast_6 : decode cX1_isLast 6 = .ok (.ifCond .ne 5, 3) := by decide +kernel
theorem dX1_isLast_9 : decode cX1_isLast 9 = .ok (.iconst 0, 1) := by decide +kernel
theorem dX1_isLast_10 : decode cX1_isLast 10 = .ok (.ireturn, 1) := by decide +kernel
theorem dX1_isLast_11 : decode cX1_isLast 11 = .ok (.iconst 0, 1) := by decide +kernel
theorem dX1_isLast_12 : decode cX1_isLast 12 = .ok (.istore_n 2, 1) := by decide +kernel
theorem dX1_isLast_13 : decode cX1_isLast 13 = .ok (.iload_n 2, 1) := by decide +kernel
theorem dX1_isLast_14 : decode cX1_isLast 14 = .ok (.iconst 5, 1) := by decide +kernel
theorem dX1_isLast_15 : decode cX1_isLast 15 = .ok (.if_icmp .ge 30, 3) := by decide +kernel
theorem dX1_isLast_18 : decode cX1_isLast 18 = .ok (.aload_n 0, 1) := by decide +kernel
theorem dX1_isLast_19 : decode cX1_isLast 19 = .ok (.getfield 35, 3) := by decide +kernel
theorem dX1_isLast_22 : decode cX1_isLast 22 = .ok (.iload_n 1, 1) := by decide +kernel
theorem dX1_isLast_23 : decode cX1_isLast 23 = .ok (.iconst 5, 1) := by decide +kernel
theorem dX1_isLast_24 : decode cX1_isLast 24 = .ok (.imul, 1) := by decide +kernel
theorem dX1_isLast_25 : decode cX1_isLast 25 = .ok (.iload_n 2, 1) := by decide +kernel
theorem dX1_isLast_26 : decode cX1_isLast 26 = .ok (.iadd, 1) := by decide +kernel
theorem dX1_isLast_27 : decode cX1_isLast 27 = .ok (.iaload, 1) := by decide +kernel
theorem dX1_isLast_28 : decode cX1_isLast 28 = .ok (.aload_n 0, 1) := by decide +kernel
theorem dX1_isLast_29 : decode cX1_isLast 29 = .ok (.iload_n 1, 1) := by decide +kernel
theorem dX1_isLast_30 : decode cX1_isLast 30 = .ok (.iload_n 2, 1) := by decide +kernel
theorem dX1_isLast_31 : decode cX1_isLast 31 = .ok (.invokevirtual 59, 3) := by decide +kernel
theorem dX1_isLast_34 : decode cX1_isLast 34 = .ok (.if_icmp .eq 5, 3) := by decide +kernel
theorem dX1_isLast_37 : decode cX1_isLast 37 = .ok (.iconst 0, 1) := by decide +kernel
theorem dX1_isLast_38 : decode cX1_isLast 38 = .ok (.ireturn, 1) := by decide +kernel
theorem dX1_isLast_39 : decode cX1_isLast 39 = .ok (.iinc 2 1, 3) := by decide +kernel
theorem dX1_isLast_42 : decode cX1_isLast 42 = .ok (.goto (-29), 3) := by decide +kernel
theorem dX1_isLast_45 : decode cX1_isLast 45 = .ok (.iconst 1, 1) := by decide +kernel
theorem dX1_isLast_46 : decode cX1_isLast 46 = .ok (.ireturn, 1) := by decide +kernel
abbrev cX1_part : ByteArray := prog_3_method_9_code
def yX1_part : MethodName := ⟨RX1, "part", "(II)I"⟩
theorem dX1_part_0 : decode cX1_part 0 = .ok (.iload_n 2, 1) := by decide +kernel
theorem dX1_part_1 : decode cX1_part 1 = .ok (.ifCond .ne 12, 3) := by decide +kernel
theorem dX1_part_4 : decode cX1_part 4 = .ok (.aload_n 0, 1) := by decide +kernel
theorem dX1_part_5 : decode cX1_part 5 = .ok (.getfield 16, 3) := by decide +kernel
theorem dX1_part_8 : decode cX1_part 8 = .ok (.iload_n 1, 1) := by decide +kernel
theorem dX1_part_9 : decode cX1_part 9 = .ok (.iaload, 1) := by decide +kernel
theorem dX1_part_10 : decode cX1_part 10 = .ok (.goto 25, 3) := by decide +kernel
theorem dX1_part_13 : decode cX1_part 13 = .ok (.iload_n 2, 1) := by decide +kernel
theorem dX1_part_14 : decode cX1_part 14 = .ok (.iconst 1, 1) := by decide +kernel
theorem dX1_part_15 : decode cX1_part 15 = .ok (.if_icmp .ne 12, 3) := by decide +kernel
theorem dX1_part_18 : decode cX1_part 18 = .ok (.aload_n 0, 1) := by decide +kernel
theorem dX1_part_19 : decode cX1_part 19 = .ok (.getfield 19, 3) := by decide +kernel
theorem dX1_part_22 : decode cX1_part 22 = .ok (.iload_n 1, 1) := by decide +kernel
theorem dX1_part_23 : decode cX1_part 23 = .ok (.iaload, 1) := by decide +kernel
theorem dX1_part_24 : decode cX1_part 24 = .ok (.goto 11, 3) := by decide +kernel
theorem dX1_part_27 : decode cX1_part 27 = .ok (.aload_n 0, 1) := by decide +kernel
theorem dX1_part_28 : decode cX1_part 28 = .ok (.iload_n 1, 1) := by decide +kernel
theorem dX1_part_29 : decode cX1_part 29 = .ok (.iload_n 2, 1) := by decide +kernel
theorem dX1_part_30 : decode cX1_part 30 = .ok (.iconst 2, 1) := by decide +kernel
theorem dX1_part_31 : decode cX1_part 31 = .ok (.isub, 1) := by decide +kernel
theorem dX1_part_32 : decode cX1_part 32 = .ok (.invokevirtual 55, 3) := by decide +kernel
theorem dX1_part_35 : decode cX1_part 35 = .ok (.ireturn, 1) := by decide +kernel
abbrev cX1_isStored : ByteArray := prog_3_method_12_code
def yX1_isStored : MethodName := ⟨RX1, "isStored", "(I)Z"⟩
theorem dX1_isStored_0 : decode cX1_isStored 0 = .ok (.iconst 0, 1) := by decide +kernel
theorem dX1_isStored_1 : decode cX1_isStored 1 = .ok (.istore_n 2, 1) := by decide +kernel
theorem dX1_isStored_2 : decode cX1_isStored 2 = .ok (.iload_n 2, 1) := by decide +kernel
theorem dX1_isStored_3 : decode cX1_isStored 3 = .ok (.aload_n 0, 1) := by decide +kernel
theorem dX1_isStored_4 : decode cX1_isStored 4 = .ok (.getfield 38, 3) := by decide +kernel
theorem dX1_isStored_7 : decode cX1_isStored 7 = .ok (.iload_n 1, 1) := by decide +kernel
theorem dX1_isStored_8 : decode cX1_isStored 8 = .ok (.iaload, 1) := by decide +kernel
theorem dX1_isStored_9 : decode cX1_isStored 9 = .ok (.if_icmp .ge 20, 3) := by decide +kernel
theorem dX1_isStored_12 : decode cX1_isStored 12 = .ok (.aload_n 0, 1) := by decide +kernel
theorem dX1_isStored_13 : decode cX1_isStored 13 = .ok (.iload_n 1, 1) := by decide +kernel
theorem dX1_isStored_14 : decode cX1_isStored 14 = .ok (.iload_n 2, 1) := by decide +kernel
theorem dX1_isStored_15 : decode cX1_isStored 15 = .ok (.invokevirtual 62, 3) := by decide +kernel
theorem dX1_isStored_18 : decode cX1_isStored 18 = .ok (.ifCond .eq 5, 3) := by decide +kernel
theorem dX1_isStored_21 : decode cX1_isStored 21 = .ok (.iconst 1, 1) := by decide +kernel
theorem dX1_isStored_22 : decode cX1_isStored 22 = .ok (.ireturn, 1) := by decide +kernel
theorem dX1_isStored_23 : decode cX1_isStored 23 = .ok (.iinc 2 1, 3) := by decide +kernel
theorem dX1_isStored_26 : decode cX1_isStored 26 = .ok (.goto (-24), 3) := by decide +kernel
theorem dX1_isStored_29 : decode cX1_isStored 29 = .ok (.iconst 0, 1) := by decide +kernel
theorem dX1_isStored_30 : decode cX1_isStored 30 = .ok (.ireturn, 1) := by decide +kernel
abbrev cX1_isRecord : ByteArray := prog_3_method_11_code
def yX1_isRecord : MethodName := ⟨RX1, "isRecord", "(II)Z"⟩
theorem dX1_isRecord_0 : decode cX1_isRecord 0 = .ok (.iconst 0, 1) := by decide +kernel
theorem dX1_isRecord_1 : decode cX1_isRecord 1 = .ok (.istore_n 3, 1) := by decide +kernel
theorem dX1_isRecord_2 : decode cX1_isRecord 2 = .ok (.iload_n 3, 1) := by decide +kernel
theorem dX1_isRecord_3 : decode cX1_isRecord 3 = .ok (.iconst 5, 1) := by decide +kernel
theorem dX1_isRecord_4 : decode cX1_isRecord 4 = .ok (.if_icmp .ge 35, 3) := by decide +kernel
theorem dX1_isRecord_7 : decode cX1_isRecord 7 = .ok (.aload_n 0, 1) := by decide +kernel
theorem dX1_isRecord_8 : decode cX1_isRecord 8 = .ok (.getfield 41, 3) := by decide +kernel
theorem dX1_isRecord_11 : decode cX1_isRecord 11 = .ok (.iload_n 1, 1) := by decide +kernel
theorem dX1_isRecord_12 : decode cX1_isRecord 12 = .ok (.bipush 40, 2) := by decide +kernel
theorem dX1_isRecord_14 : decode cX1_isRecord 14 = .ok (.imul, 1) := by decide +kernel
theorem dX1_isRecord_15 : decode cX1_isRecord 15 = .ok (.iload_n 2, 1) := by decide +kernel
theorem dX1_isRecord_16 : decode cX1_isRecord 16 = .ok (.iadd, 1) := by decide +kernel
theorem dX1_isRecord_17 : decode cX1_isRecord 17 = .ok (.iconst 5, 1) := by decide +kernel
theorem dX1_isRecord_18 : decode cX1_isRecord 18 = .ok (.imul, 1) := by decide +kernel
theorem dX1_isRecord_19 : decode cX1_isRecord 19 = .ok (.iload_n 3, 1) := by decide +kernel
theorem dX1_isRecord_20 : decode cX1_isRecord 20 = .ok (.iadd, 1) := by decide +kernel
theorem dX1_isRecord_21 : decode cX1_isRecord 21 = .ok (.iaload, 1) := by decide +kernel
theorem dX1_isRecord_22 : decode cX1_isRecord 22 = .ok (.aload_n 0, 1) := by decide +kernel
theorem dX1_isRecord_23 : decode cX1_isRecord 23 = .ok (.iload_n 1, 1) := by decide +kernel
theorem dX1_isRecord_24 : decode cX1_isRecord 24 = .ok (.iload_n 3, 1) := by decide +kernel
theorem dX1_isRecord_25 : decode cX1_isRecord 25 = .ok (.invokevirtual 59, 3) := by decide +kernel
theorem dX1_isRecord_28 : decode cX1_isRecord 28 = .ok (.if_icmp .eq 5, 3) := by decide +kernel
theorem dX1_isRecord_31 : decode cX1_isRecord 31 = .ok (.iconst 0, 1) := by decide +kernel
theorem dX1_isRecord_32 : decode cX1_isRecord 32 = .ok (.ireturn, 1) := by decide +kernel
theorem dX1_isRecord_33 : decode cX1_isRecord 33 = .ok (.iinc 3 1, 3) := by decide +kernel
theorem dX1_isRecord_36 : decode cX1_isRecord 36 = .ok (.goto (-34), 3) := by decide +kernel
theorem dX1_isRecord_39 : decode cX1_isRecord 39 = .ok (.iconst 1, 1) := by decide +kernel
theorem dX1_isRecord_40 : decode cX1_isRecord 40 = .ok (.ireturn, 1) := by decide +kernel
abbrev cX1_clean : ByteArray := prog_3_method_16_code
def yX1_clean : MethodName := ⟨RX1, "clean", "(I)I"⟩
theorem dX1_clean_0 : decode cX1_clean 0 = .ok (.aload_n 0, 1) := by decide +kernel
theorem dX1_clean_1 : decode cX1_clean 1 = .ok (.iload_n 1, 1) := by decide +kernel
theorem dX1_clean_2 : decode cX1_clean 2 = .ok (.invokevirtual 51, 3) := by decide +kernel
theorem dX1_clean_5 : decode cX1_clean 5 = .ok (.ifCond .eq 5, 3) := by decide +kernel
theorem dX1_clean_8 : decode cX1_clean 8 = .ok (.iconst (-1), 1) := by decide +kernel
theorem dX1_clean_9 : decode cX1_clean 9 = .ok (.ireturn, 1) := by decide +kernel
theorem dX1_clean_10 : decode cX1_clean 10 = .ok (.aload_n 0, 1) := by decide +kernel
theorem dX1_clean_11 : decode cX1_clean 11 = .ok (.getfield 31, 3) := by decide +kernel
theorem dX1_clean_14 : decode cX1_clean 14 = .ok (.iload_n 1, 1) := by decide +kernel
theorem dX1_clean_15 : decode cX1_clean 15 = .ok (.baload, 1) := by decide +kernel
theorem dX1_clean_16 : decode cX1_clean 16 = .ok (.ifCond .eq 7, 3) := by decide +kernel
theorem dX1_clean_19 : decode cX1_clean 19 = .ok (.iconst 1, 1) := by decide +kernel
theorem dX1_clean_20 : decode cX1_clean 20 = .ok (.goto 4, 3) := by decide +kernel
theorem dX1_clean_23 : decode cX1_clean 23 = .ok (.iconst 0, 1) := by decide +kernel
theorem dX1_clean_24 : decode cX1_clean 24 = .ok (.istore_n 2, 1) := by decide +kernel
theorem dX1_clean_25 : decode cX1_clean 25 = .ok (.aload_n 0, 1) := by decide +kernel
theorem dX1_clean_26 : decode cX1_clean 26 = .ok (.getfield 31, 3) := by decide +kernel
theorem dX1_clean_29 : decode cX1_clean 29 = .ok (.iload_n 1, 1) := by decide +kernel
theorem dX1_clean_30 : decode cX1_clean 30 = .ok (.iconst 0, 1) := by decide +kernel
theorem dX1_clean_31 : decode cX1_clean 31 = .ok (.bastore, 1) := by decide +kernel
theorem dX1_clean_32 : decode cX1_clean 32 = .ok (.iload_n 2, 1) := by decide +kernel
theorem dX1_clean_33 : decode cX1_clean 33 = .ok (.ireturn, 1) := by decide +kernel
abbrev cX1_emptyStore : ByteArray := prog_3_method_17_code
def yX1_emptyStore : MethodName := ⟨RX1, "emptyStore", "()V"⟩
theorem dX1_emptyStore_0 : decode cX1_emptyStore 0 = .ok (.aload_n 0, 1) := by decide +kernel
theorem dX1_emptyStore_1 : decode cX1_emptyStore 1 = .ok (.iconst 0, 1) := by decide +kernel
theorem dX1_emptyStore_2 : decode cX1_emptyStore 2 = .ok (.putfield 75, 3) := by decide +kernel
theorem dX1_emptyStore_5 : decode cX1_emptyStore 5 = .ok (.iconst 0, 1) := by decide +kernel
theorem dX1_emptyStore_6 : decode cX1_emptyStore 6 = .ok (.istore_n 1, 1) := by decide +kernel
theorem dX1_emptyStore_7 : decode cX1_emptyStore 7 = .ok (.iload_n 1, 1) := by decide +kernel
theorem dX1_emptyStore_8 : decode cX1_emptyStore 8 = .ok (.bipush 12, 2) := by decide +kernel
theorem dX1_emptyStore_10 : decode cX1_emptyStore 10 = .ok (.if_icmp .ge 16, 3) := by decide +kernel
theorem dX1_emptyStore_13 : decode cX1_emptyStore 13 = .ok (.aload_n 0, 1) := by decide +kernel
theorem dX1_emptyStore_14 : decode cX1_emptyStore 14 = .ok (.getfield 38, 3) := by decide +kernel
theorem dX1_emptyStore_17 : decode cX1_emptyStore 17 = .ok (.iload_n 1, 1) := by decide +kernel
theorem dX1_emptyStore_18 : decode cX1_emptyStore 18 = .ok (.iconst 0, 1) := by decide +kernel
theorem dX1_emptyStore_19 : decode cX1_emptyStore 19 = .ok (.iastore, 1) := by decide +kernel
theorem dX1_emptyStore_20 : decode cX1_emptyStore 20 = .ok (.iinc 1 1, 3) := by decide +kernel
theorem dX1_emptyStore_23 : decode cX1_emptyStore 23 = .ok (.goto (-16), 3) := by decide +kernel
theorem dX1_emptyStore_26 : decode cX1_emptyStore 26 = .ok (.return_, 1) := by decide +kernel
abbrev cX1_status : ByteArray := prog_3_method_18_code
def yX1_status : MethodName := ⟨RX1, "status", "(I)I"⟩
theorem dX1_status_0 : decode cX1_status 0 = .ok (.aload_n 0, 1) := by decide +kernel
theorem dX1_status_1 : decode cX1_status 1 = .ok (.iload_n 1, 1) := by decide +kernel
theorem dX1_status_2 : decode cX1_status 2 = .ok (.invokevirtual 51, 3) := by decide +kernel
theorem dX1_status_5 : decode cX1_status 5 = .ok (.ifCond .eq 7, 3) := by decide +kernel
theorem dX1_status_8 : decode cX1_status 8 = .ok (.iconst (-1), 1) := by decide +kernel
theorem dX1_status_9 : decode cX1_status 9 = .ok (.goto 9, 3) := by decide +kernel
theorem dX1_status_12 : decode cX1_status 12 = .ok (.aload_n 0, 1) := by decide +kernel
theorem dX1_status_13 : decode cX1_status 13 = .ok (.getfield 28, 3) := by decide +kernel
theorem dX1_status_16 : decode cX1_status 16 = .ok (.iload_n 1, 1) := by decide +kernel
theorem dX1_status_17 : decode cX1_status 17 = .ok (.iaload, 1) := by decide +kernel
theorem dX1_status_18 : decode cX1_status 18 = .ok (.ireturn, 1) := by decide +kernel
abbrev cX1_output : ByteArray := prog_3_method_19_code
def yX1_output : MethodName := ⟨RX1, "output", "(I)I"⟩
theorem dX1_output_0 : decode cX1_output 0 = .ok (.aload_n 0, 1) := by decide +kernel
theorem dX1_output_1 : decode cX1_output 1 = .ok (.iload_n 1, 1) := by decide +kernel
theorem dX1_output_2 : decode cX1_output 2 = .ok (.invokevirtual 51, 3) := by decide +kernel
theorem dX1_output_5 : decode cX1_output 5 = .ok (.ifCond .eq 7, 3) := by decide +kernel
theorem dX1_output_8 : decode cX1_output 8 = .ok (.iconst 0, 1) := by decide +kernel
theorem dX1_output_9 : decode cX1_output 9 = .ok (.goto 9, 3) := by decide +kernel
theorem dX1_output_12 : decode cX1_output 12 = .ok (.aload_n 0, 1) := by decide +kernel
theorem dX1_output_13 : decode cX1_output 13 = .ok (.getfield 25, 3) := by decide +kernel
theorem dX1_output_16 : decode cX1_output 16 = .ok (.iload_n 1, 1) := by decide +kernel
theorem dX1_output_17 : decode cX1_output 17 = .ok (.iaload, 1) := by decide +kernel
theorem dX1_output_18 : decode cX1_output 18 = .ok (.ireturn, 1) := by decide +kernel
abbrev cX1_fresh : ByteArray := prog_3_method_20_code
def yX1_fresh : MethodName := ⟨RX1, "fresh", "(I)I"⟩
theorem dX1_fresh_0 : decode cX1_fresh 0 = .ok (.aload_n 0, 1) := by decide +kernel
theorem dX1_fresh_1 : decode cX1_fresh 1 = .ok (.iload_n 1, 1) := by decide +kernel
theorem dX1_fresh_2 : decode cX1_fresh 2 = .ok (.invokevirtual 51, 3) := by decide +kernel
theorem dX1_fresh_5 : decode cX1_fresh 5 = .ok (.ifCond .eq 5, 3) := by decide +kernel
theorem dX1_fresh_8 : decode cX1_fresh 8 = .ok (.iconst 0, 1) := by decide +kernel
theorem dX1_fresh_9 : decode cX1_fresh 9 = .ok (.ireturn, 1) := by decide +kernel
theorem dX1_fresh_10 : decode cX1_fresh 10 = .ok (.aload_n 0, 1) := by decide +kernel
theorem dX1_fresh_11 : decode cX1_fresh 11 = .ok (.invokevirtual 78, 3) := by decide +kernel
theorem dX1_fresh_14 : decode cX1_fresh 14 = .ok (.aload_n 0, 1) := by decide +kernel
theorem dX1_fresh_15 : decode cX1_fresh 15 = .ok (.getfield 44, 3) := by decide +kernel
theorem dX1_fresh_18 : decode cX1_fresh 18 = .ok (.iload_n 1, 1) := by decide +kernel
theorem dX1_fresh_19 : decode cX1_fresh 19 = .ok (.iaload, 1) := by decide +kernel
theorem dX1_fresh_20 : decode cX1_fresh 20 = .ok (.ireturn, 1) := by decide +kernel
abbrev cX1_needed : ByteArray := prog_3_method_21_code
def yX1_needed : MethodName := ⟨RX1, "needed", "(I)I"⟩
theorem dX1_needed_0 : decode cX1_needed 0 = .ok (.aload_n 0, 1) := by decide +kernel
theorem dX1_needed_1 : decode cX1_needed 1 = .ok (.iload_n 1, 1) := by decide +kernel
theorem dX1_needed_2 : decode cX1_needed 2 = .ok (.invokevirtual 51, 3) := by decide +kernel
theorem dX1_needed_5 : decode cX1_needed 5 = .ok (.ifCond .eq 5, 3) := by decide +kernel
theorem dX1_needed_8 : decode cX1_needed 8 = .ok (.iconst (-1), 1) := by decide +kernel
theorem dX1_needed_9 : decode cX1_needed 9 = .ok (.ireturn, 1) := by decide +kernel
theorem dX1_needed_10 : decode cX1_needed 10 = .ok (.aload_n 0, 1) := by decide +kernel
theorem dX1_needed_11 : decode cX1_needed 11 = .ok (.iload_n 1, 1) := by decide +kernel
theorem dX1_needed_12 : decode cX1_needed 12 = .ok (.invokevirtual 81, 3) := by decide +kernel
theorem dX1_needed_15 : decode cX1_needed 15 = .ok (.istore_n 2, 1) := by decide +kernel
theorem dX1_needed_16 : decode cX1_needed 16 = .ok (.iconst 0, 1) := by decide +kernel
theorem dX1_needed_17 : decode cX1_needed 17 = .ok (.istore_n 3, 1) := by decide +kernel
theorem dX1_needed_18 : decode cX1_needed 18 = .ok (.iconst 0, 1) := by decide +kernel
theorem dX1_needed_19 : decode cX1_needed 19 = .ok (.istore 4, 2) := by decide +kernel
theorem dX1_needed_21 : decode cX1_needed 21 = .ok (.iload 4, 2) := by decide +kernel
theorem dX1_needed_23 : decode cX1_needed 23 = .ok (.bipush 12, 2) := by decide +kernel
theorem dX1_needed_25 : decode cX1_needed 25 = .ok (.if_icmp .ge 18, 3) := by decide +kernel
theorem dX1_needed_28 : decode cX1_needed 28 = .ok (.iload_n 3, 1) := by decide +kernel
theorem dX1_needed_29 : decode cX1_needed 29 = .ok (.iload_n 2, 1) := by decide +kernel
theorem dX1_needed_30 : decode cX1_needed 30 = .ok (.iload 4, 2) := by decide +kernel
theorem dX1_needed_32 : decode cX1_needed 32 = .ok (.ishr, 1) := by decide +kernel
theorem dX1_needed_33 : decode cX1_needed 33 = .ok (.iconst 1, 1) := by decide +kernel
theorem dX1_needed_34 : decode cX1_needed 34 = .ok (.iand, 1) := by decide +kernel
theorem dX1_needed_35 : decode cX1_needed 35 = .ok (.iadd, 1) := by decide +kernel
theorem dX1_needed_36 : decode cX1_needed 36 = .ok (.istore_n 3, 1) := by decide +kernel
theorem dX1_needed_37 : decode cX1_needed 37 = .ok (.iinc 4 1, 3) := by decide +kernel
theorem dX1_needed_40 : decode cX1_needed 40 = .ok (.goto (-19), 3) := by decide +kernel
theorem dX1_needed_43 : decode cX1_needed 43 = .ok (.iload_n 3, 1) := by decide +kernel
theorem dX1_needed_44 : decode cX1_needed 44 = .ok (.ireturn, 1) := by decide +kernel
abbrev cX1_work : ByteArray := prog_3_method_22_code
def yX1_work : MethodName := ⟨RX1, "work", "(I)I"⟩
theorem dX1_work_0 : decode cX1_work 0 = .ok (.aload_n 0, 1) := by decide +kernel
theorem dX1_work_1 : decode cX1_work 1 = .ok (.iload_n 1, 1) := by decide +kernel
theorem dX1_work_2 : decode cX1_work 2 = .ok (.invokevirtual 51, 3) := by decide +kernel
theorem dX1_work_5 : decode cX1_work 5 = .ok (.ifCond .eq 5, 3) := by decide +kernel
theorem dX1_work_8 : decode cX1_work 8 = .ok (.iconst (-1), 1) := by decide +kernel
theorem dX1_work_9 : decode cX1_work 9 = .ok (.ireturn, 1) := by decide +kernel
theorem dX1_work_10 : decode cX1_work 10 = .ok (.aload_n 0, 1) := by decide +kernel
theorem dX1_work_11 : decode cX1_work 11 = .ok (.invokevirtual 78, 3) := by decide +kernel
theorem dX1_work_14 : decode cX1_work 14 = .ok (.aload_n 0, 1) := by decide +kernel
theorem dX1_work_15 : decode cX1_work 15 = .ok (.iload_n 1, 1) := by decide +kernel
theorem dX1_work_16 : decode cX1_work 16 = .ok (.invokevirtual 81, 3) := by decide +kernel
theorem dX1_work_19 : decode cX1_work 19 = .ok (.istore_n 2, 1) := by decide +kernel
theorem dX1_work_20 : decode cX1_work 20 = .ok (.iconst 0, 1) := by decide +kernel
theorem dX1_work_21 : decode cX1_work 21 = .ok (.istore_n 3, 1) := by decide +kernel
theorem dX1_work_22 : decode cX1_work 22 = .ok (.iconst 0, 1) := by decide +kernel
theorem dX1_work_23 : decode cX1_work 23 = .ok (.istore 4, 2) := by decide +kernel
theorem dX1_work_25 : decode cX1_work 25 = .ok (.iload 4, 2) := by decide +kernel
theorem dX1_work_27 : decode cX1_work 27 = .ok (.aload_n 0, 1) := by decide +kernel
theorem dX1_work_28 : decode cX1_work 28 = .ok (.getfield 47, 3) := by decide +kernel
theorem dX1_work_31 : decode cX1_work 31 = .ok (.if_icmp .ge 40, 3) := by decide +kernel
theorem dX1_work_34 : decode cX1_work 34 = .ok (.iload_n 2, 1) := by decide +kernel
theorem dX1_work_35 : decode cX1_work 35 = .ok (.iload 4, 2) := by decide +kernel
theorem dX1_work_37 : decode cX1_work 37 = .ok (.ishr, 1) := by decide +kernel
theorem dX1_work_38 : decode cX1_work 38 = .ok (.iconst 1, 1) := by decide +kernel
theorem dX1_work_39 : decode cX1_work 39 = .ok (.iand, 1) := by decide +kernel
theorem dX1_work_40 : decode cX1_work 40 = .ok (.iconst 1, 1) := by decide +kernel
theorem dX1_work_41 : decode cX1_work 41 = .ok (.if_icmp .ne 24, 3) := by decide +kernel
theorem dX1_work_44 : decode cX1_work 44 = .ok (.aload_n 0, 1) := by decide +kernel
theorem dX1_work_45 : decode cX1_work 45 = .ok (.iload 4, 2) := by decide +kernel
theorem dX1_work_47 : decode cX1_work 47 = .ok (.invokevirtual 66, 3) := by decide +kernel
theorem dX1_work_50 : decode cX1_work 50 = .ok (.ifCond .ne 15, 3) := by decide +kernel
theorem dX1_work_53 : decode cX1_work 53 = .ok (.aload_n 0, 1) := by decide +kernel
theorem dX1_work_54 : decode cX1_work 54 = .ok (.iload 4, 2) := by decide +kernel
theorem dX1_work_56 : decode cX1_work 56 = .ok (.invokevirtual 69, 3) := by decide +kernel
theorem dX1_work_59 : decode cX1_work 59 = .ok (.ifCond .ne 6, 3) := by decide +kernel
theorem dX1_work_62 : decode cX1_work 62 = .ok (.iinc 3 1, 3) := by decide +kernel
theorem dX1_work_65 : decode cX1_work 65 = .ok (.iinc 4 1, 3) := by decide +kernel
theorem dX1_work_68 : decode cX1_work 68 = .ok (.goto (-43), 3) := by decide +kernel
theorem dX1_work_71 : decode cX1_work 71 = .ok (.iload_n 3, 1) := by decide +kernel
theorem dX1_work_72 : decode cX1_work 72 = .ok (.ireturn, 1) := by decide +kernel
abbrev cX1_executed : ByteArray := prog_3_method_23_code
def yX1_executed : MethodName := ⟨RX1, "executed", "()I"⟩
theorem dX1_executed_0 : decode cX1_executed 0 = .ok (.aload_n 0, 1) := by decide +kernel
theorem dX1_executed_1 : decode cX1_executed 1 = .ok (.getfield 72, 3) := by decide +kernel
theorem dX1_executed_4 : decode cX1_executed 4 = .ok (.ireturn, 1) := by decide +kernel
abbrev cX1_stale : ByteArray := prog_3_method_24_code
def yX1_stale : MethodName := ⟨RX1, "stale", "()I"⟩
theorem dX1_stale_0 : decode cX1_stale 0 = .ok (.aload_n 0, 1) := by decide +kernel
theorem dX1_stale_1 : decode cX1_stale 1 = .ok (.invokevirtual 78, 3) := by decide +kernel
theorem dX1_stale_4 : decode cX1_stale 4 = .ok (.iconst 0, 1) := by decide +kernel
theorem dX1_stale_5 : decode cX1_stale 5 = .ok (.istore_n 1, 1) := by decide +kernel
theorem dX1_stale_6 : decode cX1_stale 6 = .ok (.iconst 0, 1) := by decide +kernel
theorem dX1_stale_7 : decode cX1_stale 7 = .ok (.istore_n 2, 1) := by decide +kernel
theorem dX1_stale_8 : decode cX1_stale 8 = .ok (.iload_n 2, 1) := by decide +kernel
theorem dX1_stale_9 : decode cX1_stale 9 = .ok (.aload_n 0, 1) := by decide +kernel
theorem dX1_stale_10 : decode cX1_stale 10 = .ok (.getfield 47, 3) := by decide +kernel
theorem dX1_stale_13 : decode cX1_stale 13 = .ok (.if_icmp .ge 20, 3) := by decide +kernel
theorem dX1_stale_16 : decode cX1_stale 16 = .ok (.aload_n 0, 1) := by decide +kernel
theorem dX1_stale_17 : decode cX1_stale 17 = .ok (.iload_n 2, 1) := by decide +kernel
theorem dX1_stale_18 : decode cX1_stale 18 = .ok (.invokevirtual 66, 3) := by decide +kernel
theorem dX1_stale_21 : decode cX1_stale 21 = .ok (.ifCond .ne 6, 3) := by decide +kernel
theorem dX1_stale_24 : decode cX1_stale 24 = .ok (.iinc 1 1, 3) := by decide +kernel
theorem dX1_stale_27 : decode cX1_stale 27 = .ok (.iinc 2 1, 3) := by decide +kernel
theorem dX1_stale_30 : decode cX1_stale 30 = .ok (.goto (-22), 3) := by decide +kernel
theorem dX1_stale_33 : decode cX1_stale 33 = .ok (.iload_n 1, 1) := by decide +kernel
theorem dX1_stale_34 : decode cX1_stale 34 = .ok (.ireturn, 1) := by decide +kernel
theorem q26 : (Jvm.Cond.initialized "BuildGraphModel") ∈ lw_all := lw_g (lw_at lw_m1 2 rfl) rfl
theorem q239 : (Jvm.Cond.instantiable "BuildGraphModel" (15 : Nat)) ∈ lw_all := lw_g (lw_at lw_m1 215 rfl) rfl
theorem q241 : (Jvm.Cond.instanceMethod ({ cls := "BuildGraphModel", name := "<init>", desc := "()V" } : Jvm.MethodName)) ∈ lw_all := lw_g (lw_at lw_m1 217 rfl) rfl
theorem q242 : (Jvm.Cond.code ({ cls := "BuildGraphModel", name := "<init>", desc := "()V" } : Jvm.MethodName) prog_3_method_1_code (1 : Nat) (Option.none : Option Jvm.ClassFile.FieldType)) ∈ lw_all := lw_g (lw_at lw_m1 218 rfl) rfl
theorem q243 : (Jvm.Cond.methodLink "BuildGraphModel" (1 : Nat) ({ cls := "java/lang/Object", name := "<init>", desc := "()V" } : Jvm.MethodName)) ∈ lw_all := lw_g (lw_at lw_m1 219 rfl) rfl
theorem q244 : (Jvm.Cond.fieldLink "BuildGraphModel" (7 : Nat) "BuildGraphModel" "contents" "[I") ∈ lw_all := lw_g (lw_at lw_m1 220 rfl) rfl
theorem q245 : (Jvm.Cond.fieldLink "BuildGraphModel" (47 : Nat) "BuildGraphModel" "tasks" "I") ∈ lw_all := lw_g (lw_at lw_m1 221 rfl) rfl
theorem q246 : (Jvm.Cond.fieldLink "BuildGraphModel" (13 : Nat) "BuildGraphModel" "kinds" "[I") ∈ lw_all := lw_g (lw_at lw_m1 222 rfl) rfl
theorem q247 : (Jvm.Cond.fieldLink "BuildGraphModel" (16 : Nat) "BuildGraphModel" "constants" "[I") ∈ lw_all := lw_g (lw_at lw_m1 223 rfl) rfl
theorem q248 : (Jvm.Cond.fieldLink "BuildGraphModel" (19 : Nat) "BuildGraphModel" "counts" "[I") ∈ lw_all := lw_g (lw_at lw_m1 224 rfl) rfl
theorem q249 : (Jvm.Cond.fieldLink "BuildGraphModel" (22 : Nat) "BuildGraphModel" "inputs" "[I") ∈ lw_all := lw_g (lw_at lw_m1 225 rfl) rfl
theorem q250 : (Jvm.Cond.fieldLink "BuildGraphModel" (25 : Nat) "BuildGraphModel" "outputs" "[I") ∈ lw_all := lw_g (lw_at lw_m1 226 rfl) rfl
theorem q251 : (Jvm.Cond.fieldLink "BuildGraphModel" (28 : Nat) "BuildGraphModel" "states" "[I") ∈ lw_all := lw_g (lw_at lw_m1 227 rfl) rfl
theorem q252 : (Jvm.Cond.fieldLink "BuildGraphModel" (31 : Nat) "BuildGraphModel" "hasLast" "[Z") ∈ lw_all := lw_g (lw_at lw_m1 228 rfl) rfl
theorem q253 : (Jvm.Cond.fieldLink "BuildGraphModel" (35 : Nat) "BuildGraphModel" "last" "[I") ∈ lw_all := lw_g (lw_at lw_m1 229 rfl) rfl
theorem q254 : (Jvm.Cond.fieldLink "BuildGraphModel" (38 : Nat) "BuildGraphModel" "stored" "[I") ∈ lw_all := lw_g (lw_at lw_m1 230 rfl) rfl
theorem q255 : (Jvm.Cond.fieldLink "BuildGraphModel" (41 : Nat) "BuildGraphModel" "store" "[I") ∈ lw_all := lw_g (lw_at lw_m1 231 rfl) rfl
theorem q256 : (Jvm.Cond.fieldLink "BuildGraphModel" (75 : Nat) "BuildGraphModel" "builds" "I") ∈ lw_all := lw_g (lw_at lw_m1 232 rfl) rfl
theorem q257 : (Jvm.Cond.fieldLink "BuildGraphModel" (72 : Nat) "BuildGraphModel" "done" "I") ∈ lw_all := lw_g (lw_at lw_m1 233 rfl) rfl
theorem q258 : (Jvm.Cond.fieldLink "BuildGraphModel" (44 : Nat) "BuildGraphModel" "now" "[I") ∈ lw_all := lw_g (lw_at lw_m1 234 rfl) rfl
theorem q259 : (Jvm.Cond.laysFinal "BuildGraphModel" "BuildGraphModel" "contents" "[I") ∈ lw_all := lw_g (lw_at lw_m1 235 rfl) rfl
theorem q260 : (Jvm.Cond.soleField "BuildGraphModel" "contents") ∈ lw_all := lw_g (lw_at lw_m1 236 rfl) rfl
theorem q261 : (Jvm.Cond.lays "BuildGraphModel" "BuildGraphModel" "tasks" "I") ∈ lw_all := lw_g (lw_at lw_m1 237 rfl) rfl
theorem q262 : (Jvm.Cond.soleField "BuildGraphModel" "tasks") ∈ lw_all := lw_g (lw_at lw_m1 238 rfl) rfl
theorem q263 : (Jvm.Cond.laysFinal "BuildGraphModel" "BuildGraphModel" "kinds" "[I") ∈ lw_all := lw_g (lw_at lw_m1 239 rfl) rfl
theorem q264 : (Jvm.Cond.soleField "BuildGraphModel" "kinds") ∈ lw_all := lw_g (lw_at lw_m2 0 rfl) rfl
theorem q265 : (Jvm.Cond.laysFinal "BuildGraphModel" "BuildGraphModel" "constants" "[I") ∈ lw_all := lw_g (lw_at lw_m2 1 rfl) rfl
theorem q266 : (Jvm.Cond.soleField "BuildGraphModel" "constants") ∈ lw_all := lw_g (lw_at lw_m2 2 rfl) rfl
theorem q267 : (Jvm.Cond.laysFinal "BuildGraphModel" "BuildGraphModel" "counts" "[I") ∈ lw_all := lw_g (lw_at lw_m2 3 rfl) rfl
theorem q268 : (Jvm.Cond.soleField "BuildGraphModel" "counts") ∈ lw_all := lw_g (lw_at lw_m2 4 rfl) rfl
theorem q269 : (Jvm.Cond.laysFinal "BuildGraphModel" "BuildGraphModel" "inputs" "[I") ∈ lw_all := lw_g (lw_at lw_m2 5 rfl) rfl
theorem q270 : (Jvm.Cond.soleField "BuildGraphModel" "inputs") ∈ lw_all := lw_g (lw_at lw_m2 6 rfl) rfl
theorem q271 : (Jvm.Cond.laysFinal "BuildGraphModel" "BuildGraphModel" "outputs" "[I") ∈ lw_all := lw_g (lw_at lw_m2 7 rfl) rfl
theorem q272 : (Jvm.Cond.soleField "BuildGraphModel" "outputs") ∈ lw_all := lw_g (lw_at lw_m2 8 rfl) rfl
theorem q273 : (Jvm.Cond.laysFinal "BuildGraphModel" "BuildGraphModel" "states" "[I") ∈ lw_all := lw_g (lw_at lw_m2 9 rfl) rfl
theorem q274 : (Jvm.Cond.soleField "BuildGraphModel" "states") ∈ lw_all := lw_g (lw_at lw_m2 10 rfl) rfl
theorem q275 : (Jvm.Cond.laysFinal "BuildGraphModel" "BuildGraphModel" "hasLast" "[Z") ∈ lw_all := lw_g (lw_at lw_m2 11 rfl) rfl
theorem q276 : (Jvm.Cond.soleField "BuildGraphModel" "hasLast") ∈ lw_all := lw_g (lw_at lw_m2 12 rfl) rfl
theorem q277 : (Jvm.Cond.laysFinal "BuildGraphModel" "BuildGraphModel" "last" "[I") ∈ lw_all := lw_g (lw_at lw_m2 13 rfl) rfl
theorem q278 : (Jvm.Cond.soleField "BuildGraphModel" "last") ∈ lw_all := lw_g (lw_at lw_m2 14 rfl) rfl
theorem q279 : (Jvm.Cond.laysFinal "BuildGraphModel" "BuildGraphModel" "stored" "[I") ∈ lw_all := lw_g (lw_at lw_m2 15 rfl) rfl
theorem q280 : (Jvm.Cond.soleField "BuildGraphModel" "stored") ∈ lw_all := lw_g (lw_at lw_m2 16 rfl) rfl
theorem q281 : (Jvm.Cond.laysFinal "BuildGraphModel" "BuildGraphModel" "store" "[I") ∈ lw_all := lw_g (lw_at lw_m2 17 rfl) rfl
theorem q282 : (Jvm.Cond.soleField "BuildGraphModel" "store") ∈ lw_all := lw_g (lw_at lw_m2 18 rfl) rfl
theorem q283 : (Jvm.Cond.lays "BuildGraphModel" "BuildGraphModel" "builds" "I") ∈ lw_all := lw_g (lw_at lw_m2 19 rfl) rfl
theorem q284 : (Jvm.Cond.soleField "BuildGraphModel" "builds") ∈ lw_all := lw_g (lw_at lw_m2 20 rfl) rfl
theorem q285 : (Jvm.Cond.lays "BuildGraphModel" "BuildGraphModel" "done" "I") ∈ lw_all := lw_g (lw_at lw_m2 21 rfl) rfl
theorem q286 : (Jvm.Cond.soleField "BuildGraphModel" "done") ∈ lw_all := lw_g (lw_at lw_m2 22 rfl) rfl
theorem q287 : (Jvm.Cond.laysFinal "BuildGraphModel" "BuildGraphModel" "now" "[I") ∈ lw_all := lw_g (lw_at lw_m2 23 rfl) rfl
theorem q288 : (Jvm.Cond.soleField "BuildGraphModel" "now") ∈ lw_all := lw_g (lw_at lw_m2 24 rfl) rfl
theorem q289 : (Jvm.Cond.superclass "BuildGraphModel" "java/lang/Object") ∈ lw_all := lw_g (lw_at lw_m2 25 rfl) rfl
theorem q291 : (Jvm.Cond.instanceMethod ({ cls := "BuildGraphModel", name := "content", desc := "(II)I" } : Jvm.MethodName)) ∈ lw_all := lw_g (lw_at lw_m2 27 rfl) rfl
theorem q292 : (Jvm.Cond.selects "BuildGraphModel" ({ cls := "BuildGraphModel", name := "content", desc := "(II)I" } : Jvm.MethodName) ({ cls := "BuildGraphModel", name := "content", desc := "(II)I" } : Jvm.MethodName)) ∈ lw_all := lw_g (lw_at lw_m2 28 rfl) rfl
theorem q293 : (Jvm.Cond.code ({ cls := "BuildGraphModel", name := "content", desc := "(II)I" } : Jvm.MethodName) prog_3_method_3_code (4 : Nat) (Option.some Jvm.ClassFile.FieldType.int)) ∈ lw_all := lw_g (lw_at lw_m2 29 rfl) rfl
theorem q295 : (Jvm.Cond.instanceMethod ({ cls := "BuildGraphModel", name := "task", desc := "(II)I" } : Jvm.MethodName)) ∈ lw_all := lw_g (lw_at lw_m2 31 rfl) rfl
theorem q296 : (Jvm.Cond.selects "BuildGraphModel" ({ cls := "BuildGraphModel", name := "task", desc := "(II)I" } : Jvm.MethodName) ({ cls := "BuildGraphModel", name := "task", desc := "(II)I" } : Jvm.MethodName)) ∈ lw_all := lw_g (lw_at lw_m2 32 rfl) rfl
theorem q297 : (Jvm.Cond.code ({ cls := "BuildGraphModel", name := "task", desc := "(II)I" } : Jvm.MethodName) prog_3_method_4_code (3 : Nat) (Option.some Jvm.ClassFile.FieldType.int)) ∈ lw_all := lw_g (lw_at lw_m2 33 rfl) rfl
theorem q299 : (Jvm.Cond.instanceMethod ({ cls := "BuildGraphModel", name := "input", desc := "(II)I" } : Jvm.MethodName)) ∈ lw_all := lw_g (lw_at lw_m2 35 rfl) rfl
theorem q300 : (Jvm.Cond.selects "BuildGraphModel" ({ cls := "BuildGraphModel", name := "input", desc := "(II)I" } : Jvm.MethodName) ({ cls := "BuildGraphModel", name := "input", desc := "(II)I" } : Jvm.MethodName)) ∈ lw_all := lw_g (lw_at lw_m2 36 rfl) rfl
theorem q301 : (Jvm.Cond.code ({ cls := "BuildGraphModel", name := "input", desc := "(II)I" } : Jvm.MethodName) prog_3_method_5_code (3 : Nat) (Option.some Jvm.ClassFile.FieldType.int)) ∈ lw_all := lw_g (lw_at lw_m2 37 rfl) rfl
theorem q302 : (Jvm.Cond.methodLink "BuildGraphModel" (51 : Nat) ({ cls := "BuildGraphModel", name := "bad", desc := "(I)Z" } : Jvm.MethodName)) ∈ lw_all := lw_g (lw_at lw_m2 38 rfl) rfl
theorem q303 : (Jvm.Cond.privateMethod ({ cls := "BuildGraphModel", name := "bad", desc := "(I)Z" } : Jvm.MethodName)) ∈ lw_tbl := lw_at lw_m2 39 rfl
theorem q304 : (Jvm.Cond.instanceMethod ({ cls := "BuildGraphModel", name := "bad", desc := "(I)Z" } : Jvm.MethodName)) ∈ lw_all := lw_g (lw_at lw_m2 40 rfl) rfl
theorem q305 : (Jvm.Cond.code ({ cls := "BuildGraphModel", name := "bad", desc := "(I)Z" } : Jvm.MethodName) prog_3_method_2_code (2 : Nat) (Option.some Jvm.ClassFile.FieldType.boolean)) ∈ lw_all := lw_g (lw_at lw_m2 41 rfl) rfl
theorem q307 : (Jvm.Cond.instanceMethod ({ cls := "BuildGraphModel", name := "constant", desc := "(II)I" } : Jvm.MethodName)) ∈ lw_all := lw_g (lw_at lw_m2 43 rfl) rfl
theorem q308 : (Jvm.Cond.selects "BuildGraphModel" ({ cls := "BuildGraphModel", name := "constant", desc := "(II)I" } : Jvm.MethodName) ({ cls := "BuildGraphModel", name := "constant", desc := "(II)I" } : Jvm.MethodName)) ∈ lw_all := lw_g (lw_at lw_m2 44 rfl) rfl
theorem q309 : (Jvm.Cond.code ({ cls := "BuildGraphModel", name := "constant", desc := "(II)I" } : Jvm.MethodName) prog_3_method_6_code (4 : Nat) (Option.some Jvm.ClassFile.FieldType.int)) ∈ lw_all := lw_g (lw_at lw_m2 45 rfl) rfl
theorem q311 : (Jvm.Cond.instanceMethod ({ cls := "BuildGraphModel", name := "build", desc := "(I)I" } : Jvm.MethodName)) ∈ lw_all := lw_g (lw_at lw_m2 47 rfl) rfl
theorem q312 : (Jvm.Cond.selects "BuildGraphModel" ({ cls := "BuildGraphModel", name := "build", desc := "(I)I" } : Jvm.MethodName) ({ cls := "BuildGraphModel", name := "build", desc := "(I)I" } : Jvm.MethodName)) ∈ lw_all := lw_g (lw_at lw_m2 48 rfl) rfl
theorem q313 : (Jvm.Cond.code ({ cls := "BuildGraphModel", name := "build", desc := "(I)I" } : Jvm.MethodName) prog_3_method_15_code (5 : Nat) (Option.some Jvm.ClassFile.FieldType.int)) ∈ lw_all := lw_g (lw_at lw_m2 49 rfl) rfl
theorem q314 : (Jvm.Cond.methodLink "BuildGraphModel" (78 : Nat) ({ cls := "BuildGraphModel", name := "workOut", desc := "()V" } : Jvm.MethodName)) ∈ lw_all := lw_g (lw_at lw_m2 50 rfl) rfl
theorem q315 : (Jvm.Cond.privateMethod ({ cls := "BuildGraphModel", name := "workOut", desc := "()V" } : Jvm.MethodName)) ∈ lw_tbl := lw_at lw_m2 51 rfl
theorem q316 : (Jvm.Cond.instanceMethod ({ cls := "BuildGraphModel", name := "workOut", desc := "()V" } : Jvm.MethodName)) ∈ lw_all := lw_g (lw_at lw_m2 52 rfl) rfl
theorem q317 : (Jvm.Cond.code ({ cls := "BuildGraphModel", name := "workOut", desc := "()V" } : Jvm.MethodName) prog_3_method_8_code (5 : Nat) (Option.none : Option Jvm.ClassFile.FieldType)) ∈ lw_all := lw_g (lw_at lw_m2 53 rfl) rfl
theorem q318 : (Jvm.Cond.methodLink "BuildGraphModel" (55 : Nat) ({ cls := "BuildGraphModel", name := "value", desc := "(II)I" } : Jvm.MethodName)) ∈ lw_all := lw_g (lw_at lw_m2 54 rfl) rfl
theorem q319 : (Jvm.Cond.privateMethod ({ cls := "BuildGraphModel", name := "value", desc := "(II)I" } : Jvm.MethodName)) ∈ lw_tbl := lw_at lw_m2 55 rfl
theorem q320 : (Jvm.Cond.instanceMethod ({ cls := "BuildGraphModel", name := "value", desc := "(II)I" } : Jvm.MethodName)) ∈ lw_all := lw_g (lw_at lw_m2 56 rfl) rfl
theorem q321 : (Jvm.Cond.code ({ cls := "BuildGraphModel", name := "value", desc := "(II)I" } : Jvm.MethodName) prog_3_method_7_code (4 : Nat) (Option.some Jvm.ClassFile.FieldType.int)) ∈ lw_all := lw_g (lw_at lw_m2 57 rfl) rfl
theorem q322 : (Jvm.Cond.methodLink "BuildGraphModel" (81 : Nat) ({ cls := "BuildGraphModel", name := "needs", desc := "(I)I" } : Jvm.MethodName)) ∈ lw_all := lw_g (lw_at lw_m2 58 rfl) rfl
theorem q323 : (Jvm.Cond.privateMethod ({ cls := "BuildGraphModel", name := "needs", desc := "(I)I" } : Jvm.MethodName)) ∈ lw_tbl := lw_at lw_m2 59 rfl
theorem q324 : (Jvm.Cond.instanceMethod ({ cls := "BuildGraphModel", name := "needs", desc := "(I)I" } : Jvm.MethodName)) ∈ lw_all := lw_g (lw_at lw_m2 60 rfl) rfl
theorem q325 : (Jvm.Cond.code ({ cls := "BuildGraphModel", name := "needs", desc := "(I)I" } : Jvm.MethodName) prog_3_method_13_code (5 : Nat) (Option.some Jvm.ClassFile.FieldType.int)) ∈ lw_all := lw_g (lw_at lw_m2 61 rfl) rfl
theorem q326 : (Jvm.Cond.methodLink "BuildGraphModel" (85 : Nat) ({ cls := "BuildGraphModel", name := "handle", desc := "(I)V" } : Jvm.MethodName)) ∈ lw_all := lw_g (lw_at lw_m2 62 rfl) rfl
theorem q327 : (Jvm.Cond.privateMethod ({ cls := "BuildGraphModel", name := "handle", desc := "(I)V" } : Jvm.MethodName)) ∈ lw_tbl := lw_at lw_m2 63 rfl
theorem q328 : (Jvm.Cond.instanceMethod ({ cls := "BuildGraphModel", name := "handle", desc := "(I)V" } : Jvm.MethodName)) ∈ lw_all := lw_g (lw_at lw_m2 64 rfl) rfl
theorem q329 : (Jvm.Cond.code ({ cls := "BuildGraphModel", name := "handle", desc := "(I)V" } : Jvm.MethodName) prog_3_method_14_code (3 : Nat) (Option.none : Option Jvm.ClassFile.FieldType)) ∈ lw_all := lw_g (lw_at lw_m2 65 rfl) rfl
theorem q330 : (Jvm.Cond.methodLink "BuildGraphModel" (66 : Nat) ({ cls := "BuildGraphModel", name := "isLast", desc := "(I)Z" } : Jvm.MethodName)) ∈ lw_all := lw_g (lw_at lw_m2 66 rfl) rfl
theorem q331 : (Jvm.Cond.privateMethod ({ cls := "BuildGraphModel", name := "isLast", desc := "(I)Z" } : Jvm.MethodName)) ∈ lw_tbl := lw_at lw_m2 67 rfl
theorem q332 : (Jvm.Cond.instanceMethod ({ cls := "BuildGraphModel", name := "isLast", desc := "(I)Z" } : Jvm.MethodName)) ∈ lw_all := lw_g (lw_at lw_m2 68 rfl) rfl
theorem q333 : (Jvm.Cond.code ({ cls := "BuildGraphModel", name := "isLast", desc := "(I)Z" } : Jvm.MethodName) prog_3_method_10_code (3 : Nat) (Option.some Jvm.ClassFile.FieldType.boolean)) ∈ lw_all := lw_g (lw_at lw_m2 69 rfl) rfl
theorem q334 : (Jvm.Cond.methodLink "BuildGraphModel" (59 : Nat) ({ cls := "BuildGraphModel", name := "part", desc := "(II)I" } : Jvm.MethodName)) ∈ lw_all := lw_g (lw_at lw_m2 70 rfl) rfl
theorem q335 : (Jvm.Cond.privateMethod ({ cls := "BuildGraphModel", name := "part", desc := "(II)I" } : Jvm.MethodName)) ∈ lw_tbl := lw_at lw_m2 71 rfl
theorem q336 : (Jvm.Cond.instanceMethod ({ cls := "BuildGraphModel", name := "part", desc := "(II)I" } : Jvm.MethodName)) ∈ lw_all := lw_g (lw_at lw_m2 72 rfl) rfl
theorem q337 : (Jvm.Cond.code ({ cls := "BuildGraphModel", name := "part", desc := "(II)I" } : Jvm.MethodName) prog_3_method_9_code (3 : Nat) (Option.some Jvm.ClassFile.FieldType.int)) ∈ lw_all := lw_g (lw_at lw_m2 73 rfl) rfl
theorem q338 : (Jvm.Cond.methodLink "BuildGraphModel" (69 : Nat) ({ cls := "BuildGraphModel", name := "isStored", desc := "(I)Z" } : Jvm.MethodName)) ∈ lw_all := lw_g (lw_at lw_m2 74 rfl) rfl
theorem q339 : (Jvm.Cond.privateMethod ({ cls := "BuildGraphModel", name := "isStored", desc := "(I)Z" } : Jvm.MethodName)) ∈ lw_tbl := lw_at lw_m2 75 rfl
theorem q340 : (Jvm.Cond.instanceMethod ({ cls := "BuildGraphModel", name := "isStored", desc := "(I)Z" } : Jvm.MethodName)) ∈ lw_all := lw_g (lw_at lw_m2 76 rfl) rfl
theorem q341 : (Jvm.Cond.code ({ cls := "BuildGraphModel", name := "isStored", desc := "(I)Z" } : Jvm.MethodName) prog_3_method_12_code (3 : Nat) (Option.some Jvm.ClassFile.FieldType.boolean)) ∈ lw_all := lw_g (lw_at lw_m2 77 rfl) rfl
theorem q342 : (Jvm.Cond.methodLink "BuildGraphModel" (62 : Nat) ({ cls := "BuildGraphModel", name := "isRecord", desc := "(II)Z" } : Jvm.MethodName)) ∈ lw_all := lw_g (lw_at lw_m2 78 rfl) rfl
theorem q343 : (Jvm.Cond.privateMethod ({ cls := "BuildGraphModel", name := "isRecord", desc := "(II)Z" } : Jvm.MethodName)) ∈ lw_tbl := lw_at lw_m2 79 rfl
theorem q344 : (Jvm.Cond.instanceMethod ({ cls := "BuildGraphModel", name := "isRecord", desc := "(II)Z" } : Jvm.MethodName)) ∈ lw_all := lw_g (lw_at lw_m2 80 rfl) rfl
theorem q345 : (Jvm.Cond.code ({ cls := "BuildGraphModel", name := "isRecord", desc := "(II)Z" } : Jvm.MethodName) prog_3_method_11_code (4 : Nat) (Option.some Jvm.ClassFile.FieldType.boolean)) ∈ lw_all := lw_g (lw_at lw_m2 81 rfl) rfl
theorem q347 : (Jvm.Cond.instanceMethod ({ cls := "BuildGraphModel", name := "clean", desc := "(I)I" } : Jvm.MethodName)) ∈ lw_all := lw_g (lw_at lw_m2 83 rfl) rfl
theorem q348 : (Jvm.Cond.selects "BuildGraphModel" ({ cls := "BuildGraphModel", name := "clean", desc := "(I)I" } : Jvm.MethodName) ({ cls := "BuildGraphModel", name := "clean", desc := "(I)I" } : Jvm.MethodName)) ∈ lw_all := lw_g (lw_at lw_m2 84 rfl) rfl
theorem q349 : (Jvm.Cond.code ({ cls := "BuildGraphModel", name := "clean", desc := "(I)I" } : Jvm.MethodName) prog_3_method_16_code (3 : Nat) (Option.some Jvm.ClassFile.FieldType.int)) ∈ lw_all := lw_g (lw_at lw_m2 85 rfl) rfl
theorem q351 : (Jvm.Cond.instanceMethod ({ cls := "BuildGraphModel", name := "emptyStore", desc := "()V" } : Jvm.MethodName)) ∈ lw_all := lw_g (lw_at lw_m2 87 rfl) rfl
theorem q352 : (Jvm.Cond.selects "BuildGraphModel" ({ cls := "BuildGraphModel", name := "emptyStore", desc := "()V" } : Jvm.MethodName) ({ cls := "BuildGraphModel", name := "emptyStore", desc := "()V" } : Jvm.MethodName)) ∈ lw_all := lw_g (lw_at lw_m2 88 rfl) rfl
theorem q353 : (Jvm.Cond.code ({ cls := "BuildGraphModel", name := "emptyStore", desc := "()V" } : Jvm.MethodName) prog_3_method_17_code (2 : Nat) (Option.none : Option Jvm.ClassFile.FieldType)) ∈ lw_all := lw_g (lw_at lw_m2 89 rfl) rfl
theorem q355 : (Jvm.Cond.instanceMethod ({ cls := "BuildGraphModel", name := "status", desc := "(I)I" } : Jvm.MethodName)) ∈ lw_all := lw_g (lw_at lw_m2 91 rfl) rfl
theorem q356 : (Jvm.Cond.selects "BuildGraphModel" ({ cls := "BuildGraphModel", name := "status", desc := "(I)I" } : Jvm.MethodName) ({ cls := "BuildGraphModel", name := "status", desc := "(I)I" } : Jvm.MethodName)) ∈ lw_all := lw_g (lw_at lw_m2 92 rfl) rfl
theorem q357 : (Jvm.Cond.code ({ cls := "BuildGraphModel", name := "status", desc := "(I)I" } : Jvm.MethodName) prog_3_method_18_code (2 : Nat) (Option.some Jvm.ClassFile.FieldType.int)) ∈ lw_all := lw_g (lw_at lw_m2 93 rfl) rfl
theorem q359 : (Jvm.Cond.instanceMethod ({ cls := "BuildGraphModel", name := "output", desc := "(I)I" } : Jvm.MethodName)) ∈ lw_all := lw_g (lw_at lw_m2 95 rfl) rfl
theorem q360 : (Jvm.Cond.selects "BuildGraphModel" ({ cls := "BuildGraphModel", name := "output", desc := "(I)I" } : Jvm.MethodName) ({ cls := "BuildGraphModel", name := "output", desc := "(I)I" } : Jvm.MethodName)) ∈ lw_all := lw_g (lw_at lw_m2 96 rfl) rfl
theorem q361 : (Jvm.Cond.code ({ cls := "BuildGraphModel", name := "output", desc := "(I)I" } : Jvm.MethodName) prog_3_method_19_code (2 : Nat) (Option.some Jvm.ClassFile.FieldType.int)) ∈ lw_all := lw_g (lw_at lw_m2 97 rfl) rfl
theorem q363 : (Jvm.Cond.instanceMethod ({ cls := "BuildGraphModel", name := "fresh", desc := "(I)I" } : Jvm.MethodName)) ∈ lw_all := lw_g (lw_at lw_m2 99 rfl) rfl
theorem q364 : (Jvm.Cond.selects "BuildGraphModel" ({ cls := "BuildGraphModel", name := "fresh", desc := "(I)I" } : Jvm.MethodName) ({ cls := "BuildGraphModel", name := "fresh", desc := "(I)I" } : Jvm.MethodName)) ∈ lw_all := lw_g (lw_at lw_m2 100 rfl) rfl
theorem q365 : (Jvm.Cond.code ({ cls := "BuildGraphModel", name := "fresh", desc := "(I)I" } : Jvm.MethodName) prog_3_method_20_code (2 : Nat) (Option.some Jvm.ClassFile.FieldType.int)) ∈ lw_all := lw_g (lw_at lw_m2 101 rfl) rfl
theorem q367 : (Jvm.Cond.instanceMethod ({ cls := "BuildGraphModel", name := "needed", desc := "(I)I" } : Jvm.MethodName)) ∈ lw_all := lw_g (lw_at lw_m2 103 rfl) rfl
theorem q368 : (Jvm.Cond.selects "BuildGraphModel" ({ cls := "BuildGraphModel", name := "needed", desc := "(I)I" } : Jvm.MethodName) ({ cls := "BuildGraphModel", name := "needed", desc := "(I)I" } : Jvm.MethodName)) ∈ lw_all := lw_g (lw_at lw_m2 104 rfl) rfl
theorem q369 : (Jvm.Cond.code ({ cls := "BuildGraphModel", name := "needed", desc := "(I)I" } : Jvm.MethodName) prog_3_method_21_code (5 : Nat) (Option.some Jvm.ClassFile.FieldType.int)) ∈ lw_all := lw_g (lw_at lw_m2 105 rfl) rfl
theorem q371 : (Jvm.Cond.instanceMethod ({ cls := "BuildGraphModel", name := "work", desc := "(I)I" } : Jvm.MethodName)) ∈ lw_all := lw_g (lw_at lw_m2 107 rfl) rfl
theorem q372 : (Jvm.Cond.selects "BuildGraphModel" ({ cls := "BuildGraphModel", name := "work", desc := "(I)I" } : Jvm.MethodName) ({ cls := "BuildGraphModel", name := "work", desc := "(I)I" } : Jvm.MethodName)) ∈ lw_all := lw_g (lw_at lw_m2 108 rfl) rfl
theorem q373 : (Jvm.Cond.code ({ cls := "BuildGraphModel", name := "work", desc := "(I)I" } : Jvm.MethodName) prog_3_method_22_code (5 : Nat) (Option.some Jvm.ClassFile.FieldType.int)) ∈ lw_all := lw_g (lw_at lw_m2 109 rfl) rfl
theorem q375 : (Jvm.Cond.instanceMethod ({ cls := "BuildGraphModel", name := "executed", desc := "()I" } : Jvm.MethodName)) ∈ lw_all := lw_g (lw_at lw_m2 111 rfl) rfl
theorem q376 : (Jvm.Cond.selects "BuildGraphModel" ({ cls := "BuildGraphModel", name := "executed", desc := "()I" } : Jvm.MethodName) ({ cls := "BuildGraphModel", name := "executed", desc := "()I" } : Jvm.MethodName)) ∈ lw_all := lw_g (lw_at lw_m2 112 rfl) rfl
theorem q377 : (Jvm.Cond.code ({ cls := "BuildGraphModel", name := "executed", desc := "()I" } : Jvm.MethodName) prog_3_method_23_code (1 : Nat) (Option.some Jvm.ClassFile.FieldType.int)) ∈ lw_all := lw_g (lw_at lw_m2 113 rfl) rfl
theorem q379 : (Jvm.Cond.instanceMethod ({ cls := "BuildGraphModel", name := "stale", desc := "()I" } : Jvm.MethodName)) ∈ lw_all := lw_g (lw_at lw_m2 115 rfl) rfl
theorem q380 : (Jvm.Cond.selects "BuildGraphModel" ({ cls := "BuildGraphModel", name := "stale", desc := "()I" } : Jvm.MethodName) ({ cls := "BuildGraphModel", name := "stale", desc := "()I" } : Jvm.MethodName)) ∈ lw_all := lw_g (lw_at lw_m2 116 rfl) rfl
theorem q381 : (Jvm.Cond.code ({ cls := "BuildGraphModel", name := "stale", desc := "()I" } : Jvm.MethodName) prog_3_method_24_code (3 : Nat) (Option.some Jvm.ClassFile.FieldType.int)) ∈ lw_all := lw_g (lw_at lw_m2 117 rfl) rfl
theorem in_X1 : ∀ w ∈ wsX10, w ∈ lw_all := lw_in wsX10 [259, 261, 263, 265, 267, 269, 271, 273, 275, 277, 279, 281, 283, 285, 287] (by decide +kernel) (by decide +kernel)
end
section
/-! java/lang/Object -/
set_option maxRecDepth 100000
def RJ0 : String := "java/lang/Object"
abbrev cJ0_init : ByteArray := object_method_1_code
def yJ0_init : MethodName := ⟨RJ0, "<init>", "()V"⟩
theorem dJ0_init_0 : decode cJ0_init 0 = .ok (.return_, 1) := by decide +kernel
theorem q33 : (Jvm.Cond.instanceMethod ({ cls := "java/lang/Object", name := "<init>", desc := "()V" } : Jvm.MethodName)) ∈ lw_all := lw_g (lw_at lw_m1 9 rfl) rfl
theorem q34 : (Jvm.Cond.code ({ cls := "java/lang/Object", name := "<init>", desc := "()V" } : Jvm.MethodName) object_method_1_code (1 : Nat) (Option.none : Option Jvm.ClassFile.FieldType)) ∈ lw_all := lw_g (lw_at lw_m1 10 rfl) rfl
theorem q120 : (Jvm.Cond.arrayClass Jvm.ClassFile.FieldType.int) ∈ lw_all := lw_g (lw_at lw_m1 96 rfl) rfl
set_option maxRecDepth 100000
theorem q121 : (Jvm.Cond.arrayClass Jvm.ClassFile.FieldType.boolean) ∈ lw_all := lw_g (lw_at lw_m1 97 rfl) rfl
theorem q24 : (Jvm.Cond.initialized "BuildGraphLaw") ∈ lw_all := lw_g (lw_at lw_m1 0 rfl) rfl
set_option maxRecDepth 100000
theorem q27 : (Jvm.Cond.classLink "BuildGraphLaw" (7 : Nat) "BuildGraph") ∈ lw_all := lw_g (lw_at lw_m1 3 rfl) rfl
theorem q29 : (Jvm.Cond.methodLink "BuildGraphLaw" (9 : Nat) ({ cls := "BuildGraph", name := "<init>", desc := "()V" } : Jvm.MethodName)) ∈ lw_all := lw_g (lw_at lw_m1 5 rfl) rfl
theorem q122 : (Jvm.Cond.methodLink "BuildGraphLaw" (13 : Nat) ({ cls := "BuildGraph", name := "content", desc := "(II)I" } : Jvm.MethodName)) ∈ lw_all := lw_g (lw_at lw_m1 98 rfl) rfl
theorem q126 : (Jvm.Cond.methodLink "BuildGraphLaw" (18 : Nat) ({ cls := "BuildGraph", name := "task", desc := "(II)I" } : Jvm.MethodName)) ∈ lw_all := lw_g (lw_at lw_m1 102 rfl) rfl
theorem q130 : (Jvm.Cond.methodLink "BuildGraphLaw" (22 : Nat) ({ cls := "BuildGraph", name := "input", desc := "(II)I" } : Jvm.MethodName)) ∈ lw_all := lw_g (lw_at lw_m1 106 rfl) rfl
theorem q138 : (Jvm.Cond.methodLink "BuildGraphLaw" (26 : Nat) ({ cls := "BuildGraph", name := "constant", desc := "(II)I" } : Jvm.MethodName)) ∈ lw_all := lw_g (lw_at lw_m1 114 rfl) rfl
theorem q142 : (Jvm.Cond.methodLink "BuildGraphLaw" (30 : Nat) ({ cls := "BuildGraph", name := "build", desc := "(I)I" } : Jvm.MethodName)) ∈ lw_all := lw_g (lw_at lw_m1 118 rfl) rfl
theorem q194 : (Jvm.Cond.methodLink "BuildGraphLaw" (35 : Nat) ({ cls := "BuildGraph", name := "clean", desc := "(I)I" } : Jvm.MethodName)) ∈ lw_all := lw_g (lw_at lw_m1 170 rfl) rfl
theorem q198 : (Jvm.Cond.methodLink "BuildGraphLaw" (39 : Nat) ({ cls := "BuildGraph", name := "emptyStore", desc := "()V" } : Jvm.MethodName)) ∈ lw_all := lw_g (lw_at lw_m1 174 rfl) rfl
theorem q202 : (Jvm.Cond.methodLink "BuildGraphLaw" (43 : Nat) ({ cls := "BuildGraph", name := "status", desc := "(I)I" } : Jvm.MethodName)) ∈ lw_all := lw_g (lw_at lw_m1 178 rfl) rfl
theorem q206 : (Jvm.Cond.methodLink "BuildGraphLaw" (47 : Nat) ({ cls := "BuildGraph", name := "output", desc := "(I)I" } : Jvm.MethodName)) ∈ lw_all := lw_g (lw_at lw_m1 182 rfl) rfl
theorem q210 : (Jvm.Cond.methodLink "BuildGraphLaw" (51 : Nat) ({ cls := "BuildGraph", name := "fresh", desc := "(I)I" } : Jvm.MethodName)) ∈ lw_all := lw_g (lw_at lw_m1 186 rfl) rfl
theorem q218 : (Jvm.Cond.methodLink "BuildGraphLaw" (55 : Nat) ({ cls := "BuildGraph", name := "needed", desc := "(I)I" } : Jvm.MethodName)) ∈ lw_all := lw_g (lw_at lw_m1 194 rfl) rfl
theorem q222 : (Jvm.Cond.methodLink "BuildGraphLaw" (59 : Nat) ({ cls := "BuildGraph", name := "work", desc := "(I)I" } : Jvm.MethodName)) ∈ lw_all := lw_g (lw_at lw_m1 198 rfl) rfl
theorem q230 : (Jvm.Cond.methodLink "BuildGraphLaw" (63 : Nat) ({ cls := "BuildGraph", name := "executed", desc := "()I" } : Jvm.MethodName)) ∈ lw_all := lw_g (lw_at lw_m1 206 rfl) rfl
theorem q234 : (Jvm.Cond.methodLink "BuildGraphLaw" (68 : Nat) ({ cls := "BuildGraph", name := "stale", desc := "()I" } : Jvm.MethodName)) ∈ lw_all := lw_g (lw_at lw_m1 210 rfl) rfl
theorem q238 : (Jvm.Cond.classLink "BuildGraphLaw" (10 : Nat) "BuildGraphModel") ∈ lw_all := lw_g (lw_at lw_m1 214 rfl) rfl
theorem q240 : (Jvm.Cond.methodLink "BuildGraphLaw" (12 : Nat) ({ cls := "BuildGraphModel", name := "<init>", desc := "()V" } : Jvm.MethodName)) ∈ lw_all := lw_g (lw_at lw_m1 216 rfl) rfl
theorem q290 : (Jvm.Cond.methodLink "BuildGraphLaw" (17 : Nat) ({ cls := "BuildGraphModel", name := "content", desc := "(II)I" } : Jvm.MethodName)) ∈ lw_all := lw_g (lw_at lw_m2 26 rfl) rfl
theorem q294 : (Jvm.Cond.methodLink "BuildGraphLaw" (21 : Nat) ({ cls := "BuildGraphModel", name := "task", desc := "(II)I" } : Jvm.MethodName)) ∈ lw_all := lw_g (lw_at lw_m2 30 rfl) rfl
theorem q298 : (Jvm.Cond.methodLink "BuildGraphLaw" (25 : Nat) ({ cls := "BuildGraphModel", name := "input", desc := "(II)I" } : Jvm.MethodName)) ∈ lw_all := lw_g (lw_at lw_m2 34 rfl) rfl
theorem q306 : (Jvm.Cond.methodLink "BuildGraphLaw" (29 : Nat) ({ cls := "BuildGraphModel", name := "constant", desc := "(II)I" } : Jvm.MethodName)) ∈ lw_all := lw_g (lw_at lw_m2 42 rfl) rfl
theorem q310 : (Jvm.Cond.methodLink "BuildGraphLaw" (34 : Nat) ({ cls := "BuildGraphModel", name := "build", desc := "(I)I" } : Jvm.MethodName)) ∈ lw_all := lw_g (lw_at lw_m2 46 rfl) rfl
theorem q346 : (Jvm.Cond.methodLink "BuildGraphLaw" (38 : Nat) ({ cls := "BuildGraphModel", name := "clean", desc := "(I)I" } : Jvm.MethodName)) ∈ lw_all := lw_g (lw_at lw_m2 82 rfl) rfl
theorem q350 : (Jvm.Cond.methodLink "BuildGraphLaw" (42 : Nat) ({ cls := "BuildGraphModel", name := "emptyStore", desc := "()V" } : Jvm.MethodName)) ∈ lw_all := lw_g (lw_at lw_m2 86 rfl) rfl
theorem q354 : (Jvm.Cond.methodLink "BuildGraphLaw" (46 : Nat) ({ cls := "BuildGraphModel", name := "status", desc := "(I)I" } : Jvm.MethodName)) ∈ lw_all := lw_g (lw_at lw_m2 90 rfl) rfl
theorem q358 : (Jvm.Cond.methodLink "BuildGraphLaw" (50 : Nat) ({ cls := "BuildGraphModel", name := "output", desc := "(I)I" } : Jvm.MethodName)) ∈ lw_all := lw_g (lw_at lw_m2 94 rfl) rfl
theorem q362 : (Jvm.Cond.methodLink "BuildGraphLaw" (54 : Nat) ({ cls := "BuildGraphModel", name := "fresh", desc := "(I)I" } : Jvm.MethodName)) ∈ lw_all := lw_g (lw_at lw_m2 98 rfl) rfl
theorem q366 : (Jvm.Cond.methodLink "BuildGraphLaw" (58 : Nat) ({ cls := "BuildGraphModel", name := "needed", desc := "(I)I" } : Jvm.MethodName)) ∈ lw_all := lw_g (lw_at lw_m2 102 rfl) rfl
theorem q370 : (Jvm.Cond.methodLink "BuildGraphLaw" (62 : Nat) ({ cls := "BuildGraphModel", name := "work", desc := "(I)I" } : Jvm.MethodName)) ∈ lw_all := lw_g (lw_at lw_m2 106 rfl) rfl
theorem q374 : (Jvm.Cond.methodLink "BuildGraphLaw" (67 : Nat) ({ cls := "BuildGraphModel", name := "executed", desc := "()I" } : Jvm.MethodName)) ∈ lw_all := lw_g (lw_at lw_m2 110 rfl) rfl
theorem q378 : (Jvm.Cond.methodLink "BuildGraphLaw" (71 : Nat) ({ cls := "BuildGraphModel", name := "stale", desc := "()I" } : Jvm.MethodName)) ∈ lw_all := lw_g (lw_at lw_m2 114 rfl) rfl
end
section
/-! the law's own entry -/
set_option maxRecDepth 100000
abbrev cL_law : ByteArray := code
theorem dL_law_0 : decode cL_law 0 = .ok (.new 7, 3) := by decide +kernel
theorem dL_law_3 : decode cL_law 3 = .ok (.dup, 1) := by decide +kernel
theorem dL_law_4 : decode cL_law 4 = .ok (.invokespecial 9, 3) := by decide +kernel
theorem dL_law_7 : decode cL_law 7 = .ok (.astore_n 1, 1) := by decide +kernel
theorem dL_law_8 : decode cL_law 8 = .ok (.new 10, 3) := by decide +kernel
theorem dL_law_11 : decode cL_law 11 = .ok (.dup, 1) := by decide +kernel
theorem dL_law_12 : decode cL_law 12 = .ok (.invokespecial 12, 3) := by decide +kernel
theorem dL_law_15 : decode cL_law 15 = .ok (.astore_n 2, 1) := by decide +kernel
theorem dL_law_16 : decode cL_law 16 = .ok (.iconst 0, 1) := by decide +kernel
theorem dL_law_17 : decode cL_law 17 = .ok (.istore_n 3, 1) := by decide +kernel
theorem dL_law_18 : decode cL_law 18 = .ok (.iload_n 3, 1) := by decide +kernel
theorem dL_law_19 : decode cL_law 19 = .ok (.aload_n 0, 1) := by decide +kernel
theorem dL_law_20 : decode cL_law 20 = .ok (.arraylength, 1) := by decide +kernel
theorem dL_law_21 : decode cL_law 21 = .ok (.iconst 3, 1) := by decide +kernel
theorem dL_law_22 : decode cL_law 22 = .ok (.isub, 1) := by decide +kernel
theorem dL_law_23 : decode cL_law 23 = .ok (.if_icmp .gt 417, 3) := by decide +kernel
theorem dL_law_26 : decode cL_law 26 = .ok (.aload_n 0, 1) := by decide +kernel
theorem dL_law_27 : decode cL_law 27 = .ok (.iload_n 3, 1) := by decide +kernel
theorem dL_law_28 : decode cL_law 28 = .ok (.iaload, 1) := by decide +kernel
theorem dL_law_29 : decode cL_law 29 = .ok (.bipush 15, 2) := by decide +kernel
theorem dL_law_31 : decode cL_law 31 = .ok (.iand, 1) := by decide +kernel
theorem dL_law_32 : decode cL_law 32 = .ok (.tableswitch 402 0 13 #[72, 105, 138, 171, 204, 227, 250, 261, 284, 307, 330, 353, 376, 389], 72) := by decide +kernel
theorem dL_law_104 : decode cL_law 104 = .ok (.aload_n 1, 1) := by decide +kernel
theorem dL_law_105 : decode cL_law 105 = .ok (.aload_n 0, 1) := by decide +kernel
theorem dL_law_106 : decode cL_law 106 = .ok (.iload_n 3, 1) := by decide +kernel
theorem dL_law_107 : decode cL_law 107 = .ok (.iconst 1, 1) := by decide +kernel
theorem dL_law_108 : decode cL_law 108 = .ok (.iadd, 1) := by decide +kernel
theorem dL_law_109 : decode cL_law 109 = .ok (.iaload, 1) := by decide +kernel
theorem dL_law_110 : decode cL_law 110 = .ok (.aload_n 0, 1) := by decide +kernel
theorem dL_law_111 : decode cL_law 111 = .ok (.iload_n 3, 1) := by decide +kernel
theorem dL_law_112 : decode cL_law 112 = .ok (.iconst 2, 1) := by decide +kernel
theorem dL_law_113 : decode cL_law 113 = .ok (.iadd, 1) := by decide +kernel
theorem dL_law_114 : decode cL_law 114 = .ok (.iaload, 1) := by decide +kernel
theorem dL_law_115 : decode cL_law 115 = .ok (.invokevirtual 13, 3) := by decide +kernel
theorem dL_law_118 : decode cL_law 118 = .ok (.aload_n 2, 1) := by decide +kernel
theorem dL_law_119 : decode cL_law 119 = .ok (.aload_n 0, 1) := by decide +kernel
theorem dL_law_120 : decode cL_law 120 = .ok (.iload_n 3, 1) := by decide +kernel
theorem dL_law_121 : decode cL_law 121 = .ok (.iconst 1, 1) := by decide +kernel
theorem dL_law_122 : decode cL_law 122 = .ok (.iadd, 1) := by decide +kernel
theorem dL_law_123 : decode cL_law 123 = .ok (.iaload, 1) := by decide +kernel
theorem dL_law_124 : decode cL_law 124 = .ok (.aload_n 0, 1) := by decide +kernel
theorem dL_law_125 : decode cL_law 125 = .ok (.iload_n 3, 1) := by decide +kernel
theorem dL_law_126 : decode cL_law 126 = .ok (.iconst 2, 1) := by decide +kernel
theorem dL_law_127 : decode cL_law 127 = .ok (.iadd, 1) := by decide +kernel
theorem dL_law_128 : decode cL_law 128 = .ok (.iaload, 1) := by decide +kernel
theorem dL_law_129 : decode cL_law 129 = .ok (.invokevirtual 17, 3) := by decide +kernel
theorem dL_law_132 : decode cL_law 132 = .ok (.if_icmp .eq 302, 3) := by decide +kernel
theorem dL_law_135 : decode cL_law 135 = .ok (.iconst 0, 1) := by decide +kernel
theorem dL_law_136 : decode cL_law 136 = .ok (.ireturn, 1) := by decide +kernel
theorem dL_law_137 : decode cL_law 137 = .ok (.aload_n 1, 1) := by decide +kernel
theorem dL_law_138 : decode cL_law 138 = .ok (.aload_n 0, 1) := by decide +kernel
theorem dL_law_139 : decode cL_law 139 = .ok (.iload_n 3, 1) := by decide +kernel
theorem dL_law_140 : decode cL_law 140 = .ok (.iconst 1, 1) := by decide +kernel
theorem dL_law_141 : decode cL_law 141 = .ok (.iadd, 1) := by decide +kernel
theorem dL_law_142 : decode cL_law 142 = .ok (.iaload, 1) := by decide +kernel
theorem dL_law_143 : decode cL_law 143 = .ok (.aload_n 0, 1) := by decide +kernel
theorem dL_law_144 : decode cL_law 144 = .ok (.iload_n 3, 1) := by decide +kernel
theorem dL_law_145 : decode cL_law 145 = .ok (.iconst 2, 1) := by decide +kernel
theorem dL_law_146 : decode cL_law 146 = .ok (.iadd, 1) := by decide +kernel
theorem dL_law_147 : decode cL_law 147 = .ok (.iaload, 1) := by decide +kernel
theorem dL_law_148 : decode cL_law 148 = .ok (.invokevirtual 18, 3) := by decide +kernel
theorem dL_law_151 : decode cL_law 151 = .ok (.aload_n 2, 1) := by decide +kernel
theorem dL_law_152 : decode cL_law 152 = .ok (.aload_n 0, 1) := by decide +kernel
theorem dL_law_153 : decode cL_law 153 = .ok (.iload_n 3, 1) := by decide +kernel
theorem dL_law_154 : decode cL_law 154 = .ok (.iconst 1, 1) := by decide +kernel
theorem dL_law_155 : decode cL_law 155 = .ok (.iadd, 1) := by decide +kernel
theorem dL_law_156 : decode cL_law 156 = .ok (.iaload, 1) := by decide +kernel
theorem dL_law_157 : decode cL_law 157 = .ok (.aload_n 0, 1) := by decide +kernel
theorem dL_law_158 : decode cL_law 158 = .ok (.iload_n 3, 1) := by decide +kernel
theorem dL_law_159 : decode cL_law 159 = .ok (.iconst 2, 1) := by decide +kernel
theorem dL_law_160 : decode cL_law 160 = .ok (.iadd, 1) := by decide +kernel
theorem dL_law_161 : decode cL_law 161 = .ok (.iaload, 1) := by decide +kernel
theorem dL_law_162 : decode cL_law 162 = .ok (.invokevirtual 21, 3) := by decide +kernel
theorem dL_law_165 : decode cL_law 165 = .ok (.if_icmp .eq 269, 3) := by decide +kernel
theorem dL_law_168 : decode cL_law 168 = .ok (.iconst 0, 1) := by decide +kernel
theorem dL_law_169 : decode cL_law 169 = .ok (.ireturn, 1) := by decide +kernel
theorem dL_law_170 : decode cL_law 170 = .ok (.aload_n 1, 1) := by decide +kernel
theorem dL_law_171 : decode cL_law 171 = .ok (.aload_n 0, 1) := by decide +kernel
theorem dL_law_172 : decode cL_law 172 = .ok (.iload_n 3, 1) := by decide +kernel
theorem dL_law_173 : decode cL_law 173 = .ok (.iconst 1, 1) := by decide +kernel
theorem dL_law_174 : decode cL_law 174 = .ok (.iadd, 1) := by decide +kernel
theorem dL_law_175 : decode cL_law 175 = .ok (.iaload, 1) := by decide +kernel
theorem dL_law_176 : decode cL_law 176 = .ok (.aload_n 0, 1) := by decide +kernel
theorem dL_law_177 : decode cL_law 177 = .ok (.iload_n 3, 1) := by decide +kernel
theorem dL_law_178 : decode cL_law 178 = .ok (.iconst 2, 1) := by decide +kernel
theorem dL_law_179 : decode cL_law 179 = .ok (.iadd, 1) := by decide +kernel
theorem dL_law_180 : decode cL_law 180 = .ok (.iaload, 1) := by decide +kernel
theorem dL_law_181 : decode cL_law 181 = .ok (.invokevirtual 22, 3) := by decide +kernel
theorem dL_law_184 : decode cL_law 184 = .ok (.aload_n 2, 1) := by decide +kernel
theorem dL_law_185 : decode cL_law 185 = .ok (.aload_n 0, 1) := by decide +kernel
theorem dL_law_186 : decode cL_law 186 = .ok (.iload_n 3, 1) := by decide +kernel
theorem dL_law_187 : decode cL_law 187 = .ok (.iconst 1, 1) := by decide +kernel
theorem dL_law_188 : decode cL_law 188 = .ok (.iadd, 1) := by decide +kernel
theorem dL_law_189 : decode cL_law 189 = .ok (.iaload, 1) := by decide +kernel
theorem dL_law_190 : decode cL_law 190 = .ok (.aload_n 0, 1) := by decide +kernel
theorem dL_law_191 : decode cL_law 191 = .ok (.iload_n 3, 1) := by decide +kernel
theorem dL_law_192 : decode cL_law 192 = .ok (.iconst 2, 1) := by decide +kernel
theorem dL_law_193 : decode cL_law 193 = .ok (.iadd, 1) := by decide +kernel
theorem dL_law_194 : decode cL_law 194 = .ok (.iaload, 1) := by decide +kernel
theorem dL_law_195 : decode cL_law 195 = .ok (.invokevirtual 25, 3) := by decide +kernel
theorem dL_law_198 : decode cL_law 198 = .ok (.if_icmp .eq 236, 3) := by decide +kernel
theorem dL_law_201 : decode cL_law 201 = .ok (.iconst 0, 1) := by decide +kernel
theorem dL_law_202 : decode cL_law 202 = .ok (.ireturn, 1) := by decide +kernel
theorem dL_law_203 : decode cL_law 203 = .ok (.aload_n 1, 1) := by decide +kernel
theorem dL_law_204 : decode cL_law 204 = .ok (.aload_n 0, 1) := by decide +kernel
theorem dL_law_205 : decode cL_law 205 = .ok (.iload_n 3, 1) := by decide +kernel
theorem dL_law_206 : decode cL_law 206 = .ok (.iconst 1, 1) := by decide +kernel
theorem dL_law_207 : decode cL_law 207 = .ok (.iadd, 1) := by decide +kernel
theorem dL_law_208 : decode cL_law 208 = .ok (.iaload, 1) := by decide +kernel
theorem dL_law_209 : decode cL_law 209 = .ok (.aload_n 0, 1) := by decide +kernel
theorem dL_law_210 : decode cL_law 210 = .ok (.iload_n 3, 1) := by decide +kernel
theorem dL_law_211 : decode cL_law 211 = .ok (.iconst 2, 1) := by decide +kernel
theorem dL_law_212 : decode cL_law 212 = .ok (.iadd, 1) := by decide +kernel
theorem dL_law_213 : decode cL_law 213 = .ok (.iaload, 1) := by decide +kernel
theorem dL_law_214 : decode cL_law 214 = .ok (.invokevirtual 26, 3) := by decide +kernel
theorem dL_law_217 : decode cL_law 217 = .ok (.aload_n 2, 1) := by decide +kernel
theorem dL_law_218 : decode cL_law 218 = .ok (.aload_n 0, 1) := by decide +kernel
theorem dL_law_219 : decode cL_law 219 = .ok (.iload_n 3, 1) := by decide +kernel
theorem dL_law_220 : decode cL_law 220 = .ok (.iconst 1, 1) := by decide +kernel
theorem dL_law_221 : decode cL_law 221 = .ok (.iadd, 1) := by decide +kernel
theorem dL_law_222 : decode cL_law 222 = .ok (.iaload, 1) := by decide +kernel
theorem dL_law_223 : decode cL_law 223 = .ok (.aload_n 0, 1) := by decide +kernel
theorem dL_law_224 : decode cL_law 224 = .ok (.iload_n 3, 1) := by decide +kernel
theorem dL_law_225 : decode cL_law 225 = .ok (.iconst 2, 1) := by decide +kernel
theorem dL_law_226 : decode cL_law 226 = .ok (.iadd, 1) := by decide +kernel
theorem dL_law_227 : decode cL_law 227 = .ok (.iaload, 1) := by decide +kernel
theorem dL_law_228 : decode cL_law 228 = .ok (.invokevirtual 29, 3) := by decide +kernel
theorem dL_law_231 : decode cL_law 231 = .ok (.if_icmp .eq 203, 3) := by decide +kernel
theorem dL_law_234 : decode cL_law 234 = .ok (.iconst 0, 1) := by decide +kernel
theorem dL_law_235 : decode cL_law 235 = .ok (.ireturn, 1) := by decide +kernel
theorem dL_law_236 : decode cL_law 236 = .ok (.aload_n 1, 1) := by decide +kernel
theorem dL_law_237 : decode cL_law 237 = .ok (.aload_n 0, 1) := by decide +kernel
theorem dL_law_238 : decode cL_law 238 = .ok (.iload_n 3, 1) := by decide +kernel
theorem dL_law_239 : decode cL_law 239 = .ok (.iconst 1, 1) := by decide +kernel
theorem dL_law_240 : decode cL_law 240 = .ok (.iadd, 1) := by decide +kernel
theorem dL_law_241 : decode cL_law 241 = .ok (.iaload, 1) := by decide +kernel
theorem dL_law_242 : decode cL_law 242 = .ok (.invokevirtual 30, 3) := by decide +kernel
theorem dL_law_245 : decode cL_law 245 = .ok (.aload_n 2, 1) := by decide +kernel
theorem dL_law_246 : decode cL_law 246 = .ok (.aload_n 0, 1) := by decide +kernel
theorem dL_law_247 : decode cL_law 247 = .ok (.iload_n 3, 1) := by decide +kernel
theorem dL_law_248 : decode cL_law 248 = .ok (.iconst 1, 1) := by decide +kernel
theorem dL_law_249 : decode cL_law 249 = .ok (.iadd, 1) := by decide +kernel
theorem dL_law_250 : decode cL_law 250 = .ok (.iaload, 1) := by decide +kernel
theorem dL_law_251 : decode cL_law 251 = .ok (.invokevirtual 34, 3) := by decide +kernel
theorem dL_law_254 : decode cL_law 254 = .ok (.if_icmp .eq 180, 3) := by decide +kernel
theorem dL_law_257 : decode cL_law 257 = .ok (.iconst 0, 1) := by decide +kernel
theorem dL_law_258 : decode cL_law 258 = .ok (.ireturn, 1) := by decide +kernel
theorem dL_law_259 : decode cL_law 259 = .ok (.aload_n 1, 1) := by decide +kernel
theorem dL_law_260 : decode cL_law 260 = .ok (.aload_n 0, 1) := by decide +kernel
theorem dL_law_261 : decode cL_law 261 = .ok (.iload_n 3, 1) := by decide +kernel
theorem dL_law_262 : decode cL_law 262 = .ok (.iconst 1, 1) := by decide +kernel
theorem dL_law_263 : decode cL_law 263 = .ok (.iadd, 1) := by decide +kernel
theorem dL_law_264 : decode cL_law 264 = .ok (.iaload, 1) := by decide +kernel
theorem dL_law_265 : decode cL_law 265 = .ok (.invokevirtual 35, 3) := by decide +kernel
theorem dL_law_268 : decode cL_law 268 = .ok (.aload_n 2, 1) := by decide +kernel
theorem dL_law_269 : decode cL_law 269 = .ok (.aload_n 0, 1) := by decide +kernel
theorem dL_law_270 : decode cL_law 270 = .ok (.iload_n 3, 1) := by decide +kernel
theorem dL_law_271 : decode cL_law 271 = .ok (.iconst 1, 1) := by decide +kernel
theorem dL_law_272 : decode cL_law 272 = .ok (.iadd, 1) := by decide +kernel
theorem dL_law_273 : decode cL_law 273 = .ok (.iaload, 1) := by decide +kernel
theorem dL_law_274 : decode cL_law 274 = .ok (.invokevirtual 38, 3) := by decide +kernel
theorem dL_law_277 : decode cL_law 277 = .ok (.if_icmp .eq 157, 3) := by decide +kernel
theorem dL_law_280 : decode cL_law 280 = .ok (.iconst 0, 1) := by decide +kernel
theorem dL_law_281 : decode cL_law 281 = .ok (.ireturn, 1) := by decide +kernel
theorem dL_law_282 : decode cL_law 282 = .ok (.aload_n 1, 1) := by decide +kernel
theorem dL_law_283 : decode cL_law 283 = .ok (.invokevirtual 39, 3) := by decide +kernel
theorem dL_law_286 : decode cL_law 286 = .ok (.aload_n 2, 1) := by decide +kernel
theorem dL_law_287 : decode cL_law 287 = .ok (.invokevirtual 42, 3) := by decide +kernel
theorem dL_law_290 : decode cL_law 290 = .ok (.goto 144, 3) := by decide +kernel
theorem dL_law_293 : decode cL_law 293 = .ok (.aload_n 1, 1) := by decide +kernel
theorem dL_law_294 : decode cL_law 294 = .ok (.aload_n 0, 1) := by decide +kernel
theorem dL_law_295 : decode cL_law 295 = .ok (.iload_n 3, 1) := by decide +kernel
theorem dL_law_296 : decode cL_law 296 = .ok (.iconst 1, 1) := by decide +kernel
theorem dL_law_297 : decode cL_law 297 = .ok (.iadd, 1) := by decide +kernel
theorem dL_law_298 : decode cL_law 298 = .ok (.iaload, 1) := by decide +kernel
theorem dL_law_299 : decode cL_law 299 = .ok (.invokevirtual 43, 3) := by decide +kernel
theorem dL_law_302 : decode cL_law 302 = .ok (.aload_n 2, 1) := by decide +kernel
theorem dL_law_303 : decode cL_law 303 = .ok (.aload_n 0, 1) := by decide +kernel
theorem dL_law_304 : decode cL_law 304 = .ok (.iload_n 3, 1) := by decide +kernel
theorem dL_law_305 : decode cL_law 305 = .ok (.iconst 1, 1) := by decide +kernel
theorem dL_law_306 : decode cL_law 306 = .ok (.iadd, 1) := by decide +kernel
theorem dL_law_307 : decode cL_law 307 = .ok (.iaload, 1) := by decide +kernel
theorem dL_law_308 : decode cL_law 308 = .ok (.invokevirtual 46, 3) := by decide +kernel
theorem dL_law_311 : decode cL_law 311 = .ok (.if_icmp .eq 123, 3) := by decide +kernel
theorem dL_law_314 : decode cL_law 314 = .ok (.iconst 0, 1) := by decide +kernel
theorem dL_law_315 : decode cL_law 315 = .ok (.ireturn, 1) := by decide +kernel
theorem dL_law_316 : decode cL_law 316 = .ok (.aload_n 1, 1) := by decide +kernel
theorem dL_law_317 : decode cL_law 317 = .ok (.aload_n 0, 1) := by decide +kernel
theorem dL_law_318 : decode cL_law 318 = .ok (.iload_n 3, 1) := by decide +kernel
theorem dL_law_319 : decode cL_law 319 = .ok (.iconst 1, 1) := by decide +kernel
theorem dL_law_320 : decode cL_law 320 = .ok (.iadd, 1) := by decide +kernel
theorem dL_law_321 : decode cL_law 321 = .ok (.iaload, 1) := by decide +kernel
theorem dL_law_322 : decode cL_law 322 = .ok (.invokevirtual 47, 3) := by decide +kernel
theorem dL_law_325 : decode cL_law 325 = .ok (.aload_n 2, 1) := by decide +kernel
theorem dL_law_326 : decode cL_law 326 = .ok (.aload_n 0, 1) := by decide +kernel
theorem dL_law_327 : decode cL_law 327 = .ok (.iload_n 3, 1) := by decide +kernel
theorem dL_law_328 : decode cL_law 328 = .ok (.iconst 1, 1) := by decide +kernel
theorem dL_law_329 : decode cL_law 329 = .ok (.iadd, 1) := by decide +kernel
theorem dL_law_330 : decode cL_law 330 = .ok (.iaload, 1) := by decide +kernel
theorem dL_law_331 : decode cL_law 331 = .ok (.invokevirtual 50, 3) := by decide +kernel
theorem dL_law_334 : decode cL_law 334 = .ok (.if_icmp .eq 100, 3) := by decide +kernel
theorem dL_law_337 : decode cL_law 337 = .ok (.iconst 0, 1) := by decide +kernel
theorem dL_law_338 : decode cL_law 338 = .ok (.ireturn, 1) := by decide +kernel
theorem dL_law_339 : decode cL_law 339 = .ok (.aload_n 1, 1) := by decide +kernel
theorem dL_law_340 : decode cL_law 340 = .ok (.aload_n 0, 1) := by decide +kernel
theorem dL_law_341 : decode cL_law 341 = .ok (.iload_n 3, 1) := by decide +kernel
theorem dL_law_342 : decode cL_law 342 = .ok (.iconst 1, 1) := by decide +kernel
theorem dL_law_343 : decode cL_law 343 = .ok (.iadd, 1) := by decide +kernel
theorem dL_law_344 : decode cL_law 344 = .ok (.iaload, 1) := by decide +kernel
theorem dL_law_345 : decode cL_law 345 = .ok (.invokevirtual 51, 3) := by decide +kernel
theorem dL_law_348 : decode cL_law 348 = .ok (.aload_n 2, 1) := by decide +kernel
theorem dL_law_349 : decode cL_law 349 = .ok (.aload_n 0, 1) := by decide +kernel
theorem dL_law_350 : decode cL_law 350 = .ok (.iload_n 3, 1) := by decide +kernel
theorem dL_law_351 : decode cL_law 351 = .ok (.iconst 1, 1) := by decide +kernel
theorem dL_law_352 : decode cL_law 352 = .ok (.iadd, 1) := by decide +kernel
theorem dL_law_353 : decode cL_law 353 = .ok (.iaload, 1) := by decide +kernel
theorem dL_law_354 : decode cL_law 354 = .ok (.invokevirtual 54, 3) := by decide +kernel
theorem dL_law_357 : decode cL_law 357 = .ok (.if_icmp .eq 77, 3) := by decide +kernel
theorem dL_law_360 : decode cL_law 360 = .ok (.iconst 0, 1) := by decide +kernel
theorem dL_law_361 : decode cL_law 361 = .ok (.ireturn, 1) := by decide +kernel
theorem dL_law_362 : decode cL_law 362 = .ok (.aload_n 1, 1) := by decide +kernel
theorem dL_law_363 : decode cL_law 363 = .ok (.aload_n 0, 1) := by decide +kernel
theorem dL_law_364 : decode cL_law 364 = .ok (.iload_n 3, 1) := by decide +kernel
theorem dL_law_365 : decode cL_law 365 = .ok (.iconst 1, 1) := by decide +kernel
theorem dL_law_366 : decode cL_law 366 = .ok (.iadd, 1) := by decide +kernel
theorem dL_law_367 : decode cL_law 367 = .ok (.iaload, 1) := by decide +kernel
theorem dL_law_368 : decode cL_law 368 = .ok (.invokevirtual 55, 3) := by decide +kernel
theorem dL_law_371 : decode cL_law 371 = .ok (.aload_n 2, 1) := by decide +kernel
theorem dL_law_372 : decode cL_law 372 = .ok (.aload_n 0, 1) := by decide +kernel
theorem dL_law_373 : decode cL_law 373 = .ok (.iload_n 3, 1) := by decide +kernel
theorem dL_law_374 : decode cL_law 374 = .ok (.iconst 1, 1) := by decide +kernel
theorem dL_law_375 : decode cL_law 375 = .ok (.iadd, 1) := by decide +kernel
theorem dL_law_376 : decode cL_law 376 = .ok (.iaload, 1) := by decide +kernel
theorem dL_law_377 : decode cL_law 377 = .ok (.invokevirtual 58, 3) := by decide +kernel
theorem dL_law_380 : decode cL_law 380 = .ok (.if_icmp .eq 54, 3) := by decide +kernel
theorem dL_law_383 : decode cL_law 383 = .ok (.iconst 0, 1) := by decide +kernel
theorem dL_law_384 : decode cL_law 384 = .ok (.ireturn, 1) := by decide +kernel
theorem dL_law_385 : decode cL_law 385 = .ok (.aload_n 1, 1) := by decide +kernel
theorem dL_law_386 : decode cL_law 386 = .ok (.aload_n 0, 1) := by decide +kernel
theorem dL_law_387 : decode cL_law 387 = .ok (.iload_n 3, 1) := by decide +kernel
theorem dL_law_388 : decode cL_law 388 = .ok (.iconst 1, 1) := by decide +kernel
theorem dL_law_389 : decode cL_law 389 = .ok (.iadd, 1) := by decide +kernel
theorem dL_law_390 : decode cL_law 390 = .ok (.iaload, 1) := by decide +kernel
theorem dL_law_391 : decode cL_law 391 = .ok (.invokevirtual 59, 3) := by decide +kernel
theorem dL_law_394 : decode cL_law 394 = .ok (.aload_n 2, 1) := by decide +kernel
theorem dL_law_395 : decode cL_law 395 = .ok (.aload_n 0, 1) := by decide +kernel
theorem dL_law_396 : decode cL_law 396 = .ok (.iload_n 3, 1) := by decide +kernel
theorem dL_law_397 : decode cL_law 397 = .ok (.iconst 1, 1) := by decide +kernel
theorem dL_law_398 : decode cL_law 398 = .ok (.iadd, 1) := by decide +kernel
theorem dL_law_399 : decode cL_law 399 = .ok (.iaload, 1) := by decide +kernel
theorem dL_law_400 : decode cL_law 400 = .ok (.invokevirtual 62, 3) := by decide +kernel
theorem dL_law_403 : decode cL_law 403 = .ok (.if_icmp .eq 31, 3) := by decide +kernel
theorem dL_law_406 : decode cL_law 406 = .ok (.iconst 0, 1) := by decide +kernel
theorem dL_law_407 : decode cL_law 407 = .ok (.ireturn, 1) := by decide +kernel
theorem dL_law_408 : decode cL_law 408 = .ok (.aload_n 1, 1) := by decide +kernel
theorem dL_law_409 : decode cL_law 409 = .ok (.invokevirtual 63, 3) := by decide +kernel
theorem dL_law_412 : decode cL_law 412 = .ok (.aload_n 2, 1) := by decide +kernel
theorem dL_law_413 : decode cL_law 413 = .ok (.invokevirtual 67, 3) := by decide +kernel
theorem dL_law_416 : decode cL_law 416 = .ok (.if_icmp .eq 18, 3) := by decide +kernel
theorem dL_law_419 : decode cL_law 419 = .ok (.iconst 0, 1) := by decide +kernel
theorem dL_law_420 : decode cL_law 420 = .ok (.ireturn, 1) := by decide +kernel
theorem dL_law_421 : decode cL_law 421 = .ok (.aload_n 1, 1) := by decide +kernel
theorem dL_law_422 : decode cL_law 422 = .ok (.invokevirtual 68, 3) := by decide +kernel
theorem dL_law_425 : decode cL_law 425 = .ok (.aload_n 2, 1) := by decide +kernel
theorem dL_law_426 : decode cL_law 426 = .ok (.invokevirtual 71, 3) := by decide +kernel
theorem dL_law_429 : decode cL_law 429 = .ok (.if_icmp .eq 5, 3) := by decide +kernel
theorem dL_law_432 : decode cL_law 432 = .ok (.iconst 0, 1) := by decide +kernel
theorem dL_law_433 : decode cL_law 433 = .ok (.ireturn, 1) := by decide +kernel
theorem dL_law_434 : decode cL_law 434 = .ok (.iinc 3 3, 3) := by decide +kernel
theorem dL_law_437 : decode cL_law 437 = .ok (.goto (-419), 3) := by decide +kernel
theorem dL_law_440 : decode cL_law 440 = .ok (.iconst 1, 1) := by decide +kernel
theorem dL_law_441 : decode cL_law 441 = .ok (.ireturn, 1) := by decide +kernel
end
section
/-! BuildGraph against BuildGraphModel: ONE judgement for both classes. A class is (its place in vwCl, its name, its fields, how many, the arrays' lengths (0: an int field), which arrays are of booleans); an object is (tables' numbers, its address, its arrays' addresses, the classes of int[] and boolean[]); a state is bg_S: slot, place, number. -/
set_option maxRecDepth 100000
abbrev vwCl : List vw_C := [(RX0, TX0, 28), (RX1, TX1, 15)]
abbrev bg_S : Type := Nat → Nat → Int32
abbrev bg_C : Type := Nat × String × u_T × Nat × (Nat → Nat) × (Nat → Bool)
abbrev bg_O : Type := va_G × Nat × (Nat → Nat) × ClassId × ClassId
abbrev bg_E : Type := Program × Launch × Env × Room × State × MethodId × Array Value × List Frame × Method × Code × (State → Prop) × Nat
/-- slot k holds f from now on -/
def bg_U (σ : bg_S) (k : Nat) (f : Nat → Int32) : bg_S := fun j => cond (Nat.beq j k) f (σ j)
theorem bg_U_s (σ : bg_S) (k : Nat) (f : Nat → Int32) : bg_U σ k f k = f := by simp [bg_U]
theorem bg_U_n (σ : bg_S) {k j : Nat} (f : Nat → Int32) (h : j ≠ k) : bg_U σ k f j = σ j := by
  have : Nat.beq j k = false := by
    cases h2 : Nat.beq j k with
    | false => rfl
    | true => exact absurd (Nat.eq_of_beq_eq_true h2) h
  simp [bg_U, this]
def bg_h (o : bg_O) : Nat := o.2.1
def bg_a (o : bg_O) (k : Nat) : Nat := o.2.2.1 k
def bg_cs (Γ : bg_C) (o : bg_O) (k : Nat) : ClassId := cond (Γ.2.2.2.2.2 k) o.2.2.2.2 o.2.2.2.1
def bg_ln (Γ : bg_C) (k : Nat) : Nat := Γ.2.2.2.2.1 k
def bg_N (Γ : bg_C) : Nat := Γ.2.2.2.1
def bg_T (Γ : bg_C) : u_T := Γ.2.2.1
def bg_nm (Γ : bg_C) : String := Γ.2.1
def bg_V (Γ : bg_C) (o : bg_O) (σ : bg_S) (k : Nat) : Value := if bg_ln Γ k = 0 then .int (σ k 0) else .ref (bg_a o k)
/-- the heap holds the object with the state σ -/
def bg_P (Γ : bg_C) (o : bg_O) (σ : bg_S) (H : Heap) : Prop := t_OB (bg_h o) (o.1.1 Γ.1) (bg_N Γ) (o.1.2 Γ.1) H (bg_V Γ o σ) ∧ ∀ k, k < bg_N Γ → bg_ln Γ k ≠ 0 → H[bg_a o k]? = some (vp_cell (bg_cs Γ o k) (bg_ln Γ k, .inl (σ k)))
/-- its cells are apart -/
def bg_D (Γ : bg_C) (o : bg_O) : Prop := (∀ k, k < bg_N Γ → bg_ln Γ k ≠ 0 → bg_a o k ≠ bg_h o) ∧ ∀ k j, k < bg_N Γ → j < bg_N Γ → bg_ln Γ k ≠ 0 → bg_ln Γ j ≠ 0 → bg_a o k = bg_a o j → k = j
def bg_K (o : bg_O) (U : State) : Prop := va_K o.1 vwCl [(o.2.2.2.1, .int), (o.2.2.2.2, .boolean)] U
/-- which cells a method may change -/
def bg_A (Γ : bg_C) (o : bg_O) (sz : Nat) : Nat → Prop := fun q => q = bg_h o ∨ (∃ k, k < bg_N Γ ∧ bg_ln Γ k ≠ 0 ∧ q = bg_a o k) ∨ sz ≤ q
/-- what the tables say of the class -/
def bg_ok (Γ : bg_C) : Prop := vwCl[Γ.1]? = some (bg_nm Γ, bg_T Γ, bg_N Γ) ∧ (∀ w ∈ u_ws (bg_nm Γ) (bg_T Γ) (bg_N Γ), w ∈ lw_all) ∧ (∃ ty : Nat → FieldType, ∀ k, k < bg_N Γ → parseFieldDescriptor (bg_T Γ k).2.2.1 = some (ty k)) ∧ (∀ a, a < bg_N Γ → ∀ b, b < bg_N Γ → a ≠ b → (bg_T Γ a).2.1 ≠ (bg_T Γ b).2.1) ∧ ∀ k, k < bg_N Γ → bg_ln Γ k = 0 → (bg_T Γ k).2.2.2 = false ∧ parseFieldDescriptor (bg_T Γ k).2.2.1 = some .int
def bg_R (rt : Option FieldType) (r : Int32) : Option Value := match rt with
  | none => none
  | some _ => some (.int r)
def bg_Q (Γ : bg_C) (o : bg_O) (rt : Option FieldType) (post : Int32 → bg_S → Prop) (A : Nat → Prop) : Array Value → State → Outcome → State → Prop := fun _ st oc t => (∃ (r : Int32) (σ : bg_S), oc = .returned (bg_R rt r) ∧ post r σ ∧ bg_P Γ o σ t.heap ∧ bg_K o t) ∧ va_F A st t
/-- the locals: this, then ints -/
def bg_ix : Nat → List Int32 → List (Nat × Value)
  | _, [] => []
  | i, x :: xs => (i, .int x) :: bg_ix (i + 1) xs
def bg_lv (h : Nat) (vs : List Int32) : List (Nat × Value) := (0, .ref h) :: bg_ix 1 vs
def bg_set : List Int32 → Nat → Int32 → List Int32
  | [], 0, x => [x]
  | [], _ + 1, _ => []
  | _ :: ys, 0, x => x :: ys
  | y :: ys, n + 1, x => y :: bg_set ys n x
/-- the machine at pc with locals vs and operand stack st, the object in state σ, comes to the method's end -/
def bg_X (X : bg_E) (Γ : bg_C) (o : bg_O) (σ : bg_S) (vs : List Int32) (pc : Nat) (st : List Value) : Prop := match X with
  | (p, l, e, R, s, m, args, below, meth, c, Q, nL) => ∀ (H : Heap) (locs : List Loc) (ls : Array Slot), bg_P Γ o σ H → va_S (bg_A Γ o s.heap.size) s.heap H locs → lv_has ls nL (bg_lv (bg_h o) vs) → W p l e R s m args below meth c H locs 0 0 Q (F0 m pc ls st)
def bg_Cx (X : bg_E) (Γ : bg_C) (o : bg_O) (cc : ByteArray) (n fr lo : Nat) (rt : Option FieldType) (post : Int32 → bg_S → Prop) : Prop := match X with
  | (p, l, e, R, s, m, args, below, meth, c, Q, nL) => p.tables.exec = Jvm.exec ∧ c.code = cc ∧ c.maxLocals = nL ∧ s.vm.findClass (bg_nm Γ) = some m.cls ∧ (∀ w ∈ lw_all, w.before args s = true) ∧ bg_K o s ∧ bg_D Γ o ∧ bg_ok Γ ∧ R = { frames := fr, cells := 0, slots := 0, locals := lo } ∧ meth.locks = false ∧ meth.sig.returnType = rt ∧ Q = MQ below (bg_Q Γ o rt post (bg_A Γ o s.heap.size)) args s 0 0 (bg_A Γ o s.heap.size) ∧ nL = n
/-- A CONTRACT: called with the ints as at the state σ, y returns r in a state σ' with post r σ' -/
def bg_M (Γ : bg_C) (y : MethodName) (cc : ByteArray) (nL : Nat) (rt : Option FieldType) (fr lo : Nat) (as : List Int32) (σ : bg_S) (post : Int32 → bg_S → Prop) : Prop :=
  ∀ (l : Launch) (o : bg_O) (sz : Nat), Met l y (ws_ y cc nL rt) ({ frames := fr, cells := 0, slots := 0, locals := lo }) (va_Pc (.ref (bg_h o) :: as.map Value.int) (fun U => U.heap.size = sz ∧ bg_P Γ o σ U.heap ∧ bg_K o U ∧ bg_D Γ o)) (bg_Q Γ o rt post (bg_A Γ o sz)) 0 0 (bg_A Γ o sz)
theorem bg_ix_mem : ∀ (vs : List Int32) (i : Nat) (q : Nat × Value), q ∈ bg_ix i vs ↔ ∃ (j : Nat) (x : Int32), vs[j]? = some x ∧ q = (i + j, .int x)
  | [], i, q => by simp [bg_ix]
  | y :: ys, i, q => by
    simp only [bg_ix, List.mem_cons, bg_ix_mem ys (i + 1) q]
    constructor
    · rintro (h | ⟨j, x, h1, h2⟩)
      · exact ⟨0, y, rfl, by rw [h]; simp⟩
      · exact ⟨j + 1, x, by simpa using h1, by rw [h2]; congr 1; omega⟩
    · rintro ⟨j, x, h1, h2⟩
      cases j with
      | zero =>
        left
        simp at h1
        rw [h2, h1]; simp
      | succ j =>
        right
        exact ⟨j, x, by simpa using h1, by rw [h2]; congr 1; omega⟩
theorem bg_set_get : ∀ (vs : List Int32) (n : Nat) (x : Int32) (j : Nat) (y : Int32), (bg_set vs n x)[j]? = some y → (j = n ∧ y = x) ∨ (j ≠ n ∧ vs[j]? = some y)
  | [], 0, x, j, y, h => by
    cases j with
    | zero => left; simp [bg_set] at h; exact ⟨rfl, h.symm⟩
    | succ j => simp [bg_set] at h
  | [], n + 1, x, j, y, h => by simp [bg_set] at h
  | z :: zs, 0, x, j, y, h => by
    cases j with
    | zero => left; simp [bg_set] at h; exact ⟨rfl, h.symm⟩
    | succ j => right; exact ⟨by omega, by simpa [bg_set] using h⟩
  | z :: zs, n + 1, x, j, y, h => by
    cases j with
    | zero => right; exact ⟨by omega, by simpa [bg_set] using h⟩
    | succ j =>
      rcases bg_set_get zs n x j y (by simpa [bg_set] using h) with ⟨h1, h2⟩ | ⟨h1, h2⟩
      · left; exact ⟨by omega, h2⟩
      · right; exact ⟨by omega, by simpa using h2⟩
theorem bg_lv_at {ls : Array Slot} {nL h : Nat} {vs : List Int32} (hl : lv_has ls nL (bg_lv h vs)) {j : Nat} {x : Int32} (hj : vs[j]? = some x) : ls[j + 1]? = some (.val (.int x)) :=
  hl.2.2 (j + 1, .int x) (List.mem_cons_of_mem _ ((bg_ix_mem vs 1 _).mpr ⟨j, x, hj, by rw [Nat.add_comm]⟩))
theorem bg_lv_0 {ls : Array Slot} {nL h : Nat} {vs : List Int32} (hl : lv_has ls nL (bg_lv h vs)) : ls[0]? = some (.val (.ref h)) := hl.2.2 (0, .ref h) List.mem_cons_self
theorem bg_lv_to {ls' : Array Slot} {nL h : Nat} {vs vs' : List Int32} {j : Nat} {x : Int32} (h2 : lv_has ls' nL ((j + 1, Value.int x) :: (bg_lv h vs).filter (fun q => !(q.1 == j + 1) && !(q.1 + 1 == j + 1 && q.2.category == 2)))) (hv : ∀ i y, vs'[i]? = some y → (i = j ∧ y = x) ∨ (i ≠ j ∧ vs[i]? = some y)) : lv_has ls' nL (bg_lv h vs') := by
  refine ⟨h2.1, h2.2.1, fun q hq => h2.2.2 q ?_⟩
  rcases List.mem_cons.mp hq with e | e
  · refine List.mem_cons_of_mem _ (List.mem_filter.mpr ⟨by rw [e]; exact List.mem_cons_self, ?_⟩)
    rw [e]
    simp [Value.category]
  · obtain ⟨i, y, hi, rfl⟩ := (bg_ix_mem vs' 1 q).mp e
    rcases hv i y hi with ⟨rfl, rfl⟩ | ⟨h3, h4⟩
    · rw [Nat.add_comm]; exact List.mem_cons_self
    · refine List.mem_cons_of_mem _ (List.mem_filter.mpr ⟨List.mem_cons_of_mem _ ((bg_ix_mem vs 1 _).mpr ⟨i, y, h4, rfl⟩), ?_⟩)
      have h5 : ¬ (1 + i = j + 1) := by omega
      simp [Value.category, h5]
theorem bg_args (vs : List Int32) : ∀ i : Nat, lv_args i (vs.map Value.int) = bg_ix i vs := by
  induction vs with
  | nil => intro i; rfl
  | cons x xs ih =>
    intro i
    show (i, Value.int x) :: lv_args (if (Value.int x).category = 2 then i + 2 else i + 1) (xs.map Value.int) = _
    rw [if_neg (by simp [Value.category]), ih]
    rfl
theorem bg_sl (vs : List Int32) : (lg_sl (vs.map Value.int)).length = vs.length := by
  induction vs with
  | nil => rfl
  | cons x xs ih =>
    have : lg_sl ((x :: xs).map Value.int) = .val (.int x) :: lg_sl (xs.map Value.int) := by simp [lg_sl, Value.category]
    rw [this, List.length_cons, ih, List.length_cons]
theorem bg_P1 {D : va_G} {cl : List vw_C} {q : Nat × va_E} {H : Heap} (h : va_at D cl q H) : va_P D cl [q] H := by
  intro k q' hk
  cases k with
  | zero => cases hk; exact h
  | succ k => simp at hk
section BG
variable {X : bg_E} {Γ : bg_C} {o : bg_O} {σ : bg_S} {vs : List Int32} {n fr lo : Nat} {st : List Value} {cc : ByteArray} {rt : Option FieldType} {post : Int32 → bg_S → Prop}
/-! the method's start -/
theorem bg_enter {y : MethodName} {nL : Nat} {as : List Int32} (hΓ : bg_ok Γ) (hy : plainName y.cls = true) (hcls : y.cls = bg_nm Γ) (hlen : as.length + 1 ≤ nL)
    (body : ∀ (X : bg_E) (o : bg_O), bg_Cx X Γ o cc nL fr lo rt post → bg_X X Γ o σ as 0 []) : bg_M Γ y cc nL rt fr lo as σ post := by
  intro l o sz
  refine Met.ofW (cc := cc) (maxL := nL) (ret := rt) hy rfl ?_
  intro p e s m args below meth c s₁ B hml hv
  obtain ⟨rfl, hsz, hP, hK, hD⟩ := hv
  have hts := atoms_spec (ws := ws_ y cc nL rt) B.pre
  have hts : ∀ w ∈ lw_all, w.before _ s = true := fun w h => hts w (List.mem_cons_of_mem _ h)
  have hown : s.vm.findClass y.cls = some m.cls := findClass_of_methodNamed B.named
  rw [hcls] at hown
  subst hsz
  have hsl : (lg_sl (Value.ref (bg_h o) :: as.map Value.int)).length ≤ nL := by
    have : lg_sl (Value.ref (bg_h o) :: as.map Value.int) = .val (.ref (bg_h o)) :: lg_sl (as.map Value.int) := by simp [lg_sl, Value.category]
    rw [this, List.length_cons, bg_sl]
    exact hlen
  have hl := lv_entry (Value.ref (bg_h o) :: as.map Value.int) (n := nL) hsl
  rw [lg_entry_eq]
  generalize (lg_sl (Value.ref (bg_h o) :: as.map Value.int) ++ List.replicate (nL - (lg_sl (Value.ref (bg_h o) :: as.map Value.int)).length) Slot.unset).toArray = ls at hl ⊢
  have hl2 : lv_has ls nL (bg_lv (bg_h o) as) := by
    have e : lv_args 0 (Value.ref (bg_h o) :: as.map Value.int) = bg_lv (bg_h o) as := by
      show (0, Value.ref (bg_h o)) :: lv_args (if (Value.ref (bg_h o)).category = 2 then 0 + 2 else 0 + 1) (as.map Value.int) = _
      rw [if_neg (by simp [Value.category]), bg_args]
      rfl
    rw [← e]; exact hl
  exact body (p, l, e, _, s, m, _, below, meth, c, _, nL) o ⟨B.exec, B.bytes, hml, hown, hts, hK, hD, hΓ, rfl, B.notSynchronized, B.returns, rfl, rfl⟩ s.heap [] ls hP va_S.rf hl2
/-! rows that touch no cell -/
theorem bg_aload (C : bg_Cx X Γ o cc n fr lo rt post) (pc : Nat) (hdg : decode cc pc = .ok (.aload_n 0, 1)) (kk : bg_X X Γ o σ vs (pc + 1) (.ref (bg_h o) :: st)) : bg_X X Γ o σ vs pc st := by
  obtain ⟨p, l, e, R, s, m, args, below, meth, c, Q, nL⟩ := X
  obtain ⟨hx, hb, -⟩ := C
  intro H locs ls hP hS hl
  exact lv_aload_n hx hb hdg rfl (bg_lv_0 hl) (kk H locs ls hP hS hl)
theorem bg_iload_n (C : bg_Cx X Γ o cc n fr lo rt post) (pc : Nat) {k : Fin 4} (hdg : decode cc pc = .ok (.iload_n k, 1)) (j : Nat) (hj : (k : Nat) = j + 1) {x : Int32} (hv : vs[j]? = some x) (kk : bg_X X Γ o σ vs (pc + 1) (.int x :: st)) : bg_X X Γ o σ vs pc st := by
  obtain ⟨p, l, e, R, s, m, args, below, meth, c, Q, nL⟩ := X
  obtain ⟨hx, hb, -⟩ := C
  intro H locs ls hP hS hl
  exact lv_iload_n hx hb hdg hj (bg_lv_at hl hv) (kk H locs ls hP hS hl)
theorem bg_iload (C : bg_Cx X Γ o cc n fr lo rt post) (pc : Nat) {k : Nat} (hdg : decode cc pc = .ok (.iload k, 2)) (j : Nat) (hj : k = j + 1) {x : Int32} (hv : vs[j]? = some x) (kk : bg_X X Γ o σ vs (pc + 2) (.int x :: st)) : bg_X X Γ o σ vs pc st := by
  obtain ⟨p, l, e, R, s, m, args, below, meth, c, Q, nL⟩ := X
  obtain ⟨hx, hb, -⟩ := C
  intro H locs ls hP hS hl
  subst hj
  exact lv_iload hx hb hdg (bg_lv_at hl hv) (kk H locs ls hP hS hl)
theorem bg_istore_n (C : bg_Cx X Γ o cc n fr lo rt post) (pc : Nat) {k : Fin 4} (hdg : decode cc pc = .ok (.istore_n k, 1)) (j : Nat) (hj : (k : Nat) = j + 1) (hn : j + 1 < n) {x : Int32} (kk : bg_X X Γ o σ (bg_set vs j x) (pc + 1) st) : bg_X X Γ o σ vs pc (.int x :: st) := by
  obtain ⟨p, l, e, R, s, m, args, below, meth, c, Q, nL⟩ := X
  obtain ⟨hx, hb, -, -, -, -, -, -, -, -, -, -, rfl⟩ := C
  intro H locs ls hP hS hl
  exact lv_istore_n hx hb hdg hj hl hn rfl (fun ls' h' => kk H locs ls' hP hS (bg_lv_to h' (bg_set_get vs j x)))
theorem bg_istore (C : bg_Cx X Γ o cc n fr lo rt post) (pc : Nat) {k : Nat} (hdg : decode cc pc = .ok (.istore k, 2)) (j : Nat) (hj : k = j + 1) (hn : j + 1 < n) {x : Int32} (kk : bg_X X Γ o σ (bg_set vs j x) (pc + 2) st) : bg_X X Γ o σ vs pc (.int x :: st) := by
  obtain ⟨p, l, e, R, s, m, args, below, meth, c, Q, nL⟩ := X
  obtain ⟨hx, hb, -, -, -, -, -, -, -, -, -, -, rfl⟩ := C
  intro H locs ls hP hS hl
  subst hj
  exact lv_istore hx hb hdg hl hn rfl (fun ls' h' => kk H locs ls' hP hS (bg_lv_to h' (bg_set_get vs j x)))
theorem bg_iinc (C : bg_Cx X Γ o cc n fr lo rt post) (pc : Nat) {k : Nat} {d : Int} (hdg : decode cc pc = .ok (.iinc k d, 3)) (j : Nat) (hj : k = j + 1) (hn : j + 1 < n) {x v : Int32} (hv : vs[j]? = some x) (hd : x + Int32.ofInt d = v) (kk : bg_X X Γ o σ (bg_set vs j v) (pc + 3) st) : bg_X X Γ o σ vs pc st := by
  obtain ⟨p, l, e, R, s, m, args, below, meth, c, Q, nL⟩ := X
  obtain ⟨hx, hb, -, -, -, -, -, -, -, -, -, -, rfl⟩ := C
  intro H locs ls hP hS hl
  subst hj
  have hm : (j + 1, Value.int x) ∈ bg_lv (bg_h o) vs := List.mem_cons_of_mem _ ((bg_ix_mem vs 1 _).mpr ⟨j, x, hv, by rw [Nat.add_comm]⟩)
  obtain ⟨q, hq⟩ := List.getElem?_of_mem hm
  exact lv_iinc hx hb hdg hl hq hd hn rfl (fun ls' h' => kk H locs ls' hP hS (bg_lv_to h' (bg_set_get vs j v)))
theorem bg_iinc1 (C : bg_Cx X Γ o cc n fr lo rt post) (pc : Nat) {k : Nat} (hdg : decode cc pc = .ok (.iinc k 1, 3)) (j : Nat) (hj : k = j + 1) (hn : j + 1 < n) {x : Int32} (hv : vs[j]? = some x) (kk : bg_X X Γ o σ (bg_set vs j (x + 1)) (pc + 3) st) : bg_X X Γ o σ vs pc st := bg_iinc C pc hdg j hj hn hv rfl kk
theorem bg_iconst (C : bg_Cx X Γ o cc n fr lo rt post) (pc : Nat) (v : Int32) {z : Int} (hdg : decode cc pc = .ok (.iconst z, 1)) (hv : Int32.ofInt z = v) (kk : bg_X X Γ o σ vs (pc + 1) (.int v :: st)) : bg_X X Γ o σ vs pc st := by
  obtain ⟨p, l, e, R, s, m, args, below, meth, c, Q, nL⟩ := X
  obtain ⟨hx, hb, -⟩ := C
  intro H locs ls hP hS hl
  exact lv_iconst hx hb hdg hv (kk H locs ls hP hS hl)
theorem bg_bipush (C : bg_Cx X Γ o cc n fr lo rt post) (pc : Nat) (v : Int32) {z : Int} (hdg : decode cc pc = .ok (.bipush z, 2)) (hv : (Int8.ofInt z).toInt32 = v) (kk : bg_X X Γ o σ vs (pc + 2) (.int v :: st)) : bg_X X Γ o σ vs pc st := by
  obtain ⟨p, l, e, R, s, m, args, below, meth, c, Q, nL⟩ := X
  obtain ⟨hx, hb, -⟩ := C
  intro H locs ls hP hS hl
  exact lv_bipush hx hb hdg hv (kk H locs ls hP hS hl)
theorem bg_sipush (C : bg_Cx X Γ o cc n fr lo rt post) (pc : Nat) (v : Int32) {z : Int} (hdg : decode cc pc = .ok (.sipush z, 3)) (hv : (Int16.ofInt z).toInt32 = v) (kk : bg_X X Γ o σ vs (pc + 3) (.int v :: st)) : bg_X X Γ o σ vs pc st := by
  obtain ⟨p, l, e, R, s, m, args, below, meth, c, Q, nL⟩ := X
  obtain ⟨hx, hb, -⟩ := C
  intro H locs ls hP hS hl
  exact lv_sipush hx hb hdg hv (kk H locs ls hP hS hl)
/-- the top by another name -/
theorem bg_eq {pc : Nat} {x y : Int32} (h : x = y) (kk : bg_X X Γ o σ vs pc (.int y :: st)) : bg_X X Γ o σ vs pc (.int x :: st) := by rw [h]; exact kk
/-- fewer locals are known -/
theorem bg_take {pc : Nat} (k : Nat) (kk : bg_X X Γ o σ (vs.take k) pc st) : bg_X X Γ o σ vs pc st := by
  obtain ⟨p, l, e, R, s, m, args, below, meth, c, Q, nL⟩ := X
  intro H locs ls hP hS hl
  refine kk H locs ls hP hS ⟨hl.1, hl.2.1, fun q hq => hl.2.2 q ?_⟩
  rcases List.mem_cons.mp hq with e | e
  · rw [e]; exact List.mem_cons_self
  · obtain ⟨i, y, hi, rfl⟩ := (bg_ix_mem _ 1 q).mp e
    refine List.mem_cons_of_mem _ ((bg_ix_mem vs 1 _).mpr ⟨i, y, ?_, rfl⟩)
    rw [List.getElem?_take] at hi
    split at hi
    · exact hi
    · cases hi
theorem bg_goto (C : bg_Cx X Γ o cc n fr lo rt post) (pc : Nat) {off : Int} (tgt : Nat) (hdg : decode cc pc = .ok (.goto off, 3)) (ht : (pc : Int) + off = (tgt : Int)) (kk : bg_X X Γ o σ vs tgt st) : bg_X X Γ o σ vs pc st := by
  obtain ⟨p, l, e, R, s, m, args, below, meth, c, Q, nL⟩ := X
  obtain ⟨hx, hb, -⟩ := C
  intro H locs ls hP hS hl
  exact lv_goto hx hb hdg ht (kk H locs ls hP hS hl)
theorem bg_dup (C : bg_Cx X Γ o cc n fr lo rt post) (pc : Nat) {v : Value} (hdg : decode cc pc = .ok (.dup, 1)) (hv : v.category = 1) (kk : bg_X X Γ o σ vs (pc + 1) (v :: v :: st)) : bg_X X Γ o σ vs pc (v :: st) := by
  obtain ⟨p, l, e, R, s, m, args, below, meth, c, Q, nL⟩ := X
  obtain ⟨hx, hb, -⟩ := C
  intro H locs ls hP hS hl
  exact lv_dup hx hb hdg hv (kk H locs ls hP hS hl)
theorem bg_dup2 (C : bg_Cx X Γ o cc n fr lo rt post) (pc : Nat) {v w : Value} (hdg : decode cc pc = .ok (.dup2, 1)) (hv : v.category = 1) (hw : w.category = 1) (kk : bg_X X Γ o σ vs (pc + 1) (v :: w :: v :: w :: st)) : bg_X X Γ o σ vs pc (v :: w :: st) := by
  obtain ⟨p, l, e, R, s, m, args, below, meth, c, Q, nL⟩ := X
  obtain ⟨hx, hb, -⟩ := C
  intro H locs ls hP hS hl
  exact lv_dup2_11 hx hb hdg hv hw (kk H locs ls hP hS hl)
theorem bg_iadd (C : bg_Cx X Γ o cc n fr lo rt post) (pc : Nat) {x y : Int32} (hdg : decode cc pc = .ok (.iadd, 1)) (kk : bg_X X Γ o σ vs (pc + 1) (.int (x + y) :: st)) : bg_X X Γ o σ vs pc (.int y :: .int x :: st) := by
  obtain ⟨p, l, e, R, s, m, args, below, meth, c, Q, nL⟩ := X
  obtain ⟨hx, hb, -⟩ := C
  intro H locs ls hP hS hl
  exact lv_iadd hx hb hdg (kk H locs ls hP hS hl)
theorem bg_isub (C : bg_Cx X Γ o cc n fr lo rt post) (pc : Nat) {x y : Int32} (hdg : decode cc pc = .ok (.isub, 1)) (kk : bg_X X Γ o σ vs (pc + 1) (.int (x - y) :: st)) : bg_X X Γ o σ vs pc (.int y :: .int x :: st) := by
  obtain ⟨p, l, e, R, s, m, args, below, meth, c, Q, nL⟩ := X
  obtain ⟨hx, hb, -⟩ := C
  intro H locs ls hP hS hl
  exact lv_isub hx hb hdg (kk H locs ls hP hS hl)
theorem bg_imul (C : bg_Cx X Γ o cc n fr lo rt post) (pc : Nat) {x y : Int32} (hdg : decode cc pc = .ok (.imul, 1)) (kk : bg_X X Γ o σ vs (pc + 1) (.int (x * y) :: st)) : bg_X X Γ o σ vs pc (.int y :: .int x :: st) := by
  obtain ⟨p, l, e, R, s, m, args, below, meth, c, Q, nL⟩ := X
  obtain ⟨hx, hb, -⟩ := C
  intro H locs ls hP hS hl
  exact lv_imul hx hb hdg (kk H locs ls hP hS hl)
theorem bg_iand (C : bg_Cx X Γ o cc n fr lo rt post) (pc : Nat) {x y : Int32} (hdg : decode cc pc = .ok (.iand, 1)) (kk : bg_X X Γ o σ vs (pc + 1) (.int (x &&& y) :: st)) : bg_X X Γ o σ vs pc (.int y :: .int x :: st) := by
  obtain ⟨p, l, e, R, s, m, args, below, meth, c, Q, nL⟩ := X
  obtain ⟨hx, hb, -⟩ := C
  intro H locs ls hP hS hl
  exact lv_iand hx hb hdg (kk H locs ls hP hS hl)
theorem bg_ior (C : bg_Cx X Γ o cc n fr lo rt post) (pc : Nat) {x y : Int32} (hdg : decode cc pc = .ok (.ior, 1)) (kk : bg_X X Γ o σ vs (pc + 1) (.int (x ||| y) :: st)) : bg_X X Γ o σ vs pc (.int y :: .int x :: st) := by
  obtain ⟨p, l, e, R, s, m, args, below, meth, c, Q, nL⟩ := X
  obtain ⟨hx, hb, -⟩ := C
  intro H locs ls hP hS hl
  exact lv_ior hx hb hdg (kk H locs ls hP hS hl)
theorem bg_ishl (C : bg_Cx X Γ o cc n fr lo rt post) (pc : Nat) {x y : Int32} (hdg : decode cc pc = .ok (.ishl, 1)) (kk : bg_X X Γ o σ vs (pc + 1) (.int (x <<< (y &&& 31)) :: st)) : bg_X X Γ o σ vs pc (.int y :: .int x :: st) := by
  obtain ⟨p, l, e, R, s, m, args, below, meth, c, Q, nL⟩ := X
  obtain ⟨hx, hb, -⟩ := C
  intro H locs ls hP hS hl
  exact lv_ishl hx hb hdg (kk H locs ls hP hS hl)
theorem bg_ishr (C : bg_Cx X Γ o cc n fr lo rt post) (pc : Nat) {x y : Int32} (hdg : decode cc pc = .ok (.ishr, 1)) (kk : bg_X X Γ o σ vs (pc + 1) (.int (x >>> (y &&& 31)) :: st)) : bg_X X Γ o σ vs pc (.int y :: .int x :: st) := by
  obtain ⟨p, l, e, R, s, m, args, below, meth, c, Q, nL⟩ := X
  obtain ⟨hx, hb, -⟩ := C
  intro H locs ls hP hS hl
  exact lv_ishr hx hb hdg (kk H locs ls hP hS hl)
theorem bg_iaddN (C : bg_Cx X Γ o cc n fr lo rt post) (pc : Nat) {a b : Nat} (hdg : decode cc pc = .ok (.iadd, 1)) (kk : bg_X X Γ o σ vs (pc + 1) (.int (nI (a + b)) :: st)) : bg_X X Γ o σ vs pc (.int (nI b) :: .int (nI a) :: st) := bg_iadd C pc hdg (by rw [nI_add]; exact kk)
theorem bg_imulN (C : bg_Cx X Γ o cc n fr lo rt post) (pc : Nat) {a b : Nat} (hdg : decode cc pc = .ok (.imul, 1)) (kk : bg_X X Γ o σ vs (pc + 1) (.int (nI (a * b)) :: st)) : bg_X X Γ o σ vs pc (.int (nI b) :: .int (nI a) :: st) := bg_imul C pc hdg (by rw [pk_mul]; exact kk)
theorem bg_isubN (C : bg_Cx X Γ o cc n fr lo rt post) (pc : Nat) {a b : Nat} (h : b ≤ a) (hdg : decode cc pc = .ok (.isub, 1)) (kk : bg_X X Γ o σ vs (pc + 1) (.int (nI (a - b)) :: st)) : bg_X X Γ o σ vs pc (.int (nI b) :: .int (nI a) :: st) := bg_isub C pc hdg (by rw [pk_sub h]; exact kk)
theorem bg_iincN (C : bg_Cx X Γ o cc n fr lo rt post) (pc : Nat) {k : Nat} (hdg : decode cc pc = .ok (.iinc k 1, 3)) (j : Nat) (hj : k = j + 1) (hn : j + 1 < n) {a : Nat} (hv : vs[j]? = some (nI a)) (kk : bg_X X Γ o σ (bg_set vs j (nI (a + 1))) (pc + 3) st) : bg_X X Γ o σ vs pc st := bg_iinc C pc hdg j hj hn hv (by rw [← nI_1]; rfl) kk
theorem bg_icmp_eq (C : bg_Cx X Γ o cc n fr lo rt post) (pc : Nat) {x y : Int32} {off : Int} (tgt : Nat) (hdg : decode cc pc = .ok (.if_icmp .eq off, 3)) (ht : (pc : Int) + off = (tgt : Int)) (kt : x = y → bg_X X Γ o σ vs tgt st) (kf : ¬ x = y → bg_X X Γ o σ vs (pc + 3) st) : bg_X X Γ o σ vs pc (.int y :: .int x :: st) := by
  obtain ⟨p, l, e, R, s, m, args, below, meth, c, Q, nL⟩ := X
  obtain ⟨hx, hb, -⟩ := C
  intro H locs ls hP hS hl
  exact lv_icmp_eq hx hb hdg ht (fun q => kt q H locs ls hP hS hl) (fun q => kf q H locs ls hP hS hl)
theorem bg_if_eq (C : bg_Cx X Γ o cc n fr lo rt post) (pc : Nat) {x : Int32} {off : Int} (tgt : Nat) (hdg : decode cc pc = .ok (.ifCond .eq off, 3)) (ht : (pc : Int) + off = (tgt : Int)) (kt : x = 0 → bg_X X Γ o σ vs tgt st) (kf : ¬ x = 0 → bg_X X Γ o σ vs (pc + 3) st) : bg_X X Γ o σ vs pc (.int x :: st) := by
  obtain ⟨p, l, e, R, s, m, args, below, meth, c, Q, nL⟩ := X
  obtain ⟨hx, hb, -⟩ := C
  intro H locs ls hP hS hl
  exact lv_if_eq hx hb hdg ht (fun q => kt q H locs ls hP hS hl) (fun q => kf q H locs ls hP hS hl)
theorem bg_icmp_ne (C : bg_Cx X Γ o cc n fr lo rt post) (pc : Nat) {x y : Int32} {off : Int} (tgt : Nat) (hdg : decode cc pc = .ok (.if_icmp .ne off, 3)) (ht : (pc : Int) + off = (tgt : Int)) (kt : ¬ x = y → bg_X X Γ o σ vs tgt st) (kf : x = y → bg_X X Γ o σ vs (pc + 3) st) : bg_X X Γ o σ vs pc (.int y :: .int x :: st) := by
  obtain ⟨p, l, e, R, s, m, args, below, meth, c, Q, nL⟩ := X
  obtain ⟨hx, hb, -⟩ := C
  intro H locs ls hP hS hl
  exact lv_icmp_ne hx hb hdg ht (fun q => kt q H locs ls hP hS hl) (fun q => kf q H locs ls hP hS hl)
theorem bg_if_ne (C : bg_Cx X Γ o cc n fr lo rt post) (pc : Nat) {x : Int32} {off : Int} (tgt : Nat) (hdg : decode cc pc = .ok (.ifCond .ne off, 3)) (ht : (pc : Int) + off = (tgt : Int)) (kt : ¬ x = 0 → bg_X X Γ o σ vs tgt st) (kf : x = 0 → bg_X X Γ o σ vs (pc + 3) st) : bg_X X Γ o σ vs pc (.int x :: st) := by
  obtain ⟨p, l, e, R, s, m, args, below, meth, c, Q, nL⟩ := X
  obtain ⟨hx, hb, -⟩ := C
  intro H locs ls hP hS hl
  exact lv_if_ne hx hb hdg ht (fun q => kt q H locs ls hP hS hl) (fun q => kf q H locs ls hP hS hl)
theorem bg_icmp_lt (C : bg_Cx X Γ o cc n fr lo rt post) (pc : Nat) {x y : Int32} {off : Int} (tgt : Nat) (hdg : decode cc pc = .ok (.if_icmp .lt off, 3)) (ht : (pc : Int) + off = (tgt : Int)) (kt : x < y → bg_X X Γ o σ vs tgt st) (kf : ¬ x < y → bg_X X Γ o σ vs (pc + 3) st) : bg_X X Γ o σ vs pc (.int y :: .int x :: st) := by
  obtain ⟨p, l, e, R, s, m, args, below, meth, c, Q, nL⟩ := X
  obtain ⟨hx, hb, -⟩ := C
  intro H locs ls hP hS hl
  exact lv_icmp_lt hx hb hdg ht (fun q => kt q H locs ls hP hS hl) (fun q => kf q H locs ls hP hS hl)
theorem bg_if_lt (C : bg_Cx X Γ o cc n fr lo rt post) (pc : Nat) {x : Int32} {off : Int} (tgt : Nat) (hdg : decode cc pc = .ok (.ifCond .lt off, 3)) (ht : (pc : Int) + off = (tgt : Int)) (kt : x < 0 → bg_X X Γ o σ vs tgt st) (kf : ¬ x < 0 → bg_X X Γ o σ vs (pc + 3) st) : bg_X X Γ o σ vs pc (.int x :: st) := by
  obtain ⟨p, l, e, R, s, m, args, below, meth, c, Q, nL⟩ := X
  obtain ⟨hx, hb, -⟩ := C
  intro H locs ls hP hS hl
  exact lv_if_lt hx hb hdg ht (fun q => kt q H locs ls hP hS hl) (fun q => kf q H locs ls hP hS hl)
theorem bg_icmp_ge (C : bg_Cx X Γ o cc n fr lo rt post) (pc : Nat) {x y : Int32} {off : Int} (tgt : Nat) (hdg : decode cc pc = .ok (.if_icmp .ge off, 3)) (ht : (pc : Int) + off = (tgt : Int)) (kt : y ≤ x → bg_X X Γ o σ vs tgt st) (kf : ¬ y ≤ x → bg_X X Γ o σ vs (pc + 3) st) : bg_X X Γ o σ vs pc (.int y :: .int x :: st) := by
  obtain ⟨p, l, e, R, s, m, args, below, meth, c, Q, nL⟩ := X
  obtain ⟨hx, hb, -⟩ := C
  intro H locs ls hP hS hl
  exact lv_icmp_ge hx hb hdg ht (fun q => kt q H locs ls hP hS hl) (fun q => kf q H locs ls hP hS hl)
theorem bg_if_ge (C : bg_Cx X Γ o cc n fr lo rt post) (pc : Nat) {x : Int32} {off : Int} (tgt : Nat) (hdg : decode cc pc = .ok (.ifCond .ge off, 3)) (ht : (pc : Int) + off = (tgt : Int)) (kt : 0 ≤ x → bg_X X Γ o σ vs tgt st) (kf : ¬ 0 ≤ x → bg_X X Γ o σ vs (pc + 3) st) : bg_X X Γ o σ vs pc (.int x :: st) := by
  obtain ⟨p, l, e, R, s, m, args, below, meth, c, Q, nL⟩ := X
  obtain ⟨hx, hb, -⟩ := C
  intro H locs ls hP hS hl
  exact lv_if_ge hx hb hdg ht (fun q => kt q H locs ls hP hS hl) (fun q => kf q H locs ls hP hS hl)
theorem bg_icmp_gt (C : bg_Cx X Γ o cc n fr lo rt post) (pc : Nat) {x y : Int32} {off : Int} (tgt : Nat) (hdg : decode cc pc = .ok (.if_icmp .gt off, 3)) (ht : (pc : Int) + off = (tgt : Int)) (kt : y < x → bg_X X Γ o σ vs tgt st) (kf : ¬ y < x → bg_X X Γ o σ vs (pc + 3) st) : bg_X X Γ o σ vs pc (.int y :: .int x :: st) := by
  obtain ⟨p, l, e, R, s, m, args, below, meth, c, Q, nL⟩ := X
  obtain ⟨hx, hb, -⟩ := C
  intro H locs ls hP hS hl
  exact lv_icmp_gt hx hb hdg ht (fun q => kt q H locs ls hP hS hl) (fun q => kf q H locs ls hP hS hl)
theorem bg_if_gt (C : bg_Cx X Γ o cc n fr lo rt post) (pc : Nat) {x : Int32} {off : Int} (tgt : Nat) (hdg : decode cc pc = .ok (.ifCond .gt off, 3)) (ht : (pc : Int) + off = (tgt : Int)) (kt : 0 < x → bg_X X Γ o σ vs tgt st) (kf : ¬ 0 < x → bg_X X Γ o σ vs (pc + 3) st) : bg_X X Γ o σ vs pc (.int x :: st) := by
  obtain ⟨p, l, e, R, s, m, args, below, meth, c, Q, nL⟩ := X
  obtain ⟨hx, hb, -⟩ := C
  intro H locs ls hP hS hl
  exact lv_if_gt hx hb hdg ht (fun q => kt q H locs ls hP hS hl) (fun q => kf q H locs ls hP hS hl)
theorem bg_icmp_le (C : bg_Cx X Γ o cc n fr lo rt post) (pc : Nat) {x y : Int32} {off : Int} (tgt : Nat) (hdg : decode cc pc = .ok (.if_icmp .le off, 3)) (ht : (pc : Int) + off = (tgt : Int)) (kt : x ≤ y → bg_X X Γ o σ vs tgt st) (kf : ¬ x ≤ y → bg_X X Γ o σ vs (pc + 3) st) : bg_X X Γ o σ vs pc (.int y :: .int x :: st) := by
  obtain ⟨p, l, e, R, s, m, args, below, meth, c, Q, nL⟩ := X
  obtain ⟨hx, hb, -⟩ := C
  intro H locs ls hP hS hl
  exact lv_icmp_le hx hb hdg ht (fun q => kt q H locs ls hP hS hl) (fun q => kf q H locs ls hP hS hl)
theorem bg_if_le (C : bg_Cx X Γ o cc n fr lo rt post) (pc : Nat) {x : Int32} {off : Int} (tgt : Nat) (hdg : decode cc pc = .ok (.ifCond .le off, 3)) (ht : (pc : Int) + off = (tgt : Int)) (kt : x ≤ 0 → bg_X X Γ o σ vs tgt st) (kf : ¬ x ≤ 0 → bg_X X Γ o σ vs (pc + 3) st) : bg_X X Γ o σ vs pc (.int x :: st) := by
  obtain ⟨p, l, e, R, s, m, args, below, meth, c, Q, nL⟩ := X
  obtain ⟨hx, hb, -⟩ := C
  intro H locs ls hP hS hl
  exact lv_if_le hx hb hdg ht (fun q => kt q H locs ls hP hS hl) (fun q => kf q H locs ls hP hS hl)
theorem bg_icmpN_eq (C : bg_Cx X Γ o cc n fr lo rt post) (pc : Nat) {a b : Nat} (ha : a < 2 ^ 31) (hb : b < 2 ^ 31) {off : Int} (tgt : Nat) (hdg : decode cc pc = .ok (.if_icmp .eq off, 3)) (ht : (pc : Int) + off = (tgt : Int)) (kt : a = b → bg_X X Γ o σ vs tgt st) (kf : a ≠ b → bg_X X Γ o σ vs (pc + 3) st) : bg_X X Γ o σ vs pc (.int (nI b) :: .int (nI a) :: st) :=
  bg_icmp_eq C pc tgt hdg ht (fun q => kt ((nI_eq ha hb).mp q)) (fun q => kf (fun z => q (by rw [z])))
theorem bg_icmpN_ne (C : bg_Cx X Γ o cc n fr lo rt post) (pc : Nat) {a b : Nat} (ha : a < 2 ^ 31) (hb : b < 2 ^ 31) {off : Int} (tgt : Nat) (hdg : decode cc pc = .ok (.if_icmp .ne off, 3)) (ht : (pc : Int) + off = (tgt : Int)) (kt : a ≠ b → bg_X X Γ o σ vs tgt st) (kf : a = b → bg_X X Γ o σ vs (pc + 3) st) : bg_X X Γ o σ vs pc (.int (nI b) :: .int (nI a) :: st) :=
  bg_icmp_ne C pc tgt hdg ht (fun q => kt (fun z => q (by rw [z]))) (fun q => kf ((nI_eq ha hb).mp q))
theorem bg_icmpN_lt (C : bg_Cx X Γ o cc n fr lo rt post) (pc : Nat) {a b : Nat} (ha : a < 2 ^ 31) (hb : b < 2 ^ 31) {off : Int} (tgt : Nat) (hdg : decode cc pc = .ok (.if_icmp .lt off, 3)) (ht : (pc : Int) + off = (tgt : Int)) (kt : a < b → bg_X X Γ o σ vs tgt st) (kf : b ≤ a → bg_X X Γ o σ vs (pc + 3) st) : bg_X X Γ o σ vs pc (.int (nI b) :: .int (nI a) :: st) :=
  bg_icmp_lt C pc tgt hdg ht (fun q => kt ((nI_ltI ha hb).mp q)) (fun q => kf (Nat.not_lt.mp fun z => q ((nI_ltI ha hb).mpr z)))
theorem bg_icmpN_ge (C : bg_Cx X Γ o cc n fr lo rt post) (pc : Nat) {a b : Nat} (ha : a < 2 ^ 31) (hb : b < 2 ^ 31) {off : Int} (tgt : Nat) (hdg : decode cc pc = .ok (.if_icmp .ge off, 3)) (ht : (pc : Int) + off = (tgt : Int)) (kt : b ≤ a → bg_X X Γ o σ vs tgt st) (kf : a < b → bg_X X Γ o σ vs (pc + 3) st) : bg_X X Γ o σ vs pc (.int (nI b) :: .int (nI a) :: st) :=
  bg_icmp_ge C pc tgt hdg ht (fun q => kt ((nI_leI hb ha).mp q)) (fun q => kf (Nat.not_le.mp fun z => q ((nI_leI hb ha).mpr z)))
theorem bg_icmpN_gt (C : bg_Cx X Γ o cc n fr lo rt post) (pc : Nat) {a b : Nat} (ha : a < 2 ^ 31) (hb : b < 2 ^ 31) {off : Int} (tgt : Nat) (hdg : decode cc pc = .ok (.if_icmp .gt off, 3)) (ht : (pc : Int) + off = (tgt : Int)) (kt : b < a → bg_X X Γ o σ vs tgt st) (kf : a ≤ b → bg_X X Γ o σ vs (pc + 3) st) : bg_X X Γ o σ vs pc (.int (nI b) :: .int (nI a) :: st) :=
  bg_icmp_gt C pc tgt hdg ht (fun q => kt ((nI_ltI hb ha).mp q)) (fun q => kf (Nat.not_lt.mp fun z => q ((nI_ltI hb ha).mpr z)))
theorem bg_icmpN_le (C : bg_Cx X Γ o cc n fr lo rt post) (pc : Nat) {a b : Nat} (ha : a < 2 ^ 31) (hb : b < 2 ^ 31) {off : Int} (tgt : Nat) (hdg : decode cc pc = .ok (.if_icmp .le off, 3)) (ht : (pc : Int) + off = (tgt : Int)) (kt : a ≤ b → bg_X X Γ o σ vs tgt st) (kf : b < a → bg_X X Γ o σ vs (pc + 3) st) : bg_X X Γ o σ vs pc (.int (nI b) :: .int (nI a) :: st) :=
  bg_icmp_le C pc tgt hdg ht (fun q => kt ((nI_leI ha hb).mp q)) (fun q => kf (Nat.not_le.mp fun z => q ((nI_leI ha hb).mpr z)))
/-! rows that read and write the object's cells -/
theorem bg_getR (C : bg_Cx X Γ o cc n fr lo rt post) (pc : Nat) {idx : Nat} (k : Nat) (hk : k < bg_N Γ) (hn : bg_ln Γ k ≠ 0) (hw : Cond.fieldLink (bg_nm Γ) idx (bg_T Γ k).1 (bg_T Γ k).2.1 (bg_T Γ k).2.2.1 ∈ lw_all) (hdg : decode cc pc = .ok (.getfield idx, 3)) (kk : bg_X X Γ o σ vs (pc + 3) (.ref (bg_a o k) :: st)) : bg_X X Γ o σ vs pc (.ref (bg_h o) :: st) := by
  obtain ⟨p, l, e, R, s, m, args, below, meth, c, Q, nL⟩ := X
  obtain ⟨hx, hb, -, hown, hts, hK, hD, hΓ, -⟩ := C
  intro H locs ls hP hS hl
  obtain ⟨hc, hin, -⟩ := hΓ
  obtain ⟨cell, q1, q2, q3, q4⟩ := hP.1
  obtain ⟨hSl, hfc, kC, hkC, hkind⟩ := hK.1 Γ.1 _ hc
  obtain ⟨cf, kf, fi, f, hi, hsl⟩ := hSl k hk
  refine W.getf hx hb hown (hts _ hw) hi (u_facts hfc hkC (u_lays hts hin hk) hi).1 q1 (by rw [q3]; exact fun h => by cases h) (v := .ref (bg_a o k)) ?_ rfl rfl hdg (kk H locs ls hP hS hl)
  rw [hsl, q4 k hk, bg_V, if_neg hn]
theorem bg_getI (C : bg_Cx X Γ o cc n fr lo rt post) (pc : Nat) {idx : Nat} (k : Nat) (hk : k < bg_N Γ) (hn : bg_ln Γ k = 0) (hw : Cond.fieldLink (bg_nm Γ) idx (bg_T Γ k).1 (bg_T Γ k).2.1 (bg_T Γ k).2.2.1 ∈ lw_all) (hdg : decode cc pc = .ok (.getfield idx, 3)) (kk : bg_X X Γ o σ vs (pc + 3) (.int (σ k 0) :: st)) : bg_X X Γ o σ vs pc (.ref (bg_h o) :: st) := by
  obtain ⟨p, l, e, R, s, m, args, below, meth, c, Q, nL⟩ := X
  obtain ⟨hx, hb, -, hown, hts, hK, hD, hΓ, -⟩ := C
  intro H locs ls hP hS hl
  obtain ⟨hc, hin, -⟩ := hΓ
  obtain ⟨cell, q1, q2, q3, q4⟩ := hP.1
  obtain ⟨hSl, hfc, kC, hkC, hkind⟩ := hK.1 Γ.1 _ hc
  obtain ⟨cf, kf, fi, f, hi, hsl⟩ := hSl k hk
  refine W.getf hx hb hown (hts _ hw) hi (u_facts hfc hkC (u_lays hts hin hk) hi).1 q1 (by rw [q3]; exact fun h => by cases h) (v := .int (σ k 0)) ?_ rfl rfl hdg (kk H locs ls hP hS hl)
  rw [hsl, q4 k hk, bg_V, if_pos hn]
/-- an array's new contents, the rest kept -/
theorem bg_P_arr {H H1 : Heap} (hP : bg_P Γ o σ H) (hD : bg_D Γ o) {k : Nat} (hk : k < bg_N Γ) (hn : bg_ln Γ k ≠ 0) {f : Nat → Int32} (e : H1[bg_a o k]? = some (vp_cell (bg_cs Γ o k) (bg_ln Γ k, .inl f))) (oq : ∀ q : Nat, q ≠ bg_a o k → H1[q]? = H[q]?) : bg_P Γ o (bg_U σ k f) H1 := by
  refine ⟨(hP.1.kept (oq _ (Ne.symm (hD.1 k hk hn)))).to (fun j hj => ?_), fun j hj hjn => ?_⟩
  · unfold bg_V
    by_cases h : bg_ln Γ j = 0
    · have hjk : j ≠ k := fun q => hn (by rw [← q]; exact h)
      rw [if_pos h, if_pos h, bg_U_n σ f hjk]
    · rw [if_neg h, if_neg h]
  · by_cases h : j = k
    · subst h
      rw [bg_U_s]
      exact e
    · rw [bg_U_n σ f h, oq _ (fun q => h (hD.2 j k hj hk hjn hn q))]
      exact hP.2 j hj hjn
theorem bg_putI (C : bg_Cx X Γ o cc n fr lo rt post) (pc : Nat) {idx : Nat} (k : Nat) (hk : k < bg_N Γ) (hn : bg_ln Γ k = 0) (hw : Cond.fieldLink (bg_nm Γ) idx (bg_T Γ k).1 (bg_T Γ k).2.1 (bg_T Γ k).2.2.1 ∈ lw_all) (hdg : decode cc pc = .ok (.putfield idx, 3)) {v : Int32} (kk : bg_X X Γ o (bg_U σ k (fun _ => v)) vs (pc + 3) st) : bg_X X Γ o σ vs pc (.int v :: .ref (bg_h o) :: st) := by
  obtain ⟨p, l, e, R, s, m, args, below, meth, c, Q, nL⟩ := X
  obtain ⟨hx, hb, -, hown, hts, hK, hD, hΓ, -⟩ := C
  intro H locs ls hP hS hl
  obtain ⟨hc, hin, ⟨ty0, hty⟩, hnm, hint⟩ := hΓ
  have hap := va_apart (own := bg_nm Γ) hts hin ty0 hty hnm hK hc
  obtain ⟨cell, q1, q2, q3, q4⟩ := hP.1
  obtain ⟨hSl, hfc, kC, hkC, hkind⟩ := hK.1 Γ.1 _ hc
  obtain ⟨cf, kf, fi, f, hi, hsl⟩ := hSl k hk
  have hlay := hts _ (hin _ (u_in_lay hk))
  unfold u_lay at hlay
  rw [if_neg (by rw [(hint k hk hn).1]; decide)] at hlay
  have hst := (u_facts hfc hkC (u_lays hts hin hk) hi).1
  have h6 := u_store (v := .int v) hfc hkC hkind hlay hi (hint k hk hn).2 rfl rfl
  refine W.putK hx hb (f := f) ⟨hown, hts _ hw, ⟨_, _, _, hi⟩, hst⟩ (by rw [q2]; exact h6) q1 q3 (by rw [hsl]; exact k2_hasslot (q4 k hk)) rfl rfl hdg fun H' e1 e2 e3 => ?_
  rw [hsl] at e1 ⊢
  refine kk H' _ ls ⟨t_OB.to (V := updV (bg_V Γ o σ) k (.int v)) ⟨_, e1, q2, q3, t_set q4 hap hk (.int v)⟩ (fun j hj => ?_), fun j hj hjn => ?_⟩ (hS.put e2 e3 (Or.inl rfl)) hl
  · unfold updV bg_V
    by_cases h : j = k
    · subst h
      rw [if_pos rfl, if_pos hn, bg_U_s]
    · rw [if_neg h]
      by_cases h2 : bg_ln Γ j = 0
      · rw [if_pos h2, if_pos h2, bg_U_n σ _ h]
      · rw [if_neg h2, if_neg h2]
  · have h : j ≠ k := fun q => hjn (by rw [q]; exact hn)
    rw [bg_U_n σ _ h, e3 _ (hD.1 j hj hjn)]
    exact hP.2 j hj hjn
theorem bg_ald (C : bg_Cx X Γ o cc n fr lo rt post) (pc : Nat) (k : Nat) (hk : k < bg_N Γ) (hz : Γ.2.2.2.2.2 k = false) {N i : Nat} (hN : bg_ln Γ k = N) (hN2 : N < 2 ^ 31) (hi : i < N) (hdg : decode cc pc = .ok (.iaload, 1)) (kk : bg_X X Γ o σ vs (pc + 1) (.int (σ k i) :: st)) : bg_X X Γ o σ vs pc (.int (nI i) :: .ref (bg_a o k) :: st) := by
  obtain ⟨p, l, e, R, s, m, args, below, meth, c, Q, nL⟩ := X
  obtain ⟨hx, hb, -, hown, hts, hK, -⟩ := C
  intro H locs ls hP hS hl
  have ha := hP.2 k hk (by rw [hN]; omega)
  rw [hN, bg_cs, hz] at ha
  have hp := bg_P1 (D := o.1) (cl := vwCl) (q := (bg_a o k, .inl (o.2.2.2.1, N, .inl (σ k)))) ha
  refine va_iald hx hb hK hp 0 0 rfl rfl (vp_in_nI hi hN2) hdg ?_
  rw [nI_clamp (by omega)]
  exact kk H locs ls hP hS hl
theorem bg_zld (C : bg_Cx X Γ o cc n fr lo rt post) (pc : Nat) (k : Nat) (hk : k < bg_N Γ) (hz : Γ.2.2.2.2.2 k = true) {N i : Nat} (hN : bg_ln Γ k = N) (hN2 : N < 2 ^ 31) (hi : i < N) (hdg : decode cc pc = .ok (.baload, 1)) (kk : bg_X X Γ o σ vs (pc + 1) (.int (σ k i) :: st)) : bg_X X Γ o σ vs pc (.int (nI i) :: .ref (bg_a o k) :: st) := by
  obtain ⟨p, l, e, R, s, m, args, below, meth, c, Q, nL⟩ := X
  obtain ⟨hx, hb, -, hown, hts, hK, -⟩ := C
  intro H locs ls hP hS hl
  have ha := hP.2 k hk (by rw [hN]; omega)
  rw [hN, bg_cs, hz] at ha
  have hp := bg_P1 (D := o.1) (cl := vwCl) (q := (bg_a o k, .inl (o.2.2.2.2, N, .inl (σ k)))) ha
  refine va_zald hx hb hK hp 0 1 rfl rfl (vp_in_nI hi hN2) hdg ?_
  rw [nI_clamp (by omega)]
  exact kk H locs ls hP hS hl
theorem bg_ast (C : bg_Cx X Γ o cc n fr lo rt post) (pc : Nat) (k : Nat) (hk : k < bg_N Γ) (hz : Γ.2.2.2.2.2 k = false) {N i : Nat} (hN : bg_ln Γ k = N) (hN2 : N < 2 ^ 31) (hi : i < N) (hdg : decode cc pc = .ok (.iastore, 1)) {x : Int32} (kk : bg_X X Γ o (bg_U σ k (upd (σ k) i x)) vs (pc + 1) st) : bg_X X Γ o σ vs pc (.int x :: .int (nI i) :: .ref (bg_a o k) :: st) := by
  obtain ⟨p, l, e, R, s, m, args, below, meth, c, Q, nL⟩ := X
  obtain ⟨hx, hb, -, hown, hts, hK, hD, -⟩ := C
  intro H locs ls hP hS hl
  have hn0 : bg_ln Γ k ≠ 0 := by rw [hN]; omega
  have ha := hP.2 k hk hn0
  have hcs : bg_cs Γ o k = o.2.2.2.1 := by rw [bg_cs, hz]; rfl
  have ha' := ha
  rw [hN, hcs] at ha'
  have hic : (nI i).toNatClampNeg = i := nI_clamp (by omega)
  refine W.iast hx hb ha' ((hK.2 0 _ rfl).1 N (fun j => .int (σ k j))) (fun q => by cases q) (by show ¬ (nI i < 0 ∨ (arrV _ _ _).slots.size ≤ _); rw [arrV_size]; exact vp_in_nI hi hN2) rfl rfl hdg fun H1 e1 z oq => ?_
  refine kk H1 _ ls (bg_P_arr hP hD hk hn0 ?_ oq) (hS.put z oq (Or.inr (Or.inl ⟨k, hk, hn0, rfl⟩))) hl
  rw [e1, hN, hcs, vp_cell_i, vp_cell_i, arrV_store, hic]
  congr 2
  funext q
  by_cases hq : q = i
  · subst hq
    simp [updV, upd]
  · simp [updV, upd, hq]
theorem bg_zst (C : bg_Cx X Γ o cc n fr lo rt post) (pc : Nat) (k : Nat) (hk : k < bg_N Γ) (hz : Γ.2.2.2.2.2 k = true) {N i : Nat} (hN : bg_ln Γ k = N) (hN2 : N < 2 ^ 31) (hi : i < N) (hdg : decode cc pc = .ok (.bastore, 1)) {x : Int32} (hxn : narrow .boolean (.int x) = .int x) (kk : bg_X X Γ o (bg_U σ k (upd (σ k) i x)) vs (pc + 1) st) : bg_X X Γ o σ vs pc (.int x :: .int (nI i) :: .ref (bg_a o k) :: st) := by
  obtain ⟨p, l, e, R, s, m, args, below, meth, c, Q, nL⟩ := X
  obtain ⟨hx, hb, -, hown, hts, hK, hD, -⟩ := C
  intro H locs ls hP hS hl
  have hn0 : bg_ln Γ k ≠ 0 := by rw [hN]; omega
  have ha := hP.2 k hk hn0
  have hcs : bg_cs Γ o k = o.2.2.2.2 := by rw [bg_cs, hz]; rfl
  have ha' := ha
  rw [hN, hcs] at ha'
  have hic : (nI i).toNatClampNeg = i := nI_clamp (by omega)
  refine W.zast hx hb ha' ((hK.2 1 _ rfl).1 N (fun j => .int (σ k j))) (fun q => by cases q) (by show ¬ (nI i < 0 ∨ (arrV _ _ _).slots.size ≤ _); rw [arrV_size]; exact vp_in_nI hi hN2) rfl rfl hdg fun H1 e1 z oq => ?_
  refine kk H1 _ ls (bg_P_arr hP hD hk hn0 ?_ oq) (hS.put z oq (Or.inr (Or.inl ⟨k, hk, hn0, rfl⟩))) hl
  rw [e1, hN, hcs, vp_cell_i, vp_cell_i, arrV_store, hic, hxn]
  congr 2
  funext q
  by_cases hq : q = i
  · subst hq
    simp [updV, upd]
  · simp [updV, upd, hq]
/-! ends -/
theorem bg_ret {ty : FieldType} (C : bg_Cx X Γ o cc n fr lo (some ty) post) (pc : Nat) {v : Int32} (hv : narrow ty (.int v) = .int v) (hdg : decode cc pc = .ok (.ireturn, 1)) (hp : post v σ) : bg_X X Γ o σ vs pc [.int v] := by
  obtain ⟨p, l, e, R, s, m, args, below, meth, c, Q, nL⟩ := X
  obtain ⟨hx, hb, -, hown, hts, hK, hD, -, -, hlk, hrt, rfl, -⟩ := C
  intro H locs ls hP hS hl
  exact W.zret (v := v) hx hb hrt hv (fun t ht hW => ⟨⟨v, σ, rfl, hp, by rw [ht]; exact hP, va_K.moved hW.alike hK⟩, hS.F ht⟩) hS.2.2 hdg hlk
theorem bg_vret (C : bg_Cx X Γ o cc n fr lo none post) (pc : Nat) (hdg : decode cc pc = .ok (.return_, 1)) (hp : post 0 σ) : bg_X X Γ o σ vs pc [] := by
  obtain ⟨p, l, e, R, s, m, args, below, meth, c, Q, nL⟩ := X
  obtain ⟨hx, hb, -, hown, hts, hK, hD, -, -, hlk, hrt, rfl, -⟩ := C
  intro H locs ls hP hS hl
  exact W.vret hx hb hrt (fun t ht hW => ⟨⟨0, σ, rfl, hp, by rw [ht]; exact hP, va_K.moved hW.alike hK⟩, hS.F ht⟩) hS.2.2 hdg hlk
theorem bg_recv {U : State} {H : Heap} (hΓ : bg_ok Γ) (hK : bg_K o U) (hP : bg_P Γ o σ H) : ∃ cell : Cell, H[bg_h o]? = some cell ∧ cell.vm.isStatics = false ∧ U.vm.findClass (bg_nm Γ) = some cell.cls := by
  obtain ⟨cell, q1, q2, q3, q4⟩ := hP.1
  exact ⟨cell, q1, by rw [q3]; rfl, by rw [q2]; exact (hK.1 Γ.1 _ hΓ.1).2.1⟩
theorem bg_A_le {sz sz' : Nat} (h : sz ≤ sz') (q : Nat) (hq : bg_A Γ o sz' q) : bg_A Γ o sz q := by
  rcases hq with h1 | h1 | h1
  · exact Or.inl h1
  · exact Or.inr (Or.inl h1)
  · exact Or.inr (Or.inr (Nat.le_trans h h1))
/-- a call of one of the object's own methods -/
theorem bg_run {y : MethodName} {cy : ByteArray} {ny fy ly ny' idx : Nat} {ry : Option FieldType} {as : List Int32} {py : Int32 → bg_S → Prop} (C : bg_Cx X Γ o cc n fr lo rt post) (pc : Nat) (hM : bg_M Γ y cy ny ry fy ly as σ py) (hR : fy + 1 ≤ fr ∧ 8 + (ny + 11) + ly ≤ lo)
    (hG : GoodIn lw_all (wsV (bg_nm Γ) idx (bg_nm Γ) y (ws_ y cy ny ry))) (hd : y.cls = bg_nm Γ ∧ y.cls ≠ "java/lang/invoke/MethodHandle" ∧ y.cls ≠ "java/lang/invoke/VarHandle" ∧ (parseMethodDescriptor y.desc).map (fun d => d.parameters.length) = some ny') (hn : as.length = ny')
    (hst : (st.map fun v => v.category).sum ≤ 8) (hdg : decode cc pc = .ok (.invokevirtual idx, 3)) (kk : ∀ (r : Int32) (σ' : bg_S), py r σ' → bg_X X Γ o σ' vs (pc + 3) ((bg_R ry r).toList ++ st)) : bg_X X Γ o σ vs pc ((as.map Value.int).reverse ++ .ref (bg_h o) :: st) := by
  obtain ⟨p, l, e, R, s, m, args, below, meth, c, Q, nL⟩ := X
  obtain ⟨hx, hb, hml, hown, hts, hK, hD, hΓ, hRR, -⟩ := C
  intro H locs ls hP hS hl
  subst hRR
  have hr : va_Run p l e ({ frames := fr, cells := 0, slots := 0, locals := lo }) s m args below meth c H locs 0 0 0 0 (F0 m pc ls ((as.map Value.int).reverse ++ .ref (bg_h o) :: st)) st (bg_Q Γ o ry py (bg_A Γ o H.size) (Value.ref (bg_h o) :: as.map Value.int).toArray) (bg_A Γ o H.size) :=
    va_runV (As := as.map Value.int) (rest := st) ⟨hx, hb, hml, hown, hts⟩ (hM l o H.size) (cwV ny' hts hG rfl rfl rfl hd hR)
      ⟨fun a U g mk q => by
        obtain ⟨q0, q1, qP, qK, qD⟩ := q
        exact ⟨q0, q1, qP, va_K.moved (u := U) (U := U.calling g mk a) (Vm.Alike.refl U.vm) qK, qD⟩, bg_recv hΓ hK hP, fun U hU hW => ⟨rfl, by rw [hU], by rw [hU]; exact hP, va_K.moved hW.alike hK, hD⟩⟩
      rfl (by rw [List.length_map]; exact hn) hl.1 rfl (lv_room hst) hdg ⟨Nat.le_refl 0, Nat.le_refl 0⟩
  intro T hT XS
  obtain ⟨v, st₀, t, T', L, h0, X', hL, e1, e2, ⟨⟨r, σ', hv, hp, hP', hK'⟩, hz, hk⟩, stp⟩ := hr T hT XS
  cases hv
  rw [h0] at hz hk
  obtain ⟨t2, a1, b1⟩ := kk r σ' hp T'.heap (locs ++ L) ls (by rw [e1]; exact hP')
    ⟨Nat.le_trans hS.1 (by rw [e1]; exact hz), fun q h1 h2 => by rw [e1, hk q (Nat.lt_of_lt_of_le h1 hS.1) (fun z => h2 (bg_A_le hS.1 q z))]; exact hS.2.1 q h1 h2, fun q hq => by
      rcases List.mem_append.mp hq with h | h
      · exact hS.2.2 q h
      · exact bg_A_le hS.1 _ (hL q h)⟩ hl T' rfl X'
  exact ⟨t2, stp t2 a1, b1⟩
/-- a contract with a weaker end -/
theorem bg_M.weaken {y : MethodName} {nL : Nat} {as : List Int32} {post' : Int32 → bg_S → Prop} (h : bg_M Γ y cc nL rt fr lo as σ post) (hp : ∀ r σ', post r σ' → post' r σ') : bg_M Γ y cc nL rt fr lo as σ post' := by
  intro l o sz
  have h1 := h l o sz
  unfold Met at h1 ⊢
  intro p e ha hc hk s m args below hf happ hP hQ
  obtain ⟨k, oo, g1, g2, g3, ⟨⟨r, σ', a1, a2, a3⟩, a4⟩, a5⟩ := h1 p e ha hc hk s m args below hf happ hP hQ
  exact ⟨k, oo, g1, g2, g3, ⟨⟨r, σ', a1, hp r σ' a2, a3⟩, a4⟩, a5⟩
theorem bg_UU (σ : bg_S) (k : Nat) (f g : Nat → Int32) : bg_U (bg_U σ k f) k g = bg_U σ k g := by
  funext j
  by_cases h : j = k
  · subst h
    rw [bg_U_s, bg_U_s]
  · rw [bg_U_n _ _ h, bg_U_n _ _ h, bg_U_n _ _ h]
theorem bg_Uid (σ : bg_S) (k : Nat) : bg_U σ k (σ k) = σ := by
  funext j
  by_cases h : j = k
  · subst h
    rw [bg_U_s]
  · rw [bg_U_n _ _ h]
/-- a slot written twice -/
theorem bg_uu {pc k : Nat} {f g : Nat → Int32} (kk : bg_X X Γ o (bg_U σ k g) vs pc st) : bg_X X Γ o (bg_U (bg_U σ k f) k g) vs pc st := by rw [bg_UU]; exact kk
/-- a slot as it is -/
theorem bg_uid {pc : Nat} (k : Nat) (kk : bg_X X Γ o (bg_U σ k (σ k)) vs pc st) : bg_X X Γ o σ vs pc st := by rw [bg_Uid] at kk; exact kk
end BG
end
section
/-! the two classes: descriptors; a row for each field and access (x: BuildGraph, m: BuildGraphModel), a row for each call of an own method; by gen/fields.py -/
set_option maxRecDepth 100000
def lnkX : Nat → Nat := fun k => match k with
  | 0 => 8
  | 1 => 8
  | 4 => 12
  | 5 => 12
  | 6 => 12
  | 7 => 36
  | 8 => 12
  | 9 => 12
  | 10 => 12
  | 11 => 12
  | 12 => 36
  | 13 => 12
  | 14 => 12
  | 15 => 12
  | 18 => 12
  | 19 => 480
  | 20 => 480
  | 21 => 480
  | 22 => 480
  | 23 => 1440
  | 24 => 3
  | 25 => 12
  | 26 => 12
  | _ => 0
def bzkX : Nat → Bool := fun k => match k with
  | 9 => true
  | _ => false
def kX : bg_C := (0, RX0, TX0, 28, lnkX, bzkX)
theorem okkX : bg_ok kX := by
  refine ⟨rfl, in_X0, ⟨tyX0, tyX0_ok⟩, nmX0, ?_⟩
  show ∀ k, k < 28 → lnkX k = 0 → (TX0 k).2.2.2 = false ∧ parseFieldDescriptor (TX0 k).2.2.1 = some .int
  decide +kernel
def lnkM : Nat → Nat := fun k => match k with
  | 0 => 8
  | 2 => 12
  | 3 => 12
  | 4 => 12
  | 5 => 36
  | 6 => 12
  | 7 => 12
  | 8 => 12
  | 9 => 60
  | 10 => 12
  | 11 => 2400
  | 14 => 12
  | _ => 0
def bzkM : Nat → Bool := fun k => match k with
  | 8 => true
  | _ => false
def kM : bg_C := (1, RX1, TX1, 15, lnkM, bzkM)
theorem okkM : bg_ok kM := by
  refine ⟨rfl, in_X1, ⟨tyX1, tyX1_ok⟩, nmX1, ?_⟩
  show ∀ k, k < 15 → lnkM k = 0 → (TX1 k).2.2.2 = false ∧ parseFieldDescriptor (TX1 k).2.2.1 = some .int
  decide +kernel
section Fx
variable {X : bg_E} {o : bg_O} {σ : bg_S} {vs : List Int32} {n fr lo : Nat} {st : List Value} {cc : ByteArray} {rt : Option FieldType} {post : Int32 → bg_S → Prop}
theorem xg0 (C : bg_Cx X kX o cc n fr lo rt post) (pc : Nat) (hdg : decode cc pc = .ok (.getfield 7, 3)) (kk : bg_X X kX o σ vs (pc + 3) (.ref (bg_a o 0) :: st)) : bg_X X kX o σ vs pc (.ref (bg_h o) :: st) := bg_getR C pc 0 (by decide) (by decide) q35 hdg kk
theorem xl0 (C : bg_Cx X kX o cc n fr lo rt post) (pc : Nat) {i : Nat} (hi : i < 8) (hdg : decode cc pc = .ok (.iaload, 1)) (kk : bg_X X kX o σ vs (pc + 1) (.int (σ 0 i) :: st)) : bg_X X kX o σ vs pc (.int (nI i) :: .ref (bg_a o 0) :: st) := bg_ald C pc 0 (by decide) rfl rfl (by decide) hi hdg kk
theorem xs0 (C : bg_Cx X kX o cc n fr lo rt post) (pc : Nat) {i : Nat} (hi : i < 8) (hdg : decode cc pc = .ok (.iastore, 1)) {x : Int32} (kk : bg_X X kX o (bg_U σ 0 (upd (σ 0) i x)) vs (pc + 1) st) : bg_X X kX o σ vs pc (.int x :: .int (nI i) :: .ref (bg_a o 0) :: st) := bg_ast C pc 0 (by decide) rfl rfl (by decide) hi hdg kk
theorem xg1 (C : bg_Cx X kX o cc n fr lo rt post) (pc : Nat) (hdg : decode cc pc = .ok (.getfield 13, 3)) (kk : bg_X X kX o σ vs (pc + 3) (.ref (bg_a o 1) :: st)) : bg_X X kX o σ vs pc (.ref (bg_h o) :: st) := bg_getR C pc 1 (by decide) (by decide) q36 hdg kk
theorem xl1 (C : bg_Cx X kX o cc n fr lo rt post) (pc : Nat) {i : Nat} (hi : i < 8) (hdg : decode cc pc = .ok (.iaload, 1)) (kk : bg_X X kX o σ vs (pc + 1) (.int (σ 1 i) :: st)) : bg_X X kX o σ vs pc (.int (nI i) :: .ref (bg_a o 1) :: st) := bg_ald C pc 1 (by decide) rfl rfl (by decide) hi hdg kk
theorem xs1 (C : bg_Cx X kX o cc n fr lo rt post) (pc : Nat) {i : Nat} (hi : i < 8) (hdg : decode cc pc = .ok (.iastore, 1)) {x : Int32} (kk : bg_X X kX o (bg_U σ 1 (upd (σ 1) i x)) vs (pc + 1) st) : bg_X X kX o σ vs pc (.int x :: .int (nI i) :: .ref (bg_a o 1) :: st) := bg_ast C pc 1 (by decide) rfl rfl (by decide) hi hdg kk
theorem xg2 (C : bg_Cx X kX o cc n fr lo rt post) (pc : Nat) (hdg : decode cc pc = .ok (.getfield 84, 3)) (kk : bg_X X kX o σ vs (pc + 3) (.int (σ 2 0) :: st)) : bg_X X kX o σ vs pc (.ref (bg_h o) :: st) := bg_getI C pc 2 (by decide) rfl q37 hdg kk
theorem xp2 (C : bg_Cx X kX o cc n fr lo rt post) (pc : Nat) (hdg : decode cc pc = .ok (.putfield 84, 3)) {v : Int32} (kk : bg_X X kX o (bg_U σ 2 (fun _ => v)) vs (pc + 3) st) : bg_X X kX o σ vs pc (.int v :: .ref (bg_h o) :: st) := bg_putI C pc 2 (by decide) rfl q37 hdg kk
theorem xg3 (C : bg_Cx X kX o cc n fr lo rt post) (pc : Nat) (hdg : decode cc pc = .ok (.getfield 80, 3)) (kk : bg_X X kX o σ vs (pc + 3) (.int (σ 3 0) :: st)) : bg_X X kX o σ vs pc (.ref (bg_h o) :: st) := bg_getI C pc 3 (by decide) rfl q38 hdg kk
theorem xp3 (C : bg_Cx X kX o cc n fr lo rt post) (pc : Nat) (hdg : decode cc pc = .ok (.putfield 80, 3)) {v : Int32} (kk : bg_X X kX o (bg_U σ 3 (fun _ => v)) vs (pc + 3) st) : bg_X X kX o σ vs pc (.int v :: .ref (bg_h o) :: st) := bg_putI C pc 3 (by decide) rfl q38 hdg kk
theorem xg4 (C : bg_Cx X kX o cc n fr lo rt post) (pc : Nat) (hdg : decode cc pc = .ok (.getfield 16, 3)) (kk : bg_X X kX o σ vs (pc + 3) (.ref (bg_a o 4) :: st)) : bg_X X kX o σ vs pc (.ref (bg_h o) :: st) := bg_getR C pc 4 (by decide) (by decide) q39 hdg kk
theorem xl4 (C : bg_Cx X kX o cc n fr lo rt post) (pc : Nat) {i : Nat} (hi : i < 12) (hdg : decode cc pc = .ok (.iaload, 1)) (kk : bg_X X kX o σ vs (pc + 1) (.int (σ 4 i) :: st)) : bg_X X kX o σ vs pc (.int (nI i) :: .ref (bg_a o 4) :: st) := bg_ald C pc 4 (by decide) rfl rfl (by decide) hi hdg kk
theorem xs4 (C : bg_Cx X kX o cc n fr lo rt post) (pc : Nat) {i : Nat} (hi : i < 12) (hdg : decode cc pc = .ok (.iastore, 1)) {x : Int32} (kk : bg_X X kX o (bg_U σ 4 (upd (σ 4) i x)) vs (pc + 1) st) : bg_X X kX o σ vs pc (.int x :: .int (nI i) :: .ref (bg_a o 4) :: st) := bg_ast C pc 4 (by decide) rfl rfl (by decide) hi hdg kk
theorem xg5 (C : bg_Cx X kX o cc n fr lo rt post) (pc : Nat) (hdg : decode cc pc = .ok (.getfield 19, 3)) (kk : bg_X X kX o σ vs (pc + 3) (.ref (bg_a o 5) :: st)) : bg_X X kX o σ vs pc (.ref (bg_h o) :: st) := bg_getR C pc 5 (by decide) (by decide) q40 hdg kk
theorem xl5 (C : bg_Cx X kX o cc n fr lo rt post) (pc : Nat) {i : Nat} (hi : i < 12) (hdg : decode cc pc = .ok (.iaload, 1)) (kk : bg_X X kX o σ vs (pc + 1) (.int (σ 5 i) :: st)) : bg_X X kX o σ vs pc (.int (nI i) :: .ref (bg_a o 5) :: st) := bg_ald C pc 5 (by decide) rfl rfl (by decide) hi hdg kk
theorem xs5 (C : bg_Cx X kX o cc n fr lo rt post) (pc : Nat) {i : Nat} (hi : i < 12) (hdg : decode cc pc = .ok (.iastore, 1)) {x : Int32} (kk : bg_X X kX o (bg_U σ 5 (upd (σ 5) i x)) vs (pc + 1) st) : bg_X X kX o σ vs pc (.int x :: .int (nI i) :: .ref (bg_a o 5) :: st) := bg_ast C pc 5 (by decide) rfl rfl (by decide) hi hdg kk
theorem xg6 (C : bg_Cx X kX o cc n fr lo rt post) (pc : Nat) (hdg : decode cc pc = .ok (.getfield 22, 3)) (kk : bg_X X kX o σ vs (pc + 3) (.ref (bg_a o 6) :: st)) : bg_X X kX o σ vs pc (.ref (bg_h o) :: st) := bg_getR C pc 6 (by decide) (by decide) q41 hdg kk
theorem xl6 (C : bg_Cx X kX o cc n fr lo rt post) (pc : Nat) {i : Nat} (hi : i < 12) (hdg : decode cc pc = .ok (.iaload, 1)) (kk : bg_X X kX o σ vs (pc + 1) (.int (σ 6 i) :: st)) : bg_X X kX o σ vs pc (.int (nI i) :: .ref (bg_a o 6) :: st) := bg_ald C pc 6 (by decide) rfl rfl (by decide) hi hdg kk
theorem xs6 (C : bg_Cx X kX o cc n fr lo rt post) (pc : Nat) {i : Nat} (hi : i < 12) (hdg : decode cc pc = .ok (.iastore, 1)) {x : Int32} (kk : bg_X X kX o (bg_U σ 6 (upd (σ 6) i x)) vs (pc + 1) st) : bg_X X kX o σ vs pc (.int x :: .int (nI i) :: .ref (bg_a o 6) :: st) := bg_ast C pc 6 (by decide) rfl rfl (by decide) hi hdg kk
theorem xg7 (C : bg_Cx X kX o cc n fr lo rt post) (pc : Nat) (hdg : decode cc pc = .ok (.getfield 25, 3)) (kk : bg_X X kX o σ vs (pc + 3) (.ref (bg_a o 7) :: st)) : bg_X X kX o σ vs pc (.ref (bg_h o) :: st) := bg_getR C pc 7 (by decide) (by decide) q42 hdg kk
theorem xl7 (C : bg_Cx X kX o cc n fr lo rt post) (pc : Nat) {i : Nat} (hi : i < 36) (hdg : decode cc pc = .ok (.iaload, 1)) (kk : bg_X X kX o σ vs (pc + 1) (.int (σ 7 i) :: st)) : bg_X X kX o σ vs pc (.int (nI i) :: .ref (bg_a o 7) :: st) := bg_ald C pc 7 (by decide) rfl rfl (by decide) hi hdg kk
theorem xs7 (C : bg_Cx X kX o cc n fr lo rt post) (pc : Nat) {i : Nat} (hi : i < 36) (hdg : decode cc pc = .ok (.iastore, 1)) {x : Int32} (kk : bg_X X kX o (bg_U σ 7 (upd (σ 7) i x)) vs (pc + 1) st) : bg_X X kX o σ vs pc (.int x :: .int (nI i) :: .ref (bg_a o 7) :: st) := bg_ast C pc 7 (by decide) rfl rfl (by decide) hi hdg kk
theorem xg8 (C : bg_Cx X kX o cc n fr lo rt post) (pc : Nat) (hdg : decode cc pc = .ok (.getfield 28, 3)) (kk : bg_X X kX o σ vs (pc + 3) (.ref (bg_a o 8) :: st)) : bg_X X kX o σ vs pc (.ref (bg_h o) :: st) := bg_getR C pc 8 (by decide) (by decide) q43 hdg kk
theorem xl8 (C : bg_Cx X kX o cc n fr lo rt post) (pc : Nat) {i : Nat} (hi : i < 12) (hdg : decode cc pc = .ok (.iaload, 1)) (kk : bg_X X kX o σ vs (pc + 1) (.int (σ 8 i) :: st)) : bg_X X kX o σ vs pc (.int (nI i) :: .ref (bg_a o 8) :: st) := bg_ald C pc 8 (by decide) rfl rfl (by decide) hi hdg kk
theorem xs8 (C : bg_Cx X kX o cc n fr lo rt post) (pc : Nat) {i : Nat} (hi : i < 12) (hdg : decode cc pc = .ok (.iastore, 1)) {x : Int32} (kk : bg_X X kX o (bg_U σ 8 (upd (σ 8) i x)) vs (pc + 1) st) : bg_X X kX o σ vs pc (.int x :: .int (nI i) :: .ref (bg_a o 8) :: st) := bg_ast C pc 8 (by decide) rfl rfl (by decide) hi hdg kk
theorem xg9 (C : bg_Cx X kX o cc n fr lo rt post) (pc : Nat) (hdg : decode cc pc = .ok (.getfield 31, 3)) (kk : bg_X X kX o σ vs (pc + 3) (.ref (bg_a o 9) :: st)) : bg_X X kX o σ vs pc (.ref (bg_h o) :: st) := bg_getR C pc 9 (by decide) (by decide) q44 hdg kk
theorem xl9 (C : bg_Cx X kX o cc n fr lo rt post) (pc : Nat) {i : Nat} (hi : i < 12) (hdg : decode cc pc = .ok (.baload, 1)) (kk : bg_X X kX o σ vs (pc + 1) (.int (σ 9 i) :: st)) : bg_X X kX o σ vs pc (.int (nI i) :: .ref (bg_a o 9) :: st) := bg_zld C pc 9 (by decide) rfl rfl (by decide) hi hdg kk
theorem xs9 (C : bg_Cx X kX o cc n fr lo rt post) (pc : Nat) {i : Nat} (hi : i < 12) (hdg : decode cc pc = .ok (.bastore, 1)) {x : Int32} (hx : narrow .boolean (.int x) = .int x) (kk : bg_X X kX o (bg_U σ 9 (upd (σ 9) i x)) vs (pc + 1) st) : bg_X X kX o σ vs pc (.int x :: .int (nI i) :: .ref (bg_a o 9) :: st) := bg_zst C pc 9 (by decide) rfl rfl (by decide) hi hdg hx kk
theorem xg10 (C : bg_Cx X kX o cc n fr lo rt post) (pc : Nat) (hdg : decode cc pc = .ok (.getfield 35, 3)) (kk : bg_X X kX o σ vs (pc + 3) (.ref (bg_a o 10) :: st)) : bg_X X kX o σ vs pc (.ref (bg_h o) :: st) := bg_getR C pc 10 (by decide) (by decide) q45 hdg kk
theorem xl10 (C : bg_Cx X kX o cc n fr lo rt post) (pc : Nat) {i : Nat} (hi : i < 12) (hdg : decode cc pc = .ok (.iaload, 1)) (kk : bg_X X kX o σ vs (pc + 1) (.int (σ 10 i) :: st)) : bg_X X kX o σ vs pc (.int (nI i) :: .ref (bg_a o 10) :: st) := bg_ald C pc 10 (by decide) rfl rfl (by decide) hi hdg kk
theorem xs10 (C : bg_Cx X kX o cc n fr lo rt post) (pc : Nat) {i : Nat} (hi : i < 12) (hdg : decode cc pc = .ok (.iastore, 1)) {x : Int32} (kk : bg_X X kX o (bg_U σ 10 (upd (σ 10) i x)) vs (pc + 1) st) : bg_X X kX o σ vs pc (.int x :: .int (nI i) :: .ref (bg_a o 10) :: st) := bg_ast C pc 10 (by decide) rfl rfl (by decide) hi hdg kk
theorem xg11 (C : bg_Cx X kX o cc n fr lo rt post) (pc : Nat) (hdg : decode cc pc = .ok (.getfield 38, 3)) (kk : bg_X X kX o σ vs (pc + 3) (.ref (bg_a o 11) :: st)) : bg_X X kX o σ vs pc (.ref (bg_h o) :: st) := bg_getR C pc 11 (by decide) (by decide) q46 hdg kk
theorem xl11 (C : bg_Cx X kX o cc n fr lo rt post) (pc : Nat) {i : Nat} (hi : i < 12) (hdg : decode cc pc = .ok (.iaload, 1)) (kk : bg_X X kX o σ vs (pc + 1) (.int (σ 11 i) :: st)) : bg_X X kX o σ vs pc (.int (nI i) :: .ref (bg_a o 11) :: st) := bg_ald C pc 11 (by decide) rfl rfl (by decide) hi hdg kk
theorem xs11 (C : bg_Cx X kX o cc n fr lo rt post) (pc : Nat) {i : Nat} (hi : i < 12) (hdg : decode cc pc = .ok (.iastore, 1)) {x : Int32} (kk : bg_X X kX o (bg_U σ 11 (upd (σ 11) i x)) vs (pc + 1) st) : bg_X X kX o σ vs pc (.int x :: .int (nI i) :: .ref (bg_a o 11) :: st) := bg_ast C pc 11 (by decide) rfl rfl (by decide) hi hdg kk
theorem xg12 (C : bg_Cx X kX o cc n fr lo rt post) (pc : Nat) (hdg : decode cc pc = .ok (.getfield 41, 3)) (kk : bg_X X kX o σ vs (pc + 3) (.ref (bg_a o 12) :: st)) : bg_X X kX o σ vs pc (.ref (bg_h o) :: st) := bg_getR C pc 12 (by decide) (by decide) q47 hdg kk
theorem xl12 (C : bg_Cx X kX o cc n fr lo rt post) (pc : Nat) {i : Nat} (hi : i < 36) (hdg : decode cc pc = .ok (.iaload, 1)) (kk : bg_X X kX o σ vs (pc + 1) (.int (σ 12 i) :: st)) : bg_X X kX o σ vs pc (.int (nI i) :: .ref (bg_a o 12) :: st) := bg_ald C pc 12 (by decide) rfl rfl (by decide) hi hdg kk
theorem xs12 (C : bg_Cx X kX o cc n fr lo rt post) (pc : Nat) {i : Nat} (hi : i < 36) (hdg : decode cc pc = .ok (.iastore, 1)) {x : Int32} (kk : bg_X X kX o (bg_U σ 12 (upd (σ 12) i x)) vs (pc + 1) st) : bg_X X kX o σ vs pc (.int x :: .int (nI i) :: .ref (bg_a o 12) :: st) := bg_ast C pc 12 (by decide) rfl rfl (by decide) hi hdg kk
theorem xg13 (C : bg_Cx X kX o cc n fr lo rt post) (pc : Nat) (hdg : decode cc pc = .ok (.getfield 44, 3)) (kk : bg_X X kX o σ vs (pc + 3) (.ref (bg_a o 13) :: st)) : bg_X X kX o σ vs pc (.ref (bg_h o) :: st) := bg_getR C pc 13 (by decide) (by decide) q48 hdg kk
theorem xl13 (C : bg_Cx X kX o cc n fr lo rt post) (pc : Nat) {i : Nat} (hi : i < 12) (hdg : decode cc pc = .ok (.iaload, 1)) (kk : bg_X X kX o σ vs (pc + 1) (.int (σ 13 i) :: st)) : bg_X X kX o σ vs pc (.int (nI i) :: .ref (bg_a o 13) :: st) := bg_ald C pc 13 (by decide) rfl rfl (by decide) hi hdg kk
theorem xs13 (C : bg_Cx X kX o cc n fr lo rt post) (pc : Nat) {i : Nat} (hi : i < 12) (hdg : decode cc pc = .ok (.iastore, 1)) {x : Int32} (kk : bg_X X kX o (bg_U σ 13 (upd (σ 13) i x)) vs (pc + 1) st) : bg_X X kX o σ vs pc (.int x :: .int (nI i) :: .ref (bg_a o 13) :: st) := bg_ast C pc 13 (by decide) rfl rfl (by decide) hi hdg kk
theorem xg14 (C : bg_Cx X kX o cc n fr lo rt post) (pc : Nat) (hdg : decode cc pc = .ok (.getfield 47, 3)) (kk : bg_X X kX o σ vs (pc + 3) (.ref (bg_a o 14) :: st)) : bg_X X kX o σ vs pc (.ref (bg_h o) :: st) := bg_getR C pc 14 (by decide) (by decide) q49 hdg kk
theorem xl14 (C : bg_Cx X kX o cc n fr lo rt post) (pc : Nat) {i : Nat} (hi : i < 12) (hdg : decode cc pc = .ok (.iaload, 1)) (kk : bg_X X kX o σ vs (pc + 1) (.int (σ 14 i) :: st)) : bg_X X kX o σ vs pc (.int (nI i) :: .ref (bg_a o 14) :: st) := bg_ald C pc 14 (by decide) rfl rfl (by decide) hi hdg kk
theorem xs14 (C : bg_Cx X kX o cc n fr lo rt post) (pc : Nat) {i : Nat} (hi : i < 12) (hdg : decode cc pc = .ok (.iastore, 1)) {x : Int32} (kk : bg_X X kX o (bg_U σ 14 (upd (σ 14) i x)) vs (pc + 1) st) : bg_X X kX o σ vs pc (.int x :: .int (nI i) :: .ref (bg_a o 14) :: st) := bg_ast C pc 14 (by decide) rfl rfl (by decide) hi hdg kk
theorem xg15 (C : bg_Cx X kX o cc n fr lo rt post) (pc : Nat) (hdg : decode cc pc = .ok (.getfield 50, 3)) (kk : bg_X X kX o σ vs (pc + 3) (.ref (bg_a o 15) :: st)) : bg_X X kX o σ vs pc (.ref (bg_h o) :: st) := bg_getR C pc 15 (by decide) (by decide) q50 hdg kk
theorem xl15 (C : bg_Cx X kX o cc n fr lo rt post) (pc : Nat) {i : Nat} (hi : i < 12) (hdg : decode cc pc = .ok (.iaload, 1)) (kk : bg_X X kX o σ vs (pc + 1) (.int (σ 15 i) :: st)) : bg_X X kX o σ vs pc (.int (nI i) :: .ref (bg_a o 15) :: st) := bg_ald C pc 15 (by decide) rfl rfl (by decide) hi hdg kk
theorem xs15 (C : bg_Cx X kX o cc n fr lo rt post) (pc : Nat) {i : Nat} (hi : i < 12) (hdg : decode cc pc = .ok (.iastore, 1)) {x : Int32} (kk : bg_X X kX o (bg_U σ 15 (upd (σ 15) i x)) vs (pc + 1) st) : bg_X X kX o σ vs pc (.int x :: .int (nI i) :: .ref (bg_a o 15) :: st) := bg_ast C pc 15 (by decide) rfl rfl (by decide) hi hdg kk
theorem xg16 (C : bg_Cx X kX o cc n fr lo rt post) (pc : Nat) (hdg : decode cc pc = .ok (.getfield 128, 3)) (kk : bg_X X kX o σ vs (pc + 3) (.int (σ 16 0) :: st)) : bg_X X kX o σ vs pc (.ref (bg_h o) :: st) := bg_getI C pc 16 (by decide) rfl q51 hdg kk
theorem xp16 (C : bg_Cx X kX o cc n fr lo rt post) (pc : Nat) (hdg : decode cc pc = .ok (.putfield 128, 3)) {v : Int32} (kk : bg_X X kX o (bg_U σ 16 (fun _ => v)) vs (pc + 3) st) : bg_X X kX o σ vs pc (.int v :: .ref (bg_h o) :: st) := bg_putI C pc 16 (by decide) rfl q51 hdg kk
theorem xg17 (C : bg_Cx X kX o cc n fr lo rt post) (pc : Nat) (hdg : decode cc pc = .ok (.getfield 99, 3)) (kk : bg_X X kX o σ vs (pc + 3) (.int (σ 17 0) :: st)) : bg_X X kX o σ vs pc (.ref (bg_h o) :: st) := bg_getI C pc 17 (by decide) rfl q52 hdg kk
theorem xp17 (C : bg_Cx X kX o cc n fr lo rt post) (pc : Nat) (hdg : decode cc pc = .ok (.putfield 99, 3)) {v : Int32} (kk : bg_X X kX o (bg_U σ 17 (fun _ => v)) vs (pc + 3) st) : bg_X X kX o σ vs pc (.int v :: .ref (bg_h o) :: st) := bg_putI C pc 17 (by decide) rfl q52 hdg kk
theorem xg18 (C : bg_Cx X kX o cc n fr lo rt post) (pc : Nat) (hdg : decode cc pc = .ok (.getfield 53, 3)) (kk : bg_X X kX o σ vs (pc + 3) (.ref (bg_a o 18) :: st)) : bg_X X kX o σ vs pc (.ref (bg_h o) :: st) := bg_getR C pc 18 (by decide) (by decide) q53 hdg kk
theorem xl18 (C : bg_Cx X kX o cc n fr lo rt post) (pc : Nat) {i : Nat} (hi : i < 12) (hdg : decode cc pc = .ok (.iaload, 1)) (kk : bg_X X kX o σ vs (pc + 1) (.int (σ 18 i) :: st)) : bg_X X kX o σ vs pc (.int (nI i) :: .ref (bg_a o 18) :: st) := bg_ald C pc 18 (by decide) rfl rfl (by decide) hi hdg kk
theorem xs18 (C : bg_Cx X kX o cc n fr lo rt post) (pc : Nat) {i : Nat} (hi : i < 12) (hdg : decode cc pc = .ok (.iastore, 1)) {x : Int32} (kk : bg_X X kX o (bg_U σ 18 (upd (σ 18) i x)) vs (pc + 1) st) : bg_X X kX o σ vs pc (.int x :: .int (nI i) :: .ref (bg_a o 18) :: st) := bg_ast C pc 18 (by decide) rfl rfl (by decide) hi hdg kk
theorem xg19 (C : bg_Cx X kX o cc n fr lo rt post) (pc : Nat) (hdg : decode cc pc = .ok (.getfield 56, 3)) (kk : bg_X X kX o σ vs (pc + 3) (.ref (bg_a o 19) :: st)) : bg_X X kX o σ vs pc (.ref (bg_h o) :: st) := bg_getR C pc 19 (by decide) (by decide) q54 hdg kk
theorem xl19 (C : bg_Cx X kX o cc n fr lo rt post) (pc : Nat) {i : Nat} (hi : i < 480) (hdg : decode cc pc = .ok (.iaload, 1)) (kk : bg_X X kX o σ vs (pc + 1) (.int (σ 19 i) :: st)) : bg_X X kX o σ vs pc (.int (nI i) :: .ref (bg_a o 19) :: st) := bg_ald C pc 19 (by decide) rfl rfl (by decide) hi hdg kk
theorem xs19 (C : bg_Cx X kX o cc n fr lo rt post) (pc : Nat) {i : Nat} (hi : i < 480) (hdg : decode cc pc = .ok (.iastore, 1)) {x : Int32} (kk : bg_X X kX o (bg_U σ 19 (upd (σ 19) i x)) vs (pc + 1) st) : bg_X X kX o σ vs pc (.int x :: .int (nI i) :: .ref (bg_a o 19) :: st) := bg_ast C pc 19 (by decide) rfl rfl (by decide) hi hdg kk
theorem xg20 (C : bg_Cx X kX o cc n fr lo rt post) (pc : Nat) (hdg : decode cc pc = .ok (.getfield 59, 3)) (kk : bg_X X kX o σ vs (pc + 3) (.ref (bg_a o 20) :: st)) : bg_X X kX o σ vs pc (.ref (bg_h o) :: st) := bg_getR C pc 20 (by decide) (by decide) q55 hdg kk
theorem xl20 (C : bg_Cx X kX o cc n fr lo rt post) (pc : Nat) {i : Nat} (hi : i < 480) (hdg : decode cc pc = .ok (.iaload, 1)) (kk : bg_X X kX o σ vs (pc + 1) (.int (σ 20 i) :: st)) : bg_X X kX o σ vs pc (.int (nI i) :: .ref (bg_a o 20) :: st) := bg_ald C pc 20 (by decide) rfl rfl (by decide) hi hdg kk
theorem xs20 (C : bg_Cx X kX o cc n fr lo rt post) (pc : Nat) {i : Nat} (hi : i < 480) (hdg : decode cc pc = .ok (.iastore, 1)) {x : Int32} (kk : bg_X X kX o (bg_U σ 20 (upd (σ 20) i x)) vs (pc + 1) st) : bg_X X kX o σ vs pc (.int x :: .int (nI i) :: .ref (bg_a o 20) :: st) := bg_ast C pc 20 (by decide) rfl rfl (by decide) hi hdg kk
theorem xg21 (C : bg_Cx X kX o cc n fr lo rt post) (pc : Nat) (hdg : decode cc pc = .ok (.getfield 62, 3)) (kk : bg_X X kX o σ vs (pc + 3) (.ref (bg_a o 21) :: st)) : bg_X X kX o σ vs pc (.ref (bg_h o) :: st) := bg_getR C pc 21 (by decide) (by decide) q56 hdg kk
theorem xl21 (C : bg_Cx X kX o cc n fr lo rt post) (pc : Nat) {i : Nat} (hi : i < 480) (hdg : decode cc pc = .ok (.iaload, 1)) (kk : bg_X X kX o σ vs (pc + 1) (.int (σ 21 i) :: st)) : bg_X X kX o σ vs pc (.int (nI i) :: .ref (bg_a o 21) :: st) := bg_ald C pc 21 (by decide) rfl rfl (by decide) hi hdg kk
theorem xs21 (C : bg_Cx X kX o cc n fr lo rt post) (pc : Nat) {i : Nat} (hi : i < 480) (hdg : decode cc pc = .ok (.iastore, 1)) {x : Int32} (kk : bg_X X kX o (bg_U σ 21 (upd (σ 21) i x)) vs (pc + 1) st) : bg_X X kX o σ vs pc (.int x :: .int (nI i) :: .ref (bg_a o 21) :: st) := bg_ast C pc 21 (by decide) rfl rfl (by decide) hi hdg kk
theorem xg22 (C : bg_Cx X kX o cc n fr lo rt post) (pc : Nat) (hdg : decode cc pc = .ok (.getfield 65, 3)) (kk : bg_X X kX o σ vs (pc + 3) (.ref (bg_a o 22) :: st)) : bg_X X kX o σ vs pc (.ref (bg_h o) :: st) := bg_getR C pc 22 (by decide) (by decide) q57 hdg kk
theorem xl22 (C : bg_Cx X kX o cc n fr lo rt post) (pc : Nat) {i : Nat} (hi : i < 480) (hdg : decode cc pc = .ok (.iaload, 1)) (kk : bg_X X kX o σ vs (pc + 1) (.int (σ 22 i) :: st)) : bg_X X kX o σ vs pc (.int (nI i) :: .ref (bg_a o 22) :: st) := bg_ald C pc 22 (by decide) rfl rfl (by decide) hi hdg kk
theorem xs22 (C : bg_Cx X kX o cc n fr lo rt post) (pc : Nat) {i : Nat} (hi : i < 480) (hdg : decode cc pc = .ok (.iastore, 1)) {x : Int32} (kk : bg_X X kX o (bg_U σ 22 (upd (σ 22) i x)) vs (pc + 1) st) : bg_X X kX o σ vs pc (.int x :: .int (nI i) :: .ref (bg_a o 22) :: st) := bg_ast C pc 22 (by decide) rfl rfl (by decide) hi hdg kk
theorem xg23 (C : bg_Cx X kX o cc n fr lo rt post) (pc : Nat) (hdg : decode cc pc = .ok (.getfield 68, 3)) (kk : bg_X X kX o σ vs (pc + 3) (.ref (bg_a o 23) :: st)) : bg_X X kX o σ vs pc (.ref (bg_h o) :: st) := bg_getR C pc 23 (by decide) (by decide) q58 hdg kk
theorem xl23 (C : bg_Cx X kX o cc n fr lo rt post) (pc : Nat) {i : Nat} (hi : i < 1440) (hdg : decode cc pc = .ok (.iaload, 1)) (kk : bg_X X kX o σ vs (pc + 1) (.int (σ 23 i) :: st)) : bg_X X kX o σ vs pc (.int (nI i) :: .ref (bg_a o 23) :: st) := bg_ald C pc 23 (by decide) rfl rfl (by decide) hi hdg kk
theorem xs23 (C : bg_Cx X kX o cc n fr lo rt post) (pc : Nat) {i : Nat} (hi : i < 1440) (hdg : decode cc pc = .ok (.iastore, 1)) {x : Int32} (kk : bg_X X kX o (bg_U σ 23 (upd (σ 23) i x)) vs (pc + 1) st) : bg_X X kX o σ vs pc (.int x :: .int (nI i) :: .ref (bg_a o 23) :: st) := bg_ast C pc 23 (by decide) rfl rfl (by decide) hi hdg kk
theorem xg24 (C : bg_Cx X kX o cc n fr lo rt post) (pc : Nat) (hdg : decode cc pc = .ok (.getfield 71, 3)) (kk : bg_X X kX o σ vs (pc + 3) (.ref (bg_a o 24) :: st)) : bg_X X kX o σ vs pc (.ref (bg_h o) :: st) := bg_getR C pc 24 (by decide) (by decide) q59 hdg kk
theorem xl24 (C : bg_Cx X kX o cc n fr lo rt post) (pc : Nat) {i : Nat} (hi : i < 3) (hdg : decode cc pc = .ok (.iaload, 1)) (kk : bg_X X kX o σ vs (pc + 1) (.int (σ 24 i) :: st)) : bg_X X kX o σ vs pc (.int (nI i) :: .ref (bg_a o 24) :: st) := bg_ald C pc 24 (by decide) rfl rfl (by decide) hi hdg kk
theorem xs24 (C : bg_Cx X kX o cc n fr lo rt post) (pc : Nat) {i : Nat} (hi : i < 3) (hdg : decode cc pc = .ok (.iastore, 1)) {x : Int32} (kk : bg_X X kX o (bg_U σ 24 (upd (σ 24) i x)) vs (pc + 1) st) : bg_X X kX o σ vs pc (.int x :: .int (nI i) :: .ref (bg_a o 24) :: st) := bg_ast C pc 24 (by decide) rfl rfl (by decide) hi hdg kk
theorem xg25 (C : bg_Cx X kX o cc n fr lo rt post) (pc : Nat) (hdg : decode cc pc = .ok (.getfield 74, 3)) (kk : bg_X X kX o σ vs (pc + 3) (.ref (bg_a o 25) :: st)) : bg_X X kX o σ vs pc (.ref (bg_h o) :: st) := bg_getR C pc 25 (by decide) (by decide) q60 hdg kk
theorem xl25 (C : bg_Cx X kX o cc n fr lo rt post) (pc : Nat) {i : Nat} (hi : i < 12) (hdg : decode cc pc = .ok (.iaload, 1)) (kk : bg_X X kX o σ vs (pc + 1) (.int (σ 25 i) :: st)) : bg_X X kX o σ vs pc (.int (nI i) :: .ref (bg_a o 25) :: st) := bg_ald C pc 25 (by decide) rfl rfl (by decide) hi hdg kk
theorem xs25 (C : bg_Cx X kX o cc n fr lo rt post) (pc : Nat) {i : Nat} (hi : i < 12) (hdg : decode cc pc = .ok (.iastore, 1)) {x : Int32} (kk : bg_X X kX o (bg_U σ 25 (upd (σ 25) i x)) vs (pc + 1) st) : bg_X X kX o σ vs pc (.int x :: .int (nI i) :: .ref (bg_a o 25) :: st) := bg_ast C pc 25 (by decide) rfl rfl (by decide) hi hdg kk
theorem xg26 (C : bg_Cx X kX o cc n fr lo rt post) (pc : Nat) (hdg : decode cc pc = .ok (.getfield 77, 3)) (kk : bg_X X kX o σ vs (pc + 3) (.ref (bg_a o 26) :: st)) : bg_X X kX o σ vs pc (.ref (bg_h o) :: st) := bg_getR C pc 26 (by decide) (by decide) q61 hdg kk
theorem xl26 (C : bg_Cx X kX o cc n fr lo rt post) (pc : Nat) {i : Nat} (hi : i < 12) (hdg : decode cc pc = .ok (.iaload, 1)) (kk : bg_X X kX o σ vs (pc + 1) (.int (σ 26 i) :: st)) : bg_X X kX o σ vs pc (.int (nI i) :: .ref (bg_a o 26) :: st) := bg_ald C pc 26 (by decide) rfl rfl (by decide) hi hdg kk
theorem xs26 (C : bg_Cx X kX o cc n fr lo rt post) (pc : Nat) {i : Nat} (hi : i < 12) (hdg : decode cc pc = .ok (.iastore, 1)) {x : Int32} (kk : bg_X X kX o (bg_U σ 26 (upd (σ 26) i x)) vs (pc + 1) st) : bg_X X kX o σ vs pc (.int x :: .int (nI i) :: .ref (bg_a o 26) :: st) := bg_ast C pc 26 (by decide) rfl rfl (by decide) hi hdg kk
theorem xg27 (C : bg_Cx X kX o cc n fr lo rt post) (pc : Nat) (hdg : decode cc pc = .ok (.getfield 137, 3)) (kk : bg_X X kX o σ vs (pc + 3) (.int (σ 27 0) :: st)) : bg_X X kX o σ vs pc (.ref (bg_h o) :: st) := bg_getI C pc 27 (by decide) rfl q62 hdg kk
theorem xp27 (C : bg_Cx X kX o cc n fr lo rt post) (pc : Nat) (hdg : decode cc pc = .ok (.putfield 137, 3)) {v : Int32} (kk : bg_X X kX o (bg_U σ 27 (fun _ => v)) vs (pc + 3) st) : bg_X X kX o σ vs pc (.int v :: .ref (bg_h o) :: st) := bg_putI C pc 27 (by decide) rfl q62 hdg kk
theorem xc_noTask (C : bg_Cx X kX o cc n fr lo rt post) (pc : Nat) {fy ly : Nat} {a : Int32} {py : Int32 → bg_S → Prop} (hM : bg_M kX yX0_noTask cX0_noTask 2 (some .boolean) fy ly [a] σ py) (hR : fy + 1 ≤ fr ∧ 8 + (2 + 11) + ly ≤ lo) (hst : (st.map fun v => v.category).sum ≤ 8) (hdg : decode cc pc = .ok (.invokevirtual 87, 3)) (kk : ∀ (r : Int32) (σ' : bg_S), py r σ' → bg_X X kX o σ' vs (pc + 3) (.int r :: st)) : bg_X X kX o σ vs pc (.int a :: .ref (bg_h o) :: st) := bg_run (as := [a]) (ny' := 1) C pc hM hR (lw_V q134 q136 qs0 q25 q137) (by decide +kernel) rfl hst hdg kk
theorem xc_neededSet (C : bg_Cx X kX o cc n fr lo rt post) (pc : Nat) {fy ly : Nat} {a : Int32} {py : Int32 → bg_S → Prop} (hM : bg_M kX yX0_neededSet cX0_neededSet 4 (some .int) fy ly [a] σ py) (hR : fy + 1 ≤ fr ∧ 8 + (4 + 11) + ly ≤ lo) (hst : (st.map fun v => v.category).sum ≤ 8) (hdg : decode cc pc = .ok (.invokevirtual 131, 3)) (kk : ∀ (r : Int32) (σ' : bg_S), py r σ' → bg_X X kX o σ' vs (pc + 3) (.int r :: st)) : bg_X X kX o σ vs pc (.int a :: .ref (bg_h o) :: st) := bg_run (as := [a]) (ny' := 1) C pc hM hR (lw_V q146 q148 qs1 q25 q149) (by decide +kernel) rfl hst hdg kk
theorem xc_inputTasks (C : bg_Cx X kX o cc n fr lo rt post) (pc : Nat) {fy ly : Nat} {a : Int32} {py : Int32 → bg_S → Prop} (hM : bg_M kX yX0_inputTasks cX0_inputTasks 5 (some .int) fy ly [a] σ py) (hR : fy + 1 ≤ fr ∧ 8 + (5 + 11) + ly ≤ lo) (hst : (st.map fun v => v.category).sum ≤ 8) (hdg : decode cc pc = .ok (.invokevirtual 102, 3)) (kk : ∀ (r : Int32) (σ' : bg_S), py r σ' → bg_X X kX o σ' vs (pc + 3) (.int r :: st)) : bg_X X kX o σ vs pc (.int a :: .ref (bg_h o) :: st) := bg_run (as := [a]) (ny' := 1) C pc hM hR (lw_V q150 q152 qs2 q25 q153) (by decide +kernel) rfl hst hdg kk
theorem xc_handle (C : bg_Cx X kX o cc n fr lo rt post) (pc : Nat) {fy ly : Nat} {a : Int32} {py : Int32 → bg_S → Prop} (hM : bg_M kX yX0_handle cX0_handle 5 (some .int) fy ly [a] σ py) (hR : fy + 1 ≤ fr ∧ 8 + (5 + 11) + ly ≤ lo) (hst : (st.map fun v => v.category).sum ≤ 8) (hdg : decode cc pc = .ok (.invokevirtual 134, 3)) (kk : ∀ (r : Int32) (σ' : bg_S), py r σ' → bg_X X kX o σ' vs (pc + 3) (.int r :: st)) : bg_X X kX o σ vs pc (.int a :: .ref (bg_h o) :: st) := bg_run (as := [a]) (ny' := 1) C pc hM hR (lw_V q154 q156 qs3 q25 q157) (by decide +kernel) rfl hst hdg kk
theorem xc_untouched (C : bg_Cx X kX o cc n fr lo rt post) (pc : Nat) {fy ly : Nat} {a : Int32} {py : Int32 → bg_S → Prop} (hM : bg_M kX yX0_untouched cX0_untouched 5 (some .boolean) fy ly [a] σ py) (hR : fy + 1 ≤ fr ∧ 8 + (5 + 11) + ly ≤ lo) (hst : (st.map fun v => v.category).sum ≤ 8) (hdg : decode cc pc = .ok (.invokevirtual 105, 3)) (kk : ∀ (r : Int32) (σ' : bg_S), py r σ' → bg_X X kX o σ' vs (pc + 3) (.int r :: st)) : bg_X X kX o σ vs pc (.int a :: .ref (bg_h o) :: st) := bg_run (as := [a]) (ny' := 1) C pc hM hR (lw_V q158 q160 qs4 q25 q161) (by decide +kernel) rfl hst hdg kk
theorem xc_loadRecord (C : bg_Cx X kX o cc n fr lo rt post) (pc : Nat) {fy ly : Nat} {a b : Int32} {py : Int32 → bg_S → Prop} (hM : bg_M kX yX0_loadRecord cX0_loadRecord 5 none fy ly [a, b] σ py) (hR : fy + 1 ≤ fr ∧ 8 + (5 + 11) + ly ≤ lo) (hst : (st.map fun v => v.category).sum ≤ 8) (hdg : decode cc pc = .ok (.invokevirtual 108, 3)) (kk : ∀ (r : Int32) (σ' : bg_S), py r σ' → bg_X X kX o σ' vs (pc + 3) (st)) : bg_X X kX o σ vs pc (.int b :: .int a :: .ref (bg_h o) :: st) := bg_run (as := [a, b]) (ny' := 2) C pc hM hR (lw_V q162 q164 qs5 q25 q165) (by decide +kernel) rfl hst hdg kk
theorem xc_isLast (C : bg_Cx X kX o cc n fr lo rt post) (pc : Nat) {fy ly : Nat} {a : Int32} {py : Int32 → bg_S → Prop} (hM : bg_M kX yX0_isLast cX0_isLast 3 (some .boolean) fy ly [a] σ py) (hR : fy + 1 ≤ fr ∧ 8 + (3 + 11) + ly ≤ lo) (hst : (st.map fun v => v.category).sum ≤ 8) (hdg : decode cc pc = .ok (.invokevirtual 112, 3)) (kk : ∀ (r : Int32) (σ' : bg_S), py r σ' → bg_X X kX o σ' vs (pc + 3) (.int r :: st)) : bg_X X kX o σ vs pc (.int a :: .ref (bg_h o) :: st) := bg_run (as := [a]) (ny' := 1) C pc hM hR (lw_V q166 q168 qs6 q25 q169) (by decide +kernel) rfl hst hdg kk
theorem xc_inStore (C : bg_Cx X kX o cc n fr lo rt post) (pc : Nat) {fy ly : Nat} {a : Int32} {py : Int32 → bg_S → Prop} (hM : bg_M kX yX0_inStore cX0_inStore 6 (some .boolean) fy ly [a] σ py) (hR : fy + 1 ≤ fr ∧ 8 + (6 + 11) + ly ≤ lo) (hst : (st.map fun v => v.category).sum ≤ 8) (hdg : decode cc pc = .ok (.invokevirtual 115, 3)) (kk : ∀ (r : Int32) (σ' : bg_S), py r σ' → bg_X X kX o σ' vs (pc + 3) (.int r :: st)) : bg_X X kX o σ vs pc (.int a :: .ref (bg_h o) :: st) := bg_run (as := [a]) (ny' := 1) C pc hM hR (lw_V q170 q172 qs7 q25 q173) (by decide +kernel) rfl hst hdg kk
theorem xc_hashOf (C : bg_Cx X kX o cc n fr lo rt post) (pc : Nat) {fy ly : Nat} {a : Int32} {py : Int32 → bg_S → Prop} (hM : bg_M kX yX0_hashOf cX0_hashOf 4 (some .int) fy ly [a] σ py) (hR : fy + 1 ≤ fr ∧ 8 + (4 + 11) + ly ≤ lo) (hst : (st.map fun v => v.category).sum ≤ 8) (hdg : decode cc pc = .ok (.invokevirtual 91, 3)) (kk : ∀ (r : Int32) (σ' : bg_S), py r σ' → bg_X X kX o σ' vs (pc + 3) (.int r :: st)) : bg_X X kX o σ vs pc (.int a :: .ref (bg_h o) :: st) := bg_run (as := [a]) (ny' := 1) C pc hM hR (lw_V q174 q176 qs8 q25 q177) (by decide +kernel) rfl hst hdg kk
theorem xc_isRecord (C : bg_Cx X kX o cc n fr lo rt post) (pc : Nat) {fy ly : Nat} {a b d : Int32} {py : Int32 → bg_S → Prop} (hM : bg_M kX yX0_isRecord cX0_isRecord 5 (some .boolean) fy ly [a, b, d] σ py) (hR : fy + 1 ≤ fr ∧ 8 + (5 + 11) + ly ≤ lo) (hst : (st.map fun v => v.category).sum ≤ 8) (hdg : decode cc pc = .ok (.invokevirtual 95, 3)) (kk : ∀ (r : Int32) (σ' : bg_S), py r σ' → bg_X X kX o σ' vs (pc + 3) (.int r :: st)) : bg_X X kX o σ vs pc (.int d :: .int b :: .int a :: .ref (bg_h o) :: st) := bg_run (as := [a, b, d]) (ny' := 3) C pc hM hR (lw_V q178 q180 qs9 q25 q181) (by decide +kernel) rfl hst hdg kk
theorem xc_keep (C : bg_Cx X kX o cc n fr lo rt post) (pc : Nat) {fy ly : Nat} {a : Int32} {py : Int32 → bg_S → Prop} (hM : bg_M kX yX0_keep cX0_keep 4 none fy ly [a] σ py) (hR : fy + 1 ≤ fr ∧ 8 + (4 + 11) + ly ≤ lo) (hst : (st.map fun v => v.category).sum ≤ 8) (hdg : decode cc pc = .ok (.invokevirtual 118, 3)) (kk : ∀ (r : Int32) (σ' : bg_S), py r σ' → bg_X X kX o σ' vs (pc + 3) (st)) : bg_X X kX o σ vs pc (.int a :: .ref (bg_h o) :: st) := bg_run (as := [a]) (ny' := 1) C pc hM hR (lw_V q182 q184 qs10 q25 q185) (by decide +kernel) rfl hst hdg kk
theorem xc_remember (C : bg_Cx X kX o cc n fr lo rt post) (pc : Nat) {fy ly : Nat} {a : Int32} {py : Int32 → bg_S → Prop} (hM : bg_M kX yX0_remember cX0_remember 3 none fy ly [a] σ py) (hR : fy + 1 ≤ fr ∧ 8 + (3 + 11) + ly ≤ lo) (hst : (st.map fun v => v.category).sum ≤ 8) (hdg : decode cc pc = .ok (.invokevirtual 122, 3)) (kk : ∀ (r : Int32) (σ' : bg_S), py r σ' → bg_X X kX o σ' vs (pc + 3) (st)) : bg_X X kX o σ vs pc (.int a :: .ref (bg_h o) :: st) := bg_run (as := [a]) (ny' := 1) C pc hM hR (lw_V q186 q188 qs11 q25 q189) (by decide +kernel) rfl hst hdg kk
theorem xc_result (C : bg_Cx X kX o cc n fr lo rt post) (pc : Nat) {fy ly : Nat} {a : Int32} {py : Int32 → bg_S → Prop} (hM : bg_M kX yX0_result cX0_result 5 (some .int) fy ly [a] σ py) (hR : fy + 1 ≤ fr ∧ 8 + (5 + 11) + ly ≤ lo) (hst : (st.map fun v => v.category).sum ≤ 8) (hdg : decode cc pc = .ok (.invokevirtual 125, 3)) (kk : ∀ (r : Int32) (σ' : bg_S), py r σ' → bg_X X kX o σ' vs (pc + 3) (.int r :: st)) : bg_X X kX o σ vs pc (.int a :: .ref (bg_h o) :: st) := bg_run (as := [a]) (ny' := 1) C pc hM hR (lw_V q190 q192 qs12 q25 q193) (by decide +kernel) rfl hst hdg kk
theorem xc_workOutNow (C : bg_Cx X kX o cc n fr lo rt post) (pc : Nat) {fy ly : Nat} {py : Int32 → bg_S → Prop} (hM : bg_M kX yX0_workOutNow cX0_workOutNow 2 none fy ly [] σ py) (hR : fy + 1 ≤ fr ∧ 8 + (2 + 11) + ly ≤ lo) (hst : (st.map fun v => v.category).sum ≤ 8) (hdg : decode cc pc = .ok (.invokevirtual 140, 3)) (kk : ∀ (r : Int32) (σ' : bg_S), py r σ' → bg_X X kX o σ' vs (pc + 3) (st)) : bg_X X kX o σ vs pc (.ref (bg_h o) :: st) := bg_run (as := []) (ny' := 0) C pc hM hR (lw_V q214 q216 qs13 q25 q217) (by decide +kernel) rfl hst hdg kk
theorem xc_wouldExecute (C : bg_Cx X kX o cc n fr lo rt post) (pc : Nat) {fy ly : Nat} {a : Int32} {py : Int32 → bg_S → Prop} (hM : bg_M kX yX0_wouldExecute cX0_wouldExecute 3 (some .boolean) fy ly [a] σ py) (hR : fy + 1 ≤ fr ∧ 8 + (3 + 11) + ly ≤ lo) (hst : (st.map fun v => v.category).sum ≤ 8) (hdg : decode cc pc = .ok (.invokevirtual 143, 3)) (kk : ∀ (r : Int32) (σ' : bg_S), py r σ' → bg_X X kX o σ' vs (pc + 3) (.int r :: st)) : bg_X X kX o σ vs pc (.int a :: .ref (bg_h o) :: st) := bg_run (as := [a]) (ny' := 1) C pc hM hR (lw_V q226 q228 qs14 q25 q229) (by decide +kernel) rfl hst hdg kk
end Fx
section Fm
variable {X : bg_E} {o : bg_O} {σ : bg_S} {vs : List Int32} {n fr lo : Nat} {st : List Value} {cc : ByteArray} {rt : Option FieldType} {post : Int32 → bg_S → Prop}
theorem mg0 (C : bg_Cx X kM o cc n fr lo rt post) (pc : Nat) (hdg : decode cc pc = .ok (.getfield 7, 3)) (kk : bg_X X kM o σ vs (pc + 3) (.ref (bg_a o 0) :: st)) : bg_X X kM o σ vs pc (.ref (bg_h o) :: st) := bg_getR C pc 0 (by decide) (by decide) q244 hdg kk
theorem ml0 (C : bg_Cx X kM o cc n fr lo rt post) (pc : Nat) {i : Nat} (hi : i < 8) (hdg : decode cc pc = .ok (.iaload, 1)) (kk : bg_X X kM o σ vs (pc + 1) (.int (σ 0 i) :: st)) : bg_X X kM o σ vs pc (.int (nI i) :: .ref (bg_a o 0) :: st) := bg_ald C pc 0 (by decide) rfl rfl (by decide) hi hdg kk
theorem ms0 (C : bg_Cx X kM o cc n fr lo rt post) (pc : Nat) {i : Nat} (hi : i < 8) (hdg : decode cc pc = .ok (.iastore, 1)) {x : Int32} (kk : bg_X X kM o (bg_U σ 0 (upd (σ 0) i x)) vs (pc + 1) st) : bg_X X kM o σ vs pc (.int x :: .int (nI i) :: .ref (bg_a o 0) :: st) := bg_ast C pc 0 (by decide) rfl rfl (by decide) hi hdg kk
theorem mg1 (C : bg_Cx X kM o cc n fr lo rt post) (pc : Nat) (hdg : decode cc pc = .ok (.getfield 47, 3)) (kk : bg_X X kM o σ vs (pc + 3) (.int (σ 1 0) :: st)) : bg_X X kM o σ vs pc (.ref (bg_h o) :: st) := bg_getI C pc 1 (by decide) rfl q245 hdg kk
theorem mp1 (C : bg_Cx X kM o cc n fr lo rt post) (pc : Nat) (hdg : decode cc pc = .ok (.putfield 47, 3)) {v : Int32} (kk : bg_X X kM o (bg_U σ 1 (fun _ => v)) vs (pc + 3) st) : bg_X X kM o σ vs pc (.int v :: .ref (bg_h o) :: st) := bg_putI C pc 1 (by decide) rfl q245 hdg kk
theorem mg2 (C : bg_Cx X kM o cc n fr lo rt post) (pc : Nat) (hdg : decode cc pc = .ok (.getfield 13, 3)) (kk : bg_X X kM o σ vs (pc + 3) (.ref (bg_a o 2) :: st)) : bg_X X kM o σ vs pc (.ref (bg_h o) :: st) := bg_getR C pc 2 (by decide) (by decide) q246 hdg kk
theorem ml2 (C : bg_Cx X kM o cc n fr lo rt post) (pc : Nat) {i : Nat} (hi : i < 12) (hdg : decode cc pc = .ok (.iaload, 1)) (kk : bg_X X kM o σ vs (pc + 1) (.int (σ 2 i) :: st)) : bg_X X kM o σ vs pc (.int (nI i) :: .ref (bg_a o 2) :: st) := bg_ald C pc 2 (by decide) rfl rfl (by decide) hi hdg kk
theorem ms2 (C : bg_Cx X kM o cc n fr lo rt post) (pc : Nat) {i : Nat} (hi : i < 12) (hdg : decode cc pc = .ok (.iastore, 1)) {x : Int32} (kk : bg_X X kM o (bg_U σ 2 (upd (σ 2) i x)) vs (pc + 1) st) : bg_X X kM o σ vs pc (.int x :: .int (nI i) :: .ref (bg_a o 2) :: st) := bg_ast C pc 2 (by decide) rfl rfl (by decide) hi hdg kk
theorem mg3 (C : bg_Cx X kM o cc n fr lo rt post) (pc : Nat) (hdg : decode cc pc = .ok (.getfield 16, 3)) (kk : bg_X X kM o σ vs (pc + 3) (.ref (bg_a o 3) :: st)) : bg_X X kM o σ vs pc (.ref (bg_h o) :: st) := bg_getR C pc 3 (by decide) (by decide) q247 hdg kk
theorem ml3 (C : bg_Cx X kM o cc n fr lo rt post) (pc : Nat) {i : Nat} (hi : i < 12) (hdg : decode cc pc = .ok (.iaload, 1)) (kk : bg_X X kM o σ vs (pc + 1) (.int (σ 3 i) :: st)) : bg_X X kM o σ vs pc (.int (nI i) :: .ref (bg_a o 3) :: st) := bg_ald C pc 3 (by decide) rfl rfl (by decide) hi hdg kk
theorem ms3 (C : bg_Cx X kM o cc n fr lo rt post) (pc : Nat) {i : Nat} (hi : i < 12) (hdg : decode cc pc = .ok (.iastore, 1)) {x : Int32} (kk : bg_X X kM o (bg_U σ 3 (upd (σ 3) i x)) vs (pc + 1) st) : bg_X X kM o σ vs pc (.int x :: .int (nI i) :: .ref (bg_a o 3) :: st) := bg_ast C pc 3 (by decide) rfl rfl (by decide) hi hdg kk
theorem mg4 (C : bg_Cx X kM o cc n fr lo rt post) (pc : Nat) (hdg : decode cc pc = .ok (.getfield 19, 3)) (kk : bg_X X kM o σ vs (pc + 3) (.ref (bg_a o 4) :: st)) : bg_X X kM o σ vs pc (.ref (bg_h o) :: st) := bg_getR C pc 4 (by decide) (by decide) q248 hdg kk
theorem ml4 (C : bg_Cx X kM o cc n fr lo rt post) (pc : Nat) {i : Nat} (hi : i < 12) (hdg : decode cc pc = .ok (.iaload, 1)) (kk : bg_X X kM o σ vs (pc + 1) (.int (σ 4 i) :: st)) : bg_X X kM o σ vs pc (.int (nI i) :: .ref (bg_a o 4) :: st) := bg_ald C pc 4 (by decide) rfl rfl (by decide) hi hdg kk
theorem ms4 (C : bg_Cx X kM o cc n fr lo rt post) (pc : Nat) {i : Nat} (hi : i < 12) (hdg : decode cc pc = .ok (.iastore, 1)) {x : Int32} (kk : bg_X X kM o (bg_U σ 4 (upd (σ 4) i x)) vs (pc + 1) st) : bg_X X kM o σ vs pc (.int x :: .int (nI i) :: .ref (bg_a o 4) :: st) := bg_ast C pc 4 (by decide) rfl rfl (by decide) hi hdg kk
theorem mg5 (C : bg_Cx X kM o cc n fr lo rt post) (pc : Nat) (hdg : decode cc pc = .ok (.getfield 22, 3)) (kk : bg_X X kM o σ vs (pc + 3) (.ref (bg_a o 5) :: st)) : bg_X X kM o σ vs pc (.ref (bg_h o) :: st) := bg_getR C pc 5 (by decide) (by decide) q249 hdg kk
theorem ml5 (C : bg_Cx X kM o cc n fr lo rt post) (pc : Nat) {i : Nat} (hi : i < 36) (hdg : decode cc pc = .ok (.iaload, 1)) (kk : bg_X X kM o σ vs (pc + 1) (.int (σ 5 i) :: st)) : bg_X X kM o σ vs pc (.int (nI i) :: .ref (bg_a o 5) :: st) := bg_ald C pc 5 (by decide) rfl rfl (by decide) hi hdg kk
theorem ms5 (C : bg_Cx X kM o cc n fr lo rt post) (pc : Nat) {i : Nat} (hi : i < 36) (hdg : decode cc pc = .ok (.iastore, 1)) {x : Int32} (kk : bg_X X kM o (bg_U σ 5 (upd (σ 5) i x)) vs (pc + 1) st) : bg_X X kM o σ vs pc (.int x :: .int (nI i) :: .ref (bg_a o 5) :: st) := bg_ast C pc 5 (by decide) rfl rfl (by decide) hi hdg kk
theorem mg6 (C : bg_Cx X kM o cc n fr lo rt post) (pc : Nat) (hdg : decode cc pc = .ok (.getfield 25, 3)) (kk : bg_X X kM o σ vs (pc + 3) (.ref (bg_a o 6) :: st)) : bg_X X kM o σ vs pc (.ref (bg_h o) :: st) := bg_getR C pc 6 (by decide) (by decide) q250 hdg kk
theorem ml6 (C : bg_Cx X kM o cc n fr lo rt post) (pc : Nat) {i : Nat} (hi : i < 12) (hdg : decode cc pc = .ok (.iaload, 1)) (kk : bg_X X kM o σ vs (pc + 1) (.int (σ 6 i) :: st)) : bg_X X kM o σ vs pc (.int (nI i) :: .ref (bg_a o 6) :: st) := bg_ald C pc 6 (by decide) rfl rfl (by decide) hi hdg kk
theorem ms6 (C : bg_Cx X kM o cc n fr lo rt post) (pc : Nat) {i : Nat} (hi : i < 12) (hdg : decode cc pc = .ok (.iastore, 1)) {x : Int32} (kk : bg_X X kM o (bg_U σ 6 (upd (σ 6) i x)) vs (pc + 1) st) : bg_X X kM o σ vs pc (.int x :: .int (nI i) :: .ref (bg_a o 6) :: st) := bg_ast C pc 6 (by decide) rfl rfl (by decide) hi hdg kk
theorem mg7 (C : bg_Cx X kM o cc n fr lo rt post) (pc : Nat) (hdg : decode cc pc = .ok (.getfield 28, 3)) (kk : bg_X X kM o σ vs (pc + 3) (.ref (bg_a o 7) :: st)) : bg_X X kM o σ vs pc (.ref (bg_h o) :: st) := bg_getR C pc 7 (by decide) (by decide) q251 hdg kk
theorem ml7 (C : bg_Cx X kM o cc n fr lo rt post) (pc : Nat) {i : Nat} (hi : i < 12) (hdg : decode cc pc = .ok (.iaload, 1)) (kk : bg_X X kM o σ vs (pc + 1) (.int (σ 7 i) :: st)) : bg_X X kM o σ vs pc (.int (nI i) :: .ref (bg_a o 7) :: st) := bg_ald C pc 7 (by decide) rfl rfl (by decide) hi hdg kk
theorem ms7 (C : bg_Cx X kM o cc n fr lo rt post) (pc : Nat) {i : Nat} (hi : i < 12) (hdg : decode cc pc = .ok (.iastore, 1)) {x : Int32} (kk : bg_X X kM o (bg_U σ 7 (upd (σ 7) i x)) vs (pc + 1) st) : bg_X X kM o σ vs pc (.int x :: .int (nI i) :: .ref (bg_a o 7) :: st) := bg_ast C pc 7 (by decide) rfl rfl (by decide) hi hdg kk
theorem mg8 (C : bg_Cx X kM o cc n fr lo rt post) (pc : Nat) (hdg : decode cc pc = .ok (.getfield 31, 3)) (kk : bg_X X kM o σ vs (pc + 3) (.ref (bg_a o 8) :: st)) : bg_X X kM o σ vs pc (.ref (bg_h o) :: st) := bg_getR C pc 8 (by decide) (by decide) q252 hdg kk
theorem ml8 (C : bg_Cx X kM o cc n fr lo rt post) (pc : Nat) {i : Nat} (hi : i < 12) (hdg : decode cc pc = .ok (.baload, 1)) (kk : bg_X X kM o σ vs (pc + 1) (.int (σ 8 i) :: st)) : bg_X X kM o σ vs pc (.int (nI i) :: .ref (bg_a o 8) :: st) := bg_zld C pc 8 (by decide) rfl rfl (by decide) hi hdg kk
theorem ms8 (C : bg_Cx X kM o cc n fr lo rt post) (pc : Nat) {i : Nat} (hi : i < 12) (hdg : decode cc pc = .ok (.bastore, 1)) {x : Int32} (hx : narrow .boolean (.int x) = .int x) (kk : bg_X X kM o (bg_U σ 8 (upd (σ 8) i x)) vs (pc + 1) st) : bg_X X kM o σ vs pc (.int x :: .int (nI i) :: .ref (bg_a o 8) :: st) := bg_zst C pc 8 (by decide) rfl rfl (by decide) hi hdg hx kk
theorem mg9 (C : bg_Cx X kM o cc n fr lo rt post) (pc : Nat) (hdg : decode cc pc = .ok (.getfield 35, 3)) (kk : bg_X X kM o σ vs (pc + 3) (.ref (bg_a o 9) :: st)) : bg_X X kM o σ vs pc (.ref (bg_h o) :: st) := bg_getR C pc 9 (by decide) (by decide) q253 hdg kk
theorem ml9 (C : bg_Cx X kM o cc n fr lo rt post) (pc : Nat) {i : Nat} (hi : i < 60) (hdg : decode cc pc = .ok (.iaload, 1)) (kk : bg_X X kM o σ vs (pc + 1) (.int (σ 9 i) :: st)) : bg_X X kM o σ vs pc (.int (nI i) :: .ref (bg_a o 9) :: st) := bg_ald C pc 9 (by decide) rfl rfl (by decide) hi hdg kk
theorem ms9 (C : bg_Cx X kM o cc n fr lo rt post) (pc : Nat) {i : Nat} (hi : i < 60) (hdg : decode cc pc = .ok (.iastore, 1)) {x : Int32} (kk : bg_X X kM o (bg_U σ 9 (upd (σ 9) i x)) vs (pc + 1) st) : bg_X X kM o σ vs pc (.int x :: .int (nI i) :: .ref (bg_a o 9) :: st) := bg_ast C pc 9 (by decide) rfl rfl (by decide) hi hdg kk
theorem mg10 (C : bg_Cx X kM o cc n fr lo rt post) (pc : Nat) (hdg : decode cc pc = .ok (.getfield 38, 3)) (kk : bg_X X kM o σ vs (pc + 3) (.ref (bg_a o 10) :: st)) : bg_X X kM o σ vs pc (.ref (bg_h o) :: st) := bg_getR C pc 10 (by decide) (by decide) q254 hdg kk
theorem ml10 (C : bg_Cx X kM o cc n fr lo rt post) (pc : Nat) {i : Nat} (hi : i < 12) (hdg : decode cc pc = .ok (.iaload, 1)) (kk : bg_X X kM o σ vs (pc + 1) (.int (σ 10 i) :: st)) : bg_X X kM o σ vs pc (.int (nI i) :: .ref (bg_a o 10) :: st) := bg_ald C pc 10 (by decide) rfl rfl (by decide) hi hdg kk
theorem ms10 (C : bg_Cx X kM o cc n fr lo rt post) (pc : Nat) {i : Nat} (hi : i < 12) (hdg : decode cc pc = .ok (.iastore, 1)) {x : Int32} (kk : bg_X X kM o (bg_U σ 10 (upd (σ 10) i x)) vs (pc + 1) st) : bg_X X kM o σ vs pc (.int x :: .int (nI i) :: .ref (bg_a o 10) :: st) := bg_ast C pc 10 (by decide) rfl rfl (by decide) hi hdg kk
theorem mg11 (C : bg_Cx X kM o cc n fr lo rt post) (pc : Nat) (hdg : decode cc pc = .ok (.getfield 41, 3)) (kk : bg_X X kM o σ vs (pc + 3) (.ref (bg_a o 11) :: st)) : bg_X X kM o σ vs pc (.ref (bg_h o) :: st) := bg_getR C pc 11 (by decide) (by decide) q255 hdg kk
theorem ml11 (C : bg_Cx X kM o cc n fr lo rt post) (pc : Nat) {i : Nat} (hi : i < 2400) (hdg : decode cc pc = .ok (.iaload, 1)) (kk : bg_X X kM o σ vs (pc + 1) (.int (σ 11 i) :: st)) : bg_X X kM o σ vs pc (.int (nI i) :: .ref (bg_a o 11) :: st) := bg_ald C pc 11 (by decide) rfl rfl (by decide) hi hdg kk
theorem ms11 (C : bg_Cx X kM o cc n fr lo rt post) (pc : Nat) {i : Nat} (hi : i < 2400) (hdg : decode cc pc = .ok (.iastore, 1)) {x : Int32} (kk : bg_X X kM o (bg_U σ 11 (upd (σ 11) i x)) vs (pc + 1) st) : bg_X X kM o σ vs pc (.int x :: .int (nI i) :: .ref (bg_a o 11) :: st) := bg_ast C pc 11 (by decide) rfl rfl (by decide) hi hdg kk
theorem mg12 (C : bg_Cx X kM o cc n fr lo rt post) (pc : Nat) (hdg : decode cc pc = .ok (.getfield 75, 3)) (kk : bg_X X kM o σ vs (pc + 3) (.int (σ 12 0) :: st)) : bg_X X kM o σ vs pc (.ref (bg_h o) :: st) := bg_getI C pc 12 (by decide) rfl q256 hdg kk
theorem mp12 (C : bg_Cx X kM o cc n fr lo rt post) (pc : Nat) (hdg : decode cc pc = .ok (.putfield 75, 3)) {v : Int32} (kk : bg_X X kM o (bg_U σ 12 (fun _ => v)) vs (pc + 3) st) : bg_X X kM o σ vs pc (.int v :: .ref (bg_h o) :: st) := bg_putI C pc 12 (by decide) rfl q256 hdg kk
theorem mg13 (C : bg_Cx X kM o cc n fr lo rt post) (pc : Nat) (hdg : decode cc pc = .ok (.getfield 72, 3)) (kk : bg_X X kM o σ vs (pc + 3) (.int (σ 13 0) :: st)) : bg_X X kM o σ vs pc (.ref (bg_h o) :: st) := bg_getI C pc 13 (by decide) rfl q257 hdg kk
theorem mp13 (C : bg_Cx X kM o cc n fr lo rt post) (pc : Nat) (hdg : decode cc pc = .ok (.putfield 72, 3)) {v : Int32} (kk : bg_X X kM o (bg_U σ 13 (fun _ => v)) vs (pc + 3) st) : bg_X X kM o σ vs pc (.int v :: .ref (bg_h o) :: st) := bg_putI C pc 13 (by decide) rfl q257 hdg kk
theorem mg14 (C : bg_Cx X kM o cc n fr lo rt post) (pc : Nat) (hdg : decode cc pc = .ok (.getfield 44, 3)) (kk : bg_X X kM o σ vs (pc + 3) (.ref (bg_a o 14) :: st)) : bg_X X kM o σ vs pc (.ref (bg_h o) :: st) := bg_getR C pc 14 (by decide) (by decide) q258 hdg kk
theorem ml14 (C : bg_Cx X kM o cc n fr lo rt post) (pc : Nat) {i : Nat} (hi : i < 12) (hdg : decode cc pc = .ok (.iaload, 1)) (kk : bg_X X kM o σ vs (pc + 1) (.int (σ 14 i) :: st)) : bg_X X kM o σ vs pc (.int (nI i) :: .ref (bg_a o 14) :: st) := bg_ald C pc 14 (by decide) rfl rfl (by decide) hi hdg kk
theorem ms14 (C : bg_Cx X kM o cc n fr lo rt post) (pc : Nat) {i : Nat} (hi : i < 12) (hdg : decode cc pc = .ok (.iastore, 1)) {x : Int32} (kk : bg_X X kM o (bg_U σ 14 (upd (σ 14) i x)) vs (pc + 1) st) : bg_X X kM o σ vs pc (.int x :: .int (nI i) :: .ref (bg_a o 14) :: st) := bg_ast C pc 14 (by decide) rfl rfl (by decide) hi hdg kk
theorem mc_bad (C : bg_Cx X kM o cc n fr lo rt post) (pc : Nat) {fy ly : Nat} {a : Int32} {py : Int32 → bg_S → Prop} (hM : bg_M kM yX1_bad cX1_bad 2 (some .boolean) fy ly [a] σ py) (hR : fy + 1 ≤ fr ∧ 8 + (2 + 11) + ly ≤ lo) (hst : (st.map fun v => v.category).sum ≤ 8) (hdg : decode cc pc = .ok (.invokevirtual 51, 3)) (kk : ∀ (r : Int32) (σ' : bg_S), py r σ' → bg_X X kM o σ' vs (pc + 3) (.int r :: st)) : bg_X X kM o σ vs pc (.int a :: .ref (bg_h o) :: st) := bg_run (as := [a]) (ny' := 1) C pc hM hR (lw_V q302 q304 qs15 q26 q305) (by decide +kernel) rfl hst hdg kk
theorem mc_workOut (C : bg_Cx X kM o cc n fr lo rt post) (pc : Nat) {fy ly : Nat} {py : Int32 → bg_S → Prop} (hM : bg_M kM yX1_workOut cX1_workOut 5 none fy ly [] σ py) (hR : fy + 1 ≤ fr ∧ 8 + (5 + 11) + ly ≤ lo) (hst : (st.map fun v => v.category).sum ≤ 8) (hdg : decode cc pc = .ok (.invokevirtual 78, 3)) (kk : ∀ (r : Int32) (σ' : bg_S), py r σ' → bg_X X kM o σ' vs (pc + 3) (st)) : bg_X X kM o σ vs pc (.ref (bg_h o) :: st) := bg_run (as := []) (ny' := 0) C pc hM hR (lw_V q314 q316 qs16 q26 q317) (by decide +kernel) rfl hst hdg kk
theorem mc_value (C : bg_Cx X kM o cc n fr lo rt post) (pc : Nat) {fy ly : Nat} {a b : Int32} {py : Int32 → bg_S → Prop} (hM : bg_M kM yX1_value cX1_value 4 (some .int) fy ly [a, b] σ py) (hR : fy + 1 ≤ fr ∧ 8 + (4 + 11) + ly ≤ lo) (hst : (st.map fun v => v.category).sum ≤ 8) (hdg : decode cc pc = .ok (.invokevirtual 55, 3)) (kk : ∀ (r : Int32) (σ' : bg_S), py r σ' → bg_X X kM o σ' vs (pc + 3) (.int r :: st)) : bg_X X kM o σ vs pc (.int b :: .int a :: .ref (bg_h o) :: st) := bg_run (as := [a, b]) (ny' := 2) C pc hM hR (lw_V q318 q320 qs17 q26 q321) (by decide +kernel) rfl hst hdg kk
theorem mc_needs (C : bg_Cx X kM o cc n fr lo rt post) (pc : Nat) {fy ly : Nat} {a : Int32} {py : Int32 → bg_S → Prop} (hM : bg_M kM yX1_needs cX1_needs 5 (some .int) fy ly [a] σ py) (hR : fy + 1 ≤ fr ∧ 8 + (5 + 11) + ly ≤ lo) (hst : (st.map fun v => v.category).sum ≤ 8) (hdg : decode cc pc = .ok (.invokevirtual 81, 3)) (kk : ∀ (r : Int32) (σ' : bg_S), py r σ' → bg_X X kM o σ' vs (pc + 3) (.int r :: st)) : bg_X X kM o σ vs pc (.int a :: .ref (bg_h o) :: st) := bg_run (as := [a]) (ny' := 1) C pc hM hR (lw_V q322 q324 qs18 q26 q325) (by decide +kernel) rfl hst hdg kk
theorem mc_handle (C : bg_Cx X kM o cc n fr lo rt post) (pc : Nat) {fy ly : Nat} {a : Int32} {py : Int32 → bg_S → Prop} (hM : bg_M kM yX1_handle cX1_handle 3 none fy ly [a] σ py) (hR : fy + 1 ≤ fr ∧ 8 + (3 + 11) + ly ≤ lo) (hst : (st.map fun v => v.category).sum ≤ 8) (hdg : decode cc pc = .ok (.invokevirtual 85, 3)) (kk : ∀ (r : Int32) (σ' : bg_S), py r σ' → bg_X X kM o σ' vs (pc + 3) (st)) : bg_X X kM o σ vs pc (.int a :: .ref (bg_h o) :: st) := bg_run (as := [a]) (ny' := 1) C pc hM hR (lw_V q326 q328 qs19 q26 q329) (by decide +kernel) rfl hst hdg kk
theorem mc_isLast (C : bg_Cx X kM o cc n fr lo rt post) (pc : Nat) {fy ly : Nat} {a : Int32} {py : Int32 → bg_S → Prop} (hM : bg_M kM yX1_isLast cX1_isLast 3 (some .boolean) fy ly [a] σ py) (hR : fy + 1 ≤ fr ∧ 8 + (3 + 11) + ly ≤ lo) (hst : (st.map fun v => v.category).sum ≤ 8) (hdg : decode cc pc = .ok (.invokevirtual 66, 3)) (kk : ∀ (r : Int32) (σ' : bg_S), py r σ' → bg_X X kM o σ' vs (pc + 3) (.int r :: st)) : bg_X X kM o σ vs pc (.int a :: .ref (bg_h o) :: st) := bg_run (as := [a]) (ny' := 1) C pc hM hR (lw_V q330 q332 qs20 q26 q333) (by decide +kernel) rfl hst hdg kk
theorem mc_part (C : bg_Cx X kM o cc n fr lo rt post) (pc : Nat) {fy ly : Nat} {a b : Int32} {py : Int32 → bg_S → Prop} (hM : bg_M kM yX1_part cX1_part 3 (some .int) fy ly [a, b] σ py) (hR : fy + 1 ≤ fr ∧ 8 + (3 + 11) + ly ≤ lo) (hst : (st.map fun v => v.category).sum ≤ 8) (hdg : decode cc pc = .ok (.invokevirtual 59, 3)) (kk : ∀ (r : Int32) (σ' : bg_S), py r σ' → bg_X X kM o σ' vs (pc + 3) (.int r :: st)) : bg_X X kM o σ vs pc (.int b :: .int a :: .ref (bg_h o) :: st) := bg_run (as := [a, b]) (ny' := 2) C pc hM hR (lw_V q334 q336 qs21 q26 q337) (by decide +kernel) rfl hst hdg kk
theorem mc_isStored (C : bg_Cx X kM o cc n fr lo rt post) (pc : Nat) {fy ly : Nat} {a : Int32} {py : Int32 → bg_S → Prop} (hM : bg_M kM yX1_isStored cX1_isStored 3 (some .boolean) fy ly [a] σ py) (hR : fy + 1 ≤ fr ∧ 8 + (3 + 11) + ly ≤ lo) (hst : (st.map fun v => v.category).sum ≤ 8) (hdg : decode cc pc = .ok (.invokevirtual 69, 3)) (kk : ∀ (r : Int32) (σ' : bg_S), py r σ' → bg_X X kM o σ' vs (pc + 3) (.int r :: st)) : bg_X X kM o σ vs pc (.int a :: .ref (bg_h o) :: st) := bg_run (as := [a]) (ny' := 1) C pc hM hR (lw_V q338 q340 qs22 q26 q341) (by decide +kernel) rfl hst hdg kk
theorem mc_isRecord (C : bg_Cx X kM o cc n fr lo rt post) (pc : Nat) {fy ly : Nat} {a b : Int32} {py : Int32 → bg_S → Prop} (hM : bg_M kM yX1_isRecord cX1_isRecord 4 (some .boolean) fy ly [a, b] σ py) (hR : fy + 1 ≤ fr ∧ 8 + (4 + 11) + ly ≤ lo) (hst : (st.map fun v => v.category).sum ≤ 8) (hdg : decode cc pc = .ok (.invokevirtual 62, 3)) (kk : ∀ (r : Int32) (σ' : bg_S), py r σ' → bg_X X kM o σ' vs (pc + 3) (.int r :: st)) : bg_X X kM o σ vs pc (.int b :: .int a :: .ref (bg_h o) :: st) := bg_run (as := [a, b]) (ny' := 2) C pc hM hR (lw_V q342 q344 qs23 q26 q345) (by decide +kernel) rfl hst hdg kk
end Fm
end
section
/-! pure words of both classes: counts, inputs, values, results, hashes, masks -/
set_option maxRecDepth 100000
/-- the number of inputs of task t -/
def bp_cn (q : Nat → Int32) (t : Nat) : Nat := (q t).toNatClampNeg
/-- input i of task t: a source below 8, else task - 8 -/
def bp_fr (p : Nat → Int32) (t i : Nat) : Nat := (p (t * 3 + i)).toNatClampNeg
/-- the value of input i of task t, w: the tasks' outputs -/
def bp_vl (ct p w : Nat → Int32) (t i : Nat) : Int32 := if bp_fr p t i < 8 then ct (bp_fr p t i) else w (bp_fr p t i - 8)
def bp_rs (k c : Int32) (g : Nat → Int32) : Nat → Int32
  | 0 => if k = 3 then 0 else c
  | n + 1 => if k = 1 then bp_rs k c g n * 31 + g n else if k = 2 then (if g n ≤ bp_rs k c g n then bp_rs k c g n else g n) else bp_rs k c g n + g n
/-- what a task of kind k with constant c makes of n values g -/
def bp_res (k c : Int32) (g : Nat → Int32) (n : Nat) : Int32 := if k = 3 then bp_rs k c g n &&& 15 else bp_rs k c g n
def bp_hs (c m : Int32) (g : Nat → Int32) : Nat → Int32
  | 0 => c * 31 + m
  | n + 1 => bp_hs c m g n * 31 + g n
/-- counts and inputs are in range -/
def bp_OK (q p : Nat → Int32) : Prop := ∀ t, t < 12 → q t = nI (bp_cn q t) ∧ bp_cn q t ≤ 3 ∧ ∀ i, i < bp_cn q t → p (t * 3 + i) = nI (bp_fr p t i) ∧ bp_fr p t i < 8 + t
def bp_bad (T : Nat) (a : Int32) : Prop := ∀ t, t < T → a ≠ nI t
/-- a says which of 0 .. T - 1 is meant, or none -/
def bp_pick (T : Nat) (a : Int32) (P : Prop) (Q : Nat → Prop) : Prop := (bp_bad T a → P) ∧ ∀ t, t < T → a = nI t → Q t
theorem bp_pick_bad {T : Nat} {a : Int32} {P : Prop} {Q : Nat → Prop} (h : bp_bad T a) (hp : P) : bp_pick T a P Q := ⟨fun _ => hp, fun t ht e => absurd e (h t ht)⟩
theorem bp_pick_ok {T t : Nat} (hT : T < 2 ^ 31) (ht : t < T) {P : Prop} {Q : Nat → Prop} (hq : Q t) : bp_pick T (nI t) P Q := by
  refine ⟨fun h => absurd rfl (h t ht), fun u hu e => ?_⟩
  have : t = u := (nI_eq (by omega) (by omega)).mp e
  subst this
  exact hq
theorem bp_dich (T : Nat) (hT : T < 2 ^ 31) (a : Int32) : (bp_bad T a ∧ (a < 0 ∨ (¬ a < 0 ∧ nI T ≤ a))) ∨ ∃ t, t < T ∧ a = nI t := by
  rcases pk_ix a hT with h | h | h
  · refine Or.inl ⟨fun t ht e => ?_, Or.inl h⟩
    rw [e] at h
    exact nI_pos (by omega) h
  · refine Or.inl ⟨fun t ht e => ?_, ?_⟩
    · rw [e] at h
      have := (nI_leI (by omega) (by omega)).mp h
      omega
    · by_cases h0 : a < 0
      · exact Or.inl h0
      · exact Or.inr ⟨h0, h⟩
  · exact Or.inr h
/-- the mask of the tasks among the first n inputs of t -/
def bp_it (p : Nat → Int32) (t : Nat) : Nat → Int32
  | 0 => 0
  | n + 1 => if bp_fr p t n < 8 then bp_it p t n else bp_it p t n ||| ((1 : Int32) <<< (nI (bp_fr p t n - 8) &&& 31))
def bp_bit (m : Int32) (t : Nat) : Prop := (m >>> (nI t &&& 31)) &&& 1 = 1
/-- tasks n - 1 .. 0 looked at, from the mask m on -/
def bp_nd (q p : Nat → Int32) : Nat → Int32 → Int32
  | 0, m => m
  | n + 1, m => bp_nd q p n (if (m >>> (nI n &&& 31)) &&& 1 = 1 then m ||| bp_it p n (bp_cn q n) else m)
def bp_need (q p : Nat → Int32) (t : Nat) : Int32 := bp_nd q p (t + 1) ((1 : Int32) <<< (nI t &&& 31))
/-- a loop's number on its way down -/
def bp_dn : Nat → Int32
  | 0 => -1
  | n + 1 => nI n
theorem bp_dn_s (n : Nat) : nI n + Int32.ofInt (-1) = bp_dn n := by
  cases n with
  | zero => decide
  | succ n => exact pk_m1 n
/-- how many of the first n have P, as an int -/
def bp_ct (P : Nat → Prop) : Nat → Int32 → Prop
  | 0, r => r = 0
  | n + 1, r => ∃ r', bp_ct P n r' ∧ ((P n ∧ r = r' + 1) ∨ (¬ P n ∧ r = r'))
theorem bp_ct_eq {P Q : Nat → Prop} : ∀ (n : Nat) {a b : Int32}, (∀ t, t < n → (P t ↔ Q t)) → bp_ct P n a → bp_ct Q n b → a = b
  | 0, a, b, _, h1, h2 => by
    have e1 : a = 0 := h1
    have e2 : b = 0 := h2
    rw [e1, e2]
  | n + 1, a, b, h, ⟨a', h1, h1'⟩, ⟨b', h2, h2'⟩ => by
    have e := bp_ct_eq n (fun t ht => h t (by omega)) h1 h2
    subst e
    rcases h1' with ⟨p1, e1⟩ | ⟨p1, e1⟩ <;> rcases h2' with ⟨p2, e2⟩ | ⟨p2, e2⟩
    · rw [e1, e2]
    · exact absurd ((h n (by omega)).mp p1) p2
    · exact absurd ((h n (by omega)).mpr p2) p1
    · rw [e1, e2]
/-- a record chain: the places from r on -/
def bp_ch (f : Nat → Int32) : Int32 → List Nat → Prop
  | r, [] => r < 0
  | r, a :: l => r = nI a ∧ bp_ch f (f a) l
theorem bp_ch_upd {f : Nat → Int32} {k : Nat} {v : Int32} : ∀ {l : List Nat} {r : Int32}, (∀ a ∈ l, a ≠ k) → bp_ch f r l → bp_ch (upd f k v) r l
  | [], _, _, h => h
  | a :: l, r, hl, ⟨h1, h2⟩ => by
    refine ⟨h1, ?_⟩
    rw [pk_un (hl a List.mem_cons_self)]
    exact bp_ch_upd (fun b hb => hl b (List.mem_cons_of_mem _ hb)) h2
theorem bp_ext {g f : Nat → Int32} {i : Nat} {v : Int32} (h : ∀ j, j < i → g j = f j) (hv : v = f i) : ∀ j, j < i + 1 → upd g i v j = f j := by
  intro j hj
  by_cases e : j = i
  · subst e
    rw [pk_us]
    exact hv
  · rw [pk_un e]
    exact h j (by omega)
end
section
/-! BuildGraph: the small methods -/
set_option maxRecDepth 100000
theorem xm_noTask (σ : bg_S) (a : Int32) {T : Nat} (hT : σ 3 0 = nI T) (hT12 : T ≤ 12) : bg_M kX yX0_noTask cX0_noTask 2 (some .boolean) 0 0 [a] σ (fun r σ' => bp_pick T a (r = 1 ∧ σ = σ') (fun _ => r = 0 ∧ σ = σ')) := by
  refine bg_enter okkX (by decide) rfl (Nat.le_of_ble_eq_true rfl) (fun X o C => ?_)
  rcases bp_dich T (by omega) a with ⟨hb, h0 | ⟨h0, h1⟩⟩ | ⟨t, ht, rfl⟩
  · refine bg_iload_n C 0 dX0_noTask_0 0 rfl rfl ?_
    refine bg_if_lt C 1 12 dX0_noTask_1 (by decide) (fun c1 => ?_) (fun c => absurd h0 c)
    refine bg_iconst C 12 (nI 1) dX0_noTask_12 (by decide) ?_
    refine bg_goto C 13 17 dX0_noTask_13 (by decide) ?_
    refine bg_ret C 17 rfl dX0_noTask_17 ?_
    exact bp_pick_bad hb ⟨rfl, rfl⟩
  · refine bg_iload_n C 0 dX0_noTask_0 0 rfl rfl ?_
    refine bg_if_lt C 1 12 dX0_noTask_1 (by decide) (fun c => absurd c h0) (fun c1 => ?_)
    refine bg_iload_n C 4 dX0_noTask_4 0 rfl rfl ?_
    refine bg_aload C 5 dX0_noTask_5 ?_
    refine xg3 C 6 dX0_noTask_6 ?_
    refine bg_eq (hT) ?_
    refine bg_icmp_lt C 9 16 dX0_noTask_9 (by decide) (fun c => absurd c (Int32.not_lt.mpr h1)) (fun c9 => ?_)
    refine bg_iconst C 12 (nI 1) dX0_noTask_12 (by decide) ?_
    refine bg_goto C 13 17 dX0_noTask_13 (by decide) ?_
    refine bg_ret C 17 rfl dX0_noTask_17 ?_
    exact bp_pick_bad hb ⟨rfl, rfl⟩
  · refine bg_iload_n C 0 dX0_noTask_0 0 rfl rfl ?_
    refine bg_if_lt C 1 12 dX0_noTask_1 (by decide) (fun c => absurd c (nI_pos (by omega))) (fun c1 => ?_)
    refine bg_iload_n C 4 dX0_noTask_4 0 rfl rfl ?_
    refine bg_aload C 5 dX0_noTask_5 ?_
    refine xg3 C 6 dX0_noTask_6 ?_
    refine bg_eq (hT) ?_
    refine bg_icmpN_lt C 9 (by omega) (by omega) 16 dX0_noTask_9 (by decide) (fun c9 => ?_) (fun c => absurd c (by omega))
    refine bg_iconst C 16 (nI 0) dX0_noTask_16 (by decide) ?_
    refine bg_ret C 17 rfl dX0_noTask_17 ?_
    exact bp_pick_ok (by omega) ht ⟨rfl, rfl⟩
def bx_content (σ : bg_S) (k : Nat) (v : Int32) : bg_S := if σ 0 k = v then bg_U (bg_U σ 0 (upd (σ 0) k v)) 2 (fun _ => σ 2 0 + 1) else bg_U (bg_U (bg_U σ 0 (upd (σ 0) k v)) 2 (fun _ => σ 2 0 + 1)) 1 (upd (σ 1) k (σ 2 0 + 1))
theorem xm_content (σ : bg_S) (a v : Int32) : bg_M kX yX0_content cX0_content 4 (some .int) 0 0 [a, v] σ (fun r σ' => bp_pick 8 a (r = -2 ∧ σ = σ') (fun k => r = σ 0 k ∧ bx_content σ k v = σ')) := by
  refine bg_enter okkX (by decide) rfl (Nat.le_of_ble_eq_true rfl) (fun X o C => ?_)
  rcases bp_dich 8 (by decide) a with ⟨hb, h0 | ⟨h0, h1⟩⟩ | ⟨k, hk, rfl⟩
  · refine bg_iload_n C 0 dX0_content_0 0 rfl rfl ?_
    refine bg_if_lt C 1 10 dX0_content_1 (by decide) (fun c1 => ?_) (fun c => absurd h0 c)
    refine bg_bipush C 10 (-2) dX0_content_10 (by decide) ?_
    refine bg_ret C 12 rfl dX0_content_12 ?_
    exact bp_pick_bad hb ⟨rfl, rfl⟩
  · refine bg_iload_n C 0 dX0_content_0 0 rfl rfl ?_
    refine bg_if_lt C 1 10 dX0_content_1 (by decide) (fun c => absurd c h0) (fun c1 => ?_)
    refine bg_iload_n C 4 dX0_content_4 0 rfl rfl ?_
    refine bg_bipush C 5 (nI 8) dX0_content_5 (by decide) ?_
    refine bg_icmp_lt C 7 13 dX0_content_7 (by decide) (fun c => absurd c (Int32.not_lt.mpr h1)) (fun c7 => ?_)
    refine bg_bipush C 10 (-2) dX0_content_10 (by decide) ?_
    refine bg_ret C 12 rfl dX0_content_12 ?_
    exact bp_pick_bad hb ⟨rfl, rfl⟩
  · refine bg_iload_n C 0 dX0_content_0 0 rfl rfl ?_
    refine bg_if_lt C 1 10 dX0_content_1 (by decide) (fun c => absurd c (nI_pos (by omega))) (fun c1 => ?_)
    refine bg_iload_n C 4 dX0_content_4 0 rfl rfl ?_
    refine bg_bipush C 5 (nI 8) dX0_content_5 (by decide) ?_
    refine bg_icmpN_lt C 7 (by omega) (by omega) 13 dX0_content_7 (by decide) (fun c7 => ?_) (fun c => absurd c (by omega))
    refine bg_aload C 13 dX0_content_13 ?_
    refine xg0 C 14 dX0_content_14 ?_
    refine bg_iload_n C 17 dX0_content_17 0 rfl rfl ?_
    refine xl0 C 18 (by omega) dX0_content_18 ?_
    refine bg_istore_n C 19 dX0_content_19 2 rfl (by decide) ?_
    refine bg_aload C 20 dX0_content_20 ?_
    refine xg0 C 21 dX0_content_21 ?_
    refine bg_iload_n C 24 dX0_content_24 0 rfl rfl ?_
    refine bg_iload_n C 25 dX0_content_25 1 rfl rfl ?_
    refine xs0 C 26 (by omega) dX0_content_26 ?_
    refine bg_aload C 27 dX0_content_27 ?_
    refine bg_dup C 28 dX0_content_28 rfl ?_
    refine xg2 C 29 dX0_content_29 ?_
    refine bg_iconst C 32 (1) dX0_content_32 (by decide) ?_
    refine bg_iadd C 33 dX0_content_33 ?_
    refine xp2 C 34 dX0_content_34 ?_
    refine bg_iload_n C 37 dX0_content_37 2 rfl rfl ?_
    refine bg_iload_n C 38 dX0_content_38 1 rfl rfl ?_
    refine bg_icmp_eq C 39 52 dX0_content_39 (by decide) (fun c39 => ?_) (fun c39 => ?_)
    · refine bg_iload_n C 52 dX0_content_52 2 rfl rfl ?_
      refine bg_ret C 53 rfl dX0_content_53 ?_
      exact bp_pick_ok (by decide) hk ⟨rfl, if_pos c39⟩
    · refine bg_aload C 42 dX0_content_42 ?_
      refine xg1 C 43 dX0_content_43 ?_
      refine bg_iload_n C 46 dX0_content_46 0 rfl rfl ?_
      refine bg_aload C 47 dX0_content_47 ?_
      refine xg2 C 48 dX0_content_48 ?_
      refine xs1 C 51 (by omega) dX0_content_51 ?_
      refine bg_iload_n C 52 dX0_content_52 2 rfl rfl ?_
      refine bg_ret C 53 rfl dX0_content_53 ?_
      exact bp_pick_ok (by decide) hk ⟨rfl, if_neg c39⟩
def bx_task (σ : bg_S) (T : Nat) (a c : Int32) : bg_S := bg_U (bg_U (bg_U (bg_U σ 4 (upd (σ 4) T (a &&& 3))) 5 (upd (σ 5) T c)) 6 (upd (σ 6) T 0)) 3 (fun _ => nI (T + 1))
theorem xm_task (σ : bg_S) (a c : Int32) {T : Nat} (hT : σ 3 0 = nI T) (hT12 : T ≤ 12) : bg_M kX yX0_task cX0_task 4 (some .int) 0 0 [a, c] σ (fun r σ' => (T = 12 → r = -4 ∧ σ = σ') ∧ (T < 12 → r = nI T ∧ bx_task σ T a c = σ')) := by
  refine bg_enter okkX (by decide) rfl (Nat.le_of_ble_eq_true rfl) (fun X o C => ?_)
  refine bg_aload C 0 dX0_task_0 ?_
  refine xg3 C 1 dX0_task_1 ?_
  refine bg_eq (hT) ?_
  refine bg_bipush C 4 (nI 12) dX0_task_4 (by decide) ?_
  refine bg_icmpN_lt C 6 (by omega) (by omega) 12 dX0_task_6 (by decide) (fun c6 => ?_) (fun c6 => ?_)
  · refine bg_aload C 12 dX0_task_12 ?_
    refine xg3 C 13 dX0_task_13 ?_
    refine bg_eq (hT) ?_
    refine bg_istore_n C 16 dX0_task_16 2 rfl (by decide) ?_
    refine bg_aload C 17 dX0_task_17 ?_
    refine xg4 C 18 dX0_task_18 ?_
    refine bg_iload_n C 21 dX0_task_21 2 rfl rfl ?_
    refine bg_iload_n C 22 dX0_task_22 0 rfl rfl ?_
    refine bg_iconst C 23 (3) dX0_task_23 (by decide) ?_
    refine bg_iand C 24 dX0_task_24 ?_
    refine xs4 C 25 (by omega) dX0_task_25 ?_
    refine bg_aload C 26 dX0_task_26 ?_
    refine xg5 C 27 dX0_task_27 ?_
    refine bg_iload_n C 30 dX0_task_30 2 rfl rfl ?_
    refine bg_iload_n C 31 dX0_task_31 1 rfl rfl ?_
    refine xs5 C 32 (by omega) dX0_task_32 ?_
    refine bg_aload C 33 dX0_task_33 ?_
    refine xg6 C 34 dX0_task_34 ?_
    refine bg_iload_n C 37 dX0_task_37 2 rfl rfl ?_
    refine bg_iconst C 38 (0) dX0_task_38 (by decide) ?_
    refine xs6 C 39 (by omega) dX0_task_39 ?_
    refine bg_aload C 40 dX0_task_40 ?_
    refine bg_dup C 41 dX0_task_41 rfl ?_
    refine xg3 C 42 dX0_task_42 ?_
    refine bg_eq (hT) ?_
    refine bg_iconst C 45 (nI 1) dX0_task_45 (by decide) ?_
    refine bg_iaddN C 46 dX0_task_46 ?_
    refine xp3 C 47 dX0_task_47 ?_
    refine bg_iload_n C 50 dX0_task_50 2 rfl rfl ?_
    refine bg_ret C 51 rfl dX0_task_51 ?_
    exact ⟨fun h => absurd h (by omega), fun _ => ⟨rfl, rfl⟩⟩
  · refine bg_bipush C 9 (-4) dX0_task_9 (by decide) ?_
    refine bg_ret C 11 rfl dX0_task_11 ?_
    exact ⟨fun _ => ⟨rfl, rfl⟩, fun h => absurd h (by omega)⟩
def bx_input (σ : bg_S) (t f : Nat) : bg_S := bg_U (bg_U (bg_U (bg_U σ 7 (upd (σ 7) (t * 3 + bp_cn (σ 6) t) (nI f))) 6 (upd (σ 6) t (nI (bp_cn (σ 6) t + 1)))) 2 (fun _ => σ 2 0 + 1)) 8 (upd (σ 8) t (σ 2 0 + 1))
theorem xm_input (σ : bg_S) (a b : Int32) {T : Nat} (hT : σ 3 0 = nI T) (hT12 : T ≤ 12) (hO : bp_OK (σ 6) (σ 7)) : bg_M kX yX0_input cX0_input 3 (some .int) 1 21 [a, b] σ (fun r σ' => bp_pick T a (r = -1 ∧ σ = σ') (fun t => bp_pick (8 + t) b (r = -2 ∧ σ = σ') (fun f => (bp_cn (σ 6) t = 3 → r = -4 ∧ σ = σ') ∧ (bp_cn (σ 6) t < 3 → r = nI (bp_cn (σ 6) t + 1) ∧ bx_input σ t f = σ')))) := by
  refine bg_enter okkX (by decide) rfl (Nat.le_of_ble_eq_true rfl) (fun X o C => ?_)
  rcases bp_dich T (by omega) a with ⟨hb, -⟩ | ⟨t, ht, rfl⟩
  · refine bg_aload C 0 dX0_input_0 ?_
    refine bg_iload_n C 1 dX0_input_1 0 rfl rfl ?_
    refine xc_noTask C 2 (xm_noTask σ _ hT hT12) (by decide) (Nat.le_of_ble_eq_true rfl) dX0_input_2 (fun r σ1 h1 => ?_)
    obtain ⟨rfl, rfl⟩ := h1.1 hb
    refine bg_if_eq C 5 10 dX0_input_5 (by decide) (fun c => absurd c (by decide)) (fun c5 => ?_)
    refine bg_iconst C 8 (-1) dX0_input_8 (by decide) ?_
    refine bg_ret C 9 rfl dX0_input_9 ?_
    exact bp_pick_bad hb ⟨rfl, rfl⟩
  · refine bg_aload C 0 dX0_input_0 ?_
    refine bg_iload_n C 1 dX0_input_1 0 rfl rfl ?_
    refine xc_noTask C 2 (xm_noTask σ _ hT hT12) (by decide) (Nat.le_of_ble_eq_true rfl) dX0_input_2 (fun r σ1 h1 => ?_)
    obtain ⟨rfl, rfl⟩ := h1.2 t ht rfl
    refine bg_if_eq C 5 10 dX0_input_5 (by decide) (fun c5 => ?_) (fun c => absurd rfl c)
    obtain ⟨hc, hc3, -⟩ := hO t (by omega)
    rcases bp_dich (8 + t) (by omega) b with ⟨hb, h0 | ⟨h0, h2⟩⟩ | ⟨f, hf, rfl⟩
    · refine bg_iload_n C 10 dX0_input_10 1 rfl rfl ?_
      refine bg_if_lt C 11 22 dX0_input_11 (by decide) (fun c11 => ?_) (fun c => absurd h0 c)
      refine bg_bipush C 22 (-2) dX0_input_22 (by decide) ?_
      refine bg_ret C 24 rfl dX0_input_24 ?_
      exact bp_pick_ok (by omega) ht (bp_pick_bad hb ⟨rfl, rfl⟩)
    · refine bg_iload_n C 10 dX0_input_10 1 rfl rfl ?_
      refine bg_if_lt C 11 22 dX0_input_11 (by decide) (fun c => absurd c h0) (fun c11 => ?_)
      refine bg_iload_n C 14 dX0_input_14 1 rfl rfl ?_
      refine bg_bipush C 15 (nI 8) dX0_input_15 (by decide) ?_
      refine bg_iload_n C 17 dX0_input_17 0 rfl rfl ?_
      refine bg_iaddN C 18 dX0_input_18 ?_
      refine bg_icmp_lt C 19 25 dX0_input_19 (by decide) (fun c => absurd c (Int32.not_lt.mpr h2)) (fun c19 => ?_)
      refine bg_bipush C 22 (-2) dX0_input_22 (by decide) ?_
      refine bg_ret C 24 rfl dX0_input_24 ?_
      exact bp_pick_ok (by omega) ht (bp_pick_bad hb ⟨rfl, rfl⟩)
    · refine bg_iload_n C 10 dX0_input_10 1 rfl rfl ?_
      refine bg_if_lt C 11 22 dX0_input_11 (by decide) (fun c => absurd c (nI_pos (by omega))) (fun c11 => ?_)
      refine bg_iload_n C 14 dX0_input_14 1 rfl rfl ?_
      refine bg_bipush C 15 (nI 8) dX0_input_15 (by decide) ?_
      refine bg_iload_n C 17 dX0_input_17 0 rfl rfl ?_
      refine bg_iaddN C 18 dX0_input_18 ?_
      refine bg_icmpN_lt C 19 (by omega) (by omega) 25 dX0_input_19 (by decide) (fun c19 => ?_) (fun c => absurd c (by omega))
      refine bg_aload C 25 dX0_input_25 ?_
      refine xg6 C 26 dX0_input_26 ?_
      refine bg_iload_n C 29 dX0_input_29 0 rfl rfl ?_
      refine xl6 C 30 (by omega) dX0_input_30 ?_
      refine bg_eq (hc) ?_
      refine bg_iconst C 31 (nI 3) dX0_input_31 (by decide) ?_
      refine bg_icmpN_lt C 32 (by omega) (by omega) 38 dX0_input_32 (by decide) (fun c32 => ?_) (fun c32 => ?_)
      · refine bg_aload C 38 dX0_input_38 ?_
        refine xg7 C 39 dX0_input_39 ?_
        refine bg_iload_n C 42 dX0_input_42 0 rfl rfl ?_
        refine bg_iconst C 43 (nI 3) dX0_input_43 (by decide) ?_
        refine bg_imulN C 44 dX0_input_44 ?_
        refine bg_aload C 45 dX0_input_45 ?_
        refine xg6 C 46 dX0_input_46 ?_
        refine bg_iload_n C 49 dX0_input_49 0 rfl rfl ?_
        refine xl6 C 50 (by omega) dX0_input_50 ?_
        refine bg_eq (hc) ?_
        refine bg_iaddN C 51 dX0_input_51 ?_
        refine bg_iload_n C 52 dX0_input_52 1 rfl rfl ?_
        refine xs7 C 53 (by omega) dX0_input_53 ?_
        refine bg_aload C 54 dX0_input_54 ?_
        refine xg6 C 55 dX0_input_55 ?_
        refine bg_iload_n C 58 dX0_input_58 0 rfl rfl ?_
        refine bg_dup2 C 59 dX0_input_59 rfl rfl ?_
        refine xl6 C 60 (by omega) dX0_input_60 ?_
        refine bg_eq (hc) ?_
        refine bg_iconst C 61 (nI 1) dX0_input_61 (by decide) ?_
        refine bg_iaddN C 62 dX0_input_62 ?_
        refine xs6 C 63 (by omega) dX0_input_63 ?_
        refine bg_aload C 64 dX0_input_64 ?_
        refine bg_dup C 65 dX0_input_65 rfl ?_
        refine xg2 C 66 dX0_input_66 ?_
        refine bg_iconst C 69 (1) dX0_input_69 (by decide) ?_
        refine bg_iadd C 70 dX0_input_70 ?_
        refine xp2 C 71 dX0_input_71 ?_
        refine bg_aload C 74 dX0_input_74 ?_
        refine xg8 C 75 dX0_input_75 ?_
        refine bg_iload_n C 78 dX0_input_78 0 rfl rfl ?_
        refine bg_aload C 79 dX0_input_79 ?_
        refine xg2 C 80 dX0_input_80 ?_
        refine xs8 C 83 (by omega) dX0_input_83 ?_
        refine bg_aload C 84 dX0_input_84 ?_
        refine xg6 C 85 dX0_input_85 ?_
        refine bg_iload_n C 88 dX0_input_88 0 rfl rfl ?_
        refine xl6 C 89 (by omega) dX0_input_89 ?_
        refine bg_eq (pk_us) ?_
        refine bg_ret C 90 rfl dX0_input_90 ?_
        exact bp_pick_ok (by omega) ht (bp_pick_ok (by omega) hf ⟨fun h => absurd h (by omega), fun _ => ⟨rfl, rfl⟩⟩)
      · refine bg_bipush C 35 (-4) dX0_input_35 (by decide) ?_
        refine bg_ret C 37 rfl dX0_input_37 ?_
        exact bp_pick_ok (by omega) ht (bp_pick_ok (by omega) hf ⟨fun _ => ⟨rfl, rfl⟩, fun h => absurd h (by omega)⟩)
def bx_constant (σ : bg_S) (t : Nat) (v : Int32) : bg_S := bg_U (bg_U (bg_U σ 5 (upd (σ 5) t v)) 2 (fun _ => σ 2 0 + 1)) 8 (upd (σ 8) t (σ 2 0 + 1))
theorem xm_constant (σ : bg_S) (a v : Int32) {T : Nat} (hT : σ 3 0 = nI T) (hT12 : T ≤ 12) : bg_M kX yX0_constant cX0_constant 4 (some .int) 1 21 [a, v] σ (fun r σ' => bp_pick T a (r = -1 ∧ σ = σ') (fun t => r = σ 5 t ∧ bx_constant σ t v = σ')) := by
  refine bg_enter okkX (by decide) rfl (Nat.le_of_ble_eq_true rfl) (fun X o C => ?_)
  rcases bp_dich T (by omega) a with ⟨hb, -⟩ | ⟨t, ht, rfl⟩
  · refine bg_aload C 0 dX0_constant_0 ?_
    refine bg_iload_n C 1 dX0_constant_1 0 rfl rfl ?_
    refine xc_noTask C 2 (xm_noTask σ _ hT hT12) (by decide) (Nat.le_of_ble_eq_true rfl) dX0_constant_2 (fun r σ1 h1 => ?_)
    obtain ⟨rfl, rfl⟩ := h1.1 hb
    refine bg_if_eq C 5 10 dX0_constant_5 (by decide) (fun c => absurd c (by decide)) (fun c5 => ?_)
    refine bg_iconst C 8 (-1) dX0_constant_8 (by decide) ?_
    refine bg_ret C 9 rfl dX0_constant_9 ?_
    exact bp_pick_bad hb ⟨rfl, rfl⟩
  · refine bg_aload C 0 dX0_constant_0 ?_
    refine bg_iload_n C 1 dX0_constant_1 0 rfl rfl ?_
    refine xc_noTask C 2 (xm_noTask σ _ hT hT12) (by decide) (Nat.le_of_ble_eq_true rfl) dX0_constant_2 (fun r σ1 h1 => ?_)
    obtain ⟨rfl, rfl⟩ := h1.2 t ht rfl
    refine bg_if_eq C 5 10 dX0_constant_5 (by decide) (fun c5 => ?_) (fun c => absurd rfl c)
    refine bg_aload C 10 dX0_constant_10 ?_
    refine xg5 C 11 dX0_constant_11 ?_
    refine bg_iload_n C 14 dX0_constant_14 0 rfl rfl ?_
    refine xl5 C 15 (by omega) dX0_constant_15 ?_
    refine bg_istore_n C 16 dX0_constant_16 2 rfl (by decide) ?_
    refine bg_aload C 17 dX0_constant_17 ?_
    refine xg5 C 18 dX0_constant_18 ?_
    refine bg_iload_n C 21 dX0_constant_21 0 rfl rfl ?_
    refine bg_iload_n C 22 dX0_constant_22 1 rfl rfl ?_
    refine xs5 C 23 (by omega) dX0_constant_23 ?_
    refine bg_aload C 24 dX0_constant_24 ?_
    refine bg_dup C 25 dX0_constant_25 rfl ?_
    refine xg2 C 26 dX0_constant_26 ?_
    refine bg_iconst C 29 (1) dX0_constant_29 (by decide) ?_
    refine bg_iadd C 30 dX0_constant_30 ?_
    refine xp2 C 31 dX0_constant_31 ?_
    refine bg_aload C 34 dX0_constant_34 ?_
    refine xg8 C 35 dX0_constant_35 ?_
    refine bg_iload_n C 38 dX0_constant_38 0 rfl rfl ?_
    refine bg_aload C 39 dX0_constant_39 ?_
    refine xg2 C 40 dX0_constant_40 ?_
    refine xs8 C 43 (by omega) dX0_constant_43 ?_
    refine bg_iload_n C 44 dX0_constant_44 2 rfl rfl ?_
    refine bg_ret C 45 rfl dX0_constant_45 ?_
    exact bp_pick_ok (by omega) ht ⟨rfl, rfl⟩
theorem xm_clean (σ : bg_S) (a : Int32) {T : Nat} (hT : σ 3 0 = nI T) (hT12 : T ≤ 12) : bg_M kX yX0_clean cX0_clean 3 (some .int) 1 21 [a] σ (fun r σ' => bp_pick T a (r = -1 ∧ σ = σ') (fun t => r = (if σ 9 t = 0 then 0 else 1) ∧ bg_U σ 9 (upd (σ 9) t 0) = σ')) := by
  refine bg_enter okkX (by decide) rfl (Nat.le_of_ble_eq_true rfl) (fun X o C => ?_)
  rcases bp_dich T (by omega) a with ⟨hb, -⟩ | ⟨t, ht, rfl⟩
  · refine bg_aload C 0 dX0_clean_0 ?_
    refine bg_iload_n C 1 dX0_clean_1 0 rfl rfl ?_
    refine xc_noTask C 2 (xm_noTask σ _ hT hT12) (by decide) (Nat.le_of_ble_eq_true rfl) dX0_clean_2 (fun r σ1 h1 => ?_)
    obtain ⟨rfl, rfl⟩ := h1.1 hb
    refine bg_if_eq C 5 10 dX0_clean_5 (by decide) (fun c => absurd c (by decide)) (fun c5 => ?_)
    refine bg_iconst C 8 (-1) dX0_clean_8 (by decide) ?_
    refine bg_ret C 9 rfl dX0_clean_9 ?_
    exact bp_pick_bad hb ⟨rfl, rfl⟩
  · refine bg_aload C 0 dX0_clean_0 ?_
    refine bg_iload_n C 1 dX0_clean_1 0 rfl rfl ?_
    refine xc_noTask C 2 (xm_noTask σ _ hT hT12) (by decide) (Nat.le_of_ble_eq_true rfl) dX0_clean_2 (fun r σ1 h1 => ?_)
    obtain ⟨rfl, rfl⟩ := h1.2 t ht rfl
    refine bg_if_eq C 5 10 dX0_clean_5 (by decide) (fun c5 => ?_) (fun c => absurd rfl c)
    refine bg_aload C 10 dX0_clean_10 ?_
    refine xg9 C 11 dX0_clean_11 ?_
    refine bg_iload_n C 14 dX0_clean_14 0 rfl rfl ?_
    refine xl9 C 15 (by omega) dX0_clean_15 ?_
    refine bg_if_eq C 16 23 dX0_clean_16 (by decide) (fun c16 => ?_) (fun c16 => ?_)
    · refine bg_iconst C 23 (0) dX0_clean_23 (by decide) ?_
      refine bg_istore_n C 24 dX0_clean_24 1 rfl (by decide) ?_
      refine bg_aload C 25 dX0_clean_25 ?_
      refine xg9 C 26 dX0_clean_26 ?_
      refine bg_iload_n C 29 dX0_clean_29 0 rfl rfl ?_
      refine bg_iconst C 30 (0) dX0_clean_30 (by decide) ?_
      refine xs9 C 31 (by omega) dX0_clean_31 rfl ?_
      refine bg_iload_n C 32 dX0_clean_32 1 rfl rfl ?_
      refine bg_ret C 33 rfl dX0_clean_33 ?_
      exact bp_pick_ok (by omega) ht ⟨(if_pos c16).symm, rfl⟩
    · refine bg_iconst C 19 (1) dX0_clean_19 (by decide) ?_
      refine bg_goto C 20 24 dX0_clean_20 (by decide) ?_
      refine bg_istore_n C 24 dX0_clean_24 1 rfl (by decide) ?_
      refine bg_aload C 25 dX0_clean_25 ?_
      refine xg9 C 26 dX0_clean_26 ?_
      refine bg_iload_n C 29 dX0_clean_29 0 rfl rfl ?_
      refine bg_iconst C 30 (0) dX0_clean_30 (by decide) ?_
      refine xs9 C 31 (by omega) dX0_clean_31 rfl ?_
      refine bg_iload_n C 32 dX0_clean_32 1 rfl rfl ?_
      refine bg_ret C 33 rfl dX0_clean_33 ?_
      exact bp_pick_ok (by omega) ht ⟨(if_neg c16).symm, rfl⟩
theorem xw_emptyStore {X : bg_E} {o : bg_O} {post : Int32 → bg_S → Prop} (C : bg_Cx X kX o cX0_emptyStore 2 0 0 none post) (σ : bg_S) (K : ∀ g : Nat → Int32, (∀ t, t < 12 → g t = -1) → bg_X X kX o (bg_U σ 18 g) [nI 12] 31 []) : ∀ (k i : Nat) (g : Nat → Int32), i + k = 12 → (∀ t, t < i → g t = -1) → bg_X X kX o (bg_U σ 18 g) [nI i] 12 [] := by
  intro k
  induction k with
  | zero =>
    intro i g hi hg
    have e : i = 12 := by omega
    subst e
    refine bg_iload_n C 12 dX0_emptyStore_12 0 rfl rfl ?_
    refine bg_bipush C 13 (nI 12) dX0_emptyStore_13 (by decide) ?_
    refine bg_icmpN_ge C 15 (by omega) (by omega) 31 dX0_emptyStore_15 (by decide) (fun c15 => ?_) (fun c => absurd c (by omega))
    exact K g hg
  | succ k ih =>
    intro i g hi hg
    refine bg_iload_n C 12 dX0_emptyStore_12 0 rfl rfl ?_
    refine bg_bipush C 13 (nI 12) dX0_emptyStore_13 (by decide) ?_
    refine bg_icmpN_ge C 15 (by omega) (by omega) 31 dX0_emptyStore_15 (by decide) (fun c => absurd c (by omega)) (fun c15 => ?_)
    refine bg_aload C 18 dX0_emptyStore_18 ?_
    refine xg18 C 19 dX0_emptyStore_19 ?_
    refine bg_iload_n C 22 dX0_emptyStore_22 0 rfl rfl ?_
    refine bg_iconst C 23 (-1) dX0_emptyStore_23 (by decide) ?_
    refine xs18 C 24 (by omega) dX0_emptyStore_24 ?_
    refine bg_iincN C 25 dX0_emptyStore_25 0 rfl (by decide) rfl ?_
    refine bg_goto C 28 12 dX0_emptyStore_28 (by decide) ?_
    refine bg_uu ?_
    exact ih (i + 1) (upd g i (-1)) (by omega) (bp_ext hg rfl)
theorem xm_emptyStore (σ : bg_S) : bg_M kX yX0_emptyStore cX0_emptyStore 2 none 0 0 [] σ (fun _ σ' => ∃ g : Nat → Int32, (∀ t, t < 12 → g t = -1) ∧ bg_U (bg_U (bg_U σ 16 (fun _ => 0)) 17 (fun _ => 0)) 18 g = σ') := by
  refine bg_enter okkX (by decide) rfl (Nat.le_of_ble_eq_true rfl) (fun X o C => ?_)
  refine bg_aload C 0 dX0_emptyStore_0 ?_
  refine bg_iconst C 1 (0) dX0_emptyStore_1 (by decide) ?_
  refine xp16 C 2 dX0_emptyStore_2 ?_
  refine bg_aload C 5 dX0_emptyStore_5 ?_
  refine bg_iconst C 6 (0) dX0_emptyStore_6 (by decide) ?_
  refine xp17 C 7 dX0_emptyStore_7 ?_
  refine bg_iconst C 10 (nI 0) dX0_emptyStore_10 (by decide) ?_
  refine bg_istore_n C 11 dX0_emptyStore_11 0 rfl (by decide) ?_
  refine bg_uid 18 ?_
  refine xw_emptyStore C _ (fun g hg => ?_) 12 0 _ (by omega) (fun t ht => absurd ht (by omega))
  refine bg_vret C 31 dX0_emptyStore_31 ?_
  exact ⟨g, hg, rfl⟩
theorem xm_status (σ : bg_S) (a : Int32) {T : Nat} (hT : σ 3 0 = nI T) (hT12 : T ≤ 12) : bg_M kX yX0_status cX0_status 2 (some .int) 1 21 [a] σ (fun r σ' => σ = σ' ∧ bp_pick T a (r = -1) (fun t => r = σ 25 t)) := by
  refine bg_enter okkX (by decide) rfl (Nat.le_of_ble_eq_true rfl) (fun X o C => ?_)
  rcases bp_dich T (by omega) a with ⟨hb, -⟩ | ⟨t, ht, rfl⟩
  · refine bg_aload C 0 dX0_status_0 ?_
    refine bg_iload_n C 1 dX0_status_1 0 rfl rfl ?_
    refine xc_noTask C 2 (xm_noTask σ _ hT hT12) (by decide) (Nat.le_of_ble_eq_true rfl) dX0_status_2 (fun r σ1 h1 => ?_)
    obtain ⟨rfl, rfl⟩ := h1.1 hb
    refine bg_if_eq C 5 12 dX0_status_5 (by decide) (fun c => absurd c (by decide)) (fun c5 => ?_)
    refine bg_iconst C 8 (-1) dX0_status_8 (by decide) ?_
    refine bg_goto C 9 18 dX0_status_9 (by decide) ?_
    refine bg_ret C 18 rfl dX0_status_18 ?_
    exact ⟨rfl, bp_pick_bad hb rfl⟩
  · refine bg_aload C 0 dX0_status_0 ?_
    refine bg_iload_n C 1 dX0_status_1 0 rfl rfl ?_
    refine xc_noTask C 2 (xm_noTask σ _ hT hT12) (by decide) (Nat.le_of_ble_eq_true rfl) dX0_status_2 (fun r σ1 h1 => ?_)
    obtain ⟨rfl, rfl⟩ := h1.2 t ht rfl
    refine bg_if_eq C 5 12 dX0_status_5 (by decide) (fun c5 => ?_) (fun c => absurd rfl c)
    refine bg_aload C 12 dX0_status_12 ?_
    refine xg25 C 13 dX0_status_13 ?_
    refine bg_iload_n C 16 dX0_status_16 0 rfl rfl ?_
    refine xl25 C 17 (by omega) dX0_status_17 ?_
    refine bg_ret C 18 rfl dX0_status_18 ?_
    exact ⟨rfl, bp_pick_ok (by omega) ht rfl⟩
theorem xm_output (σ : bg_S) (a : Int32) {T : Nat} (hT : σ 3 0 = nI T) (hT12 : T ≤ 12) : bg_M kX yX0_output cX0_output 2 (some .int) 1 21 [a] σ (fun r σ' => σ = σ' ∧ bp_pick T a (r = 0) (fun t => r = σ 14 t)) := by
  refine bg_enter okkX (by decide) rfl (Nat.le_of_ble_eq_true rfl) (fun X o C => ?_)
  rcases bp_dich T (by omega) a with ⟨hb, -⟩ | ⟨t, ht, rfl⟩
  · refine bg_aload C 0 dX0_output_0 ?_
    refine bg_iload_n C 1 dX0_output_1 0 rfl rfl ?_
    refine xc_noTask C 2 (xm_noTask σ _ hT hT12) (by decide) (Nat.le_of_ble_eq_true rfl) dX0_output_2 (fun r σ1 h1 => ?_)
    obtain ⟨rfl, rfl⟩ := h1.1 hb
    refine bg_if_eq C 5 12 dX0_output_5 (by decide) (fun c => absurd c (by decide)) (fun c5 => ?_)
    refine bg_iconst C 8 (nI 0) dX0_output_8 (by decide) ?_
    refine bg_goto C 9 18 dX0_output_9 (by decide) ?_
    refine bg_ret C 18 rfl dX0_output_18 ?_
    exact ⟨rfl, bp_pick_bad hb rfl⟩
  · refine bg_aload C 0 dX0_output_0 ?_
    refine bg_iload_n C 1 dX0_output_1 0 rfl rfl ?_
    refine xc_noTask C 2 (xm_noTask σ _ hT hT12) (by decide) (Nat.le_of_ble_eq_true rfl) dX0_output_2 (fun r σ1 h1 => ?_)
    obtain ⟨rfl, rfl⟩ := h1.2 t ht rfl
    refine bg_if_eq C 5 12 dX0_output_5 (by decide) (fun c5 => ?_) (fun c => absurd rfl c)
    refine bg_aload C 12 dX0_output_12 ?_
    refine xg14 C 13 dX0_output_13 ?_
    refine bg_iload_n C 16 dX0_output_16 0 rfl rfl ?_
    refine xl14 C 17 (by omega) dX0_output_17 ?_
    refine bg_ret C 18 rfl dX0_output_18 ?_
    exact ⟨rfl, bp_pick_ok (by omega) ht rfl⟩
theorem xm_executed (σ : bg_S) : bg_M kX yX0_executed cX0_executed 1 (some .int) 0 0 [] σ (fun r σ' => σ = σ' ∧ r = σ 27 0) := by
  refine bg_enter okkX (by decide) rfl (Nat.le_of_ble_eq_true rfl) (fun X o C => ?_)
  refine bg_aload C 0 dX0_executed_0 ?_
  refine xg27 C 1 dX0_executed_1 ?_
  refine bg_ret C 4 rfl dX0_executed_4 ?_
  exact ⟨rfl, rfl⟩
end
section
/-! BuildGraph: records -/
set_option maxRecDepth 100000
theorem xw_load {X : bg_E} {o : bg_O} {post : Int32 → bg_S → Prop} (C : bg_Cx X kX o cX0_loadRecord 5 0 0 none post) (σ : bg_S) {t : Nat} {b : Int32} (w : Nat → Int32) (ht : t < 12) (hO : bp_OK (σ 6) (σ 7)) (h0 : b = 0 → w = σ 14) (h1 : ¬ b = 0 → w = σ 26)
    (K : ∀ g : Nat → Int32, (∀ i, i < bp_cn (σ 6) t → g i = bp_vl (σ 0) (σ 7) w t i) → bg_X X kX o (bg_U σ 24 g) [nI t, b, nI (bp_cn (σ 6) t)] 86 []) : ∀ (k i : Nat) (g : Nat → Int32), i + k = bp_cn (σ 6) t → (∀ j, j < i → g j = bp_vl (σ 0) (σ 7) w t j) → bg_X X kX o (bg_U σ 24 g) [nI t, b, nI i] 2 [] := by
  obtain ⟨hc, hc3, hf⟩ := hO t ht
  intro k
  induction k with
  | zero =>
    intro i g hi hg
    have e : i = bp_cn (σ 6) t := by omega
    subst e
    refine bg_iload_n C 2 dX0_loadRecord_2 2 rfl rfl ?_
    refine bg_aload C 3 dX0_loadRecord_3 ?_
    refine xg6 C 4 dX0_loadRecord_4 ?_
    refine bg_iload_n C 7 dX0_loadRecord_7 0 rfl rfl ?_
    refine xl6 C 8 (by omega) dX0_loadRecord_8 ?_
    refine bg_eq (hc) ?_
    refine bg_icmpN_ge C 9 (by omega) (by omega) 86 dX0_loadRecord_9 (by decide) (fun c9 => ?_) (fun c => absurd c (by omega))
    exact K g hg
  | succ k ih =>
    intro i g hi hg
    obtain ⟨hf1, hf2⟩ := hf i (by omega)
    refine bg_iload_n C 2 dX0_loadRecord_2 2 rfl rfl ?_
    refine bg_aload C 3 dX0_loadRecord_3 ?_
    refine xg6 C 4 dX0_loadRecord_4 ?_
    refine bg_iload_n C 7 dX0_loadRecord_7 0 rfl rfl ?_
    refine xl6 C 8 (by omega) dX0_loadRecord_8 ?_
    refine bg_eq (hc) ?_
    refine bg_icmpN_ge C 9 (by omega) (by omega) 86 dX0_loadRecord_9 (by decide) (fun c => absurd c (by omega)) (fun c9 => ?_)
    refine bg_aload C 12 dX0_loadRecord_12 ?_
    refine xg7 C 13 dX0_loadRecord_13 ?_
    refine bg_iload_n C 16 dX0_loadRecord_16 0 rfl rfl ?_
    refine bg_iconst C 17 (nI 3) dX0_loadRecord_17 (by decide) ?_
    refine bg_imulN C 18 dX0_loadRecord_18 ?_
    refine bg_iload_n C 19 dX0_loadRecord_19 2 rfl rfl ?_
    refine bg_iaddN C 20 dX0_loadRecord_20 ?_
    refine xl7 C 21 (by omega) dX0_loadRecord_21 ?_
    refine bg_eq (hf1) ?_
    refine bg_istore C 22 dX0_loadRecord_22 3 rfl (by decide) ?_
    refine bg_iload C 24 dX0_loadRecord_24 3 rfl rfl ?_
    refine bg_bipush C 26 (nI 8) dX0_loadRecord_26 (by decide) ?_
    refine bg_icmpN_ge C 28 (by omega) (by omega) 47 dX0_loadRecord_28 (by decide) (fun c28 => ?_) (fun c28 => ?_)
    · refine bg_aload C 47 dX0_loadRecord_47 ?_
      refine xg24 C 48 dX0_loadRecord_48 ?_
      refine bg_iload_n C 51 dX0_loadRecord_51 2 rfl rfl ?_
      refine bg_iload_n C 52 dX0_loadRecord_52 1 rfl rfl ?_
      refine bg_if_eq C 53 69 dX0_loadRecord_53 (by decide) (fun c53 => ?_) (fun c53 => ?_)
      · refine bg_aload C 69 dX0_loadRecord_69 ?_
        refine xg14 C 70 dX0_loadRecord_70 ?_
        refine bg_iload C 73 dX0_loadRecord_73 3 rfl rfl ?_
        refine bg_bipush C 75 (nI 8) dX0_loadRecord_75 (by decide) ?_
        refine bg_isubN C 77 (by omega) dX0_loadRecord_77 ?_
        refine xl14 C 78 (by omega) dX0_loadRecord_78 ?_
        refine xs24 C 79 (by omega) dX0_loadRecord_79 ?_
        refine bg_iincN C 80 dX0_loadRecord_80 2 rfl (by decide) rfl ?_
        refine bg_goto C 83 2 dX0_loadRecord_83 (by decide) ?_
        refine bg_uu (bg_take 3 ?_)
        exact ih (i + 1) _ (by omega) (bp_ext hg (by rw [h0 c53]; exact (if_neg (Nat.not_lt.mpr c28)).symm))
      · refine bg_aload C 56 dX0_loadRecord_56 ?_
        refine xg26 C 57 dX0_loadRecord_57 ?_
        refine bg_iload C 60 dX0_loadRecord_60 3 rfl rfl ?_
        refine bg_bipush C 62 (nI 8) dX0_loadRecord_62 (by decide) ?_
        refine bg_isubN C 64 (by omega) dX0_loadRecord_64 ?_
        refine xl26 C 65 (by omega) dX0_loadRecord_65 ?_
        refine bg_goto C 66 79 dX0_loadRecord_66 (by decide) ?_
        refine xs24 C 79 (by omega) dX0_loadRecord_79 ?_
        refine bg_iincN C 80 dX0_loadRecord_80 2 rfl (by decide) rfl ?_
        refine bg_goto C 83 2 dX0_loadRecord_83 (by decide) ?_
        refine bg_uu (bg_take 3 ?_)
        exact ih (i + 1) _ (by omega) (bp_ext hg (by rw [h1 c53]; exact (if_neg (Nat.not_lt.mpr c28)).symm))
    · refine bg_aload C 31 dX0_loadRecord_31 ?_
      refine xg24 C 32 dX0_loadRecord_32 ?_
      refine bg_iload_n C 35 dX0_loadRecord_35 2 rfl rfl ?_
      refine bg_aload C 36 dX0_loadRecord_36 ?_
      refine xg0 C 37 dX0_loadRecord_37 ?_
      refine bg_iload C 40 dX0_loadRecord_40 3 rfl rfl ?_
      refine xl0 C 42 (by omega) dX0_loadRecord_42 ?_
      refine xs24 C 43 (by omega) dX0_loadRecord_43 ?_
      refine bg_goto C 44 80 dX0_loadRecord_44 (by decide) ?_
      refine bg_iincN C 80 dX0_loadRecord_80 2 rfl (by decide) rfl ?_
      refine bg_goto C 83 2 dX0_loadRecord_83 (by decide) ?_
      refine bg_uu (bg_take 3 ?_)
      exact ih (i + 1) _ (by omega) (bp_ext hg (if_pos c28).symm)
theorem xm_load (σ : bg_S) {t : Nat} {b : Int32} (w : Nat → Int32) (ht : t < 12) (hO : bp_OK (σ 6) (σ 7)) (h0 : b = 0 → w = σ 14) (h1 : ¬ b = 0 → w = σ 26) : bg_M kX yX0_loadRecord cX0_loadRecord 5 none 0 0 [nI t, b] σ (fun _ σ' => ∃ g : Nat → Int32, (∀ i, i < bp_cn (σ 6) t → g i = bp_vl (σ 0) (σ 7) w t i) ∧ bg_U σ 24 g = σ') := by
  refine bg_enter okkX (by decide) rfl (Nat.le_of_ble_eq_true rfl) (fun X o C => ?_)
  refine bg_iconst C 0 (nI 0) dX0_loadRecord_0 (by decide) ?_
  refine bg_istore_n C 1 dX0_loadRecord_1 2 rfl (by decide) ?_
  refine bg_uid 24 ?_
  refine xw_load C σ w ht hO h0 h1 (fun g hg => ?_) (bp_cn (σ 6) t) 0 _ (by omega) (fun j hj => absurd hj (by omega))
  refine bg_vret C 86 dX0_loadRecord_86 ?_
  exact ⟨g, hg, rfl⟩
theorem xw_result {X : bg_E} {o : bg_O} {post : Int32 → bg_S → Prop} (C : bg_Cx X kX o cX0_result 5 0 0 (some .int) post) (σ : bg_S) {t : Nat} (ht : t < 12) (hO : bp_OK (σ 6) (σ 7))
    (K : bg_X X kX o σ [nI t, bp_rs (σ 4 t) (σ 5 t) (σ 24) (bp_cn (σ 6) t), nI (bp_cn (σ 6) t)] 99 []) : ∀ (k i : Nat) (x : Int32), i + k = bp_cn (σ 6) t → x = bp_rs (σ 4 t) (σ 5 t) (σ 24) i → bg_X X kX o σ [nI t, x, nI i] 23 [] := by
  obtain ⟨hc, hc3, hf⟩ := hO t ht
  intro k
  induction k with
  | zero =>
    intro i x hi hx
    have e : i = bp_cn (σ 6) t := by omega
    subst e
    subst hx
    refine bg_iload_n C 23 dX0_result_23 2 rfl rfl ?_
    refine bg_aload C 24 dX0_result_24 ?_
    refine xg6 C 25 dX0_result_25 ?_
    refine bg_iload_n C 28 dX0_result_28 0 rfl rfl ?_
    refine xl6 C 29 (by omega) dX0_result_29 ?_
    refine bg_eq (hc) ?_
    refine bg_icmpN_ge C 30 (by omega) (by omega) 99 dX0_result_30 (by decide) (fun c30 => ?_) (fun c => absurd c (by omega))
    exact K
  | succ k ih =>
    intro i x hi hx
    subst hx
    refine bg_iload_n C 23 dX0_result_23 2 rfl rfl ?_
    refine bg_aload C 24 dX0_result_24 ?_
    refine xg6 C 25 dX0_result_25 ?_
    refine bg_iload_n C 28 dX0_result_28 0 rfl rfl ?_
    refine xl6 C 29 (by omega) dX0_result_29 ?_
    refine bg_eq (hc) ?_
    refine bg_icmpN_ge C 30 (by omega) (by omega) 99 dX0_result_30 (by decide) (fun c => absurd c (by omega)) (fun c30 => ?_)
    refine bg_aload C 33 dX0_result_33 ?_
    refine xg24 C 34 dX0_result_34 ?_
    refine bg_iload_n C 37 dX0_result_37 2 rfl rfl ?_
    refine xl24 C 38 (by omega) dX0_result_38 ?_
    refine bg_istore C 39 dX0_result_39 3 rfl (by decide) ?_
    refine bg_aload C 41 dX0_result_41 ?_
    refine xg4 C 42 dX0_result_42 ?_
    refine bg_iload_n C 45 dX0_result_45 0 rfl rfl ?_
    refine xl4 C 46 (by omega) dX0_result_46 ?_
    refine bg_iconst C 47 (1) dX0_result_47 (by decide) ?_
    refine bg_icmp_ne C 48 62 dX0_result_48 (by decide) (fun c48 => ?_) (fun c48 => ?_)
    · refine bg_aload C 62 dX0_result_62 ?_
      refine xg4 C 63 dX0_result_63 ?_
      refine bg_iload_n C 66 dX0_result_66 0 rfl rfl ?_
      refine xl4 C 67 (by omega) dX0_result_67 ?_
      refine bg_iconst C 68 (2) dX0_result_68 (by decide) ?_
      refine bg_icmp_ne C 69 88 dX0_result_69 (by decide) (fun c69 => ?_) (fun c69 => ?_)
      · refine bg_iload_n C 88 dX0_result_88 1 rfl rfl ?_
        refine bg_iload C 89 dX0_result_89 3 rfl rfl ?_
        refine bg_iadd C 91 dX0_result_91 ?_
        refine bg_istore_n C 92 dX0_result_92 1 rfl (by decide) ?_
        refine bg_iincN C 93 dX0_result_93 2 rfl (by decide) rfl ?_
        refine bg_goto C 96 23 dX0_result_96 (by decide) ?_
        refine bg_take 3 ?_
        exact ih (i + 1) _ (by omega) ((if_neg c48).trans (if_neg c69)).symm
      · refine bg_iload C 72 dX0_result_72 3 rfl rfl ?_
        refine bg_iload_n C 74 dX0_result_74 1 rfl rfl ?_
        refine bg_icmp_le C 75 83 dX0_result_75 (by decide) (fun c75 => ?_) (fun c75 => ?_)
        · refine bg_iload_n C 83 dX0_result_83 1 rfl rfl ?_
          refine bg_istore_n C 84 dX0_result_84 1 rfl (by decide) ?_
          refine bg_goto C 85 93 dX0_result_85 (by decide) ?_
          refine bg_iincN C 93 dX0_result_93 2 rfl (by decide) rfl ?_
          refine bg_goto C 96 23 dX0_result_96 (by decide) ?_
          refine bg_take 3 ?_
          exact ih (i + 1) _ (by omega) ((if_neg c48).trans ((if_pos c69).trans (if_pos c75))).symm
        · refine bg_iload C 78 dX0_result_78 3 rfl rfl ?_
          refine bg_goto C 80 84 dX0_result_80 (by decide) ?_
          refine bg_istore_n C 84 dX0_result_84 1 rfl (by decide) ?_
          refine bg_goto C 85 93 dX0_result_85 (by decide) ?_
          refine bg_iincN C 93 dX0_result_93 2 rfl (by decide) rfl ?_
          refine bg_goto C 96 23 dX0_result_96 (by decide) ?_
          refine bg_take 3 ?_
          exact ih (i + 1) _ (by omega) ((if_neg c48).trans ((if_pos c69).trans (if_neg c75))).symm
    · refine bg_iload_n C 51 dX0_result_51 1 rfl rfl ?_
      refine bg_bipush C 52 (31) dX0_result_52 (by decide) ?_
      refine bg_imul C 54 dX0_result_54 ?_
      refine bg_iload C 55 dX0_result_55 3 rfl rfl ?_
      refine bg_iadd C 57 dX0_result_57 ?_
      refine bg_istore_n C 58 dX0_result_58 1 rfl (by decide) ?_
      refine bg_goto C 59 93 dX0_result_59 (by decide) ?_
      refine bg_iincN C 93 dX0_result_93 2 rfl (by decide) rfl ?_
      refine bg_goto C 96 23 dX0_result_96 (by decide) ?_
      refine bg_take 3 ?_
      exact ih (i + 1) _ (by omega) (if_pos c48).symm
theorem xm_result (σ : bg_S) {t : Nat} (ht : t < 12) (hO : bp_OK (σ 6) (σ 7)) : bg_M kX yX0_result cX0_result 5 (some .int) 0 0 [nI t] σ (fun r σ' => r = bp_res (σ 4 t) (σ 5 t) (σ 24) (bp_cn (σ 6) t) ∧ σ = σ') := by
  refine bg_enter okkX (by decide) rfl (Nat.le_of_ble_eq_true rfl) (fun X o C => ?_)
  have K : bg_X X kX o σ [nI t, bp_rs (σ 4 t) (σ 5 t) (σ 24) (bp_cn (σ 6) t), nI (bp_cn (σ 6) t)] 99 [] := by
    refine bg_aload C 99 dX0_result_99 ?_
    refine xg4 C 100 dX0_result_100 ?_
    refine bg_iload_n C 103 dX0_result_103 0 rfl rfl ?_
    refine xl4 C 104 (by omega) dX0_result_104 ?_
    refine bg_iconst C 105 (3) dX0_result_105 (by decide) ?_
    refine bg_icmp_ne C 106 116 dX0_result_106 (by decide) (fun c106 => ?_) (fun c106 => ?_)
    · refine bg_iload_n C 116 dX0_result_116 1 rfl rfl ?_
      refine bg_ret C 117 rfl dX0_result_117 ?_
      exact ⟨(if_neg c106).symm, rfl⟩
    · refine bg_iload_n C 109 dX0_result_109 1 rfl rfl ?_
      refine bg_bipush C 110 (15) dX0_result_110 (by decide) ?_
      refine bg_iand C 112 dX0_result_112 ?_
      refine bg_goto C 113 117 dX0_result_113 (by decide) ?_
      refine bg_ret C 117 rfl dX0_result_117 ?_
      exact ⟨(if_pos c106).symm, rfl⟩
  refine bg_aload C 0 dX0_result_0 ?_
  refine xg4 C 1 dX0_result_1 ?_
  refine bg_iload_n C 4 dX0_result_4 0 rfl rfl ?_
  refine xl4 C 5 (by omega) dX0_result_5 ?_
  refine bg_iconst C 6 (3) dX0_result_6 (by decide) ?_
  refine bg_icmp_ne C 7 14 dX0_result_7 (by decide) (fun c7 => ?_) (fun c7 => ?_)
  · refine bg_aload C 14 dX0_result_14 ?_
    refine xg5 C 15 dX0_result_15 ?_
    refine bg_iload_n C 18 dX0_result_18 0 rfl rfl ?_
    refine xl5 C 19 (by omega) dX0_result_19 ?_
    refine bg_istore_n C 20 dX0_result_20 1 rfl (by decide) ?_
    refine bg_iconst C 21 (nI 0) dX0_result_21 (by decide) ?_
    refine bg_istore_n C 22 dX0_result_22 2 rfl (by decide) ?_
    exact xw_result C σ ht hO K (bp_cn (σ 6) t) 0 _ (by omega) (if_neg c7).symm
  · refine bg_iconst C 10 (0) dX0_result_10 (by decide) ?_
    refine bg_goto C 11 20 dX0_result_11 (by decide) ?_
    refine bg_istore_n C 20 dX0_result_20 1 rfl (by decide) ?_
    refine bg_iconst C 21 (nI 0) dX0_result_21 (by decide) ?_
    refine bg_istore_n C 22 dX0_result_22 2 rfl (by decide) ?_
    exact xw_result C σ ht hO K (bp_cn (σ 6) t) 0 _ (by omega) (if_pos c7).symm
theorem xw_hash {X : bg_E} {o : bg_O} {post : Int32 → bg_S → Prop} (C : bg_Cx X kX o cX0_hashOf 4 0 0 (some .int) post) (σ : bg_S) {t : Nat} (ht : t < 12) (hO : bp_OK (σ 6) (σ 7))
    (K : bg_X X kX o σ [nI t, bp_hs (σ 5 t) (σ 6 t) (σ 24) (bp_cn (σ 6) t), nI (bp_cn (σ 6) t)] 47 []) : ∀ (k i : Nat) (x : Int32), i + k = bp_cn (σ 6) t → x = bp_hs (σ 5 t) (σ 6 t) (σ 24) i → bg_X X kX o σ [nI t, x, nI i] 19 [] := by
  obtain ⟨hc, hc3, hf⟩ := hO t ht
  intro k
  induction k with
  | zero =>
    intro i x hi hx
    have e : i = bp_cn (σ 6) t := by omega
    subst e
    subst hx
    refine bg_iload_n C 19 dX0_hashOf_19 2 rfl rfl ?_
    refine bg_aload C 20 dX0_hashOf_20 ?_
    refine xg6 C 21 dX0_hashOf_21 ?_
    refine bg_iload_n C 24 dX0_hashOf_24 0 rfl rfl ?_
    refine xl6 C 25 (by omega) dX0_hashOf_25 ?_
    refine bg_eq (hc) ?_
    refine bg_icmpN_ge C 26 (by omega) (by omega) 47 dX0_hashOf_26 (by decide) (fun c26 => ?_) (fun c => absurd c (by omega))
    exact K
  | succ k ih =>
    intro i x hi hx
    subst hx
    refine bg_iload_n C 19 dX0_hashOf_19 2 rfl rfl ?_
    refine bg_aload C 20 dX0_hashOf_20 ?_
    refine xg6 C 21 dX0_hashOf_21 ?_
    refine bg_iload_n C 24 dX0_hashOf_24 0 rfl rfl ?_
    refine xl6 C 25 (by omega) dX0_hashOf_25 ?_
    refine bg_eq (hc) ?_
    refine bg_icmpN_ge C 26 (by omega) (by omega) 47 dX0_hashOf_26 (by decide) (fun c => absurd c (by omega)) (fun c26 => ?_)
    refine bg_iload_n C 29 dX0_hashOf_29 1 rfl rfl ?_
    refine bg_bipush C 30 (31) dX0_hashOf_30 (by decide) ?_
    refine bg_imul C 32 dX0_hashOf_32 ?_
    refine bg_aload C 33 dX0_hashOf_33 ?_
    refine xg24 C 34 dX0_hashOf_34 ?_
    refine bg_iload_n C 37 dX0_hashOf_37 2 rfl rfl ?_
    refine xl24 C 38 (by omega) dX0_hashOf_38 ?_
    refine bg_iadd C 39 dX0_hashOf_39 ?_
    refine bg_istore_n C 40 dX0_hashOf_40 1 rfl (by decide) ?_
    refine bg_iincN C 41 dX0_hashOf_41 2 rfl (by decide) rfl ?_
    refine bg_goto C 44 19 dX0_hashOf_44 (by decide) ?_
    exact ih (i + 1) _ (by omega) rfl
theorem xm_hash (σ : bg_S) {t : Nat} (ht : t < 12) (hO : bp_OK (σ 6) (σ 7)) : bg_M kX yX0_hashOf cX0_hashOf 4 (some .int) 0 0 [nI t] σ (fun r σ' => r = bp_hs (σ 5 t) (σ 6 t) (σ 24) (bp_cn (σ 6) t) ∧ σ = σ') := by
  refine bg_enter okkX (by decide) rfl (Nat.le_of_ble_eq_true rfl) (fun X o C => ?_)
  have K : bg_X X kX o σ [nI t, bp_hs (σ 5 t) (σ 6 t) (σ 24) (bp_cn (σ 6) t), nI (bp_cn (σ 6) t)] 47 [] := by
    refine bg_iload_n C 47 dX0_hashOf_47 1 rfl rfl ?_
    refine bg_ret C 48 rfl dX0_hashOf_48 ?_
    exact ⟨rfl, rfl⟩
  refine bg_aload C 0 dX0_hashOf_0 ?_
  refine xg5 C 1 dX0_hashOf_1 ?_
  refine bg_iload_n C 4 dX0_hashOf_4 0 rfl rfl ?_
  refine xl5 C 5 (by omega) dX0_hashOf_5 ?_
  refine bg_bipush C 6 (31) dX0_hashOf_6 (by decide) ?_
  refine bg_imul C 8 dX0_hashOf_8 ?_
  refine bg_aload C 9 dX0_hashOf_9 ?_
  refine xg6 C 10 dX0_hashOf_10 ?_
  refine bg_iload_n C 13 dX0_hashOf_13 0 rfl rfl ?_
  refine xl6 C 14 (by omega) dX0_hashOf_14 ?_
  refine bg_iadd C 15 dX0_hashOf_15 ?_
  refine bg_istore_n C 16 dX0_hashOf_16 1 rfl (by decide) ?_
  refine bg_iconst C 17 (nI 0) dX0_hashOf_17 (by decide) ?_
  refine bg_istore_n C 18 dX0_hashOf_18 2 rfl (by decide) ?_
  exact xw_hash C σ ht hO K (bp_cn (σ 6) t) 0 _ (by omega) rfl
/-- the record at hand is the last one -/
def bx_last (σ : bg_S) (t : Nat) : Prop := ¬ σ 9 t = 0 ∧ σ 10 t = σ 5 t ∧ σ 11 t = σ 6 t ∧ ∀ i, i < bp_cn (σ 6) t → σ 12 (t * 3 + i) = σ 24 i
theorem xw_last {X : bg_E} {o : bg_O} (σ : bg_S) {t : Nat} (C : bg_Cx X kX o cX0_isLast 3 0 0 (some .boolean) (fun r σ' => σ = σ' ∧ ((r = 1 ∧ bx_last σ t) ∨ (r = 0 ∧ ¬ bx_last σ t)))) (ht : t < 12) (hO : bp_OK (σ 6) (σ 7)) (h9 : ¬ σ 9 t = 0) (h10 : σ 10 t = σ 5 t) (h11 : σ 11 t = σ 6 t) : ∀ (k i : Nat), i + k = bp_cn (σ 6) t → (∀ j, j < i → σ 12 (t * 3 + j) = σ 24 j) → bg_X X kX o σ [nI t, nI i] 43 [] := by
  obtain ⟨hc, hc3, hf⟩ := hO t ht
  intro k
  induction k with
  | zero =>
    intro i hi hg
    have e : i = bp_cn (σ 6) t := by omega
    subst e
    refine bg_iload_n C 43 dX0_isLast_43 1 rfl rfl ?_
    refine bg_aload C 44 dX0_isLast_44 ?_
    refine xg6 C 45 dX0_isLast_45 ?_
    refine bg_iload_n C 48 dX0_isLast_48 0 rfl rfl ?_
    refine xl6 C 49 (by omega) dX0_isLast_49 ?_
    refine bg_eq (hc) ?_
    refine bg_icmpN_ge C 50 (by omega) (by omega) 80 dX0_isLast_50 (by decide) (fun c50 => ?_) (fun c => absurd c (by omega))
    refine bg_iconst C 80 (nI 1) dX0_isLast_80 (by decide) ?_
    refine bg_ret C 81 rfl dX0_isLast_81 ?_
    exact ⟨rfl, Or.inl ⟨rfl, h9, h10, h11, hg⟩⟩
  | succ k ih =>
    intro i hi hg
    refine bg_iload_n C 43 dX0_isLast_43 1 rfl rfl ?_
    refine bg_aload C 44 dX0_isLast_44 ?_
    refine xg6 C 45 dX0_isLast_45 ?_
    refine bg_iload_n C 48 dX0_isLast_48 0 rfl rfl ?_
    refine xl6 C 49 (by omega) dX0_isLast_49 ?_
    refine bg_eq (hc) ?_
    refine bg_icmpN_ge C 50 (by omega) (by omega) 80 dX0_isLast_50 (by decide) (fun c => absurd c (by omega)) (fun c50 => ?_)
    refine bg_aload C 53 dX0_isLast_53 ?_
    refine xg12 C 54 dX0_isLast_54 ?_
    refine bg_iload_n C 57 dX0_isLast_57 0 rfl rfl ?_
    refine bg_iconst C 58 (nI 3) dX0_isLast_58 (by decide) ?_
    refine bg_imulN C 59 dX0_isLast_59 ?_
    refine bg_iload_n C 60 dX0_isLast_60 1 rfl rfl ?_
    refine bg_iaddN C 61 dX0_isLast_61 ?_
    refine xl12 C 62 (by omega) dX0_isLast_62 ?_
    refine bg_aload C 63 dX0_isLast_63 ?_
    refine xg24 C 64 dX0_isLast_64 ?_
    refine bg_iload_n C 67 dX0_isLast_67 1 rfl rfl ?_
    refine xl24 C 68 (by omega) dX0_isLast_68 ?_
    refine bg_icmp_eq C 69 74 dX0_isLast_69 (by decide) (fun c69 => ?_) (fun c69 => ?_)
    · refine bg_iincN C 74 dX0_isLast_74 1 rfl (by decide) rfl ?_
      refine bg_goto C 77 43 dX0_isLast_77 (by decide) ?_
      exact ih (i + 1) (by omega) (lt_s hg c69)
    · refine bg_iconst C 72 (nI 0) dX0_isLast_72 (by decide) ?_
      refine bg_ret C 73 rfl dX0_isLast_73 ?_
      exact ⟨rfl, Or.inr ⟨rfl, fun h => c69 (h.2.2.2 i (by omega))⟩⟩
theorem xm_last (σ : bg_S) {t : Nat} (ht : t < 12) (hO : bp_OK (σ 6) (σ 7)) : bg_M kX yX0_isLast cX0_isLast 3 (some .boolean) 0 0 [nI t] σ (fun r σ' => σ = σ' ∧ ((r = 1 ∧ bx_last σ t) ∨ (r = 0 ∧ ¬ bx_last σ t))) := by
  refine bg_enter okkX (by decide) rfl (Nat.le_of_ble_eq_true rfl) (fun X o C => ?_)
  refine bg_aload C 0 dX0_isLast_0 ?_
  refine xg9 C 1 dX0_isLast_1 ?_
  refine bg_iload_n C 4 dX0_isLast_4 0 rfl rfl ?_
  refine xl9 C 5 (by omega) dX0_isLast_5 ?_
  refine bg_if_eq C 6 39 dX0_isLast_6 (by decide) (fun c6 => ?_) (fun c6 => ?_)
  · refine bg_iconst C 39 (nI 0) dX0_isLast_39 (by decide) ?_
    refine bg_ret C 40 rfl dX0_isLast_40 ?_
    exact ⟨rfl, Or.inr ⟨rfl, fun h => h.1 c6⟩⟩
  · refine bg_aload C 9 dX0_isLast_9 ?_
    refine xg10 C 10 dX0_isLast_10 ?_
    refine bg_iload_n C 13 dX0_isLast_13 0 rfl rfl ?_
    refine xl10 C 14 (by omega) dX0_isLast_14 ?_
    refine bg_aload C 15 dX0_isLast_15 ?_
    refine xg5 C 16 dX0_isLast_16 ?_
    refine bg_iload_n C 19 dX0_isLast_19 0 rfl rfl ?_
    refine xl5 C 20 (by omega) dX0_isLast_20 ?_
    refine bg_icmp_ne C 21 39 dX0_isLast_21 (by decide) (fun c21 => ?_) (fun c21 => ?_)
    · refine bg_iconst C 39 (nI 0) dX0_isLast_39 (by decide) ?_
      refine bg_ret C 40 rfl dX0_isLast_40 ?_
      exact ⟨rfl, Or.inr ⟨rfl, fun h => c21 h.2.1⟩⟩
    · refine bg_aload C 24 dX0_isLast_24 ?_
      refine xg11 C 25 dX0_isLast_25 ?_
      refine bg_iload_n C 28 dX0_isLast_28 0 rfl rfl ?_
      refine xl11 C 29 (by omega) dX0_isLast_29 ?_
      refine bg_aload C 30 dX0_isLast_30 ?_
      refine xg6 C 31 dX0_isLast_31 ?_
      refine bg_iload_n C 34 dX0_isLast_34 0 rfl rfl ?_
      refine xl6 C 35 (by omega) dX0_isLast_35 ?_
      refine bg_icmp_eq C 36 41 dX0_isLast_36 (by decide) (fun c36 => ?_) (fun c36 => ?_)
      · refine bg_iconst C 41 (nI 0) dX0_isLast_41 (by decide) ?_
        refine bg_istore_n C 42 dX0_isLast_42 1 rfl (by decide) ?_
        exact xw_last σ C ht hO c6 c21 c36 (bp_cn (σ 6) t) 0 (by omega) (fun j hj => absurd hj (by omega))
      · refine bg_iconst C 39 (nI 0) dX0_isLast_39 (by decide) ?_
        refine bg_ret C 40 rfl dX0_isLast_40 ?_
        exact ⟨rfl, Or.inr ⟨rfl, fun h => c36 h.2.2.1⟩⟩
/-- the record at hand is the one kept at a -/
def bx_rec (σ : bg_S) (t a : Nat) (h : Int32) : Prop := σ 20 a = h ∧ σ 21 a = σ 5 t ∧ σ 22 a = σ 6 t ∧ ∀ i, i < bp_cn (σ 6) t → σ 23 (a * 3 + i) = σ 24 i
theorem xw_rec {X : bg_E} {o : bg_O} (σ : bg_S) {t a : Nat} {h : Int32} (C : bg_Cx X kX o cX0_isRecord 5 0 0 (some .boolean) (fun r σ' => σ = σ' ∧ ((r = 1 ∧ bx_rec σ t a h) ∨ (r = 0 ∧ ¬ bx_rec σ t a h)))) (ht : t < 12) (ha : a < 480) (hO : bp_OK (σ 6) (σ 7)) (h9 : σ 20 a = h) (h10 : σ 21 a = σ 5 t) (h11 : σ 22 a = σ 6 t) : ∀ (k i : Nat), i + k = bp_cn (σ 6) t → (∀ j, j < i → σ 23 (a * 3 + j) = σ 24 j) → bg_X X kX o σ [nI t, nI a, h, nI i] 45 [] := by
  obtain ⟨hc, hc3, hf⟩ := hO t ht
  intro k
  induction k with
  | zero =>
    intro i hi hg
    have e : i = bp_cn (σ 6) t := by omega
    subst e
    refine bg_iload C 45 dX0_isRecord_45 3 rfl rfl ?_
    refine bg_aload C 47 dX0_isRecord_47 ?_
    refine xg6 C 48 dX0_isRecord_48 ?_
    refine bg_iload_n C 51 dX0_isRecord_51 0 rfl rfl ?_
    refine xl6 C 52 (by omega) dX0_isRecord_52 ?_
    refine bg_eq (hc) ?_
    refine bg_icmpN_ge C 53 (by omega) (by omega) 85 dX0_isRecord_53 (by decide) (fun c53 => ?_) (fun c => absurd c (by omega))
    refine bg_iconst C 85 (nI 1) dX0_isRecord_85 (by decide) ?_
    refine bg_ret C 86 rfl dX0_isRecord_86 ?_
    exact ⟨rfl, Or.inl ⟨rfl, h9, h10, h11, hg⟩⟩
  | succ k ih =>
    intro i hi hg
    refine bg_iload C 45 dX0_isRecord_45 3 rfl rfl ?_
    refine bg_aload C 47 dX0_isRecord_47 ?_
    refine xg6 C 48 dX0_isRecord_48 ?_
    refine bg_iload_n C 51 dX0_isRecord_51 0 rfl rfl ?_
    refine xl6 C 52 (by omega) dX0_isRecord_52 ?_
    refine bg_eq (hc) ?_
    refine bg_icmpN_ge C 53 (by omega) (by omega) 85 dX0_isRecord_53 (by decide) (fun c => absurd c (by omega)) (fun c53 => ?_)
    refine bg_aload C 56 dX0_isRecord_56 ?_
    refine xg23 C 57 dX0_isRecord_57 ?_
    refine bg_iload_n C 60 dX0_isRecord_60 1 rfl rfl ?_
    refine bg_iconst C 61 (nI 3) dX0_isRecord_61 (by decide) ?_
    refine bg_imulN C 62 dX0_isRecord_62 ?_
    refine bg_iload C 63 dX0_isRecord_63 3 rfl rfl ?_
    refine bg_iaddN C 65 dX0_isRecord_65 ?_
    refine xl23 C 66 (by omega) dX0_isRecord_66 ?_
    refine bg_aload C 67 dX0_isRecord_67 ?_
    refine xg24 C 68 dX0_isRecord_68 ?_
    refine bg_iload C 71 dX0_isRecord_71 3 rfl rfl ?_
    refine xl24 C 73 (by omega) dX0_isRecord_73 ?_
    refine bg_icmp_eq C 74 79 dX0_isRecord_74 (by decide) (fun c74 => ?_) (fun c74 => ?_)
    · refine bg_iincN C 79 dX0_isRecord_79 3 rfl (by decide) rfl ?_
      refine bg_goto C 82 45 dX0_isRecord_82 (by decide) ?_
      exact ih (i + 1) (by omega) (lt_s hg c74)
    · refine bg_iconst C 77 (nI 0) dX0_isRecord_77 (by decide) ?_
      refine bg_ret C 78 rfl dX0_isRecord_78 ?_
      exact ⟨rfl, Or.inr ⟨rfl, fun h => c74 (h.2.2.2 i (by omega))⟩⟩
theorem xm_rec (σ : bg_S) {t a : Nat} (h : Int32) (ht : t < 12) (ha : a < 480) (hO : bp_OK (σ 6) (σ 7)) : bg_M kX yX0_isRecord cX0_isRecord 5 (some .boolean) 0 0 [nI t, nI a, h] σ (fun r σ' => σ = σ' ∧ ((r = 1 ∧ bx_rec σ t a h) ∨ (r = 0 ∧ ¬ bx_rec σ t a h))) := by
  refine bg_enter okkX (by decide) rfl (Nat.le_of_ble_eq_true rfl) (fun X o C => ?_)
  refine bg_aload C 0 dX0_isRecord_0 ?_
  refine xg20 C 1 dX0_isRecord_1 ?_
  refine bg_iload_n C 4 dX0_isRecord_4 1 rfl rfl ?_
  refine xl20 C 5 (by omega) dX0_isRecord_5 ?_
  refine bg_iload_n C 6 dX0_isRecord_6 2 rfl rfl ?_
  refine bg_icmp_ne C 7 40 dX0_isRecord_7 (by decide) (fun c7 => ?_) (fun c7 => ?_)
  · refine bg_iconst C 40 (nI 0) dX0_isRecord_40 (by decide) ?_
    refine bg_ret C 41 rfl dX0_isRecord_41 ?_
    exact ⟨rfl, Or.inr ⟨rfl, fun h => c7 h.1⟩⟩
  · refine bg_aload C 10 dX0_isRecord_10 ?_
    refine xg21 C 11 dX0_isRecord_11 ?_
    refine bg_iload_n C 14 dX0_isRecord_14 1 rfl rfl ?_
    refine xl21 C 15 (by omega) dX0_isRecord_15 ?_
    refine bg_aload C 16 dX0_isRecord_16 ?_
    refine xg5 C 17 dX0_isRecord_17 ?_
    refine bg_iload_n C 20 dX0_isRecord_20 0 rfl rfl ?_
    refine xl5 C 21 (by omega) dX0_isRecord_21 ?_
    refine bg_icmp_ne C 22 40 dX0_isRecord_22 (by decide) (fun c22 => ?_) (fun c22 => ?_)
    · refine bg_iconst C 40 (nI 0) dX0_isRecord_40 (by decide) ?_
      refine bg_ret C 41 rfl dX0_isRecord_41 ?_
      exact ⟨rfl, Or.inr ⟨rfl, fun h => c22 h.2.1⟩⟩
    · refine bg_aload C 25 dX0_isRecord_25 ?_
      refine xg22 C 26 dX0_isRecord_26 ?_
      refine bg_iload_n C 29 dX0_isRecord_29 1 rfl rfl ?_
      refine xl22 C 30 (by omega) dX0_isRecord_30 ?_
      refine bg_aload C 31 dX0_isRecord_31 ?_
      refine xg6 C 32 dX0_isRecord_32 ?_
      refine bg_iload_n C 35 dX0_isRecord_35 0 rfl rfl ?_
      refine xl6 C 36 (by omega) dX0_isRecord_36 ?_
      refine bg_icmp_eq C 37 42 dX0_isRecord_37 (by decide) (fun c37 => ?_) (fun c37 => ?_)
      · refine bg_iconst C 42 (nI 0) dX0_isRecord_42 (by decide) ?_
        refine bg_istore C 43 dX0_isRecord_43 3 rfl (by decide) ?_
        exact xw_rec σ C ht ha hO c7 c22 c37 (bp_cn (σ 6) t) 0 (by omega) (fun j hj => absurd hj (by omega))
      · refine bg_iconst C 40 (nI 0) dX0_isRecord_40 (by decide) ?_
        refine bg_ret C 41 rfl dX0_isRecord_41 ?_
        exact ⟨rfl, Or.inr ⟨rfl, fun h => c37 h.2.2.1⟩⟩
/-- the revision in which input i of t changed last -/
def bx_chg (σ : bg_S) (t i : Nat) : Int32 := if bp_fr (σ 7) t i < 8 then σ 1 (bp_fr (σ 7) t i) else σ 15 (bp_fr (σ 7) t i - 8)
def bx_unt (σ : bg_S) (t : Nat) : Prop := ¬ σ 9 t = 0 ∧ σ 8 t ≤ σ 13 t ∧ ∀ i, i < bp_cn (σ 6) t → bx_chg σ t i ≤ σ 13 t
theorem xw_unt {X : bg_E} {o : bg_O} (σ : bg_S) {t : Nat} (C : bg_Cx X kX o cX0_untouched 5 0 0 (some .boolean) (fun r σ' => σ = σ' ∧ ((r = 1 ∧ bx_unt σ t) ∨ (r = 0 ∧ ¬ bx_unt σ t)))) (ht : t < 12) (hO : bp_OK (σ 6) (σ 7)) (h9 : ¬ σ 9 t = 0) (h8 : σ 8 t ≤ σ 13 t) : ∀ (k i : Nat), i + k = bp_cn (σ 6) t → (∀ j, j < i → bx_chg σ t j ≤ σ 13 t) → bg_X X kX o σ [nI t, nI i] 28 [] := by
  obtain ⟨hc, hc3, hf⟩ := hO t ht
  intro k
  induction k with
  | zero =>
    intro i hi hg
    have e : i = bp_cn (σ 6) t := by omega
    subst e
    refine bg_iload_n C 28 dX0_untouched_28 1 rfl rfl ?_
    refine bg_aload C 29 dX0_untouched_29 ?_
    refine xg6 C 30 dX0_untouched_30 ?_
    refine bg_iload_n C 33 dX0_untouched_33 0 rfl rfl ?_
    refine xl6 C 34 (by omega) dX0_untouched_34 ?_
    refine bg_eq (hc) ?_
    refine bg_icmpN_ge C 35 (by omega) (by omega) 94 dX0_untouched_35 (by decide) (fun c35 => ?_) (fun c => absurd c (by omega))
    refine bg_iconst C 94 (nI 1) dX0_untouched_94 (by decide) ?_
    refine bg_ret C 95 rfl dX0_untouched_95 ?_
    exact ⟨rfl, Or.inl ⟨rfl, h9, h8, hg⟩⟩
  | succ k ih =>
    intro i hi hg
    obtain ⟨hf1, hf2⟩ := hf i (by omega)
    have K : bg_X X kX o σ [nI t, nI i, nI (bp_fr (σ 7) t i)] 73 [.int (bx_chg σ t i)] := by
      refine bg_istore C 73 dX0_untouched_73 3 rfl (by decide) ?_
      refine bg_iload C 75 dX0_untouched_75 3 rfl rfl ?_
      refine bg_aload C 77 dX0_untouched_77 ?_
      refine xg13 C 78 dX0_untouched_78 ?_
      refine bg_iload_n C 81 dX0_untouched_81 0 rfl rfl ?_
      refine xl13 C 82 (by omega) dX0_untouched_82 ?_
      refine bg_icmp_le C 83 88 dX0_untouched_83 (by decide) (fun c83 => ?_) (fun c83 => ?_)
      · refine bg_iincN C 88 dX0_untouched_88 1 rfl (by decide) rfl ?_
        refine bg_goto C 91 28 dX0_untouched_91 (by decide) ?_
        refine bg_take 2 ?_
        exact ih (i + 1) (by omega) (lt_s hg c83)
      · refine bg_iconst C 86 (nI 0) dX0_untouched_86 (by decide) ?_
        refine bg_ret C 87 rfl dX0_untouched_87 ?_
        exact ⟨rfl, Or.inr ⟨rfl, fun h => c83 (h.2.2 i (by omega))⟩⟩
    refine bg_iload_n C 28 dX0_untouched_28 1 rfl rfl ?_
    refine bg_aload C 29 dX0_untouched_29 ?_
    refine xg6 C 30 dX0_untouched_30 ?_
    refine bg_iload_n C 33 dX0_untouched_33 0 rfl rfl ?_
    refine xl6 C 34 (by omega) dX0_untouched_34 ?_
    refine bg_eq (hc) ?_
    refine bg_icmpN_ge C 35 (by omega) (by omega) 94 dX0_untouched_35 (by decide) (fun c => absurd c (by omega)) (fun c35 => ?_)
    refine bg_aload C 38 dX0_untouched_38 ?_
    refine xg7 C 39 dX0_untouched_39 ?_
    refine bg_iload_n C 42 dX0_untouched_42 0 rfl rfl ?_
    refine bg_iconst C 43 (nI 3) dX0_untouched_43 (by decide) ?_
    refine bg_imulN C 44 dX0_untouched_44 ?_
    refine bg_iload_n C 45 dX0_untouched_45 1 rfl rfl ?_
    refine bg_iaddN C 46 dX0_untouched_46 ?_
    refine xl7 C 47 (by omega) dX0_untouched_47 ?_
    refine bg_eq (hf1) ?_
    refine bg_istore_n C 48 dX0_untouched_48 2 rfl (by decide) ?_
    refine bg_iload_n C 49 dX0_untouched_49 2 rfl rfl ?_
    refine bg_bipush C 50 (nI 8) dX0_untouched_50 (by decide) ?_
    refine bg_icmpN_ge C 52 (by omega) (by omega) 64 dX0_untouched_52 (by decide) (fun c52 => ?_) (fun c52 => ?_)
    · refine bg_aload C 64 dX0_untouched_64 ?_
      refine xg15 C 65 dX0_untouched_65 ?_
      refine bg_iload_n C 68 dX0_untouched_68 2 rfl rfl ?_
      refine bg_bipush C 69 (nI 8) dX0_untouched_69 (by decide) ?_
      refine bg_isubN C 71 (by omega) dX0_untouched_71 ?_
      refine xl15 C 72 (by omega) dX0_untouched_72 ?_
      refine bg_eq (y := bx_chg σ t i) (if_neg (Nat.not_lt.mpr c52)).symm ?_
      exact K
    · refine bg_aload C 55 dX0_untouched_55 ?_
      refine xg1 C 56 dX0_untouched_56 ?_
      refine bg_iload_n C 59 dX0_untouched_59 2 rfl rfl ?_
      refine xl1 C 60 (by omega) dX0_untouched_60 ?_
      refine bg_goto C 61 73 dX0_untouched_61 (by decide) ?_
      refine bg_eq (y := bx_chg σ t i) (if_pos c52).symm ?_
      exact K
theorem xm_unt (σ : bg_S) {t : Nat} (ht : t < 12) (hO : bp_OK (σ 6) (σ 7)) : bg_M kX yX0_untouched cX0_untouched 5 (some .boolean) 0 0 [nI t] σ (fun r σ' => σ = σ' ∧ ((r = 1 ∧ bx_unt σ t) ∨ (r = 0 ∧ ¬ bx_unt σ t))) := by
  refine bg_enter okkX (by decide) rfl (Nat.le_of_ble_eq_true rfl) (fun X o C => ?_)
  refine bg_aload C 0 dX0_untouched_0 ?_
  refine xg9 C 1 dX0_untouched_1 ?_
  refine bg_iload_n C 4 dX0_untouched_4 0 rfl rfl ?_
  refine xl9 C 5 (by omega) dX0_untouched_5 ?_
  refine bg_if_eq C 6 24 dX0_untouched_6 (by decide) (fun c6 => ?_) (fun c6 => ?_)
  · refine bg_iconst C 24 (nI 0) dX0_untouched_24 (by decide) ?_
    refine bg_ret C 25 rfl dX0_untouched_25 ?_
    exact ⟨rfl, Or.inr ⟨rfl, fun h => h.1 c6⟩⟩
  · refine bg_aload C 9 dX0_untouched_9 ?_
    refine xg8 C 10 dX0_untouched_10 ?_
    refine bg_iload_n C 13 dX0_untouched_13 0 rfl rfl ?_
    refine xl8 C 14 (by omega) dX0_untouched_14 ?_
    refine bg_aload C 15 dX0_untouched_15 ?_
    refine xg13 C 16 dX0_untouched_16 ?_
    refine bg_iload_n C 19 dX0_untouched_19 0 rfl rfl ?_
    refine xl13 C 20 (by omega) dX0_untouched_20 ?_
    refine bg_icmp_le C 21 26 dX0_untouched_21 (by decide) (fun c21 => ?_) (fun c21 => ?_)
    · refine bg_iconst C 26 (nI 0) dX0_untouched_26 (by decide) ?_
      refine bg_istore_n C 27 dX0_untouched_27 1 rfl (by decide) ?_
      exact xw_unt σ C ht hO c6 c21 (bp_cn (σ 6) t) 0 (by omega) (fun j hj => absurd hj (by omega))
    · refine bg_iconst C 24 (nI 0) dX0_untouched_24 (by decide) ?_
      refine bg_ret C 25 rfl dX0_untouched_25 ?_
      exact ⟨rfl, Or.inr ⟨rfl, fun h => c21 h.2.1⟩⟩
end
section
/-! BuildGraph: the store, needed tasks, handle -/
set_option maxRecDepth 100000
/-- the hash of the record at hand -/
def bx_hh (σ : bg_S) (t : Nat) : Int32 := bp_hs (σ 5 t) (σ 6 t) (σ 24) (bp_cn (σ 6) t)
/-- the record at hand is one of those kept at the places L -/
def bx_in (σ : bg_S) (t : Nat) (L : List Nat) : Prop := ∃ a, a ∈ L ∧ bx_rec σ t a (bx_hh σ t)
theorem xw_in {X : bg_E} {o : bg_O} (σ : bg_S) {t : Nat} (L0 : List Nat) (C : bg_Cx X kX o cX0_inStore 6 1 24 (some .boolean) (fun r σ' => σ = σ' ∧ ((r = 1 ∧ bx_in σ t L0) ∨ (r = 0 ∧ ¬ bx_in σ t L0)))) (ht : t < 12) (hO : bp_OK (σ 6) (σ 7)) : ∀ (L : List Nat) (r : Int32) (k : Nat), bp_ch (σ 19) r L → (∀ a, a ∈ L → a < 480) → k + L.length ≤ 480 → (bx_in σ t L → bx_in σ t L0) → (¬ bx_in σ t L → ¬ bx_in σ t L0) → bg_X X kX o σ [nI t, bx_hh σ t, r, nI k] 16 [] := by
  intro L
  induction L with
  | nil =>
    intro r k hch hl hk hy hn
    have hno : ¬ bx_in σ t L0 := hn (fun h => by obtain ⟨a, ha, -⟩ := h; cases ha)
    have K : bg_X X kX o σ [nI t, bx_hh σ t, r, nI k] 57 [] := by
      refine bg_iconst C 57 (nI 0) dX0_inStore_57 (by decide) ?_
      refine bg_ret C 58 rfl dX0_inStore_58 ?_
      exact ⟨rfl, Or.inr ⟨rfl, hno⟩⟩
    have hk : k ≤ 480 := by simpa using hk
    refine bg_iload C 16 dX0_inStore_16 3 rfl rfl ?_
    refine bg_sipush C 18 (nI 480) dX0_inStore_18 (by decide) ?_
    refine bg_icmpN_ge C 21 (by omega) (by omega) 57 dX0_inStore_21 (by decide) (fun c21 => ?_) (fun c21 => ?_)
    · exact K
    · refine bg_iload_n C 24 dX0_inStore_24 2 rfl rfl ?_
      refine bg_if_lt C 25 57 dX0_inStore_25 (by decide) (fun c25 => ?_) (fun c => absurd hch c)
      exact K
  | cons a L ih =>
    intro r k hch hl hk hy hn
    obtain ⟨rfl, hch⟩ := hch
    have hk : k + (L.length + 1) ≤ 480 := by simpa using hk
    have ha := hl a List.mem_cons_self
    refine bg_iload C 16 dX0_inStore_16 3 rfl rfl ?_
    refine bg_sipush C 18 (nI 480) dX0_inStore_18 (by decide) ?_
    refine bg_icmpN_ge C 21 (by omega) (by omega) 57 dX0_inStore_21 (by decide) (fun c => absurd c (by omega)) (fun c21 => ?_)
    refine bg_iload_n C 24 dX0_inStore_24 2 rfl rfl ?_
    refine bg_if_lt C 25 57 dX0_inStore_25 (by decide) (fun c => absurd c (nI_pos (by omega))) (fun c25 => ?_)
    refine bg_aload C 28 dX0_inStore_28 ?_
    refine bg_iload_n C 29 dX0_inStore_29 0 rfl rfl ?_
    refine bg_iload_n C 30 dX0_inStore_30 2 rfl rfl ?_
    refine bg_iload_n C 31 dX0_inStore_31 1 rfl rfl ?_
    refine xc_isRecord C 32 (xm_rec σ _ ht ha hO) (by decide) (Nat.le_of_ble_eq_true rfl) dX0_inStore_32 (fun r σ1 h1 => ?_)
    obtain ⟨rfl, ⟨rfl, hr⟩ | ⟨rfl, hr⟩⟩ := h1
    · refine bg_istore C 35 dX0_inStore_35 4 rfl (by decide) ?_
      refine bg_iload C 37 dX0_inStore_37 4 rfl rfl ?_
      refine bg_if_eq C 39 44 dX0_inStore_39 (by decide) (fun c => absurd c (by decide)) (fun c39 => ?_)
      refine bg_iconst C 42 (nI 1) dX0_inStore_42 (by decide) ?_
      refine bg_ret C 43 rfl dX0_inStore_43 ?_
      exact ⟨rfl, Or.inl ⟨rfl, hy ⟨a, List.mem_cons_self, hr⟩⟩⟩
    · refine bg_istore C 35 dX0_inStore_35 4 rfl (by decide) ?_
      refine bg_iload C 37 dX0_inStore_37 4 rfl rfl ?_
      refine bg_if_eq C 39 44 dX0_inStore_39 (by decide) (fun c39 => ?_) (fun c => absurd rfl c)
      refine bg_aload C 44 dX0_inStore_44 ?_
      refine xg19 C 45 dX0_inStore_45 ?_
      refine bg_iload_n C 48 dX0_inStore_48 2 rfl rfl ?_
      refine xl19 C 49 (by omega) dX0_inStore_49 ?_
      refine bg_istore_n C 50 dX0_inStore_50 2 rfl (by decide) ?_
      refine bg_iincN C 51 dX0_inStore_51 3 rfl (by decide) rfl ?_
      refine bg_goto C 54 16 dX0_inStore_54 (by decide) ?_
      refine bg_take 4 ?_
      exact ih _ (k + 1) hch (fun b hb => hl b (List.mem_cons_of_mem _ hb)) (by omega) (fun ⟨b, hb, h⟩ => hy ⟨b, List.mem_cons_of_mem _ hb, h⟩) (fun h => hn (fun ⟨b, hb, h2⟩ => by
        rcases List.mem_cons.mp hb with e | e
        · rw [e] at h2
          exact hr h2
        · exact h ⟨b, e, h2⟩))
theorem xm_in (σ : bg_S) {t : Nat} (L : List Nat) (ht : t < 12) (hO : bp_OK (σ 6) (σ 7)) (hch : bp_ch (σ 19) (σ 18 t) L) (hl : ∀ a, a ∈ L → a < 480) (hk : L.length ≤ 480) : bg_M kX yX0_inStore cX0_inStore 6 (some .boolean) 1 24 [nI t] σ (fun r σ' => σ = σ' ∧ ((r = 1 ∧ bx_in σ t L) ∨ (r = 0 ∧ ¬ bx_in σ t L))) := by
  refine bg_enter okkX (by decide) rfl (Nat.le_of_ble_eq_true rfl) (fun X o C => ?_)
  refine bg_aload C 0 dX0_inStore_0 ?_
  refine bg_iload_n C 1 dX0_inStore_1 0 rfl rfl ?_
  refine xc_hashOf C 2 (xm_hash σ ht hO) (by decide) (Nat.le_of_ble_eq_true rfl) dX0_inStore_2 (fun r σ1 h1 => ?_)
  obtain ⟨rfl, rfl⟩ := h1
  refine bg_istore_n C 5 dX0_inStore_5 1 rfl (by decide) ?_
  refine bg_aload C 6 dX0_inStore_6 ?_
  refine xg18 C 7 dX0_inStore_7 ?_
  refine bg_iload_n C 10 dX0_inStore_10 0 rfl rfl ?_
  refine xl18 C 11 (by omega) dX0_inStore_11 ?_
  refine bg_istore_n C 12 dX0_inStore_12 2 rfl (by decide) ?_
  refine bg_iconst C 13 (nI 0) dX0_inStore_13 (by decide) ?_
  refine bg_istore C 14 dX0_inStore_14 3 rfl (by decide) ?_
  exact xw_in σ L C ht hO L _ 0 hch hl (by omega) id id
/-- a record put down at R, ahead of t's others -/
def bx_keep (σ : bg_S) (t R : Nat) (g : Nat → Int32) : bg_S := bg_U (bg_U (bg_U (bg_U (bg_U (bg_U (bg_U σ 20 (upd (σ 20) R (bx_hh σ t))) 21 (upd (σ 21) R (σ 5 t))) 22 (upd (σ 22) R (σ 6 t))) 23 g) 19 (upd (σ 19) R (σ 18 t))) 18 (upd (σ 18) t (nI R))) 17 (fun _ => nI (R + 1))
theorem xw_keep {X : bg_E} {o : bg_O} {post : Int32 → bg_S → Prop} (C : bg_Cx X kX o cX0_keep 4 1 23 none post) (σ : bg_S) {t R : Nat} (ht : t < 12) (hR : R < 480) (hO : bp_OK (σ 6) (σ 7))
    (K : ∀ g : Nat → Int32, (∀ i, i < bp_cn (σ 6) t → g (R * 3 + i) = σ 24 i) → (∀ j, j < R * 3 → g j = σ 23 j) → bg_X X kX o (bg_U σ 23 g) [nI t, nI R, nI (bp_cn (σ 6) t)] 85 []) : ∀ (k i : Nat) (g : Nat → Int32), i + k = bp_cn (σ 6) t → (∀ j, j < i → g (R * 3 + j) = σ 24 j) → (∀ j, j < R * 3 → g j = σ 23 j) → bg_X X kX o (bg_U σ 23 g) [nI t, nI R, nI i] 53 [] := by
  obtain ⟨hc, hc3, hf⟩ := hO t ht
  intro k
  induction k with
  | zero =>
    intro i g hi hg hg2
    have e : i = bp_cn (σ 6) t := by omega
    subst e
    refine bg_iload_n C 53 dX0_keep_53 2 rfl rfl ?_
    refine bg_aload C 54 dX0_keep_54 ?_
    refine xg6 C 55 dX0_keep_55 ?_
    refine bg_iload_n C 58 dX0_keep_58 0 rfl rfl ?_
    refine xl6 C 59 (by omega) dX0_keep_59 ?_
    refine bg_eq (hc) ?_
    refine bg_icmpN_ge C 60 (by omega) (by omega) 85 dX0_keep_60 (by decide) (fun c60 => ?_) (fun c => absurd c (by omega))
    exact K g hg hg2
  | succ k ih =>
    intro i g hi hg hg2
    refine bg_iload_n C 53 dX0_keep_53 2 rfl rfl ?_
    refine bg_aload C 54 dX0_keep_54 ?_
    refine xg6 C 55 dX0_keep_55 ?_
    refine bg_iload_n C 58 dX0_keep_58 0 rfl rfl ?_
    refine xl6 C 59 (by omega) dX0_keep_59 ?_
    refine bg_eq (hc) ?_
    refine bg_icmpN_ge C 60 (by omega) (by omega) 85 dX0_keep_60 (by decide) (fun c => absurd c (by omega)) (fun c60 => ?_)
    refine bg_aload C 63 dX0_keep_63 ?_
    refine xg23 C 64 dX0_keep_64 ?_
    refine bg_iload_n C 67 dX0_keep_67 1 rfl rfl ?_
    refine bg_iconst C 68 (nI 3) dX0_keep_68 (by decide) ?_
    refine bg_imulN C 69 dX0_keep_69 ?_
    refine bg_iload_n C 70 dX0_keep_70 2 rfl rfl ?_
    refine bg_iaddN C 71 dX0_keep_71 ?_
    refine bg_aload C 72 dX0_keep_72 ?_
    refine xg24 C 73 dX0_keep_73 ?_
    refine bg_iload_n C 76 dX0_keep_76 2 rfl rfl ?_
    refine xl24 C 77 (by omega) dX0_keep_77 ?_
    refine xs23 C 78 (by omega) dX0_keep_78 ?_
    refine bg_iincN C 79 dX0_keep_79 2 rfl (by decide) rfl ?_
    refine bg_goto C 82 53 dX0_keep_82 (by decide) ?_
    refine bg_uu ?_
    refine ih (i + 1) _ (by omega) (fun j hj => ?_) (fun j hj => ?_)
    · by_cases e : j = i
      · subst e
        exact pk_us
      · exact (pk_un (by omega)).trans (hg j (by omega))
    · exact (pk_un (by omega)).trans (hg2 j hj)
theorem xm_keep (σ : bg_S) {t R : Nat} (ht : t < 12) (hR : σ 17 0 = nI R) (hR2 : R < 480) (hO : bp_OK (σ 6) (σ 7)) : bg_M kX yX0_keep cX0_keep 4 none 1 23 [nI t] σ (fun _ σ' => ∃ g : Nat → Int32, (∀ i, i < bp_cn (σ 6) t → g (R * 3 + i) = σ 24 i) ∧ (∀ j, j < R * 3 → g j = σ 23 j) ∧ bx_keep σ t R g = σ') := by
  obtain ⟨hc, hc3, hf⟩ := id hO t ht
  refine bg_enter okkX (by decide) rfl (Nat.le_of_ble_eq_true rfl) (fun X o C => ?_)
  refine bg_aload C 0 dX0_keep_0 ?_
  refine xg17 C 1 dX0_keep_1 ?_
  refine bg_eq (hR) ?_
  refine bg_sipush C 4 (nI 480) dX0_keep_4 (by decide) ?_
  refine bg_icmpN_lt C 7 (by omega) (by omega) 11 dX0_keep_7 (by decide) (fun c7 => ?_) (fun c => absurd c (by omega))
  refine bg_aload C 11 dX0_keep_11 ?_
  refine xg17 C 12 dX0_keep_12 ?_
  refine bg_eq (hR) ?_
  refine bg_istore_n C 15 dX0_keep_15 1 rfl (by decide) ?_
  refine bg_aload C 16 dX0_keep_16 ?_
  refine xg20 C 17 dX0_keep_17 ?_
  refine bg_iload_n C 20 dX0_keep_20 1 rfl rfl ?_
  refine bg_aload C 21 dX0_keep_21 ?_
  refine bg_iload_n C 22 dX0_keep_22 0 rfl rfl ?_
  refine xc_hashOf C 23 (xm_hash σ ht hO) (by decide) (Nat.le_of_ble_eq_true rfl) dX0_keep_23 (fun r σ1 h1 => ?_)
  obtain ⟨rfl, rfl⟩ := h1
  refine xs20 C 26 (by omega) dX0_keep_26 ?_
  refine bg_aload C 27 dX0_keep_27 ?_
  refine xg21 C 28 dX0_keep_28 ?_
  refine bg_iload_n C 31 dX0_keep_31 1 rfl rfl ?_
  refine bg_aload C 32 dX0_keep_32 ?_
  refine xg5 C 33 dX0_keep_33 ?_
  refine bg_iload_n C 36 dX0_keep_36 0 rfl rfl ?_
  refine xl5 C 37 (by omega) dX0_keep_37 ?_
  refine xs21 C 38 (by omega) dX0_keep_38 ?_
  refine bg_aload C 39 dX0_keep_39 ?_
  refine xg22 C 40 dX0_keep_40 ?_
  refine bg_iload_n C 43 dX0_keep_43 1 rfl rfl ?_
  refine bg_aload C 44 dX0_keep_44 ?_
  refine xg6 C 45 dX0_keep_45 ?_
  refine bg_iload_n C 48 dX0_keep_48 0 rfl rfl ?_
  refine xl6 C 49 (by omega) dX0_keep_49 ?_
  refine xs22 C 50 (by omega) dX0_keep_50 ?_
  refine bg_iconst C 51 (nI 0) dX0_keep_51 (by decide) ?_
  refine bg_istore_n C 52 dX0_keep_52 2 rfl (by decide) ?_
  refine bg_uid 23 ?_
  refine xw_keep C (bg_U (bg_U (bg_U σ 20 (upd (σ 20) R (bx_hh σ t))) 21 (upd (σ 21) R (σ 5 t))) 22 (upd (σ 22) R (σ 6 t))) ht hR2 hO (fun g hg hg2 => ?_) (bp_cn (σ 6) t) 0 _ (Nat.zero_add _) (fun j hj => absurd hj (by omega)) (fun j hj => rfl)
  refine bg_aload C 85 dX0_keep_85 ?_
  refine xg19 C 86 dX0_keep_86 ?_
  refine bg_iload_n C 89 dX0_keep_89 1 rfl rfl ?_
  refine bg_aload C 90 dX0_keep_90 ?_
  refine xg18 C 91 dX0_keep_91 ?_
  refine bg_iload_n C 94 dX0_keep_94 0 rfl rfl ?_
  refine xl18 C 95 (by omega) dX0_keep_95 ?_
  refine xs19 C 96 (by omega) dX0_keep_96 ?_
  refine bg_aload C 97 dX0_keep_97 ?_
  refine xg18 C 98 dX0_keep_98 ?_
  refine bg_iload_n C 101 dX0_keep_101 0 rfl rfl ?_
  refine bg_iload_n C 102 dX0_keep_102 1 rfl rfl ?_
  refine xs18 C 103 (by omega) dX0_keep_103 ?_
  refine bg_aload C 104 dX0_keep_104 ?_
  refine bg_dup C 105 dX0_keep_105 rfl ?_
  refine xg17 C 106 dX0_keep_106 ?_
  refine bg_eq (hR) ?_
  refine bg_iconst C 109 (nI 1) dX0_keep_109 (by decide) ?_
  refine bg_iaddN C 110 dX0_keep_110 ?_
  refine xp17 C 111 dX0_keep_111 ?_
  refine bg_vret C 114 dX0_keep_114 ?_
  exact ⟨g, hg, hg2, rfl⟩
def bx_rem (σ : bg_S) (t : Nat) (g : Nat → Int32) : bg_S := bg_U (bg_U (bg_U (bg_U σ 9 (upd (σ 9) t 1)) 10 (upd (σ 10) t (σ 5 t))) 11 (upd (σ 11) t (σ 6 t))) 12 g
theorem xw_rem {X : bg_E} {o : bg_O} {post : Int32 → bg_S → Prop} (C : bg_Cx X kX o cX0_remember 3 0 0 none post) (σ : bg_S) {t : Nat} (ht : t < 12) (hO : bp_OK (σ 6) (σ 7))
    (K : ∀ g : Nat → Int32, (∀ i, i < bp_cn (σ 6) t → g (t * 3 + i) = σ 24 i) → (∀ j, (j < t * 3 ∨ t * 3 + 3 ≤ j) → g j = σ 12 j) → bg_X X kX o (bg_U σ 12 g) [nI t, nI (bp_cn (σ 6) t)] 65 []) : ∀ (k i : Nat) (g : Nat → Int32), i + k = bp_cn (σ 6) t → (∀ j, j < i → g (t * 3 + j) = σ 24 j) → (∀ j, (j < t * 3 ∨ t * 3 + 3 ≤ j) → g j = σ 12 j) → bg_X X kX o (bg_U σ 12 g) [nI t, nI i] 33 [] := by
  obtain ⟨hc, hc3, hf⟩ := hO t ht
  intro k
  induction k with
  | zero =>
    intro i g hi hg hg2
    have e : i = bp_cn (σ 6) t := by omega
    subst e
    refine bg_iload_n C 33 dX0_remember_33 1 rfl rfl ?_
    refine bg_aload C 34 dX0_remember_34 ?_
    refine xg6 C 35 dX0_remember_35 ?_
    refine bg_iload_n C 38 dX0_remember_38 0 rfl rfl ?_
    refine xl6 C 39 (by omega) dX0_remember_39 ?_
    refine bg_eq (hc) ?_
    refine bg_icmpN_ge C 40 (by omega) (by omega) 65 dX0_remember_40 (by decide) (fun c40 => ?_) (fun c => absurd c (by omega))
    exact K g hg hg2
  | succ k ih =>
    intro i g hi hg hg2
    refine bg_iload_n C 33 dX0_remember_33 1 rfl rfl ?_
    refine bg_aload C 34 dX0_remember_34 ?_
    refine xg6 C 35 dX0_remember_35 ?_
    refine bg_iload_n C 38 dX0_remember_38 0 rfl rfl ?_
    refine xl6 C 39 (by omega) dX0_remember_39 ?_
    refine bg_eq (hc) ?_
    refine bg_icmpN_ge C 40 (by omega) (by omega) 65 dX0_remember_40 (by decide) (fun c => absurd c (by omega)) (fun c40 => ?_)
    refine bg_aload C 43 dX0_remember_43 ?_
    refine xg12 C 44 dX0_remember_44 ?_
    refine bg_iload_n C 47 dX0_remember_47 0 rfl rfl ?_
    refine bg_iconst C 48 (nI 3) dX0_remember_48 (by decide) ?_
    refine bg_imulN C 49 dX0_remember_49 ?_
    refine bg_iload_n C 50 dX0_remember_50 1 rfl rfl ?_
    refine bg_iaddN C 51 dX0_remember_51 ?_
    refine bg_aload C 52 dX0_remember_52 ?_
    refine xg24 C 53 dX0_remember_53 ?_
    refine bg_iload_n C 56 dX0_remember_56 1 rfl rfl ?_
    refine xl24 C 57 (by omega) dX0_remember_57 ?_
    refine xs12 C 58 (by omega) dX0_remember_58 ?_
    refine bg_iincN C 59 dX0_remember_59 1 rfl (by decide) rfl ?_
    refine bg_goto C 62 33 dX0_remember_62 (by decide) ?_
    refine bg_uu ?_
    refine ih (i + 1) _ (by omega) (fun j hj => ?_) (fun j hj => ?_)
    · by_cases e : j = i
      · subst e
        exact pk_us
      · exact (pk_un (by omega)).trans (hg j (by omega))
    · exact (pk_un (by omega)).trans (hg2 j hj)
theorem xm_rem (σ : bg_S) {t : Nat} (ht : t < 12) (hO : bp_OK (σ 6) (σ 7)) : bg_M kX yX0_remember cX0_remember 3 none 0 0 [nI t] σ (fun _ σ' => ∃ g : Nat → Int32, (∀ i, i < bp_cn (σ 6) t → g (t * 3 + i) = σ 24 i) ∧ (∀ j, (j < t * 3 ∨ t * 3 + 3 ≤ j) → g j = σ 12 j) ∧ bx_rem σ t g = σ') := by
  refine bg_enter okkX (by decide) rfl (Nat.le_of_ble_eq_true rfl) (fun X o C => ?_)
  refine bg_aload C 0 dX0_remember_0 ?_
  refine xg9 C 1 dX0_remember_1 ?_
  refine bg_iload_n C 4 dX0_remember_4 0 rfl rfl ?_
  refine bg_iconst C 5 (1) dX0_remember_5 (by decide) ?_
  refine xs9 C 6 (by omega) dX0_remember_6 rfl ?_
  refine bg_aload C 7 dX0_remember_7 ?_
  refine xg10 C 8 dX0_remember_8 ?_
  refine bg_iload_n C 11 dX0_remember_11 0 rfl rfl ?_
  refine bg_aload C 12 dX0_remember_12 ?_
  refine xg5 C 13 dX0_remember_13 ?_
  refine bg_iload_n C 16 dX0_remember_16 0 rfl rfl ?_
  refine xl5 C 17 (by omega) dX0_remember_17 ?_
  refine xs10 C 18 (by omega) dX0_remember_18 ?_
  refine bg_aload C 19 dX0_remember_19 ?_
  refine xg11 C 20 dX0_remember_20 ?_
  refine bg_iload_n C 23 dX0_remember_23 0 rfl rfl ?_
  refine bg_aload C 24 dX0_remember_24 ?_
  refine xg6 C 25 dX0_remember_25 ?_
  refine bg_iload_n C 28 dX0_remember_28 0 rfl rfl ?_
  refine xl6 C 29 (by omega) dX0_remember_29 ?_
  refine xs11 C 30 (by omega) dX0_remember_30 ?_
  refine bg_iconst C 31 (nI 0) dX0_remember_31 (by decide) ?_
  refine bg_istore_n C 32 dX0_remember_32 1 rfl (by decide) ?_
  refine bg_uid 12 ?_
  refine xw_rem C (bg_U (bg_U (bg_U σ 9 (upd (σ 9) t 1)) 10 (upd (σ 10) t (σ 5 t))) 11 (upd (σ 11) t (σ 6 t))) ht hO (fun g hg hg2 => ?_) (bp_cn (σ 6) t) 0 _ (Nat.zero_add _) (fun j hj => absurd hj (by omega)) (fun j hj => rfl)
  refine bg_vret C 65 dX0_remember_65 ?_
  exact ⟨g, hg, hg2, rfl⟩
theorem xw_it {X : bg_E} {o : bg_O} (σ : bg_S) {t : Nat} (C : bg_Cx X kX o cX0_inputTasks 5 0 0 (some .int) (fun r σ' => r = bp_it (σ 7) t (bp_cn (σ 6) t) ∧ σ = σ')) (ht : t < 12) (hO : bp_OK (σ 6) (σ 7)) : ∀ (k i : Nat) (x : Int32), i + k = bp_cn (σ 6) t → x = bp_it (σ 7) t i → bg_X X kX o σ [nI t, x, nI i] 4 [] := by
  obtain ⟨hc, hc3, hf⟩ := hO t ht
  intro k
  induction k with
  | zero =>
    intro i x hi hx
    have e : i = bp_cn (σ 6) t := by omega
    subst e
    subst hx
    refine bg_iload_n C 4 dX0_inputTasks_4 2 rfl rfl ?_
    refine bg_aload C 5 dX0_inputTasks_5 ?_
    refine xg6 C 6 dX0_inputTasks_6 ?_
    refine bg_iload_n C 9 dX0_inputTasks_9 0 rfl rfl ?_
    refine xl6 C 10 (by omega) dX0_inputTasks_10 ?_
    refine bg_eq (hc) ?_
    refine bg_icmpN_ge C 11 (by omega) (by omega) 49 dX0_inputTasks_11 (by decide) (fun c11 => ?_) (fun c => absurd c (by omega))
    refine bg_iload_n C 49 dX0_inputTasks_49 1 rfl rfl ?_
    refine bg_ret C 50 rfl dX0_inputTasks_50 ?_
    exact ⟨rfl, rfl⟩
  | succ k ih =>
    intro i x hi hx
    subst hx
    obtain ⟨hf1, hf2⟩ := hf i (by omega)
    refine bg_iload_n C 4 dX0_inputTasks_4 2 rfl rfl ?_
    refine bg_aload C 5 dX0_inputTasks_5 ?_
    refine xg6 C 6 dX0_inputTasks_6 ?_
    refine bg_iload_n C 9 dX0_inputTasks_9 0 rfl rfl ?_
    refine xl6 C 10 (by omega) dX0_inputTasks_10 ?_
    refine bg_eq (hc) ?_
    refine bg_icmpN_ge C 11 (by omega) (by omega) 49 dX0_inputTasks_11 (by decide) (fun c => absurd c (by omega)) (fun c11 => ?_)
    refine bg_aload C 14 dX0_inputTasks_14 ?_
    refine xg7 C 15 dX0_inputTasks_15 ?_
    refine bg_iload_n C 18 dX0_inputTasks_18 0 rfl rfl ?_
    refine bg_iconst C 19 (nI 3) dX0_inputTasks_19 (by decide) ?_
    refine bg_imulN C 20 dX0_inputTasks_20 ?_
    refine bg_iload_n C 21 dX0_inputTasks_21 2 rfl rfl ?_
    refine bg_iaddN C 22 dX0_inputTasks_22 ?_
    refine xl7 C 23 (by omega) dX0_inputTasks_23 ?_
    refine bg_eq (hf1) ?_
    refine bg_istore C 24 dX0_inputTasks_24 3 rfl (by decide) ?_
    refine bg_iload C 26 dX0_inputTasks_26 3 rfl rfl ?_
    refine bg_bipush C 28 (nI 8) dX0_inputTasks_28 (by decide) ?_
    refine bg_icmpN_lt C 30 (by omega) (by omega) 43 dX0_inputTasks_30 (by decide) (fun c30 => ?_) (fun c30 => ?_)
    · refine bg_iincN C 43 dX0_inputTasks_43 2 rfl (by decide) rfl ?_
      refine bg_goto C 46 4 dX0_inputTasks_46 (by decide) ?_
      refine bg_take 3 ?_
      exact ih (i + 1) _ (by omega) (if_pos c30).symm
    · refine bg_iload_n C 33 dX0_inputTasks_33 1 rfl rfl ?_
      refine bg_iconst C 34 (1) dX0_inputTasks_34 (by decide) ?_
      refine bg_iload C 35 dX0_inputTasks_35 3 rfl rfl ?_
      refine bg_bipush C 37 (nI 8) dX0_inputTasks_37 (by decide) ?_
      refine bg_isubN C 39 (by omega) dX0_inputTasks_39 ?_
      refine bg_ishl C 40 dX0_inputTasks_40 ?_
      refine bg_ior C 41 dX0_inputTasks_41 ?_
      refine bg_istore_n C 42 dX0_inputTasks_42 1 rfl (by decide) ?_
      refine bg_iincN C 43 dX0_inputTasks_43 2 rfl (by decide) rfl ?_
      refine bg_goto C 46 4 dX0_inputTasks_46 (by decide) ?_
      refine bg_take 3 ?_
      exact ih (i + 1) _ (by omega) (if_neg (Nat.not_lt.mpr c30)).symm
theorem xm_it (σ : bg_S) {t : Nat} (ht : t < 12) (hO : bp_OK (σ 6) (σ 7)) : bg_M kX yX0_inputTasks cX0_inputTasks 5 (some .int) 0 0 [nI t] σ (fun r σ' => r = bp_it (σ 7) t (bp_cn (σ 6) t) ∧ σ = σ') := by
  refine bg_enter okkX (by decide) rfl (Nat.le_of_ble_eq_true rfl) (fun X o C => ?_)
  refine bg_iconst C 0 (0) dX0_inputTasks_0 (by decide) ?_
  refine bg_istore_n C 1 dX0_inputTasks_1 1 rfl (by decide) ?_
  refine bg_iconst C 2 (nI 0) dX0_inputTasks_2 (by decide) ?_
  refine bg_istore_n C 3 dX0_inputTasks_3 2 rfl (by decide) ?_
  exact xw_it σ C ht hO (bp_cn (σ 6) t) 0 _ (by omega) rfl
theorem xw_nd {X : bg_E} {o : bg_O} (σ : bg_S) {t : Nat} (C : bg_Cx X kX o cX0_neededSet 4 1 24 (some .int) (fun r σ' => r = bp_need (σ 6) (σ 7) t ∧ σ = σ')) (hO : bp_OK (σ 6) (σ 7)) : ∀ (n : Nat) (x : Int32), n ≤ 12 → bp_nd (σ 6) (σ 7) n x = bp_need (σ 6) (σ 7) t → bg_X X kX o σ [nI t, x, bp_dn n] 6 [] := by
  intro n
  induction n with
  | zero =>
    intro x hn hx
    refine bg_iload_n C 6 dX0_neededSet_6 2 rfl rfl ?_
    refine bg_if_lt C 7 33 dX0_neededSet_7 (by decide) (fun c7 => ?_) (fun c => absurd (by decide) c)
    refine bg_iload_n C 33 dX0_neededSet_33 1 rfl rfl ?_
    refine bg_ret C 34 rfl dX0_neededSet_34 ?_
    exact ⟨hx, rfl⟩
  | succ n ih =>
    intro x hn hx
    show bg_X X kX o σ [nI t, x, nI n] 6 []
    refine bg_iload_n C 6 dX0_neededSet_6 2 rfl rfl ?_
    refine bg_if_lt C 7 33 dX0_neededSet_7 (by decide) (fun c => absurd c (nI_pos (by omega))) (fun c7 => ?_)
    refine bg_iload_n C 10 dX0_neededSet_10 1 rfl rfl ?_
    refine bg_iload_n C 11 dX0_neededSet_11 2 rfl rfl ?_
    refine bg_ishr C 12 dX0_neededSet_12 ?_
    refine bg_iconst C 13 (1) dX0_neededSet_13 (by decide) ?_
    refine bg_iand C 14 dX0_neededSet_14 ?_
    refine bg_iconst C 15 (1) dX0_neededSet_15 (by decide) ?_
    refine bg_icmp_ne C 16 27 dX0_neededSet_16 (by decide) (fun c16 => ?_) (fun c16 => ?_)
    · refine bg_iinc C 27 dX0_neededSet_27 2 rfl (by decide) rfl (bp_dn_s n) ?_
      refine bg_goto C 30 6 dX0_neededSet_30 (by decide) ?_
      exact ih _ (by omega) (by rw [← hx]; exact congrArg _ (if_neg c16).symm)
    · refine bg_iload_n C 19 dX0_neededSet_19 1 rfl rfl ?_
      refine bg_aload C 20 dX0_neededSet_20 ?_
      refine bg_iload_n C 21 dX0_neededSet_21 2 rfl rfl ?_
      refine xc_inputTasks C 22 (xm_it σ (by omega) hO) (by decide) (Nat.le_of_ble_eq_true rfl) dX0_neededSet_22 (fun r σ1 h1 => ?_)
      obtain ⟨rfl, rfl⟩ := h1
      refine bg_ior C 25 dX0_neededSet_25 ?_
      refine bg_istore_n C 26 dX0_neededSet_26 1 rfl (by decide) ?_
      refine bg_iinc C 27 dX0_neededSet_27 2 rfl (by decide) rfl (bp_dn_s n) ?_
      refine bg_goto C 30 6 dX0_neededSet_30 (by decide) ?_
      exact ih _ (by omega) (by rw [← hx]; exact congrArg _ (if_pos c16).symm)
theorem xm_nd (σ : bg_S) {t : Nat} (ht : t < 12) (hO : bp_OK (σ 6) (σ 7)) : bg_M kX yX0_neededSet cX0_neededSet 4 (some .int) 1 24 [nI t] σ (fun r σ' => r = bp_need (σ 6) (σ 7) t ∧ σ = σ') := by
  refine bg_enter okkX (by decide) rfl (Nat.le_of_ble_eq_true rfl) (fun X o C => ?_)
  refine bg_iconst C 0 (1) dX0_neededSet_0 (by decide) ?_
  refine bg_iload_n C 1 dX0_neededSet_1 0 rfl rfl ?_
  refine bg_ishl C 2 dX0_neededSet_2 ?_
  refine bg_istore_n C 3 dX0_neededSet_3 1 rfl (by decide) ?_
  refine bg_iload_n C 4 dX0_neededSet_4 0 rfl rfl ?_
  refine bg_istore_n C 5 dX0_neededSet_5 2 rfl (by decide) ?_
  exact xw_nd σ C hO (t + 1) _ (by omega) rfl
end
section
/-! pure words: values by name, the now-solution, counting -/
set_option maxRecDepth 100000
theorem bp_rs_ext {k c : Int32} {g g2 : Nat → Int32} : ∀ n : Nat, (∀ i, i < n → g i = g2 i) → bp_rs k c g n = bp_rs k c g2 n
  | 0, _ => rfl
  | n + 1, h => by
    have e := bp_rs_ext (k := k) (c := c) n (fun i hi => h i (by omega))
    have e2 := h n (by omega)
    simp only [bp_rs, e, e2]
theorem bp_res_ext {k c : Int32} {g g2 : Nat → Int32} {n : Nat} (h : ∀ i, i < n → g i = g2 i) : bp_res k c g n = bp_res k c g2 n := by
  simp only [bp_res, bp_rs_ext n h]
theorem bp_hs_ext {c m : Int32} {g g2 : Nat → Int32} : ∀ n : Nat, (∀ i, i < n → g i = g2 i) → bp_hs c m g n = bp_hs c m g2 n
  | 0, _ => rfl
  | n + 1, h => by
    have e := bp_hs_ext (c := c) (m := m) n (fun i hi => h i (by omega))
    have e2 := h n (by omega)
    simp only [bp_hs, e, e2]
/-- w holds what every task below T would give now -/
def bp_now (ct kd cs q p w : Nat → Int32) (T : Nat) : Prop := ∀ t, t < T → w t = bp_res (kd t) (cs t) (bp_vl ct p w t) (bp_cn q t)
theorem bp_vl_upd {ct p w : Nat → Int32} {u t i : Nat} {v : Int32} (hf : bp_fr p u i < 8 + u) (hu : u ≤ t) : bp_vl ct p (upd w t v) u i = bp_vl ct p w u i := by
  unfold bp_vl
  by_cases h : bp_fr p u i < 8
  · rw [if_pos h, if_pos h]
  · rw [if_neg h, if_neg h, pk_un (by omega)]
theorem bp_vl_ext {ct p w w2 : Nat → Int32} {u i : Nat} (hf : bp_fr p u i < 8 + u) (h : ∀ j, j < u → w j = w2 j) : bp_vl ct p w u i = bp_vl ct p w2 u i := by
  unfold bp_vl
  by_cases hc : bp_fr p u i < 8
  · rw [if_pos hc, if_pos hc]
  · rw [if_neg hc, if_neg hc, h _ (by omega)]
theorem bp_now_step {ct kd cs q p w g : Nat → Int32} {t : Nat} {v : Int32} (hO : bp_OK q p) (ht : t < 12) (h : bp_now ct kd cs q p w t) (hg : ∀ i, i < bp_cn q t → g i = bp_vl ct p w t i) (hv : v = bp_res (kd t) (cs t) g (bp_cn q t)) : bp_now ct kd cs q p (upd w t v) (t + 1) := by
  intro u hu
  by_cases e : u = t
  · subst e
    rw [pk_us, hv]
    exact bp_res_ext (fun i hi => (hg i hi).trans (bp_vl_upd ((hO u ht).2.2 i hi).2 (Nat.le_refl u)).symm)
  · rw [pk_un e, h u (by omega)]
    exact bp_res_ext (fun i hi => (bp_vl_upd ((hO u (by omega)).2.2 i hi).2 (by omega)).symm)
theorem bp_now_uniq {ct kd cs q p w w2 : Nat → Int32} {T : Nat} (hO : bp_OK q p) (hT : T ≤ 12) (h : bp_now ct kd cs q p w T) (h2 : bp_now ct kd cs q p w2 T) : ∀ t, t < T → w t = w2 t := by
  intro t
  induction t using Nat.strongRecOn with
  | ind t ih =>
    intro ht
    rw [h t ht, h2 t ht]
    exact bp_res_ext (fun i hi => bp_vl_ext ((hO t (by omega)).2.2 i hi).2 (fun j hj => ih j hj (by omega)))
/-- how many bits of the first n are set -/
def bp_pc (m : Int32) : Nat → Int32
  | 0 => 0
  | n + 1 => bp_pc m n + ((m >>> (nI n &&& 31)) &&& 1)
theorem bg_UC (σ : bg_S) {k j : Nat} (h : k ≠ j) (f g : Nat → Int32) : bg_U (bg_U σ k f) j g = bg_U (bg_U σ j g) k f := by
  funext i
  by_cases h1 : i = k
  · subst h1
    rw [bg_U_n _ _ h, bg_U_s, bg_U_s]
  · rw [bg_U_n _ f h1]
    by_cases h2 : i = j
    · subst h2
      rw [bg_U_s, bg_U_s]
    · rw [bg_U_n _ _ h2, bg_U_n _ _ h2, bg_U_n _ _ h1]
theorem bg_UU3 (σ : bg_S) {k j : Nat} (h : k ≠ j) (f f' g : Nat → Int32) : bg_U (bg_U (bg_U σ k f) j g) k f' = bg_U (bg_U σ k f') j g := by
  rw [bg_UC (bg_U σ k f) (Ne.symm h), bg_UU]
/-- the last record is the one with the values v -/
def bx_lastv (σ : bg_S) (t : Nat) (v : Nat → Int32) : Prop := ¬ σ 9 t = 0 ∧ σ 10 t = σ 5 t ∧ σ 11 t = σ 6 t ∧ ∀ i, i < bp_cn (σ 6) t → σ 12 (t * 3 + i) = v i
/-- the record with the values v is kept at a place of L -/
def bx_inv (σ : bg_S) (t : Nat) (L : List Nat) (v : Nat → Int32) : Prop := ∃ a, a ∈ L ∧ σ 20 a = bp_hs (σ 5 t) (σ 6 t) v (bp_cn (σ 6) t) ∧ σ 21 a = σ 5 t ∧ σ 22 a = σ 6 t ∧ ∀ i, i < bp_cn (σ 6) t → σ 23 (a * 3 + i) = v i
theorem bx_last_iff {σ : bg_S} {t : Nat} {v : Nat → Int32} (h : ∀ i, i < bp_cn (σ 6) t → σ 24 i = v i) : bx_last σ t ↔ bx_lastv σ t v := by
  constructor
  · rintro ⟨h1, h2, h3, h4⟩
    exact ⟨h1, h2, h3, fun i hi => (h4 i hi).trans (h i hi)⟩
  · rintro ⟨h1, h2, h3, h4⟩
    exact ⟨h1, h2, h3, fun i hi => (h4 i hi).trans (h i hi).symm⟩
theorem bx_in_iff {σ : bg_S} {t : Nat} {L : List Nat} {v : Nat → Int32} (h : ∀ i, i < bp_cn (σ 6) t → σ 24 i = v i) : bx_in σ t L ↔ bx_inv σ t L v := by
  have e : bx_hh σ t = bp_hs (σ 5 t) (σ 6 t) v (bp_cn (σ 6) t) := bp_hs_ext _ h
  constructor
  · rintro ⟨a, ha, h1, h2, h3, h4⟩
    exact ⟨a, ha, h1.trans e, h2, h3, fun i hi => (h4 i hi).trans (h i hi)⟩
  · rintro ⟨a, ha, h1, h2, h3, h4⟩
    exact ⟨a, ha, h1.trans e.symm, h2, h3, fun i hi => (h4 i hi).trans (h i hi).symm⟩
end
section
/-! BuildGraph: handle -/
set_option maxRecDepth 100000
def bx_see (σ : bg_S) (t : Nat) : bg_S := bg_U σ 13 (upd (σ 13) t (σ 2 0))
def bx_rs (σ : bg_S) (t : Nat) : Int32 := bp_res (σ 4 t) (σ 5 t) (σ 24) (bp_cn (σ 6) t)
/-- the output of the record at hand comes in -/
def bx_fin (σ : bg_S) (t : Nat) : bg_S := bg_U (bg_U σ 15 (if bx_rs σ t = σ 14 t then σ 15 else upd (σ 15) t (σ 2 0))) 14 (upd (σ 14) t (bx_rs σ t))
/-- what handle does to task t: R records are down, t's at the places L -/
def bx_hd (σ : bg_S) (t R : Nat) (L : List Nat) (r : Int32) (σ' : bg_S) : Prop :=
  (r = 1 ∧ bx_unt σ t ∧ bx_see σ t = σ') ∨ ∃ g : Nat → Int32, (∀ i, i < bp_cn (σ 6) t → g i = bp_vl (σ 0) (σ 7) (σ 14) t i) ∧
    ((r = 1 ∧ bx_last (bg_U σ 24 g) t ∧ bx_see (bg_U σ 24 g) t = σ') ∨ (¬ bx_last (bg_U σ 24 g) t ∧ ∃ g2 : Nat → Int32, (∀ i, i < bp_cn (σ 6) t → g2 (t * 3 + i) = g i) ∧ (∀ j, (j < t * 3 ∨ t * 3 + 3 ≤ j) → g2 j = σ 12 j) ∧
      ((r = 2 ∧ bx_in (bg_U σ 24 g) t L ∧ bx_fin (bx_rem (bx_see (bg_U σ 24 g) t) t g2) t = σ') ∨ (r = 3 ∧ ¬ bx_in (bg_U σ 24 g) t L ∧ ∃ g3 : Nat → Int32, (∀ i, i < bp_cn (σ 6) t → g3 (R * 3 + i) = g i) ∧ (∀ j, j < R * 3 → g3 j = σ 23 j) ∧ bx_fin (bx_rem (bx_keep (bx_see (bg_U σ 24 g) t) t R g3) t g2) t = σ'))))
theorem xm_handle (σ : bg_S) {t R : Nat} (L : List Nat) (ht : t < 12) (hO : bp_OK (σ 6) (σ 7)) (hR : σ 17 0 = nI R) (hR2 : R < 480) (hch : bp_ch (σ 19) (σ 18 t) L) (hl : ∀ a, a ∈ L → a < 480) (hk : L.length ≤ 480) : bg_M kX yX0_handle cX0_handle 5 (some .int) 2 49 [nI t] σ (bx_hd σ t R L) := by
  refine bg_enter okkX (by decide) rfl (Nat.le_of_ble_eq_true rfl) (fun X o C => ?_)
  refine bg_aload C 0 dX0_handle_0 ?_
  refine bg_iload_n C 1 dX0_handle_1 0 rfl rfl ?_
  refine xc_untouched C 2 (xm_unt σ ht hO) (by decide) (Nat.le_of_ble_eq_true rfl) dX0_handle_2 (fun r σ1 h1 => ?_)
  obtain ⟨rfl, ⟨rfl, hu⟩ | ⟨rfl, hu⟩⟩ := h1
  · refine bg_istore_n C 5 dX0_handle_5 1 rfl (by decide) ?_
    refine bg_iload_n C 6 dX0_handle_6 1 rfl rfl ?_
    refine bg_if_ne C 7 22 dX0_handle_7 (by decide) (fun c7 => ?_) (fun c => absurd c (by decide))
    refine bg_aload C 22 dX0_handle_22 ?_
    refine xg13 C 23 dX0_handle_23 ?_
    refine bg_iload_n C 26 dX0_handle_26 0 rfl rfl ?_
    refine bg_aload C 27 dX0_handle_27 ?_
    refine xg2 C 28 dX0_handle_28 ?_
    refine xs13 C 31 (by omega) dX0_handle_31 ?_
    refine bg_iload_n C 32 dX0_handle_32 1 rfl rfl ?_
    refine bg_if_eq C 33 38 dX0_handle_33 (by decide) (fun c => absurd c (by decide)) (fun c33 => ?_)
    refine bg_iconst C 36 (nI 1) dX0_handle_36 (by decide) ?_
    refine bg_ret C 37 rfl dX0_handle_37 ?_
    exact Or.inl ⟨rfl, hu, rfl⟩
  · refine bg_istore_n C 5 dX0_handle_5 1 rfl (by decide) ?_
    refine bg_iload_n C 6 dX0_handle_6 1 rfl rfl ?_
    refine bg_if_ne C 7 22 dX0_handle_7 (by decide) (fun c => absurd rfl c) (fun c7 => ?_)
    refine bg_aload C 10 dX0_handle_10 ?_
    refine bg_iload_n C 11 dX0_handle_11 0 rfl rfl ?_
    refine bg_iconst C 12 (0) dX0_handle_12 (by decide) ?_
    refine xc_loadRecord C 13 (xm_load σ (σ 14) ht hO (fun _ => rfl) (fun c => absurd rfl c)) (by decide) (Nat.le_of_ble_eq_true rfl) dX0_handle_13 (fun r σ1 h1 => ?_)
    obtain ⟨g, hg, rfl⟩ := h1
    refine bg_aload C 16 dX0_handle_16 ?_
    refine bg_iload_n C 17 dX0_handle_17 0 rfl rfl ?_
    refine xc_isLast C 18 (xm_last (bg_U σ 24 g) ht hO) (by decide) (Nat.le_of_ble_eq_true rfl) dX0_handle_18 (fun r σ1 h1 => ?_)
    obtain ⟨rfl, ⟨rfl, hla⟩ | ⟨rfl, hla⟩⟩ := h1
    · refine bg_istore_n C 21 dX0_handle_21 1 rfl (by decide) ?_
      refine bg_aload C 22 dX0_handle_22 ?_
      refine xg13 C 23 dX0_handle_23 ?_
      refine bg_iload_n C 26 dX0_handle_26 0 rfl rfl ?_
      refine bg_aload C 27 dX0_handle_27 ?_
      refine xg2 C 28 dX0_handle_28 ?_
      refine xs13 C 31 (by omega) dX0_handle_31 ?_
      refine bg_iload_n C 32 dX0_handle_32 1 rfl rfl ?_
      refine bg_if_eq C 33 38 dX0_handle_33 (by decide) (fun c => absurd c (by decide)) (fun c33 => ?_)
      refine bg_iconst C 36 (nI 1) dX0_handle_36 (by decide) ?_
      refine bg_ret C 37 rfl dX0_handle_37 ?_
      exact Or.inr ⟨g, hg, Or.inl ⟨rfl, hla, rfl⟩⟩
    · refine bg_istore_n C 21 dX0_handle_21 1 rfl (by decide) ?_
      refine bg_aload C 22 dX0_handle_22 ?_
      refine xg13 C 23 dX0_handle_23 ?_
      refine bg_iload_n C 26 dX0_handle_26 0 rfl rfl ?_
      refine bg_aload C 27 dX0_handle_27 ?_
      refine xg2 C 28 dX0_handle_28 ?_
      refine xs13 C 31 (by omega) dX0_handle_31 ?_
      refine bg_iload_n C 32 dX0_handle_32 1 rfl rfl ?_
      refine bg_if_eq C 33 38 dX0_handle_33 (by decide) (fun c33 => ?_) (fun c => absurd rfl c)
      refine bg_aload C 38 dX0_handle_38 ?_
      refine bg_iload_n C 39 dX0_handle_39 0 rfl rfl ?_
      refine xc_inStore C 40 (xm_in (bx_see (bg_U σ 24 g) t) L ht hO hch hl hk) (by decide) (Nat.le_of_ble_eq_true rfl) dX0_handle_40 (fun r σ1 h1 => ?_)
      obtain ⟨rfl, ⟨rfl, hi⟩ | ⟨rfl, hi⟩⟩ := h1
      · refine bg_istore_n C 43 dX0_handle_43 2 rfl (by decide) ?_
        refine bg_iload_n C 44 dX0_handle_44 2 rfl rfl ?_
        refine bg_if_ne C 45 53 dX0_handle_45 (by decide) (fun c45 => ?_) (fun c => absurd c (by decide))
        refine bg_aload C 53 dX0_handle_53 ?_
        refine bg_iload_n C 54 dX0_handle_54 0 rfl rfl ?_
        refine xc_remember C 55 (xm_rem (bx_see (bg_U σ 24 g) t) ht hO) (by decide) (Nat.le_of_ble_eq_true rfl) dX0_handle_55 (fun r σ1 h1 => ?_)
        obtain ⟨g2, hg2, hg3, rfl⟩ := h1
        refine bg_aload C 58 dX0_handle_58 ?_
        refine bg_iload_n C 59 dX0_handle_59 0 rfl rfl ?_
        refine xc_result C 60 (xm_result (bx_rem (bx_see (bg_U σ 24 g) t) t g2) ht hO) (by decide) (Nat.le_of_ble_eq_true rfl) dX0_handle_60 (fun r σ1 h1 => ?_)
        obtain ⟨rfl, rfl⟩ := h1
        refine bg_istore C 63 dX0_handle_63 3 rfl (by decide) ?_
        refine bg_iload C 65 dX0_handle_65 3 rfl rfl ?_
        refine bg_aload C 67 dX0_handle_67 ?_
        refine xg14 C 68 dX0_handle_68 ?_
        refine bg_iload_n C 71 dX0_handle_71 0 rfl rfl ?_
        refine xl14 C 72 (by omega) dX0_handle_72 ?_
        refine bg_icmp_eq C 73 86 dX0_handle_73 (by decide) (fun c73 => ?_) (fun c73 => ?_)
        · refine bg_uid 15 ?_
          refine bg_aload C 86 dX0_handle_86 ?_
          refine xg14 C 87 dX0_handle_87 ?_
          refine bg_iload_n C 90 dX0_handle_90 0 rfl rfl ?_
          refine bg_iload C 91 dX0_handle_91 3 rfl rfl ?_
          refine xs14 C 93 (by omega) dX0_handle_93 ?_
          refine bg_iload_n C 94 dX0_handle_94 2 rfl rfl ?_
          refine bg_if_eq C 95 102 dX0_handle_95 (by decide) (fun c => absurd c (by decide)) (fun c95 => ?_)
          refine bg_iconst C 98 (nI 2) dX0_handle_98 (by decide) ?_
          refine bg_goto C 99 103 dX0_handle_99 (by decide) ?_
          refine bg_ret C 103 rfl dX0_handle_103 ?_
          refine Or.inr ⟨g, hg, Or.inr ⟨hla, g2, hg2, hg3, Or.inl ⟨rfl, hi, ?_⟩⟩⟩
          rw [bx_fin, if_pos (show bx_rs (bx_rem (bx_see (bg_U σ 24 g) t) t g2) t = _ from c73)]
          rfl
        · refine bg_aload C 76 dX0_handle_76 ?_
          refine xg15 C 77 dX0_handle_77 ?_
          refine bg_iload_n C 80 dX0_handle_80 0 rfl rfl ?_
          refine bg_aload C 81 dX0_handle_81 ?_
          refine xg2 C 82 dX0_handle_82 ?_
          refine xs15 C 85 (by omega) dX0_handle_85 ?_
          refine bg_aload C 86 dX0_handle_86 ?_
          refine xg14 C 87 dX0_handle_87 ?_
          refine bg_iload_n C 90 dX0_handle_90 0 rfl rfl ?_
          refine bg_iload C 91 dX0_handle_91 3 rfl rfl ?_
          refine xs14 C 93 (by omega) dX0_handle_93 ?_
          refine bg_iload_n C 94 dX0_handle_94 2 rfl rfl ?_
          refine bg_if_eq C 95 102 dX0_handle_95 (by decide) (fun c => absurd c (by decide)) (fun c95 => ?_)
          refine bg_iconst C 98 (nI 2) dX0_handle_98 (by decide) ?_
          refine bg_goto C 99 103 dX0_handle_99 (by decide) ?_
          refine bg_ret C 103 rfl dX0_handle_103 ?_
          refine Or.inr ⟨g, hg, Or.inr ⟨hla, g2, hg2, hg3, Or.inl ⟨rfl, hi, ?_⟩⟩⟩
          rw [bx_fin, if_neg (show ¬ bx_rs (bx_rem (bx_see (bg_U σ 24 g) t) t g2) t = _ from c73)]
          rfl
      · refine bg_istore_n C 43 dX0_handle_43 2 rfl (by decide) ?_
        refine bg_iload_n C 44 dX0_handle_44 2 rfl rfl ?_
        refine bg_if_ne C 45 53 dX0_handle_45 (by decide) (fun c => absurd rfl c) (fun c45 => ?_)
        refine bg_aload C 48 dX0_handle_48 ?_
        refine bg_iload_n C 49 dX0_handle_49 0 rfl rfl ?_
        refine xc_keep C 50 (xm_keep (bx_see (bg_U σ 24 g) t) ht hR hR2 hO) (by decide) (Nat.le_of_ble_eq_true rfl) dX0_handle_50 (fun r σ1 h1 => ?_)
        obtain ⟨g3, hg4, hg5, rfl⟩ := h1
        refine bg_aload C 53 dX0_handle_53 ?_
        refine bg_iload_n C 54 dX0_handle_54 0 rfl rfl ?_
        refine xc_remember C 55 (xm_rem (bx_keep (bx_see (bg_U σ 24 g) t) t R g3) ht hO) (by decide) (Nat.le_of_ble_eq_true rfl) dX0_handle_55 (fun r σ1 h1 => ?_)
        obtain ⟨g2, hg2, hg3, rfl⟩ := h1
        refine bg_aload C 58 dX0_handle_58 ?_
        refine bg_iload_n C 59 dX0_handle_59 0 rfl rfl ?_
        refine xc_result C 60 (xm_result (bx_rem (bx_keep (bx_see (bg_U σ 24 g) t) t R g3) t g2) ht hO) (by decide) (Nat.le_of_ble_eq_true rfl) dX0_handle_60 (fun r σ1 h1 => ?_)
        obtain ⟨rfl, rfl⟩ := h1
        refine bg_istore C 63 dX0_handle_63 3 rfl (by decide) ?_
        refine bg_iload C 65 dX0_handle_65 3 rfl rfl ?_
        refine bg_aload C 67 dX0_handle_67 ?_
        refine xg14 C 68 dX0_handle_68 ?_
        refine bg_iload_n C 71 dX0_handle_71 0 rfl rfl ?_
        refine xl14 C 72 (by omega) dX0_handle_72 ?_
        refine bg_icmp_eq C 73 86 dX0_handle_73 (by decide) (fun c73 => ?_) (fun c73 => ?_)
        · refine bg_uid 15 ?_
          refine bg_aload C 86 dX0_handle_86 ?_
          refine xg14 C 87 dX0_handle_87 ?_
          refine bg_iload_n C 90 dX0_handle_90 0 rfl rfl ?_
          refine bg_iload C 91 dX0_handle_91 3 rfl rfl ?_
          refine xs14 C 93 (by omega) dX0_handle_93 ?_
          refine bg_iload_n C 94 dX0_handle_94 2 rfl rfl ?_
          refine bg_if_eq C 95 102 dX0_handle_95 (by decide) (fun c95 => ?_) (fun c => absurd rfl c)
          refine bg_iconst C 102 (nI 3) dX0_handle_102 (by decide) ?_
          refine bg_ret C 103 rfl dX0_handle_103 ?_
          refine Or.inr ⟨g, hg, Or.inr ⟨hla, g2, hg2, hg3, Or.inr ⟨rfl, hi, g3, hg4, hg5, ?_⟩⟩⟩
          rw [bx_fin, if_pos (show bx_rs (bx_rem (bx_keep (bx_see (bg_U σ 24 g) t) t R g3) t g2) t = _ from c73)]
          rfl
        · refine bg_aload C 76 dX0_handle_76 ?_
          refine xg15 C 77 dX0_handle_77 ?_
          refine bg_iload_n C 80 dX0_handle_80 0 rfl rfl ?_
          refine bg_aload C 81 dX0_handle_81 ?_
          refine xg2 C 82 dX0_handle_82 ?_
          refine xs15 C 85 (by omega) dX0_handle_85 ?_
          refine bg_aload C 86 dX0_handle_86 ?_
          refine xg14 C 87 dX0_handle_87 ?_
          refine bg_iload_n C 90 dX0_handle_90 0 rfl rfl ?_
          refine bg_iload C 91 dX0_handle_91 3 rfl rfl ?_
          refine xs14 C 93 (by omega) dX0_handle_93 ?_
          refine bg_iload_n C 94 dX0_handle_94 2 rfl rfl ?_
          refine bg_if_eq C 95 102 dX0_handle_95 (by decide) (fun c95 => ?_) (fun c => absurd rfl c)
          refine bg_iconst C 102 (nI 3) dX0_handle_102 (by decide) ?_
          refine bg_ret C 103 rfl dX0_handle_103 ?_
          refine Or.inr ⟨g, hg, Or.inr ⟨hla, g2, hg2, hg3, Or.inr ⟨rfl, hi, g3, hg4, hg5, ?_⟩⟩⟩
          rw [bx_fin, if_neg (show ¬ bx_rs (bx_rem (bx_keep (bx_see (bg_U σ 24 g) t) t R g3) t g2) t = _ from c73)]
          rfl
end
section
/-! BuildGraph: build and the questions -/
set_option maxRecDepth 100000
/-- the store's shape: R records are down, those of task t at the places Ls t -/
def bx_S (σ : bg_S) (Ls : Nat → List Nat) (R : Nat) : Prop := σ 17 0 = nI R ∧ ∀ t, t < 12 → bp_ch (σ 19) (σ 18 t) (Ls t) ∧ ∀ a, a ∈ Ls t → a < R
def bx_push (Ls : Nat → List Nat) (t R : Nat) : Nat → List Nat := fun u => if u = t then R :: Ls t else Ls u
/-- one step of a build: task t, with the mask m -/
def bx_st (m : Int32) (t : Nat) (σ1 : bg_S) (Ls1 : Nat → List Nat) (R1 : Nat) (n1 : Int32) (σ : bg_S) (Ls : Nat → List Nat) (R : Nat) (n : Int32) : Prop :=
  (bp_bit m t ∧ ∃ (r : Int32) (σ2 : bg_S), bx_hd σ1 t R1 (Ls1 t) r σ2 ∧ bg_U σ2 25 (upd (σ2 25) t r) = σ ∧ ((r = 3 ∧ n = n1 + 1 ∧ Ls = bx_push Ls1 t R1 ∧ R = R1 + 1) ∨ (¬ r = 3 ∧ n = n1 ∧ Ls = Ls1 ∧ R = R1))) ∨ (¬ bp_bit m t ∧ bg_U σ1 25 (upd (σ1 25) t 0) = σ ∧ n = n1 ∧ Ls = Ls1 ∧ R = R1)
/-- the first t steps of a build -/
def bx_bl (m : Int32) (σ0 : bg_S) (Ls0 : Nat → List Nat) (R0 : Nat) : Nat → bg_S → (Nat → List Nat) → Nat → Int32 → Prop
  | 0, σ, Ls, R, n => σ = σ0 ∧ Ls = Ls0 ∧ R = R0 ∧ n = 0
  | t + 1, σ, Ls, R, n => ∃ (σ1 : bg_S) (Ls1 : Nat → List Nat) (R1 : Nat) (n1 : Int32), bx_bl m σ0 Ls0 R0 t σ1 Ls1 R1 n1 ∧ bx_st m t σ1 Ls1 R1 n1 σ Ls R n
theorem bx_S_see {σ : bg_S} {Ls : Nat → List Nat} {R : Nat} (h : bx_S σ Ls R) (t : Nat) : bx_S (bx_see σ t) Ls R := h
theorem bx_S_keep {σ : bg_S} {Ls : Nat → List Nat} {R t : Nat} (h : bx_S σ Ls R) (g : Nat → Int32) : bx_S (bx_keep σ t R g) (bx_push Ls t R) (R + 1) := by
  obtain ⟨h1, h2⟩ := h
  refine ⟨rfl, fun u hu => ?_⟩
  obtain ⟨h3, h4⟩ := h2 u hu
  show bp_ch (upd (σ 19) R (σ 18 t)) (upd (σ 18) t (nI R) u) (bx_push Ls t R u) ∧ _
  unfold bx_push
  by_cases e : u = t
  · subst e
    rw [if_pos rfl, pk_us]
    refine ⟨⟨rfl, ?_⟩, fun a ha => ?_⟩
    · rw [pk_us]
      exact bp_ch_upd (fun a ha => by have := h4 a ha; omega) h3
    · rcases List.mem_cons.mp ha with e | e
      · omega
      · have := h4 a e
        omega
  · rw [if_neg e, pk_un e]
    exact ⟨bp_ch_upd (fun a ha => by have := h4 a ha; omega) h3, fun a ha => by have := h4 a ha; omega⟩
theorem bx_hd_S {σ σ' : bg_S} {t R : Nat} {Ls : Nat → List Nat} {r : Int32} (h : bx_hd σ t R (Ls t) r σ') (hS : bx_S σ Ls R) : (σ' 6 = σ 6 ∧ σ' 7 = σ 7) ∧ ((r = 3 ∧ bx_S σ' (bx_push Ls t R) (R + 1)) ∨ (¬ r = 3 ∧ bx_S σ' Ls R)) := by
  rcases h with ⟨rfl, -, rfl⟩ | ⟨g, -, ⟨rfl, -, rfl⟩ | ⟨-, g2, -, -, ⟨rfl, -, rfl⟩ | ⟨rfl, -, g3, -, -, rfl⟩⟩⟩
  · exact ⟨⟨rfl, rfl⟩, Or.inr ⟨by decide, hS⟩⟩
  · exact ⟨⟨rfl, rfl⟩, Or.inr ⟨by decide, hS⟩⟩
  · exact ⟨⟨rfl, rfl⟩, Or.inr ⟨by decide, hS⟩⟩
  · exact ⟨⟨rfl, rfl⟩, Or.inl ⟨rfl, bx_S_keep (σ := bx_see (bg_U σ 24 g) t) hS g3⟩⟩
def bx_b0 (σ : bg_S) : bg_S := bg_U (bg_U σ 16 (fun _ => σ 16 0 + 1)) 2 (fun _ => σ 2 0 + 1)
theorem xw_build {X : bg_E} {o : bg_O} {post : Int32 → bg_S → Prop} (C : bg_Cx X kX o cX0_build 5 3 73 (some .int) post) {a m : Int32} {σ0 : bg_S} {Ls0 : Nat → List Nat} {R0 B : Nat} (hB : B < 40)
    (K : ∀ (σ : bg_S) (Ls : Nat → List Nat) (R : Nat) (n : Int32), bx_bl m σ0 Ls0 R0 12 σ Ls R n → bg_X X kX o σ [a, m, n, nI 12] 107 []) : ∀ (k t : Nat) (σ : bg_S) (Ls : Nat → List Nat) (R : Nat) (n : Int32), t + k = 12 → bx_bl m σ0 Ls0 R0 t σ Ls R n → bx_S σ Ls R → R ≤ 12 * B + t → (∀ u, t ≤ u → u < 12 → (Ls u).length ≤ B) → bp_OK (σ 6) (σ 7) → bg_X X kX o σ [a, m, n, nI t] 53 [] := by
  intro k
  induction k with
  | zero =>
    intro t σ Ls R n htk hbl hS hR hL hO
    have e : t = 12 := by omega
    subst e
    refine bg_iload C 53 dX0_build_53 3 rfl rfl ?_
    refine bg_bipush C 55 (nI 12) dX0_build_55 (by decide) ?_
    refine bg_icmpN_ge C 57 (by omega) (by omega) 107 dX0_build_57 (by decide) (fun c57 => ?_) (fun c => absurd c (by omega))
    exact K σ Ls R n hbl
  | succ k ih =>
    intro t σ Ls R n htk hbl hS hR hL hO
    have ht : t < 12 := by omega
    refine bg_iload C 53 dX0_build_53 3 rfl rfl ?_
    refine bg_bipush C 55 (nI 12) dX0_build_55 (by decide) ?_
    refine bg_icmpN_ge C 57 (by omega) (by omega) 107 dX0_build_57 (by decide) (fun c => absurd c (by omega)) (fun c57 => ?_)
    refine bg_aload C 60 dX0_build_60 ?_
    refine xg25 C 61 dX0_build_61 ?_
    refine bg_iload C 64 dX0_build_64 3 rfl rfl ?_
    refine bg_iload_n C 66 dX0_build_66 1 rfl rfl ?_
    refine bg_iload C 67 dX0_build_67 3 rfl rfl ?_
    refine bg_ishr C 69 dX0_build_69 ?_
    refine bg_iconst C 70 (1) dX0_build_70 (by decide) ?_
    refine bg_iand C 71 dX0_build_71 ?_
    refine bg_iconst C 72 (1) dX0_build_72 (by decide) ?_
    refine bg_icmp_ne C 73 85 dX0_build_73 (by decide) (fun c73 => ?_) (fun c73 => ?_)
    · refine bg_iconst C 85 (0) dX0_build_85 (by decide) ?_
      refine xs25 C 86 (by omega) dX0_build_86 ?_
      refine bg_aload C 87 dX0_build_87 ?_
      refine xg25 C 88 dX0_build_88 ?_
      refine bg_iload C 91 dX0_build_91 3 rfl rfl ?_
      refine xl25 C 93 (by omega) dX0_build_93 ?_
      refine bg_eq (pk_us) ?_
      refine bg_iconst C 94 (3) dX0_build_94 (by decide) ?_
      refine bg_icmp_ne C 95 101 dX0_build_95 (by decide) (fun c95 => ?_) (fun c => absurd c (by decide))
      refine bg_iincN C 101 dX0_build_101 3 rfl (by decide) rfl ?_
      refine bg_goto C 104 53 dX0_build_104 (by decide) ?_
      exact ih (t + 1) _ Ls R n (by omega) ⟨σ, Ls, R, n, hbl, Or.inr ⟨c73, rfl, rfl, rfl, rfl⟩⟩ hS (by omega) (fun u hu => hL u (by omega)) hO
    · obtain ⟨hch, hl⟩ := hS.2 t ht
      refine bg_aload C 76 dX0_build_76 ?_
      refine bg_iload C 77 dX0_build_77 3 rfl rfl ?_
      refine xc_handle C 79 (xm_handle σ (Ls t) ht hO hS.1 (by omega) hch (fun x hx => by have := hl x hx; omega) (by have := hL t (Nat.le_refl t) ht; omega)) (by decide) (Nat.le_of_ble_eq_true rfl) dX0_build_79 (fun r σ1 h1 => ?_)
      obtain ⟨⟨e6, e7⟩, hh⟩ := bx_hd_S h1 hS
      have hO2 : bp_OK (σ1 6) (σ1 7) := by rw [e6, e7]; exact hO
      refine bg_goto C 82 86 dX0_build_82 (by decide) ?_
      refine xs25 C 86 (by omega) dX0_build_86 ?_
      refine bg_aload C 87 dX0_build_87 ?_
      refine xg25 C 88 dX0_build_88 ?_
      refine bg_iload C 91 dX0_build_91 3 rfl rfl ?_
      refine xl25 C 93 (by omega) dX0_build_93 ?_
      refine bg_eq (pk_us) ?_
      refine bg_iconst C 94 (3) dX0_build_94 (by decide) ?_
      refine bg_icmp_ne C 95 101 dX0_build_95 (by decide) (fun c95 => ?_) (fun c95 => ?_)
      · refine bg_iincN C 101 dX0_build_101 3 rfl (by decide) rfl ?_
        refine bg_goto C 104 53 dX0_build_104 (by decide) ?_
        rcases hh with ⟨hr3, hh⟩ | ⟨hr3, hh⟩
        · exact absurd hr3 c95
        · exact ih (t + 1) _ Ls R n (by omega) ⟨σ, Ls, R, n, hbl, Or.inl ⟨c73, r, σ1, h1, rfl, Or.inr ⟨hr3, rfl, rfl, rfl⟩⟩⟩ hh (by omega) (fun u hu => hL u (by omega)) hO2
      · refine bg_iinc1 C 98 dX0_build_98 2 rfl (by decide) rfl ?_
        refine bg_iincN C 101 dX0_build_101 3 rfl (by decide) rfl ?_
        refine bg_goto C 104 53 dX0_build_104 (by decide) ?_
        rcases hh with ⟨hr3, hh⟩ | ⟨hr3, hh⟩
        · refine ih (t + 1) _ (bx_push Ls t R) (R + 1) (n + 1) (by omega) ⟨σ, Ls, R, n, hbl, Or.inl ⟨c73, r, σ1, h1, rfl, Or.inl ⟨hr3, rfl, rfl, rfl⟩⟩⟩ hh (by omega) (fun u hu hu2 => ?_) hO2
          show (if u = t then R :: Ls t else Ls u).length ≤ B
          rw [if_neg (by omega)]
          exact hL u (by omega) hu2
        · exact absurd c95 hr3
theorem xm_build (σ : bg_S) (a : Int32) {T B R : Nat} (Ls : Nat → List Nat) (hT : σ 3 0 = nI T) (hT12 : T ≤ 12) (hO : bp_OK (σ 6) (σ 7)) (hB : σ 16 0 = nI B) (hB2 : B ≤ 40) (hS : bx_S σ Ls R) (hR : R ≤ 12 * B) (hL : ∀ u, u < 12 → (Ls u).length ≤ B) : bg_M kX yX0_build cX0_build 5 (some .int) 3 73 [a] σ (fun r σ' => bp_pick T a (r = -1 ∧ σ = σ') (fun t => (B = 40 → r = -4 ∧ σ = σ') ∧ (B < 40 → ∃ (σ1 : bg_S) (Ls1 : Nat → List Nat) (R1 : Nat), bx_bl (bp_need (σ 6) (σ 7) t) (bx_b0 σ) Ls R 12 σ1 Ls1 R1 r ∧ bg_U σ1 27 (fun _ => σ1 27 0 + r) = σ'))) := by
  refine bg_enter okkX (by decide) rfl (Nat.le_of_ble_eq_true rfl) (fun X o C => ?_)
  rcases bp_dich T (by omega) a with ⟨hb, -⟩ | ⟨t, ht, rfl⟩
  · refine bg_aload C 0 dX0_build_0 ?_
    refine bg_iload_n C 1 dX0_build_1 0 rfl rfl ?_
    refine xc_noTask C 2 (xm_noTask σ _ hT hT12) (by decide) (Nat.le_of_ble_eq_true rfl) dX0_build_2 (fun r σ1 h1 => ?_)
    obtain ⟨rfl, rfl⟩ := h1.1 hb
    refine bg_if_eq C 5 10 dX0_build_5 (by decide) (fun c => absurd c (by decide)) (fun c5 => ?_)
    refine bg_iconst C 8 (-1) dX0_build_8 (by decide) ?_
    refine bg_ret C 9 rfl dX0_build_9 ?_
    exact bp_pick_bad hb ⟨rfl, rfl⟩
  · refine bg_aload C 0 dX0_build_0 ?_
    refine bg_iload_n C 1 dX0_build_1 0 rfl rfl ?_
    refine xc_noTask C 2 (xm_noTask σ _ hT hT12) (by decide) (Nat.le_of_ble_eq_true rfl) dX0_build_2 (fun r σ1 h1 => ?_)
    obtain ⟨rfl, rfl⟩ := h1.2 t ht rfl
    refine bg_if_eq C 5 10 dX0_build_5 (by decide) (fun c5 => ?_) (fun c => absurd rfl c)
    refine bg_aload C 10 dX0_build_10 ?_
    refine xg16 C 11 dX0_build_11 ?_
    refine bg_eq (hB) ?_
    refine bg_bipush C 14 (nI 40) dX0_build_14 (by decide) ?_
    refine bg_icmpN_lt C 16 (by omega) (by omega) 22 dX0_build_16 (by decide) (fun c16 => ?_) (fun c16 => ?_)
    · refine bg_aload C 22 dX0_build_22 ?_
      refine bg_dup C 23 dX0_build_23 rfl ?_
      refine xg16 C 24 dX0_build_24 ?_
      refine bg_iconst C 27 (1) dX0_build_27 (by decide) ?_
      refine bg_iadd C 28 dX0_build_28 ?_
      refine xp16 C 29 dX0_build_29 ?_
      refine bg_aload C 32 dX0_build_32 ?_
      refine bg_dup C 33 dX0_build_33 rfl ?_
      refine xg2 C 34 dX0_build_34 ?_
      refine bg_iconst C 37 (1) dX0_build_37 (by decide) ?_
      refine bg_iadd C 38 dX0_build_38 ?_
      refine xp2 C 39 dX0_build_39 ?_
      refine bg_aload C 42 dX0_build_42 ?_
      refine bg_iload_n C 43 dX0_build_43 0 rfl rfl ?_
      refine xc_neededSet C 44 (xm_nd (bx_b0 σ) (by omega) hO) (by decide) (Nat.le_of_ble_eq_true rfl) dX0_build_44 (fun r σ1 h1 => ?_)
      obtain ⟨rfl, rfl⟩ := h1
      refine bg_istore_n C 47 dX0_build_47 1 rfl (by decide) ?_
      refine bg_iconst C 48 (0) dX0_build_48 (by decide) ?_
      refine bg_istore_n C 49 dX0_build_49 2 rfl (by decide) ?_
      refine bg_iconst C 50 (nI 0) dX0_build_50 (by decide) ?_
      refine bg_istore C 51 dX0_build_51 3 rfl (by decide) ?_
      refine xw_build C (B := B) c16 (fun σ1 Ls1 R1 n hbl => ?_) 12 0 (bx_b0 σ) Ls R 0 (by omega) ⟨rfl, rfl, rfl, rfl⟩ hS (by omega) (fun u _ hu => hL u hu) hO
      refine bg_aload C 107 dX0_build_107 ?_
      refine bg_dup C 108 dX0_build_108 rfl ?_
      refine xg27 C 109 dX0_build_109 ?_
      refine bg_iload_n C 112 dX0_build_112 2 rfl rfl ?_
      refine bg_iadd C 113 dX0_build_113 ?_
      refine xp27 C 114 dX0_build_114 ?_
      refine bg_iload_n C 117 dX0_build_117 2 rfl rfl ?_
      refine bg_ret C 118 rfl dX0_build_118 ?_
      exact bp_pick_ok (by omega) ht ⟨fun h => absurd h (by omega), fun _ => ⟨σ1, Ls1, R1, hbl, rfl⟩⟩
    · refine bg_bipush C 19 (-4) dX0_build_19 (by decide) ?_
      refine bg_ret C 21 rfl dX0_build_21 ?_
      exact bp_pick_ok (by omega) ht ⟨fun _ => ⟨rfl, rfl⟩, fun h => absurd h (by omega)⟩
theorem xw_now {X : bg_E} {o : bg_O} {post : Int32 → bg_S → Prop} (C : bg_Cx X kX o cX0_workOutNow 2 1 24 none post) (σ : bg_S) {T : Nat} (hT : σ 3 0 = nI T) (hT12 : T ≤ 12) (hO : bp_OK (σ 6) (σ 7))
    (K : ∀ w g : Nat → Int32, bp_now (σ 0) (σ 4) (σ 5) (σ 6) (σ 7) w T → bg_X X kX o (bg_U (bg_U σ 26 w) 24 g) [nI T] 33 []) : ∀ (k t : Nat) (w g : Nat → Int32), t + k = T → bp_now (σ 0) (σ 4) (σ 5) (σ 6) (σ 7) w t → bg_X X kX o (bg_U (bg_U σ 26 w) 24 g) [nI t] 2 [] := by
  intro k
  induction k with
  | zero =>
    intro t w g htk hw
    have e : t = T := by omega
    subst e
    refine bg_iload_n C 2 dX0_workOutNow_2 0 rfl rfl ?_
    refine bg_aload C 3 dX0_workOutNow_3 ?_
    refine xg3 C 4 dX0_workOutNow_4 ?_
    refine bg_eq (hT) ?_
    refine bg_icmpN_ge C 7 (by omega) (by omega) 33 dX0_workOutNow_7 (by decide) (fun c7 => ?_) (fun c => absurd c (by omega))
    exact K w g hw
  | succ k ih =>
    intro t w g htk hw
    refine bg_iload_n C 2 dX0_workOutNow_2 0 rfl rfl ?_
    refine bg_aload C 3 dX0_workOutNow_3 ?_
    refine xg3 C 4 dX0_workOutNow_4 ?_
    refine bg_eq (hT) ?_
    refine bg_icmpN_ge C 7 (by omega) (by omega) 33 dX0_workOutNow_7 (by decide) (fun c => absurd c (by omega)) (fun c7 => ?_)
    refine bg_aload C 10 dX0_workOutNow_10 ?_
    refine bg_iload_n C 11 dX0_workOutNow_11 0 rfl rfl ?_
    refine bg_iconst C 12 (1) dX0_workOutNow_12 (by decide) ?_
    refine xc_loadRecord C 13 (xm_load (bg_U (bg_U σ 26 w) 24 g) (b := 1) w (by omega) hO (fun c => absurd c (by decide)) (fun _ => rfl)) (by decide) (Nat.le_of_ble_eq_true rfl) dX0_workOutNow_13 (fun r σ1 h1 => ?_)
    obtain ⟨g2, hg2, rfl⟩ := h1
    refine bg_uu ?_
    refine bg_aload C 16 dX0_workOutNow_16 ?_
    refine xg26 C 17 dX0_workOutNow_17 ?_
    refine bg_iload_n C 20 dX0_workOutNow_20 0 rfl rfl ?_
    refine bg_aload C 21 dX0_workOutNow_21 ?_
    refine bg_iload_n C 22 dX0_workOutNow_22 0 rfl rfl ?_
    refine xc_result C 23 (xm_result (bg_U (bg_U σ 26 w) 24 g2) (by omega) hO) (by decide) (Nat.le_of_ble_eq_true rfl) dX0_workOutNow_23 (fun r σ1 h1 => ?_)
    obtain ⟨rfl, rfl⟩ := h1
    refine xs26 C 26 (by omega) dX0_workOutNow_26 ?_
    refine bg_iincN C 27 dX0_workOutNow_27 0 rfl (by decide) rfl ?_
    refine bg_goto C 30 2 dX0_workOutNow_30 (by decide) ?_
    rw [bg_UU3 σ (k := 26) (j := 24) (by decide)]
    exact ih (t + 1) _ g2 (by omega) (bp_now_step hO (by omega) hw hg2 rfl)
theorem xm_now (σ : bg_S) {T : Nat} (hT : σ 3 0 = nI T) (hT12 : T ≤ 12) (hO : bp_OK (σ 6) (σ 7)) : bg_M kX yX0_workOutNow cX0_workOutNow 2 none 1 24 [] σ (fun _ σ' => ∃ w g : Nat → Int32, bp_now (σ 0) (σ 4) (σ 5) (σ 6) (σ 7) w T ∧ bg_U (bg_U σ 26 w) 24 g = σ') := by
  refine bg_enter okkX (by decide) rfl (Nat.le_of_ble_eq_true rfl) (fun X o C => ?_)
  refine bg_iconst C 0 (nI 0) dX0_workOutNow_0 (by decide) ?_
  refine bg_istore_n C 1 dX0_workOutNow_1 0 rfl (by decide) ?_
  refine bg_uid 26 (bg_uid 24 ?_)
  refine xw_now C σ hT hT12 hO (fun w g hw => ?_) T 0 (σ 26) _ (by omega) (fun u hu => absurd hu (by omega))
  refine bg_vret C 33 dX0_workOutNow_33 ?_
  exact ⟨w, g, hw, rfl⟩
theorem xm_fresh (σ : bg_S) (a : Int32) {T : Nat} (hT : σ 3 0 = nI T) (hT12 : T ≤ 12) (hO : bp_OK (σ 6) (σ 7)) : bg_M kX yX0_fresh cX0_fresh 2 (some .int) 2 45 [a] σ (fun r σ' => bp_pick T a (r = 0 ∧ σ = σ') (fun t => ∃ w g : Nat → Int32, bp_now (σ 0) (σ 4) (σ 5) (σ 6) (σ 7) w T ∧ r = w t ∧ bg_U (bg_U σ 26 w) 24 g = σ')) := by
  refine bg_enter okkX (by decide) rfl (Nat.le_of_ble_eq_true rfl) (fun X o C => ?_)
  rcases bp_dich T (by omega) a with ⟨hb, -⟩ | ⟨t, ht, rfl⟩
  · refine bg_aload C 0 dX0_fresh_0 ?_
    refine bg_iload_n C 1 dX0_fresh_1 0 rfl rfl ?_
    refine xc_noTask C 2 (xm_noTask σ _ hT hT12) (by decide) (Nat.le_of_ble_eq_true rfl) dX0_fresh_2 (fun r σ1 h1 => ?_)
    obtain ⟨rfl, rfl⟩ := h1.1 hb
    refine bg_if_eq C 5 10 dX0_fresh_5 (by decide) (fun c => absurd c (by decide)) (fun c5 => ?_)
    refine bg_iconst C 8 (nI 0) dX0_fresh_8 (by decide) ?_
    refine bg_ret C 9 rfl dX0_fresh_9 ?_
    exact bp_pick_bad hb ⟨rfl, rfl⟩
  · refine bg_aload C 0 dX0_fresh_0 ?_
    refine bg_iload_n C 1 dX0_fresh_1 0 rfl rfl ?_
    refine xc_noTask C 2 (xm_noTask σ _ hT hT12) (by decide) (Nat.le_of_ble_eq_true rfl) dX0_fresh_2 (fun r σ1 h1 => ?_)
    obtain ⟨rfl, rfl⟩ := h1.2 t ht rfl
    refine bg_if_eq C 5 10 dX0_fresh_5 (by decide) (fun c5 => ?_) (fun c => absurd rfl c)
    refine bg_aload C 10 dX0_fresh_10 ?_
    refine xc_workOutNow C 11 (xm_now σ hT hT12 hO) (by decide) (Nat.le_of_ble_eq_true rfl) dX0_fresh_11 (fun r σ1 h1 => ?_)
    obtain ⟨w, g, hw, rfl⟩ := h1
    refine bg_aload C 14 dX0_fresh_14 ?_
    refine xg26 C 15 dX0_fresh_15 ?_
    refine bg_iload_n C 18 dX0_fresh_18 0 rfl rfl ?_
    refine xl26 C 19 (by omega) dX0_fresh_19 ?_
    refine bg_ret C 20 rfl dX0_fresh_20 ?_
    exact bp_pick_ok (by omega) ht ⟨w, g, hw, rfl, rfl⟩
theorem xw_needed {X : bg_E} {o : bg_O} {post : Int32 → bg_S → Prop} (C : bg_Cx X kX o cX0_needed 5 2 47 (some .int) post) (σ : bg_S) {a m : Int32}
    (K : bg_X X kX o σ [a, m, bp_pc m 12, nI 12] 43 []) : ∀ (k t : Nat), t + k = 12 → bg_X X kX o σ [a, m, bp_pc m t, nI t] 21 [] := by
  intro k
  induction k with
  | zero =>
    intro t htk
    have e : t = 12 := by omega
    subst e
    refine bg_iload C 21 dX0_needed_21 3 rfl rfl ?_
    refine bg_bipush C 23 (nI 12) dX0_needed_23 (by decide) ?_
    refine bg_icmpN_ge C 25 (by omega) (by omega) 43 dX0_needed_25 (by decide) (fun c25 => ?_) (fun c => absurd c (by omega))
    exact K
  | succ k ih =>
    intro t htk
    refine bg_iload C 21 dX0_needed_21 3 rfl rfl ?_
    refine bg_bipush C 23 (nI 12) dX0_needed_23 (by decide) ?_
    refine bg_icmpN_ge C 25 (by omega) (by omega) 43 dX0_needed_25 (by decide) (fun c => absurd c (by omega)) (fun c25 => ?_)
    refine bg_iload_n C 28 dX0_needed_28 2 rfl rfl ?_
    refine bg_iload_n C 29 dX0_needed_29 1 rfl rfl ?_
    refine bg_iload C 30 dX0_needed_30 3 rfl rfl ?_
    refine bg_ishr C 32 dX0_needed_32 ?_
    refine bg_iconst C 33 (1) dX0_needed_33 (by decide) ?_
    refine bg_iand C 34 dX0_needed_34 ?_
    refine bg_iadd C 35 dX0_needed_35 ?_
    refine bg_istore_n C 36 dX0_needed_36 2 rfl (by decide) ?_
    refine bg_iincN C 37 dX0_needed_37 3 rfl (by decide) rfl ?_
    refine bg_goto C 40 21 dX0_needed_40 (by decide) ?_
    exact ih (t + 1) (by omega)
theorem xm_needed (σ : bg_S) (a : Int32) {T : Nat} (hT : σ 3 0 = nI T) (hT12 : T ≤ 12) (hO : bp_OK (σ 6) (σ 7)) : bg_M kX yX0_needed cX0_needed 5 (some .int) 2 47 [a] σ (fun r σ' => σ = σ' ∧ bp_pick T a (r = -1) (fun t => r = bp_pc (bp_need (σ 6) (σ 7) t) 12)) := by
  refine bg_enter okkX (by decide) rfl (Nat.le_of_ble_eq_true rfl) (fun X o C => ?_)
  rcases bp_dich T (by omega) a with ⟨hb, -⟩ | ⟨t, ht, rfl⟩
  · refine bg_aload C 0 dX0_needed_0 ?_
    refine bg_iload_n C 1 dX0_needed_1 0 rfl rfl ?_
    refine xc_noTask C 2 (xm_noTask σ _ hT hT12) (by decide) (Nat.le_of_ble_eq_true rfl) dX0_needed_2 (fun r σ1 h1 => ?_)
    obtain ⟨rfl, rfl⟩ := h1.1 hb
    refine bg_if_eq C 5 10 dX0_needed_5 (by decide) (fun c => absurd c (by decide)) (fun c5 => ?_)
    refine bg_iconst C 8 (-1) dX0_needed_8 (by decide) ?_
    refine bg_ret C 9 rfl dX0_needed_9 ?_
    exact ⟨rfl, bp_pick_bad hb rfl⟩
  · refine bg_aload C 0 dX0_needed_0 ?_
    refine bg_iload_n C 1 dX0_needed_1 0 rfl rfl ?_
    refine xc_noTask C 2 (xm_noTask σ _ hT hT12) (by decide) (Nat.le_of_ble_eq_true rfl) dX0_needed_2 (fun r σ1 h1 => ?_)
    obtain ⟨rfl, rfl⟩ := h1.2 t ht rfl
    refine bg_if_eq C 5 10 dX0_needed_5 (by decide) (fun c5 => ?_) (fun c => absurd rfl c)
    refine bg_aload C 10 dX0_needed_10 ?_
    refine bg_iload_n C 11 dX0_needed_11 0 rfl rfl ?_
    refine xc_neededSet C 12 (xm_nd σ (by omega) hO) (by decide) (Nat.le_of_ble_eq_true rfl) dX0_needed_12 (fun r σ1 h1 => ?_)
    obtain ⟨rfl, rfl⟩ := h1
    refine bg_istore_n C 15 dX0_needed_15 1 rfl (by decide) ?_
    refine bg_iconst C 16 (0) dX0_needed_16 (by decide) ?_
    refine bg_istore_n C 17 dX0_needed_17 2 rfl (by decide) ?_
    refine bg_iconst C 18 (nI 0) dX0_needed_18 (by decide) ?_
    refine bg_istore C 19 dX0_needed_19 3 rfl (by decide) ?_
    refine xw_needed C σ ?_ 12 0 (by omega)
    refine bg_iload_n C 43 dX0_needed_43 2 rfl rfl ?_
    refine bg_ret C 44 rfl dX0_needed_44 ?_
    exact ⟨rfl, bp_pick_ok (by omega) ht rfl⟩
theorem xm_would (σ : bg_S) {t : Nat} (L : List Nat) (ht : t < 12) (hO : bp_OK (σ 6) (σ 7)) (hch : bp_ch (σ 19) (σ 18 t) L) (hl : ∀ a, a ∈ L → a < 480) (hk : L.length ≤ 480) : bg_M kX yX0_wouldExecute cX0_wouldExecute 3 (some .boolean) 2 49 [nI t] σ (fun r σ' => ∃ g : Nat → Int32, bg_U σ 24 g = σ' ∧ ((r = 1 ∧ ¬ bx_lastv σ t (bp_vl (σ 0) (σ 7) (σ 26) t) ∧ ¬ bx_inv σ t L (bp_vl (σ 0) (σ 7) (σ 26) t)) ∨ (r = 0 ∧ ¬ (¬ bx_lastv σ t (bp_vl (σ 0) (σ 7) (σ 26) t) ∧ ¬ bx_inv σ t L (bp_vl (σ 0) (σ 7) (σ 26) t))))) := by
  refine bg_enter okkX (by decide) rfl (Nat.le_of_ble_eq_true rfl) (fun X o C => ?_)
  refine bg_aload C 0 dX0_wouldExecute_0 ?_
  refine bg_iload_n C 1 dX0_wouldExecute_1 0 rfl rfl ?_
  refine bg_iconst C 2 (1) dX0_wouldExecute_2 (by decide) ?_
  refine xc_loadRecord C 3 (xm_load σ (b := 1) (σ 26) ht hO (fun c => absurd c (by decide)) (fun _ => rfl)) (by decide) (Nat.le_of_ble_eq_true rfl) dX0_wouldExecute_3 (fun r σ1 h1 => ?_)
  obtain ⟨g, hg, rfl⟩ := h1
  have i1 := bx_last_iff (σ := bg_U σ 24 g) (t := t) (v := bp_vl (σ 0) (σ 7) (σ 26) t) hg
  have i2 := bx_in_iff (σ := bg_U σ 24 g) (t := t) (L := L) (v := bp_vl (σ 0) (σ 7) (σ 26) t) hg
  refine bg_aload C 6 dX0_wouldExecute_6 ?_
  refine bg_iload_n C 7 dX0_wouldExecute_7 0 rfl rfl ?_
  refine xc_isLast C 8 (xm_last (bg_U σ 24 g) ht hO) (by decide) (Nat.le_of_ble_eq_true rfl) dX0_wouldExecute_8 (fun r σ1 h1 => ?_)
  obtain ⟨rfl, ⟨rfl, hla⟩ | ⟨rfl, hla⟩⟩ := h1
  · refine bg_istore_n C 11 dX0_wouldExecute_11 1 rfl (by decide) ?_
    refine bg_iload_n C 12 dX0_wouldExecute_12 1 rfl rfl ?_
    refine bg_if_ne C 13 28 dX0_wouldExecute_13 (by decide) (fun c13 => ?_) (fun c => absurd c (by decide))
    refine bg_iconst C 28 (nI 0) dX0_wouldExecute_28 (by decide) ?_
    refine bg_ret C 29 rfl dX0_wouldExecute_29 ?_
    exact ⟨g, rfl, Or.inr ⟨rfl, fun h => h.1 (i1.mp hla)⟩⟩
  · refine bg_istore_n C 11 dX0_wouldExecute_11 1 rfl (by decide) ?_
    refine bg_iload_n C 12 dX0_wouldExecute_12 1 rfl rfl ?_
    refine bg_if_ne C 13 28 dX0_wouldExecute_13 (by decide) (fun c => absurd rfl c) (fun c13 => ?_)
    refine bg_aload C 16 dX0_wouldExecute_16 ?_
    refine bg_iload_n C 17 dX0_wouldExecute_17 0 rfl rfl ?_
    refine xc_inStore C 18 (xm_in (bg_U σ 24 g) L ht hO hch hl hk) (by decide) (Nat.le_of_ble_eq_true rfl) dX0_wouldExecute_18 (fun r σ1 h1 => ?_)
    obtain ⟨rfl, ⟨rfl, hi⟩ | ⟨rfl, hi⟩⟩ := h1
    · refine bg_if_ne C 21 28 dX0_wouldExecute_21 (by decide) (fun c21 => ?_) (fun c => absurd c (by decide))
      refine bg_iconst C 28 (nI 0) dX0_wouldExecute_28 (by decide) ?_
      refine bg_ret C 29 rfl dX0_wouldExecute_29 ?_
      exact ⟨g, rfl, Or.inr ⟨rfl, fun h => h.2 (i2.mp hi)⟩⟩
    · refine bg_if_ne C 21 28 dX0_wouldExecute_21 (by decide) (fun c => absurd rfl c) (fun c21 => ?_)
      refine bg_iconst C 24 (nI 1) dX0_wouldExecute_24 (by decide) ?_
      refine bg_goto C 25 29 dX0_wouldExecute_25 (by decide) ?_
      refine bg_ret C 29 rfl dX0_wouldExecute_29 ?_
      exact ⟨g, rfl, Or.inl ⟨rfl, fun h => hla (i1.mpr h), fun h => hi (i2.mpr h)⟩⟩
def bx_wp (σ : bg_S) (Ls : Nat → List Nat) (m : Int32) (w : Nat → Int32) (u : Nat) : Prop := bp_bit m u ∧ ¬ bx_lastv σ u (bp_vl (σ 0) (σ 7) w u) ∧ ¬ bx_inv σ u (Ls u) (bp_vl (σ 0) (σ 7) w u)
theorem xw_work {X : bg_E} {o : bg_O} {post : Int32 → bg_S → Prop} (C : bg_Cx X kX o cX0_work 6 3 71 (some .int) post) (σ : bg_S) {a m : Int32} {T R : Nat} (Ls : Nat → List Nat) (w : Nat → Int32) (hT : σ 3 0 = nI T) (hT12 : T ≤ 12) (hO : bp_OK (σ 6) (σ 7)) (hS : bx_S σ Ls R) (hR : R ≤ 480) (hL : ∀ u, u < 12 → (Ls u).length ≤ 480)
    (K : ∀ (g : Nat → Int32) (n : Int32), bp_ct (bx_wp σ Ls m w) T n → bg_X X kX o (bg_U (bg_U σ 26 w) 24 g) [a, m, n, nI T] 66 []) : ∀ (k t : Nat) (g : Nat → Int32) (n : Int32), t + k = T → bp_ct (bx_wp σ Ls m w) t n → bg_X X kX o (bg_U (bg_U σ 26 w) 24 g) [a, m, n, nI t] 25 [] := by
  intro k
  induction k with
  | zero =>
    intro t g n htk hn
    have e : t = T := by omega
    subst e
    refine bg_iload C 25 dX0_work_25 3 rfl rfl ?_
    refine bg_aload C 27 dX0_work_27 ?_
    refine xg3 C 28 dX0_work_28 ?_
    refine bg_eq (hT) ?_
    refine bg_icmpN_ge C 31 (by omega) (by omega) 66 dX0_work_31 (by decide) (fun c31 => ?_) (fun c => absurd c (by omega))
    exact K g n hn
  | succ k ih =>
    intro t g n htk hn
    have ht : t < 12 := by omega
    refine bg_iload C 25 dX0_work_25 3 rfl rfl ?_
    refine bg_aload C 27 dX0_work_27 ?_
    refine xg3 C 28 dX0_work_28 ?_
    refine bg_eq (hT) ?_
    refine bg_icmpN_ge C 31 (by omega) (by omega) 66 dX0_work_31 (by decide) (fun c => absurd c (by omega)) (fun c31 => ?_)
    refine bg_iload_n C 34 dX0_work_34 1 rfl rfl ?_
    refine bg_iload C 35 dX0_work_35 3 rfl rfl ?_
    refine bg_ishr C 37 dX0_work_37 ?_
    refine bg_iconst C 38 (1) dX0_work_38 (by decide) ?_
    refine bg_iand C 39 dX0_work_39 ?_
    refine bg_iconst C 40 (1) dX0_work_40 (by decide) ?_
    refine bg_icmp_ne C 41 60 dX0_work_41 (by decide) (fun c41 => ?_) (fun c41 => ?_)
    · refine bg_iincN C 60 dX0_work_60 3 rfl (by decide) rfl ?_
      refine bg_goto C 63 25 dX0_work_63 (by decide) ?_
      exact ih (t + 1) g n (by omega) ⟨n, hn, Or.inr ⟨fun h => c41 h.1, rfl⟩⟩
    · obtain ⟨hch, hl⟩ := hS.2 t ht
      refine bg_aload C 44 dX0_work_44 ?_
      refine bg_iload C 45 dX0_work_45 3 rfl rfl ?_
      refine xc_wouldExecute C 47 (xm_would (bg_U (bg_U σ 26 w) 24 g) (Ls t) ht hO hch (fun x hx => by have := hl x hx; omega) (hL t ht)) (by decide) (Nat.le_of_ble_eq_true rfl) dX0_work_47 (fun r σ1 h1 => ?_)
      obtain ⟨g2, rfl, ⟨rfl, hw⟩ | ⟨rfl, hw⟩⟩ := h1
      · refine bg_uu ?_
        refine bg_istore C 50 dX0_work_50 4 rfl (by decide) ?_
        refine bg_iload C 52 dX0_work_52 4 rfl rfl ?_
        refine bg_if_eq C 54 60 dX0_work_54 (by decide) (fun c => absurd c (by decide)) (fun c54 => ?_)
        refine bg_iinc1 C 57 dX0_work_57 2 rfl (by decide) rfl ?_
        refine bg_iincN C 60 dX0_work_60 3 rfl (by decide) rfl ?_
        refine bg_goto C 63 25 dX0_work_63 (by decide) ?_
        refine bg_take 4 ?_
        exact ih (t + 1) g2 (n + 1) (by omega) ⟨n, hn, Or.inl ⟨⟨c41, hw⟩, rfl⟩⟩
      · refine bg_uu ?_
        refine bg_istore C 50 dX0_work_50 4 rfl (by decide) ?_
        refine bg_iload C 52 dX0_work_52 4 rfl rfl ?_
        refine bg_if_eq C 54 60 dX0_work_54 (by decide) (fun c54 => ?_) (fun c => absurd rfl c)
        refine bg_iincN C 60 dX0_work_60 3 rfl (by decide) rfl ?_
        refine bg_goto C 63 25 dX0_work_63 (by decide) ?_
        refine bg_take 4 ?_
        exact ih (t + 1) g2 n (by omega) ⟨n, hn, Or.inr ⟨fun h => hw h.2, rfl⟩⟩
theorem xm_work (σ : bg_S) (a : Int32) {T R : Nat} (Ls : Nat → List Nat) (hT : σ 3 0 = nI T) (hT12 : T ≤ 12) (hO : bp_OK (σ 6) (σ 7)) (hS : bx_S σ Ls R) (hR : R ≤ 480) (hL : ∀ u, u < 12 → (Ls u).length ≤ 480) : bg_M kX yX0_work cX0_work 6 (some .int) 3 71 [a] σ (fun r σ' => bp_pick T a (r = -1 ∧ σ = σ') (fun t => ∃ w g : Nat → Int32, bp_now (σ 0) (σ 4) (σ 5) (σ 6) (σ 7) w T ∧ bp_ct (bx_wp σ Ls (bp_need (σ 6) (σ 7) t) w) T r ∧ bg_U (bg_U σ 26 w) 24 g = σ')) := by
  refine bg_enter okkX (by decide) rfl (Nat.le_of_ble_eq_true rfl) (fun X o C => ?_)
  rcases bp_dich T (by omega) a with ⟨hb, -⟩ | ⟨t, ht, rfl⟩
  · refine bg_aload C 0 dX0_work_0 ?_
    refine bg_iload_n C 1 dX0_work_1 0 rfl rfl ?_
    refine xc_noTask C 2 (xm_noTask σ _ hT hT12) (by decide) (Nat.le_of_ble_eq_true rfl) dX0_work_2 (fun r σ1 h1 => ?_)
    obtain ⟨rfl, rfl⟩ := h1.1 hb
    refine bg_if_eq C 5 10 dX0_work_5 (by decide) (fun c => absurd c (by decide)) (fun c5 => ?_)
    refine bg_iconst C 8 (-1) dX0_work_8 (by decide) ?_
    refine bg_ret C 9 rfl dX0_work_9 ?_
    exact bp_pick_bad hb ⟨rfl, rfl⟩
  · refine bg_aload C 0 dX0_work_0 ?_
    refine bg_iload_n C 1 dX0_work_1 0 rfl rfl ?_
    refine xc_noTask C 2 (xm_noTask σ _ hT hT12) (by decide) (Nat.le_of_ble_eq_true rfl) dX0_work_2 (fun r σ1 h1 => ?_)
    obtain ⟨rfl, rfl⟩ := h1.2 t ht rfl
    refine bg_if_eq C 5 10 dX0_work_5 (by decide) (fun c5 => ?_) (fun c => absurd rfl c)
    refine bg_aload C 10 dX0_work_10 ?_
    refine xc_workOutNow C 11 (xm_now σ hT hT12 hO) (by decide) (Nat.le_of_ble_eq_true rfl) dX0_work_11 (fun r σ1 h1 => ?_)
    obtain ⟨w, g, hw, rfl⟩ := h1
    refine bg_aload C 14 dX0_work_14 ?_
    refine bg_iload_n C 15 dX0_work_15 0 rfl rfl ?_
    refine xc_neededSet C 16 (xm_nd (bg_U (bg_U σ 26 w) 24 g) (by omega) hO) (by decide) (Nat.le_of_ble_eq_true rfl) dX0_work_16 (fun r σ1 h1 => ?_)
    obtain ⟨rfl, rfl⟩ := h1
    refine bg_istore_n C 19 dX0_work_19 1 rfl (by decide) ?_
    refine bg_iconst C 20 (0) dX0_work_20 (by decide) ?_
    refine bg_istore_n C 21 dX0_work_21 2 rfl (by decide) ?_
    refine bg_iconst C 22 (nI 0) dX0_work_22 (by decide) ?_
    refine bg_istore C 23 dX0_work_23 3 rfl (by decide) ?_
    refine xw_work C σ Ls w hT hT12 hO hS hR hL (fun g2 n hn => ?_) T 0 g 0 (by omega) rfl
    refine bg_iload_n C 66 dX0_work_66 2 rfl rfl ?_
    refine bg_ret C 67 rfl dX0_work_67 ?_
    exact bp_pick_ok (by omega) ht ⟨w, g2, hw, hn, rfl⟩
theorem xw_stale {X : bg_E} {o : bg_O} {post : Int32 → bg_S → Prop} (C : bg_Cx X kX o cX0_stale 4 2 45 (some .int) post) (σ : bg_S) {T : Nat} (w : Nat → Int32) (hT : σ 3 0 = nI T) (hT12 : T ≤ 12) (hO : bp_OK (σ 6) (σ 7))
    (K : ∀ (g : Nat → Int32) (n : Int32), bp_ct (fun u => ¬ bx_lastv σ u (bp_vl (σ 0) (σ 7) w u)) T n → bg_X X kX o (bg_U (bg_U σ 26 w) 24 g) [n, nI T] 41 []) : ∀ (k t : Nat) (g : Nat → Int32) (n : Int32), t + k = T → bp_ct (fun u => ¬ bx_lastv σ u (bp_vl (σ 0) (σ 7) w u)) t n → bg_X X kX o (bg_U (bg_U σ 26 w) 24 g) [n, nI t] 8 [] := by
  intro k
  induction k with
  | zero =>
    intro t g n htk hn
    have e : t = T := by omega
    subst e
    refine bg_iload_n C 8 dX0_stale_8 1 rfl rfl ?_
    refine bg_aload C 9 dX0_stale_9 ?_
    refine xg3 C 10 dX0_stale_10 ?_
    refine bg_eq (hT) ?_
    refine bg_icmpN_ge C 13 (by omega) (by omega) 41 dX0_stale_13 (by decide) (fun c13 => ?_) (fun c => absurd c (by omega))
    exact K g n hn
  | succ k ih =>
    intro t g n htk hn
    have ht : t < 12 := by omega
    refine bg_iload_n C 8 dX0_stale_8 1 rfl rfl ?_
    refine bg_aload C 9 dX0_stale_9 ?_
    refine xg3 C 10 dX0_stale_10 ?_
    refine bg_eq (hT) ?_
    refine bg_icmpN_ge C 13 (by omega) (by omega) 41 dX0_stale_13 (by decide) (fun c => absurd c (by omega)) (fun c13 => ?_)
    refine bg_aload C 16 dX0_stale_16 ?_
    refine bg_iload_n C 17 dX0_stale_17 1 rfl rfl ?_
    refine bg_iconst C 18 (1) dX0_stale_18 (by decide) ?_
    refine xc_loadRecord C 19 (xm_load (bg_U (bg_U σ 26 w) 24 g) (b := 1) w ht hO (fun c => absurd c (by decide)) (fun _ => rfl)) (by decide) (Nat.le_of_ble_eq_true rfl) dX0_stale_19 (fun r σ1 h1 => ?_)
    obtain ⟨g2, hg2, rfl⟩ := h1
    refine bg_uu ?_
    have i1 := bx_last_iff (σ := bg_U (bg_U σ 26 w) 24 g2) (t := t) (v := bp_vl (σ 0) (σ 7) w t) hg2
    refine bg_aload C 22 dX0_stale_22 ?_
    refine bg_iload_n C 23 dX0_stale_23 1 rfl rfl ?_
    refine xc_isLast C 24 (xm_last (bg_U (bg_U σ 26 w) 24 g2) ht hO) (by decide) (Nat.le_of_ble_eq_true rfl) dX0_stale_24 (fun r σ1 h1 => ?_)
    obtain ⟨rfl, ⟨rfl, hla⟩ | ⟨rfl, hla⟩⟩ := h1
    · refine bg_istore_n C 27 dX0_stale_27 2 rfl (by decide) ?_
      refine bg_iload_n C 28 dX0_stale_28 2 rfl rfl ?_
      refine bg_if_ne C 29 35 dX0_stale_29 (by decide) (fun c29 => ?_) (fun c => absurd c (by decide))
      refine bg_iincN C 35 dX0_stale_35 1 rfl (by decide) rfl ?_
      refine bg_goto C 38 8 dX0_stale_38 (by decide) ?_
      refine bg_take 2 ?_
      exact ih (t + 1) g2 n (by omega) ⟨n, hn, Or.inr ⟨fun h => h (i1.mp hla), rfl⟩⟩
    · refine bg_istore_n C 27 dX0_stale_27 2 rfl (by decide) ?_
      refine bg_iload_n C 28 dX0_stale_28 2 rfl rfl ?_
      refine bg_if_ne C 29 35 dX0_stale_29 (by decide) (fun c => absurd rfl c) (fun c29 => ?_)
      refine bg_iinc1 C 32 dX0_stale_32 0 rfl (by decide) rfl ?_
      refine bg_iincN C 35 dX0_stale_35 1 rfl (by decide) rfl ?_
      refine bg_goto C 38 8 dX0_stale_38 (by decide) ?_
      refine bg_take 2 ?_
      exact ih (t + 1) g2 (n + 1) (by omega) ⟨n, hn, Or.inl ⟨fun h => hla (i1.mpr h), rfl⟩⟩
theorem xm_stale (σ : bg_S) {T : Nat} (hT : σ 3 0 = nI T) (hT12 : T ≤ 12) (hO : bp_OK (σ 6) (σ 7)) : bg_M kX yX0_stale cX0_stale 4 (some .int) 2 45 [] σ (fun r σ' => ∃ w g : Nat → Int32, bp_now (σ 0) (σ 4) (σ 5) (σ 6) (σ 7) w T ∧ bp_ct (fun u => ¬ bx_lastv σ u (bp_vl (σ 0) (σ 7) w u)) T r ∧ bg_U (bg_U σ 26 w) 24 g = σ') := by
  refine bg_enter okkX (by decide) rfl (Nat.le_of_ble_eq_true rfl) (fun X o C => ?_)
  refine bg_aload C 0 dX0_stale_0 ?_
  refine xc_workOutNow C 1 (xm_now σ hT hT12 hO) (by decide) (Nat.le_of_ble_eq_true rfl) dX0_stale_1 (fun r σ1 h1 => ?_)
  obtain ⟨w, g, hw, rfl⟩ := h1
  refine bg_iconst C 4 (0) dX0_stale_4 (by decide) ?_
  refine bg_istore_n C 5 dX0_stale_5 0 rfl (by decide) ?_
  refine bg_iconst C 6 (nI 0) dX0_stale_6 (by decide) ?_
  refine bg_istore_n C 7 dX0_stale_7 1 rfl (by decide) ?_
  refine xw_stale C σ w hT hT12 hO (fun g2 n hn => ?_) T 0 g 0 (by omega) rfl
  refine bg_iload_n C 41 dX0_stale_41 0 rfl rfl ?_
  refine bg_ret C 42 rfl dX0_stale_42 ?_
  exact ⟨w, g2, hw, hn, rfl⟩
end
section
/-! bits: the first family of kit/laws/BITS (a starting text), then masks of tasks -/
set_option maxRecDepth 100000
/-! ===== Int32 by its bits: bt x i ===== -/
def bt (x : Int32) (i : Nat) : Bool := x.toBitVec.getLsbD i
theorem b_ext {x y : Int32} (h : ∀ i, i < 32 → bt x i = bt y i) : x = y := Int32.toBitVec_inj.mp (BitVec.eq_of_getLsbD_eq (fun i hi => h i hi))
theorem b_or (x y : Int32) (i : Nat) : bt (x ||| y) i = (bt x i || bt y i) := by unfold bt; rw [Int32.toBitVec_or, BitVec.getLsbD_or]
theorem b_and (x y : Int32) (i : Nat) : bt (x &&& y) i = (bt x i && bt y i) := by unfold bt; rw [Int32.toBitVec_and, BitVec.getLsbD_and]
theorem b_xor (x y : Int32) (i : Nat) : bt (x ^^^ y) i = (bt x i ^^ bt y i) := by unfold bt; rw [Int32.toBitVec_xor, BitVec.getLsbD_xor]
theorem b_big {x : Int32} {i : Nat} (h : 32 ≤ i) : bt x i = false := BitVec.getLsbD_of_ge _ _ h
theorem b_255 (i : Nat) : bt 255 i = decide (i < 8) := by
  rcases Nat.lt_or_ge i 32 with h | h
  · exact (by decide +kernel : ∀ i, i < 32 → bt 255 i = decide (i < 8)) i h
  · rw [b_big h, decide_eq_false (by omega)]
theorem b_65535 (i : Nat) : bt 65535 i = decide (i < 16) := by
  rcases Nat.lt_or_ge i 32 with h | h
  · exact (by decide +kernel : ∀ i, i < 32 → bt 65535 i = decide (i < 16)) i h
  · rw [b_big h, decide_eq_false (by omega)]
theorem b_m1 : ∀ i, i < 32 → bt (-1) i = true := by decide +kernel
theorem b_0 (i : Nat) : bt 0 i = false := BitVec.getLsbD_zero
theorem s_l : ∀ n, n < 32 → ((nI n &&& 31).toBitVec.smod 32).toNat = n := by decide +kernel
theorem s_u : ∀ n, n < 32 → (((nI n).toUInt32 &&& Int32.toUInt32 31).toBitVec % 32).toNat = n := by decide +kernel
theorem b_shl (n : Nat) (hn : n < 32) (x : Int32) {i : Nat} (hi : i < 32) : bt (x <<< (nI n &&& 31)) i = (decide (n ≤ i) && bt x (i - n)) := by
  unfold bt
  rw [Int32.toBitVec_shiftLeft]
  show (x.toBitVec <<< ((nI n &&& 31).toBitVec.smod 32).toNat).getLsbD i = _
  rw [s_l n hn, BitVec.getLsbD_shiftLeft]
  rcases Nat.lt_or_ge i n with h | h
  · simp [h, Nat.not_le.mpr h]
  · simp [hi, h, Nat.not_lt.mpr h]
theorem b_ushr (n : Nat) (hn : n < 32) (x : Int32) (i : Nat) : bt ((x.toUInt32 >>> ((nI n).toUInt32 &&& Int32.toUInt32 31)).toInt32) i = bt x (n + i) := by
  show (x.toUInt32 >>> ((nI n).toUInt32 &&& Int32.toUInt32 31)).toBitVec.getLsbD i = x.toUInt32.toBitVec.getLsbD (n + i)
  rw [UInt32.toBitVec_shiftRight]
  show (x.toUInt32.toBitVec >>> (((nI n).toUInt32 &&& Int32.toUInt32 31).toBitVec % 32).toNat).getLsbD i = _
  rw [s_u n hn, BitVec.getLsbD_ushiftRight]
theorem b_sshr (n : Nat) (hn : n < 32) (x : Int32) {i : Nat} (hi : i < 32) : bt (x >>> (nI n &&& 31)) i = if n + i < 32 then bt x (n + i) else bt x 31 := by
  unfold bt
  rw [Int32.toBitVec_shiftRight]
  show (x.toBitVec.sshiftRight ((nI n &&& 31).toBitVec.smod 32).toNat).getLsbD i = _
  rw [s_l n hn, BitVec.getLsbD_sshiftRight, BitVec.msb_eq_getLsbD_last]
  simp [hi]
/-! ===== masks of tasks ===== -/
theorem b_1 : ∀ i, i < 32 → bt 1 i = decide (i = 0) := by decide +kernel
theorem bp_bit_iff {m : Int32} {t : Nat} (ht : t < 32) : bp_bit m t ↔ bt m t = true := by
  unfold bp_bit
  constructor
  · intro h
    have h2 := congrArg (fun x => bt x 0) h
    simp only [b_and, b_sshr t ht m (show 0 < 32 by decide), Nat.add_zero, if_pos ht, b_1 0 (by decide)] at h2
    simpa using h2
  · intro h
    refine b_ext (fun i hi => ?_)
    rw [b_and, b_1 i hi]
    by_cases e : i = 0
    · subst e
      rw [b_sshr t ht m (show 0 < 32 by decide), Nat.add_zero, if_pos ht, h]
      rfl
    · simp [e]
theorem bp_it_bit {p : Nat → Int32} {t : Nat} {j : Nat} (hj : j < 32) : ∀ n : Nat, (∀ i, i < n → bp_fr p t i < 8 + t) → t < 12 → (bt (bp_it p t n) j = true ↔ ∃ i, i < n ∧ 8 ≤ bp_fr p t i ∧ j = bp_fr p t i - 8)
  | 0, _, _ => by
    constructor
    · intro h
      rw [bp_it, b_0] at h
      cases h
    · rintro ⟨i, hi, -⟩
      omega
  | n + 1, h, ht => by
    have ih := bp_it_bit hj n (fun i hi => h i (by omega)) ht
    have hf := h n (by omega)
    unfold bp_it
    by_cases hc : bp_fr p t n < 8
    · rw [if_pos hc, ih]
      constructor
      · rintro ⟨i, h1, h2⟩
        exact ⟨i, by omega, h2⟩
      · rintro ⟨i, h1, h2, h3⟩
        have : i ≠ n := fun e => by subst e; omega
        exact ⟨i, by omega, h2, h3⟩
    · rw [if_neg hc, b_or, b_shl (bp_fr p t n - 8) (by omega) 1 hj, Bool.or_eq_true, ih, Bool.and_eq_true, decide_eq_true_eq, b_1 _ (by omega), decide_eq_true_eq]
      constructor
      · rintro (⟨i, h1, h2⟩ | ⟨h1, h2⟩)
        · exact ⟨i, by omega, h2⟩
        · exact ⟨n, by omega, by omega, by omega⟩
      · rintro ⟨i, h1, h2, h3⟩
        by_cases e : i = n
        · subst e
          exact Or.inr ⟨by omega, by omega⟩
        · exact Or.inl ⟨i, by omega, h2, h3⟩
def bp_nx (q p : Nat → Int32) (n : Nat) (m : Int32) : Int32 := if (m >>> (nI n &&& 31)) &&& 1 = 1 then m ||| bp_it p n (bp_cn q n) else m
theorem bp_nd_s (q p : Nat → Int32) (n : Nat) (m : Int32) : bp_nd q p (n + 1) m = bp_nd q p n (bp_nx q p n m) := rfl
theorem bp_nx_hi {q p : Nat → Int32} (hO : bp_OK q p) {n i : Nat} (hn : n < 12) (hi : n ≤ i) (hi2 : i < 32) (m : Int32) : bt (bp_nx q p n m) i = bt m i := by
  unfold bp_nx
  by_cases h : (m >>> (nI n &&& 31)) &&& 1 = 1
  · rw [if_pos h, b_or]
    cases hb : bt (bp_it p n (bp_cn q n)) i with
    | false => simp
    | true =>
      obtain ⟨k, h1, h2, h3⟩ := (bp_it_bit hi2 _ (fun k hk => ((hO n hn).2.2 k hk).2) hn).mp hb
      have := ((hO n hn).2.2 k h1).2
      omega
  · rw [if_neg h]
theorem bp_nx_mono {q p : Nat → Int32} {n i : Nat} {m : Int32} (h : bt m i = true) : bt (bp_nx q p n m) i = true := by
  unfold bp_nx
  split
  · rw [b_or, h]; rfl
  · exact h
theorem bp_nd_hi {q p : Nat → Int32} (hO : bp_OK q p) {i : Nat} (hi2 : i < 32) : ∀ (n : Nat) (m : Int32), n ≤ 12 → n ≤ i + 1 → bt (bp_nd q p n m) i = (if i + 1 = n then bt m i else bt m i)
  | 0, m, _, _ => by simp [bp_nd]
  | n + 1, m, hn, hi => by
    rw [bp_nd_s, bp_nd_hi hO hi2 n _ (by omega) (by omega)]
    have := bp_nx_hi hO (n := n) (i := i) (by omega) (by omega) hi2 m
    split <;> split <;> exact this
theorem bp_nd_mono {q p : Nat → Int32} {i : Nat} : ∀ (n : Nat) (m : Int32), bt m i = true → bt (bp_nd q p n m) i = true
  | 0, _, h => h
  | n + 1, m, h => by
    rw [bp_nd_s]
    exact bp_nd_mono n _ (bp_nx_mono h)
theorem bp_nd_cl {q p : Nat → Int32} (hO : bp_OK q p) : ∀ (n : Nat) (m : Int32), n ≤ 12 → ∀ u, u < n → bt (bp_nd q p n m) u = true → ∀ i, i < bp_cn q u → 8 ≤ bp_fr p u i → bt (bp_nd q p n m) (bp_fr p u i - 8) = true
  | 0, _, _, u, hu, _ => by omega
  | n + 1, m, hn, u, hu, hb => by
    intro i hi hf
    rw [bp_nd_s] at hb ⊢
    by_cases e : u = n
    · subst e
      have h1 := bp_nd_hi hO (i := u) (by omega) u (bp_nx q p u m) (by omega) (by omega)
      rw [if_neg (by omega), hb, bp_nx_hi hO (by omega) (Nat.le_refl u) (by omega)] at h1
      have h2 : (m >>> (nI u &&& 31)) &&& 1 = 1 := (bp_bit_iff (by omega)).mpr h1.symm
      refine bp_nd_mono u _ ?_
      unfold bp_nx
      rw [if_pos h2, b_or]
      have hf2 := ((hO u (by omega)).2.2 i hi).2
      rw [(bp_it_bit (j := bp_fr p u i - 8) (by omega) _ (fun k hk => ((hO u (by omega)).2.2 k hk).2) (by omega)).mpr ⟨i, hi, hf, rfl⟩]
      simp
    · exact bp_nd_cl hO n _ (by omega) u (by omega) hb i hi hf
/-- a needed task is none above the asked one -/
theorem bp_need_le {q p : Nat → Int32} (hO : bp_OK q p) {t u : Nat} (ht : t < 12) (hu : u < 12) (h : bp_bit (bp_need q p t) u) : u ≤ t := by
  rw [bp_bit_iff (by omega)] at h
  apply Nat.le_of_not_lt
  intro hlt
  unfold bp_need at h
  rw [bp_nd_hi hO (i := u) (by omega) (t + 1) _ (by omega) (by omega), if_neg (by omega), b_shl t (by omega) 1 (by omega), b_1 _ (by omega)] at h
  simp at h
  omega
/-- what a needed task takes in is needed -/
theorem bp_need_cl {q p : Nat → Int32} (hO : bp_OK q p) {t u i : Nat} (ht : t < 12) (hu : u < 12) (h : bp_bit (bp_need q p t) u) (hi : i < bp_cn q u) (hf : 8 ≤ bp_fr p u i) : bp_bit (bp_need q p t) (bp_fr p u i - 8) := by
  have hle := bp_need_le hO ht hu h
  have hf2 := ((hO u hu).2.2 i hi).2
  rw [bp_bit_iff (by omega)] at h ⊢
  exact bp_nd_cl hO (t + 1) _ (by omega) u (by omega) h i hi hf
/-- the model's inner loop -/
def bm_ni (p : Nat → Int32) (n : Nat) (m : Int32) : Nat → Int32
  | 0 => m
  | k + 1 => if (bm_ni p n m k >>> (nI n &&& 31)) &&& 1 = 1 then (if bp_fr p n k < 8 then bm_ni p n m k else bm_ni p n m k ||| ((1 : Int32) <<< (nI (bp_fr p n k - 8) &&& 31))) else bm_ni p n m k
theorem bm_ni_eq (p : Nat → Int32) {n : Nat} (hn : n < 12) (m : Int32) : ∀ k : Nat, bm_ni p n m k = if (m >>> (nI n &&& 31)) &&& 1 = 1 then m ||| bp_it p n k else m
  | 0 => by
    show m = _
    split
    · show m = m ||| 0
      rw [Int32.or_zero]
    · rfl
  | k + 1 => by
    have ih := bm_ni_eq p hn m k
    unfold bm_ni
    rw [ih]
    by_cases h : (m >>> (nI n &&& 31)) &&& 1 = 1
    · have h2 : ((m ||| bp_it p n k) >>> (nI n &&& 31)) &&& 1 = 1 := by
        refine (bp_bit_iff (by omega)).mpr ?_
        rw [b_or, (bp_bit_iff (m := m) (by omega)).mp h]
        rfl
      rw [if_pos h, if_pos h2, if_pos h, show bp_it p n (k + 1) = if bp_fr p n k < 8 then bp_it p n k else bp_it p n k ||| ((1 : Int32) <<< (nI (bp_fr p n k - 8) &&& 31)) from rfl]
      split
      · rfl
      · rw [Int32.or_assoc]
    · rw [if_neg h, if_neg h, if_neg h]
end
section
/-! BuildGraphModel: the small methods -/
set_option maxRecDepth 100000
theorem mm_bad (σ : bg_S) (a : Int32) {T : Nat} (hT : σ 1 0 = nI T) (hT12 : T ≤ 12) : bg_M kM yX1_bad cX1_bad 2 (some .boolean) 0 0 [a] σ (fun r σ' => bp_pick T a (r = 1 ∧ σ = σ') (fun _ => r = 0 ∧ σ = σ')) := by
  refine bg_enter okkM (by decide) rfl (Nat.le_of_ble_eq_true rfl) (fun X o C => ?_)
  rcases bp_dich T (by omega) a with ⟨hb, h0 | ⟨h0, h1⟩⟩ | ⟨t, ht, rfl⟩
  · refine bg_iload_n C 0 dX1_bad_0 0 rfl rfl ?_
    refine bg_if_lt C 1 12 dX1_bad_1 (by decide) (fun c1 => ?_) (fun c => absurd h0 c)
    refine bg_iconst C 12 (nI 1) dX1_bad_12 (by decide) ?_
    refine bg_goto C 13 17 dX1_bad_13 (by decide) ?_
    refine bg_ret C 17 rfl dX1_bad_17 ?_
    exact bp_pick_bad hb ⟨rfl, rfl⟩
  · refine bg_iload_n C 0 dX1_bad_0 0 rfl rfl ?_
    refine bg_if_lt C 1 12 dX1_bad_1 (by decide) (fun c => absurd c h0) (fun c1 => ?_)
    refine bg_iload_n C 4 dX1_bad_4 0 rfl rfl ?_
    refine bg_aload C 5 dX1_bad_5 ?_
    refine mg1 C 6 dX1_bad_6 ?_
    refine bg_eq (hT) ?_
    refine bg_icmp_lt C 9 16 dX1_bad_9 (by decide) (fun c => absurd c (Int32.not_lt.mpr h1)) (fun c9 => ?_)
    refine bg_iconst C 12 (nI 1) dX1_bad_12 (by decide) ?_
    refine bg_goto C 13 17 dX1_bad_13 (by decide) ?_
    refine bg_ret C 17 rfl dX1_bad_17 ?_
    exact bp_pick_bad hb ⟨rfl, rfl⟩
  · refine bg_iload_n C 0 dX1_bad_0 0 rfl rfl ?_
    refine bg_if_lt C 1 12 dX1_bad_1 (by decide) (fun c => absurd c (nI_pos (by omega))) (fun c1 => ?_)
    refine bg_iload_n C 4 dX1_bad_4 0 rfl rfl ?_
    refine bg_aload C 5 dX1_bad_5 ?_
    refine mg1 C 6 dX1_bad_6 ?_
    refine bg_eq (hT) ?_
    refine bg_icmpN_lt C 9 (by omega) (by omega) 16 dX1_bad_9 (by decide) (fun c9 => ?_) (fun c => absurd c (by omega))
    refine bg_iconst C 16 (nI 0) dX1_bad_16 (by decide) ?_
    refine bg_ret C 17 rfl dX1_bad_17 ?_
    exact bp_pick_ok (by omega) ht ⟨rfl, rfl⟩
theorem mm_content (σ : bg_S) (a v : Int32) : bg_M kM yX1_content cX1_content 4 (some .int) 0 0 [a, v] σ (fun r σ' => bp_pick 8 a (r = -2 ∧ σ = σ') (fun k => r = σ 0 k ∧ bg_U σ 0 (upd (σ 0) k v) = σ')) := by
  refine bg_enter okkM (by decide) rfl (Nat.le_of_ble_eq_true rfl) (fun X o C => ?_)
  rcases bp_dich 8 (by decide) a with ⟨hb, h0 | ⟨h0, h1⟩⟩ | ⟨k, hk, rfl⟩
  · refine bg_iload_n C 0 dX1_content_0 0 rfl rfl ?_
    refine bg_if_lt C 1 10 dX1_content_1 (by decide) (fun c1 => ?_) (fun c => absurd h0 c)
    refine bg_bipush C 10 (-2) dX1_content_10 (by decide) ?_
    refine bg_ret C 12 rfl dX1_content_12 ?_
    exact bp_pick_bad hb ⟨rfl, rfl⟩
  · refine bg_iload_n C 0 dX1_content_0 0 rfl rfl ?_
    refine bg_if_lt C 1 10 dX1_content_1 (by decide) (fun c => absurd c h0) (fun c1 => ?_)
    refine bg_iload_n C 4 dX1_content_4 0 rfl rfl ?_
    refine bg_bipush C 5 (nI 7) dX1_content_5 (by decide) ?_
    refine bg_icmp_le C 7 13 dX1_content_7 (by decide) (fun c => absurd (Int32.le_trans h1 c) (by decide)) (fun c7 => ?_)
    refine bg_bipush C 10 (-2) dX1_content_10 (by decide) ?_
    refine bg_ret C 12 rfl dX1_content_12 ?_
    exact bp_pick_bad hb ⟨rfl, rfl⟩
  · refine bg_iload_n C 0 dX1_content_0 0 rfl rfl ?_
    refine bg_if_lt C 1 10 dX1_content_1 (by decide) (fun c => absurd c (nI_pos (by omega))) (fun c1 => ?_)
    refine bg_iload_n C 4 dX1_content_4 0 rfl rfl ?_
    refine bg_bipush C 5 (nI 7) dX1_content_5 (by decide) ?_
    refine bg_icmpN_le C 7 (by omega) (by omega) 13 dX1_content_7 (by decide) (fun c7 => ?_) (fun c => absurd c (by omega))
    refine bg_aload C 13 dX1_content_13 ?_
    refine mg0 C 14 dX1_content_14 ?_
    refine bg_iload_n C 17 dX1_content_17 0 rfl rfl ?_
    refine ml0 C 18 (by omega) dX1_content_18 ?_
    refine bg_istore_n C 19 dX1_content_19 2 rfl (by decide) ?_
    refine bg_aload C 20 dX1_content_20 ?_
    refine mg0 C 21 dX1_content_21 ?_
    refine bg_iload_n C 24 dX1_content_24 0 rfl rfl ?_
    refine bg_iload_n C 25 dX1_content_25 1 rfl rfl ?_
    refine ms0 C 26 (by omega) dX1_content_26 ?_
    refine bg_iload_n C 27 dX1_content_27 2 rfl rfl ?_
    refine bg_ret C 28 rfl dX1_content_28 ?_
    exact bp_pick_ok (by decide) hk ⟨rfl, rfl⟩
def bm_task (σ : bg_S) (T : Nat) (a c : Int32) : bg_S := bg_U (bg_U (bg_U σ 2 (upd (σ 2) T (a &&& 3))) 3 (upd (σ 3) T c)) 1 (fun _ => nI (T + 1))
theorem mm_task (σ : bg_S) (a c : Int32) {T : Nat} (hT : σ 1 0 = nI T) (hT12 : T ≤ 12) : bg_M kM yX1_task cX1_task 3 (some .int) 0 0 [a, c] σ (fun r σ' => (T = 12 → r = -4 ∧ σ = σ') ∧ (T < 12 → r = nI T ∧ bm_task σ T a c = σ')) := by
  refine bg_enter okkM (by decide) rfl (Nat.le_of_ble_eq_true rfl) (fun X o C => ?_)
  refine bg_aload C 0 dX1_task_0 ?_
  refine mg1 C 1 dX1_task_1 ?_
  refine bg_eq (hT) ?_
  refine bg_bipush C 4 (nI 12) dX1_task_4 (by decide) ?_
  refine bg_icmpN_ne C 6 (by omega) (by omega) 12 dX1_task_6 (by decide) (fun c6 => ?_) (fun c6 => ?_)
  · refine bg_aload C 12 dX1_task_12 ?_
    refine mg2 C 13 dX1_task_13 ?_
    refine bg_aload C 16 dX1_task_16 ?_
    refine mg1 C 17 dX1_task_17 ?_
    refine bg_eq (hT) ?_
    refine bg_iload_n C 20 dX1_task_20 0 rfl rfl ?_
    refine bg_iconst C 21 (3) dX1_task_21 (by decide) ?_
    refine bg_iand C 22 dX1_task_22 ?_
    refine ms2 C 23 (by omega) dX1_task_23 ?_
    refine bg_aload C 24 dX1_task_24 ?_
    refine mg3 C 25 dX1_task_25 ?_
    refine bg_aload C 28 dX1_task_28 ?_
    refine mg1 C 29 dX1_task_29 ?_
    refine bg_eq (hT) ?_
    refine bg_iload_n C 32 dX1_task_32 1 rfl rfl ?_
    refine ms3 C 33 (by omega) dX1_task_33 ?_
    refine bg_aload C 34 dX1_task_34 ?_
    refine bg_aload C 35 dX1_task_35 ?_
    refine mg1 C 36 dX1_task_36 ?_
    refine bg_eq (hT) ?_
    refine bg_iconst C 39 (nI 1) dX1_task_39 (by decide) ?_
    refine bg_iaddN C 40 dX1_task_40 ?_
    refine mp1 C 41 dX1_task_41 ?_
    refine bg_aload C 44 dX1_task_44 ?_
    refine mg1 C 45 dX1_task_45 ?_
    refine bg_eq (show _ = nI (T + 1) from rfl) ?_
    refine bg_iconst C 48 (nI 1) dX1_task_48 (by decide) ?_
    refine bg_isubN C 49 (by omega) dX1_task_49 ?_
    refine bg_ret C 50 rfl dX1_task_50 ?_
    exact ⟨fun h => absurd h (by omega), fun _ => ⟨rfl, rfl⟩⟩
  · refine bg_bipush C 9 (-4) dX1_task_9 (by decide) ?_
    refine bg_ret C 11 rfl dX1_task_11 ?_
    exact ⟨fun _ => ⟨rfl, rfl⟩, fun h => absurd h (by omega)⟩
def bm_input (σ : bg_S) (t f : Nat) : bg_S := bg_U (bg_U σ 5 (upd (σ 5) (t * 3 + bp_cn (σ 4) t) (nI f))) 4 (upd (σ 4) t (nI (bp_cn (σ 4) t + 1)))
theorem mm_input (σ : bg_S) (a b : Int32) {T : Nat} (hT : σ 1 0 = nI T) (hT12 : T ≤ 12) (hO : bp_OK (σ 4) (σ 5)) : bg_M kM yX1_input cX1_input 3 (some .int) 1 21 [a, b] σ (fun r σ' => bp_pick T a (r = -1 ∧ σ = σ') (fun t => bp_pick (8 + t) b (r = -2 ∧ σ = σ') (fun f => (bp_cn (σ 4) t = 3 → r = -4 ∧ σ = σ') ∧ (bp_cn (σ 4) t < 3 → r = nI (bp_cn (σ 4) t + 1) ∧ bm_input σ t f = σ')))) := by
  refine bg_enter okkM (by decide) rfl (Nat.le_of_ble_eq_true rfl) (fun X o C => ?_)
  rcases bp_dich T (by omega) a with ⟨hb, -⟩ | ⟨t, ht, rfl⟩
  · refine bg_aload C 0 dX1_input_0 ?_
    refine bg_iload_n C 1 dX1_input_1 0 rfl rfl ?_
    refine mc_bad C 2 (mm_bad σ _ hT hT12) (by decide) (Nat.le_of_ble_eq_true rfl) dX1_input_2 (fun r σ1 h1 => ?_)
    obtain ⟨rfl, rfl⟩ := h1.1 hb
    refine bg_if_eq C 5 10 dX1_input_5 (by decide) (fun c => absurd c (by decide)) (fun c5 => ?_)
    refine bg_iconst C 8 (-1) dX1_input_8 (by decide) ?_
    refine bg_ret C 9 rfl dX1_input_9 ?_
    exact bp_pick_bad hb ⟨rfl, rfl⟩
  · refine bg_aload C 0 dX1_input_0 ?_
    refine bg_iload_n C 1 dX1_input_1 0 rfl rfl ?_
    refine mc_bad C 2 (mm_bad σ _ hT hT12) (by decide) (Nat.le_of_ble_eq_true rfl) dX1_input_2 (fun r σ1 h1 => ?_)
    obtain ⟨rfl, rfl⟩ := h1.2 t ht rfl
    refine bg_if_eq C 5 10 dX1_input_5 (by decide) (fun c5 => ?_) (fun c => absurd rfl c)
    obtain ⟨hc, hc3, -⟩ := hO t (by omega)
    rcases bp_dich (8 + t) (by omega) b with ⟨hb, h0 | ⟨h0, h2⟩⟩ | ⟨f, hf, rfl⟩
    · refine bg_iload_n C 10 dX1_input_10 1 rfl rfl ?_
      refine bg_if_lt C 11 22 dX1_input_11 (by decide) (fun c11 => ?_) (fun c => absurd h0 c)
      refine bg_bipush C 22 (-2) dX1_input_22 (by decide) ?_
      refine bg_ret C 24 rfl dX1_input_24 ?_
      exact bp_pick_ok (by omega) ht (bp_pick_bad hb ⟨rfl, rfl⟩)
    · refine bg_iload_n C 10 dX1_input_10 1 rfl rfl ?_
      refine bg_if_lt C 11 22 dX1_input_11 (by decide) (fun c => absurd c h0) (fun c11 => ?_)
      refine bg_iload_n C 14 dX1_input_14 1 rfl rfl ?_
      refine bg_bipush C 15 (nI 8) dX1_input_15 (by decide) ?_
      refine bg_iload_n C 17 dX1_input_17 0 rfl rfl ?_
      refine bg_iaddN C 18 dX1_input_18 ?_
      refine bg_icmp_lt C 19 25 dX1_input_19 (by decide) (fun c => absurd c (Int32.not_lt.mpr h2)) (fun c19 => ?_)
      refine bg_bipush C 22 (-2) dX1_input_22 (by decide) ?_
      refine bg_ret C 24 rfl dX1_input_24 ?_
      exact bp_pick_ok (by omega) ht (bp_pick_bad hb ⟨rfl, rfl⟩)
    · refine bg_iload_n C 10 dX1_input_10 1 rfl rfl ?_
      refine bg_if_lt C 11 22 dX1_input_11 (by decide) (fun c => absurd c (nI_pos (by omega))) (fun c11 => ?_)
      refine bg_iload_n C 14 dX1_input_14 1 rfl rfl ?_
      refine bg_bipush C 15 (nI 8) dX1_input_15 (by decide) ?_
      refine bg_iload_n C 17 dX1_input_17 0 rfl rfl ?_
      refine bg_iaddN C 18 dX1_input_18 ?_
      refine bg_icmpN_lt C 19 (by omega) (by omega) 25 dX1_input_19 (by decide) (fun c19 => ?_) (fun c => absurd c (by omega))
      refine bg_aload C 25 dX1_input_25 ?_
      refine mg4 C 26 dX1_input_26 ?_
      refine bg_iload_n C 29 dX1_input_29 0 rfl rfl ?_
      refine ml4 C 30 (by omega) dX1_input_30 ?_
      refine bg_eq (hc) ?_
      refine bg_iconst C 31 (nI 3) dX1_input_31 (by decide) ?_
      refine bg_icmpN_ne C 32 (by omega) (by omega) 38 dX1_input_32 (by decide) (fun c32 => ?_) (fun c32 => ?_)
      · refine bg_aload C 38 dX1_input_38 ?_
        refine mg5 C 39 dX1_input_39 ?_
        refine bg_iload_n C 42 dX1_input_42 0 rfl rfl ?_
        refine bg_iconst C 43 (nI 3) dX1_input_43 (by decide) ?_
        refine bg_imulN C 44 dX1_input_44 ?_
        refine bg_aload C 45 dX1_input_45 ?_
        refine mg4 C 46 dX1_input_46 ?_
        refine bg_iload_n C 49 dX1_input_49 0 rfl rfl ?_
        refine ml4 C 50 (by omega) dX1_input_50 ?_
        refine bg_eq (hc) ?_
        refine bg_iaddN C 51 dX1_input_51 ?_
        refine bg_iload_n C 52 dX1_input_52 1 rfl rfl ?_
        refine ms5 C 53 (by omega) dX1_input_53 ?_
        refine bg_aload C 54 dX1_input_54 ?_
        refine mg4 C 55 dX1_input_55 ?_
        refine bg_iload_n C 58 dX1_input_58 0 rfl rfl ?_
        refine bg_aload C 59 dX1_input_59 ?_
        refine mg4 C 60 dX1_input_60 ?_
        refine bg_iload_n C 63 dX1_input_63 0 rfl rfl ?_
        refine ml4 C 64 (by omega) dX1_input_64 ?_
        refine bg_eq (hc) ?_
        refine bg_iconst C 65 (nI 1) dX1_input_65 (by decide) ?_
        refine bg_iaddN C 66 dX1_input_66 ?_
        refine ms4 C 67 (by omega) dX1_input_67 ?_
        refine bg_aload C 68 dX1_input_68 ?_
        refine mg4 C 69 dX1_input_69 ?_
        refine bg_iload_n C 72 dX1_input_72 0 rfl rfl ?_
        refine ml4 C 73 (by omega) dX1_input_73 ?_
        refine bg_eq (pk_us) ?_
        refine bg_ret C 74 rfl dX1_input_74 ?_
        exact bp_pick_ok (by omega) ht (bp_pick_ok (by omega) hf ⟨fun h => absurd h (by omega), fun _ => ⟨rfl, rfl⟩⟩)
      · refine bg_bipush C 35 (-4) dX1_input_35 (by decide) ?_
        refine bg_ret C 37 rfl dX1_input_37 ?_
        exact bp_pick_ok (by omega) ht (bp_pick_ok (by omega) hf ⟨fun _ => ⟨rfl, rfl⟩, fun h => absurd h (by omega)⟩)
theorem mm_constant (σ : bg_S) (a v : Int32) {T : Nat} (hT : σ 1 0 = nI T) (hT12 : T ≤ 12) : bg_M kM yX1_constant cX1_constant 4 (some .int) 1 21 [a, v] σ (fun r σ' => bp_pick T a (r = -1 ∧ σ = σ') (fun t => r = σ 3 t ∧ bg_U σ 3 (upd (σ 3) t v) = σ')) := by
  refine bg_enter okkM (by decide) rfl (Nat.le_of_ble_eq_true rfl) (fun X o C => ?_)
  rcases bp_dich T (by omega) a with ⟨hb, -⟩ | ⟨t, ht, rfl⟩
  · refine bg_aload C 0 dX1_constant_0 ?_
    refine bg_iload_n C 1 dX1_constant_1 0 rfl rfl ?_
    refine mc_bad C 2 (mm_bad σ _ hT hT12) (by decide) (Nat.le_of_ble_eq_true rfl) dX1_constant_2 (fun r σ1 h1 => ?_)
    obtain ⟨rfl, rfl⟩ := h1.1 hb
    refine bg_if_eq C 5 10 dX1_constant_5 (by decide) (fun c => absurd c (by decide)) (fun c5 => ?_)
    refine bg_iconst C 8 (-1) dX1_constant_8 (by decide) ?_
    refine bg_ret C 9 rfl dX1_constant_9 ?_
    exact bp_pick_bad hb ⟨rfl, rfl⟩
  · refine bg_aload C 0 dX1_constant_0 ?_
    refine bg_iload_n C 1 dX1_constant_1 0 rfl rfl ?_
    refine mc_bad C 2 (mm_bad σ _ hT hT12) (by decide) (Nat.le_of_ble_eq_true rfl) dX1_constant_2 (fun r σ1 h1 => ?_)
    obtain ⟨rfl, rfl⟩ := h1.2 t ht rfl
    refine bg_if_eq C 5 10 dX1_constant_5 (by decide) (fun c5 => ?_) (fun c => absurd rfl c)
    refine bg_aload C 10 dX1_constant_10 ?_
    refine mg3 C 11 dX1_constant_11 ?_
    refine bg_iload_n C 14 dX1_constant_14 0 rfl rfl ?_
    refine ml3 C 15 (by omega) dX1_constant_15 ?_
    refine bg_istore_n C 16 dX1_constant_16 2 rfl (by decide) ?_
    refine bg_aload C 17 dX1_constant_17 ?_
    refine mg3 C 18 dX1_constant_18 ?_
    refine bg_iload_n C 21 dX1_constant_21 0 rfl rfl ?_
    refine bg_iload_n C 22 dX1_constant_22 1 rfl rfl ?_
    refine ms3 C 23 (by omega) dX1_constant_23 ?_
    refine bg_iload_n C 24 dX1_constant_24 2 rfl rfl ?_
    refine bg_ret C 25 rfl dX1_constant_25 ?_
    exact bp_pick_ok (by omega) ht ⟨rfl, rfl⟩
theorem mm_clean (σ : bg_S) (a : Int32) {T : Nat} (hT : σ 1 0 = nI T) (hT12 : T ≤ 12) : bg_M kM yX1_clean cX1_clean 3 (some .int) 1 21 [a] σ (fun r σ' => bp_pick T a (r = -1 ∧ σ = σ') (fun t => r = (if σ 8 t = 0 then 0 else 1) ∧ bg_U σ 8 (upd (σ 8) t 0) = σ')) := by
  refine bg_enter okkM (by decide) rfl (Nat.le_of_ble_eq_true rfl) (fun X o C => ?_)
  rcases bp_dich T (by omega) a with ⟨hb, -⟩ | ⟨t, ht, rfl⟩
  · refine bg_aload C 0 dX1_clean_0 ?_
    refine bg_iload_n C 1 dX1_clean_1 0 rfl rfl ?_
    refine mc_bad C 2 (mm_bad σ _ hT hT12) (by decide) (Nat.le_of_ble_eq_true rfl) dX1_clean_2 (fun r σ1 h1 => ?_)
    obtain ⟨rfl, rfl⟩ := h1.1 hb
    refine bg_if_eq C 5 10 dX1_clean_5 (by decide) (fun c => absurd c (by decide)) (fun c5 => ?_)
    refine bg_iconst C 8 (-1) dX1_clean_8 (by decide) ?_
    refine bg_ret C 9 rfl dX1_clean_9 ?_
    exact bp_pick_bad hb ⟨rfl, rfl⟩
  · refine bg_aload C 0 dX1_clean_0 ?_
    refine bg_iload_n C 1 dX1_clean_1 0 rfl rfl ?_
    refine mc_bad C 2 (mm_bad σ _ hT hT12) (by decide) (Nat.le_of_ble_eq_true rfl) dX1_clean_2 (fun r σ1 h1 => ?_)
    obtain ⟨rfl, rfl⟩ := h1.2 t ht rfl
    refine bg_if_eq C 5 10 dX1_clean_5 (by decide) (fun c5 => ?_) (fun c => absurd rfl c)
    refine bg_aload C 10 dX1_clean_10 ?_
    refine mg8 C 11 dX1_clean_11 ?_
    refine bg_iload_n C 14 dX1_clean_14 0 rfl rfl ?_
    refine ml8 C 15 (by omega) dX1_clean_15 ?_
    refine bg_if_eq C 16 23 dX1_clean_16 (by decide) (fun c16 => ?_) (fun c16 => ?_)
    · refine bg_iconst C 23 (0) dX1_clean_23 (by decide) ?_
      refine bg_istore_n C 24 dX1_clean_24 1 rfl (by decide) ?_
      refine bg_aload C 25 dX1_clean_25 ?_
      refine mg8 C 26 dX1_clean_26 ?_
      refine bg_iload_n C 29 dX1_clean_29 0 rfl rfl ?_
      refine bg_iconst C 30 (0) dX1_clean_30 (by decide) ?_
      refine ms8 C 31 (by omega) dX1_clean_31 rfl ?_
      refine bg_iload_n C 32 dX1_clean_32 1 rfl rfl ?_
      refine bg_ret C 33 rfl dX1_clean_33 ?_
      exact bp_pick_ok (by omega) ht ⟨(if_pos c16).symm, rfl⟩
    · refine bg_iconst C 19 (1) dX1_clean_19 (by decide) ?_
      refine bg_goto C 20 24 dX1_clean_20 (by decide) ?_
      refine bg_istore_n C 24 dX1_clean_24 1 rfl (by decide) ?_
      refine bg_aload C 25 dX1_clean_25 ?_
      refine mg8 C 26 dX1_clean_26 ?_
      refine bg_iload_n C 29 dX1_clean_29 0 rfl rfl ?_
      refine bg_iconst C 30 (0) dX1_clean_30 (by decide) ?_
      refine ms8 C 31 (by omega) dX1_clean_31 rfl ?_
      refine bg_iload_n C 32 dX1_clean_32 1 rfl rfl ?_
      refine bg_ret C 33 rfl dX1_clean_33 ?_
      exact bp_pick_ok (by omega) ht ⟨(if_neg c16).symm, rfl⟩
theorem mw_emptyStore {X : bg_E} {o : bg_O} {post : Int32 → bg_S → Prop} (C : bg_Cx X kM o cX1_emptyStore 2 0 0 none post) (σ : bg_S) (K : ∀ g : Nat → Int32, (∀ t, t < 12 → g t = nI 0) → bg_X X kM o (bg_U σ 10 g) [nI 12] 26 []) : ∀ (k i : Nat) (g : Nat → Int32), i + k = 12 → (∀ t, t < i → g t = nI 0) → bg_X X kM o (bg_U σ 10 g) [nI i] 7 [] := by
  intro k
  induction k with
  | zero =>
    intro i g hi hg
    have e : i = 12 := by omega
    subst e
    refine bg_iload_n C 7 dX1_emptyStore_7 0 rfl rfl ?_
    refine bg_bipush C 8 (nI 12) dX1_emptyStore_8 (by decide) ?_
    refine bg_icmpN_ge C 10 (by omega) (by omega) 26 dX1_emptyStore_10 (by decide) (fun c10 => ?_) (fun c => absurd c (by omega))
    exact K g hg
  | succ k ih =>
    intro i g hi hg
    refine bg_iload_n C 7 dX1_emptyStore_7 0 rfl rfl ?_
    refine bg_bipush C 8 (nI 12) dX1_emptyStore_8 (by decide) ?_
    refine bg_icmpN_ge C 10 (by omega) (by omega) 26 dX1_emptyStore_10 (by decide) (fun c => absurd c (by omega)) (fun c10 => ?_)
    refine bg_aload C 13 dX1_emptyStore_13 ?_
    refine mg10 C 14 dX1_emptyStore_14 ?_
    refine bg_iload_n C 17 dX1_emptyStore_17 0 rfl rfl ?_
    refine bg_iconst C 18 (nI 0) dX1_emptyStore_18 (by decide) ?_
    refine ms10 C 19 (by omega) dX1_emptyStore_19 ?_
    refine bg_iincN C 20 dX1_emptyStore_20 0 rfl (by decide) rfl ?_
    refine bg_goto C 23 7 dX1_emptyStore_23 (by decide) ?_
    refine bg_uu ?_
    exact ih (i + 1) (upd g i (nI 0)) (by omega) (bp_ext hg rfl)
theorem mm_emptyStore (σ : bg_S) : bg_M kM yX1_emptyStore cX1_emptyStore 2 none 0 0 [] σ (fun _ σ' => ∃ g : Nat → Int32, (∀ t, t < 12 → g t = nI 0) ∧ bg_U (bg_U σ 12 (fun _ => 0)) 10 g = σ') := by
  refine bg_enter okkM (by decide) rfl (Nat.le_of_ble_eq_true rfl) (fun X o C => ?_)
  refine bg_aload C 0 dX1_emptyStore_0 ?_
  refine bg_iconst C 1 (0) dX1_emptyStore_1 (by decide) ?_
  refine mp12 C 2 dX1_emptyStore_2 ?_
  refine bg_iconst C 5 (nI 0) dX1_emptyStore_5 (by decide) ?_
  refine bg_istore_n C 6 dX1_emptyStore_6 0 rfl (by decide) ?_
  refine bg_uid 10 ?_
  refine mw_emptyStore C _ (fun g hg => ?_) 12 0 _ (by omega) (fun t ht => absurd ht (by omega))
  refine bg_vret C 26 dX1_emptyStore_26 ?_
  exact ⟨g, hg, rfl⟩
theorem mm_status (σ : bg_S) (a : Int32) {T : Nat} (hT : σ 1 0 = nI T) (hT12 : T ≤ 12) : bg_M kM yX1_status cX1_status 2 (some .int) 1 21 [a] σ (fun r σ' => σ = σ' ∧ bp_pick T a (r = -1) (fun t => r = σ 7 t)) := by
  refine bg_enter okkM (by decide) rfl (Nat.le_of_ble_eq_true rfl) (fun X o C => ?_)
  rcases bp_dich T (by omega) a with ⟨hb, -⟩ | ⟨t, ht, rfl⟩
  · refine bg_aload C 0 dX1_status_0 ?_
    refine bg_iload_n C 1 dX1_status_1 0 rfl rfl ?_
    refine mc_bad C 2 (mm_bad σ _ hT hT12) (by decide) (Nat.le_of_ble_eq_true rfl) dX1_status_2 (fun r σ1 h1 => ?_)
    obtain ⟨rfl, rfl⟩ := h1.1 hb
    refine bg_if_eq C 5 12 dX1_status_5 (by decide) (fun c => absurd c (by decide)) (fun c5 => ?_)
    refine bg_iconst C 8 (-1) dX1_status_8 (by decide) ?_
    refine bg_goto C 9 18 dX1_status_9 (by decide) ?_
    refine bg_ret C 18 rfl dX1_status_18 ?_
    exact ⟨rfl, bp_pick_bad hb rfl⟩
  · refine bg_aload C 0 dX1_status_0 ?_
    refine bg_iload_n C 1 dX1_status_1 0 rfl rfl ?_
    refine mc_bad C 2 (mm_bad σ _ hT hT12) (by decide) (Nat.le_of_ble_eq_true rfl) dX1_status_2 (fun r σ1 h1 => ?_)
    obtain ⟨rfl, rfl⟩ := h1.2 t ht rfl
    refine bg_if_eq C 5 12 dX1_status_5 (by decide) (fun c5 => ?_) (fun c => absurd rfl c)
    refine bg_aload C 12 dX1_status_12 ?_
    refine mg7 C 13 dX1_status_13 ?_
    refine bg_iload_n C 16 dX1_status_16 0 rfl rfl ?_
    refine ml7 C 17 (by omega) dX1_status_17 ?_
    refine bg_ret C 18 rfl dX1_status_18 ?_
    exact ⟨rfl, bp_pick_ok (by omega) ht rfl⟩
theorem mm_output (σ : bg_S) (a : Int32) {T : Nat} (hT : σ 1 0 = nI T) (hT12 : T ≤ 12) : bg_M kM yX1_output cX1_output 2 (some .int) 1 21 [a] σ (fun r σ' => σ = σ' ∧ bp_pick T a (r = 0) (fun t => r = σ 6 t)) := by
  refine bg_enter okkM (by decide) rfl (Nat.le_of_ble_eq_true rfl) (fun X o C => ?_)
  rcases bp_dich T (by omega) a with ⟨hb, -⟩ | ⟨t, ht, rfl⟩
  · refine bg_aload C 0 dX1_output_0 ?_
    refine bg_iload_n C 1 dX1_output_1 0 rfl rfl ?_
    refine mc_bad C 2 (mm_bad σ _ hT hT12) (by decide) (Nat.le_of_ble_eq_true rfl) dX1_output_2 (fun r σ1 h1 => ?_)
    obtain ⟨rfl, rfl⟩ := h1.1 hb
    refine bg_if_eq C 5 12 dX1_output_5 (by decide) (fun c => absurd c (by decide)) (fun c5 => ?_)
    refine bg_iconst C 8 (nI 0) dX1_output_8 (by decide) ?_
    refine bg_goto C 9 18 dX1_output_9 (by decide) ?_
    refine bg_ret C 18 rfl dX1_output_18 ?_
    exact ⟨rfl, bp_pick_bad hb rfl⟩
  · refine bg_aload C 0 dX1_output_0 ?_
    refine bg_iload_n C 1 dX1_output_1 0 rfl rfl ?_
    refine mc_bad C 2 (mm_bad σ _ hT hT12) (by decide) (Nat.le_of_ble_eq_true rfl) dX1_output_2 (fun r σ1 h1 => ?_)
    obtain ⟨rfl, rfl⟩ := h1.2 t ht rfl
    refine bg_if_eq C 5 12 dX1_output_5 (by decide) (fun c5 => ?_) (fun c => absurd rfl c)
    refine bg_aload C 12 dX1_output_12 ?_
    refine mg6 C 13 dX1_output_13 ?_
    refine bg_iload_n C 16 dX1_output_16 0 rfl rfl ?_
    refine ml6 C 17 (by omega) dX1_output_17 ?_
    refine bg_ret C 18 rfl dX1_output_18 ?_
    exact ⟨rfl, bp_pick_ok (by omega) ht rfl⟩
theorem mm_executed (σ : bg_S) : bg_M kM yX1_executed cX1_executed 1 (some .int) 0 0 [] σ (fun r σ' => σ = σ' ∧ r = σ 13 0) := by
  refine bg_enter okkM (by decide) rfl (Nat.le_of_ble_eq_true rfl) (fun X o C => ?_)
  refine bg_aload C 0 dX1_executed_0 ?_
  refine mg13 C 1 dX1_executed_1 ?_
  refine bg_ret C 4 rfl dX1_executed_4 ?_
  exact ⟨rfl, rfl⟩
/-- number i of the task's values, 0 beyond its inputs -/
def bm_v (σ : bg_S) (t i : Nat) : Int32 := if i < bp_cn (σ 4) t then bp_vl (σ 0) (σ 5) (σ 14) t i else 0
theorem mm_value (σ : bg_S) {t i : Nat} (ht : t < 12) (hi : i < 5) (hO : bp_OK (σ 4) (σ 5)) : bg_M kM yX1_value cX1_value 4 (some .int) 0 0 [nI t, nI i] σ (fun r σ' => r = bm_v σ t i ∧ σ = σ') := by
  obtain ⟨hc, hc3, hf⟩ := hO t ht
  refine bg_enter okkM (by decide) rfl (Nat.le_of_ble_eq_true rfl) (fun X o C => ?_)
  refine bg_iload_n C 0 dX1_value_0 1 rfl rfl ?_
  refine bg_aload C 1 dX1_value_1 ?_
  refine mg4 C 2 dX1_value_2 ?_
  refine bg_iload_n C 5 dX1_value_5 0 rfl rfl ?_
  refine ml4 C 6 (by omega) dX1_value_6 ?_
  refine bg_eq (hc) ?_
  refine bg_icmpN_lt C 7 (by omega) (by omega) 12 dX1_value_7 (by decide) (fun c7 => ?_) (fun c7 => ?_)
  · obtain ⟨hf1, hf2⟩ := hf i c7
    refine bg_aload C 12 dX1_value_12 ?_
    refine mg5 C 13 dX1_value_13 ?_
    refine bg_iload_n C 16 dX1_value_16 0 rfl rfl ?_
    refine bg_iconst C 17 (nI 3) dX1_value_17 (by decide) ?_
    refine bg_imulN C 18 dX1_value_18 ?_
    refine bg_iload_n C 19 dX1_value_19 1 rfl rfl ?_
    refine bg_iaddN C 20 dX1_value_20 ?_
    refine ml5 C 21 (by omega) dX1_value_21 ?_
    refine bg_eq (hf1) ?_
    refine bg_istore_n C 22 dX1_value_22 2 rfl (by decide) ?_
    refine bg_iload_n C 23 dX1_value_23 2 rfl rfl ?_
    refine bg_bipush C 24 (nI 8) dX1_value_24 (by decide) ?_
    refine bg_icmpN_ge C 26 (by omega) (by omega) 38 dX1_value_26 (by decide) (fun c26 => ?_) (fun c26 => ?_)
    · refine bg_aload C 38 dX1_value_38 ?_
      refine mg14 C 39 dX1_value_39 ?_
      refine bg_iload_n C 42 dX1_value_42 2 rfl rfl ?_
      refine bg_bipush C 43 (nI 8) dX1_value_43 (by decide) ?_
      refine bg_isubN C 45 (by omega) dX1_value_45 ?_
      refine ml14 C 46 (by omega) dX1_value_46 ?_
      refine bg_ret C 47 rfl dX1_value_47 ?_
      exact ⟨((if_pos c7).trans (if_neg (Nat.not_lt.mpr c26))).symm, rfl⟩
    · refine bg_aload C 29 dX1_value_29 ?_
      refine mg0 C 30 dX1_value_30 ?_
      refine bg_iload_n C 33 dX1_value_33 2 rfl rfl ?_
      refine ml0 C 34 (by omega) dX1_value_34 ?_
      refine bg_goto C 35 47 dX1_value_35 (by decide) ?_
      refine bg_ret C 47 rfl dX1_value_47 ?_
      exact ⟨((if_pos c7).trans (if_pos c26)).symm, rfl⟩
  · refine bg_iconst C 10 (nI 0) dX1_value_10 (by decide) ?_
    refine bg_ret C 11 rfl dX1_value_11 ?_
    exact ⟨(if_neg (Nat.not_lt.mpr c7)).symm, rfl⟩
/-- number i of the task's record as of now -/
def bm_part (σ : bg_S) (t i : Nat) : Int32 := if i = 0 then σ 3 t else if i = 1 then σ 4 t else bm_v σ t (i - 2)
theorem mm_part (σ : bg_S) {t i : Nat} (ht : t < 12) (hi : i < 5) (hO : bp_OK (σ 4) (σ 5)) : bg_M kM yX1_part cX1_part 3 (some .int) 1 23 [nI t, nI i] σ (fun r σ' => r = bm_part σ t i ∧ σ = σ') := by
  refine bg_enter okkM (by decide) rfl (Nat.le_of_ble_eq_true rfl) (fun X o C => ?_)
  refine bg_iload_n C 0 dX1_part_0 1 rfl rfl ?_
  refine bg_if_ne C 1 13 dX1_part_1 (by decide) (fun c1 => ?_) (fun c1 => ?_)
  · have h0 : ¬ i = 0 := fun h => c1 (by rw [h]; rfl)
    refine bg_iload_n C 13 dX1_part_13 1 rfl rfl ?_
    refine bg_iconst C 14 (nI 1) dX1_part_14 (by decide) ?_
    refine bg_icmpN_ne C 15 (by omega) (by omega) 27 dX1_part_15 (by decide) (fun c15 => ?_) (fun c15 => ?_)
    · refine bg_aload C 27 dX1_part_27 ?_
      refine bg_iload_n C 28 dX1_part_28 0 rfl rfl ?_
      refine bg_iload_n C 29 dX1_part_29 1 rfl rfl ?_
      refine bg_iconst C 30 (nI 2) dX1_part_30 (by decide) ?_
      refine bg_isubN C 31 (by omega) dX1_part_31 ?_
      refine mc_value C 32 (mm_value σ ht (by omega) hO) (by decide) (Nat.le_of_ble_eq_true rfl) dX1_part_32 (fun r σ1 h1 => ?_)
      obtain ⟨rfl, rfl⟩ := h1
      refine bg_ret C 35 rfl dX1_part_35 ?_
      exact ⟨((if_neg h0).trans (if_neg c15)).symm, rfl⟩
    · refine bg_aload C 18 dX1_part_18 ?_
      refine mg4 C 19 dX1_part_19 ?_
      refine bg_iload_n C 22 dX1_part_22 0 rfl rfl ?_
      refine ml4 C 23 (by omega) dX1_part_23 ?_
      refine bg_goto C 24 35 dX1_part_24 (by decide) ?_
      refine bg_ret C 35 rfl dX1_part_35 ?_
      exact ⟨((if_neg h0).trans (if_pos c15)).symm, rfl⟩
  · have h0 : i = 0 := (nI_eq (by omega) (by omega)).mp (c1.trans nI_0.symm)
    refine bg_aload C 4 dX1_part_4 ?_
    refine mg3 C 5 dX1_part_5 ?_
    refine bg_iload_n C 8 dX1_part_8 0 rfl rfl ?_
    refine ml3 C 9 (by omega) dX1_part_9 ?_
    refine bg_goto C 10 35 dX1_part_10 (by decide) ?_
    refine bg_ret C 35 rfl dX1_part_35 ?_
    exact ⟨(if_pos h0).symm, rfl⟩
def bm_last (σ : bg_S) (t : Nat) : Prop := ¬ σ 8 t = 0 ∧ ∀ i, i < 5 → σ 9 (t * 5 + i) = bm_part σ t i
theorem mw_last {X : bg_E} {o : bg_O} (σ : bg_S) {t : Nat} (C : bg_Cx X kM o cX1_isLast 3 2 45 (some .boolean) (fun r σ' => σ = σ' ∧ ((r = 1 ∧ bm_last σ t) ∨ (r = 0 ∧ ¬ bm_last σ t)))) (ht : t < 12) (hO : bp_OK (σ 4) (σ 5)) (h9 : ¬ σ 8 t = 0) : ∀ (k i : Nat), i + k = 5 → (∀ j, j < i → σ 9 (t * 5 + j) = bm_part σ t j) → bg_X X kM o σ [nI t, nI i] 13 [] := by
  intro k
  induction k with
  | zero =>
    intro i hi hg
    have e : i = 5 := by omega
    subst e
    refine bg_iload_n C 13 dX1_isLast_13 1 rfl rfl ?_
    refine bg_iconst C 14 (nI 5) dX1_isLast_14 (by decide) ?_
    refine bg_icmpN_ge C 15 (by omega) (by omega) 45 dX1_isLast_15 (by decide) (fun c15 => ?_) (fun c => absurd c (by omega))
    refine bg_iconst C 45 (nI 1) dX1_isLast_45 (by decide) ?_
    refine bg_ret C 46 rfl dX1_isLast_46 ?_
    exact ⟨rfl, Or.inl ⟨rfl, h9, hg⟩⟩
  | succ k ih =>
    intro i hi hg
    refine bg_iload_n C 13 dX1_isLast_13 1 rfl rfl ?_
    refine bg_iconst C 14 (nI 5) dX1_isLast_14 (by decide) ?_
    refine bg_icmpN_ge C 15 (by omega) (by omega) 45 dX1_isLast_15 (by decide) (fun c => absurd c (by omega)) (fun c15 => ?_)
    refine bg_aload C 18 dX1_isLast_18 ?_
    refine mg9 C 19 dX1_isLast_19 ?_
    refine bg_iload_n C 22 dX1_isLast_22 0 rfl rfl ?_
    refine bg_iconst C 23 (nI 5) dX1_isLast_23 (by decide) ?_
    refine bg_imulN C 24 dX1_isLast_24 ?_
    refine bg_iload_n C 25 dX1_isLast_25 1 rfl rfl ?_
    refine bg_iaddN C 26 dX1_isLast_26 ?_
    refine ml9 C 27 (by omega) dX1_isLast_27 ?_
    refine bg_aload C 28 dX1_isLast_28 ?_
    refine bg_iload_n C 29 dX1_isLast_29 0 rfl rfl ?_
    refine bg_iload_n C 30 dX1_isLast_30 1 rfl rfl ?_
    refine mc_part C 31 (mm_part σ ht (by omega) hO) (by decide) (Nat.le_of_ble_eq_true rfl) dX1_isLast_31 (fun r σ1 h1 => ?_)
    obtain ⟨rfl, rfl⟩ := h1
    refine bg_icmp_eq C 34 39 dX1_isLast_34 (by decide) (fun c34 => ?_) (fun c34 => ?_)
    · refine bg_iincN C 39 dX1_isLast_39 1 rfl (by decide) rfl ?_
      refine bg_goto C 42 13 dX1_isLast_42 (by decide) ?_
      exact ih (i + 1) (by omega) (lt_s hg c34)
    · refine bg_iconst C 37 (nI 0) dX1_isLast_37 (by decide) ?_
      refine bg_ret C 38 rfl dX1_isLast_38 ?_
      exact ⟨rfl, Or.inr ⟨rfl, fun h => c34 (h.2 i (by omega))⟩⟩
theorem mm_last (σ : bg_S) {t : Nat} (ht : t < 12) (hO : bp_OK (σ 4) (σ 5)) : bg_M kM yX1_isLast cX1_isLast 3 (some .boolean) 2 45 [nI t] σ (fun r σ' => σ = σ' ∧ ((r = 1 ∧ bm_last σ t) ∨ (r = 0 ∧ ¬ bm_last σ t))) := by
  refine bg_enter okkM (by decide) rfl (Nat.le_of_ble_eq_true rfl) (fun X o C => ?_)
  refine bg_aload C 0 dX1_isLast_0 ?_
  refine mg8 C 1 dX1_isLast_1 ?_
  refine bg_iload_n C 4 dX1_isLast_4 0 rfl rfl ?_
  refine ml8 C 5 (by omega) dX1_isLast_5 ?_
  refine bg_if_ne C 6 11 dX1_isLast_6 (by decide) (fun c6 => ?_) (fun c6 => ?_)
  · refine bg_iconst C 11 (nI 0) dX1_isLast_11 (by decide) ?_
    refine bg_istore_n C 12 dX1_isLast_12 1 rfl (by decide) ?_
    exact mw_last σ C ht hO c6 5 0 (by omega) (fun j hj => absurd hj (by omega))
  · refine bg_iconst C 9 (nI 0) dX1_isLast_9 (by decide) ?_
    refine bg_ret C 10 rfl dX1_isLast_10 ?_
    exact ⟨rfl, Or.inr ⟨rfl, fun h => h.1 c6⟩⟩
def bm_rec (σ : bg_S) (t a : Nat) : Prop := ∀ i, i < 5 → σ 11 ((t * 40 + a) * 5 + i) = bm_part σ t i
theorem mw_rec {X : bg_E} {o : bg_O} (σ : bg_S) {t a : Nat} (C : bg_Cx X kM o cX1_isRecord 4 2 45 (some .boolean) (fun r σ' => σ = σ' ∧ ((r = 1 ∧ bm_rec σ t a) ∨ (r = 0 ∧ ¬ bm_rec σ t a)))) (ht : t < 12) (ha : a < 40) (hO : bp_OK (σ 4) (σ 5)) : ∀ (k i : Nat), i + k = 5 → (∀ j, j < i → σ 11 ((t * 40 + a) * 5 + j) = bm_part σ t j) → bg_X X kM o σ [nI t, nI a, nI i] 2 [] := by
  intro k
  induction k with
  | zero =>
    intro i hi hg
    have e : i = 5 := by omega
    subst e
    refine bg_iload_n C 2 dX1_isRecord_2 2 rfl rfl ?_
    refine bg_iconst C 3 (nI 5) dX1_isRecord_3 (by decide) ?_
    refine bg_icmpN_ge C 4 (by omega) (by omega) 39 dX1_isRecord_4 (by decide) (fun c4 => ?_) (fun c => absurd c (by omega))
    refine bg_iconst C 39 (nI 1) dX1_isRecord_39 (by decide) ?_
    refine bg_ret C 40 rfl dX1_isRecord_40 ?_
    exact ⟨rfl, Or.inl ⟨rfl, hg⟩⟩
  | succ k ih =>
    intro i hi hg
    refine bg_iload_n C 2 dX1_isRecord_2 2 rfl rfl ?_
    refine bg_iconst C 3 (nI 5) dX1_isRecord_3 (by decide) ?_
    refine bg_icmpN_ge C 4 (by omega) (by omega) 39 dX1_isRecord_4 (by decide) (fun c => absurd c (by omega)) (fun c4 => ?_)
    refine bg_aload C 7 dX1_isRecord_7 ?_
    refine mg11 C 8 dX1_isRecord_8 ?_
    refine bg_iload_n C 11 dX1_isRecord_11 0 rfl rfl ?_
    refine bg_bipush C 12 (nI 40) dX1_isRecord_12 (by decide) ?_
    refine bg_imulN C 14 dX1_isRecord_14 ?_
    refine bg_iload_n C 15 dX1_isRecord_15 1 rfl rfl ?_
    refine bg_iaddN C 16 dX1_isRecord_16 ?_
    refine bg_iconst C 17 (nI 5) dX1_isRecord_17 (by decide) ?_
    refine bg_imulN C 18 dX1_isRecord_18 ?_
    refine bg_iload_n C 19 dX1_isRecord_19 2 rfl rfl ?_
    refine bg_iaddN C 20 dX1_isRecord_20 ?_
    refine ml11 C 21 (by omega) dX1_isRecord_21 ?_
    refine bg_aload C 22 dX1_isRecord_22 ?_
    refine bg_iload_n C 23 dX1_isRecord_23 0 rfl rfl ?_
    refine bg_iload_n C 24 dX1_isRecord_24 2 rfl rfl ?_
    refine mc_part C 25 (mm_part σ ht (by omega) hO) (by decide) (Nat.le_of_ble_eq_true rfl) dX1_isRecord_25 (fun r σ1 h1 => ?_)
    obtain ⟨rfl, rfl⟩ := h1
    refine bg_icmp_eq C 28 33 dX1_isRecord_28 (by decide) (fun c28 => ?_) (fun c28 => ?_)
    · refine bg_iincN C 33 dX1_isRecord_33 2 rfl (by decide) rfl ?_
      refine bg_goto C 36 2 dX1_isRecord_36 (by decide) ?_
      exact ih (i + 1) (by omega) (lt_s hg c28)
    · refine bg_iconst C 31 (nI 0) dX1_isRecord_31 (by decide) ?_
      refine bg_ret C 32 rfl dX1_isRecord_32 ?_
      exact ⟨rfl, Or.inr ⟨rfl, fun h => c28 (h i (by omega))⟩⟩
theorem mm_rec (σ : bg_S) {t a : Nat} (ht : t < 12) (ha : a < 40) (hO : bp_OK (σ 4) (σ 5)) : bg_M kM yX1_isRecord cX1_isRecord 4 (some .boolean) 2 45 [nI t, nI a] σ (fun r σ' => σ = σ' ∧ ((r = 1 ∧ bm_rec σ t a) ∨ (r = 0 ∧ ¬ bm_rec σ t a))) := by
  refine bg_enter okkM (by decide) rfl (Nat.le_of_ble_eq_true rfl) (fun X o C => ?_)
  refine bg_iconst C 0 (nI 0) dX1_isRecord_0 (by decide) ?_
  refine bg_istore_n C 1 dX1_isRecord_1 2 rfl (by decide) ?_
  exact mw_rec σ C ht ha hO 5 0 (by omega) (fun j hj => absurd hj (by omega))
def bm_in (σ : bg_S) (t : Nat) : Prop := ∃ a, a < bp_cn (σ 10) t ∧ bm_rec σ t a
theorem mw_in {X : bg_E} {o : bg_O} (σ : bg_S) {t : Nat} (C : bg_Cx X kM o cX1_isStored 3 3 68 (some .boolean) (fun r σ' => σ = σ' ∧ ((r = 1 ∧ bm_in σ t) ∨ (r = 0 ∧ ¬ bm_in σ t)))) (ht : t < 12) (hO : bp_OK (σ 4) (σ 5)) (hs : σ 10 t = nI (bp_cn (σ 10) t)) (hs2 : bp_cn (σ 10) t ≤ 40) : ∀ (k i : Nat), i + k = bp_cn (σ 10) t → (∀ j, j < i → ¬ bm_rec σ t j) → bg_X X kM o σ [nI t, nI i] 2 [] := by
  intro k
  induction k with
  | zero =>
    intro i hi hg
    have e : i = bp_cn (σ 10) t := by omega
    subst e
    refine bg_iload_n C 2 dX1_isStored_2 1 rfl rfl ?_
    refine bg_aload C 3 dX1_isStored_3 ?_
    refine mg10 C 4 dX1_isStored_4 ?_
    refine bg_iload_n C 7 dX1_isStored_7 0 rfl rfl ?_
    refine ml10 C 8 (by omega) dX1_isStored_8 ?_
    refine bg_eq (hs) ?_
    refine bg_icmpN_ge C 9 (by omega) (by omega) 29 dX1_isStored_9 (by decide) (fun c9 => ?_) (fun c => absurd c (by omega))
    refine bg_iconst C 29 (nI 0) dX1_isStored_29 (by decide) ?_
    refine bg_ret C 30 rfl dX1_isStored_30 ?_
    exact ⟨rfl, Or.inr ⟨rfl, fun ⟨a, ha, h⟩ => hg a ha h⟩⟩
  | succ k ih =>
    intro i hi hg
    refine bg_iload_n C 2 dX1_isStored_2 1 rfl rfl ?_
    refine bg_aload C 3 dX1_isStored_3 ?_
    refine mg10 C 4 dX1_isStored_4 ?_
    refine bg_iload_n C 7 dX1_isStored_7 0 rfl rfl ?_
    refine ml10 C 8 (by omega) dX1_isStored_8 ?_
    refine bg_eq (hs) ?_
    refine bg_icmpN_ge C 9 (by omega) (by omega) 29 dX1_isStored_9 (by decide) (fun c => absurd c (by omega)) (fun c9 => ?_)
    refine bg_aload C 12 dX1_isStored_12 ?_
    refine bg_iload_n C 13 dX1_isStored_13 0 rfl rfl ?_
    refine bg_iload_n C 14 dX1_isStored_14 1 rfl rfl ?_
    refine mc_isRecord C 15 (mm_rec σ ht (by omega) hO) (by decide) (Nat.le_of_ble_eq_true rfl) dX1_isStored_15 (fun r σ1 h1 => ?_)
    obtain ⟨rfl, ⟨rfl, hr⟩ | ⟨rfl, hr⟩⟩ := h1
    · refine bg_if_eq C 18 23 dX1_isStored_18 (by decide) (fun c => absurd c (by decide)) (fun c18 => ?_)
      refine bg_iconst C 21 (nI 1) dX1_isStored_21 (by decide) ?_
      refine bg_ret C 22 rfl dX1_isStored_22 ?_
      exact ⟨rfl, Or.inl ⟨rfl, i, by omega, hr⟩⟩
    · refine bg_if_eq C 18 23 dX1_isStored_18 (by decide) (fun c18 => ?_) (fun c => absurd rfl c)
      refine bg_iincN C 23 dX1_isStored_23 1 rfl (by decide) rfl ?_
      refine bg_goto C 26 2 dX1_isStored_26 (by decide) ?_
      exact ih (i + 1) (by omega) (lt_s hg hr)
theorem mm_in (σ : bg_S) {t : Nat} (ht : t < 12) (hO : bp_OK (σ 4) (σ 5)) (hs : σ 10 t = nI (bp_cn (σ 10) t)) (hs2 : bp_cn (σ 10) t ≤ 40) : bg_M kM yX1_isStored cX1_isStored 3 (some .boolean) 3 68 [nI t] σ (fun r σ' => σ = σ' ∧ ((r = 1 ∧ bm_in σ t) ∨ (r = 0 ∧ ¬ bm_in σ t))) := by
  refine bg_enter okkM (by decide) rfl (Nat.le_of_ble_eq_true rfl) (fun X o C => ?_)
  refine bg_iconst C 0 (nI 0) dX1_isStored_0 (by decide) ?_
  refine bg_istore_n C 1 dX1_isStored_1 1 rfl (by decide) ?_
  exact mw_in σ C ht hO hs hs2 (bp_cn (σ 10) t) 0 (by omega) (fun j hj => absurd hj (by omega))
end
section
/-! BuildGraphModel: needs, workOut, handle, build, questions -/
set_option maxRecDepth 100000
theorem mw_ni {X : bg_E} {o : bg_O} {post : Int32 → bg_S → Prop} (C : bg_Cx X kM o cX1_needs 5 0 0 (some .int) post) (σ : bg_S) {a m : Int32} {n : Nat} (hn : n < 12) (hO : bp_OK (σ 4) (σ 5))
    (K : bg_X X kM o σ [a, bm_ni (σ 5) n m (bp_cn (σ 4) n), nI n] 74 []) : ∀ (k i : Nat) (x : Int32), i + k = bp_cn (σ 4) n → x = bm_ni (σ 5) n m i → bg_X X kM o σ [a, x, nI n, nI i] 13 [] := by
  obtain ⟨hc, hc3, hf⟩ := hO n hn
  intro k
  induction k with
  | zero =>
    intro i x hi hx
    have e : i = bp_cn (σ 4) n := by omega
    subst e
    subst hx
    refine bg_iload C 13 dX1_needs_13 3 rfl rfl ?_
    refine bg_aload C 15 dX1_needs_15 ?_
    refine mg4 C 16 dX1_needs_16 ?_
    refine bg_iload_n C 19 dX1_needs_19 2 rfl rfl ?_
    refine ml4 C 20 (by omega) dX1_needs_20 ?_
    refine bg_eq (hc) ?_
    refine bg_icmpN_ge C 21 (by omega) (by omega) 74 dX1_needs_21 (by decide) (fun c21 => ?_) (fun c => absurd c (by omega))
    exact bg_take 3 K
  | succ k ih =>
    intro i x hi hx
    subst hx
    obtain ⟨hf1, hf2⟩ := hf i (by omega)
    refine bg_iload C 13 dX1_needs_13 3 rfl rfl ?_
    refine bg_aload C 15 dX1_needs_15 ?_
    refine mg4 C 16 dX1_needs_16 ?_
    refine bg_iload_n C 19 dX1_needs_19 2 rfl rfl ?_
    refine ml4 C 20 (by omega) dX1_needs_20 ?_
    refine bg_eq (hc) ?_
    refine bg_icmpN_ge C 21 (by omega) (by omega) 74 dX1_needs_21 (by decide) (fun c => absurd c (by omega)) (fun c21 => ?_)
    refine bg_iload_n C 24 dX1_needs_24 1 rfl rfl ?_
    refine bg_iload_n C 25 dX1_needs_25 2 rfl rfl ?_
    refine bg_ishr C 26 dX1_needs_26 ?_
    refine bg_iconst C 27 (1) dX1_needs_27 (by decide) ?_
    refine bg_iand C 28 dX1_needs_28 ?_
    refine bg_iconst C 29 (1) dX1_needs_29 (by decide) ?_
    refine bg_icmp_ne C 30 68 dX1_needs_30 (by decide) (fun c30 => ?_) (fun c30 => ?_)
    · refine bg_iincN C 68 dX1_needs_68 3 rfl (by decide) rfl ?_
      refine bg_goto C 71 13 dX1_needs_71 (by decide) ?_
      exact ih (i + 1) _ (by omega) (if_neg c30).symm
    · refine bg_aload C 33 dX1_needs_33 ?_
      refine mg5 C 34 dX1_needs_34 ?_
      refine bg_iload_n C 37 dX1_needs_37 2 rfl rfl ?_
      refine bg_iconst C 38 (nI 3) dX1_needs_38 (by decide) ?_
      refine bg_imulN C 39 dX1_needs_39 ?_
      refine bg_iload C 40 dX1_needs_40 3 rfl rfl ?_
      refine bg_iaddN C 42 dX1_needs_42 ?_
      refine ml5 C 43 (by omega) dX1_needs_43 ?_
      refine bg_eq (hf1) ?_
      refine bg_bipush C 44 (nI 8) dX1_needs_44 (by decide) ?_
      refine bg_icmpN_lt C 46 (by omega) (by omega) 68 dX1_needs_46 (by decide) (fun c46 => ?_) (fun c46 => ?_)
      · refine bg_iincN C 68 dX1_needs_68 3 rfl (by decide) rfl ?_
        refine bg_goto C 71 13 dX1_needs_71 (by decide) ?_
        exact ih (i + 1) _ (by omega) ((if_pos c30).trans (if_pos c46)).symm
      · refine bg_iload_n C 49 dX1_needs_49 1 rfl rfl ?_
        refine bg_iconst C 50 (1) dX1_needs_50 (by decide) ?_
        refine bg_aload C 51 dX1_needs_51 ?_
        refine mg5 C 52 dX1_needs_52 ?_
        refine bg_iload_n C 55 dX1_needs_55 2 rfl rfl ?_
        refine bg_iconst C 56 (nI 3) dX1_needs_56 (by decide) ?_
        refine bg_imulN C 57 dX1_needs_57 ?_
        refine bg_iload C 58 dX1_needs_58 3 rfl rfl ?_
        refine bg_iaddN C 60 dX1_needs_60 ?_
        refine ml5 C 61 (by omega) dX1_needs_61 ?_
        refine bg_eq (hf1) ?_
        refine bg_bipush C 62 (nI 8) dX1_needs_62 (by decide) ?_
        refine bg_isubN C 64 (by omega) dX1_needs_64 ?_
        refine bg_ishl C 65 dX1_needs_65 ?_
        refine bg_ior C 66 dX1_needs_66 ?_
        refine bg_istore_n C 67 dX1_needs_67 1 rfl (by decide) ?_
        refine bg_iincN C 68 dX1_needs_68 3 rfl (by decide) rfl ?_
        refine bg_goto C 71 13 dX1_needs_71 (by decide) ?_
        exact ih (i + 1) _ (by omega) ((if_pos c30).trans (if_neg (Nat.not_lt.mpr c46))).symm
theorem mw_nd {X : bg_E} {o : bg_O} (σ : bg_S) {t : Nat} (C : bg_Cx X kM o cX1_needs 5 0 0 (some .int) (fun r σ' => r = bp_need (σ 4) (σ 5) t ∧ σ = σ')) (hO : bp_OK (σ 4) (σ 5)) : ∀ (n : Nat) (x : Int32), n ≤ 12 → bp_nd (σ 4) (σ 5) n x = bp_need (σ 4) (σ 5) t → bg_X X kM o σ [nI t, x, bp_dn n] 6 [] := by
  intro n
  induction n with
  | zero =>
    intro x hn hx
    refine bg_iload_n C 6 dX1_needs_6 2 rfl rfl ?_
    refine bg_if_lt C 7 80 dX1_needs_7 (by decide) (fun c7 => ?_) (fun c => absurd (by decide) c)
    refine bg_iload_n C 80 dX1_needs_80 1 rfl rfl ?_
    refine bg_ret C 81 rfl dX1_needs_81 ?_
    exact ⟨hx, rfl⟩
  | succ n ih =>
    intro x hn hx
    show bg_X X kM o σ [nI t, x, nI n] 6 []
    refine bg_iload_n C 6 dX1_needs_6 2 rfl rfl ?_
    refine bg_if_lt C 7 80 dX1_needs_7 (by decide) (fun c => absurd c (nI_pos (by omega))) (fun c7 => ?_)
    refine bg_iconst C 10 (nI 0) dX1_needs_10 (by decide) ?_
    refine bg_istore C 11 dX1_needs_11 3 rfl (by decide) ?_
    refine mw_ni C σ (m := x) (by omega) hO ?_ (bp_cn (σ 4) n) 0 _ (by omega) rfl
    refine bg_iinc C 74 dX1_needs_74 2 rfl (by decide) rfl (bp_dn_s n) ?_
    refine bg_goto C 77 6 dX1_needs_77 (by decide) ?_
    refine ih _ (by omega) ?_
    rw [bm_ni_eq (σ 5) (by omega), ← hx]
    rfl
theorem mm_nd (σ : bg_S) {t : Nat} (ht : t < 12) (hO : bp_OK (σ 4) (σ 5)) : bg_M kM yX1_needs cX1_needs 5 (some .int) 0 0 [nI t] σ (fun r σ' => r = bp_need (σ 4) (σ 5) t ∧ σ = σ') := by
  refine bg_enter okkM (by decide) rfl (Nat.le_of_ble_eq_true rfl) (fun X o C => ?_)
  refine bg_iconst C 0 (1) dX1_needs_0 (by decide) ?_
  refine bg_iload_n C 1 dX1_needs_1 0 rfl rfl ?_
  refine bg_ishl C 2 dX1_needs_2 ?_
  refine bg_istore_n C 3 dX1_needs_3 1 rfl (by decide) ?_
  refine bg_iload_n C 4 dX1_needs_4 0 rfl rfl ?_
  refine bg_istore_n C 5 dX1_needs_5 2 rfl (by decide) ?_
  exact mw_nd σ C hO (t + 1) _ (by omega) rfl
def bm_kd (σ : bg_S) : Prop := ∀ t, t < 12 → σ 2 t = 0 ∨ σ 2 t = 1 ∨ σ 2 t = 2 ∨ σ 2 t = 3
theorem mw_res {X : bg_E} {o : bg_O} {post : Int32 → bg_S → Prop} (C : bg_Cx X kM o cX1_workOut 5 1 23 none post) (σ : bg_S) {t : Nat} (ht : t < 12) (hO : bp_OK (σ 4) (σ 5)) (hk : bm_kd σ)
    (K : bg_X X kM o σ [nI t, bp_rs (σ 2 t) (σ 3 t) (bp_vl (σ 0) (σ 5) (σ 14) t) (bp_cn (σ 4) t), nI (bp_cn (σ 4) t)] 118 []) : ∀ (k i : Nat) (x : Int32), i + k = bp_cn (σ 4) t → x = bp_rs (σ 2 t) (σ 3 t) (bp_vl (σ 0) (σ 5) (σ 14) t) i → bg_X X kM o σ [nI t, x, nI i] 33 [] := by
  obtain ⟨hc, hc3, hf⟩ := hO t ht
  intro k
  induction k with
  | zero =>
    intro i x hi hx
    have e : i = bp_cn (σ 4) t := by omega
    subst e
    subst hx
    refine bg_iload_n C 33 dX1_workOut_33 2 rfl rfl ?_
    refine bg_aload C 34 dX1_workOut_34 ?_
    refine mg4 C 35 dX1_workOut_35 ?_
    refine bg_iload_n C 38 dX1_workOut_38 0 rfl rfl ?_
    refine ml4 C 39 (by omega) dX1_workOut_39 ?_
    refine bg_eq (hc) ?_
    refine bg_icmpN_ge C 40 (by omega) (by omega) 118 dX1_workOut_40 (by decide) (fun c40 => ?_) (fun c => absurd c (by omega))
    exact K
  | succ k ih =>
    intro i x hi hx
    subst hx
    have hbk : ∀ (y : Int32), y = bp_rs (σ 2 t) (σ 3 t) (bp_vl (σ 0) (σ 5) (σ 14) t) (i + 1) → bg_X X kM o σ [nI t, y, nI i, bm_v σ t i] 112 [] := by
      intro y hy
      refine bg_iincN C 112 dX1_workOut_112 2 rfl (by decide) rfl ?_
      refine bg_goto C 115 33 dX1_workOut_115 (by decide) ?_
      refine bg_take 3 ?_
      exact ih (i + 1) y (by omega) hy
    have hv : bm_v σ t i = bp_vl (σ 0) (σ 5) (σ 14) t i := if_pos (by omega)
    refine bg_iload_n C 33 dX1_workOut_33 2 rfl rfl ?_
    refine bg_aload C 34 dX1_workOut_34 ?_
    refine mg4 C 35 dX1_workOut_35 ?_
    refine bg_iload_n C 38 dX1_workOut_38 0 rfl rfl ?_
    refine ml4 C 39 (by omega) dX1_workOut_39 ?_
    refine bg_eq (hc) ?_
    refine bg_icmpN_ge C 40 (by omega) (by omega) 118 dX1_workOut_40 (by decide) (fun c => absurd c (by omega)) (fun c40 => ?_)
    refine bg_aload C 43 dX1_workOut_43 ?_
    refine bg_iload_n C 44 dX1_workOut_44 0 rfl rfl ?_
    refine bg_iload_n C 45 dX1_workOut_45 2 rfl rfl ?_
    refine mc_value C 46 (mm_value σ ht (by omega) hO) (by decide) (Nat.le_of_ble_eq_true rfl) dX1_workOut_46 (fun r σ1 h1 => ?_)
    obtain ⟨rfl, rfl⟩ := h1
    refine bg_istore C 49 dX1_workOut_49 3 rfl (by decide) ?_
    refine bg_aload C 51 dX1_workOut_51 ?_
    refine mg2 C 52 dX1_workOut_52 ?_
    refine bg_iload_n C 55 dX1_workOut_55 0 rfl rfl ?_
    refine ml2 C 56 (by omega) dX1_workOut_56 ?_
    refine bg_if_eq C 57 70 dX1_workOut_57 (by decide) (fun c57 => ?_) (fun c57 => ?_)
    · refine bg_iload_n C 70 dX1_workOut_70 1 rfl rfl ?_
      refine bg_iload C 71 dX1_workOut_71 3 rfl rfl ?_
      refine bg_iadd C 73 dX1_workOut_73 ?_
      refine bg_istore_n C 74 dX1_workOut_74 1 rfl (by decide) ?_
      refine bg_goto C 75 112 dX1_workOut_75 (by decide) ?_
      refine hbk _ ?_
      rw [hv]
      exact ((if_neg (fun h => absurd (c57.symm.trans h) (by decide))).trans (if_neg (fun h => absurd (c57.symm.trans h) (by decide)))).symm
    · refine bg_aload C 60 dX1_workOut_60 ?_
      refine mg2 C 61 dX1_workOut_61 ?_
      refine bg_iload_n C 64 dX1_workOut_64 0 rfl rfl ?_
      refine ml2 C 65 (by omega) dX1_workOut_65 ?_
      refine bg_iconst C 66 (3) dX1_workOut_66 (by decide) ?_
      refine bg_icmp_ne C 67 78 dX1_workOut_67 (by decide) (fun c67 => ?_) (fun c67 => ?_)
      · refine bg_aload C 78 dX1_workOut_78 ?_
        refine mg2 C 79 dX1_workOut_79 ?_
        refine bg_iload_n C 82 dX1_workOut_82 0 rfl rfl ?_
        refine ml2 C 83 (by omega) dX1_workOut_83 ?_
        refine bg_iconst C 84 (1) dX1_workOut_84 (by decide) ?_
        refine bg_icmp_ne C 85 99 dX1_workOut_85 (by decide) (fun c85 => ?_) (fun c85 => ?_)
        · have k2 : σ 2 t = 2 := by
            rcases hk t ht with h | h | h | h
            · exact absurd h c57
            · exact absurd h c85
            · exact h
            · exact absurd h c67
          refine bg_iload C 99 dX1_workOut_99 3 rfl rfl ?_
          refine bg_iload_n C 101 dX1_workOut_101 1 rfl rfl ?_
          refine bg_icmp_le C 102 110 dX1_workOut_102 (by decide) (fun c102 => ?_) (fun c102 => ?_)
          · refine bg_iload_n C 110 dX1_workOut_110 1 rfl rfl ?_
            refine bg_istore_n C 111 dX1_workOut_111 1 rfl (by decide) ?_
            refine hbk _ ?_
            rw [hv] at c102
            exact ((if_neg c85).trans ((if_pos k2).trans (if_pos c102))).symm
          · refine bg_iload C 105 dX1_workOut_105 3 rfl rfl ?_
            refine bg_goto C 107 111 dX1_workOut_107 (by decide) ?_
            refine bg_istore_n C 111 dX1_workOut_111 1 rfl (by decide) ?_
            refine hbk _ ?_
            have c102' := c102
            rw [hv] at c102'
            rw [hv]
            exact ((if_neg c85).trans ((if_pos k2).trans (if_neg c102'))).symm
        · refine bg_iload_n C 88 dX1_workOut_88 1 rfl rfl ?_
          refine bg_bipush C 89 (31) dX1_workOut_89 (by decide) ?_
          refine bg_imul C 91 dX1_workOut_91 ?_
          refine bg_iload C 92 dX1_workOut_92 3 rfl rfl ?_
          refine bg_iadd C 94 dX1_workOut_94 ?_
          refine bg_istore_n C 95 dX1_workOut_95 1 rfl (by decide) ?_
          refine bg_goto C 96 112 dX1_workOut_96 (by decide) ?_
          refine hbk _ ?_
          rw [hv]
          exact (if_pos c85).symm
      · refine bg_iload_n C 70 dX1_workOut_70 1 rfl rfl ?_
        refine bg_iload C 71 dX1_workOut_71 3 rfl rfl ?_
        refine bg_iadd C 73 dX1_workOut_73 ?_
        refine bg_istore_n C 74 dX1_workOut_74 1 rfl (by decide) ?_
        refine bg_goto C 75 112 dX1_workOut_75 (by decide) ?_
        refine hbk _ ?_
        rw [hv]
        exact ((if_neg (fun h => absurd (c67.symm.trans h) (by decide))).trans (if_neg (fun h => absurd (c67.symm.trans h) (by decide)))).symm
theorem mw_now {X : bg_E} {o : bg_O} {post : Int32 → bg_S → Prop} (C : bg_Cx X kM o cX1_workOut 5 1 23 none post) (σ : bg_S) {T : Nat} (hT : σ 1 0 = nI T) (hT12 : T ≤ 12) (hO : bp_OK (σ 4) (σ 5)) (hk : bm_kd σ)
    (K : ∀ w : Nat → Int32, bp_now (σ 0) (σ 2) (σ 3) (σ 4) (σ 5) w T → bg_X X kM o (bg_U σ 14 w) [nI T] 148 []) : ∀ (k t : Nat) (w : Nat → Int32), t + k = T → bp_now (σ 0) (σ 2) (σ 3) (σ 4) (σ 5) w t → bg_X X kM o (bg_U σ 14 w) [nI t] 2 [] := by
  intro k
  induction k with
  | zero =>
    intro t w htk hw
    have e : t = T := by omega
    subst e
    refine bg_iload_n C 2 dX1_workOut_2 0 rfl rfl ?_
    refine bg_aload C 3 dX1_workOut_3 ?_
    refine mg1 C 4 dX1_workOut_4 ?_
    refine bg_eq (hT) ?_
    refine bg_icmpN_ge C 7 (by omega) (by omega) 148 dX1_workOut_7 (by decide) (fun c7 => ?_) (fun c => absurd c (by omega))
    exact K w hw
  | succ k ih =>
    intro t w htk hw
    have ht : t < 12 := by omega
    have K2 : bg_X X kM o (bg_U σ 14 w) [nI t, bp_rs (σ 2 t) (σ 3 t) (bp_vl (σ 0) (σ 5) w t) (bp_cn (σ 4) t), nI (bp_cn (σ 4) t)] 118 [] := by
      refine bg_aload C 118 dX1_workOut_118 ?_
      refine mg14 C 119 dX1_workOut_119 ?_
      refine bg_iload_n C 122 dX1_workOut_122 0 rfl rfl ?_
      refine bg_aload C 123 dX1_workOut_123 ?_
      refine mg2 C 124 dX1_workOut_124 ?_
      refine bg_iload_n C 127 dX1_workOut_127 0 rfl rfl ?_
      refine ml2 C 128 (by omega) dX1_workOut_128 ?_
      refine bg_iconst C 129 (3) dX1_workOut_129 (by decide) ?_
      refine bg_icmp_ne C 130 140 dX1_workOut_130 (by decide) (fun c130 => ?_) (fun c130 => ?_)
      · refine bg_iload_n C 140 dX1_workOut_140 1 rfl rfl ?_
        refine ms14 C 141 (by omega) dX1_workOut_141 ?_
        refine bg_iincN C 142 dX1_workOut_142 0 rfl (by decide) rfl ?_
        refine bg_goto C 145 2 dX1_workOut_145 (by decide) ?_
        refine bg_uu (bg_take 1 ?_)
        exact ih (t + 1) _ (by omega) (bp_now_step hO ht hw (fun _ _ => rfl) (if_neg c130).symm)
      · refine bg_iload_n C 133 dX1_workOut_133 1 rfl rfl ?_
        refine bg_bipush C 134 (15) dX1_workOut_134 (by decide) ?_
        refine bg_iand C 136 dX1_workOut_136 ?_
        refine bg_goto C 137 141 dX1_workOut_137 (by decide) ?_
        refine ms14 C 141 (by omega) dX1_workOut_141 ?_
        refine bg_iincN C 142 dX1_workOut_142 0 rfl (by decide) rfl ?_
        refine bg_goto C 145 2 dX1_workOut_145 (by decide) ?_
        refine bg_uu (bg_take 1 ?_)
        exact ih (t + 1) _ (by omega) (bp_now_step hO ht hw (fun _ _ => rfl) (if_pos c130).symm)
    refine bg_iload_n C 2 dX1_workOut_2 0 rfl rfl ?_
    refine bg_aload C 3 dX1_workOut_3 ?_
    refine mg1 C 4 dX1_workOut_4 ?_
    refine bg_eq (hT) ?_
    refine bg_icmpN_ge C 7 (by omega) (by omega) 148 dX1_workOut_7 (by decide) (fun c => absurd c (by omega)) (fun c7 => ?_)
    refine bg_aload C 10 dX1_workOut_10 ?_
    refine mg2 C 11 dX1_workOut_11 ?_
    refine bg_iload_n C 14 dX1_workOut_14 0 rfl rfl ?_
    refine ml2 C 15 (by omega) dX1_workOut_15 ?_
    refine bg_iconst C 16 (3) dX1_workOut_16 (by decide) ?_
    refine bg_icmp_ne C 17 24 dX1_workOut_17 (by decide) (fun c17 => ?_) (fun c17 => ?_)
    · refine bg_aload C 24 dX1_workOut_24 ?_
      refine mg3 C 25 dX1_workOut_25 ?_
      refine bg_iload_n C 28 dX1_workOut_28 0 rfl rfl ?_
      refine ml3 C 29 (by omega) dX1_workOut_29 ?_
      refine bg_istore_n C 30 dX1_workOut_30 1 rfl (by decide) ?_
      refine bg_iconst C 31 (nI 0) dX1_workOut_31 (by decide) ?_
      refine bg_istore_n C 32 dX1_workOut_32 2 rfl (by decide) ?_
      exact mw_res C (bg_U σ 14 w) ht hO hk K2 (bp_cn (σ 4) t) 0 _ (Nat.zero_add _) (if_neg c17).symm
    · refine bg_iconst C 20 (0) dX1_workOut_20 (by decide) ?_
      refine bg_goto C 21 30 dX1_workOut_21 (by decide) ?_
      refine bg_istore_n C 30 dX1_workOut_30 1 rfl (by decide) ?_
      refine bg_iconst C 31 (nI 0) dX1_workOut_31 (by decide) ?_
      refine bg_istore_n C 32 dX1_workOut_32 2 rfl (by decide) ?_
      exact mw_res C (bg_U σ 14 w) ht hO hk K2 (bp_cn (σ 4) t) 0 _ (Nat.zero_add _) (if_pos c17).symm
theorem mm_now (σ : bg_S) {T : Nat} (hT : σ 1 0 = nI T) (hT12 : T ≤ 12) (hO : bp_OK (σ 4) (σ 5)) (hk : bm_kd σ) : bg_M kM yX1_workOut cX1_workOut 5 none 1 23 [] σ (fun _ σ' => ∃ w : Nat → Int32, bp_now (σ 0) (σ 2) (σ 3) (σ 4) (σ 5) w T ∧ bg_U σ 14 w = σ') := by
  refine bg_enter okkM (by decide) rfl (Nat.le_of_ble_eq_true rfl) (fun X o C => ?_)
  refine bg_iconst C 0 (nI 0) dX1_workOut_0 (by decide) ?_
  refine bg_istore_n C 1 dX1_workOut_1 0 rfl (by decide) ?_
  refine bg_uid 14 ?_
  refine mw_now C σ hT hT12 hO hk (fun w hw => ?_) T 0 (σ 14) (by omega) (fun u hu => absurd hu (by omega))
  refine bg_vret C 148 dX1_workOut_148 ?_
  exact ⟨w, hw, rfl⟩
/-- the last record, its mark and the output of t come in -/
def bm_fin (σ : bg_S) (t : Nat) (g : Nat → Int32) : bg_S := bg_U (bg_U (bg_U σ 9 g) 8 (upd (σ 8) t 1)) 6 (upd (σ 6) t (σ 14 t))
def bm_hd (σ : bg_S) (t : Nat) (σ' : bg_S) : Prop := ∃ g : Nat → Int32, (∀ i, i < 5 → g (t * 5 + i) = bm_part σ t i) ∧ (∀ j, (j < t * 5 ∨ t * 5 + 5 ≤ j) → g j = σ 9 j) ∧
  ((bm_last σ t ∧ bm_fin (bg_U σ 7 (upd (σ 7) t 1)) t g = σ') ∨ (¬ bm_last σ t ∧ bm_in σ t ∧ bm_fin (bg_U σ 7 (upd (σ 7) t 2)) t g = σ') ∨
    (¬ bm_last σ t ∧ ¬ bm_in σ t ∧ ∃ g3 : Nat → Int32, (∀ i, i < 5 → g3 ((t * 40 + bp_cn (σ 10) t) * 5 + i) = bm_part σ t i) ∧ (∀ j, (j < (t * 40 + bp_cn (σ 10) t) * 5 ∨ (t * 40 + bp_cn (σ 10) t) * 5 + 5 ≤ j) → g3 j = σ 11 j) ∧
      bm_fin (bg_U (bg_U (bg_U (bg_U σ 7 (upd (σ 7) t 3)) 11 g3) 10 (upd (σ 10) t (nI (bp_cn (σ 10) t + 1)))) 13 (fun _ => σ 13 0 + 1)) t g = σ'))
theorem mw_h1 {X : bg_E} {o : bg_O} {post : Int32 → bg_S → Prop} (C : bg_Cx X kM o cX1_handle 3 4 90 none post) (σ : bg_S) {t : Nat} (ht : t < 12) (hO : bp_OK (σ 4) (σ 5)) (hs : σ 10 t = nI (bp_cn (σ 10) t)) (hs2 : bp_cn (σ 10) t < 40)
    (K : ∀ g : Nat → Int32, (∀ i, i < 5 → g ((t * 40 + bp_cn (σ 10) t) * 5 + i) = bm_part σ t i) → (∀ j, (j < (t * 40 + bp_cn (σ 10) t) * 5 ∨ (t * 40 + bp_cn (σ 10) t) * 5 + 5 ≤ j) → g j = σ 11 j) → bg_X X kM o (bg_U σ 11 g) [nI t, nI 5] 82 []) : ∀ (k i : Nat) (g : Nat → Int32), i + k = 5 → (∀ j, j < i → g ((t * 40 + bp_cn (σ 10) t) * 5 + j) = bm_part σ t j) → (∀ j, (j < (t * 40 + bp_cn (σ 10) t) * 5 ∨ (t * 40 + bp_cn (σ 10) t) * 5 + 5 ≤ j) → g j = σ 11 j) → bg_X X kM o (bg_U σ 11 g) [nI t, nI i] 45 [] := by
  intro k
  induction k with
  | zero =>
    intro i g hi hg hg2
    have e : i = 5 := by omega
    subst e
    refine bg_iload_n C 45 dX1_handle_45 1 rfl rfl ?_
    refine bg_iconst C 46 (nI 5) dX1_handle_46 (by decide) ?_
    refine bg_icmpN_ge C 47 (by omega) (by omega) 82 dX1_handle_47 (by decide) (fun c47 => ?_) (fun c => absurd c (by omega))
    exact K g hg hg2
  | succ k ih =>
    intro i g hi hg hg2
    refine bg_iload_n C 45 dX1_handle_45 1 rfl rfl ?_
    refine bg_iconst C 46 (nI 5) dX1_handle_46 (by decide) ?_
    refine bg_icmpN_ge C 47 (by omega) (by omega) 82 dX1_handle_47 (by decide) (fun c => absurd c (by omega)) (fun c47 => ?_)
    refine bg_aload C 50 dX1_handle_50 ?_
    refine mg11 C 51 dX1_handle_51 ?_
    refine bg_iload_n C 54 dX1_handle_54 0 rfl rfl ?_
    refine bg_bipush C 55 (nI 40) dX1_handle_55 (by decide) ?_
    refine bg_imulN C 57 dX1_handle_57 ?_
    refine bg_aload C 58 dX1_handle_58 ?_
    refine mg10 C 59 dX1_handle_59 ?_
    refine bg_iload_n C 62 dX1_handle_62 0 rfl rfl ?_
    refine ml10 C 63 (by omega) dX1_handle_63 ?_
    refine bg_eq (hs) ?_
    refine bg_iaddN C 64 dX1_handle_64 ?_
    refine bg_iconst C 65 (nI 5) dX1_handle_65 (by decide) ?_
    refine bg_imulN C 66 dX1_handle_66 ?_
    refine bg_iload_n C 67 dX1_handle_67 1 rfl rfl ?_
    refine bg_iaddN C 68 dX1_handle_68 ?_
    refine bg_aload C 69 dX1_handle_69 ?_
    refine bg_iload_n C 70 dX1_handle_70 0 rfl rfl ?_
    refine bg_iload_n C 71 dX1_handle_71 1 rfl rfl ?_
    refine mc_part C 72 (mm_part (bg_U σ 11 g) ht (by omega) hO) (by decide) (Nat.le_of_ble_eq_true rfl) dX1_handle_72 (fun r σ1 h1 => ?_)
    obtain ⟨rfl, rfl⟩ := h1
    refine ms11 C 75 (by omega) dX1_handle_75 ?_
    refine bg_iincN C 76 dX1_handle_76 1 rfl (by decide) rfl ?_
    refine bg_goto C 79 45 dX1_handle_79 (by decide) ?_
    refine bg_uu ?_
    refine ih (i + 1) _ (by omega) (fun j hj => ?_) (fun j hj => ?_)
    · by_cases e : j = i
      · subst e
        exact pk_us
      · exact (pk_un (by omega)).trans (hg j (by omega))
    · exact (pk_un (by omega)).trans (hg2 j hj)
theorem mw_h2 {X : bg_E} {o : bg_O} {post : Int32 → bg_S → Prop} (C : bg_Cx X kM o cX1_handle 3 4 90 none post) (σ : bg_S) {t : Nat} (ht : t < 12) (hO : bp_OK (σ 4) (σ 5))
    (K : ∀ g : Nat → Int32, (∀ i, i < 5 → g (t * 5 + i) = bm_part σ t i) → (∀ j, (j < t * 5 ∨ t * 5 + 5 ≤ j) → g j = σ 9 j) → bg_X X kM o (bg_U σ 9 g) [nI t, nI 5] 135 []) : ∀ (k i : Nat) (g : Nat → Int32), i + k = 5 → (∀ j, j < i → g (t * 5 + j) = bm_part σ t j) → (∀ j, (j < t * 5 ∨ t * 5 + 5 ≤ j) → g j = σ 9 j) → bg_X X kM o (bg_U σ 9 g) [nI t, nI i] 108 [] := by
  intro k
  induction k with
  | zero =>
    intro i g hi hg hg2
    have e : i = 5 := by omega
    subst e
    refine bg_iload_n C 108 dX1_handle_108 1 rfl rfl ?_
    refine bg_iconst C 109 (nI 5) dX1_handle_109 (by decide) ?_
    refine bg_icmpN_ge C 110 (by omega) (by omega) 135 dX1_handle_110 (by decide) (fun c110 => ?_) (fun c => absurd c (by omega))
    exact K g hg hg2
  | succ k ih =>
    intro i g hi hg hg2
    refine bg_iload_n C 108 dX1_handle_108 1 rfl rfl ?_
    refine bg_iconst C 109 (nI 5) dX1_handle_109 (by decide) ?_
    refine bg_icmpN_ge C 110 (by omega) (by omega) 135 dX1_handle_110 (by decide) (fun c => absurd c (by omega)) (fun c110 => ?_)
    refine bg_aload C 113 dX1_handle_113 ?_
    refine mg9 C 114 dX1_handle_114 ?_
    refine bg_iload_n C 117 dX1_handle_117 0 rfl rfl ?_
    refine bg_iconst C 118 (nI 5) dX1_handle_118 (by decide) ?_
    refine bg_imulN C 119 dX1_handle_119 ?_
    refine bg_iload_n C 120 dX1_handle_120 1 rfl rfl ?_
    refine bg_iaddN C 121 dX1_handle_121 ?_
    refine bg_aload C 122 dX1_handle_122 ?_
    refine bg_iload_n C 123 dX1_handle_123 0 rfl rfl ?_
    refine bg_iload_n C 124 dX1_handle_124 1 rfl rfl ?_
    refine mc_part C 125 (mm_part (bg_U σ 9 g) ht (by omega) hO) (by decide) (Nat.le_of_ble_eq_true rfl) dX1_handle_125 (fun r σ1 h1 => ?_)
    obtain ⟨rfl, rfl⟩ := h1
    refine ms9 C 128 (by omega) dX1_handle_128 ?_
    refine bg_iincN C 129 dX1_handle_129 1 rfl (by decide) rfl ?_
    refine bg_goto C 132 108 dX1_handle_132 (by decide) ?_
    refine bg_uu ?_
    refine ih (i + 1) _ (by omega) (fun j hj => ?_) (fun j hj => ?_)
    · by_cases e : j = i
      · subst e
        exact pk_us
      · exact (pk_un (by omega)).trans (hg j (by omega))
    · exact (pk_un (by omega)).trans (hg2 j hj)
theorem mm_handle (σ : bg_S) {t : Nat} (ht : t < 12) (hO : bp_OK (σ 4) (σ 5)) (hs : σ 10 t = nI (bp_cn (σ 10) t)) (hs2 : bp_cn (σ 10) t < 40) : bg_M kM yX1_handle cX1_handle 3 none 4 90 [nI t] σ (fun _ σ' => bm_hd σ t σ') := by
  refine bg_enter okkM (by decide) rfl (Nat.le_of_ble_eq_true rfl) (fun X o C => ?_)
  refine bg_aload C 0 dX1_handle_0 ?_
  refine bg_iload_n C 1 dX1_handle_1 0 rfl rfl ?_
  refine mc_isLast C 2 (mm_last σ ht hO) (by decide) (Nat.le_of_ble_eq_true rfl) dX1_handle_2 (fun r σ1 h1 => ?_)
  obtain ⟨rfl, ⟨rfl, hla⟩ | ⟨rfl, hla⟩⟩ := h1
  · refine bg_if_eq C 5 18 dX1_handle_5 (by decide) (fun c => absurd c (by decide)) (fun c5 => ?_)
    refine bg_aload C 8 dX1_handle_8 ?_
    refine mg7 C 9 dX1_handle_9 ?_
    refine bg_iload_n C 12 dX1_handle_12 0 rfl rfl ?_
    refine bg_iconst C 13 (1) dX1_handle_13 (by decide) ?_
    refine ms7 C 14 (by omega) dX1_handle_14 ?_
    refine bg_goto C 15 106 dX1_handle_15 (by decide) ?_
    refine bg_iconst C 106 (nI 0) dX1_handle_106 (by decide) ?_
    refine bg_istore_n C 107 dX1_handle_107 1 rfl (by decide) ?_
    refine bg_uid 9 ?_
    refine mw_h2 C (bg_U σ 7 (upd (σ 7) t 1)) ht hO (fun g hg hg2 => ?_) 5 0 _ (by omega) (fun j hj => absurd hj (by omega)) (fun j hj => rfl)
    refine bg_aload C 135 dX1_handle_135 ?_
    refine mg8 C 136 dX1_handle_136 ?_
    refine bg_iload_n C 139 dX1_handle_139 0 rfl rfl ?_
    refine bg_iconst C 140 (1) dX1_handle_140 (by decide) ?_
    refine ms8 C 141 (by omega) dX1_handle_141 rfl ?_
    refine bg_aload C 142 dX1_handle_142 ?_
    refine mg6 C 143 dX1_handle_143 ?_
    refine bg_iload_n C 146 dX1_handle_146 0 rfl rfl ?_
    refine bg_aload C 147 dX1_handle_147 ?_
    refine mg14 C 148 dX1_handle_148 ?_
    refine bg_iload_n C 151 dX1_handle_151 0 rfl rfl ?_
    refine ml14 C 152 (by omega) dX1_handle_152 ?_
    refine ms6 C 153 (by omega) dX1_handle_153 ?_
    refine bg_vret C 154 dX1_handle_154 ?_
    exact ⟨g, hg, hg2, Or.inl ⟨hla, rfl⟩⟩
  · refine bg_if_eq C 5 18 dX1_handle_5 (by decide) (fun c5 => ?_) (fun c => absurd rfl c)
    refine bg_aload C 18 dX1_handle_18 ?_
    refine bg_iload_n C 19 dX1_handle_19 0 rfl rfl ?_
    refine mc_isStored C 20 (mm_in σ ht hO hs (by omega)) (by decide) (Nat.le_of_ble_eq_true rfl) dX1_handle_20 (fun r σ1 h1 => ?_)
    obtain ⟨rfl, ⟨rfl, hi⟩ | ⟨rfl, hi⟩⟩ := h1
    · refine bg_if_eq C 23 36 dX1_handle_23 (by decide) (fun c => absurd c (by decide)) (fun c23 => ?_)
      refine bg_aload C 26 dX1_handle_26 ?_
      refine mg7 C 27 dX1_handle_27 ?_
      refine bg_iload_n C 30 dX1_handle_30 0 rfl rfl ?_
      refine bg_iconst C 31 (2) dX1_handle_31 (by decide) ?_
      refine ms7 C 32 (by omega) dX1_handle_32 ?_
      refine bg_goto C 33 106 dX1_handle_33 (by decide) ?_
      refine bg_iconst C 106 (nI 0) dX1_handle_106 (by decide) ?_
      refine bg_istore_n C 107 dX1_handle_107 1 rfl (by decide) ?_
      refine bg_uid 9 ?_
      refine mw_h2 C (bg_U σ 7 (upd (σ 7) t 2)) ht hO (fun g hg hg2 => ?_) 5 0 _ (by omega) (fun j hj => absurd hj (by omega)) (fun j hj => rfl)
      refine bg_aload C 135 dX1_handle_135 ?_
      refine mg8 C 136 dX1_handle_136 ?_
      refine bg_iload_n C 139 dX1_handle_139 0 rfl rfl ?_
      refine bg_iconst C 140 (1) dX1_handle_140 (by decide) ?_
      refine ms8 C 141 (by omega) dX1_handle_141 rfl ?_
      refine bg_aload C 142 dX1_handle_142 ?_
      refine mg6 C 143 dX1_handle_143 ?_
      refine bg_iload_n C 146 dX1_handle_146 0 rfl rfl ?_
      refine bg_aload C 147 dX1_handle_147 ?_
      refine mg14 C 148 dX1_handle_148 ?_
      refine bg_iload_n C 151 dX1_handle_151 0 rfl rfl ?_
      refine ml14 C 152 (by omega) dX1_handle_152 ?_
      refine ms6 C 153 (by omega) dX1_handle_153 ?_
      refine bg_vret C 154 dX1_handle_154 ?_
      exact ⟨g, hg, hg2, Or.inr (Or.inl ⟨hla, hi, rfl⟩)⟩
    · refine bg_if_eq C 23 36 dX1_handle_23 (by decide) (fun c23 => ?_) (fun c => absurd rfl c)
      refine bg_aload C 36 dX1_handle_36 ?_
      refine mg7 C 37 dX1_handle_37 ?_
      refine bg_iload_n C 40 dX1_handle_40 0 rfl rfl ?_
      refine bg_iconst C 41 (3) dX1_handle_41 (by decide) ?_
      refine ms7 C 42 (by omega) dX1_handle_42 ?_
      refine bg_iconst C 43 (nI 0) dX1_handle_43 (by decide) ?_
      refine bg_istore_n C 44 dX1_handle_44 1 rfl (by decide) ?_
      refine bg_uid 11 ?_
      refine mw_h1 C (bg_U σ 7 (upd (σ 7) t 3)) ht hO hs hs2 (fun g3 hg3 hg4 => ?_) 5 0 _ (by omega) (fun j hj => absurd hj (by omega)) (fun j hj => rfl)
      refine bg_aload C 82 dX1_handle_82 ?_
      refine mg10 C 83 dX1_handle_83 ?_
      refine bg_iload_n C 86 dX1_handle_86 0 rfl rfl ?_
      refine bg_aload C 87 dX1_handle_87 ?_
      refine mg10 C 88 dX1_handle_88 ?_
      refine bg_iload_n C 91 dX1_handle_91 0 rfl rfl ?_
      refine ml10 C 92 (by omega) dX1_handle_92 ?_
      refine bg_eq (hs) ?_
      refine bg_iconst C 93 (nI 1) dX1_handle_93 (by decide) ?_
      refine bg_iaddN C 94 dX1_handle_94 ?_
      refine ms10 C 95 (by omega) dX1_handle_95 ?_
      refine bg_aload C 96 dX1_handle_96 ?_
      refine bg_aload C 97 dX1_handle_97 ?_
      refine mg13 C 98 dX1_handle_98 ?_
      refine bg_iconst C 101 (1) dX1_handle_101 (by decide) ?_
      refine bg_iadd C 102 dX1_handle_102 ?_
      refine mp13 C 103 dX1_handle_103 ?_
      refine bg_iconst C 106 (nI 0) dX1_handle_106 (by decide) ?_
      refine bg_istore_n C 107 dX1_handle_107 1 rfl (by decide) ?_
      refine bg_uid 9 ?_
      refine mw_h2 C (bg_U (bg_U (bg_U (bg_U σ 7 (upd (σ 7) t 3)) 11 g3) 10 (upd (σ 10) t (nI (bp_cn (σ 10) t + 1)))) 13 (fun _ => σ 13 0 + 1)) ht hO (fun g hg hg2 => ?_) 5 0 _ (by omega) (fun j hj => absurd hj (by omega)) (fun j hj => rfl)
      refine bg_aload C 135 dX1_handle_135 ?_
      refine mg8 C 136 dX1_handle_136 ?_
      refine bg_iload_n C 139 dX1_handle_139 0 rfl rfl ?_
      refine bg_iconst C 140 (1) dX1_handle_140 (by decide) ?_
      refine ms8 C 141 (by omega) dX1_handle_141 rfl ?_
      refine bg_aload C 142 dX1_handle_142 ?_
      refine mg6 C 143 dX1_handle_143 ?_
      refine bg_iload_n C 146 dX1_handle_146 0 rfl rfl ?_
      refine bg_aload C 147 dX1_handle_147 ?_
      refine mg14 C 148 dX1_handle_148 ?_
      refine bg_iload_n C 151 dX1_handle_151 0 rfl rfl ?_
      refine ml14 C 152 (by omega) dX1_handle_152 ?_
      refine ms6 C 153 (by omega) dX1_handle_153 ?_
      refine bg_vret C 154 dX1_handle_154 ?_
      exact ⟨g, hg, hg2, Or.inr (Or.inr ⟨hla, hi, g3, hg3, hg4, rfl⟩)⟩
end
section
/-! BuildGraphModel: build and the questions -/
set_option maxRecDepth 100000
def bm_st (m : Int32) (t : Nat) (σ1 σ : bg_S) : Prop := (bp_bit m t ∧ bm_hd (bg_U σ1 7 (upd (σ1 7) t 0)) t σ) ∨ (¬ bp_bit m t ∧ bg_U σ1 7 (upd (σ1 7) t 0) = σ)
def bm_bl (m : Int32) (σ0 : bg_S) : Nat → bg_S → Prop
  | 0, σ => σ = σ0
  | t + 1, σ => ∃ σ1 : bg_S, bm_bl m σ0 t σ1 ∧ bm_st m t σ1 σ
/-- stored counts are in range -/
def bm_S (σ : bg_S) (t B : Nat) : Prop := ∀ u, t ≤ u → u < 12 → σ 10 u = nI (bp_cn (σ 10) u) ∧ bp_cn (σ 10) u ≤ B
theorem bp_cn_at {q q2 : Nat → Int32} {u : Nat} (h : q u = q2 u) : bp_cn q u = bp_cn q2 u := by unfold bp_cn; rw [h]
theorem bm_hd_k {σ σ' : bg_S} {t : Nat} (h : bm_hd σ t σ') : σ' 1 = σ 1 ∧ σ' 4 = σ 4 ∧ σ' 5 = σ 5 ∧ ∀ u, u ≠ t → σ' 10 u = σ 10 u := by
  obtain ⟨g, -, -, ⟨-, rfl⟩ | ⟨-, -, rfl⟩ | ⟨-, -, g3, -, -, rfl⟩⟩ := h
  · exact ⟨rfl, rfl, rfl, fun u hu => rfl⟩
  · exact ⟨rfl, rfl, rfl, fun u hu => rfl⟩
  · exact ⟨rfl, rfl, rfl, fun u hu => pk_un hu⟩
theorem mw_build {X : bg_E} {o : bg_O} {post : Int32 → bg_S → Prop} (C : bg_Cx X kM o cX1_build 5 5 112 (some .int) post) {a b m : Int32} {σ0 : bg_S} {T B : Nat} (hT12 : T ≤ 12) (hB : B < 40)
    (K : ∀ (σ : bg_S), bm_bl m σ0 T σ → bg_X X kM o σ [a, b, m, nI T] 89 []) : ∀ (k t : Nat) (σ : bg_S), t + k = T → bm_bl m σ0 t σ → bm_S σ t B → σ 1 0 = nI T → bp_OK (σ 4) (σ 5) → bg_X X kM o σ [a, b, m, nI t] 50 [] := by
  intro k
  induction k with
  | zero =>
    intro t σ htk hbl hS hT hO
    have e : t = T := by omega
    subst e
    refine bg_iload C 50 dX1_build_50 3 rfl rfl ?_
    refine bg_aload C 52 dX1_build_52 ?_
    refine mg1 C 53 dX1_build_53 ?_
    refine bg_eq (hT) ?_
    refine bg_icmpN_ge C 56 (by omega) (by omega) 89 dX1_build_56 (by decide) (fun c56 => ?_) (fun c => absurd c (by omega))
    exact K σ hbl
  | succ k ih =>
    intro t σ htk hbl hS hT hO
    have ht : t < 12 := by omega
    refine bg_iload C 50 dX1_build_50 3 rfl rfl ?_
    refine bg_aload C 52 dX1_build_52 ?_
    refine mg1 C 53 dX1_build_53 ?_
    refine bg_eq (hT) ?_
    refine bg_icmpN_ge C 56 (by omega) (by omega) 89 dX1_build_56 (by decide) (fun c => absurd c (by omega)) (fun c56 => ?_)
    refine bg_aload C 59 dX1_build_59 ?_
    refine mg7 C 60 dX1_build_60 ?_
    refine bg_iload C 63 dX1_build_63 3 rfl rfl ?_
    refine bg_iconst C 65 (0) dX1_build_65 (by decide) ?_
    refine ms7 C 66 (by omega) dX1_build_66 ?_
    refine bg_iload_n C 67 dX1_build_67 2 rfl rfl ?_
    refine bg_iload C 68 dX1_build_68 3 rfl rfl ?_
    refine bg_ishr C 70 dX1_build_70 ?_
    refine bg_iconst C 71 (1) dX1_build_71 (by decide) ?_
    refine bg_iand C 72 dX1_build_72 ?_
    refine bg_iconst C 73 (1) dX1_build_73 (by decide) ?_
    refine bg_icmp_ne C 74 83 dX1_build_74 (by decide) (fun c74 => ?_) (fun c74 => ?_)
    · refine bg_iincN C 83 dX1_build_83 3 rfl (by decide) rfl ?_
      refine bg_goto C 86 50 dX1_build_86 (by decide) ?_
      exact ih (t + 1) _ (by omega) ⟨σ, hbl, Or.inr ⟨c74, rfl⟩⟩ (fun u hu => hS u (by omega)) hT hO
    · obtain ⟨hs, hs2⟩ := hS t (Nat.le_refl t) ht
      refine bg_aload C 77 dX1_build_77 ?_
      refine bg_iload C 78 dX1_build_78 3 rfl rfl ?_
      refine mc_handle C 80 (mm_handle (bg_U σ 7 (upd (σ 7) t 0)) ht hO hs (Nat.lt_of_le_of_lt hs2 hB)) (by decide) (Nat.le_of_ble_eq_true rfl) dX1_build_80 (fun r σ1 h1 => ?_)
      obtain ⟨e1, e4, e5, e10⟩ := bm_hd_k h1
      refine bg_iincN C 83 dX1_build_83 3 rfl (by decide) rfl ?_
      refine bg_goto C 86 50 dX1_build_86 (by decide) ?_
      refine ih (t + 1) _ (by omega) ⟨σ, hbl, Or.inl ⟨c74, h1⟩⟩ (fun u hu hu2 => ?_) (by rw [e1]; exact hT) (by rw [e4, e5]; exact hO)
      have e := e10 u (by omega)
      rw [bp_cn_at e, e]
      exact hS u (by omega) hu2
def bm_b0 (σ : bg_S) (w : Nat → Int32) : bg_S := bg_U (bg_U σ 12 (fun _ => σ 12 0 + 1)) 14 w
theorem mm_build (σ : bg_S) (a : Int32) {T B : Nat} (hT : σ 1 0 = nI T) (hT12 : T ≤ 12) (hO : bp_OK (σ 4) (σ 5)) (hk : bm_kd σ) (hB : σ 12 0 = nI B) (hB2 : B ≤ 40) (hS : bm_S σ 0 B) : bg_M kM yX1_build cX1_build 5 (some .int) 5 112 [a] σ (fun r σ' => bp_pick T a (r = -1 ∧ σ = σ') (fun t => (B = 40 → r = -4 ∧ σ = σ') ∧ (B < 40 → ∃ w : Nat → Int32, bp_now (σ 0) (σ 2) (σ 3) (σ 4) (σ 5) w T ∧ bm_bl (bp_need (σ 4) (σ 5) t) (bm_b0 σ w) T σ' ∧ r = σ' 13 0 - σ 13 0))) := by
  refine bg_enter okkM (by decide) rfl (Nat.le_of_ble_eq_true rfl) (fun X o C => ?_)
  rcases bp_dich T (by omega) a with ⟨hb, -⟩ | ⟨t, ht, rfl⟩
  · refine bg_aload C 0 dX1_build_0 ?_
    refine bg_iload_n C 1 dX1_build_1 0 rfl rfl ?_
    refine mc_bad C 2 (mm_bad σ _ hT hT12) (by decide) (Nat.le_of_ble_eq_true rfl) dX1_build_2 (fun r σ1 h1 => ?_)
    obtain ⟨rfl, rfl⟩ := h1.1 hb
    refine bg_if_eq C 5 10 dX1_build_5 (by decide) (fun c => absurd c (by decide)) (fun c5 => ?_)
    refine bg_iconst C 8 (-1) dX1_build_8 (by decide) ?_
    refine bg_ret C 9 rfl dX1_build_9 ?_
    exact bp_pick_bad hb ⟨rfl, rfl⟩
  · refine bg_aload C 0 dX1_build_0 ?_
    refine bg_iload_n C 1 dX1_build_1 0 rfl rfl ?_
    refine mc_bad C 2 (mm_bad σ _ hT hT12) (by decide) (Nat.le_of_ble_eq_true rfl) dX1_build_2 (fun r σ1 h1 => ?_)
    obtain ⟨rfl, rfl⟩ := h1.2 t ht rfl
    refine bg_if_eq C 5 10 dX1_build_5 (by decide) (fun c5 => ?_) (fun c => absurd rfl c)
    refine bg_aload C 10 dX1_build_10 ?_
    refine mg12 C 11 dX1_build_11 ?_
    refine bg_eq (hB) ?_
    refine bg_bipush C 14 (nI 40) dX1_build_14 (by decide) ?_
    refine bg_icmpN_ne C 16 (by omega) (by omega) 22 dX1_build_16 (by decide) (fun c16 => ?_) (fun c16 => ?_)
    · refine bg_aload C 22 dX1_build_22 ?_
      refine bg_aload C 23 dX1_build_23 ?_
      refine mg12 C 24 dX1_build_24 ?_
      refine bg_iconst C 27 (1) dX1_build_27 (by decide) ?_
      refine bg_iadd C 28 dX1_build_28 ?_
      refine mp12 C 29 dX1_build_29 ?_
      refine bg_aload C 32 dX1_build_32 ?_
      refine mc_workOut C 33 (mm_now (bg_U σ 12 (fun _ => σ 12 0 + 1)) hT hT12 hO hk) (by decide) (Nat.le_of_ble_eq_true rfl) dX1_build_33 (fun r σ1 h1 => ?_)
      obtain ⟨w, hw, rfl⟩ := h1
      refine bg_aload C 36 dX1_build_36 ?_
      refine mg13 C 37 dX1_build_37 ?_
      refine bg_istore_n C 40 dX1_build_40 1 rfl (by decide) ?_
      refine bg_aload C 41 dX1_build_41 ?_
      refine bg_iload_n C 42 dX1_build_42 0 rfl rfl ?_
      refine mc_needs C 43 (mm_nd (bm_b0 σ w) (by omega) hO) (by decide) (Nat.le_of_ble_eq_true rfl) dX1_build_43 (fun r σ1 h1 => ?_)
      obtain ⟨rfl, rfl⟩ := h1
      refine bg_istore_n C 46 dX1_build_46 2 rfl (by decide) ?_
      refine bg_iconst C 47 (nI 0) dX1_build_47 (by decide) ?_
      refine bg_istore C 48 dX1_build_48 3 rfl (by decide) ?_
      refine mw_build C hT12 (B := B) (σ0 := bm_b0 σ w) (by omega) (fun σ1 hbl => ?_) T 0 (bm_b0 σ w) (by omega) rfl hS hT hO
      refine bg_aload C 89 dX1_build_89 ?_
      refine mg13 C 90 dX1_build_90 ?_
      refine bg_iload_n C 93 dX1_build_93 1 rfl rfl ?_
      refine bg_isub C 94 dX1_build_94 ?_
      refine bg_ret C 95 rfl dX1_build_95 ?_
      exact bp_pick_ok (by omega) ht ⟨fun h => absurd h (by omega), fun _ => ⟨w, hw, hbl, rfl⟩⟩
    · refine bg_bipush C 19 (-4) dX1_build_19 (by decide) ?_
      refine bg_ret C 21 rfl dX1_build_21 ?_
      exact bp_pick_ok (by omega) ht ⟨fun _ => ⟨rfl, rfl⟩, fun h => absurd h (by omega)⟩
theorem mm_fresh (σ : bg_S) (a : Int32) {T : Nat} (hT : σ 1 0 = nI T) (hT12 : T ≤ 12) (hO : bp_OK (σ 4) (σ 5)) (hk : bm_kd σ) : bg_M kM yX1_fresh cX1_fresh 2 (some .int) 2 47 [a] σ (fun r σ' => bp_pick T a (r = 0 ∧ σ = σ') (fun t => ∃ w : Nat → Int32, bp_now (σ 0) (σ 2) (σ 3) (σ 4) (σ 5) w T ∧ r = w t ∧ bg_U σ 14 w = σ')) := by
  refine bg_enter okkM (by decide) rfl (Nat.le_of_ble_eq_true rfl) (fun X o C => ?_)
  rcases bp_dich T (by omega) a with ⟨hb, -⟩ | ⟨t, ht, rfl⟩
  · refine bg_aload C 0 dX1_fresh_0 ?_
    refine bg_iload_n C 1 dX1_fresh_1 0 rfl rfl ?_
    refine mc_bad C 2 (mm_bad σ _ hT hT12) (by decide) (Nat.le_of_ble_eq_true rfl) dX1_fresh_2 (fun r σ1 h1 => ?_)
    obtain ⟨rfl, rfl⟩ := h1.1 hb
    refine bg_if_eq C 5 10 dX1_fresh_5 (by decide) (fun c => absurd c (by decide)) (fun c5 => ?_)
    refine bg_iconst C 8 (nI 0) dX1_fresh_8 (by decide) ?_
    refine bg_ret C 9 rfl dX1_fresh_9 ?_
    exact bp_pick_bad hb ⟨rfl, rfl⟩
  · refine bg_aload C 0 dX1_fresh_0 ?_
    refine bg_iload_n C 1 dX1_fresh_1 0 rfl rfl ?_
    refine mc_bad C 2 (mm_bad σ _ hT hT12) (by decide) (Nat.le_of_ble_eq_true rfl) dX1_fresh_2 (fun r σ1 h1 => ?_)
    obtain ⟨rfl, rfl⟩ := h1.2 t ht rfl
    refine bg_if_eq C 5 10 dX1_fresh_5 (by decide) (fun c5 => ?_) (fun c => absurd rfl c)
    refine bg_aload C 10 dX1_fresh_10 ?_
    refine mc_workOut C 11 (mm_now σ hT hT12 hO hk) (by decide) (Nat.le_of_ble_eq_true rfl) dX1_fresh_11 (fun r σ1 h1 => ?_)
    obtain ⟨w, hw, rfl⟩ := h1
    refine bg_aload C 14 dX1_fresh_14 ?_
    refine mg14 C 15 dX1_fresh_15 ?_
    refine bg_iload_n C 18 dX1_fresh_18 0 rfl rfl ?_
    refine ml14 C 19 (by omega) dX1_fresh_19 ?_
    refine bg_ret C 20 rfl dX1_fresh_20 ?_
    exact bp_pick_ok (by omega) ht ⟨w, hw, rfl, rfl⟩
theorem mw_needed {X : bg_E} {o : bg_O} {post : Int32 → bg_S → Prop} (C : bg_Cx X kM o cX1_needed 5 1 24 (some .int) post) (σ : bg_S) {a m : Int32}
    (K : bg_X X kM o σ [a, m, bp_pc m 12, nI 12] 43 []) : ∀ (k t : Nat), t + k = 12 → bg_X X kM o σ [a, m, bp_pc m t, nI t] 21 [] := by
  intro k
  induction k with
  | zero =>
    intro t htk
    have e : t = 12 := by omega
    subst e
    refine bg_iload C 21 dX1_needed_21 3 rfl rfl ?_
    refine bg_bipush C 23 (nI 12) dX1_needed_23 (by decide) ?_
    refine bg_icmpN_ge C 25 (by omega) (by omega) 43 dX1_needed_25 (by decide) (fun c25 => ?_) (fun c => absurd c (by omega))
    exact K
  | succ k ih =>
    intro t htk
    refine bg_iload C 21 dX1_needed_21 3 rfl rfl ?_
    refine bg_bipush C 23 (nI 12) dX1_needed_23 (by decide) ?_
    refine bg_icmpN_ge C 25 (by omega) (by omega) 43 dX1_needed_25 (by decide) (fun c => absurd c (by omega)) (fun c25 => ?_)
    refine bg_iload_n C 28 dX1_needed_28 2 rfl rfl ?_
    refine bg_iload_n C 29 dX1_needed_29 1 rfl rfl ?_
    refine bg_iload C 30 dX1_needed_30 3 rfl rfl ?_
    refine bg_ishr C 32 dX1_needed_32 ?_
    refine bg_iconst C 33 (1) dX1_needed_33 (by decide) ?_
    refine bg_iand C 34 dX1_needed_34 ?_
    refine bg_iadd C 35 dX1_needed_35 ?_
    refine bg_istore_n C 36 dX1_needed_36 2 rfl (by decide) ?_
    refine bg_iincN C 37 dX1_needed_37 3 rfl (by decide) rfl ?_
    refine bg_goto C 40 21 dX1_needed_40 (by decide) ?_
    exact ih (t + 1) (by omega)
theorem mm_needed (σ : bg_S) (a : Int32) {T : Nat} (hT : σ 1 0 = nI T) (hT12 : T ≤ 12) (hO : bp_OK (σ 4) (σ 5)) : bg_M kM yX1_needed cX1_needed 5 (some .int) 1 24 [a] σ (fun r σ' => σ = σ' ∧ bp_pick T a (r = -1) (fun t => r = bp_pc (bp_need (σ 4) (σ 5) t) 12)) := by
  refine bg_enter okkM (by decide) rfl (Nat.le_of_ble_eq_true rfl) (fun X o C => ?_)
  rcases bp_dich T (by omega) a with ⟨hb, -⟩ | ⟨t, ht, rfl⟩
  · refine bg_aload C 0 dX1_needed_0 ?_
    refine bg_iload_n C 1 dX1_needed_1 0 rfl rfl ?_
    refine mc_bad C 2 (mm_bad σ _ hT hT12) (by decide) (Nat.le_of_ble_eq_true rfl) dX1_needed_2 (fun r σ1 h1 => ?_)
    obtain ⟨rfl, rfl⟩ := h1.1 hb
    refine bg_if_eq C 5 10 dX1_needed_5 (by decide) (fun c => absurd c (by decide)) (fun c5 => ?_)
    refine bg_iconst C 8 (-1) dX1_needed_8 (by decide) ?_
    refine bg_ret C 9 rfl dX1_needed_9 ?_
    exact ⟨rfl, bp_pick_bad hb rfl⟩
  · refine bg_aload C 0 dX1_needed_0 ?_
    refine bg_iload_n C 1 dX1_needed_1 0 rfl rfl ?_
    refine mc_bad C 2 (mm_bad σ _ hT hT12) (by decide) (Nat.le_of_ble_eq_true rfl) dX1_needed_2 (fun r σ1 h1 => ?_)
    obtain ⟨rfl, rfl⟩ := h1.2 t ht rfl
    refine bg_if_eq C 5 10 dX1_needed_5 (by decide) (fun c5 => ?_) (fun c => absurd rfl c)
    refine bg_aload C 10 dX1_needed_10 ?_
    refine bg_iload_n C 11 dX1_needed_11 0 rfl rfl ?_
    refine mc_needs C 12 (mm_nd σ (by omega) hO) (by decide) (Nat.le_of_ble_eq_true rfl) dX1_needed_12 (fun r σ1 h1 => ?_)
    obtain ⟨rfl, rfl⟩ := h1
    refine bg_istore_n C 15 dX1_needed_15 1 rfl (by decide) ?_
    refine bg_iconst C 16 (0) dX1_needed_16 (by decide) ?_
    refine bg_istore_n C 17 dX1_needed_17 2 rfl (by decide) ?_
    refine bg_iconst C 18 (nI 0) dX1_needed_18 (by decide) ?_
    refine bg_istore C 19 dX1_needed_19 3 rfl (by decide) ?_
    refine mw_needed C σ ?_ 12 0 (by omega)
    refine bg_iload_n C 43 dX1_needed_43 2 rfl rfl ?_
    refine bg_ret C 44 rfl dX1_needed_44 ?_
    exact ⟨rfl, bp_pick_ok (by omega) ht rfl⟩
def bm_wp (σ : bg_S) (m : Int32) (u : Nat) : Prop := bp_bit m u ∧ ¬ bm_last σ u ∧ ¬ bm_in σ u
theorem mw_work {X : bg_E} {o : bg_O} {post : Int32 → bg_S → Prop} (C : bg_Cx X kM o cX1_work 5 4 90 (some .int) post) (σ : bg_S) {a m : Int32} {T : Nat} (hT : σ 1 0 = nI T) (hT12 : T ≤ 12) (hO : bp_OK (σ 4) (σ 5)) (hS : bm_S σ 0 40)
    (K : ∀ (n : Int32), bp_ct (bm_wp σ m) T n → bg_X X kM o σ [a, m, n, nI T] 71 []) : ∀ (k t : Nat) (n : Int32), t + k = T → bp_ct (bm_wp σ m) t n → bg_X X kM o σ [a, m, n, nI t] 25 [] := by
  intro k
  induction k with
  | zero =>
    intro t n htk hn
    have e : t = T := by omega
    subst e
    refine bg_iload C 25 dX1_work_25 3 rfl rfl ?_
    refine bg_aload C 27 dX1_work_27 ?_
    refine mg1 C 28 dX1_work_28 ?_
    refine bg_eq (hT) ?_
    refine bg_icmpN_ge C 31 (by omega) (by omega) 71 dX1_work_31 (by decide) (fun c31 => ?_) (fun c => absurd c (by omega))
    exact K n hn
  | succ k ih =>
    intro t n htk hn
    have ht : t < 12 := by omega
    obtain ⟨hs, hs2⟩ := hS t (Nat.zero_le t) ht
    refine bg_iload C 25 dX1_work_25 3 rfl rfl ?_
    refine bg_aload C 27 dX1_work_27 ?_
    refine mg1 C 28 dX1_work_28 ?_
    refine bg_eq (hT) ?_
    refine bg_icmpN_ge C 31 (by omega) (by omega) 71 dX1_work_31 (by decide) (fun c => absurd c (by omega)) (fun c31 => ?_)
    refine bg_iload_n C 34 dX1_work_34 1 rfl rfl ?_
    refine bg_iload C 35 dX1_work_35 3 rfl rfl ?_
    refine bg_ishr C 37 dX1_work_37 ?_
    refine bg_iconst C 38 (1) dX1_work_38 (by decide) ?_
    refine bg_iand C 39 dX1_work_39 ?_
    refine bg_iconst C 40 (1) dX1_work_40 (by decide) ?_
    refine bg_icmp_ne C 41 65 dX1_work_41 (by decide) (fun c41 => ?_) (fun c41 => ?_)
    · refine bg_iincN C 65 dX1_work_65 3 rfl (by decide) rfl ?_
      refine bg_goto C 68 25 dX1_work_68 (by decide) ?_
      exact ih (t + 1) n (by omega) ⟨n, hn, Or.inr ⟨fun h => c41 h.1, rfl⟩⟩
    · refine bg_aload C 44 dX1_work_44 ?_
      refine bg_iload C 45 dX1_work_45 3 rfl rfl ?_
      refine mc_isLast C 47 (mm_last σ ht hO) (by decide) (Nat.le_of_ble_eq_true rfl) dX1_work_47 (fun r σ1 h1 => ?_)
      obtain ⟨rfl, ⟨rfl, hla⟩ | ⟨rfl, hla⟩⟩ := h1
      · refine bg_if_ne C 50 65 dX1_work_50 (by decide) (fun c50 => ?_) (fun c => absurd c (by decide))
        refine bg_iincN C 65 dX1_work_65 3 rfl (by decide) rfl ?_
        refine bg_goto C 68 25 dX1_work_68 (by decide) ?_
        exact ih (t + 1) n (by omega) ⟨n, hn, Or.inr ⟨fun h => h.2.1 hla, rfl⟩⟩
      · refine bg_if_ne C 50 65 dX1_work_50 (by decide) (fun c => absurd rfl c) (fun c50 => ?_)
        refine bg_aload C 53 dX1_work_53 ?_
        refine bg_iload C 54 dX1_work_54 3 rfl rfl ?_
        refine mc_isStored C 56 (mm_in σ ht hO hs hs2) (by decide) (Nat.le_of_ble_eq_true rfl) dX1_work_56 (fun r σ1 h1 => ?_)
        obtain ⟨rfl, ⟨rfl, hi⟩ | ⟨rfl, hi⟩⟩ := h1
        · refine bg_if_ne C 59 65 dX1_work_59 (by decide) (fun c59 => ?_) (fun c => absurd c (by decide))
          refine bg_iincN C 65 dX1_work_65 3 rfl (by decide) rfl ?_
          refine bg_goto C 68 25 dX1_work_68 (by decide) ?_
          exact ih (t + 1) n (by omega) ⟨n, hn, Or.inr ⟨fun h => h.2.2 hi, rfl⟩⟩
        · refine bg_if_ne C 59 65 dX1_work_59 (by decide) (fun c => absurd rfl c) (fun c59 => ?_)
          refine bg_iinc1 C 62 dX1_work_62 2 rfl (by decide) rfl ?_
          refine bg_iincN C 65 dX1_work_65 3 rfl (by decide) rfl ?_
          refine bg_goto C 68 25 dX1_work_68 (by decide) ?_
          exact ih (t + 1) (n + 1) (by omega) ⟨n, hn, Or.inl ⟨⟨c41, hla, hi⟩, rfl⟩⟩
theorem mm_work (σ : bg_S) (a : Int32) {T : Nat} (hT : σ 1 0 = nI T) (hT12 : T ≤ 12) (hO : bp_OK (σ 4) (σ 5)) (hk : bm_kd σ) (hS : bm_S σ 0 40) : bg_M kM yX1_work cX1_work 5 (some .int) 4 90 [a] σ (fun r σ' => bp_pick T a (r = -1 ∧ σ = σ') (fun t => ∃ w : Nat → Int32, bp_now (σ 0) (σ 2) (σ 3) (σ 4) (σ 5) w T ∧ bp_ct (bm_wp (bg_U σ 14 w) (bp_need (σ 4) (σ 5) t)) T r ∧ bg_U σ 14 w = σ')) := by
  refine bg_enter okkM (by decide) rfl (Nat.le_of_ble_eq_true rfl) (fun X o C => ?_)
  rcases bp_dich T (by omega) a with ⟨hb, -⟩ | ⟨t, ht, rfl⟩
  · refine bg_aload C 0 dX1_work_0 ?_
    refine bg_iload_n C 1 dX1_work_1 0 rfl rfl ?_
    refine mc_bad C 2 (mm_bad σ _ hT hT12) (by decide) (Nat.le_of_ble_eq_true rfl) dX1_work_2 (fun r σ1 h1 => ?_)
    obtain ⟨rfl, rfl⟩ := h1.1 hb
    refine bg_if_eq C 5 10 dX1_work_5 (by decide) (fun c => absurd c (by decide)) (fun c5 => ?_)
    refine bg_iconst C 8 (-1) dX1_work_8 (by decide) ?_
    refine bg_ret C 9 rfl dX1_work_9 ?_
    exact bp_pick_bad hb ⟨rfl, rfl⟩
  · refine bg_aload C 0 dX1_work_0 ?_
    refine bg_iload_n C 1 dX1_work_1 0 rfl rfl ?_
    refine mc_bad C 2 (mm_bad σ _ hT hT12) (by decide) (Nat.le_of_ble_eq_true rfl) dX1_work_2 (fun r σ1 h1 => ?_)
    obtain ⟨rfl, rfl⟩ := h1.2 t ht rfl
    refine bg_if_eq C 5 10 dX1_work_5 (by decide) (fun c5 => ?_) (fun c => absurd rfl c)
    refine bg_aload C 10 dX1_work_10 ?_
    refine mc_workOut C 11 (mm_now σ hT hT12 hO hk) (by decide) (Nat.le_of_ble_eq_true rfl) dX1_work_11 (fun r σ1 h1 => ?_)
    obtain ⟨w, hw, rfl⟩ := h1
    refine bg_aload C 14 dX1_work_14 ?_
    refine bg_iload_n C 15 dX1_work_15 0 rfl rfl ?_
    refine mc_needs C 16 (mm_nd (bg_U σ 14 w) (by omega) hO) (by decide) (Nat.le_of_ble_eq_true rfl) dX1_work_16 (fun r σ1 h1 => ?_)
    obtain ⟨rfl, rfl⟩ := h1
    refine bg_istore_n C 19 dX1_work_19 1 rfl (by decide) ?_
    refine bg_iconst C 20 (0) dX1_work_20 (by decide) ?_
    refine bg_istore_n C 21 dX1_work_21 2 rfl (by decide) ?_
    refine bg_iconst C 22 (nI 0) dX1_work_22 (by decide) ?_
    refine bg_istore C 23 dX1_work_23 3 rfl (by decide) ?_
    refine mw_work C (bg_U σ 14 w) hT hT12 hO hS (fun n hn => ?_) T 0 0 (by omega) rfl
    refine bg_iload_n C 71 dX1_work_71 2 rfl rfl ?_
    refine bg_ret C 72 rfl dX1_work_72 ?_
    exact bp_pick_ok (by omega) ht ⟨w, hw, hn, rfl⟩
theorem mw_stale {X : bg_E} {o : bg_O} {post : Int32 → bg_S → Prop} (C : bg_Cx X kM o cX1_stale 3 3 67 (some .int) post) (σ : bg_S) {T : Nat} (hT : σ 1 0 = nI T) (hT12 : T ≤ 12) (hO : bp_OK (σ 4) (σ 5))
    (K : ∀ (n : Int32), bp_ct (fun u => ¬ bm_last σ u) T n → bg_X X kM o σ [n, nI T] 33 []) : ∀ (k t : Nat) (n : Int32), t + k = T → bp_ct (fun u => ¬ bm_last σ u) t n → bg_X X kM o σ [n, nI t] 8 [] := by
  intro k
  induction k with
  | zero =>
    intro t n htk hn
    have e : t = T := by omega
    subst e
    refine bg_iload_n C 8 dX1_stale_8 1 rfl rfl ?_
    refine bg_aload C 9 dX1_stale_9 ?_
    refine mg1 C 10 dX1_stale_10 ?_
    refine bg_eq (hT) ?_
    refine bg_icmpN_ge C 13 (by omega) (by omega) 33 dX1_stale_13 (by decide) (fun c13 => ?_) (fun c => absurd c (by omega))
    exact K n hn
  | succ k ih =>
    intro t n htk hn
    have ht : t < 12 := by omega
    refine bg_iload_n C 8 dX1_stale_8 1 rfl rfl ?_
    refine bg_aload C 9 dX1_stale_9 ?_
    refine mg1 C 10 dX1_stale_10 ?_
    refine bg_eq (hT) ?_
    refine bg_icmpN_ge C 13 (by omega) (by omega) 33 dX1_stale_13 (by decide) (fun c => absurd c (by omega)) (fun c13 => ?_)
    refine bg_aload C 16 dX1_stale_16 ?_
    refine bg_iload_n C 17 dX1_stale_17 1 rfl rfl ?_
    refine mc_isLast C 18 (mm_last σ ht hO) (by decide) (Nat.le_of_ble_eq_true rfl) dX1_stale_18 (fun r σ1 h1 => ?_)
    obtain ⟨rfl, ⟨rfl, hla⟩ | ⟨rfl, hla⟩⟩ := h1
    · refine bg_if_ne C 21 27 dX1_stale_21 (by decide) (fun c21 => ?_) (fun c => absurd c (by decide))
      refine bg_iincN C 27 dX1_stale_27 1 rfl (by decide) rfl ?_
      refine bg_goto C 30 8 dX1_stale_30 (by decide) ?_
      exact ih (t + 1) n (by omega) ⟨n, hn, Or.inr ⟨fun h => h hla, rfl⟩⟩
    · refine bg_if_ne C 21 27 dX1_stale_21 (by decide) (fun c => absurd rfl c) (fun c21 => ?_)
      refine bg_iinc1 C 24 dX1_stale_24 0 rfl (by decide) rfl ?_
      refine bg_iincN C 27 dX1_stale_27 1 rfl (by decide) rfl ?_
      refine bg_goto C 30 8 dX1_stale_30 (by decide) ?_
      exact ih (t + 1) (n + 1) (by omega) ⟨n, hn, Or.inl ⟨hla, rfl⟩⟩
theorem mm_stale (σ : bg_S) {T : Nat} (hT : σ 1 0 = nI T) (hT12 : T ≤ 12) (hO : bp_OK (σ 4) (σ 5)) (hk : bm_kd σ) : bg_M kM yX1_stale cX1_stale 3 (some .int) 3 67 [] σ (fun r σ' => ∃ w : Nat → Int32, bp_now (σ 0) (σ 2) (σ 3) (σ 4) (σ 5) w T ∧ bp_ct (fun u => ¬ bm_last (bg_U σ 14 w) u) T r ∧ bg_U σ 14 w = σ') := by
  refine bg_enter okkM (by decide) rfl (Nat.le_of_ble_eq_true rfl) (fun X o C => ?_)
  refine bg_aload C 0 dX1_stale_0 ?_
  refine mc_workOut C 1 (mm_now σ hT hT12 hO hk) (by decide) (Nat.le_of_ble_eq_true rfl) dX1_stale_1 (fun r σ1 h1 => ?_)
  obtain ⟨w, hw, rfl⟩ := h1
  refine bg_iconst C 4 (0) dX1_stale_4 (by decide) ?_
  refine bg_istore_n C 5 dX1_stale_5 0 rfl (by decide) ?_
  refine bg_iconst C 6 (nI 0) dX1_stale_6 (by decide) ?_
  refine bg_istore_n C 7 dX1_stale_7 1 rfl (by decide) ?_
  refine mw_stale C (bg_U σ 14 w) hT hT12 hO (fun n hn => ?_) T 0 0 (by omega) rfl
  refine bg_iload_n C 33 dX1_stale_33 0 rfl rfl ?_
  refine bg_ret C 34 rfl dX1_stale_34 ?_
  exact ⟨w, hw, hn, rfl⟩
end
section
/-! THE PLAIN LAW: what ties the two states -/
set_option maxRecDepth 100000
/-- at b of f stands the record c, n, the first n of v (0 beyond) -/
def bm_is (f : Nat → Int32) (b : Nat) (c : Int32) (n : Nat) (v : Nat → Int32) : Prop := f b = c ∧ f (b + 1) = nI n ∧ ∀ i, i < 3 → f (b + (2 + i)) = if i < n then v i else 0
/-- at place a of x's store stands the record c, n, the first n of v -/
def bx_is (σ : bg_S) (a : Nat) (c : Int32) (n : Nat) (v : Nat → Int32) : Prop := σ 21 a = c ∧ σ 22 a = nI n ∧ ∀ i, i < n → σ 23 (a * 3 + i) = v i
theorem bm_is_uniq {f : Nat → Int32} {b n n' : Nat} {c c' : Int32} {v v' : Nat → Int32} (hn : n ≤ 3) (hn' : n' ≤ 3) (h : bm_is f b c n v) (h' : bm_is f b c' n' v') : c = c' ∧ n = n' ∧ ∀ i, i < n → v i = v' i := by
  obtain ⟨h1, h2, h3⟩ := h
  obtain ⟨g1, g2, g3⟩ := h'
  have e : n = n' := (nI_eq (by omega) (by omega)).mp (h2.symm.trans g2)
  subst e
  refine ⟨h1.symm.trans g1, rfl, fun i hi => ?_⟩
  have a1 := h3 i (by omega)
  have a2 := g3 i (by omega)
  rw [if_pos hi] at a1 a2
  exact a1.symm.trans a2
theorem bm_is_congr {f : Nat → Int32} {b n : Nat} {c : Int32} {v v' : Nat → Int32} (h : bm_is f b c n v) (hv : ∀ i, i < n → v i = v' i) : bm_is f b c n v' := by
  obtain ⟨h1, h2, h3⟩ := h
  refine ⟨h1, h2, fun i hi => ?_⟩
  rw [h3 i hi]
  by_cases e : i < n
  · rw [if_pos e, if_pos e, hv i e]
  · rw [if_neg e, if_neg e]
theorem bm_is_move {f f' : Nat → Int32} {b n : Nat} {c : Int32} {v : Nat → Int32} (h : bm_is f b c n v) (hf : ∀ i, i < 5 → f' (b + i) = f (b + i)) : bm_is f' b c n v := by
  obtain ⟨h1, h2, h3⟩ := h
  exact ⟨(hf 0 (by omega)).trans h1, (hf 1 (by omega)).trans h2, fun i hi => (hf (2 + i) (by omega)).trans (h3 i hi)⟩
theorem bm_part_v (σ : bg_S) (t i : Nat) : bm_part σ t (2 + i) = bm_v σ t i := by
  unfold bm_part
  rw [if_neg (by omega), if_neg (by omega), Nat.add_sub_cancel_left]
theorem bm_part_is {σ : bg_S} {t b : Nat} {f : Nat → Int32} (hc : σ 4 t = nI (bp_cn (σ 4) t)) : (∀ i, i < 5 → f (b + i) = bm_part σ t i) ↔ bm_is f b (σ 3 t) (bp_cn (σ 4) t) (bp_vl (σ 0) (σ 5) (σ 14) t) := by
  constructor
  · intro h
    refine ⟨h 0 (by omega), (h 1 (by omega)).trans hc, fun i hi => ?_⟩
    rw [h (2 + i) (by omega), bm_part_v]
    rfl
  · rintro ⟨h1, h2, h3⟩ i hi
    match i, hi with
    | 0, _ => exact h1
    | 1, _ => exact h2.trans hc.symm
    | k + 2, hi =>
      rw [Nat.add_comm k 2, bm_part_v]
      exact h3 k (by omega)
/-- definitions -/
def bs_A (σ μ : bg_S) (T : Nat) : Prop := σ 0 = μ 0 ∧ σ 4 = μ 2 ∧ σ 5 = μ 3 ∧ σ 6 = μ 4 ∧ σ 7 = μ 5 ∧ σ 3 0 = nI T ∧ μ 1 0 = nI T ∧ T ≤ 12 ∧ bp_OK (σ 6) (σ 7) ∧ bm_kd μ ∧ ∀ t, T ≤ t → t < 12 → σ 6 t = 0
/-- outputs, marks of last records -/
def bs_O (σ μ : bg_S) (T : Nat) : Prop := ∀ t, t < 12 → σ 14 t = μ 6 t ∧ σ 9 t = μ 8 t ∧ (σ 9 t = 0 ∨ σ 9 t = 1) ∧ (T ≤ t → σ 9 t = 0)
/-- last records -/
def bs_L (σ μ : bg_S) : Prop := ∀ t, t < 12 → ¬ σ 9 t = 0 → bm_is (μ 9) (t * 5) (σ 10 t) (bp_cn (σ 11) t) (fun i => σ 12 (t * 3 + i)) ∧ σ 11 t = nI (bp_cn (σ 11) t) ∧ bp_cn (σ 11) t ≤ 3 ∧ σ 14 t = bp_res (σ 4 t) (σ 10 t) (fun i => σ 12 (t * 3 + i)) (bp_cn (σ 11) t)
/-- revisions -/
def bs_V (σ : bg_S) (V : Nat) : Prop := σ 2 0 = nI V ∧ (∀ k, k < 8 → σ 1 k ≤ nI V) ∧ ∀ t, t < 12 → σ 8 t ≤ nI V ∧ σ 13 t ≤ nI V ∧ σ 15 t ≤ nI V
/-- what did not change since a task was looked at is as it was -/
def bs_I (σ : bg_S) : Prop := ∀ t, t < 12 → ¬ σ 9 t = 0 → σ 8 t ≤ σ 13 t → σ 10 t = σ 5 t ∧ σ 11 t = σ 6 t ∧ ∀ i, i < bp_cn (σ 6) t → bx_chg σ t i ≤ σ 13 t → σ 12 (t * 3 + i) = bp_vl (σ 0) (σ 7) (σ 14) t i
/-- the stores hold the same records -/
def bs_E (σ μ : bg_S) (Ls : Nat → List Nat) : Prop := ∀ t, t < 12 → (∀ a, a ∈ Ls t → σ 22 a = nI (bp_cn (σ 22) a) ∧ bp_cn (σ 22) a ≤ 3 ∧ σ 20 a = bp_hs (σ 21 a) (σ 22 a) (fun i => σ 23 (a * 3 + i)) (bp_cn (σ 22) a)) ∧ ∀ (c : Int32) (n : Nat) (v : Nat → Int32), n ≤ 3 → ((∃ a, a ∈ Ls t ∧ bx_is σ a c n v) ↔ ∃ j, j < bp_cn (μ 10) t ∧ bm_is (μ 11) ((t * 40 + j) * 5) c n v)
/-- counts of the stores -/
def bs_C (σ μ : bg_S) (Ls : Nat → List Nat) (R B : Nat) : Prop := σ 16 0 = nI B ∧ μ 12 0 = nI B ∧ B ≤ 40 ∧ bx_S σ Ls R ∧ R ≤ 12 * B ∧ (∀ u, u < 12 → (Ls u).length ≤ B) ∧ bm_S μ 0 B
/-- what became of tasks -/
def bs_Z (σ μ : bg_S) (T : Nat) : Prop := (∀ t, t < 12 → σ 25 t = μ 7 t ∧ (T ≤ t → σ 25 t = 0)) ∧ σ 27 0 = μ 13 0
def bs_all (σ μ : bg_S) (T V : Nat) (Ls : Nat → List Nat) (R B : Nat) : Prop := bs_A σ μ T ∧ bs_O σ μ T ∧ bs_L σ μ ∧ bs_V σ V ∧ bs_I σ ∧ bs_E σ μ Ls ∧ bs_C σ μ Ls R B ∧ bs_Z σ μ T
/-- THE TIE: at most N revisions so far -/
def bs_sim (σ μ : bg_S) (N : Nat) : Prop := ∃ (T V : Nat) (Ls : Nat → List Nat) (R B : Nat), V ≤ N ∧ bs_all σ μ T V Ls R B
/-- the last record, asked on both sides -/
theorem bs_last {σ μ : bg_S} {T t : Nat} (hA : bs_A σ μ T) (hO : bs_O σ μ T) (hL : bs_L σ μ) (ht : t < 12) : bm_last μ t ↔ bx_lastv σ t (bp_vl (σ 0) (σ 7) (μ 14) t) := by
  obtain ⟨a0, a4, a5, a6, a7, -, -, -, hok, -⟩ := hA
  obtain ⟨hc, hc3, -⟩ := hok t ht
  have hc' : μ 4 t = nI (bp_cn (μ 4) t) := by rw [← a6]; exact hc
  unfold bm_last
  rw [bm_part_is hc', ← a0, ← a5, ← a6, ← a7, ← (hO t ht).2.1]
  constructor
  · rintro ⟨h9, his⟩
    obtain ⟨li, l2, l3, -⟩ := hL t ht h9
    obtain ⟨e1, e2, e3⟩ := bm_is_uniq l3 hc3 li his
    refine ⟨h9, e1, ?_, fun i hi => e3 i (by omega)⟩
    rw [l2, e2, ← hc]
  · rintro ⟨h9, e1, e2, e3⟩
    obtain ⟨li, l2, l3, -⟩ := hL t ht h9
    have e4 : bp_cn (σ 11) t = bp_cn (σ 6) t := by unfold bp_cn; rw [e2]
    rw [e1, e4] at li
    exact ⟨h9, bm_is_congr li e3⟩
/-- the stores, asked on both sides -/
theorem bs_in {σ μ : bg_S} {T t : Nat} {Ls : Nat → List Nat} (hA : bs_A σ μ T) (hE : bs_E σ μ Ls) (ht : t < 12) : bm_in μ t ↔ bx_inv σ t (Ls t) (bp_vl (σ 0) (σ 7) (μ 14) t) := by
  obtain ⟨a0, a4, a5, a6, a7, -, -, -, hok, -⟩ := hA
  obtain ⟨hc, hc3, -⟩ := hok t ht
  have hc' : μ 4 t = nI (bp_cn (μ 4) t) := by rw [← a6]; exact hc
  obtain ⟨hh, hq⟩ := hE t ht
  have h1 : bm_in μ t ↔ ∃ j, j < bp_cn (μ 10) t ∧ bm_is (μ 11) ((t * 40 + j) * 5) (σ 5 t) (bp_cn (σ 6) t) (bp_vl (σ 0) (σ 7) (μ 14) t) := by
    rw [a0, a5, a6, a7]
    unfold bm_in bm_rec
    constructor
    · rintro ⟨j, hj, h⟩
      exact ⟨j, hj, (bm_part_is hc').mp h⟩
    · rintro ⟨j, hj, h⟩
      exact ⟨j, hj, (bm_part_is hc').mpr h⟩
  rw [h1, ← hq _ _ _ hc3]
  constructor
  · rintro ⟨a, ha, e1, e2, e3⟩
    obtain ⟨g1, g2, g3⟩ := hh a ha
    have e4 : σ 22 a = σ 6 t := e2.trans hc.symm
    have e5 : bp_cn (σ 22) a = bp_cn (σ 6) t := by unfold bp_cn; rw [e4]
    refine ⟨a, ha, ?_, e1, e4, e3⟩
    rw [g3, e1, e4, e5]
    exact bp_hs_ext _ e3
  · rintro ⟨a, ha, -, e1, e2, e3⟩
    exact ⟨a, ha, e1, e2.trans hc, e3⟩
end
section
/-! THE PLAIN LAW: the tie is kept by each op but build -/
set_option maxRecDepth 100000
theorem bp_upd_id {f : Nat → Int32} {k : Nat} {v : Int32} (h : f k = v) : upd f k v = f := by
  funext j
  by_cases e : j = k
  · subst e
    rw [pk_us, h]
  · rw [pk_un e]
theorem bp_up {x : Int32} {V : Nat} (h : x ≤ nI V) (hV : V + 1 < 2 ^ 31) : x ≤ nI (V + 1) := Int32.le_trans h (nI_le (by omega) hV)
theorem bp_no {x : Int32} {V : Nat} (h : x ≤ nI V) (hV : V + 1 < 2 ^ 31) : ¬ nI (V + 1) ≤ x := fun h2 => nI_ge (Nat.lt_succ_self V) hV (Int32.le_trans h2 h)
theorem bp_pickE {T : Nat} (hT : T < 2 ^ 31) {a : Int32} {P1 P2 G : Prop} {Q1 Q2 : Nat → Prop} (h1 : bp_pick T a P1 Q1) (h2 : bp_pick T a P2 Q2) (hb : P1 → P2 → G) (ho : ∀ t, t < T → Q1 t → Q2 t → G) : G := by
  rcases bp_dich T hT a with ⟨h, -⟩ | ⟨t, ht, e⟩
  · exact hb (h1.1 h) (h2.1 h)
  · exact ho t ht (h1.2 t ht e) (h2.2 t ht e)
section OPS
variable {σ μ σ' μ' : bg_S} {T V R B N : Nat} {Ls : Nat → List Nat} {r r' : Int32}
theorem bs_all.sim (h : bs_all σ μ T V Ls R B) : bs_sim σ μ (V + 1) := ⟨T, V, Ls, R, B, by omega, h⟩
theorem bs_content {a v : Int32} (hV : V + 1 < 2 ^ 31) (h : bs_all σ μ T V Ls R B) (hx : bp_pick 8 a (r = -2 ∧ σ = σ') (fun k => r = σ 0 k ∧ bx_content σ k v = σ')) (hm : bp_pick 8 a (r' = -2 ∧ μ = μ') (fun k => r' = μ 0 k ∧ bg_U μ 0 (upd (μ 0) k v) = μ')) : r = r' ∧ bs_sim σ' μ' (V + 1) := by
  refine bp_pickE (by decide) hx hm ?_ ?_
  · rintro ⟨rfl, rfl⟩ ⟨rfl, rfl⟩
    exact ⟨rfl, h.sim⟩
  · rintro k hk ⟨rfl, hs⟩ ⟨rfl, rfl⟩
    obtain ⟨⟨a0, hA⟩, hO, hL, ⟨v2, v1, v3⟩, hI, hE, hC, hZ⟩ := h
    refine ⟨by rw [a0], T, V + 1, Ls, R, B, Nat.le_refl _, ?_⟩
    unfold bx_content at hs
    by_cases c : σ 0 k = v
    · rw [if_pos c] at hs
      subst hs
      have e : upd (σ 0) k v = σ 0 := bp_upd_id c
      refine ⟨⟨?_, hA⟩, hO, hL, ⟨?_, fun k hk => bp_up (v1 k hk) hV, fun t ht => ⟨bp_up (v3 t ht).1 hV, bp_up (v3 t ht).2.1 hV, bp_up (v3 t ht).2.2 hV⟩⟩, ?_, hE, hC, hZ⟩
      · show upd (σ 0) k v = upd (μ 0) k v
        rw [a0]
      · show σ 2 0 + 1 = nI (V + 1)
        rw [v2, nI_1]
      · intro t ht h9 h8
        obtain ⟨i1, i2, i3⟩ := hI t ht h9 h8
        refine ⟨i1, i2, fun i hi hc => ?_⟩
        show σ 12 (t * 3 + i) = bp_vl (upd (σ 0) k v) (σ 7) (σ 14) t i
        rw [e]
        exact i3 i hi hc
    · rw [if_neg c] at hs
      subst hs
      have hr : σ 2 0 + 1 = nI (V + 1) := by rw [v2, nI_1]
      refine ⟨⟨?_, hA⟩, hO, hL, ⟨hr, fun j hj => ?_, fun t ht => ⟨bp_up (v3 t ht).1 hV, bp_up (v3 t ht).2.1 hV, bp_up (v3 t ht).2.2 hV⟩⟩, ?_, hE, hC, hZ⟩
      · show upd (σ 0) k v = upd (μ 0) k v
        rw [a0]
      · show upd (σ 1) k (σ 2 0 + 1) j ≤ nI (V + 1)
        by_cases e : j = k
        · subst e
          rw [pk_us, hr]
          exact Int32.le_refl _
        · rw [pk_un e]
          exact bp_up (v1 j hj) hV
      · intro t ht h9 h8
        obtain ⟨i1, i2, i3⟩ := hI t ht h9 h8
        refine ⟨i1, i2, fun i hi hc => ?_⟩
        have hc : (if bp_fr (σ 7) t i < 8 then upd (σ 1) k (σ 2 0 + 1) (bp_fr (σ 7) t i) else σ 15 (bp_fr (σ 7) t i - 8)) ≤ σ 13 t := hc
        show σ 12 (t * 3 + i) = if bp_fr (σ 7) t i < 8 then upd (σ 0) k v (bp_fr (σ 7) t i) else σ 14 (bp_fr (σ 7) t i - 8)
        by_cases hf : bp_fr (σ 7) t i < 8
        · rw [if_pos hf] at hc ⊢
          by_cases e : bp_fr (σ 7) t i = k
          · rw [e, pk_us, hr] at hc
            exact absurd hc (bp_no (v3 t ht).2.1 hV)
          · rw [pk_un e] at hc ⊢
            have := i3 i hi (by unfold bx_chg; rw [if_pos hf]; exact hc)
            unfold bp_vl at this
            rw [if_pos hf] at this
            exact this
        · rw [if_neg hf] at hc ⊢
          have := i3 i hi (by unfold bx_chg; rw [if_neg hf]; exact hc)
          unfold bp_vl at this
          rw [if_neg hf] at this
          exact this
theorem bs_task {a c : Int32} (h : bs_all σ μ T V Ls R B) (hx : (T = 12 → r = -4 ∧ σ = σ') ∧ (T < 12 → r = nI T ∧ bx_task σ T a c = σ')) (hm : (T = 12 → r' = -4 ∧ μ = μ') ∧ (T < 12 → r' = nI T ∧ bm_task μ T a c = μ')) : r = r' ∧ bs_sim σ' μ' (V + 1) := by
  have hT12 : T ≤ 12 := h.1.2.2.2.2.2.2.2.1
  by_cases e : T = 12
  · obtain ⟨rfl, rfl⟩ := hx.1 e
    obtain ⟨rfl, rfl⟩ := hm.1 e
    exact ⟨rfl, h.sim⟩
  · have hT : T < 12 := by omega
    obtain ⟨rfl, rfl⟩ := hx.2 hT
    obtain ⟨rfl, rfl⟩ := hm.2 hT
    obtain ⟨⟨a0, a4, a5, a6, a7, a3, a1, -, hok, hk, hz⟩, hO, hL, hV, hI, hE, hC, hZ⟩ := h
    have e6 : upd (σ 6) T 0 = σ 6 := bp_upd_id (hz T (Nat.le_refl T) hT)
    refine ⟨rfl, T + 1, V, Ls, R, B, by omega, ⟨a0, ?_, ?_, ?_, a7, rfl, rfl, by omega, ?_, ?_, ?_⟩, ?_, ?_, hV, ?_, hE, hC, ?_⟩
    · show upd (σ 4) T (a &&& 3) = upd (μ 2) T (a &&& 3)
      rw [a4]
    · show upd (σ 5) T c = upd (μ 3) T c
      rw [a5]
    · show upd (σ 6) T 0 = μ 4
      rw [e6, a6]
    · show bp_OK (upd (σ 6) T 0) (σ 7)
      rw [e6]
      exact hok
    · intro t ht
      show upd (μ 2) T (a &&& 3) t = 0 ∨ upd (μ 2) T (a &&& 3) t = 1 ∨ upd (μ 2) T (a &&& 3) t = 2 ∨ upd (μ 2) T (a &&& 3) t = 3
      by_cases e2 : t = T
      · subst e2
        rw [pk_us]
        obtain ⟨j, hj, hj2⟩ := pk_andE a (m := 3) 2 (by decide)
        rw [hj2]
        match j, hj with
        | 0, _ => exact Or.inl rfl
        | 1, _ => exact Or.inr (Or.inl rfl)
        | 2, _ => exact Or.inr (Or.inr (Or.inl rfl))
        | 3, _ => exact Or.inr (Or.inr (Or.inr rfl))
      · rw [pk_un e2]
        exact hk t ht
    · intro t ht ht2
      show upd (σ 6) T 0 t = 0
      rw [e6]
      exact hz t (by omega) ht2
    · intro t ht
      obtain ⟨o1, o2, o3, o4⟩ := hO t ht
      exact ⟨o1, o2, o3, fun q => o4 (by omega)⟩
    · intro t ht h9
      obtain ⟨l1, l2, l3, l4⟩ := hL t ht h9
      have e2 : t ≠ T := fun q => h9 ((hO t ht).2.2.2 (by omega))
      refine ⟨l1, l2, l3, ?_⟩
      show σ 14 t = bp_res (upd (σ 4) T (a &&& 3) t) (σ 10 t) (fun i => σ 12 (t * 3 + i)) (bp_cn (σ 11) t)
      rw [pk_un e2]
      exact l4
    · intro t ht h9 h8
      have e2 : t ≠ T := fun q => h9 ((hO t ht).2.2.2 (by omega))
      show σ 10 t = upd (σ 5) T c t ∧ σ 11 t = upd (σ 6) T 0 t ∧ ∀ i, i < bp_cn (upd (σ 6) T 0) t → bx_chg σ t i ≤ σ 13 t → σ 12 (t * 3 + i) = bp_vl (σ 0) (σ 7) (σ 14) t i
      rw [e6, pk_un e2]
      exact hI t ht h9 h8
    · refine ⟨fun t ht => ?_, hZ.2⟩
      obtain ⟨z1, z2⟩ := hZ.1 t ht
      exact ⟨z1, fun q => z2 (by omega)⟩
theorem bs_input {a b : Int32} (hV : V + 1 < 2 ^ 31) (h : bs_all σ μ T V Ls R B) (hx : bp_pick T a (r = -1 ∧ σ = σ') (fun t => bp_pick (8 + t) b (r = -2 ∧ σ = σ') (fun f => (bp_cn (σ 6) t = 3 → r = -4 ∧ σ = σ') ∧ (bp_cn (σ 6) t < 3 → r = nI (bp_cn (σ 6) t + 1) ∧ bx_input σ t f = σ'))))
    (hm : bp_pick T a (r' = -1 ∧ μ = μ') (fun t => bp_pick (8 + t) b (r' = -2 ∧ μ = μ') (fun f => (bp_cn (μ 4) t = 3 → r' = -4 ∧ μ = μ') ∧ (bp_cn (μ 4) t < 3 → r' = nI (bp_cn (μ 4) t + 1) ∧ bm_input μ t f = μ')))) : r = r' ∧ bs_sim σ' μ' (V + 1) := by
  have hT12 : T ≤ 12 := h.1.2.2.2.2.2.2.2.1
  refine bp_pickE (by omega) hx hm ?_ ?_
  · rintro ⟨rfl, rfl⟩ ⟨rfl, rfl⟩
    exact ⟨rfl, h.sim⟩
  intro t ht hx hm
  refine bp_pickE (by omega) hx hm ?_ ?_
  · rintro ⟨rfl, rfl⟩ ⟨rfl, rfl⟩
    exact ⟨rfl, h.sim⟩
  intro f hf hx hm
  have ht12 : t < 12 := by omega
  obtain ⟨⟨a0, a4, a5, a6, a7, a3, a1, -, hok, hk, hz⟩, hO, hL, ⟨v2, v1, v3⟩, hI, hE, hC, hZ⟩ := id h
  rw [← a6] at hm
  obtain ⟨hc, hc3, hfr⟩ := hok t ht12
  by_cases e : bp_cn (σ 6) t = 3
  · obtain ⟨rfl, rfl⟩ := hx.1 e
    obtain ⟨rfl, rfl⟩ := hm.1 e
    exact ⟨rfl, h.sim⟩
  have hlt : bp_cn (σ 6) t < 3 := by omega
  obtain ⟨rfl, rfl⟩ := hx.2 hlt
  obtain ⟨rfl, rfl⟩ := hm.2 hlt
  have hr : σ 2 0 + 1 = nI (V + 1) := by rw [v2, nI_1]
  have cnu : ∀ u, u ≠ t → bp_cn (upd (σ 6) t (nI (bp_cn (σ 6) t + 1))) u = bp_cn (σ 6) u := fun u hu => by unfold bp_cn; rw [pk_un hu]
  have cnt : bp_cn (upd (σ 6) t (nI (bp_cn (σ 6) t + 1))) t = bp_cn (σ 6) t + 1 := by
    show (upd (σ 6) t (nI (bp_cn (σ 6) t + 1)) t).toNatClampNeg = _
    rw [pk_us, nI_clamp (by omega)]
  have fru : ∀ u i, u * 3 + i ≠ t * 3 + bp_cn (σ 6) t → bp_fr (upd (σ 7) (t * 3 + bp_cn (σ 6) t) (nI f)) u i = bp_fr (σ 7) u i := fun u i hu => by unfold bp_fr; rw [pk_un hu]
  refine ⟨rfl, T, V + 1, Ls, R, B, Nat.le_refl _, ⟨a0, a4, a5, ?_, ?_, a3, a1, hT12, ?_, hk, ?_⟩, hO, hL, ⟨hr, fun k hk => bp_up (v1 k hk) hV, fun u hu => ?_⟩, ?_, hE, hC, hZ⟩
  · show upd (σ 6) t (nI (bp_cn (σ 6) t + 1)) = upd (μ 4) t (nI (bp_cn (μ 4) t + 1))
    rw [a6]
  · show upd (σ 7) (t * 3 + bp_cn (σ 6) t) (nI f) = upd (μ 5) (t * 3 + bp_cn (μ 4) t) (nI f)
    rw [a6, a7]
  · intro u hu
    show upd (σ 6) t (nI (bp_cn (σ 6) t + 1)) u = nI (bp_cn (upd (σ 6) t (nI (bp_cn (σ 6) t + 1))) u) ∧ bp_cn (upd (σ 6) t (nI (bp_cn (σ 6) t + 1))) u ≤ 3 ∧ ∀ i, i < bp_cn (upd (σ 6) t (nI (bp_cn (σ 6) t + 1))) u → upd (σ 7) (t * 3 + bp_cn (σ 6) t) (nI f) (u * 3 + i) = nI (bp_fr (upd (σ 7) (t * 3 + bp_cn (σ 6) t) (nI f)) u i) ∧ bp_fr (upd (σ 7) (t * 3 + bp_cn (σ 6) t) (nI f)) u i < 8 + u
    by_cases e2 : u = t
    · subst e2
      rw [cnt, pk_us]
      refine ⟨rfl, by omega, fun i hi => ?_⟩
      by_cases e3 : i = bp_cn (σ 6) u
      · have e4 : bp_fr (upd (σ 7) (u * 3 + bp_cn (σ 6) u) (nI f)) u i = f := by
          unfold bp_fr
          rw [e3, pk_us, nI_clamp (by omega)]
        rw [e4, e3, pk_us]
        exact ⟨rfl, hf⟩
      · rw [fru u i (by omega), pk_un (by omega)]
        exact hfr i (by omega)
    · obtain ⟨g1, g2, g3⟩ := hok u hu
      rw [cnu u e2, pk_un e2]
      refine ⟨g1, g2, fun i hi => ?_⟩
      rw [fru u i (by omega), pk_un (by omega)]
      exact g3 i hi
  · intro u hu hu2
    show upd (σ 6) t (nI (bp_cn (σ 6) t + 1)) u = 0
    rw [pk_un (by omega)]
    exact hz u hu hu2
  · refine ⟨?_, bp_up (v3 u hu).2.1 hV, bp_up (v3 u hu).2.2 hV⟩
    show upd (σ 8) t (σ 2 0 + 1) u ≤ nI (V + 1)
    by_cases e2 : u = t
    · subst e2
      rw [pk_us, hr]
      exact Int32.le_refl _
    · rw [pk_un e2]
      exact bp_up (v3 u hu).1 hV
  · intro u hu h9 h8
    have h8 : upd (σ 8) t (σ 2 0 + 1) u ≤ σ 13 u := h8
    by_cases e2 : u = t
    · subst e2
      rw [pk_us, hr] at h8
      exact absurd h8 (bp_no (v3 u hu).2.1 hV)
    · rw [pk_un e2] at h8
      obtain ⟨i1, i2, i3⟩ := hI u hu h9 h8
      obtain ⟨g1, g2, g3⟩ := hok u hu
      show σ 10 u = σ 5 u ∧ σ 11 u = upd (σ 6) t (nI (bp_cn (σ 6) t + 1)) u ∧ ∀ i, i < bp_cn (upd (σ 6) t (nI (bp_cn (σ 6) t + 1))) u → (if bp_fr (upd (σ 7) (t * 3 + bp_cn (σ 6) t) (nI f)) u i < 8 then σ 1 (bp_fr (upd (σ 7) (t * 3 + bp_cn (σ 6) t) (nI f)) u i) else σ 15 (bp_fr (upd (σ 7) (t * 3 + bp_cn (σ 6) t) (nI f)) u i - 8)) ≤ σ 13 u → σ 12 (u * 3 + i) = bp_vl (σ 0) (upd (σ 7) (t * 3 + bp_cn (σ 6) t) (nI f)) (σ 14) u i
      rw [cnu u e2, pk_un e2]
      refine ⟨i1, i2, fun i hi hch => ?_⟩
      unfold bp_vl
      rw [fru u i (by omega)] at hch ⊢
      exact i3 i hi hch
theorem bs_constant {a v : Int32} (hV : V + 1 < 2 ^ 31) (h : bs_all σ μ T V Ls R B) (hx : bp_pick T a (r = -1 ∧ σ = σ') (fun t => r = σ 5 t ∧ bx_constant σ t v = σ')) (hm : bp_pick T a (r' = -1 ∧ μ = μ') (fun t => r' = μ 3 t ∧ bg_U μ 3 (upd (μ 3) t v) = μ')) : r = r' ∧ bs_sim σ' μ' (V + 1) := by
  have hT12 : T ≤ 12 := h.1.2.2.2.2.2.2.2.1
  refine bp_pickE (by omega) hx hm ?_ ?_
  · rintro ⟨rfl, rfl⟩ ⟨rfl, rfl⟩
    exact ⟨rfl, h.sim⟩
  rintro t ht ⟨rfl, rfl⟩ ⟨rfl, rfl⟩
  obtain ⟨⟨a0, a4, a5, hA⟩, hO, hL, ⟨v2, v1, v3⟩, hI, hE, hC, hZ⟩ := h
  have hr : σ 2 0 + 1 = nI (V + 1) := by rw [v2, nI_1]
  refine ⟨by rw [a5], T, V + 1, Ls, R, B, Nat.le_refl _, ⟨a0, a4, ?_, hA⟩, hO, hL, ⟨hr, fun k hk => bp_up (v1 k hk) hV, fun u hu => ?_⟩, ?_, hE, hC, hZ⟩
  · show upd (σ 5) t v = upd (μ 3) t v
    rw [a5]
  · refine ⟨?_, bp_up (v3 u hu).2.1 hV, bp_up (v3 u hu).2.2 hV⟩
    show upd (σ 8) t (σ 2 0 + 1) u ≤ nI (V + 1)
    by_cases e2 : u = t
    · subst e2
      rw [pk_us, hr]
      exact Int32.le_refl _
    · rw [pk_un e2]
      exact bp_up (v3 u hu).1 hV
  · intro u hu h9 h8
    have h8 : upd (σ 8) t (σ 2 0 + 1) u ≤ σ 13 u := h8
    by_cases e2 : u = t
    · subst e2
      rw [pk_us, hr] at h8
      exact absurd h8 (bp_no (v3 u hu).2.1 hV)
    · rw [pk_un e2] at h8
      show σ 10 u = upd (σ 5) t v u ∧ _
      rw [pk_un e2]
      exact hI u hu h9 h8
theorem bs_clean {a : Int32} (h : bs_all σ μ T V Ls R B) (hx : bp_pick T a (r = -1 ∧ σ = σ') (fun t => r = (if σ 9 t = 0 then 0 else 1) ∧ bg_U σ 9 (upd (σ 9) t 0) = σ')) (hm : bp_pick T a (r' = -1 ∧ μ = μ') (fun t => r' = (if μ 8 t = 0 then 0 else 1) ∧ bg_U μ 8 (upd (μ 8) t 0) = μ')) : r = r' ∧ bs_sim σ' μ' (V + 1) := by
  have hT12 : T ≤ 12 := h.1.2.2.2.2.2.2.2.1
  refine bp_pickE (by omega) hx hm ?_ ?_
  · rintro ⟨rfl, rfl⟩ ⟨rfl, rfl⟩
    exact ⟨rfl, h.sim⟩
  rintro t ht ⟨rfl, rfl⟩ ⟨rfl, rfl⟩
  obtain ⟨hA, hO, hL, hV, hI, hE, hC, hZ⟩ := h
  refine ⟨by rw [(hO t (by omega)).2.1], T, V, Ls, R, B, by omega, hA, fun u hu => ?_, fun u hu h9 => ?_, hV, fun u hu h9 h8 => ?_, hE, hC, hZ⟩
  · obtain ⟨o1, o2, o3, o4⟩ := hO u hu
    refine ⟨o1, ?_, ?_, ?_⟩
    · show upd (σ 9) t 0 u = upd (μ 8) t 0 u
      by_cases e : u = t
      · subst e
        rw [pk_us, pk_us]
      · rw [pk_un e, pk_un e]
        exact o2
    · show upd (σ 9) t 0 u = 0 ∨ upd (σ 9) t 0 u = 1
      by_cases e : u = t
      · subst e
        rw [pk_us]
        exact Or.inl rfl
      · rw [pk_un e]
        exact o3
    · intro q
      show upd (σ 9) t 0 u = 0
      by_cases e : u = t
      · subst e
        rw [pk_us]
      · rw [pk_un e]
        exact o4 q
  · have h9 : ¬ upd (σ 9) t 0 u = 0 := h9
    by_cases e : u = t
    · subst e
      exact absurd pk_us h9
    · rw [pk_un e] at h9
      exact hL u hu h9
  · have h9 : ¬ upd (σ 9) t 0 u = 0 := h9
    by_cases e : u = t
    · subst e
      exact absurd pk_us h9
    · rw [pk_un e] at h9
      exact hI u hu h9 h8
theorem bs_empty (h : bs_all σ μ T V Ls R B) (hx : ∃ g : Nat → Int32, (∀ t, t < 12 → g t = -1) ∧ bg_U (bg_U (bg_U σ 16 (fun _ => 0)) 17 (fun _ => 0)) 18 g = σ') (hm : ∃ g : Nat → Int32, (∀ t, t < 12 → g t = nI 0) ∧ bg_U (bg_U μ 12 (fun _ => 0)) 10 g = μ') : bs_sim σ' μ' (V + 1) := by
  obtain ⟨g, hg, rfl⟩ := hx
  obtain ⟨g', hg', rfl⟩ := hm
  obtain ⟨hA, hO, hL, hV, hI, hE, hC, hZ⟩ := h
  have hn : ∀ t, t < 12 → bp_cn g' t = 0 := fun t ht => by
    unfold bp_cn
    rw [hg' t ht]
    rfl
  refine ⟨T, V, fun _ => [], 0, 0, by omega, hA, hO, hL, hV, hI, fun t ht => ⟨fun a ha => (by cases ha), fun c n v hn3 => ⟨?_, ?_⟩⟩, ⟨rfl, rfl, by omega, ⟨rfl, fun t ht => ⟨?_, fun a ha => (by cases ha)⟩⟩, by omega, fun u hu => Nat.le_refl 0, fun u _ hu => ?_⟩, hZ⟩
  · rintro ⟨a, ha, -⟩
    cases ha
  · rintro ⟨j, hj, -⟩
    have hj : j < bp_cn g' t := hj
    rw [hn t ht] at hj
    omega
  · show g t < 0
    rw [hg t ht]
    decide
  · show g' u = nI (bp_cn g' u) ∧ bp_cn g' u ≤ 0
    rw [hn u hu]
    exact ⟨hg' u hu, Nat.le_refl 0⟩
theorem bs_status {a : Int32} (h : bs_all σ μ T V Ls R B) (hx : σ = σ' ∧ bp_pick T a (r = -1) (fun t => r = σ 25 t)) (hm : μ = μ' ∧ bp_pick T a (r' = -1) (fun t => r' = μ 7 t)) : r = r' ∧ bs_sim σ' μ' (V + 1) := by
  have hT12 : T ≤ 12 := h.1.2.2.2.2.2.2.2.1
  obtain ⟨rfl, hx⟩ := hx
  obtain ⟨rfl, hm⟩ := hm
  refine bp_pickE (by omega) hx hm ?_ ?_
  · rintro rfl rfl
    exact ⟨rfl, h.sim⟩
  · rintro t ht rfl rfl
    exact ⟨(h.2.2.2.2.2.2.2.1 t (by omega)).1, h.sim⟩
theorem bs_output {a : Int32} (h : bs_all σ μ T V Ls R B) (hx : σ = σ' ∧ bp_pick T a (r = 0) (fun t => r = σ 14 t)) (hm : μ = μ' ∧ bp_pick T a (r' = 0) (fun t => r' = μ 6 t)) : r = r' ∧ bs_sim σ' μ' (V + 1) := by
  have hT12 : T ≤ 12 := h.1.2.2.2.2.2.2.2.1
  obtain ⟨rfl, hx⟩ := hx
  obtain ⟨rfl, hm⟩ := hm
  refine bp_pickE (by omega) hx hm ?_ ?_
  · rintro rfl rfl
    exact ⟨rfl, h.sim⟩
  · rintro t ht rfl rfl
    exact ⟨(h.2.1 t (by omega)).1, h.sim⟩
theorem bs_executed (h : bs_all σ μ T V Ls R B) (hx : σ = σ' ∧ r = σ 27 0) (hm : μ = μ' ∧ r' = μ 13 0) : r = r' ∧ bs_sim σ' μ' (V + 1) := by
  obtain ⟨rfl, rfl⟩ := hx
  obtain ⟨rfl, rfl⟩ := hm
  exact ⟨h.2.2.2.2.2.2.2.2, h.sim⟩
theorem bs_needed {a : Int32} (h : bs_all σ μ T V Ls R B) (hx : σ = σ' ∧ bp_pick T a (r = -1) (fun t => r = bp_pc (bp_need (σ 6) (σ 7) t) 12)) (hm : μ = μ' ∧ bp_pick T a (r' = -1) (fun t => r' = bp_pc (bp_need (μ 4) (μ 5) t) 12)) : r = r' ∧ bs_sim σ' μ' (V + 1) := by
  have hT12 : T ≤ 12 := h.1.2.2.2.2.2.2.2.1
  obtain ⟨rfl, hx⟩ := hx
  obtain ⟨rfl, hm⟩ := hm
  refine bp_pickE (by omega) hx hm ?_ ?_
  · rintro rfl rfl
    exact ⟨rfl, h.sim⟩
  · rintro t ht rfl rfl
    obtain ⟨a0, a4, a5, a6, a7, -⟩ := h.1
    exact ⟨by rw [a6, a7], h.sim⟩
/-- the two solutions are one -/
theorem bs_now {w w' : Nat → Int32} (hA : bs_A σ μ T) (h : bp_now (σ 0) (σ 4) (σ 5) (σ 6) (σ 7) w T) (h' : bp_now (μ 0) (μ 2) (μ 3) (μ 4) (μ 5) w' T) : ∀ t, t < T → w t = w' t := by
  obtain ⟨a0, a4, a5, a6, a7, -, -, hT12, hok, -⟩ := hA
  rw [← a0, ← a4, ← a5, ← a6, ← a7] at h'
  exact bp_now_uniq hok hT12 h h'
theorem bs_fresh {a : Int32} (h : bs_all σ μ T V Ls R B) (hx : bp_pick T a (r = 0 ∧ σ = σ') (fun t => ∃ w g : Nat → Int32, bp_now (σ 0) (σ 4) (σ 5) (σ 6) (σ 7) w T ∧ r = w t ∧ bg_U (bg_U σ 26 w) 24 g = σ')) (hm : bp_pick T a (r' = 0 ∧ μ = μ') (fun t => ∃ w : Nat → Int32, bp_now (μ 0) (μ 2) (μ 3) (μ 4) (μ 5) w T ∧ r' = w t ∧ bg_U μ 14 w = μ')) : r = r' ∧ bs_sim σ' μ' (V + 1) := by
  have hT12 : T ≤ 12 := h.1.2.2.2.2.2.2.2.1
  refine bp_pickE (by omega) hx hm ?_ ?_
  · rintro ⟨rfl, rfl⟩ ⟨rfl, rfl⟩
    exact ⟨rfl, h.sim⟩
  · rintro t ht ⟨w, g, hw, rfl, rfl⟩ ⟨w', hw', rfl, rfl⟩
    exact ⟨bs_now h.1 hw hw' t ht, T, V, Ls, R, B, by omega, h⟩
/-- values by either solution are alike -/
theorem bs_vl {w w' : Nat → Int32} {t : Nat} (hA : bs_A σ μ T) (ht : t < T) (hw : ∀ t, t < T → w t = w' t) : ∀ i, i < bp_cn (σ 6) t → bp_vl (σ 0) (σ 7) w t i = bp_vl (σ 0) (σ 7) w' t i := by
  obtain ⟨-, -, -, -, -, -, -, hT12, hok, -⟩ := hA
  intro i hi
  exact bp_vl_ext ((hok t (by omega)).2.2 i hi).2 (fun j hj => hw j (by omega))
theorem bx_lastv_ext {t : Nat} {v v' : Nat → Int32} (h : ∀ i, i < bp_cn (σ 6) t → v i = v' i) : bx_lastv σ t v ↔ bx_lastv σ t v' := by
  constructor
  · rintro ⟨h1, h2, h3, h4⟩
    exact ⟨h1, h2, h3, fun i hi => (h4 i hi).trans (h i hi)⟩
  · rintro ⟨h1, h2, h3, h4⟩
    exact ⟨h1, h2, h3, fun i hi => (h4 i hi).trans (h i hi).symm⟩
theorem bx_inv_ext {t : Nat} {L : List Nat} {v v' : Nat → Int32} (h : ∀ i, i < bp_cn (σ 6) t → v i = v' i) : bx_inv σ t L v ↔ bx_inv σ t L v' := by
  have e : bp_hs (σ 5 t) (σ 6 t) v (bp_cn (σ 6) t) = bp_hs (σ 5 t) (σ 6 t) v' (bp_cn (σ 6) t) := bp_hs_ext _ h
  constructor
  · rintro ⟨a, ha, h1, h2, h3, h4⟩
    exact ⟨a, ha, h1.trans e, h2, h3, fun i hi => (h4 i hi).trans (h i hi)⟩
  · rintro ⟨a, ha, h1, h2, h3, h4⟩
    exact ⟨a, ha, h1.trans e.symm, h2, h3, fun i hi => (h4 i hi).trans (h i hi).symm⟩
theorem bs_work {a : Int32} (h : bs_all σ μ T V Ls R B) (hx : bp_pick T a (r = -1 ∧ σ = σ') (fun t => ∃ w g : Nat → Int32, bp_now (σ 0) (σ 4) (σ 5) (σ 6) (σ 7) w T ∧ bp_ct (bx_wp σ Ls (bp_need (σ 6) (σ 7) t) w) T r ∧ bg_U (bg_U σ 26 w) 24 g = σ')) (hm : bp_pick T a (r' = -1 ∧ μ = μ') (fun t => ∃ w : Nat → Int32, bp_now (μ 0) (μ 2) (μ 3) (μ 4) (μ 5) w T ∧ bp_ct (bm_wp (bg_U μ 14 w) (bp_need (μ 4) (μ 5) t)) T r' ∧ bg_U μ 14 w = μ')) : r = r' ∧ bs_sim σ' μ' (V + 1) := by
  have hT12 : T ≤ 12 := h.1.2.2.2.2.2.2.2.1
  refine bp_pickE (by omega) hx hm ?_ ?_
  · rintro ⟨rfl, rfl⟩ ⟨rfl, rfl⟩
    exact ⟨rfl, h.sim⟩
  · rintro t ht ⟨w, g, hw, hc, rfl⟩ ⟨w', hw', hc', rfl⟩
    obtain ⟨hA, hO, hL, hV, hI, hE, hC, hZ⟩ := id h
    have hww := bs_now hA hw hw'
    have hA' := id hA
    obtain ⟨-, -, -, a6, a7, -⟩ := hA'
    rw [← a6, ← a7] at hc'
    refine ⟨bp_ct_eq T (fun u hu => ?_) hc hc', T, V, Ls, R, B, by omega, h⟩
    have hv := bs_vl hA hu hww
    have k1 := (bx_lastv_ext hv).trans (bs_last (μ := bg_U μ 14 w') hA hO hL (by omega)).symm
    have k2 := (bx_inv_ext (L := Ls u) hv).trans (bs_in (μ := bg_U μ 14 w') hA hE (by omega)).symm
    unfold bx_wp bm_wp
    rw [k1, k2]
theorem bs_stale (h : bs_all σ μ T V Ls R B) (hx : ∃ w g : Nat → Int32, bp_now (σ 0) (σ 4) (σ 5) (σ 6) (σ 7) w T ∧ bp_ct (fun u => ¬ bx_lastv σ u (bp_vl (σ 0) (σ 7) w u)) T r ∧ bg_U (bg_U σ 26 w) 24 g = σ') (hm : ∃ w : Nat → Int32, bp_now (μ 0) (μ 2) (μ 3) (μ 4) (μ 5) w T ∧ bp_ct (fun u => ¬ bm_last (bg_U μ 14 w) u) T r' ∧ bg_U μ 14 w = μ') : r = r' ∧ bs_sim σ' μ' (V + 1) := by
  have hT12 : T ≤ 12 := h.1.2.2.2.2.2.2.2.1
  obtain ⟨w, g, hw, hc, rfl⟩ := hx
  obtain ⟨w', hw', hc', rfl⟩ := hm
  obtain ⟨hA, hO, hL, hV, hI, hE, hC, hZ⟩ := id h
  have hww := bs_now hA hw hw'
  refine ⟨bp_ct_eq T (fun u hu => ?_) hc hc', T, V, Ls, R, B, by omega, h⟩
  have hv := bs_vl hA hu hww
  have k1 := (bx_lastv_ext hv).trans (bs_last (μ := bg_U μ 14 w') hA hO hL (by omega)).symm
  exact not_congr k1
end OPS
end
section
/-! THE PLAIN LAW: build -/
set_option maxRecDepth 100000
def bs_cap (t B u : Nat) : Nat := if u < t then B + 1 else B
/-- the tie in the middle of a build: tasks below t are handled -/
def bs_mid (m : Int32) (T V B : Nat) (w : Nat → Int32) (d : Int32) (t : Nat) (σ μ : bg_S) (Ls : Nat → List Nat) (R : Nat) (n : Int32) : Prop :=
  (bs_A σ μ T ∧ bs_O σ μ T ∧ bs_L σ μ ∧ bs_V σ V ∧ bs_I σ ∧ bs_E σ μ Ls) ∧ (bx_S σ Ls R ∧ R ≤ 12 * B + t ∧ (∀ u, u < 12 → (Ls u).length ≤ bs_cap t B u) ∧ ∀ u, u < 12 → μ 10 u = nI (bp_cn (μ 10) u) ∧ bp_cn (μ 10) u ≤ bs_cap t B u) ∧ (σ 16 0 = nI (B + 1) ∧ μ 12 0 = nI (B + 1) ∧ μ 14 = w) ∧ (∀ u, t ≤ u → u < 12 → σ 13 u < nI V) ∧ (∀ u, u < t → bp_bit m u → σ 14 u = w u) ∧ ((∀ u, u < t → σ 25 u = μ 7 u) ∧ (∀ u, T ≤ u → u < 12 → μ 7 u = 0)) ∧ (μ 13 0 = d + n ∧ σ 27 0 = d) ∧ bp_now (σ 0) (σ 4) (σ 5) (σ 6) (σ 7) w T ∧ ∀ u i, u < 12 → bp_bit m u → i < bp_cn (σ 6) u → 8 ≤ bp_fr (σ 7) u i → bp_bit m (bp_fr (σ 7) u i - 8)
section BLD
variable {σ μ : bg_S} {T V t : Nat} {w g9 : Nat → Int32} {Ls : Nat → List Nat}
theorem bm_is_other {f g : Nat → Int32} {u t n : Nat} {c : Int32} {v : Nat → Int32} (h : bm_is f (u * 5) c n v) (e : u ≠ t) (hg : ∀ j, (j < t * 5 ∨ t * 5 + 5 ≤ j) → g j = f j) : bm_is g (u * 5) c n v :=
  bm_is_move h (fun i hi => hg _ (by omega))
/-- a task as it was: x sees it, m writes what stands there -/
theorem bs_same_O (hO : bs_O σ μ T) (ht : t < 12) (h9 : ¬ σ 9 t = 0) (hw : σ 14 t = μ 14 t) : bs_O (bx_see σ t) (bm_fin μ t g9) T := by
  intro u hu
  obtain ⟨o1, o2, o3, o4⟩ := hO u hu
  refine ⟨?_, ?_, o3, o4⟩
  · show σ 14 u = upd (μ 6) t (μ 14 t) u
    by_cases e : u = t
    · subst e
      rw [pk_us, hw]
    · rw [pk_un e]
      exact o1
  · show σ 9 u = upd (μ 8) t 1 u
    by_cases e : u = t
    · subst e
      rw [pk_us]
      rcases o3 with h | h
      · exact absurd h h9
      · exact h
    · rw [pk_un e]
      exact o2
theorem bs_same_L (hL : bs_L σ μ) (ht : t < 12) (hl : bx_lastv σ t (bp_vl (σ 0) (σ 7) (μ 14) t)) (hg : bm_is g9 (t * 5) (σ 5 t) (bp_cn (σ 6) t) (bp_vl (σ 0) (σ 7) (μ 14) t)) (hg2 : ∀ j, (j < t * 5 ∨ t * 5 + 5 ≤ j) → g9 j = μ 9 j) : bs_L (bx_see σ t) (bm_fin μ t g9) := by
  intro u hu h9
  obtain ⟨l1, l2, l3, l4⟩ := hL u hu h9
  by_cases e : u = t
  · subst e
    obtain ⟨-, e1, e2, e3⟩ := hl
    have e4 : bp_cn (σ 11) u = bp_cn (σ 6) u := by unfold bp_cn; rw [e2]
    refine ⟨?_, l2, l3, l4⟩
    show bm_is g9 (u * 5) (σ 10 u) (bp_cn (σ 11) u) (fun i => σ 12 (u * 3 + i))
    rw [e1, e4]
    exact bm_is_congr hg (fun i hi => (e3 i hi).symm)
  · exact ⟨bm_is_other l1 e hg2, l2, l3, l4⟩
theorem bs_see_V (hV : bs_V σ V) : bs_V (bx_see σ t) V := by
  obtain ⟨v2, v1, v3⟩ := hV
  refine ⟨v2, v1, fun u hu => ⟨(v3 u hu).1, ?_, (v3 u hu).2.2⟩⟩
  show upd (σ 13) t (σ 2 0) u ≤ nI V
  by_cases e : u = t
  · subst e
    rw [pk_us, v2]
    exact Int32.le_refl _
  · rw [pk_un e]
    exact (v3 u hu).2.1
theorem bs_same_I (hI : bs_I σ) (hl : bx_lastv σ t (bp_vl (σ 0) (σ 7) (σ 14) t)) : bs_I (bx_see σ t) := by
  intro u hu h9 h8
  by_cases e : u = t
  · subst e
    exact ⟨hl.2.1, hl.2.2.1, fun i hi _ => hl.2.2.2 i hi⟩
  · have h8 : σ 8 u ≤ upd (σ 13) t (σ 2 0) u := h8
    rw [pk_un e] at h8
    obtain ⟨i1, i2, i3⟩ := hI u hu h9 h8
    refine ⟨i1, i2, fun i hi hc => ?_⟩
    have hc : bx_chg σ u i ≤ upd (σ 13) t (σ 2 0) u := hc
    rw [pk_un e] at hc
    exact i3 i hi hc
theorem bs_see_lt (ht : ∀ u, t ≤ u → u < 12 → σ 13 u < nI V) : ∀ u, t + 1 ≤ u → u < 12 → bx_see σ t 13 u < nI V := by
  intro u hu hu2
  show upd (σ 13) t (σ 2 0) u < nI V
  rw [pk_un (by omega)]
  exact ht u (by omega) hu2
/-- bs_I but for t -/
def bs_Iu (σ : bg_S) (t : Nat) : Prop := ∀ u, u < 12 → u ≠ t → ¬ σ 9 u = 0 → σ 8 u ≤ σ 13 u → σ 10 u = σ 5 u ∧ σ 11 u = σ 6 u ∧ ∀ i, i < bp_cn (σ 6) u → bx_chg σ u i ≤ σ 13 u → σ 12 (u * 3 + i) = bp_vl (σ 0) (σ 7) (σ 14) u i
theorem bs_see_I (hI : bs_I σ) : bs_Iu (bx_see σ t) t := by
  intro u hu e h9 h8
  have h8 : σ 8 u ≤ upd (σ 13) t (σ 2 0) u := h8
  rw [pk_un e] at h8
  obtain ⟨i1, i2, i3⟩ := hI u hu h9 h8
  refine ⟨i1, i2, fun i hi hc => ?_⟩
  have hc : bx_chg σ u i ≤ upd (σ 13) t (σ 2 0) u := hc
  rw [pk_un e] at hc
  exact i3 i hi hc
/-- a task anew: x remembers, its output comes in. S: x as it was seen, with the record at hand; f: the output -/
theorem bs_new {S : bg_S} {g2 : Nat → Int32} (hA : bs_A S μ T) (hO : bs_O S μ T) (hL : bs_L S μ) (hV : bs_V S V) (hI : bs_Iu S t) (ht : t < T) (hlt : ∀ u, t + 1 ≤ u → u < 12 → S 13 u < nI V)
    (hv : ∀ i, i < bp_cn (S 6) t → S 24 i = bp_vl (S 0) (S 7) (S 14) t i) (hv2 : ∀ i, i < bp_cn (S 6) t → S 24 i = bp_vl (S 0) (S 7) (μ 14) t i) (hw : μ 14 t = bp_res (S 4 t) (S 5 t) (bp_vl (S 0) (S 7) (μ 14) t) (bp_cn (S 6) t))
    (h2 : ∀ i, i < bp_cn (S 6) t → g2 (t * 3 + i) = S 24 i) (h3 : ∀ j, (j < t * 3 ∨ t * 3 + 3 ≤ j) → g2 j = S 12 j)
    (hg : bm_is g9 (t * 5) (S 5 t) (bp_cn (S 6) t) (bp_vl (S 0) (S 7) (μ 14) t)) (hg2 : ∀ j, (j < t * 5 ∨ t * 5 + 5 ≤ j) → g9 j = μ 9 j) :
    bs_O (bx_fin (bx_rem S t g2) t) (bm_fin μ t g9) T ∧ bs_L (bx_fin (bx_rem S t g2) t) (bm_fin μ t g9) ∧ bs_V (bx_fin (bx_rem S t g2) t) V ∧ bs_I (bx_fin (bx_rem S t g2) t) ∧ bx_fin (bx_rem S t g2) t 14 t = μ 14 t := by
  obtain ⟨-, -, -, -, -, -, -, hT12, hok, -⟩ := hA
  have ht12 : t < 12 := by omega
  obtain ⟨hc, hc3, hfr⟩ := hok t ht12
  have hrs : bx_rs (bx_rem S t g2) t = μ 14 t := by
    rw [hw]
    exact bp_res_ext hv2
  have e14 : ∀ u, bx_fin (bx_rem S t g2) t 14 u = upd (S 14) t (μ 14 t) u := fun u => by
    show upd (S 14) t (bx_rs (bx_rem S t g2) t) u = _
    rw [hrs]
  have e15 : ∀ u, bx_fin (bx_rem S t g2) t 15 u = (if μ 14 t = S 14 t then S 15 u else upd (S 15) t (nI V) u) := fun u => by
    show (if bx_rs (bx_rem S t g2) t = S 14 t then S 15 else upd (S 15) t (S 2 0)) u = _
    rw [hrs, hV.1]
    by_cases c : μ 14 t = S 14 t
    · rw [if_pos c, if_pos c]
    · rw [if_neg c, if_neg c]
  refine ⟨fun u hu => ?_, fun u hu h9 => ?_, ?_, fun u hu h9 h8 => ?_, ?_⟩
  · obtain ⟨o1, o2, o3, o4⟩ := hO u hu
    refine ⟨?_, ?_, ?_, ?_⟩
    · rw [e14]
      show upd (S 14) t (μ 14 t) u = upd (μ 6) t (μ 14 t) u
      by_cases e : u = t
      · subst e
        rw [pk_us, pk_us]
      · rw [pk_un e, pk_un e]
        exact o1
    · show upd (S 9) t 1 u = upd (μ 8) t 1 u
      by_cases e : u = t
      · subst e
        rw [pk_us, pk_us]
      · rw [pk_un e, pk_un e]
        exact o2
    · show upd (S 9) t 1 u = 0 ∨ upd (S 9) t 1 u = 1
      by_cases e : u = t
      · subst e
        rw [pk_us]
        exact Or.inr rfl
      · rw [pk_un e]
        exact o3
    · intro q
      show upd (S 9) t 1 u = 0
      rw [pk_un (by omega)]
      exact o4 q
  · have h9 : ¬ upd (S 9) t 1 u = 0 := h9
    rw [e14]
    show bm_is g9 (u * 5) (upd (S 10) t (S 5 t) u) (bp_cn (upd (S 11) t (S 6 t)) u) (fun i => g2 (u * 3 + i)) ∧ upd (S 11) t (S 6 t) u = nI (bp_cn (upd (S 11) t (S 6 t)) u) ∧ bp_cn (upd (S 11) t (S 6 t)) u ≤ 3 ∧ upd (S 14) t (μ 14 t) u = bp_res (S 4 u) (upd (S 10) t (S 5 t) u) (fun i => g2 (u * 3 + i)) (bp_cn (upd (S 11) t (S 6 t)) u)
    by_cases e : u = t
    · subst e
      have e4 : bp_cn (upd (S 11) u (S 6 u)) u = bp_cn (S 6) u := bp_cn_at pk_us
      rw [e4, pk_us, pk_us, pk_us]
      refine ⟨bm_is_congr hg (fun i hi => ?_), hc, hc3, ?_⟩
      · exact ((h2 i hi).trans (hv2 i hi)).symm
      · rw [hw]
        exact bp_res_ext (fun i hi => ((h2 i hi).trans (hv2 i hi)).symm)
    · rw [pk_un e] at h9
      obtain ⟨l1, l2, l3, l4⟩ := hL u hu h9
      have e4 : bp_cn (upd (S 11) t (S 6 t)) u = bp_cn (S 11) u := bp_cn_at (pk_un e)
      rw [e4, pk_un e, pk_un e, pk_un e]
      refine ⟨bm_is_congr (bm_is_other l1 e hg2) (fun i hi => (h3 _ (by omega)).symm), l2, l3, ?_⟩
      rw [l4]
      exact bp_res_ext (fun i hi => (h3 _ (by omega)).symm)
  · obtain ⟨v2, v1, v3⟩ := hV
    refine ⟨v2, v1, fun u hu => ⟨(v3 u hu).1, (v3 u hu).2.1, ?_⟩⟩
    rw [e15]
    split
    · exact (v3 u hu).2.2
    · by_cases e : u = t
      · subst e
        rw [pk_us]
        exact Int32.le_refl _
      · rw [pk_un e]
        exact (v3 u hu).2.2
  · have h9 : ¬ upd (S 9) t 1 u = 0 := h9
    have h8 : S 8 u ≤ S 13 u := h8
    show upd (S 10) t (S 5 t) u = S 5 u ∧ upd (S 11) t (S 6 t) u = S 6 u ∧ ∀ i, i < bp_cn (S 6) u → (if bp_fr (S 7) u i < 8 then S 1 (bp_fr (S 7) u i) else bx_fin (bx_rem S t g2) t 15 (bp_fr (S 7) u i - 8)) ≤ S 13 u → g2 (u * 3 + i) = if bp_fr (S 7) u i < 8 then S 0 (bp_fr (S 7) u i) else bx_fin (bx_rem S t g2) t 14 (bp_fr (S 7) u i - 8)
    by_cases e : u = t
    · subst e
      rw [pk_us, pk_us]
      refine ⟨rfl, rfl, fun i hi _ => ?_⟩
      rw [h2 i hi, hv i hi, e14]
      have := (hfr i hi).2
      unfold bp_vl
      by_cases hf : bp_fr (S 7) u i < 8
      · rw [if_pos hf, if_pos hf]
      · rw [if_neg hf, if_neg hf, pk_un (by omega)]
    · rw [pk_un e] at h9
      obtain ⟨i1, i2, i3⟩ := hI u hu e h9 h8
      obtain ⟨-, hu3, hfu⟩ := hok u hu
      rw [pk_un e, pk_un e]
      refine ⟨i1, i2, fun i hi hch => ?_⟩
      have hfi := (hfu i hi).2
      rw [h3 _ (by omega)]
      by_cases hf : bp_fr (S 7) u i < 8
      · rw [if_pos hf] at hch ⊢
        have := i3 i hi (by unfold bx_chg; rw [if_pos hf]; exact hch)
        unfold bp_vl at this
        rw [if_pos hf] at this
        exact this
      · rw [if_neg hf] at hch ⊢
        rw [e15] at hch
        rw [e14]
        have key : S 15 (bp_fr (S 7) u i - 8) ≤ S 13 u → S 12 (u * 3 + i) = S 14 (bp_fr (S 7) u i - 8) := fun q => by
          have := i3 i hi (by unfold bx_chg; rw [if_neg hf]; exact q)
          unfold bp_vl at this
          rw [if_neg hf] at this
          exact this
        by_cases ec : bp_fr (S 7) u i - 8 = t
        · rw [ec] at hch key ⊢
          rw [pk_us]
          by_cases c : μ 14 t = S 14 t
          · rw [if_pos c] at hch
            rw [c]
            exact key hch
          · rw [if_neg c, pk_us] at hch
            exact absurd (hlt u (by omega) hu) (Int32.not_lt.mpr hch)
        · rw [pk_un ec]
          refine key ?_
          split at hch
          · exact hch
          · rw [pk_un ec] at hch
            exact hch
  · rw [e14, pk_us]
/-- both stores take the same record in -/
theorem bs_keep {S : bg_S} {R s : Nat} {g3 g11 v : Nat → Int32} (hE : bs_E S μ Ls) (hS : bx_S S Ls R) (ht : t < 12) (hs : s = bp_cn (μ 10) t) (hs2 : s < 40) (hsu : ∀ u, u < 12 → bp_cn (μ 10) u ≤ 40) (hc : S 6 t = nI (bp_cn (S 6) t)) (hc3 : bp_cn (S 6) t ≤ 3)
    (hv : ∀ i, i < bp_cn (S 6) t → S 24 i = v i) (h3 : ∀ i, i < bp_cn (S 6) t → g3 (R * 3 + i) = S 24 i) (h4 : ∀ j, j < R * 3 → g3 j = S 23 j)
    (hg : bm_is g11 ((t * 40 + s) * 5) (S 5 t) (bp_cn (S 6) t) v) (hg2 : ∀ j, (j < (t * 40 + s) * 5 ∨ (t * 40 + s) * 5 + 5 ≤ j) → g11 j = μ 11 j) {μ' : bg_S} (m10 : μ' 10 = upd (μ 10) t (nI (s + 1))) (m11 : μ' 11 = g11) : bs_E (bx_keep S t R g3) μ' (bx_push Ls t R) := by
  have c10 : ∀ u, u ≠ t → bp_cn (μ' 10) u = bp_cn (μ 10) u := fun u hu => bp_cn_at (by rw [m10, pk_un hu])
  have c10t : bp_cn (μ' 10) t = s + 1 := by
    show (μ' 10 t).toNatClampNeg = _
    rw [m10, pk_us, nI_clamp (by omega)]
  have hold : ∀ u, u < 12 → ∀ a, a ∈ Ls u → ∀ (c : Int32) (n : Nat) (v : Nat → Int32), n ≤ 3 → (bx_is (bx_keep S t R g3) a c n v ↔ bx_is S a c n v) := by
    intro u hu a ha c n v hn
    have hlt := (hS.2 u hu).2 a ha
    show (upd (S 21) R (S 5 t) a = c ∧ upd (S 22) R (S 6 t) a = nI n ∧ ∀ i, i < n → g3 (a * 3 + i) = v i) ↔ _
    rw [pk_un (by omega), pk_un (by omega)]
    constructor
    · rintro ⟨e1, e2, e3⟩
      exact ⟨e1, e2, fun i hi => (h4 _ (by omega)).symm.trans (e3 i hi)⟩
    · rintro ⟨e1, e2, e3⟩
      exact ⟨e1, e2, fun i hi => (h4 _ (by omega)).trans (e3 i hi)⟩
  have hval : ∀ u, u < 12 → ∀ a, a ∈ Ls u → bx_keep S t R g3 22 a = nI (bp_cn (bx_keep S t R g3 22) a) ∧ bp_cn (bx_keep S t R g3 22) a ≤ 3 ∧ bx_keep S t R g3 20 a = bp_hs (bx_keep S t R g3 21 a) (bx_keep S t R g3 22 a) (fun i => bx_keep S t R g3 23 (a * 3 + i)) (bp_cn (bx_keep S t R g3 22) a) := by
    intro u hu a ha
    have hlt := (hS.2 u hu).2 a ha
    obtain ⟨q1, q2, q3⟩ := (hE u hu).1 a ha
    have e4 : bp_cn (upd (S 22) R (S 6 t)) a = bp_cn (S 22) a := bp_cn_at (pk_un (by omega))
    show upd (S 22) R (S 6 t) a = nI (bp_cn (upd (S 22) R (S 6 t)) a) ∧ bp_cn (upd (S 22) R (S 6 t)) a ≤ 3 ∧ upd (S 20) R (bx_hh S t) a = bp_hs (upd (S 21) R (S 5 t) a) (upd (S 22) R (S 6 t) a) (fun i => g3 (a * 3 + i)) (bp_cn (upd (S 22) R (S 6 t)) a)
    rw [e4, pk_un (by omega), pk_un (by omega), pk_un (by omega)]
    refine ⟨q1, q2, ?_⟩
    rw [q3]
    exact bp_hs_ext _ (fun i hi => (h4 _ (by omega)).symm)
  intro u hu
  unfold bx_push
  by_cases e : u = t
  · subst e
    rw [if_pos rfl]
    have eR : bp_cn (upd (S 22) R (S 6 u)) R = bp_cn (S 6) u := by
      unfold bp_cn
      rw [pk_us]
    refine ⟨fun a ha => ?_, fun c n v' hn => ?_⟩
    · rcases List.mem_cons.mp ha with ea | ea
      · rw [ea]
        show upd (S 22) R (S 6 u) R = nI (bp_cn (upd (S 22) R (S 6 u)) R) ∧ bp_cn (upd (S 22) R (S 6 u)) R ≤ 3 ∧ upd (S 20) R (bx_hh S u) R = bp_hs (upd (S 21) R (S 5 u) R) (upd (S 22) R (S 6 u) R) (fun i => g3 (R * 3 + i)) (bp_cn (upd (S 22) R (S 6 u)) R)
        rw [eR, pk_us, pk_us, pk_us]
        exact ⟨hc, hc3, bp_hs_ext _ (fun i hi => (h3 i hi).symm)⟩
      · exact hval u hu a ea
    · rw [c10t, m11]
      constructor
      · rintro ⟨a, ha, his⟩
        rcases List.mem_cons.mp ha with ea | ea
        · subst ea
          have his : upd (S 21) a (S 5 u) a = c ∧ upd (S 22) a (S 6 u) a = nI n ∧ ∀ i, i < n → g3 (a * 3 + i) = v' i := his
          rw [pk_us, pk_us] at his
          obtain ⟨e1, e2, e3⟩ := his
          have en : bp_cn (S 6) u = n := (nI_eq (by omega) (by omega)).mp (hc.symm.trans e2)
          rw [en, e1] at hg
          exact ⟨s, by omega, bm_is_congr hg (fun i hi => ((hv i (by omega)).symm.trans (h3 i (by omega)).symm).trans (e3 i hi))⟩
        · obtain ⟨j, hj, hjs⟩ := ((hE u hu).2 c n v' hn).mp ⟨a, ea, (hold u hu a ea c n v' hn).mp his⟩
          refine ⟨j, by omega, bm_is_move hjs (fun i hi => hg2 _ ?_)⟩
          omega
      · rintro ⟨j, hj, hjs⟩
        by_cases ej : j = s
        · subst ej
          obtain ⟨e1, e2, e3⟩ := bm_is_uniq hc3 hn hg hjs
          refine ⟨R, List.mem_cons_self, ?_⟩
          show upd (S 21) R (S 5 u) R = c ∧ upd (S 22) R (S 6 u) R = nI n ∧ ∀ i, i < n → g3 (R * 3 + i) = v' i
          rw [pk_us, pk_us]
          exact ⟨e1, by rw [hc, e2], fun i hi => ((h3 i (by omega)).trans (hv i (by omega))).trans (e3 i (by omega))⟩
        · have hj2 : j < s := by omega
          obtain ⟨a, ha, his⟩ := ((hE u hu).2 c n v' hn).mpr ⟨j, by omega, bm_is_move hjs (fun i hi => (hg2 _ (by omega)).symm)⟩
          exact ⟨a, List.mem_cons_of_mem _ ha, (hold u hu a ha c n v' hn).mpr his⟩
  · rw [if_neg e]
    refine ⟨fun a ha => hval u hu a ha, fun c n v' hn => ?_⟩
    have hju := hsu u hu
    rw [c10 u e, m11]
    constructor
    · rintro ⟨a, ha, his⟩
      obtain ⟨j, hj, hjs⟩ := ((hE u hu).2 c n v' hn).mp ⟨a, ha, (hold u hu a ha c n v' hn).mp his⟩
      exact ⟨j, hj, bm_is_move hjs (fun i hi => hg2 _ (by omega))⟩
    · rintro ⟨j, hj, hjs⟩
      obtain ⟨a, ha, his⟩ := ((hE u hu).2 c n v' hn).mpr ⟨j, hj, bm_is_move hjs (fun i hi => (hg2 _ (by omega)).symm)⟩
      exact ⟨a, ha, (hold u hu a ha c n v' hn).mpr his⟩
end BLD
end
section
/-! THE PLAIN LAW: build, step by step -/
set_option maxRecDepth 100000
theorem bs_cap_le {t B u : Nat} : bs_cap t B u ≤ bs_cap (t + 1) B u := by
  unfold bs_cap
  split <;> split <;> omega
theorem bs_cap_t {t B : Nat} : bs_cap t B t = B := by
  unfold bs_cap
  rw [if_neg (by omega)]
theorem bs_cap_s {t B : Nat} : bs_cap (t + 1) B t = B + 1 := by
  unfold bs_cap
  rw [if_pos (by omega)]
theorem bs_cap_B {t B u : Nat} : bs_cap t B u ≤ B + 1 := by
  unfold bs_cap
  split <;> omega
section STP
variable {m d n : Int32} {T V B t R : Nat} {w : Nat → Int32} {σ μ : bg_S} {Ls : Nat → List Nat}
/-- values by x's outputs and by now are alike for a needed task -/
theorem bs_mid_vl (h : bs_mid m T V B w d t σ μ Ls R n) (ht : t < 12) (hb : bp_bit m t) : ∀ i, i < bp_cn (σ 6) t → bp_vl (σ 0) (σ 7) (σ 14) t i = bp_vl (σ 0) (σ 7) w t i := by
  obtain ⟨⟨hA, -⟩, -, -, -, hout, -, -, -, hcl⟩ := h
  obtain ⟨-, -, -, -, -, -, -, hT12, hok, -⟩ := hA
  intro i hi
  have hf := ((hok t ht).2.2 i hi).2
  unfold bp_vl
  by_cases c : bp_fr (σ 7) t i < 8
  · rw [if_pos c, if_pos c]
  · rw [if_neg c, if_neg c]
    exact hout _ (by omega) (hcl t i ht hb hi (by omega))
theorem bs_step_no (h : bs_mid m T V B w d t σ μ Ls R n) (ht : t < T) (hb : ¬ bp_bit m t) : bs_mid m T V B w d (t + 1) (bg_U σ 25 (upd (σ 25) t 0)) (bg_U μ 7 (upd (μ 7) t 0)) Ls R n := by
  obtain ⟨hG, ⟨s1, s2, s3, s4⟩, hB, hlt, hout, ⟨z1, z2⟩, hd, hN⟩ := h
  refine ⟨hG, ⟨s1, by omega, fun u hu => Nat.le_trans (s3 u hu) bs_cap_le, fun u hu => ⟨(s4 u hu).1, Nat.le_trans (s4 u hu).2 bs_cap_le⟩⟩, hB, fun u hu => hlt u (by omega), fun u hu hb2 => ?_, ⟨fun u hu => ?_, fun u hu hu2 => ?_⟩, hd, hN⟩
  · have e : u ≠ t := fun q => hb (by rw [← q]; exact hb2)
    exact hout u (by omega) hb2
  · show upd (σ 25) t 0 u = upd (μ 7) t 0 u
    by_cases e : u = t
    · subst e
      rw [pk_us, pk_us]
    · rw [pk_un e, pk_un e]
      exact z1 u (by omega)
  · show upd (μ 7) t 0 u = 0
    rw [pk_un (by omega)]
    exact z2 u hu hu2
theorem bs_step_same {g9 : Nat → Int32} (h : bs_mid m T V B w d t σ μ Ls R n) (ht : t < T) (hb : bp_bit m t) (hl : bx_lastv σ t (bp_vl (σ 0) (σ 7) (σ 14) t)) (hg : bm_is g9 (t * 5) (σ 5 t) (bp_cn (σ 6) t) (bp_vl (σ 0) (σ 7) w t)) (hg2 : ∀ j, (j < t * 5 ∨ t * 5 + 5 ≤ j) → g9 j = μ 9 j) :
    bs_mid m T V B w d (t + 1) (bg_U (bx_see σ t) 25 (upd (σ 25) t 1)) (bm_fin (bg_U (bg_U μ 7 (upd (μ 7) t 0)) 7 (upd (upd (μ 7) t 0) t 1)) t g9) Ls R n := by
  have hT12 : T ≤ 12 := h.1.1.2.2.2.2.2.2.2.1
  have ht12 : t < 12 := by omega
  have hv := bs_mid_vl h ht12 hb
  have hlw := (bx_lastv_ext hv).mp hl
  obtain ⟨⟨hA, hO, hL, hV, hI, hE⟩, ⟨s1, s2, s3, s4⟩, ⟨b1, b2, b3⟩, hlt, hout, ⟨z1, z2⟩, hd, hN, hcl⟩ := h
  subst b3
  have hw : σ 14 t = μ 14 t := by
    obtain ⟨-, e1, e2, e3⟩ := hlw
    have e4 : bp_cn (σ 11) t = bp_cn (σ 6) t := by unfold bp_cn; rw [e2]
    rw [(hL t ht12 hl.1).2.2.2, e1, e4, hN t ht]
    exact bp_res_ext e3
  refine ⟨⟨hA, bs_same_O hO ht12 hl.1 hw, bs_same_L hL ht12 hlw hg hg2, bs_see_V hV, bs_same_I hI hl, hE⟩, ⟨s1, by omega, fun u hu => Nat.le_trans (s3 u hu) bs_cap_le, fun u hu => ⟨(s4 u hu).1, Nat.le_trans (s4 u hu).2 bs_cap_le⟩⟩, ⟨b1, b2, rfl⟩, bs_see_lt hlt, fun u hu hb2 => ?_, ⟨fun u hu => ?_, fun u hu hu2 => ?_⟩, hd, hN, hcl⟩
  · by_cases e : u = t
    · subst e
      exact hw
    · exact hout u (by omega) hb2
  · show upd (σ 25) t 1 u = upd (upd (μ 7) t 0) t 1 u
    by_cases e : u = t
    · subst e
      rw [pk_us, pk_us]
    · rw [pk_un e, pk_un e, pk_un e]
      exact z1 u (by omega)
  · show upd (upd (μ 7) t 0) t 1 u = 0
    rw [pk_un (by omega), pk_un (by omega)]
    exact z2 u hu hu2
theorem bs_step_stored {g g2 g9 : Nat → Int32} (h : bs_mid m T V B w d t σ μ Ls R n) (ht : t < T) (hb : bp_bit m t) (hgv : ∀ i, i < bp_cn (σ 6) t → g i = bp_vl (σ 0) (σ 7) (σ 14) t i) (h2 : ∀ i, i < bp_cn (σ 6) t → g2 (t * 3 + i) = g i) (h3 : ∀ j, (j < t * 3 ∨ t * 3 + 3 ≤ j) → g2 j = σ 12 j)
    (hg : bm_is g9 (t * 5) (σ 5 t) (bp_cn (σ 6) t) (bp_vl (σ 0) (σ 7) w t)) (hg2 : ∀ j, (j < t * 5 ∨ t * 5 + 5 ≤ j) → g9 j = μ 9 j) :
    bs_mid m T V B w d (t + 1) (bg_U (bx_fin (bx_rem (bx_see (bg_U σ 24 g) t) t g2) t) 25 (upd (σ 25) t 2)) (bm_fin (bg_U (bg_U μ 7 (upd (μ 7) t 0)) 7 (upd (upd (μ 7) t 0) t 2)) t g9) Ls R n := by
  have hT12 : T ≤ 12 := h.1.1.2.2.2.2.2.2.2.1
  have ht12 : t < 12 := by omega
  have hv := bs_mid_vl h ht12 hb
  obtain ⟨⟨hA, hO, hL, hV, hI, hE⟩, ⟨s1, s2, s3, s4⟩, ⟨b1, b2, b3⟩, hlt, hout, ⟨z1, z2⟩, hd, hN, hcl⟩ := h
  subst b3
  obtain ⟨k1, k2, k3, k4, k5⟩ := bs_new (S := bx_see (bg_U σ 24 g) t) (μ := bg_U (bg_U μ 7 (upd (μ 7) t 0)) 7 (upd (upd (μ 7) t 0) t 2)) (g9 := g9) (g2 := g2) hA hO hL (bs_see_V (σ := bg_U σ 24 g) hV) (bs_see_I (σ := bg_U σ 24 g) hI) ht (bs_see_lt (σ := bg_U σ 24 g) hlt) hgv (fun i hi => (hgv i hi).trans (hv i hi)) (hN t ht) h2 h3 hg hg2
  refine ⟨⟨hA, k1, k2, k3, k4, hE⟩, ⟨s1, by omega, fun u hu => Nat.le_trans (s3 u hu) bs_cap_le, fun u hu => ⟨(s4 u hu).1, Nat.le_trans (s4 u hu).2 bs_cap_le⟩⟩, ⟨b1, b2, rfl⟩, bs_see_lt (σ := bg_U σ 24 g) hlt, fun u hu hb2 => ?_, ⟨fun u hu => ?_, fun u hu hu2 => ?_⟩, hd, hN, hcl⟩
  · by_cases e : u = t
    · subst e
      exact k5
    · show upd (σ 14) t _ u = _
      rw [pk_un e]
      exact hout u (by omega) hb2
  · show upd (σ 25) t 2 u = upd (upd (μ 7) t 0) t 2 u
    by_cases e : u = t
    · subst e
      rw [pk_us, pk_us]
    · rw [pk_un e, pk_un e, pk_un e]
      exact z1 u (by omega)
  · show upd (upd (μ 7) t 0) t 2 u = 0
    rw [pk_un (by omega), pk_un (by omega)]
    exact z2 u hu hu2
theorem bs_step_made {g g2 g3 g9 g11 : Nat → Int32} (hB : B < 40) (h : bs_mid m T V B w d t σ μ Ls R n) (ht : t < T) (hb : bp_bit m t) (hgv : ∀ i, i < bp_cn (σ 6) t → g i = bp_vl (σ 0) (σ 7) (σ 14) t i) (h2 : ∀ i, i < bp_cn (σ 6) t → g2 (t * 3 + i) = g i) (h3 : ∀ j, (j < t * 3 ∨ t * 3 + 3 ≤ j) → g2 j = σ 12 j)
    (h4 : ∀ i, i < bp_cn (σ 6) t → g3 (R * 3 + i) = g i) (h5 : ∀ j, j < R * 3 → g3 j = σ 23 j)
    (hg : bm_is g9 (t * 5) (σ 5 t) (bp_cn (σ 6) t) (bp_vl (σ 0) (σ 7) w t)) (hg2 : ∀ j, (j < t * 5 ∨ t * 5 + 5 ≤ j) → g9 j = μ 9 j)
    (hq : bm_is g11 ((t * 40 + bp_cn (μ 10) t) * 5) (σ 5 t) (bp_cn (σ 6) t) (bp_vl (σ 0) (σ 7) w t)) (hq2 : ∀ j, (j < (t * 40 + bp_cn (μ 10) t) * 5 ∨ (t * 40 + bp_cn (μ 10) t) * 5 + 5 ≤ j) → g11 j = μ 11 j) :
    bs_mid m T V B w d (t + 1) (bg_U (bx_fin (bx_rem (bx_keep (bx_see (bg_U σ 24 g) t) t R g3) t g2) t) 25 (upd (σ 25) t 3)) (bm_fin (bg_U (bg_U (bg_U (bg_U (bg_U μ 7 (upd (μ 7) t 0)) 7 (upd (upd (μ 7) t 0) t 3)) 11 g11) 10 (upd (μ 10) t (nI (bp_cn (μ 10) t + 1)))) 13 (fun _ => μ 13 0 + 1)) t g9) (bx_push Ls t R) (R + 1) (n + 1) := by
  have hT12 : T ≤ 12 := h.1.1.2.2.2.2.2.2.2.1
  have ht12 : t < 12 := by omega
  have hv := bs_mid_vl h ht12 hb
  obtain ⟨⟨hA, hO, hL, hV, hI, hE⟩, ⟨s1, s2, s3, s4⟩, ⟨b1, b2, b3⟩, hlt, hout, ⟨z1, z2⟩, ⟨hd, hd2⟩, hN, hcl⟩ := h
  subst b3
  obtain ⟨hc, hc3, -⟩ := hA.2.2.2.2.2.2.2.2.1 t ht12
  have hst := (s4 t ht12).2
  rw [bs_cap_t] at hst
  have hE2 := bs_keep (S := bx_see (bg_U σ 24 g) t) (μ := μ) (t := t) (g3 := g3) (g11 := g11) (v := bp_vl (σ 0) (σ 7) (μ 14) t) (s := bp_cn (μ 10) t) (R := R) hE s1 ht12 rfl (by omega) (fun u hu => by have := (s4 u hu).2; have := bs_cap_B (t := t) (B := B) (u := u); omega) hc hc3 (fun i hi => (hgv i hi).trans (hv i hi)) h4 h5 hq hq2 (μ' := bm_fin (bg_U (bg_U (bg_U (bg_U (bg_U μ 7 (upd (μ 7) t 0)) 7 (upd (upd (μ 7) t 0) t 3)) 11 g11) 10 (upd (μ 10) t (nI (bp_cn (μ 10) t + 1)))) 13 (fun _ => μ 13 0 + 1)) t g9) rfl rfl
  obtain ⟨k1, k2, k3, k4, k5⟩ := bs_new (S := bx_keep (bx_see (bg_U σ 24 g) t) t R g3) (μ := bg_U (bg_U (bg_U (bg_U (bg_U μ 7 (upd (μ 7) t 0)) 7 (upd (upd (μ 7) t 0) t 3)) 11 g11) 10 (upd (μ 10) t (nI (bp_cn (μ 10) t + 1)))) 13 (fun _ => μ 13 0 + 1)) (g9 := g9) (g2 := g2) hA hO hL (bs_see_V (σ := bg_U σ 24 g) hV) (bs_see_I (σ := bg_U σ 24 g) hI) ht (bs_see_lt (σ := bg_U σ 24 g) hlt) hgv (fun i hi => (hgv i hi).trans (hv i hi)) (hN t ht) h2 h3 hg hg2
  refine ⟨⟨hA, k1, k2, k3, k4, hE2⟩, ⟨bx_S_keep (σ := bx_see (bg_U σ 24 g) t) s1 g3, by omega, fun u hu => ?_, fun u hu => ?_⟩, ⟨b1, b2, rfl⟩, bs_see_lt (σ := bg_U σ 24 g) hlt, fun u hu hb2 => ?_, ⟨fun u hu => ?_, fun u hu hu2 => ?_⟩, ⟨?_, hd2⟩, hN, hcl⟩
  · unfold bx_push
    by_cases e : u = t
    · subst e
      rw [if_pos rfl, List.length_cons, bs_cap_s]
      have := s3 u hu
      rw [bs_cap_t] at this
      omega
    · rw [if_neg e]
      exact Nat.le_trans (s3 u hu) bs_cap_le
  · show upd (μ 10) t (nI (bp_cn (μ 10) t + 1)) u = nI (bp_cn (upd (μ 10) t (nI (bp_cn (μ 10) t + 1))) u) ∧ bp_cn (upd (μ 10) t (nI (bp_cn (μ 10) t + 1))) u ≤ bs_cap (t + 1) B u
    by_cases e : u = t
    · subst e
      have e4 : bp_cn (upd (μ 10) u (nI (bp_cn (μ 10) u + 1))) u = bp_cn (μ 10) u + 1 := by
        show (upd (μ 10) u (nI (bp_cn (μ 10) u + 1)) u).toNatClampNeg = _
        rw [pk_us, nI_clamp (by omega)]
      rw [e4, pk_us, bs_cap_s]
      exact ⟨rfl, by omega⟩
    · rw [bp_cn_at (q2 := μ 10) (pk_un e), pk_un e]
      exact ⟨(s4 u hu).1, Nat.le_trans (s4 u hu).2 bs_cap_le⟩
  · by_cases e : u = t
    · subst e
      exact k5
    · show upd (σ 14) t _ u = _
      rw [pk_un e]
      exact hout u (by omega) hb2
  · show upd (σ 25) t 3 u = upd (upd (μ 7) t 0) t 3 u
    by_cases e : u = t
    · subst e
      rw [pk_us, pk_us]
    · rw [pk_un e, pk_un e, pk_un e]
      exact z1 u (by omega)
  · show upd (upd (μ 7) t 0) t 3 u = 0
    rw [pk_un (by omega), pk_un (by omega)]
    exact z2 u hu hu2
  · show μ 13 0 + 1 = d + (n + 1)
    rw [hd, Int32.add_assoc]
theorem bs_step {σ' μ' : bg_S} {Ls' : Nat → List Nat} {R' : Nat} {n' : Int32} (hB : B < 40) (h : bs_mid m T V B w d t σ μ Ls R n) (ht : t < T) (hx : bx_st m t σ Ls R n σ' Ls' R' n') (hm : bm_st m t μ μ') : bs_mid m T V B w d (t + 1) σ' μ' Ls' R' n' := by
  have hT12 : T ≤ 12 := h.1.1.2.2.2.2.2.2.2.1
  have ht12 : t < 12 := by omega
  rcases hx with ⟨hb, r, σ2, hd, rfl, hr⟩ | ⟨hb, rfl, rfl, rfl, rfl⟩
  · rcases hm with ⟨-, g9, hg9, hg9b, hcase⟩ | ⟨hb', -⟩
    · have hv := bs_mid_vl h ht12 hb
      obtain ⟨⟨hA, hO, hL, -, hI, hE⟩, -, ⟨-, -, b3⟩, -⟩ := id h
      obtain ⟨a0, a4, a5, a6, a7, -, -, -, hok, -⟩ := id hA
      have hc := (hok t ht12).1
      have hc' : μ 4 t = nI (bp_cn (μ 4) t) := by rw [← a6]; exact hc
      have conv : ∀ {f : Nat → Int32} {b : Nat}, (∀ i, i < 5 → f (b + i) = bm_part (bg_U μ 7 (upd (μ 7) t 0)) t i) → bm_is f b (σ 5 t) (bp_cn (σ 6) t) (bp_vl (σ 0) (σ 7) w t) := by
        intro f b hf
        have := (bm_part_is (σ := bg_U μ 7 (upd (μ 7) t 0)) hc').mp hf
        rw [a0, a5, a6, a7, ← b3]
        exact this
      have hg := conv hg9
      have K1 : bm_last (bg_U μ 7 (upd (μ 7) t 0)) t ↔ bx_lastv σ t (bp_vl (σ 0) (σ 7) (σ 14) t) := by
        refine (bs_last (μ := bg_U μ 7 (upd (μ 7) t 0)) hA hO hL ht12).trans (bx_lastv_ext (fun i hi => ?_))
        rw [hv i hi, ← b3]
        rfl
      have K2 : bm_in (bg_U μ 7 (upd (μ 7) t 0)) t ↔ bx_inv σ t (Ls t) (bp_vl (σ 0) (σ 7) (σ 14) t) := by
        refine (bs_in (μ := bg_U μ 7 (upd (μ 7) t 0)) hA hE ht12).trans (bx_inv_ext (fun i hi => ?_))
        rw [hv i hi, ← b3]
        rfl
      rcases hd with ⟨rfl, hu, rfl⟩ | ⟨g, hgv, ⟨rfl, hla, rfl⟩ | ⟨hla, g2, h2, h3, ⟨rfl, hin, rfl⟩ | ⟨rfl, hin, g3, h4, h5, rfl⟩⟩⟩
      · have hl : bx_lastv σ t (bp_vl (σ 0) (σ 7) (σ 14) t) := by
          obtain ⟨i1, i2, i3⟩ := hI t ht12 hu.1 hu.2.1
          exact ⟨hu.1, i1, i2, fun i hi => i3 i hi (hu.2.2 i hi)⟩
        rcases hr with ⟨hr, -⟩ | ⟨-, rfl, rfl, rfl⟩
        · exact absurd hr (by decide)
        · rcases hcase with ⟨-, rfl⟩ | ⟨q, -⟩ | ⟨q, -⟩
          · exact bs_step_same h ht hb hl hg hg9b
          · exact absurd (K1.mpr hl) q
          · exact absurd (K1.mpr hl) q
      · have hl : bx_lastv σ t (bp_vl (σ 0) (σ 7) (σ 14) t) := (bx_last_iff (σ := bg_U σ 24 g) hgv).mp hla
        rcases hr with ⟨hr, -⟩ | ⟨-, rfl, rfl, rfl⟩
        · exact absurd hr (by decide)
        · rcases hcase with ⟨-, rfl⟩ | ⟨q, -⟩ | ⟨q, -⟩
          · exact bs_step_same (σ := bg_U σ 24 g) h ht hb hl hg hg9b
          · exact absurd (K1.mpr hl) q
          · exact absurd (K1.mpr hl) q
      · have hl : ¬ bm_last (bg_U μ 7 (upd (μ 7) t 0)) t := fun q => hla ((bx_last_iff (σ := bg_U σ 24 g) hgv).mpr (K1.mp q))
        have hi : bm_in (bg_U μ 7 (upd (μ 7) t 0)) t := K2.mpr ((bx_in_iff (σ := bg_U σ 24 g) hgv).mp hin)
        rcases hr with ⟨hr, -⟩ | ⟨-, rfl, rfl, rfl⟩
        · exact absurd hr (by decide)
        · rcases hcase with ⟨q, -⟩ | ⟨-, -, rfl⟩ | ⟨-, q, -⟩
          · exact absurd q hl
          · exact bs_step_stored h ht hb hgv h2 h3 hg hg9b
          · exact absurd hi q
      · have hl : ¬ bm_last (bg_U μ 7 (upd (μ 7) t 0)) t := fun q => hla ((bx_last_iff (σ := bg_U σ 24 g) hgv).mpr (K1.mp q))
        have hi : ¬ bm_in (bg_U μ 7 (upd (μ 7) t 0)) t := fun q => hin ((bx_in_iff (σ := bg_U σ 24 g) hgv).mpr (K2.mp q))
        rcases hr with ⟨-, rfl, rfl, rfl⟩ | ⟨hr, -⟩
        · rcases hcase with ⟨q, -⟩ | ⟨-, q, -⟩ | ⟨-, -, g11, hq, hq2, rfl⟩
          · exact absurd q hl
          · exact absurd q hi
          · exact bs_step_made hB h ht hb hgv h2 h3 h4 h5 hg hg9b (conv hq) hq2
        · exact absurd rfl hr
    · exact absurd hb hb'
  · rcases hm with ⟨hb', -⟩ | ⟨-, rfl⟩
    · exact absurd hb' hb
    · exact bs_step_no h ht hb
/-- the two builds side by side, T tasks -/
theorem bs_run {σ0 μ0 : bg_S} {Ls0 : Nat → List Nat} {R0 : Nat} (hB : B < 40) (h0 : bs_mid m T V B w d 0 σ0 μ0 Ls0 R0 0) : ∀ (t : Nat), t ≤ T → ∀ (σ μ : bg_S) (Ls : Nat → List Nat) (R : Nat) (n : Int32), bx_bl m σ0 Ls0 R0 t σ Ls R n → bm_bl m μ0 t μ → bs_mid m T V B w d t σ μ Ls R n
  | 0, _, σ, μ, Ls, R, n, hx, hm => by
    obtain ⟨rfl, rfl, rfl, rfl⟩ := hx
    have e : μ = μ0 := hm
    rw [e]
    exact h0
  | t + 1, ht, σ, μ, Ls, R, n, hx, hm => by
    obtain ⟨σ1, Ls1, R1, n1, hx1, hx2⟩ := hx
    obtain ⟨μ1, hm1, hm2⟩ := hm
    exact bs_step hB (bs_run hB h0 t (by omega) σ1 μ1 Ls1 R1 n1 hx1 hm1) (by omega) hx2 hm2
/-- beyond T x only says 'not needed' -/
theorem bs_rest {σ0 : bg_S} {Ls0 : Nat → List Nat} {R0 : Nat} (hn : ∀ u, T ≤ u → u < 12 → ¬ bp_bit m u) : ∀ (k t : Nat), t = T + k → t ≤ 12 → ∀ (σ : bg_S) (Ls : Nat → List Nat) (R : Nat) (n : Int32), bx_bl m σ0 Ls0 R0 t σ Ls R n → ∃ (σT : bg_S) (g : Nat → Int32), bx_bl m σ0 Ls0 R0 T σT Ls R n ∧ bg_U σT 25 g = σ ∧ (∀ u, u < T → g u = σT 25 u) ∧ ∀ u, T ≤ u → u < t → g u = 0
  | 0, t, e, _, σ, Ls, R, n, hx => by
    have e : t = T := by omega
    subst e
    exact ⟨σ, σ 25, hx, bg_Uid σ 25, fun _ _ => rfl, fun u h1 h2 => absurd h1 (by omega)⟩
  | k + 1, 0, e, _, σ, Ls, R, n, hx => by omega
  | k + 1, t + 1, e, ht, σ, Ls, R, n, hx => by
    obtain ⟨σ1, Ls1, R1, n1, hx1, hx2⟩ := hx
    rcases hx2 with ⟨hb, -⟩ | ⟨-, rfl, rfl, rfl, rfl⟩
    · exact absurd hb (hn t (by omega) (by omega))
    · obtain ⟨σT, g, q1, rfl, q3, q4⟩ := bs_rest hn k t (by omega) (by omega) σ1 _ _ _ hx1
      refine ⟨σT, upd g t 0, q1, (bg_UU σT 25 g _).symm, fun u hu => ?_, fun u h1 h2 => ?_⟩
      · rw [pk_un (by omega)]
        exact q3 u hu
      · by_cases e2 : u = t
        · subst e2
          rw [pk_us]
        · rw [pk_un e2]
          exact q4 u h1 (by omega)
end STP
theorem bs_build {σ μ σ' μ' : bg_S} {T V R B : Nat} {Ls : Nat → List Nat} {r r' a : Int32} (hV : V + 1 < 2 ^ 31) (h : bs_all σ μ T V Ls R B) (hx : bp_pick T a (r = -1 ∧ σ = σ') (fun t => (B = 40 → r = -4 ∧ σ = σ') ∧ (B < 40 → ∃ (σ1 : bg_S) (Ls1 : Nat → List Nat) (R1 : Nat), bx_bl (bp_need (σ 6) (σ 7) t) (bx_b0 σ) Ls R 12 σ1 Ls1 R1 r ∧ bg_U σ1 27 (fun _ => σ1 27 0 + r) = σ')))
    (hm : bp_pick T a (r' = -1 ∧ μ = μ') (fun t => (B = 40 → r' = -4 ∧ μ = μ') ∧ (B < 40 → ∃ w : Nat → Int32, bp_now (μ 0) (μ 2) (μ 3) (μ 4) (μ 5) w T ∧ bm_bl (bp_need (μ 4) (μ 5) t) (bm_b0 μ w) T μ' ∧ r' = μ' 13 0 - μ 13 0))) : r = r' ∧ bs_sim σ' μ' (V + 1) := by
  have hT12 : T ≤ 12 := h.1.2.2.2.2.2.2.2.1
  refine bp_pickE (by omega) hx hm ?_ ?_
  · rintro ⟨rfl, rfl⟩ ⟨rfl, rfl⟩
    exact ⟨rfl, h.sim⟩
  intro t ht hx hm
  obtain ⟨hA, hO, hL, ⟨v2, v1, v3⟩, hI, hE, ⟨c1, c2, c3, c4, c5, c6, c7⟩, ⟨z1, z2⟩⟩ := id h
  obtain ⟨a0, a4, a5, a6, a7, a3, a1, -, hok, hk, hz⟩ := id hA
  by_cases e : B = 40
  · obtain ⟨rfl, rfl⟩ := hx.1 e
    obtain ⟨rfl, rfl⟩ := hm.1 e
    exact ⟨rfl, h.sim⟩
  have hB : B < 40 := by omega
  obtain ⟨σ1, Ls1, R1, hbl, rfl⟩ := hx.2 hB
  obtain ⟨w, hw, hml, rfl⟩ := hm.2 hB
  rw [← a6, ← a7] at hml
  rw [← a0, ← a4, ← a5, ← a6, ← a7] at hw
  have hneed : ∀ u, T ≤ u → u < 12 → ¬ bp_bit (bp_need (σ 6) (σ 7) t) u := fun u h1 h2 hb => by
    have := bp_need_le hok (by omega) h2 hb
    omega
  have hr : σ 2 0 + 1 = nI (V + 1) := by rw [v2, nI_1]
  obtain ⟨σT, g, q1, rfl, q3, q4⟩ := bs_rest hneed (12 - T) 12 (by omega) (Nat.le_refl 12) σ1 Ls1 R1 r hbl
  have h0 : bs_mid (bp_need (σ 6) (σ 7) t) T (V + 1) B w (σ 27 0) 0 (bx_b0 σ) (bm_b0 μ w) Ls R 0 := by
    refine ⟨⟨hA, hO, hL, ⟨hr, fun k hk => bp_up (v1 k hk) hV, fun u hu => ⟨bp_up (v3 u hu).1 hV, bp_up (v3 u hu).2.1 hV, bp_up (v3 u hu).2.2 hV⟩⟩, hI, hE⟩, ⟨c4, by omega, fun u hu => ?_, fun u hu => ?_⟩, ⟨?_, ?_, rfl⟩, fun u _ hu => ?_, fun u hu => absurd hu (by omega), ⟨fun u hu => absurd hu (by omega), fun u hu hu2 => ?_⟩, ⟨?_, rfl⟩, hw, fun u i hu hb hi hf => bp_need_cl hok (by omega) hu hb hi hf⟩
    · show (Ls u).length ≤ bs_cap 0 B u
      unfold bs_cap
      rw [if_neg (by omega)]
      exact c6 u hu
    · unfold bs_cap
      rw [if_neg (by omega)]
      exact c7 u (Nat.zero_le u) hu
    · show σ 16 0 + 1 = nI (B + 1)
      rw [c1, nI_1]
    · show μ 12 0 + 1 = nI (B + 1)
      rw [c2, nI_1]
    · exact Int32.not_le.mp (bp_no (v3 u hu).2.1 hV)
    · show μ 7 u = 0
      rw [← (z1 u hu2).1]
      exact (z1 u hu2).2 hu
    · show μ 13 0 = σ 27 0 + 0
      rw [z2, Int32.add_zero]
  obtain ⟨⟨hA', hO', hL', hV', hI', hE'⟩, ⟨s1, s2, s3, s4⟩, ⟨b1, b2, b3⟩, -, -, ⟨y1, y2⟩, ⟨d1, d2⟩, -⟩ := bs_run hB h0 T (Nat.le_refl T) σT μ' Ls1 R1 r q1 hml
  refine ⟨?_, T, V + 1, Ls1, R1, B + 1, Nat.le_refl _, hA', hO', hL', hV', hI', hE', ⟨b1, b2, by omega, s1, by omega, fun u hu => Nat.le_trans (s3 u hu) bs_cap_B, fun u _ hu => ⟨(s4 u hu).1, Nat.le_trans (s4 u hu).2 bs_cap_B⟩⟩, fun u hu => ?_, ?_⟩
  · rw [d1, ← z2, Int32.add_comm, Int32.add_sub_cancel]
  · show g u = μ' 7 u ∧ (T ≤ u → g u = 0)
    by_cases hc : u < T
    · rw [q3 u hc]
      exact ⟨y1 u hc, fun q => absurd q (by omega)⟩
    · rw [q4 u (by omega) hu, y2 u (by omega) hu]
      exact ⟨rfl, fun _ => rfl⟩
  · show σT 27 0 + r = μ' 13 0
    rw [d1, d2]
end
section
/-! constructors: arrays come in one by one -/
set_option maxRecDepth 100000
def bg_Al (sz h : Nat) : Nat → Prop := fun q => q = h ∨ sz ≤ q
/-- the arrays of the slots ks are made, all else is as a new object has it -/
def bg_PP (Γ : bg_C) (D : va_G) (h : Nat) (cI cZ : ClassId) (ks : List Nat) (ad : Nat → Nat) (sz : Nat) (H : Heap) : Prop :=
  t_OB h (D.1 Γ.1) (bg_N Γ) (D.2 Γ.1) H (fun j => if bg_ln Γ j = 0 then .int 0 else if j ∈ ks then .ref (ad j) else .null) ∧ (∀ j, j ∈ ks → sz ≤ ad j ∧ H[ad j]? = some (vp_cell (cond (Γ.2.2.2.2.2 j) cZ cI) (bg_ln Γ j, .inl (fun _ => 0)))) ∧ ∀ i j, i ∈ ks → j ∈ ks → ad i = ad j → i = j
def bg_Y (X : bg_E) (Γ : bg_C) (D : va_G) (h : Nat) (cI cZ : ClassId) (ks : List Nat) (cells slots pc : Nat) (st : List Value) : Prop := match X with
  | (p, l, e, R, s, m, args, below, meth, c, Q, nL) => ∀ (ad : Nat → Nat) (H : Heap) (locs : List Loc) (ls : Array Slot), bg_PP Γ D h cI cZ ks ad s.heap.size H → va_S (bg_Al s.heap.size h) s.heap H locs → lv_has ls nL [(0, .ref h)] → W p l e R s m args below meth c H locs cells slots Q (F0 m pc ls st)
def bg_ok2 (Γ : bg_C) : Prop := ∀ k, k < bg_N Γ → bg_ln Γ k ≠ 0 → (bg_T Γ k).2.2.2 = true ∧ (bg_T Γ k).1 = bg_nm Γ ∧ parseFieldDescriptor (bg_T Γ k).2.2.1 = some (.array (cond (Γ.2.2.2.2.2 k) .boolean .int))
def bg_Cy (X : bg_E) (Γ : bg_C) (D : va_G) (h : Nat) (cI cZ : ClassId) (cc : ByteArray) (n fr lo mc ms : Nat) : Prop := match X with
  | (p, l, e, R, s, m, args, below, meth, c, Q, nL) => p.tables.exec = Jvm.exec ∧ c.code = cc ∧ c.maxLocals = nL ∧ s.vm.findClass (bg_nm Γ) = some m.cls ∧ (∀ w ∈ lw_all, w.before args s = true) ∧ va_K D vwCl [(cI, .int), (cZ, .boolean)] s ∧ bg_ok Γ ∧ bg_ok2 Γ ∧ meth.name = "<init>" ∧ h < s.heap.size ∧ R = { frames := fr, cells := mc, slots := ms, locals := lo } ∧ nL = n
section INI
variable {X : bg_E} {Γ : bg_C} {D : va_G} {h : Nat} {cI cZ : ClassId} {ks : List Nat} {cells slots n fr lo mc ms : Nat} {st : List Value} {cc : ByteArray}
theorem by_aload (C : bg_Cy X Γ D h cI cZ cc n fr lo mc ms) (pc : Nat) (hdg : decode cc pc = .ok (.aload_n 0, 1)) (kk : bg_Y X Γ D h cI cZ ks cells slots (pc + 1) (.ref h :: st)) : bg_Y X Γ D h cI cZ ks cells slots pc st := by
  obtain ⟨p, l, e, R, s, m, args, below, meth, c, Q, nL⟩ := X
  obtain ⟨hx, hb, -⟩ := C
  intro ad H locs ls hP hS hl
  exact lv_aload_n hx hb hdg rfl (lv_at hl 0 rfl) (kk ad H locs ls hP hS hl)
theorem by_iconst (C : bg_Cy X Γ D h cI cZ cc n fr lo mc ms) (pc : Nat) (v : Int32) {z : Int} (hdg : decode cc pc = .ok (.iconst z, 1)) (hv : Int32.ofInt z = v) (kk : bg_Y X Γ D h cI cZ ks cells slots (pc + 1) (.int v :: st)) : bg_Y X Γ D h cI cZ ks cells slots pc st := by
  obtain ⟨p, l, e, R, s, m, args, below, meth, c, Q, nL⟩ := X
  obtain ⟨hx, hb, -⟩ := C
  intro ad H locs ls hP hS hl
  exact lv_iconst hx hb hdg hv (kk ad H locs ls hP hS hl)
theorem by_bipush (C : bg_Cy X Γ D h cI cZ cc n fr lo mc ms) (pc : Nat) (v : Int32) {z : Int} (hdg : decode cc pc = .ok (.bipush z, 2)) (hv : (Int8.ofInt z).toInt32 = v) (kk : bg_Y X Γ D h cI cZ ks cells slots (pc + 2) (.int v :: st)) : bg_Y X Γ D h cI cZ ks cells slots pc st := by
  obtain ⟨p, l, e, R, s, m, args, below, meth, c, Q, nL⟩ := X
  obtain ⟨hx, hb, -⟩ := C
  intro ad H locs ls hP hS hl
  exact lv_bipush hx hb hdg hv (kk ad H locs ls hP hS hl)
theorem by_sipush (C : bg_Cy X Γ D h cI cZ cc n fr lo mc ms) (pc : Nat) (v : Int32) {z : Int} (hdg : decode cc pc = .ok (.sipush z, 3)) (hv : (Int16.ofInt z).toInt32 = v) (kk : bg_Y X Γ D h cI cZ ks cells slots (pc + 3) (.int v :: st)) : bg_Y X Γ D h cI cZ ks cells slots pc st := by
  obtain ⟨p, l, e, R, s, m, args, below, meth, c, Q, nL⟩ := X
  obtain ⟨hx, hb, -⟩ := C
  intro ad H locs ls hP hS hl
  exact lv_sipush hx hb hdg hv (kk ad H locs ls hP hS hl)
theorem by_obj (C : bg_Cy X Γ D h cI cZ cc n fr lo mc ms) (pc : Nat) {idx : Nat} (hw : Cond.methodLink (bg_nm Γ) idx objectInit ∈ lw_all) (hfr : 1 ≤ fr) (hlo : 12 ≤ lo) (hdg : decode cc pc = .ok (.invokespecial idx, 3)) (kk : bg_Y X Γ D h cI cZ ks cells slots (pc + 3) []) : bg_Y X Γ D h cI cZ ks cells slots pc [.ref h] := by
  obtain ⟨p, l, e, R, s, m, args, below, meth, c, Q, nL⟩ := X
  obtain ⟨hx, hb, hml, hown, hts, -, -, -, -, -, hR, -⟩ := C
  intro ad H locs ls hP hS hl
  subst hR
  refine W.objInit hx hb hown (hts _ hw) (hts _ q33) (hts _ q34) rfl (by rw [hml]; exact hl.1) rfl hdg hfr ?_ (kk ad H locs ls hP hS hl)
  have h0 : (F0 m pc ls [Value.ref h]).monitorRoom = 0 := rfl
  rw [h0]
  simpa using hlo
/-- an array is made and put into its field -/
theorem by_new (C : bg_Cy X Γ D h cI cZ cc n fr lo mc ms) (pc : Nat) (k : Nat) {N idx : Nat} {atype : ArrayType} (hk : k < bg_N Γ) (hN : bg_ln Γ k = N) (hN0 : N ≠ 0) (hN2 : N < 100000) (hks : k ∉ ks) (hat : newarray.typeOf atype = cond (Γ.2.2.2.2.2 k) .boolean .int) (ha : Cond.arrayClass (newarray.typeOf atype) ∈ lw_all) (hw : Cond.fieldLink (bg_nm Γ) idx (bg_T Γ k).1 (bg_T Γ k).2.1 (bg_T Γ k).2.2.1 ∈ lw_all)
    (hc1 : cells + 1 ≤ mc) (hc2 : slots + N ≤ ms) (hdg : decode cc pc = .ok (.newarray atype, 2)) (hdg2 : decode cc (pc + 2) = .ok (.putfield idx, 3)) (kk : bg_Y X Γ D h cI cZ (k :: ks) (cells + 1) (slots + N) (pc + 5) []) : bg_Y X Γ D h cI cZ ks cells slots pc [.int (nI N), .ref h] := by
  obtain ⟨p, l, e, R, s, m, args, below, meth, c, Q, nL⟩ := X
  obtain ⟨hx, hb, hml, hown, hts, hK, hΓ, hΓ2, hin2, hh, hR, -⟩ := C
  intro ad H locs ls hP hS hl
  subst hR
  obtain ⟨hc, hin, ⟨ty0, hty⟩, hnm, -⟩ := hΓ
  have hn0 : bg_ln Γ k ≠ 0 := by rw [hN]; exact hN0
  obtain ⟨hfin, hdecl, hd⟩ := hΓ2 k hk hn0
  have hb1 : componentBytes (newarray.typeOf atype) ≤ 8 := by cases atype <;> decide
  refine va_newaK hx hb (hts _ ha) rfl hdg rfl (nI_pos (by omega)) (nI_clamp (by omega)) (Nat.le_trans (Nat.mul_le_mul (Nat.le_of_lt hN2) hb1) (by decide)) hc1 hc2 rfl (fun H1 cA e1 z1 o1 hAr hNm => ?_)
  have hcA : cA = cond (Γ.2.2.2.2.2 k) cZ cI := by
    rw [hat] at hNm
    cases hz : Γ.2.2.2.2.2 k with
    | false =>
      rw [hz] at hNm
      exact Option.some.inj (hNm.symm.trans (hK.2 0 _ rfl).2)
    | true =>
      rw [hz] at hNm
      exact Option.some.inj (hNm.symm.trans (hK.2 1 _ rfl).2)
  have hcell : arrV cA N (fun _ => defaultValue (newarray.typeOf atype)) = vp_cell (cond (Γ.2.2.2.2.2 k) cZ cI) (N, .inl (fun _ => 0)) := by
    rw [hcA, hat, vp_cell_i]
    cases Γ.2.2.2.2.2 k <;> rfl
  rw [hcell] at e1
  have hap := va_apart (own := bg_nm Γ) hts hin ty0 hty hnm hK hc
  have hhH : h < H.size := Nat.lt_of_lt_of_le hh hS.1
  obtain ⟨cell, q1, q2, q3, q4⟩ := hP.1
  have q1' : H1[h]? = some cell := by rw [o1 h hhH]; exact q1
  obtain ⟨hSl, hfc, kC, hkC, hkind⟩ := hK.1 Γ.1 _ hc
  obtain ⟨cf, kf, fi, f, hi, hsl⟩ := hSl k hk
  have hlay := hts _ (hin _ (u_in_lay hk))
  unfold u_lay at hlay
  rw [if_pos hfin] at hlay
  have hst := (u_facts hfc hkC (u_lays hts hin hk) hi).1
  have hcf : m.cls = cf := by
    obtain ⟨_, _, c', _, _, _, -, -, hf', -, -, -, hown2, -⟩ := Cond.laysFinal_spec hlay
    have e1 : c' = cf := by have := hi.symm.trans hf'; simp at this; exact this.1.symm
    rw [hdecl] at hown2
    rw [← e1]; exact Option.some.inj (hown.symm.trans hown2)
  have h6 := u_fits (v := .ref H.size) hfc hkC hkind (Or.inr hlay) hi hd rfl rfl
  refine W.putFinK hx hb hown (hts _ hw) hi hst hcf hin2 (by rw [q2]; exact h6) q1' q3 (by rw [hsl]; exact k2_hasslot (q4 k hk)) rfl rfl hdg2 fun H' g1 g2 g3 => ?_
  rw [hsl] at g1 ⊢
  have hS1 : va_S (bg_Al s.heap.size h) s.heap H1 locs := ⟨Nat.le_trans hS.1 (by omega), fun x h1 h2 => (o1 x (Nat.lt_of_lt_of_le h1 hS.1)).trans (hS.2.1 x h1 h2), hS.2.2⟩
  have hold : ∀ j, j ∈ ks → ad j < H.size ∧ ad j ≠ h := fun j hj => by
    obtain ⟨a1, a2⟩ := hP.2.1 j hj
    exact ⟨(Array.getElem?_eq_some_iff.mp a2).1, by omega⟩
  refine kk (va_up ad k H.size) H' _ ls ⟨t_OB.to (V := updV (fun j => if bg_ln Γ j = 0 then .int 0 else if j ∈ ks then .ref (ad j) else .null) k (.ref H.size)) ⟨_, g1, q2, q3, t_set q4 hap hk (.ref H.size)⟩ (fun j hj => ?_), fun j hj => ?_, fun i j hi hj hij => ?_⟩ (hS1.put g2 g3 (Or.inl rfl)) hl
  · unfold updV
    by_cases ejk : j = k
    · subst ejk
      rw [if_pos rfl, if_neg hn0, if_pos List.mem_cons_self, va_up_self]
    · rw [if_neg ejk]
      show (if bg_ln Γ j = 0 then Value.int 0 else if j ∈ ks then Value.ref (ad j) else Value.null) = _
      by_cases h0 : bg_ln Γ j = 0
      · rw [if_pos h0, if_pos h0]
      · rw [if_neg h0, if_neg h0]
        by_cases hjk : j ∈ ks
        · rw [if_pos hjk, if_pos (List.mem_cons_of_mem _ hjk), va_up_ne _ _ ejk]
        · rw [if_neg hjk, if_neg (fun q => by
            rcases List.mem_cons.mp q with q | q
            · exact ejk q
            · exact hjk q)]
  · rcases List.mem_cons.mp hj with ejk | hjk
    · subst ejk
      rw [va_up_self]
      refine ⟨hS.1, ?_⟩
      rw [g3 H.size (Nat.ne_of_gt hhH), e1, hN]
    · have ejk : j ≠ k := fun q => hks (by rw [← q]; exact hjk)
      obtain ⟨a1, a2⟩ := hold j hjk
      rw [va_up_ne _ _ ejk, g3 _ a2, o1 _ a1]
      exact hP.2.1 j hjk
  · rcases List.mem_cons.mp hi with ei | hi
    · rcases List.mem_cons.mp hj with ej | hj
      · rw [ei, ej]
      · have ejk : j ≠ k := fun q => hks (by rw [← q]; exact hj)
        rw [ei, va_up_self, va_up_ne _ _ ejk] at hij
        have := (hold j hj).1
        omega
    · have eik : i ≠ k := fun q => hks (by rw [← q]; exact hi)
      rcases List.mem_cons.mp hj with ej | hj
      · rw [ej, va_up_self, va_up_ne _ _ eik] at hij
        have := (hold i hi).1
        omega
      · have ejk : j ≠ k := fun q => hks (by rw [← q]; exact hj)
        rw [va_up_ne _ _ eik, va_up_ne _ _ ejk] at hij
        exact hP.2.2 i j hi hj hij
theorem bg_PP_done {ad : Nat → Nat} {sz : Nat} {H : Heap} (hP : bg_PP Γ D h cI cZ ks ad sz H) (hks : ∀ j, j < bg_N Γ → bg_ln Γ j ≠ 0 → j ∈ ks) (hh : h < sz) : bg_P Γ (D, h, ad, cI, cZ) (fun _ _ => 0) H ∧ bg_D Γ (D, h, ad, cI, cZ) ∧ ∀ k, k < bg_N Γ → bg_ln Γ k ≠ 0 → sz ≤ ad k := by
  obtain ⟨h1, h2, h3⟩ := hP
  refine ⟨⟨h1.to (fun k hk => ?_), fun k hk hn => (h2 k (hks k hk hn)).2⟩, ⟨fun k hk hn => ?_, fun k j hk hj hn hn2 => h3 k j (hks k hk hn) (hks j hj hn2)⟩, fun k hk hn => (h2 k (hks k hk hn)).1⟩
  · unfold bg_V
    by_cases h0 : bg_ln Γ k = 0
    · rw [if_pos h0, if_pos h0]
    · rw [if_neg h0, if_neg h0, if_pos (hks k hk h0)]
      rfl
  · have := (h2 k (hks k hk hn)).1
    show ad k ≠ h
    omega
/-- a constructor's end -/
def bg_QI (Γ : bg_C) (D : va_G) (h : Nat) (cI cZ : ClassId) (sz : Nat) (post : bg_S → Prop) : Array Value → State → Outcome → State → Prop := fun _ st oc t => (oc = .returned none ∧ ∃ (ad : Nat → Nat) (σ : bg_S), post σ ∧ bg_P Γ (D, h, ad, cI, cZ) σ t.heap ∧ bg_D Γ (D, h, ad, cI, cZ) ∧ (∀ k, k < bg_N Γ → bg_ln Γ k ≠ 0 → sz ≤ ad k) ∧ bg_K (D, h, ad, cI, cZ) t) ∧ va_F (bg_Al sz h) st t
/-- a constructor's contract -/
def bg_MI (Γ : bg_C) (y : MethodName) (cc : ByteArray) (nL fr lo mc ms : Nat) (post : bg_S → Prop) : Prop :=
  ∀ (l : Launch) (D : va_G) (h : Nat) (cI cZ : ClassId) (sz : Nat), Met l y (ws_ y cc nL none) ({ frames := fr, cells := mc, slots := ms, locals := lo }) (va_Pc [.ref h] (fun U => U.heap.size = sz ∧ t_OB h (D.1 Γ.1) (bg_N Γ) (D.2 Γ.1) U.heap (fun j => if bg_ln Γ j = 0 then .int 0 else .null) ∧ va_K D vwCl [(cI, .int), (cZ, .boolean)] U)) (bg_QI Γ D h cI cZ sz post) mc ms (bg_Al sz h)
theorem by_enter {y : MethodName} {nL : Nat} {post : bg_S → Prop} (hΓ : bg_ok Γ) (hΓ2 : bg_ok2 Γ) (hy : plainName y.cls = true) (hyn : y.name = "<init>") (hcls : y.cls = bg_nm Γ) (hlen : 1 ≤ nL)
    (body : ∀ (p : Program) (l : Launch) (e : Env) (s : State) (m : MethodId) (args : Array Value) (below : List Frame) (meth : Method) (c : Code) (D : va_G) (h : Nat) (cI cZ : ClassId), meth.locks = false → meth.sig.returnType = none → bg_Cy (p, l, e, ({ frames := fr, cells := mc, slots := ms, locals := lo }), s, m, args, below, meth, c, MQ below (bg_QI Γ D h cI cZ s.heap.size post) args s mc ms (bg_Al s.heap.size h), nL) Γ D h cI cZ cc nL fr lo mc ms → bg_Y (p, l, e, ({ frames := fr, cells := mc, slots := ms, locals := lo }), s, m, args, below, meth, c, MQ below (bg_QI Γ D h cI cZ s.heap.size post) args s mc ms (bg_Al s.heap.size h), nL) Γ D h cI cZ [] 0 0 0 []) : bg_MI Γ y cc nL fr lo mc ms post := by
  intro l D h cI cZ sz
  refine Met.ofW (cc := cc) (maxL := nL) (ret := none) hy rfl ?_
  intro p e s m args below meth c s₁ B hml hv
  obtain ⟨rfl, hsz, hP, hK⟩ := hv
  have hts := atoms_spec (ws := ws_ y cc nL none) B.pre
  have hts : ∀ w ∈ lw_all, w.before _ s = true := fun w h => hts w (List.mem_cons_of_mem _ h)
  have hown : s.vm.findClass y.cls = some m.cls := findClass_of_methodNamed B.named
  rw [hcls] at hown
  have hin : meth.name = y.name := (name_of_methodNamed B.named B.method).1
  subst hsz
  have hl := lv_entry ([.ref h]) (n := nL) (by simpa [lg_sl, Value.category] using hlen)
  rw [lg_entry_eq]
  generalize (lg_sl ([.ref h]) ++ List.replicate (nL - (lg_sl ([.ref h])).length) Slot.unset).toArray = ls at hl ⊢
  have hl : lv_has ls nL [(0, .ref h)] := hl
  have hh : h < s.heap.size := by
    obtain ⟨cell, q1, -⟩ := hP
    exact (Array.getElem?_eq_some_iff.mp q1).1
  refine body p l e s m _ below meth c D h cI cZ B.notSynchronized B.returns ⟨B.exec, B.bytes, hml, hown, hts, hK, hΓ, hΓ2, hin.trans hyn, hh, rfl, rfl⟩ (fun _ => 0) s.heap [] ls ⟨hP.to (fun k hk => ?_), fun j hj => (by cases hj), fun i j hi => (by cases hi)⟩ va_S.rf hl
  by_cases h0 : bg_ln Γ k = 0
  · rw [if_pos h0, if_pos h0]
  · rw [if_neg h0, if_neg h0, if_neg (fun q => by cases q)]
end INI
end
section
/-! the two constructors; the arrays' rows by gen/init.py -/
set_option maxRecDepth 100000
theorem ok2kX : bg_ok2 kX := by
  show ∀ k, k < 28 → lnkX k ≠ 0 → (TX0 k).2.2.2 = true ∧ (TX0 k).1 = RX0 ∧ parseFieldDescriptor (TX0 k).2.2.1 = some (.array (cond (bzkX k) .boolean .int))
  decide +kernel
theorem ok2kM : bg_ok2 kM := by
  show ∀ k, k < 15 → lnkM k ≠ 0 → (TX1 k).2.2.2 = true ∧ (TX1 k).1 = RX1 ∧ parseFieldDescriptor (TX1 k).2.2.1 = some (.array (cond (bzkM k) .boolean .int))
  decide +kernel
theorem mm_init : bg_MI kM yX1_init cX1_init 1 1 12 12 2600 (fun σ => σ = fun _ _ => 0) := by
  refine by_enter okkM ok2kM (by decide) rfl rfl (by decide) (fun p l e s m args below meth c D h cI cZ hlk hrt C => ?_)
  refine by_aload C 0 dX1_init_0 ?_
  refine by_obj C 1 q243 (by decide) (by decide) dX1_init_1 ?_
  refine by_aload C 4 dX1_init_4 ?_
  refine by_bipush C 5 (nI 8) dX1_init_5 (by decide) ?_
  refine by_new C 7 0 (atype := .int) (by decide) rfl (by decide) (by decide) (by decide) rfl q120 q244 (by decide) (by decide) dX1_init_7 dX1_init_9 ?_
  refine by_aload C 12 dX1_init_12 ?_
  refine by_bipush C 13 (nI 12) dX1_init_13 (by decide) ?_
  refine by_new C 15 2 (atype := .int) (by decide) rfl (by decide) (by decide) (by decide) rfl q120 q246 (by decide) (by decide) dX1_init_15 dX1_init_17 ?_
  refine by_aload C 20 dX1_init_20 ?_
  refine by_bipush C 21 (nI 12) dX1_init_21 (by decide) ?_
  refine by_new C 23 3 (atype := .int) (by decide) rfl (by decide) (by decide) (by decide) rfl q120 q247 (by decide) (by decide) dX1_init_23 dX1_init_25 ?_
  refine by_aload C 28 dX1_init_28 ?_
  refine by_bipush C 29 (nI 12) dX1_init_29 (by decide) ?_
  refine by_new C 31 4 (atype := .int) (by decide) rfl (by decide) (by decide) (by decide) rfl q120 q248 (by decide) (by decide) dX1_init_31 dX1_init_33 ?_
  refine by_aload C 36 dX1_init_36 ?_
  refine by_bipush C 37 (nI 36) dX1_init_37 (by decide) ?_
  refine by_new C 39 5 (atype := .int) (by decide) rfl (by decide) (by decide) (by decide) rfl q120 q249 (by decide) (by decide) dX1_init_39 dX1_init_41 ?_
  refine by_aload C 44 dX1_init_44 ?_
  refine by_bipush C 45 (nI 12) dX1_init_45 (by decide) ?_
  refine by_new C 47 6 (atype := .int) (by decide) rfl (by decide) (by decide) (by decide) rfl q120 q250 (by decide) (by decide) dX1_init_47 dX1_init_49 ?_
  refine by_aload C 52 dX1_init_52 ?_
  refine by_bipush C 53 (nI 12) dX1_init_53 (by decide) ?_
  refine by_new C 55 7 (atype := .int) (by decide) rfl (by decide) (by decide) (by decide) rfl q120 q251 (by decide) (by decide) dX1_init_55 dX1_init_57 ?_
  refine by_aload C 60 dX1_init_60 ?_
  refine by_bipush C 61 (nI 12) dX1_init_61 (by decide) ?_
  refine by_new C 63 8 (atype := .boolean) (by decide) rfl (by decide) (by decide) (by decide) rfl q121 q252 (by decide) (by decide) dX1_init_63 dX1_init_65 ?_
  refine by_aload C 68 dX1_init_68 ?_
  refine by_bipush C 69 (nI 60) dX1_init_69 (by decide) ?_
  refine by_new C 71 9 (atype := .int) (by decide) rfl (by decide) (by decide) (by decide) rfl q120 q253 (by decide) (by decide) dX1_init_71 dX1_init_73 ?_
  refine by_aload C 76 dX1_init_76 ?_
  refine by_bipush C 77 (nI 12) dX1_init_77 (by decide) ?_
  refine by_new C 79 10 (atype := .int) (by decide) rfl (by decide) (by decide) (by decide) rfl q120 q254 (by decide) (by decide) dX1_init_79 dX1_init_81 ?_
  refine by_aload C 84 dX1_init_84 ?_
  refine by_sipush C 85 (nI 2400) dX1_init_85 (by decide) ?_
  refine by_new C 88 11 (atype := .int) (by decide) rfl (by decide) (by decide) (by decide) rfl q120 q255 (by decide) (by decide) dX1_init_88 dX1_init_90 ?_
  refine by_aload C 93 dX1_init_93 ?_
  refine by_bipush C 94 (nI 12) dX1_init_94 (by decide) ?_
  refine by_new C 96 14 (atype := .int) (by decide) rfl (by decide) (by decide) (by decide) rfl q120 q258 (by decide) (by decide) dX1_init_96 dX1_init_98 ?_
  intro ad H locs ls hP hS hl
  obtain ⟨hx, hb, -, -, -, hK, -, -, -, hh, -⟩ := C
  obtain ⟨g1, g2, g3⟩ := bg_PP_done hP (by decide +kernel) hh
  exact W.vret hx hb hrt (fun t ht hW => ⟨⟨rfl, ad, _, rfl, by rw [ht]; exact g1, g2, g3, va_K.moved hW.alike hK⟩, hS.F ht⟩) hS.2.2 dX1_init_101 hlk
section XIN
variable {p : Program} {l : Launch} {e : Env} {R : Room} {s : State} {m : MethodId} {args : Array Value} {below : List Frame} {meth : Method} {c : Code} {H : Heap} {locs : List Loc} {cells slots : Nat} {Q : State → Prop} {cc : ByteArray} {ls : Array Slot} {st : List Value} {Γ : bg_C} {o : bg_O} {σ : bg_S} {A : Nat → Prop}
theorem bw_getR (hx : p.tables.exec = Jvm.exec) (hb : c.code = cc) (hown : s.vm.findClass (bg_nm Γ) = some m.cls) (hts : ∀ w ∈ lw_all, w.before args s = true) (hK : bg_K o s) (hΓ : bg_ok Γ) (hP : bg_P Γ o σ H) (pc : Nat) {idx : Nat} (k : Nat) (hk : k < bg_N Γ) (hn : bg_ln Γ k ≠ 0) (hw : Cond.fieldLink (bg_nm Γ) idx (bg_T Γ k).1 (bg_T Γ k).2.1 (bg_T Γ k).2.2.1 ∈ lw_all) (hdg : decode cc pc = .ok (.getfield idx, 3)) (kk : W p l e R s m args below meth c H locs cells slots Q (F0 m (pc + 3) ls (.ref (bg_a o k) :: st))) : W p l e R s m args below meth c H locs cells slots Q (F0 m pc ls (.ref (bg_h o) :: st)) := by
  obtain ⟨hc, hin, -⟩ := hΓ
  obtain ⟨cell, q1, q2, q3, q4⟩ := hP.1
  obtain ⟨hSl, hfc, kC, hkC, hkind⟩ := hK.1 Γ.1 _ hc
  obtain ⟨cf, kf, fi, f, hi, hsl⟩ := hSl k hk
  refine W.getf hx hb hown (hts _ hw) hi (u_facts hfc hkC (u_lays hts hin hk) hi).1 q1 (by rw [q3]; exact fun h => by cases h) (v := .ref (bg_a o k)) ?_ rfl rfl hdg kk
  rw [hsl, q4 k hk, bg_V, if_neg hn]
theorem bw_ast (hx : p.tables.exec = Jvm.exec) (hb : c.code = cc) (hK : bg_K o s) (hD : bg_D Γ o) (hP : bg_P Γ o σ H) (hS : va_S A s.heap H locs) (pc : Nat) (k : Nat) (hk : k < bg_N Γ) (hA : A (bg_a o k)) (hz : Γ.2.2.2.2.2 k = false) {N i : Nat} (hN : bg_ln Γ k = N) (hN2 : N < 2 ^ 31) (hi : i < N) (hdg : decode cc pc = .ok (.iastore, 1)) {x : Int32} (kk : ∀ (H1 : Heap) (locs1 : List Loc), bg_P Γ o (bg_U σ k (upd (σ k) i x)) H1 → va_S A s.heap H1 locs1 → W p l e R s m args below meth c H1 locs1 cells slots Q (F0 m (pc + 1) ls st)) : W p l e R s m args below meth c H locs cells slots Q (F0 m pc ls (.int x :: .int (nI i) :: .ref (bg_a o k) :: st)) := by
  have hn0 : bg_ln Γ k ≠ 0 := by rw [hN]; omega
  have ha := hP.2 k hk hn0
  have hcs : bg_cs Γ o k = o.2.2.2.1 := by rw [bg_cs, hz]; rfl
  have ha' := ha
  rw [hN, hcs] at ha'
  have hic : (nI i).toNatClampNeg = i := nI_clamp (by omega)
  refine W.iast hx hb ha' ((hK.2 0 _ rfl).1 N (fun j => .int (σ k j))) (fun q => by cases q) (by show ¬ (nI i < 0 ∨ (arrV _ _ _).slots.size ≤ _); rw [arrV_size]; exact vp_in_nI hi hN2) rfl rfl hdg fun H1 e1 z oq => ?_
  refine kk H1 _ (bg_P_arr hP hD hk hn0 ?_ oq) (hS.put z oq hA)
  rw [e1, hN, hcs, vp_cell_i, vp_cell_i, arrV_store, hic]
  congr 2
  funext q
  by_cases hq : q = i
  · subst hq
    simp [updV, upd]
  · simp [updV, upd, hq]
end XIN
/-- BuildGraph's own loop: newest[t] = -1 -/
theorem xw_init {p : Program} {l : Launch} {e : Env} {R : Room} {s : State} {m : MethodId} {args : Array Value} {below : List Frame} {meth : Method} {c : Code} {cells slots : Nat} {Q : State → Prop} {o : bg_O} {A : Nat → Prop} (hx : p.tables.exec = Jvm.exec) (hb : c.code = cX0_init) (hown : s.vm.findClass (bg_nm kX) = some m.cls) (hts : ∀ w ∈ lw_all, w.before args s = true) (hK : bg_K o s) (hD : bg_D kX o) (hA : A (bg_a o 18))
    (K : ∀ (g : Nat → Int32) (H : Heap) (locs : List Loc) (ls : Array Slot), (∀ t, t < 12 → g t = -1) → bg_P kX o (bg_U (fun _ _ => 0) 18 g) H → va_S A s.heap H locs → W p l e R s m args below meth c H locs cells slots Q (F0 m 213 ls [])) : ∀ (k i : Nat) (g : Nat → Int32) (H : Heap) (locs : List Loc) (ls : Array Slot), i + k = 12 → (∀ t, t < i → g t = -1) → bg_P kX o (bg_U (fun _ _ => 0) 18 g) H → va_S A s.heap H locs → lv_has ls 2 [(1, .int (nI i)), (0, .ref (bg_h o))] → W p l e R s m args below meth c H locs cells slots Q (F0 m 194 ls []) := by
  intro k
  induction k with
  | zero =>
    intro i g H locs ls hi hg hP hS hl
    have e : i = 12 := by omega
    subst e
    refine lv_iload_n hx hb dX0_init_194 rfl (lv_at hl 0 rfl) ?_
    refine lv_bipush (v := nI 12) hx hb dX0_init_195 (by decide) ?_
    refine lv_icmp_ge (tgt := 213) hx hb dX0_init_197 (by decide) (fun _ => ?_) (fun q => absurd (Int32.le_refl _) q)
    exact K g H locs ls hg hP hS
  | succ k ih =>
    intro i g H locs ls hi hg hP hS hl
    refine lv_iload_n hx hb dX0_init_194 rfl (lv_at hl 0 rfl) ?_
    refine lv_bipush (v := nI 12) hx hb dX0_init_195 (by decide) ?_
    refine lv_icmp_ge (tgt := 213) hx hb dX0_init_197 (by decide) (fun q => absurd q (nI_ge (by omega) (by decide))) (fun _ => ?_)
    refine lv_aload_n hx hb dX0_init_200 rfl (lv_at hl 1 rfl) ?_
    refine bw_getR hx hb hown hts hK okkX hP 201 18 (by decide) (by decide) q53 dX0_init_201 ?_
    refine lv_iload_n hx hb dX0_init_204 rfl (lv_at hl 0 rfl) ?_
    refine lv_iconst (v := -1) hx hb dX0_init_205 (by decide) ?_
    refine bw_ast hx hb hK hD hP hS 206 18 (by decide) hA rfl rfl (by decide) (show i < 12 by omega) dX0_init_206 (fun H1 locs1 hP1 hS1 => ?_)
    rw [bg_UU] at hP1
    refine lv_iinc (v := nI (i + 1)) (lv' := [(1, .int (nI (i + 1))), (0, .ref (bg_h o))]) hx hb dX0_init_207 hl (k := 0) rfl (by rw [← nI_1]; rfl) (by decide) rfl (fun ls' hl' => ?_)
    refine lv_goto (tgt := 194) hx hb dX0_init_210 (by decide) ?_
    exact ih (i + 1) _ H1 locs1 ls' (by omega) (bp_ext hg rfl) hP1 hS1 hl'
/-- what a new BuildGraph holds -/
def bx_born (σ : bg_S) : Prop := ∃ g : Nat → Int32, (∀ t, t < 12 → g t = -1) ∧ σ = bg_U (fun _ _ => 0) 18 g
theorem xm_init : bg_MI kX yX0_init cX0_init 2 1 12 23 3607 bx_born := by
  refine by_enter okkX ok2kX (by decide) rfl rfl (by decide) (fun p l e s m args below meth c D h cI cZ hlk hrt C => ?_)
  refine by_aload C 0 dX0_init_0 ?_
  refine by_obj C 1 q32 (by decide) (by decide) dX0_init_1 ?_
  refine by_aload C 4 dX0_init_4 ?_
  refine by_bipush C 5 (nI 8) dX0_init_5 (by decide) ?_
  refine by_new C 7 0 (atype := .int) (by decide) rfl (by decide) (by decide) (by decide) rfl q120 q35 (by decide) (by decide) dX0_init_7 dX0_init_9 ?_
  refine by_aload C 12 dX0_init_12 ?_
  refine by_bipush C 13 (nI 8) dX0_init_13 (by decide) ?_
  refine by_new C 15 1 (atype := .int) (by decide) rfl (by decide) (by decide) (by decide) rfl q120 q36 (by decide) (by decide) dX0_init_15 dX0_init_17 ?_
  refine by_aload C 20 dX0_init_20 ?_
  refine by_bipush C 21 (nI 12) dX0_init_21 (by decide) ?_
  refine by_new C 23 4 (atype := .int) (by decide) rfl (by decide) (by decide) (by decide) rfl q120 q39 (by decide) (by decide) dX0_init_23 dX0_init_25 ?_
  refine by_aload C 28 dX0_init_28 ?_
  refine by_bipush C 29 (nI 12) dX0_init_29 (by decide) ?_
  refine by_new C 31 5 (atype := .int) (by decide) rfl (by decide) (by decide) (by decide) rfl q120 q40 (by decide) (by decide) dX0_init_31 dX0_init_33 ?_
  refine by_aload C 36 dX0_init_36 ?_
  refine by_bipush C 37 (nI 12) dX0_init_37 (by decide) ?_
  refine by_new C 39 6 (atype := .int) (by decide) rfl (by decide) (by decide) (by decide) rfl q120 q41 (by decide) (by decide) dX0_init_39 dX0_init_41 ?_
  refine by_aload C 44 dX0_init_44 ?_
  refine by_bipush C 45 (nI 36) dX0_init_45 (by decide) ?_
  refine by_new C 47 7 (atype := .int) (by decide) rfl (by decide) (by decide) (by decide) rfl q120 q42 (by decide) (by decide) dX0_init_47 dX0_init_49 ?_
  refine by_aload C 52 dX0_init_52 ?_
  refine by_bipush C 53 (nI 12) dX0_init_53 (by decide) ?_
  refine by_new C 55 8 (atype := .int) (by decide) rfl (by decide) (by decide) (by decide) rfl q120 q43 (by decide) (by decide) dX0_init_55 dX0_init_57 ?_
  refine by_aload C 60 dX0_init_60 ?_
  refine by_bipush C 61 (nI 12) dX0_init_61 (by decide) ?_
  refine by_new C 63 9 (atype := .boolean) (by decide) rfl (by decide) (by decide) (by decide) rfl q121 q44 (by decide) (by decide) dX0_init_63 dX0_init_65 ?_
  refine by_aload C 68 dX0_init_68 ?_
  refine by_bipush C 69 (nI 12) dX0_init_69 (by decide) ?_
  refine by_new C 71 10 (atype := .int) (by decide) rfl (by decide) (by decide) (by decide) rfl q120 q45 (by decide) (by decide) dX0_init_71 dX0_init_73 ?_
  refine by_aload C 76 dX0_init_76 ?_
  refine by_bipush C 77 (nI 12) dX0_init_77 (by decide) ?_
  refine by_new C 79 11 (atype := .int) (by decide) rfl (by decide) (by decide) (by decide) rfl q120 q46 (by decide) (by decide) dX0_init_79 dX0_init_81 ?_
  refine by_aload C 84 dX0_init_84 ?_
  refine by_bipush C 85 (nI 36) dX0_init_85 (by decide) ?_
  refine by_new C 87 12 (atype := .int) (by decide) rfl (by decide) (by decide) (by decide) rfl q120 q47 (by decide) (by decide) dX0_init_87 dX0_init_89 ?_
  refine by_aload C 92 dX0_init_92 ?_
  refine by_bipush C 93 (nI 12) dX0_init_93 (by decide) ?_
  refine by_new C 95 13 (atype := .int) (by decide) rfl (by decide) (by decide) (by decide) rfl q120 q48 (by decide) (by decide) dX0_init_95 dX0_init_97 ?_
  refine by_aload C 100 dX0_init_100 ?_
  refine by_bipush C 101 (nI 12) dX0_init_101 (by decide) ?_
  refine by_new C 103 14 (atype := .int) (by decide) rfl (by decide) (by decide) (by decide) rfl q120 q49 (by decide) (by decide) dX0_init_103 dX0_init_105 ?_
  refine by_aload C 108 dX0_init_108 ?_
  refine by_bipush C 109 (nI 12) dX0_init_109 (by decide) ?_
  refine by_new C 111 15 (atype := .int) (by decide) rfl (by decide) (by decide) (by decide) rfl q120 q50 (by decide) (by decide) dX0_init_111 dX0_init_113 ?_
  refine by_aload C 116 dX0_init_116 ?_
  refine by_bipush C 117 (nI 12) dX0_init_117 (by decide) ?_
  refine by_new C 119 18 (atype := .int) (by decide) rfl (by decide) (by decide) (by decide) rfl q120 q53 (by decide) (by decide) dX0_init_119 dX0_init_121 ?_
  refine by_aload C 124 dX0_init_124 ?_
  refine by_sipush C 125 (nI 480) dX0_init_125 (by decide) ?_
  refine by_new C 128 19 (atype := .int) (by decide) rfl (by decide) (by decide) (by decide) rfl q120 q54 (by decide) (by decide) dX0_init_128 dX0_init_130 ?_
  refine by_aload C 133 dX0_init_133 ?_
  refine by_sipush C 134 (nI 480) dX0_init_134 (by decide) ?_
  refine by_new C 137 20 (atype := .int) (by decide) rfl (by decide) (by decide) (by decide) rfl q120 q55 (by decide) (by decide) dX0_init_137 dX0_init_139 ?_
  refine by_aload C 142 dX0_init_142 ?_
  refine by_sipush C 143 (nI 480) dX0_init_143 (by decide) ?_
  refine by_new C 146 21 (atype := .int) (by decide) rfl (by decide) (by decide) (by decide) rfl q120 q56 (by decide) (by decide) dX0_init_146 dX0_init_148 ?_
  refine by_aload C 151 dX0_init_151 ?_
  refine by_sipush C 152 (nI 480) dX0_init_152 (by decide) ?_
  refine by_new C 155 22 (atype := .int) (by decide) rfl (by decide) (by decide) (by decide) rfl q120 q57 (by decide) (by decide) dX0_init_155 dX0_init_157 ?_
  refine by_aload C 160 dX0_init_160 ?_
  refine by_sipush C 161 (nI 1440) dX0_init_161 (by decide) ?_
  refine by_new C 164 23 (atype := .int) (by decide) rfl (by decide) (by decide) (by decide) rfl q120 q58 (by decide) (by decide) dX0_init_164 dX0_init_166 ?_
  refine by_aload C 169 dX0_init_169 ?_
  refine by_iconst C 170 (nI 3) dX0_init_170 (by decide) ?_
  refine by_new C 171 24 (atype := .int) (by decide) rfl (by decide) (by decide) (by decide) rfl q120 q59 (by decide) (by decide) dX0_init_171 dX0_init_173 ?_
  refine by_aload C 176 dX0_init_176 ?_
  refine by_bipush C 177 (nI 12) dX0_init_177 (by decide) ?_
  refine by_new C 179 25 (atype := .int) (by decide) rfl (by decide) (by decide) (by decide) rfl q120 q60 (by decide) (by decide) dX0_init_179 dX0_init_181 ?_
  refine by_aload C 184 dX0_init_184 ?_
  refine by_bipush C 185 (nI 12) dX0_init_185 (by decide) ?_
  refine by_new C 187 26 (atype := .int) (by decide) rfl (by decide) (by decide) (by decide) rfl q120 q61 (by decide) (by decide) dX0_init_187 dX0_init_189 ?_
  intro ad H locs ls hP hS hl
  obtain ⟨hx, hb, -, hown, hts, hK, -, -, -, hh, -⟩ := C
  obtain ⟨g1, g2, g3⟩ := bg_PP_done hP (by decide +kernel) hh
  refine lv_iconst (v := nI 0) hx hb dX0_init_192 (by decide) ?_
  refine lv_istore_n (lv' := [(1, .int (nI 0)), (0, .ref h)]) hx hb dX0_init_193 rfl hl (by decide) rfl (fun ls hl => ?_)
  have g1 : bg_P kX (D, h, ad, cI, cZ) (bg_U (fun _ _ => 0) 18 (fun _ => 0)) H := by
    rw [show bg_U (fun _ _ => 0) 18 (fun _ => 0) = (fun _ _ => 0 : bg_S) from bg_Uid (fun _ _ => 0) 18]
    exact g1
  refine xw_init (o := (D, h, ad, cI, cZ)) (A := bg_Al s.heap.size h) hx hb hown hts hK g2 (Or.inr (g3 18 (by decide) (by decide))) (fun g H locs ls hg hP hS => ?_) 12 0 (fun _ => 0) H locs ls (by omega) (fun t ht => absurd ht (by omega)) g1 hS hl
  exact W.vret hx hb hrt (fun t ht hW => ⟨⟨rfl, ad, _, ⟨g, hg, rfl⟩, by rw [ht]; exact hP, g2, g3, va_K.moved hW.alike hK⟩, hS.F ht⟩) hS.2.2 dX0_init_213 hlk
end
section
set_option maxRecDepth 100000
-- ===== end of PART A; then your names; then what follows =====
/-! THE CLAIM OUT OF ONE WALK OF THE LAW'S BODY. Your part is whole_start (and what it stands on); all else here is the same for every law, but numbers. -/
def R_law : String := "BuildGraphLaw"
def lw_P (b : Addr) (xs : List Int32) (args : Array Value) (s : State) : Prop := args = #[.ref b] ∧ s.IntsAt b xs ∧ xs.length ≤ 192 ∧ (Jvm.Cond.and given_1 narrow_1).before args s = true
def lw_Q (_ : Array Value) (s : State) (o : Outcome) (t : State) : Prop := o = .returned (some (.int 1)) ∧ Framed s o t [] 600000 7290000
def lw_Z (below : List Frame) (a : Array Value) (s : State) : State → Prop := fun t => ∃ o, t.status = .running ∧ Ended t below o ∧ lw_Q a s o t
/-- the law's own end, with 1 on the stack, nothing written that was there before, its room as the claim has it -/
theorem lw_ret {p : Program} {l : Launch} {e : Env} {s : State} {m : MethodId} {below : List Frame} {meth : Method} {c : Code} {b : Nat} (hx : p.tables.exec = Jvm.exec) (hb : c.code = code) (hr : meth.sig.returnType = ret) (hlocks : meth.locks = false) {pc : Nat} {H : Heap} {ls : Array Slot} (hdg : decode code pc = .ok (.ireturn, 1)) : W p l e room_1 s m #[Value.ref b] below meth c H [] 600000 7290000 (lw_Z below #[Value.ref b] s) (F0 m pc ls [.int 1]) := by
  intro T hT X
  obtain ⟨fs, hret, hrun, hended, hW, hframe⟩ := X.leave (v := some (.int 1)) (hlocks := hlocks) (fun h => by rw [hr] at h; cases h)
  have hmeth' : T.vm.method? m = some meth := X.method'
  refine ⟨T.setFrames fs, ?_, .returned (some (.int 1)), hrun, hended, rfl, ⟨_, rfl⟩, hW, hframe⟩
  jvm_step X.here [X.here.top, hx, hb, hdg, hmeth', hr, ret, narrow_b1]
  (try refine ⟨rfl, ?_⟩); (try refine ⟨rfl, ?_⟩)
  first | (intro acts; rw [hret _ acts rfl rfl rfl]) | rw [hret _ _ rfl rfl rfl]
  exact Steps.refl _
/-- what holds at the law's entry: the machine, the code, the tables' words (any of lw_tbl by 'hts w (by decide +kernel)'), the script of L ints xs at the cell b, what the Statement gives of the start (any of its parts by flat_of_before) -/
def lw_At (p : Program) (s : State) (m : MethodId) (meth : Method) (c : Code) (b L : Nat) (xs : Nat → Int32) : Prop :=
  p.tables.exec = Jvm.exec ∧ c.code = code ∧ meth.sig.returnType = ret ∧ c.maxLocals = 4 ∧ s.vm.findClass R_law = some m.cls ∧ (∀ w ∈ lw_tbl, w.before #[Value.ref b] s = true) ∧ va_X b L xs s s.heap ∧ b < s.heap.size ∧ meth.locks = false ∧ (Jvm.Cond.and given_1 narrow_1).before #[Value.ref b] s = true
end
section
/-! THE LAW: its start tie, its judgement, its rows -/
set_option maxRecDepth 100000
theorem bs_start {σ : bg_S} (h : bx_born σ) : bs_sim σ (fun _ _ => 0) 0 := by
  obtain ⟨g, hg, rfl⟩ := h
  refine ⟨0, 0, fun _ => [], 0, 0, Nat.le_refl 0, ⟨rfl, rfl, rfl, rfl, rfl, rfl, rfl, by omega, ?_, fun t ht => Or.inl rfl, fun t _ _ => rfl⟩, fun t ht => ⟨rfl, rfl, Or.inl rfl, fun _ => rfl⟩, fun t ht h9 => absurd rfl h9, ⟨rfl, fun k hk => ?_, fun t ht => ⟨?_, ?_, ?_⟩⟩, fun t ht h9 => absurd rfl h9, fun t ht => ⟨fun a ha => (by cases ha), fun c n v hn => ⟨?_, ?_⟩⟩, ⟨rfl, rfl, by omega, ⟨rfl, fun t ht => ⟨?_, fun a ha => (by cases ha)⟩⟩, by omega, fun u hu => Nat.le_refl 0, fun u _ hu => ⟨rfl, Nat.le_refl 0⟩⟩, ⟨fun t ht => ⟨rfl, fun _ => rfl⟩, rfl⟩⟩
  · intro t ht
    refine ⟨rfl, ?_, fun i hi => absurd hi ?_⟩
    · exact Nat.zero_le 3
    · exact Nat.not_lt_zero i
  · exact Int32.le_refl _
  · exact Int32.le_refl _
  · exact Int32.le_refl _
  · exact Int32.le_refl _
  · rintro ⟨a, ha, -⟩
    cases ha
  · rintro ⟨j, hj, -⟩
    exact absurd hj (Nat.not_lt_zero j)
  · show g t < 0
    rw [hg t ht]
    decide
theorem bs_sim.mono {σ μ : bg_S} {N M : Nat} (h : bs_sim σ μ N) (hNM : N ≤ M) : bs_sim σ μ M := by
  obtain ⟨T, V, Ls, R, B, hV, h⟩ := h
  exact ⟨T, V, Ls, R, B, by omega, h⟩
abbrev bl_E : Type := Program × Launch × Env × State × MethodId × List Frame × Method × Code × Nat × Nat × (Nat → Int32)
/-- an object's own cells -/
def bg_own (Γ : bg_C) (o : bg_O) (q : Nat) : Prop := q = bg_h o ∨ ∃ k, k < bg_N Γ ∧ bg_ln Γ k ≠ 0 ∧ q = bg_a o k
/-- the law at pc, i ints read, the two objects in the states σ and μ -/
def bl_X (X : bl_E) (ox om : bg_O) (σ μ : bg_S) (i pc : Nat) (st : List Value) : Prop := match X with
  | (p, l, e, s, m, below, meth, c, b, _, _) => ∀ (H : Heap) (locs : List Loc) (ls : Array Slot), bg_P kX ox σ H → bg_P kM om μ H → va_S (fun q : Nat => s.heap.size ≤ q) s.heap H locs → lv_has ls 4 [(0, .ref b), (1, .ref (bg_h ox)), (2, .ref (bg_h om)), (3, .int (nI i))] → W p l e room_1 s m #[Value.ref b] below meth c H locs 37 6250 (lw_Z below #[Value.ref b] s) (F0 m pc ls st)
def bl_Cx (X : bl_E) (ox om : bg_O) : Prop := match X with
  | (p, _, _, s, m, _, meth, c, b, L, xs) => lw_At p s m meth c b L xs ∧ L ≤ 192 ∧ (bg_K ox s ∧ bg_D kX ox ∧ ∀ q, bg_own kX ox q → s.heap.size ≤ q) ∧ (bg_K om s ∧ bg_D kM om ∧ ∀ q, bg_own kM om q → s.heap.size ≤ q) ∧ ∀ q, bg_own kX ox q → ¬ bg_own kM om q
def bl_L (X : bl_E) : Nat := X.2.2.2.2.2.2.2.2.2.1
def bl_x (X : bl_E) : Nat → Int32 := X.2.2.2.2.2.2.2.2.2.2
def bl_b (X : bl_E) : Nat := X.2.2.2.2.2.2.2.2.1
section LAW
variable {X : bl_E} {ox om : bg_O} {σ μ : bg_S} {i : Nat} {st : List Value}
theorem bl_aload0 (C : bl_Cx X ox om) (pc : Nat) (hdg : decode code pc = .ok (.aload_n 0, 1)) (kk : bl_X X ox om σ μ i (pc + 1) (.ref (bl_b X) :: st)) : bl_X X ox om σ μ i pc st := by
  obtain ⟨p, l, e, s, m, below, meth, c, b, L, xs⟩ := X
  obtain ⟨⟨hx, hb, -⟩, -⟩ := C
  intro H locs ls hP hP2 hS hl
  exact lv_aload_n hx hb hdg rfl (lv_at hl 0 rfl) (kk H locs ls hP hP2 hS hl)
theorem bl_aload1 (C : bl_Cx X ox om) (pc : Nat) (hdg : decode code pc = .ok (.aload_n 1, 1)) (kk : bl_X X ox om σ μ i (pc + 1) (.ref (bg_h ox) :: st)) : bl_X X ox om σ μ i pc st := by
  obtain ⟨p, l, e, s, m, below, meth, c, b, L, xs⟩ := X
  obtain ⟨⟨hx, hb, -⟩, -⟩ := C
  intro H locs ls hP hP2 hS hl
  exact lv_aload_n hx hb hdg rfl (lv_at hl 1 rfl) (kk H locs ls hP hP2 hS hl)
theorem bl_aload2 (C : bl_Cx X ox om) (pc : Nat) (hdg : decode code pc = .ok (.aload_n 2, 1)) (kk : bl_X X ox om σ μ i (pc + 1) (.ref (bg_h om) :: st)) : bl_X X ox om σ μ i pc st := by
  obtain ⟨p, l, e, s, m, below, meth, c, b, L, xs⟩ := X
  obtain ⟨⟨hx, hb, -⟩, -⟩ := C
  intro H locs ls hP hP2 hS hl
  exact lv_aload_n hx hb hdg rfl (lv_at hl 2 rfl) (kk H locs ls hP hP2 hS hl)
theorem bl_iload3 (C : bl_Cx X ox om) (pc : Nat) (hdg : decode code pc = .ok (.iload_n 3, 1)) (kk : bl_X X ox om σ μ i (pc + 1) (.int (nI i) :: st)) : bl_X X ox om σ μ i pc st := by
  obtain ⟨p, l, e, s, m, below, meth, c, b, L, xs⟩ := X
  obtain ⟨⟨hx, hb, -⟩, -⟩ := C
  intro H locs ls hP hP2 hS hl
  exact lv_iload_n hx hb hdg rfl (lv_at hl 3 rfl) (kk H locs ls hP hP2 hS hl)
theorem bl_iconst (C : bl_Cx X ox om) (pc : Nat) (v : Int32) {z : Int} (hdg : decode code pc = .ok (.iconst z, 1)) (hv : Int32.ofInt z = v) (kk : bl_X X ox om σ μ i (pc + 1) (.int v :: st)) : bl_X X ox om σ μ i pc st := by
  obtain ⟨p, l, e, s, m, below, meth, c, b, L, xs⟩ := X
  obtain ⟨⟨hx, hb, -⟩, -⟩ := C
  intro H locs ls hP hP2 hS hl
  exact lv_iconst hx hb hdg hv (kk H locs ls hP hP2 hS hl)
theorem bl_bipush (C : bl_Cx X ox om) (pc : Nat) (v : Int32) {z : Int} (hdg : decode code pc = .ok (.bipush z, 2)) (hv : (Int8.ofInt z).toInt32 = v) (kk : bl_X X ox om σ μ i (pc + 2) (.int v :: st)) : bl_X X ox om σ μ i pc st := by
  obtain ⟨p, l, e, s, m, below, meth, c, b, L, xs⟩ := X
  obtain ⟨⟨hx, hb, -⟩, -⟩ := C
  intro H locs ls hP hP2 hS hl
  exact lv_bipush hx hb hdg hv (kk H locs ls hP hP2 hS hl)
theorem bl_iadd (C : bl_Cx X ox om) (pc : Nat) {a b : Nat} (hdg : decode code pc = .ok (.iadd, 1)) (kk : bl_X X ox om σ μ i (pc + 1) (.int (nI (a + b)) :: st)) : bl_X X ox om σ μ i pc (.int (nI b) :: .int (nI a) :: st) := by
  obtain ⟨p, l, e, s, m, below, meth, c, b0, L, xs⟩ := X
  obtain ⟨⟨hx, hb, -⟩, -⟩ := C
  intro H locs ls hP hP2 hS hl
  exact lv_iadd hx hb hdg (by rw [nI_add]; exact kk H locs ls hP hP2 hS hl)
theorem bl_isub (C : bl_Cx X ox om) (pc : Nat) {x y : Int32} (hdg : decode code pc = .ok (.isub, 1)) (kk : bl_X X ox om σ μ i (pc + 1) (.int (x - y) :: st)) : bl_X X ox om σ μ i pc (.int y :: .int x :: st) := by
  obtain ⟨p, l, e, s, m, below, meth, c, b0, L, xs⟩ := X
  obtain ⟨⟨hx, hb, -⟩, -⟩ := C
  intro H locs ls hP hP2 hS hl
  exact lv_isub hx hb hdg (kk H locs ls hP hP2 hS hl)
theorem bl_iand (C : bl_Cx X ox om) (pc : Nat) {x y : Int32} (hdg : decode code pc = .ok (.iand, 1)) (kk : bl_X X ox om σ μ i (pc + 1) (.int (x &&& y) :: st)) : bl_X X ox om σ μ i pc (.int y :: .int x :: st) := by
  obtain ⟨p, l, e, s, m, below, meth, c, b0, L, xs⟩ := X
  obtain ⟨⟨hx, hb, -⟩, -⟩ := C
  intro H locs ls hP hP2 hS hl
  exact lv_iand hx hb hdg (kk H locs ls hP hP2 hS hl)
theorem bl_len (C : bl_Cx X ox om) (pc : Nat) (hdg : decode code pc = .ok (.arraylength, 1)) (kk : bl_X X ox om σ μ i (pc + 1) (.int (nI (bl_L X)) :: st)) : bl_X X ox om σ μ i pc (.ref (bl_b X) :: st) := by
  obtain ⟨p, l, e, s, m, below, meth, c, b, L, xs⟩ := X
  obtain ⟨⟨hx, hb, -, -, -, -, hX, hbl, -⟩, -⟩ := C
  intro H locs ls hP hP2 hS hl
  exact va_slen hx hb hX hbl (Nat.not_le.mpr hbl) hS hdg (kk H locs ls hP hP2 hS hl)
theorem bl_sld (C : bl_Cx X ox om) (pc : Nat) {j : Nat} (hj : j < bl_L X) (hdg : decode code pc = .ok (.iaload, 1)) (kk : bl_X X ox om σ μ i (pc + 1) (.int (bl_x X j) :: st)) : bl_X X ox om σ μ i pc (.int (nI j) :: .ref (bl_b X) :: st) := by
  obtain ⟨p, l, e, s, m, below, meth, c, b, L, xs⟩ := X
  obtain ⟨⟨hx, hb, -, -, -, -, hX, hbl, -⟩, hL, -⟩ := C
  intro H locs ls hP hP2 hS hl
  have hj : j < L := hj
  refine va_sld hx hb hX hbl (Nat.not_le.mpr hbl) hS (vp_in_nI hj (by omega)) hdg ?_
  rw [nI_clamp (by omega)]
  exact kk H locs ls hP hP2 hS hl
theorem bl_eq {pc : Nat} {x y : Int32} (h : x = y) (kk : bl_X X ox om σ μ i pc (.int y :: st)) : bl_X X ox om σ μ i pc (.int x :: st) := by rw [h]; exact kk
theorem bl_goto (C : bl_Cx X ox om) (pc : Nat) {off : Int} (tgt : Nat) (hdg : decode code pc = .ok (.goto off, 3)) (ht : (pc : Int) + off = (tgt : Int)) (kk : bl_X X ox om σ μ i tgt st) : bl_X X ox om σ μ i pc st := by
  obtain ⟨p, l, e, s, m, below, meth, c, b, L, xs⟩ := X
  obtain ⟨⟨hx, hb, -⟩, -⟩ := C
  intro H locs ls hP hP2 hS hl
  exact lv_goto hx hb hdg ht (kk H locs ls hP hP2 hS hl)
theorem bl_same (C : bl_Cx X ox om) (pc : Nat) {x y : Int32} (h : x = y) {off : Int} (tgt : Nat) (hdg : decode code pc = .ok (.if_icmp .eq off, 3)) (ht : (pc : Int) + off = (tgt : Int)) (kk : bl_X X ox om σ μ i tgt st) : bl_X X ox om σ μ i pc (.int y :: .int x :: st) := by
  obtain ⟨p, l, e, s, m, below, meth, c, b, L, xs⟩ := X
  obtain ⟨⟨hx, hb, -⟩, -⟩ := C
  intro H locs ls hP hP2 hS hl
  exact lv_icmp_eq hx hb hdg ht (fun _ => kk H locs ls hP hP2 hS hl) (fun q => absurd h q)
theorem bl_gt (C : bl_Cx X ox om) (pc : Nat) {x y : Int32} {off : Int} (tgt : Nat) (hdg : decode code pc = .ok (.if_icmp .gt off, 3)) (ht : (pc : Int) + off = (tgt : Int)) (kt : y < x → bl_X X ox om σ μ i tgt st) (kf : ¬ y < x → bl_X X ox om σ μ i (pc + 3) st) : bl_X X ox om σ μ i pc (.int y :: .int x :: st) := by
  obtain ⟨p, l, e, s, m, below, meth, c, b, L, xs⟩ := X
  obtain ⟨⟨hx, hb, -⟩, -⟩ := C
  intro H locs ls hP hP2 hS hl
  exact lv_icmp_gt hx hb hdg ht (fun q => kt q H locs ls hP hP2 hS hl) (fun q => kf q H locs ls hP hP2 hS hl)
theorem bl_iinc (C : bl_Cx X ox om) (pc : Nat) (hdg : decode code pc = .ok (.iinc 3 3, 3)) (kk : bl_X X ox om σ μ (i + 3) (pc + 3) st) : bl_X X ox om σ μ i pc st := by
  obtain ⟨p, l, e, s, m, below, meth, c, b, L, xs⟩ := X
  obtain ⟨⟨hx, hb, -⟩, -⟩ := C
  intro H locs ls hP hP2 hS hl
  refine lv_iinc (v := nI (i + 3)) (lv' := [(3, .int (nI (i + 3))), (0, .ref b), (1, .ref (bg_h ox)), (2, .ref (bg_h om))]) hx hb hdg hl (k := 3) rfl (by rw [← nI_add]; rfl) (by decide) rfl (fun ls' hl' => ?_)
  exact kk H locs ls' hP hP2 hS (lv_sub hl' [1, 2, 3, 0] rfl)
theorem bl_swIn (C : bl_Cx X ox om) (pc : Nat) {dflt lo hi : Int} {offs : Array Int} {len : Nat} {x : Int32} {off : Int} (tgt : Nat) (hdg : decode code pc = .ok (.tableswitch dflt lo hi offs, len)) (h1 : ¬ x.toInt < lo) (h2 : ¬ hi < x.toInt) (ho : offs[(x.toInt - lo).toNat]? = some off) (ht : (pc : Int) + off = (tgt : Int)) (kk : bl_X X ox om σ μ i tgt st) : bl_X X ox om σ μ i pc (.int x :: st) := by
  obtain ⟨p, l, e, s, m, below, meth, c, b, L, xs⟩ := X
  obtain ⟨⟨hx, hb, -⟩, -⟩ := C
  intro H locs ls hP hP2 hS hl
  exact lv_tableIn hx hb hdg h1 h2 ho ht (kk H locs ls hP hP2 hS hl)
theorem bl_swOut (C : bl_Cx X ox om) (pc : Nat) {dflt lo hi : Int} {offs : Array Int} {len : Nat} {x : Int32} (tgt : Nat) (hdg : decode code pc = .ok (.tableswitch dflt lo hi offs, len)) (h : x.toInt < lo ∨ hi < x.toInt) (ht : (pc : Int) + dflt = (tgt : Int)) (kk : bl_X X ox om σ μ i tgt st) : bl_X X ox om σ μ i pc (.int x :: st) := by
  obtain ⟨p, l, e, s, m, below, meth, c, b, L, xs⟩ := X
  obtain ⟨⟨hx, hb, -⟩, -⟩ := C
  intro H locs ls hP hP2 hS hl
  exact lv_tableOut hx hb hdg h ht (kk H locs ls hP hP2 hS hl)
theorem bl_end (C : bl_Cx X ox om) (pc : Nat) (hdg : decode code pc = .ok (.ireturn, 1)) : bl_X X ox om σ μ i pc [.int 1] := by
  obtain ⟨p, l, e, s, m, below, meth, c, b, L, xs⟩ := X
  obtain ⟨⟨hx, hb, hr, hml, hown, hts, hX, hbl, hlocks, -⟩, -⟩ := C
  intro H locs ls hP hP2 hS hl
  refine va_forget hS.2.2 ?_
  refine W.widen (k := 600000) (n := 7290000) (by omega) (by omega) ?_
  exact lw_ret hx hb hr hlocks hdg
theorem bg_P_lt {Γ : bg_C} {o : bg_O} {H : Heap} (hP : bg_P Γ o σ H) {q : Nat} (hq : bg_own Γ o q) : q < H.size := by
  rcases hq with rfl | ⟨k, hk, hn, rfl⟩
  · obtain ⟨cell, q1, -⟩ := hP.1
    exact (Array.getElem?_eq_some_iff.mp q1).1
  · exact (Array.getElem?_eq_some_iff.mp (hP.2 k hk hn)).1
theorem bg_P_kept {Γ : bg_C} {o : bg_O} {H H1 : Heap} (hP : bg_P Γ o σ H) (hq : ∀ q, bg_own Γ o q → H1[q]? = H[q]?) : bg_P Γ o σ H1 :=
  ⟨hP.1.kept (hq _ (Or.inl rfl)), fun k hk hn => by rw [hq _ (Or.inr ⟨k, hk, hn, rfl⟩)]; exact hP.2 k hk hn⟩
theorem bg_A_own {Γ : bg_C} {o : bg_O} {sz q : Nat} (h : bg_A Γ o sz q) : bg_own Γ o q ∨ sz ≤ q := by
  rcases h with h | h | h
  · exact Or.inl (Or.inl h)
  · exact Or.inl (Or.inr h)
  · exact Or.inr h
/-- a call on the BuildGraph -/
theorem bl_callX {y : MethodName} {cy : ByteArray} {ny fy ly na idx : Nat} {ry : Option FieldType} {as : List Int32} {py : Int32 → bg_S → Prop} (C : bl_Cx X ox om) (pc : Nat) (hM : bg_M kX y cy ny ry fy ly as σ py) (hR : fy + 1 ≤ 8 ∧ 8 + (ny + 11) + ly ≤ 272)
    (hG : GoodIn lw_all (wsV R_law idx (bg_nm kX) y (ws_ y cy ny ry))) (hd : y.cls = bg_nm kX ∧ y.cls ≠ "java/lang/invoke/MethodHandle" ∧ y.cls ≠ "java/lang/invoke/VarHandle" ∧ (parseMethodDescriptor y.desc).map (fun d => d.parameters.length) = some na) (hn : as.length = na)
    (hst : (st.map fun v => v.category).sum ≤ 8) (hdg : decode code pc = .ok (.invokevirtual idx, 3)) (kk : ∀ (r : Int32) (σ' : bg_S), py r σ' → bl_X X ox om σ' μ i (pc + 3) ((bg_R ry r).toList ++ st)) : bl_X X ox om σ μ i pc ((as.map Value.int).reverse ++ .ref (bg_h ox) :: st) := by
  obtain ⟨p, l, e, s, m, below, meth, c, b, L, xs⟩ := X
  obtain ⟨⟨hx, hb, hr, hml, hown, hts0, hX, hbl, hlocks, -⟩, hL, ⟨hK, hD, hA⟩, ⟨hK2, hD2, hA2⟩, hdis⟩ := C
  intro H locs ls hP hP2 hS hl
  have hts : ∀ w ∈ lw_all, w.before #[Value.ref b] s = true := fun w h => hts0 w (lw_all_tbl h)
  have hrun : va_Run p l e room_1 s m #[Value.ref b] below meth c H locs 37 6250 0 0 (F0 m pc ls ((as.map Value.int).reverse ++ .ref (bg_h ox) :: st)) st (bg_Q kX ox ry py (bg_A kX ox H.size) (Value.ref (bg_h ox) :: as.map Value.int).toArray) (bg_A kX ox H.size) :=
    va_runV (As := as.map Value.int) (rest := st) ⟨hx, hb, hml, hown, hts⟩ (hM l ox H.size) (cwV na hts hG rfl rfl rfl hd hR)
      ⟨fun a U g mk q => by
        obtain ⟨q0, q1, qP, qK, qD⟩ := q
        exact ⟨q0, q1, qP, va_K.moved (u := U) (U := U.calling g mk a) (Vm.Alike.refl U.vm) qK, qD⟩, bg_recv okkX hK hP, fun U hU hW => ⟨rfl, by rw [hU], by rw [hU]; exact hP, va_K.moved hW.alike hK, hD⟩⟩
      rfl (by rw [List.length_map]; exact hn) hl.1 rfl (lv_room hst) hdg ⟨by decide, by decide⟩
  intro T hT XS
  obtain ⟨v, st₀, t, T', Lo, h0, X', hLo, e1, e2, ⟨⟨r, σ', hv, hp, hP', hK'⟩, hz, hk⟩, stp⟩ := hrun T hT XS
  cases hv
  rw [h0] at hz hk
  have hAs : ∀ q, bg_A kX ox H.size q → s.heap.size ≤ q := fun q h => by
    rcases bg_A_own h with h | h
    · exact hA q h
    · exact Nat.le_trans hS.1 h
  obtain ⟨t2, a1, b1⟩ := kk r σ' hp T'.heap (locs ++ Lo) ls (by rw [e1]; exact hP') (bg_P_kept hP2 (fun q hq => by
      have hlt := bg_P_lt hP2 hq
      rw [e1]
      refine hk q hlt (fun h => ?_)
      rcases bg_A_own h with h | h
      · exact hdis q h hq
      · omega))
    ⟨Nat.le_trans hS.1 (by rw [e1]; exact hz), fun q h1 h2 => by rw [e1, hk q (Nat.lt_of_lt_of_le h1 hS.1) (fun z => h2 (hAs q z))]; exact hS.2.1 q h1 h2, fun q hq => by
      rcases List.mem_append.mp hq with h | h
      · exact hS.2.2 q h
      · exact hAs _ (hLo q h)⟩ hl T' rfl X'
  exact ⟨t2, stp t2 a1, b1⟩
/-- a call on the BuildGraphModel -/
theorem bl_callM {y : MethodName} {cy : ByteArray} {ny fy ly na idx : Nat} {ry : Option FieldType} {as : List Int32} {py : Int32 → bg_S → Prop} (C : bl_Cx X ox om) (pc : Nat) (hM : bg_M kM y cy ny ry fy ly as μ py) (hR : fy + 1 ≤ 8 ∧ 8 + (ny + 11) + ly ≤ 272)
    (hG : GoodIn lw_all (wsV R_law idx (bg_nm kM) y (ws_ y cy ny ry))) (hd : y.cls = bg_nm kM ∧ y.cls ≠ "java/lang/invoke/MethodHandle" ∧ y.cls ≠ "java/lang/invoke/VarHandle" ∧ (parseMethodDescriptor y.desc).map (fun d => d.parameters.length) = some na) (hn : as.length = na)
    (hst : (st.map fun v => v.category).sum ≤ 8) (hdg : decode code pc = .ok (.invokevirtual idx, 3)) (kk : ∀ (r : Int32) (σ' : bg_S), py r σ' → bl_X X ox om σ σ' i (pc + 3) ((bg_R ry r).toList ++ st)) : bl_X X ox om σ μ i pc ((as.map Value.int).reverse ++ .ref (bg_h om) :: st) := by
  obtain ⟨p, l, e, s, m, below, meth, c, b, L, xs⟩ := X
  obtain ⟨⟨hx, hb, hr, hml, hown, hts0, hX, hbl, hlocks, -⟩, hL, ⟨hK, hD, hA⟩, ⟨hK2, hD2, hA2⟩, hdis⟩ := C
  intro H locs ls hP hP2 hS hl
  have hts : ∀ w ∈ lw_all, w.before #[Value.ref b] s = true := fun w h => hts0 w (lw_all_tbl h)
  have hrun : va_Run p l e room_1 s m #[Value.ref b] below meth c H locs 37 6250 0 0 (F0 m pc ls ((as.map Value.int).reverse ++ .ref (bg_h om) :: st)) st (bg_Q kM om ry py (bg_A kM om H.size) (Value.ref (bg_h om) :: as.map Value.int).toArray) (bg_A kM om H.size) :=
    va_runV (As := as.map Value.int) (rest := st) ⟨hx, hb, hml, hown, hts⟩ (hM l om H.size) (cwV na hts hG rfl rfl rfl hd hR)
      ⟨fun a U g mk q => by
        obtain ⟨q0, q1, qP, qK, qD⟩ := q
        exact ⟨q0, q1, qP, va_K.moved (u := U) (U := U.calling g mk a) (Vm.Alike.refl U.vm) qK, qD⟩, bg_recv okkM hK2 hP2, fun U hU hW => ⟨rfl, by rw [hU], by rw [hU]; exact hP2, va_K.moved hW.alike hK2, hD2⟩⟩
      rfl (by rw [List.length_map]; exact hn) hl.1 rfl (lv_room hst) hdg ⟨by decide, by decide⟩
  intro T hT XS
  obtain ⟨v, st₀, t, T', Lo, h0, X', hLo, e1, e2, ⟨⟨r, σ', hv, hp, hP', hK'⟩, hz, hk⟩, stp⟩ := hrun T hT XS
  cases hv
  rw [h0] at hz hk
  have hAs : ∀ q, bg_A kM om H.size q → s.heap.size ≤ q := fun q h => by
    rcases bg_A_own h with h | h
    · exact hA2 q h
    · exact Nat.le_trans hS.1 h
  obtain ⟨t2, a1, b1⟩ := kk r σ' hp T'.heap (locs ++ Lo) ls (bg_P_kept hP (fun q hq => by
      have hlt := bg_P_lt hP hq
      rw [e1]
      refine hk q hlt (fun h => ?_)
      rcases bg_A_own h with h | h
      · exact hdis q hq h
      · omega)) (by rw [e1]; exact hP')
    ⟨Nat.le_trans hS.1 (by rw [e1]; exact hz), fun q h1 h2 => by rw [e1, hk q (Nat.lt_of_lt_of_le h1 hS.1) (fun z => h2 (hAs q z))]; exact hS.2.1 q h1 h2, fun q hq => by
      rcases List.mem_append.mp hq with h | h
      · exact hS.2.2 q h
      · exact hAs _ (hLo q h)⟩ hl T' rfl X'
  exact ⟨t2, stp t2 a1, b1⟩
end LAW
end
section
/-! the law's cases; by gen/cases.py -/
set_option maxRecDepth 100000
section CAS
variable {X : bl_E} {ox om : bg_O} {σ μ : bg_S} {i T V R B : Nat} {Ls : Nat → List Nat}
theorem lc_0 (C : bl_Cx X ox om) (h : bs_all σ μ T V Ls R B) (hV : V ≤ i) (hi : i + 2 < bl_L X) (hL : bl_L X ≤ 192) (K : ∀ σ' μ' : bg_S, bs_sim σ' μ' (i + 3) → bl_X X ox om σ' μ' i 434 []) : bl_X X ox om σ μ i 104 [] := by
  obtain ⟨⟨a0, a4, a5, a6, a7, a3, a1, hT12, hok, hk, hz⟩, -, -, -, -, -, ⟨c1, c2, c3, c4, c5, c6, c7⟩, -⟩ := id h
  have hok2 : bp_OK (μ 4) (μ 5) := by rw [← a6, ← a7]; exact hok
  refine bl_aload1 C 104 dL_law_104 ?_
  refine bl_aload0 C 105 dL_law_105 ?_
  refine bl_iload3 C 106 dL_law_106 ?_
  refine bl_iconst C 107 (nI 1) dL_law_107 (by decide) ?_
  refine bl_iadd C 108 dL_law_108 ?_
  refine bl_sld C 109 (by omega) dL_law_109 ?_
  refine bl_aload0 C 110 dL_law_110 ?_
  refine bl_iload3 C 111 dL_law_111 ?_
  refine bl_iconst C 112 (nI 2) dL_law_112 (by decide) ?_
  refine bl_iadd C 113 dL_law_113 ?_
  refine bl_sld C 114 (by omega) dL_law_114 ?_
  refine bl_callX (as := [bl_x X (i + 1), bl_x X (i + 2)]) (na := 2) (st := []) C 115 (xm_content σ _ _) (by decide) (lw_V q122 q123 q124 q25 q125) (by decide +kernel) rfl (Nat.le_of_ble_eq_true rfl) dL_law_115 (fun r σ' hx => ?_)
  refine bl_aload2 C 118 dL_law_118 ?_
  refine bl_aload0 C 119 dL_law_119 ?_
  refine bl_iload3 C 120 dL_law_120 ?_
  refine bl_iconst C 121 (nI 1) dL_law_121 (by decide) ?_
  refine bl_iadd C 122 dL_law_122 ?_
  refine bl_sld C 123 (by omega) dL_law_123 ?_
  refine bl_aload0 C 124 dL_law_124 ?_
  refine bl_iload3 C 125 dL_law_125 ?_
  refine bl_iconst C 126 (nI 2) dL_law_126 (by decide) ?_
  refine bl_iadd C 127 dL_law_127 ?_
  refine bl_sld C 128 (by omega) dL_law_128 ?_
  refine bl_callM (as := [bl_x X (i + 1), bl_x X (i + 2)]) (na := 2) (st := [.int r]) C 129 (mm_content μ _ _) (by decide) (lw_V q290 q291 q292 q26 q293) (by decide +kernel) rfl (Nat.le_of_ble_eq_true rfl) dL_law_129 (fun r' μ' hm => ?_)
  obtain ⟨e, hs⟩ := bs_content (by omega) h hx hm
  refine bl_same C 132 e 434 dL_law_132 (by decide) ?_
  exact K _ _ (hs.mono (by omega))
theorem lc_1 (C : bl_Cx X ox om) (h : bs_all σ μ T V Ls R B) (hV : V ≤ i) (hi : i + 2 < bl_L X) (hL : bl_L X ≤ 192) (K : ∀ σ' μ' : bg_S, bs_sim σ' μ' (i + 3) → bl_X X ox om σ' μ' i 434 []) : bl_X X ox om σ μ i 137 [] := by
  obtain ⟨⟨a0, a4, a5, a6, a7, a3, a1, hT12, hok, hk, hz⟩, -, -, -, -, -, ⟨c1, c2, c3, c4, c5, c6, c7⟩, -⟩ := id h
  have hok2 : bp_OK (μ 4) (μ 5) := by rw [← a6, ← a7]; exact hok
  refine bl_aload1 C 137 dL_law_137 ?_
  refine bl_aload0 C 138 dL_law_138 ?_
  refine bl_iload3 C 139 dL_law_139 ?_
  refine bl_iconst C 140 (nI 1) dL_law_140 (by decide) ?_
  refine bl_iadd C 141 dL_law_141 ?_
  refine bl_sld C 142 (by omega) dL_law_142 ?_
  refine bl_aload0 C 143 dL_law_143 ?_
  refine bl_iload3 C 144 dL_law_144 ?_
  refine bl_iconst C 145 (nI 2) dL_law_145 (by decide) ?_
  refine bl_iadd C 146 dL_law_146 ?_
  refine bl_sld C 147 (by omega) dL_law_147 ?_
  refine bl_callX (as := [bl_x X (i + 1), bl_x X (i + 2)]) (na := 2) (st := []) C 148 (xm_task σ _ _ a3 hT12) (by decide) (lw_V q126 q127 q128 q25 q129) (by decide +kernel) rfl (Nat.le_of_ble_eq_true rfl) dL_law_148 (fun r σ' hx => ?_)
  refine bl_aload2 C 151 dL_law_151 ?_
  refine bl_aload0 C 152 dL_law_152 ?_
  refine bl_iload3 C 153 dL_law_153 ?_
  refine bl_iconst C 154 (nI 1) dL_law_154 (by decide) ?_
  refine bl_iadd C 155 dL_law_155 ?_
  refine bl_sld C 156 (by omega) dL_law_156 ?_
  refine bl_aload0 C 157 dL_law_157 ?_
  refine bl_iload3 C 158 dL_law_158 ?_
  refine bl_iconst C 159 (nI 2) dL_law_159 (by decide) ?_
  refine bl_iadd C 160 dL_law_160 ?_
  refine bl_sld C 161 (by omega) dL_law_161 ?_
  refine bl_callM (as := [bl_x X (i + 1), bl_x X (i + 2)]) (na := 2) (st := [.int r]) C 162 (mm_task μ _ _ a1 hT12) (by decide) (lw_V q294 q295 q296 q26 q297) (by decide +kernel) rfl (Nat.le_of_ble_eq_true rfl) dL_law_162 (fun r' μ' hm => ?_)
  obtain ⟨e, hs⟩ := bs_task h hx hm
  refine bl_same C 165 e 434 dL_law_165 (by decide) ?_
  exact K _ _ (hs.mono (by omega))
theorem lc_2 (C : bl_Cx X ox om) (h : bs_all σ μ T V Ls R B) (hV : V ≤ i) (hi : i + 2 < bl_L X) (hL : bl_L X ≤ 192) (K : ∀ σ' μ' : bg_S, bs_sim σ' μ' (i + 3) → bl_X X ox om σ' μ' i 434 []) : bl_X X ox om σ μ i 170 [] := by
  obtain ⟨⟨a0, a4, a5, a6, a7, a3, a1, hT12, hok, hk, hz⟩, -, -, -, -, -, ⟨c1, c2, c3, c4, c5, c6, c7⟩, -⟩ := id h
  have hok2 : bp_OK (μ 4) (μ 5) := by rw [← a6, ← a7]; exact hok
  refine bl_aload1 C 170 dL_law_170 ?_
  refine bl_aload0 C 171 dL_law_171 ?_
  refine bl_iload3 C 172 dL_law_172 ?_
  refine bl_iconst C 173 (nI 1) dL_law_173 (by decide) ?_
  refine bl_iadd C 174 dL_law_174 ?_
  refine bl_sld C 175 (by omega) dL_law_175 ?_
  refine bl_aload0 C 176 dL_law_176 ?_
  refine bl_iload3 C 177 dL_law_177 ?_
  refine bl_iconst C 178 (nI 2) dL_law_178 (by decide) ?_
  refine bl_iadd C 179 dL_law_179 ?_
  refine bl_sld C 180 (by omega) dL_law_180 ?_
  refine bl_callX (as := [bl_x X (i + 1), bl_x X (i + 2)]) (na := 2) (st := []) C 181 (xm_input σ _ _ a3 hT12 hok) (by decide) (lw_V q130 q131 q132 q25 q133) (by decide +kernel) rfl (Nat.le_of_ble_eq_true rfl) dL_law_181 (fun r σ' hx => ?_)
  refine bl_aload2 C 184 dL_law_184 ?_
  refine bl_aload0 C 185 dL_law_185 ?_
  refine bl_iload3 C 186 dL_law_186 ?_
  refine bl_iconst C 187 (nI 1) dL_law_187 (by decide) ?_
  refine bl_iadd C 188 dL_law_188 ?_
  refine bl_sld C 189 (by omega) dL_law_189 ?_
  refine bl_aload0 C 190 dL_law_190 ?_
  refine bl_iload3 C 191 dL_law_191 ?_
  refine bl_iconst C 192 (nI 2) dL_law_192 (by decide) ?_
  refine bl_iadd C 193 dL_law_193 ?_
  refine bl_sld C 194 (by omega) dL_law_194 ?_
  refine bl_callM (as := [bl_x X (i + 1), bl_x X (i + 2)]) (na := 2) (st := [.int r]) C 195 (mm_input μ _ _ a1 hT12 hok2) (by decide) (lw_V q298 q299 q300 q26 q301) (by decide +kernel) rfl (Nat.le_of_ble_eq_true rfl) dL_law_195 (fun r' μ' hm => ?_)
  obtain ⟨e, hs⟩ := bs_input (by omega) h hx hm
  refine bl_same C 198 e 434 dL_law_198 (by decide) ?_
  exact K _ _ (hs.mono (by omega))
theorem lc_3 (C : bl_Cx X ox om) (h : bs_all σ μ T V Ls R B) (hV : V ≤ i) (hi : i + 2 < bl_L X) (hL : bl_L X ≤ 192) (K : ∀ σ' μ' : bg_S, bs_sim σ' μ' (i + 3) → bl_X X ox om σ' μ' i 434 []) : bl_X X ox om σ μ i 203 [] := by
  obtain ⟨⟨a0, a4, a5, a6, a7, a3, a1, hT12, hok, hk, hz⟩, -, -, -, -, -, ⟨c1, c2, c3, c4, c5, c6, c7⟩, -⟩ := id h
  have hok2 : bp_OK (μ 4) (μ 5) := by rw [← a6, ← a7]; exact hok
  refine bl_aload1 C 203 dL_law_203 ?_
  refine bl_aload0 C 204 dL_law_204 ?_
  refine bl_iload3 C 205 dL_law_205 ?_
  refine bl_iconst C 206 (nI 1) dL_law_206 (by decide) ?_
  refine bl_iadd C 207 dL_law_207 ?_
  refine bl_sld C 208 (by omega) dL_law_208 ?_
  refine bl_aload0 C 209 dL_law_209 ?_
  refine bl_iload3 C 210 dL_law_210 ?_
  refine bl_iconst C 211 (nI 2) dL_law_211 (by decide) ?_
  refine bl_iadd C 212 dL_law_212 ?_
  refine bl_sld C 213 (by omega) dL_law_213 ?_
  refine bl_callX (as := [bl_x X (i + 1), bl_x X (i + 2)]) (na := 2) (st := []) C 214 (xm_constant σ _ _ a3 hT12) (by decide) (lw_V q138 q139 q140 q25 q141) (by decide +kernel) rfl (Nat.le_of_ble_eq_true rfl) dL_law_214 (fun r σ' hx => ?_)
  refine bl_aload2 C 217 dL_law_217 ?_
  refine bl_aload0 C 218 dL_law_218 ?_
  refine bl_iload3 C 219 dL_law_219 ?_
  refine bl_iconst C 220 (nI 1) dL_law_220 (by decide) ?_
  refine bl_iadd C 221 dL_law_221 ?_
  refine bl_sld C 222 (by omega) dL_law_222 ?_
  refine bl_aload0 C 223 dL_law_223 ?_
  refine bl_iload3 C 224 dL_law_224 ?_
  refine bl_iconst C 225 (nI 2) dL_law_225 (by decide) ?_
  refine bl_iadd C 226 dL_law_226 ?_
  refine bl_sld C 227 (by omega) dL_law_227 ?_
  refine bl_callM (as := [bl_x X (i + 1), bl_x X (i + 2)]) (na := 2) (st := [.int r]) C 228 (mm_constant μ _ _ a1 hT12) (by decide) (lw_V q306 q307 q308 q26 q309) (by decide +kernel) rfl (Nat.le_of_ble_eq_true rfl) dL_law_228 (fun r' μ' hm => ?_)
  obtain ⟨e, hs⟩ := bs_constant (by omega) h hx hm
  refine bl_same C 231 e 434 dL_law_231 (by decide) ?_
  exact K _ _ (hs.mono (by omega))
theorem lc_4 (C : bl_Cx X ox om) (h : bs_all σ μ T V Ls R B) (hV : V ≤ i) (hi : i + 2 < bl_L X) (hL : bl_L X ≤ 192) (K : ∀ σ' μ' : bg_S, bs_sim σ' μ' (i + 3) → bl_X X ox om σ' μ' i 434 []) : bl_X X ox om σ μ i 236 [] := by
  obtain ⟨⟨a0, a4, a5, a6, a7, a3, a1, hT12, hok, hk, hz⟩, -, -, -, -, -, ⟨c1, c2, c3, c4, c5, c6, c7⟩, -⟩ := id h
  have hok2 : bp_OK (μ 4) (μ 5) := by rw [← a6, ← a7]; exact hok
  refine bl_aload1 C 236 dL_law_236 ?_
  refine bl_aload0 C 237 dL_law_237 ?_
  refine bl_iload3 C 238 dL_law_238 ?_
  refine bl_iconst C 239 (nI 1) dL_law_239 (by decide) ?_
  refine bl_iadd C 240 dL_law_240 ?_
  refine bl_sld C 241 (by omega) dL_law_241 ?_
  refine bl_callX (as := [bl_x X (i + 1)]) (na := 1) (st := []) C 242 (xm_build σ _ Ls a3 hT12 hok c1 c3 c4 c5 c6) (by decide) (lw_V q142 q143 q144 q25 q145) (by decide +kernel) rfl (Nat.le_of_ble_eq_true rfl) dL_law_242 (fun r σ' hx => ?_)
  refine bl_aload2 C 245 dL_law_245 ?_
  refine bl_aload0 C 246 dL_law_246 ?_
  refine bl_iload3 C 247 dL_law_247 ?_
  refine bl_iconst C 248 (nI 1) dL_law_248 (by decide) ?_
  refine bl_iadd C 249 dL_law_249 ?_
  refine bl_sld C 250 (by omega) dL_law_250 ?_
  refine bl_callM (as := [bl_x X (i + 1)]) (na := 1) (st := [.int r]) C 251 (mm_build μ _ a1 hT12 hok2 hk c2 c3 c7) (by decide) (lw_V q310 q311 q312 q26 q313) (by decide +kernel) rfl (Nat.le_of_ble_eq_true rfl) dL_law_251 (fun r' μ' hm => ?_)
  obtain ⟨e, hs⟩ := bs_build (by omega) h hx hm
  refine bl_same C 254 e 434 dL_law_254 (by decide) ?_
  exact K _ _ (hs.mono (by omega))
theorem lc_5 (C : bl_Cx X ox om) (h : bs_all σ μ T V Ls R B) (hV : V ≤ i) (hi : i + 2 < bl_L X) (hL : bl_L X ≤ 192) (K : ∀ σ' μ' : bg_S, bs_sim σ' μ' (i + 3) → bl_X X ox om σ' μ' i 434 []) : bl_X X ox om σ μ i 259 [] := by
  obtain ⟨⟨a0, a4, a5, a6, a7, a3, a1, hT12, hok, hk, hz⟩, -, -, -, -, -, ⟨c1, c2, c3, c4, c5, c6, c7⟩, -⟩ := id h
  have hok2 : bp_OK (μ 4) (μ 5) := by rw [← a6, ← a7]; exact hok
  refine bl_aload1 C 259 dL_law_259 ?_
  refine bl_aload0 C 260 dL_law_260 ?_
  refine bl_iload3 C 261 dL_law_261 ?_
  refine bl_iconst C 262 (nI 1) dL_law_262 (by decide) ?_
  refine bl_iadd C 263 dL_law_263 ?_
  refine bl_sld C 264 (by omega) dL_law_264 ?_
  refine bl_callX (as := [bl_x X (i + 1)]) (na := 1) (st := []) C 265 (xm_clean σ _ a3 hT12) (by decide) (lw_V q194 q195 q196 q25 q197) (by decide +kernel) rfl (Nat.le_of_ble_eq_true rfl) dL_law_265 (fun r σ' hx => ?_)
  refine bl_aload2 C 268 dL_law_268 ?_
  refine bl_aload0 C 269 dL_law_269 ?_
  refine bl_iload3 C 270 dL_law_270 ?_
  refine bl_iconst C 271 (nI 1) dL_law_271 (by decide) ?_
  refine bl_iadd C 272 dL_law_272 ?_
  refine bl_sld C 273 (by omega) dL_law_273 ?_
  refine bl_callM (as := [bl_x X (i + 1)]) (na := 1) (st := [.int r]) C 274 (mm_clean μ _ a1 hT12) (by decide) (lw_V q346 q347 q348 q26 q349) (by decide +kernel) rfl (Nat.le_of_ble_eq_true rfl) dL_law_274 (fun r' μ' hm => ?_)
  obtain ⟨e, hs⟩ := bs_clean h hx hm
  refine bl_same C 277 e 434 dL_law_277 (by decide) ?_
  exact K _ _ (hs.mono (by omega))
theorem lc_6 (C : bl_Cx X ox om) (h : bs_all σ μ T V Ls R B) (hV : V ≤ i) (hi : i + 2 < bl_L X) (hL : bl_L X ≤ 192) (K : ∀ σ' μ' : bg_S, bs_sim σ' μ' (i + 3) → bl_X X ox om σ' μ' i 434 []) : bl_X X ox om σ μ i 282 [] := by
  obtain ⟨⟨a0, a4, a5, a6, a7, a3, a1, hT12, hok, hk, hz⟩, -, -, -, -, -, ⟨c1, c2, c3, c4, c5, c6, c7⟩, -⟩ := id h
  have hok2 : bp_OK (μ 4) (μ 5) := by rw [← a6, ← a7]; exact hok
  refine bl_aload1 C 282 dL_law_282 ?_
  refine bl_callX (as := []) (na := 0) (st := []) C 283 (xm_emptyStore σ) (by decide) (lw_V q198 q199 q200 q25 q201) (by decide +kernel) rfl (Nat.le_of_ble_eq_true rfl) dL_law_283 (fun r σ' hx => ?_)
  refine bl_aload2 C 286 dL_law_286 ?_
  refine bl_callM (as := []) (na := 0) (st := []) C 287 (mm_emptyStore μ) (by decide) (lw_V q350 q351 q352 q26 q353) (by decide +kernel) rfl (Nat.le_of_ble_eq_true rfl) dL_law_287 (fun r' μ' hm => ?_)
  refine bl_goto C 290 434 dL_law_290 (by decide) ?_
  exact K _ _ ((bs_empty h hx hm).mono (by omega))
theorem lc_7 (C : bl_Cx X ox om) (h : bs_all σ μ T V Ls R B) (hV : V ≤ i) (hi : i + 2 < bl_L X) (hL : bl_L X ≤ 192) (K : ∀ σ' μ' : bg_S, bs_sim σ' μ' (i + 3) → bl_X X ox om σ' μ' i 434 []) : bl_X X ox om σ μ i 293 [] := by
  obtain ⟨⟨a0, a4, a5, a6, a7, a3, a1, hT12, hok, hk, hz⟩, -, -, -, -, -, ⟨c1, c2, c3, c4, c5, c6, c7⟩, -⟩ := id h
  have hok2 : bp_OK (μ 4) (μ 5) := by rw [← a6, ← a7]; exact hok
  refine bl_aload1 C 293 dL_law_293 ?_
  refine bl_aload0 C 294 dL_law_294 ?_
  refine bl_iload3 C 295 dL_law_295 ?_
  refine bl_iconst C 296 (nI 1) dL_law_296 (by decide) ?_
  refine bl_iadd C 297 dL_law_297 ?_
  refine bl_sld C 298 (by omega) dL_law_298 ?_
  refine bl_callX (as := [bl_x X (i + 1)]) (na := 1) (st := []) C 299 (xm_status σ _ a3 hT12) (by decide) (lw_V q202 q203 q204 q25 q205) (by decide +kernel) rfl (Nat.le_of_ble_eq_true rfl) dL_law_299 (fun r σ' hx => ?_)
  refine bl_aload2 C 302 dL_law_302 ?_
  refine bl_aload0 C 303 dL_law_303 ?_
  refine bl_iload3 C 304 dL_law_304 ?_
  refine bl_iconst C 305 (nI 1) dL_law_305 (by decide) ?_
  refine bl_iadd C 306 dL_law_306 ?_
  refine bl_sld C 307 (by omega) dL_law_307 ?_
  refine bl_callM (as := [bl_x X (i + 1)]) (na := 1) (st := [.int r]) C 308 (mm_status μ _ a1 hT12) (by decide) (lw_V q354 q355 q356 q26 q357) (by decide +kernel) rfl (Nat.le_of_ble_eq_true rfl) dL_law_308 (fun r' μ' hm => ?_)
  obtain ⟨e, hs⟩ := bs_status h hx hm
  refine bl_same C 311 e 434 dL_law_311 (by decide) ?_
  exact K _ _ (hs.mono (by omega))
theorem lc_8 (C : bl_Cx X ox om) (h : bs_all σ μ T V Ls R B) (hV : V ≤ i) (hi : i + 2 < bl_L X) (hL : bl_L X ≤ 192) (K : ∀ σ' μ' : bg_S, bs_sim σ' μ' (i + 3) → bl_X X ox om σ' μ' i 434 []) : bl_X X ox om σ μ i 316 [] := by
  obtain ⟨⟨a0, a4, a5, a6, a7, a3, a1, hT12, hok, hk, hz⟩, -, -, -, -, -, ⟨c1, c2, c3, c4, c5, c6, c7⟩, -⟩ := id h
  have hok2 : bp_OK (μ 4) (μ 5) := by rw [← a6, ← a7]; exact hok
  refine bl_aload1 C 316 dL_law_316 ?_
  refine bl_aload0 C 317 dL_law_317 ?_
  refine bl_iload3 C 318 dL_law_318 ?_
  refine bl_iconst C 319 (nI 1) dL_law_319 (by decide) ?_
  refine bl_iadd C 320 dL_law_320 ?_
  refine bl_sld C 321 (by omega) dL_law_321 ?_
  refine bl_callX (as := [bl_x X (i + 1)]) (na := 1) (st := []) C 322 (xm_output σ _ a3 hT12) (by decide) (lw_V q206 q207 q208 q25 q209) (by decide +kernel) rfl (Nat.le_of_ble_eq_true rfl) dL_law_322 (fun r σ' hx => ?_)
  refine bl_aload2 C 325 dL_law_325 ?_
  refine bl_aload0 C 326 dL_law_326 ?_
  refine bl_iload3 C 327 dL_law_327 ?_
  refine bl_iconst C 328 (nI 1) dL_law_328 (by decide) ?_
  refine bl_iadd C 329 dL_law_329 ?_
  refine bl_sld C 330 (by omega) dL_law_330 ?_
  refine bl_callM (as := [bl_x X (i + 1)]) (na := 1) (st := [.int r]) C 331 (mm_output μ _ a1 hT12) (by decide) (lw_V q358 q359 q360 q26 q361) (by decide +kernel) rfl (Nat.le_of_ble_eq_true rfl) dL_law_331 (fun r' μ' hm => ?_)
  obtain ⟨e, hs⟩ := bs_output h hx hm
  refine bl_same C 334 e 434 dL_law_334 (by decide) ?_
  exact K _ _ (hs.mono (by omega))
theorem lc_9 (C : bl_Cx X ox om) (h : bs_all σ μ T V Ls R B) (hV : V ≤ i) (hi : i + 2 < bl_L X) (hL : bl_L X ≤ 192) (K : ∀ σ' μ' : bg_S, bs_sim σ' μ' (i + 3) → bl_X X ox om σ' μ' i 434 []) : bl_X X ox om σ μ i 339 [] := by
  obtain ⟨⟨a0, a4, a5, a6, a7, a3, a1, hT12, hok, hk, hz⟩, -, -, -, -, -, ⟨c1, c2, c3, c4, c5, c6, c7⟩, -⟩ := id h
  have hok2 : bp_OK (μ 4) (μ 5) := by rw [← a6, ← a7]; exact hok
  refine bl_aload1 C 339 dL_law_339 ?_
  refine bl_aload0 C 340 dL_law_340 ?_
  refine bl_iload3 C 341 dL_law_341 ?_
  refine bl_iconst C 342 (nI 1) dL_law_342 (by decide) ?_
  refine bl_iadd C 343 dL_law_343 ?_
  refine bl_sld C 344 (by omega) dL_law_344 ?_
  refine bl_callX (as := [bl_x X (i + 1)]) (na := 1) (st := []) C 345 (xm_fresh σ _ a3 hT12 hok) (by decide) (lw_V q210 q211 q212 q25 q213) (by decide +kernel) rfl (Nat.le_of_ble_eq_true rfl) dL_law_345 (fun r σ' hx => ?_)
  refine bl_aload2 C 348 dL_law_348 ?_
  refine bl_aload0 C 349 dL_law_349 ?_
  refine bl_iload3 C 350 dL_law_350 ?_
  refine bl_iconst C 351 (nI 1) dL_law_351 (by decide) ?_
  refine bl_iadd C 352 dL_law_352 ?_
  refine bl_sld C 353 (by omega) dL_law_353 ?_
  refine bl_callM (as := [bl_x X (i + 1)]) (na := 1) (st := [.int r]) C 354 (mm_fresh μ _ a1 hT12 hok2 hk) (by decide) (lw_V q362 q363 q364 q26 q365) (by decide +kernel) rfl (Nat.le_of_ble_eq_true rfl) dL_law_354 (fun r' μ' hm => ?_)
  obtain ⟨e, hs⟩ := bs_fresh h hx hm
  refine bl_same C 357 e 434 dL_law_357 (by decide) ?_
  exact K _ _ (hs.mono (by omega))
theorem lc_10 (C : bl_Cx X ox om) (h : bs_all σ μ T V Ls R B) (hV : V ≤ i) (hi : i + 2 < bl_L X) (hL : bl_L X ≤ 192) (K : ∀ σ' μ' : bg_S, bs_sim σ' μ' (i + 3) → bl_X X ox om σ' μ' i 434 []) : bl_X X ox om σ μ i 362 [] := by
  obtain ⟨⟨a0, a4, a5, a6, a7, a3, a1, hT12, hok, hk, hz⟩, -, -, -, -, -, ⟨c1, c2, c3, c4, c5, c6, c7⟩, -⟩ := id h
  have hok2 : bp_OK (μ 4) (μ 5) := by rw [← a6, ← a7]; exact hok
  refine bl_aload1 C 362 dL_law_362 ?_
  refine bl_aload0 C 363 dL_law_363 ?_
  refine bl_iload3 C 364 dL_law_364 ?_
  refine bl_iconst C 365 (nI 1) dL_law_365 (by decide) ?_
  refine bl_iadd C 366 dL_law_366 ?_
  refine bl_sld C 367 (by omega) dL_law_367 ?_
  refine bl_callX (as := [bl_x X (i + 1)]) (na := 1) (st := []) C 368 (xm_needed σ _ a3 hT12 hok) (by decide) (lw_V q218 q219 q220 q25 q221) (by decide +kernel) rfl (Nat.le_of_ble_eq_true rfl) dL_law_368 (fun r σ' hx => ?_)
  refine bl_aload2 C 371 dL_law_371 ?_
  refine bl_aload0 C 372 dL_law_372 ?_
  refine bl_iload3 C 373 dL_law_373 ?_
  refine bl_iconst C 374 (nI 1) dL_law_374 (by decide) ?_
  refine bl_iadd C 375 dL_law_375 ?_
  refine bl_sld C 376 (by omega) dL_law_376 ?_
  refine bl_callM (as := [bl_x X (i + 1)]) (na := 1) (st := [.int r]) C 377 (mm_needed μ _ a1 hT12 hok2) (by decide) (lw_V q366 q367 q368 q26 q369) (by decide +kernel) rfl (Nat.le_of_ble_eq_true rfl) dL_law_377 (fun r' μ' hm => ?_)
  obtain ⟨e, hs⟩ := bs_needed h hx hm
  refine bl_same C 380 e 434 dL_law_380 (by decide) ?_
  exact K _ _ (hs.mono (by omega))
theorem lc_11 (C : bl_Cx X ox om) (h : bs_all σ μ T V Ls R B) (hV : V ≤ i) (hi : i + 2 < bl_L X) (hL : bl_L X ≤ 192) (K : ∀ σ' μ' : bg_S, bs_sim σ' μ' (i + 3) → bl_X X ox om σ' μ' i 434 []) : bl_X X ox om σ μ i 385 [] := by
  obtain ⟨⟨a0, a4, a5, a6, a7, a3, a1, hT12, hok, hk, hz⟩, -, -, -, -, -, ⟨c1, c2, c3, c4, c5, c6, c7⟩, -⟩ := id h
  have hok2 : bp_OK (μ 4) (μ 5) := by rw [← a6, ← a7]; exact hok
  refine bl_aload1 C 385 dL_law_385 ?_
  refine bl_aload0 C 386 dL_law_386 ?_
  refine bl_iload3 C 387 dL_law_387 ?_
  refine bl_iconst C 388 (nI 1) dL_law_388 (by decide) ?_
  refine bl_iadd C 389 dL_law_389 ?_
  refine bl_sld C 390 (by omega) dL_law_390 ?_
  refine bl_callX (as := [bl_x X (i + 1)]) (na := 1) (st := []) C 391 (xm_work σ _ Ls a3 hT12 hok c4 (by omega) (fun u hu => Nat.le_trans (c6 u hu) (by omega))) (by decide) (lw_V q222 q223 q224 q25 q225) (by decide +kernel) rfl (Nat.le_of_ble_eq_true rfl) dL_law_391 (fun r σ' hx => ?_)
  refine bl_aload2 C 394 dL_law_394 ?_
  refine bl_aload0 C 395 dL_law_395 ?_
  refine bl_iload3 C 396 dL_law_396 ?_
  refine bl_iconst C 397 (nI 1) dL_law_397 (by decide) ?_
  refine bl_iadd C 398 dL_law_398 ?_
  refine bl_sld C 399 (by omega) dL_law_399 ?_
  refine bl_callM (as := [bl_x X (i + 1)]) (na := 1) (st := [.int r]) C 400 (mm_work μ _ a1 hT12 hok2 hk (fun u h1 hu => ⟨(c7 u h1 hu).1, Nat.le_trans (c7 u h1 hu).2 c3⟩)) (by decide) (lw_V q370 q371 q372 q26 q373) (by decide +kernel) rfl (Nat.le_of_ble_eq_true rfl) dL_law_400 (fun r' μ' hm => ?_)
  obtain ⟨e, hs⟩ := bs_work h hx hm
  refine bl_same C 403 e 434 dL_law_403 (by decide) ?_
  exact K _ _ (hs.mono (by omega))
theorem lc_12 (C : bl_Cx X ox om) (h : bs_all σ μ T V Ls R B) (hV : V ≤ i) (hi : i + 2 < bl_L X) (hL : bl_L X ≤ 192) (K : ∀ σ' μ' : bg_S, bs_sim σ' μ' (i + 3) → bl_X X ox om σ' μ' i 434 []) : bl_X X ox om σ μ i 408 [] := by
  obtain ⟨⟨a0, a4, a5, a6, a7, a3, a1, hT12, hok, hk, hz⟩, -, -, -, -, -, ⟨c1, c2, c3, c4, c5, c6, c7⟩, -⟩ := id h
  have hok2 : bp_OK (μ 4) (μ 5) := by rw [← a6, ← a7]; exact hok
  refine bl_aload1 C 408 dL_law_408 ?_
  refine bl_callX (as := []) (na := 0) (st := []) C 409 (xm_executed σ) (by decide) (lw_V q230 q231 q232 q25 q233) (by decide +kernel) rfl (Nat.le_of_ble_eq_true rfl) dL_law_409 (fun r σ' hx => ?_)
  refine bl_aload2 C 412 dL_law_412 ?_
  refine bl_callM (as := []) (na := 0) (st := [.int r]) C 413 (mm_executed μ) (by decide) (lw_V q374 q375 q376 q26 q377) (by decide +kernel) rfl (Nat.le_of_ble_eq_true rfl) dL_law_413 (fun r' μ' hm => ?_)
  obtain ⟨e, hs⟩ := bs_executed h hx hm
  refine bl_same C 416 e 434 dL_law_416 (by decide) ?_
  exact K _ _ (hs.mono (by omega))
theorem lc_13 (C : bl_Cx X ox om) (h : bs_all σ μ T V Ls R B) (hV : V ≤ i) (hi : i + 2 < bl_L X) (hL : bl_L X ≤ 192) (K : ∀ σ' μ' : bg_S, bs_sim σ' μ' (i + 3) → bl_X X ox om σ' μ' i 434 []) : bl_X X ox om σ μ i 421 [] := by
  obtain ⟨⟨a0, a4, a5, a6, a7, a3, a1, hT12, hok, hk, hz⟩, -, -, -, -, -, ⟨c1, c2, c3, c4, c5, c6, c7⟩, -⟩ := id h
  have hok2 : bp_OK (μ 4) (μ 5) := by rw [← a6, ← a7]; exact hok
  refine bl_aload1 C 421 dL_law_421 ?_
  refine bl_callX (as := []) (na := 0) (st := []) C 422 (xm_stale σ a3 hT12 hok) (by decide) (lw_V q234 q235 q236 q25 q237) (by decide +kernel) rfl (Nat.le_of_ble_eq_true rfl) dL_law_422 (fun r σ' hx => ?_)
  refine bl_aload2 C 425 dL_law_425 ?_
  refine bl_callM (as := []) (na := 0) (st := [.int r]) C 426 (mm_stale μ a1 hT12 hok2 hk) (by decide) (lw_V q378 q379 q380 q26 q381) (by decide +kernel) rfl (Nat.le_of_ble_eq_true rfl) dL_law_426 (fun r' μ' hm => ?_)
  obtain ⟨e, hs⟩ := bs_stale h hx hm
  refine bl_same C 429 e 434 dL_law_429 (by decide) ?_
  exact K _ _ (hs.mono (by omega))
end CAS
/-- THE LAW's loop: i ints read -/
theorem law_loop {X : bl_E} {ox om : bg_O} (C : bl_Cx X ox om) (hL : bl_L X ≤ 192) : ∀ (n i : Nat) (σ μ : bg_S), bl_L X + 1 ≤ i + 3 * n → i ≤ bl_L X → bs_sim σ μ i → bl_X X ox om σ μ i 18 [] := by
  intro n
  induction n with
  | zero =>
    intro i σ μ h1 h2
    exact absurd h1 (by omega)
  | succ n ih =>
    intro i σ μ h1 h2 hs
    refine bl_iload3 C 18 dL_law_18 ?_
    refine bl_aload0 C 19 dL_law_19 ?_
    refine bl_len C 20 dL_law_20 ?_
    refine bl_iconst C 21 (nI 3) dL_law_21 (by decide) ?_
    refine bl_isub C 22 dL_law_22 ?_
    refine bl_gt C 23 440 dL_law_23 (by decide) (fun _ => ?_) (fun q => ?_)
    · refine bl_iconst C 440 1 dL_law_440 (by decide) ?_
      exact bl_end C 441 dL_law_441
    · have hi : i + 2 < bl_L X := by
        apply Nat.lt_of_not_le
        intro hc
        apply q
        rw [Int32.lt_iff_toInt_lt, pk_sub_toInt (by omega) (by omega), nI_toInt (by omega)]
        omega
      refine bl_aload0 C 26 dL_law_26 ?_
      refine bl_iload3 C 27 dL_law_27 ?_
      refine bl_sld C 28 (by omega) dL_law_28 ?_
      refine bl_bipush C 29 15 dL_law_29 (by decide) ?_
      refine bl_iand C 31 dL_law_31 ?_
      obtain ⟨j, hj, hje⟩ := pk_andE (bl_x X i) (m := 15) 4 (by decide)
      refine bl_eq hje ?_
      have K : ∀ σ' μ' : bg_S, bs_sim σ' μ' (i + 3) → bl_X X ox om σ' μ' i 434 [] := by
        intro σ' μ' hs'
        refine bl_iinc C 434 dL_law_434 ?_
        refine bl_goto C 437 18 dL_law_437 (by decide) ?_
        exact ih (i + 3) σ' μ' (by omega) (by omega) hs'
      obtain ⟨T, V, Ls, R, B, hV, h⟩ := id hs
      have hj : j < 16 := hj
      clear hje
      match j, hj with
      | 0, _ => exact bl_swIn C 32 104 (off := 72) dL_law_32 (by decide) (by decide) rfl (by decide) (lc_0 C h hV hi hL K)
      | 1, _ => exact bl_swIn C 32 137 (off := 105) dL_law_32 (by decide) (by decide) rfl (by decide) (lc_1 C h hV hi hL K)
      | 2, _ => exact bl_swIn C 32 170 (off := 138) dL_law_32 (by decide) (by decide) rfl (by decide) (lc_2 C h hV hi hL K)
      | 3, _ => exact bl_swIn C 32 203 (off := 171) dL_law_32 (by decide) (by decide) rfl (by decide) (lc_3 C h hV hi hL K)
      | 4, _ => exact bl_swIn C 32 236 (off := 204) dL_law_32 (by decide) (by decide) rfl (by decide) (lc_4 C h hV hi hL K)
      | 5, _ => exact bl_swIn C 32 259 (off := 227) dL_law_32 (by decide) (by decide) rfl (by decide) (lc_5 C h hV hi hL K)
      | 6, _ => exact bl_swIn C 32 282 (off := 250) dL_law_32 (by decide) (by decide) rfl (by decide) (lc_6 C h hV hi hL K)
      | 7, _ => exact bl_swIn C 32 293 (off := 261) dL_law_32 (by decide) (by decide) rfl (by decide) (lc_7 C h hV hi hL K)
      | 8, _ => exact bl_swIn C 32 316 (off := 284) dL_law_32 (by decide) (by decide) rfl (by decide) (lc_8 C h hV hi hL K)
      | 9, _ => exact bl_swIn C 32 339 (off := 307) dL_law_32 (by decide) (by decide) rfl (by decide) (lc_9 C h hV hi hL K)
      | 10, _ => exact bl_swIn C 32 362 (off := 330) dL_law_32 (by decide) (by decide) rfl (by decide) (lc_10 C h hV hi hL K)
      | 11, _ => exact bl_swIn C 32 385 (off := 353) dL_law_32 (by decide) (by decide) rfl (by decide) (lc_11 C h hV hi hL K)
      | 12, _ => exact bl_swIn C 32 408 (off := 376) dL_law_32 (by decide) (by decide) rfl (by decide) (lc_12 C h hV hi hL K)
      | 13, _ => exact bl_swIn C 32 421 (off := 389) dL_law_32 (by decide) (by decide) rfl (by decide) (lc_13 C h hV hi hL K)
      | 14, _ => exact bl_swOut C 32 434 dL_law_32 (Or.inr (by decide)) (by decide) (K σ μ (hs.mono (by omega)))
      | 15, _ => exact bl_swOut C 32 434 dL_law_32 (Or.inr (by decide)) (by decide) (K σ μ (hs.mono (by omega)))
      | k + 16, hj => exact absurd hj (by omega)
end
section
/-! THE LAW from its entry -/
set_option maxRecDepth 100000
theorem bx_def0 : ∀ k, k < 28 → defaultValue (tyX0 k) = if bg_ln kX k = 0 then Value.int 0 else .null := by
  intro k hk
  match k, hk with
  | 0, _ => rfl
  | 1, _ => rfl
  | 2, _ => rfl
  | 3, _ => rfl
  | 4, _ => rfl
  | 5, _ => rfl
  | 6, _ => rfl
  | 7, _ => rfl
  | 8, _ => rfl
  | 9, _ => rfl
  | 10, _ => rfl
  | 11, _ => rfl
  | 12, _ => rfl
  | 13, _ => rfl
  | 14, _ => rfl
  | 15, _ => rfl
  | 16, _ => rfl
  | 17, _ => rfl
  | 18, _ => rfl
  | 19, _ => rfl
  | 20, _ => rfl
  | 21, _ => rfl
  | 22, _ => rfl
  | 23, _ => rfl
  | 24, _ => rfl
  | 25, _ => rfl
  | 26, _ => rfl
  | 27, _ => rfl
  | k + 28, hk => exact absurd hk (by omega)
theorem bm_def0 : ∀ k, k < 15 → defaultValue (tyX1 k) = if bg_ln kM k = 0 then Value.int 0 else .null := by
  intro k hk
  match k, hk with
  | 0, _ => rfl
  | 1, _ => rfl
  | 2, _ => rfl
  | 3, _ => rfl
  | 4, _ => rfl
  | 5, _ => rfl
  | 6, _ => rfl
  | 7, _ => rfl
  | 8, _ => rfl
  | 9, _ => rfl
  | 10, _ => rfl
  | 11, _ => rfl
  | 12, _ => rfl
  | 13, _ => rfl
  | 14, _ => rfl
  | k + 15, hk => exact absurd hk (by omega)
/-- new, dup, <init>: an object comes in, with its arrays -/
theorem bw_make {p : Program} {l : Launch} {e : Env} {R : Room} {s : State} {m : MethodId} {args : Array Value} {below : List Frame} {meth : Method} {c : Code} {H : Heap} {locs : List Loc} {cells slots : Nat} {Q : State → Prop} {cc : ByteArray} {ls : Array Slot} {Γ : bg_C} {D : va_G} {cI cZ : ClassId} {y : MethodName} {cy : ByteArray} {ny fy ly mc ms i1 i2 nL : Nat} {post : bg_S → Prop} {own : String}
    (hx : p.tables.exec = Jvm.exec) (hb : c.code = cc) (hml : c.maxLocals = nL) (hls : ls.size = nL) (hown : s.vm.findClass own = some m.cls) (hts : ∀ w ∈ lw_all, w.before args s = true) (hK : va_K D vwCl [(cI, .int), (cZ, .boolean)] s) (hΓ : bg_ok Γ) (ty : Nat → FieldType) (hty : ∀ k, k < bg_N Γ → parseFieldDescriptor (bg_T Γ k).2.2.1 = some (ty k)) (hdef : ∀ k, k < bg_N Γ → defaultValue (ty k) = if bg_ln Γ k = 0 then Value.int 0 else .null)
    (hS : va_S (fun q : Nat => s.heap.size ≤ q) s.heap H locs) (hM : bg_MI Γ y cy ny fy ly mc ms post) (hcl : Cond.classLink own i1 (bg_nm Γ) ∈ lw_all) (hin : Cond.instantiable (bg_nm Γ) (bg_N Γ) ∈ lw_all) (hini : Cond.initialized (bg_nm Γ) ∈ lw_all) (hlk : Cond.methodLink own i2 y ∈ lw_all) (him : Cond.instanceMethod y ∈ lw_all) (hcd : Cond.code y cy ny none ∈ lw_all) (hyn : y.name = "<init>") (hyc : y.cls = bg_nm Γ)
    (hd : y.cls ≠ "java/lang/invoke/MethodHandle" ∧ y.cls ≠ "java/lang/invoke/VarHandle" ∧ (parseMethodDescriptor y.desc).map (fun d => d.parameters.length) = some 0) (hR : fy + 1 ≤ R.frames ∧ 8 + (ny + 11) + ly ≤ R.locals) (hc1 : cells + 1 + mc ≤ R.cells) (hc2 : slots + bg_N Γ + ms ≤ R.slots) (pc : Nat)
    (d0 : decode cc pc = .ok (.new i1, 3)) (d1 : decode cc (pc + 3) = .ok (.dup, 1)) (d2 : decode cc (pc + 4) = .ok (.invokespecial i2, 3))
    (kk : ∀ (h : Nat) (ad : Nat → Nat) (σ : bg_S) (H1 : Heap) (locs1 : List Loc), post σ → bg_P Γ (D, h, ad, cI, cZ) σ H1 → bg_D Γ (D, h, ad, cI, cZ) → (∀ q, bg_own Γ (D, h, ad, cI, cZ) q → H.size ≤ q) → (∀ q, q < H.size → H1[q]? = H[q]?) → va_S (fun q : Nat => s.heap.size ≤ q) s.heap H1 locs1 → W p l e R s m args below meth c H1 locs1 (cells + 1 + mc) (slots + bg_N Γ + ms) Q (F0 m (pc + 7) ls [.ref h])) : W p l e R s m args below meth c H locs cells slots Q (F0 m pc ls []) := by
  have hKn := hK.1 Γ.1 _ hΓ.1
  refine W.newcK hx hb hown (hts _ hcl) (hts _ hin) (hts _ hini) rfl d0 (by omega) (by omega) hKn.2.1 rfl fun H1 kC hkC e1 z1 o1 => ?_
  have hob : t_OB H.size (D.1 Γ.1) (bg_N Γ) (D.2 Γ.1) H1 (fun j => if bg_ln Γ j = 0 then .int 0 else .null) := (u_born ty hts hΓ.2.1 hKn hkC e1 hty).to hdef
  have hS1 : va_S (fun q : Nat => s.heap.size ≤ q) s.heap H1 locs := ⟨Nat.le_trans hS.1 (by omega), fun x h1 h2 => (o1 x (Nat.lt_of_lt_of_le h1 hS.1)).trans (hS.2.1 x h1 h2), hS.2.2⟩
  refine lv_dup hx hb d1 rfl ?_
  have hrun : va_Run p l e R s m args below meth c H1 locs (cells + 1) (slots + bg_N Γ) mc ms (F0 m (pc + 4) ls [.ref H.size, .ref H.size]) [.ref H.size] (bg_QI Γ D H.size cI cZ H1.size post (Value.ref H.size :: []).toArray) (bg_Al H1.size H.size) :=
    va_runI (As := []) (rest := [.ref H.size]) ⟨hx, hb, hml, hown, hts⟩ (hM l D H.size cI cZ H1.size) (cwI 0 hts (lw_meth hcd) rfl rfl rfl (by rw [hyc]; exact hts _ hini) (hts _ hlk) (hts _ him) hyn hd hR)
      ⟨fun a U g mk q => by
        obtain ⟨q0, q1, qP, qK⟩ := q
        exact ⟨q0, q1, qP, va_K.moved (u := U) (U := U.calling g mk a) (Vm.Alike.refl U.vm) qK⟩, fun U hU hW => ⟨rfl, by rw [hU], by rw [hU]; exact hob, va_K.moved hW.alike hK⟩⟩
      rfl rfl hls rfl (lv_room (Nat.le_of_ble_eq_true rfl)) d2 ⟨hc1, hc2⟩
  intro T hT XS
  obtain ⟨v, st₀, t, T', Lo, h0, X', hLo, e3, e2, ⟨⟨hv, ad, σ, hp, hP', hD', hge, hK'⟩, hz, hk⟩, stp⟩ := hrun T hT XS
  cases hv
  rw [h0] at hz hk
  have hAs : ∀ q, bg_Al H1.size H.size q → s.heap.size ≤ q := fun q h => by
    have := hS.1
    rcases h with h | h <;> omega
  obtain ⟨t2, a1, b1⟩ := kk H.size ad σ T'.heap (locs ++ Lo) hp (by rw [e3]; exact hP') hD' (fun q hq => by
      rcases hq with rfl | ⟨k, hk1, hk2, rfl⟩
      · exact Nat.le_refl _
      · have := hge k hk1 hk2
        show H.size ≤ ad k
        omega) (fun q hq => by
      rw [e3, hk q (by omega) (fun z => by rcases z with z | z <;> omega)]
      exact o1 q hq)
    ⟨Nat.le_trans hS1.1 (by rw [e3]; exact hz), fun q h1 h2 => by rw [e3, hk q (Nat.lt_of_lt_of_le h1 hS1.1) (fun z => h2 (hAs q z))]; exact hS1.2.1 q h1 h2, fun q hq => by
      rcases List.mem_append.mp hq with h | h
      · exact hS1.2.2 q h
      · exact hAs _ (hLo q h)⟩ T' rfl X'
  exact ⟨t2, stp t2 a1, b1⟩
/-- THE LAW, from its entry -/
theorem whole_start {p : Program} {e : Env} {s : State} {m : MethodId} {below : List Frame} {meth : Method} {c : Code} (l : Launch) {b L : Nat} {xs : Nat → Int32} (hL : L ≤ 192) (C0 : lw_At p s m meth c b L xs) : W p l e room_1 s m #[Value.ref b] below meth c s.heap [] 0 0 (lw_Z below #[Value.ref b] s) (entryFrame m ([Value.ref b] : List Value).toArray 4) := by
  obtain ⟨hx, hb, hr, hml, hown, hts0, hX, hbl, hlocks, hgv⟩ := id C0
  have hts : ∀ w ∈ lw_all, w.before #[Value.ref b] s = true := fun w h => hts0 w (lw_all_tbl h)
  obtain ⟨c0, iS0, hKn0⟩ := u_known (C := RX0) (T := TX0) (N := 28) (n := 28) hts in_X0 (hts _ q28)
  obtain ⟨c1, iS1, hKn1⟩ := u_known (C := RX1) (T := TX1) (N := 15) (n := 15) hts in_X1 (hts _ q239)
  obtain ⟨cI, kI, coI, fI, eI, dI0⟩ := Cond.arrayClass_spec (hts _ q120)
  obtain ⟨cZ, kZ, coZ, fZ, eZ, dZ0⟩ := Cond.arrayClass_spec (hts _ q121)
  obtain ⟨D, hK⟩ : ∃ D : va_G, va_K D vwCl [(cI, .int), (cZ, .boolean)] s := by
    refine ⟨(fun k => if k = 0 then c0 else c1, fun k => if k = 0 then iS0 else iS1), ?_, ?_⟩
    · intro k q hq
      match k, hq with
      | 0, hq => cases hq; exact hKn0
      | 1, hq => cases hq; exact hKn1
      | k + 2, hq => simp [vwCl] at hq
    · intro k q hq
      match k, hq with
      | 0, hq => cases hq; exact ⟨fun n z => ⟨fun k h => (by cases h), kI, eI, coI, dI0⟩, fI⟩
      | 1, hq => cases hq; exact ⟨fun n z => ⟨fun k h => (by cases h), kZ, eZ, coZ, dZ0⟩, fZ⟩
      | k + 2, hq => simp at hq
  have hS : va_S (fun q : Nat => s.heap.size ≤ q) s.heap s.heap [] := va_S.rf
  have hl := lv_entry ([.ref b]) (n := 4) (Nat.le_of_ble_eq_true rfl)
  rw [lg_entry_eq]
  generalize (lg_sl ([.ref b]) ++ List.replicate (4 - (lg_sl ([.ref b])).length) Slot.unset).toArray = ls at hl ⊢
  have hl : lv_has ls 4 [(0, .ref b)] := hl
  refine bw_make (Γ := kX) (own := R_law) hx hb hml hl.1 hown hts hK okkX tyX0 tyX0_ok bx_def0 hS xm_init q27 q28 q25 q29 q30 q31 rfl rfl (by decide +kernel) ⟨by decide, by decide⟩ (by decide) (by decide) 0 dL_law_0 dL_law_3 dL_law_4 (fun hx0 adx σ H1 locs1 hpx hPx hDx hox _ hS1 => ?_)
  refine lv_astore_n (lv' := [(1, .ref hx0), (0, .ref b)]) hx hb dL_law_7 rfl hl (by decide) rfl (fun ls hl => ?_)
  refine bw_make (Γ := kM) (own := R_law) hx hb hml hl.1 hown hts hK okkM tyX1 tyX1_ok bm_def0 hS1 mm_init q238 q239 q26 q240 q241 q242 rfl rfl (by decide +kernel) ⟨by decide, by decide⟩ (by decide) (by decide) 8 dL_law_8 dL_law_11 dL_law_12 (fun hm0 adm μ H2 locs2 hpm hPm hDm hom hold hS2 => ?_)
  refine lv_astore_n (lv' := [(2, .ref hm0), (1, .ref hx0), (0, .ref b)]) hx hb dL_law_15 rfl hl (by decide) rfl (fun ls hl => ?_)
  refine lv_iconst (v := nI 0) hx hb dL_law_16 (by decide) ?_
  refine lv_istore_n (lv' := [(3, .int (nI 0)), (2, .ref hm0), (1, .ref hx0), (0, .ref b)]) hx hb dL_law_17 rfl hl (by decide) rfl (fun ls hl => ?_)
  have hlt : ∀ q, bg_own kX (D, hx0, adx, cI, cZ) q → q < H1.size := fun q hq => bg_P_lt hPx hq
  have C : bl_Cx (p, l, e, s, m, below, meth, c, b, L, xs) (D, hx0, adx, cI, cZ) (D, hm0, adm, cI, cZ) :=
    ⟨C0, hL, ⟨hK, hDx, hox⟩, ⟨hK, hDm, fun q hq => Nat.le_trans hS1.1 (hom q hq)⟩, fun q hq hq2 => by
      have h1 := hlt q hq
      have h2 := hom q hq2
      omega⟩
  have hsim : bs_sim σ μ 0 := by
    rw [show μ = fun _ _ => 0 from hpm]
    exact bs_start hpx
  exact law_loop C hL (L + 1) 0 σ μ (by show L + 1 ≤ 0 + 3 * (L + 1); omega) (Nat.zero_le _) hsim H2 locs2 ls (bg_P_kept hPx (fun q hq => hold q (hlt q hq))) hPm hS2 (lv_sub hl [3, 2, 1, 0] rfl)
end
section
set_option maxRecDepth 100000
-- ===== YOUR PART ENDS =====
set_option maxHeartbeats 4000000 in
theorem lw_walk (l : Launch) (b : Addr) (xs : List Int32) : MetFree l x (headSpec (Jvm.Cond.code x code maxLocals ret :: tables_1) room_1) (lw_P b xs) (fun _ _ _ _ _ => True) lw_Q := by
  refine MetFree.of_bodyS (code := code) (maxLocals := maxLocals) (ret := ret) (by decide) ?_ ?_
  · intro args s m h hn
    obtain ⟨meth, c, h1, h2, h3, h4, h5, h6, -, -⟩ := Cond.code_spec hn (atoms_spec (ws := Jvm.Cond.code x code maxLocals ret :: tables_1) h _ List.mem_cons_self)
    exact ⟨meth, c, h1, h2, h3, h4, h5, h6⟩
  · intro p e s m args below meth c s₁ B hml0 hP _
    obtain ⟨rfl, hx, hbd, hgv⟩ := hP
    obtain ⟨scr, harrAt, hlist, hof, hsmall⟩ := hx
    obtain ⟨hcb, hkn, -, -⟩ := State.arrayAt?_spec harrAt
    have hown : s.vm.findClass R_law = some m.cls := findClass_of_methodNamed B.named
    have hts0 : ∀ c ∈ (Jvm.Cond.code x code maxLocals ret :: tables_1), c.before #[Value.ref b] s = true := atoms_spec (ws := Jvm.Cond.code x code maxLocals ret :: tables_1) B.pre
    have hts : ∀ w ∈ lw_tbl, w.before #[Value.ref b] s = true := k2_hts_sels lw_privs (fun w hw => hts0 w (List.mem_cons_of_mem _ hw)) lw_privs_ok
    have hml : c.maxLocals = 4 := B.maxLocals_eq (hts0 _ List.mem_cons_self)
    have X₀ : Stand p l e room_1 s m #[Value.ref b] below meth c s₁ [] 0 0 := Stand.of_body B
    have hh0 : s₁.heap = s.heap := by rw [B.state]; rfl
    have hsz : scr.slots.size = xs.length := by rw [← Array.length_toList, hlist, List.length_map]
    have hval : ∀ j : Nat, j < xs.length → scr.slots[j]? = some (.int (xs.getD j 0)) := fun j hj => by
      rw [← Array.getElem?_toList, hlist]
      simp [hj]
    have hbl : b < s.heap.size := (Array.getElem?_eq_some_iff.mp hcb).1
    have hX : va_X b xs.length (fun j => xs.getD j 0) s s.heap := ⟨scr, hcb, hof, hkn, hsz, hval⟩
    have K : W p l e room_1 s m #[Value.ref b] below meth c s₁.heap [] 0 0 (lw_Z below #[Value.ref b] s) (entryFrame m ([Value.ref b] : List Value).toArray 4) := by
      rw [hh0]
      exact whole_start l hbd ⟨B.exec, B.bytes, B.returns, hml, hown, hts, hX, hbl, B.notSynchronized, hgv⟩
    obtain ⟨t, a1, o, b1, b2, b3⟩ := K s₁ rfl X₀
    exact ⟨t, o, a1, b1, b2, b3⟩
theorem lw_pre_spec {args : Array Value} {s : State} (h : (Jvm.Cond.and given_1 narrow_1).before args s = true) (hr : rest_1_c.before args s = true) : ∃ (b : Addr) (xs : List Int32), lw_P b xs args s := by
  have hs := flat_of_before _ h
  have hq := flat_of_before _ hr
  have hc : (Cond.count 1).before args s = true := hs _ (by decide +kernel)
  have harr : (Cond.arrayOf (.arg 0) .int).before args s = true := hs _ (by decide +kernel)
  have hle : (Cond.le (.length (.arg 0)) (.int 192)).before args s = true := hs _ (by decide +kernel)
  have hlen : (Cond.isInt (.length (.arg 0))).before args s = true := hq _ (by decide +kernel)
  have hall : (Cond.all (.arg 0) (.isInt (.elem (.arg 0) (.index 0)))).before args s = true := hq _ (by decide +kernel)
  obtain ⟨b, xs, hb, hx⟩ := State.ints_of_pre rfl harr hlen hall
  have hsm : xs.length < 2 ^ 31 := hx.choose_spec.2.2.2
  have hev : (Term.length (.arg 0)).eval args s none [] s = some (.int xs.length.toInt32) := hx.length_eval hb
  have hv := Cond.le_ints hev (show (Term.int 192).eval args s none [] s = some (.int 192) from rfl)
  have hd : xs.length.toInt32 ≤ 192 := by
    simpa [Cond.before, Cond.holds, hv] using hle
  have hN : xs.length ≤ 192 := (Int32.ofNat_le_ofNat hsm (by decide)).mp (show Int32.ofNat xs.length ≤ Int32.ofNat 192 from hd)
  exact ⟨b, xs, Cond.one_arg hc (show args[0]? = some (.ref b) from hb), hx, hN, h⟩
theorem lw_comes (l : Launch) : Comes l x (Jvm.Cond.code x code maxLocals ret :: tables_1) room_1 (fun tb e args s => Calls_1 tb e args s ∧ rest_1 tb e args s ∧ Pre_1 tb e args s)
    (fun _ _ args s o t => lw_Q args s o t) := by
  intro p e ha hc hk s m args below hf hfit hheap happ hpre
  obtain ⟨b, xs, hP⟩ := lw_pre_spec hpre.2.2 hpre.2.1
  obtain ⟨k, o, h1, h2, h3, hQ⟩ := lw_walk l b xs p e ha hc hk s m args below hf ((Spec.applies_iff_loose hf).mp happ).1 hP trivial
  exact ⟨k, o, h1, h2, h3, hQ⟩
theorem lw_frame {s t : State} {o : Outcome} {args : Array Value} (h : Framed s o t [] 600000 7290000) :
    Framed s o t (fieldLocs frame_1_writes args s ++ arrayLocs frame_1_arrays args s ++ staticLocs frame_1_statics s) 600000 7290000 := h
theorem lw_limb (L : Cond) (hL : ∀ (args : Array Value) (s t : State), L.after args s (.returned (some (.int 1))) t = true) :
    ArmFor flags0 classFile x code maxLocals ret World_1 tables_1 room_1 Calls_1 rest_1 Pre_1
      (fun tb e a s o t => postC L tb e a s o t ∧ Framed s o t (fieldLocs frame_1_writes a s ++ arrayLocs frame_1_arrays a s ++ staticLocs frame_1_statics s) 600000 7290000) := by
  intro l _ _ _ p e ha hc hk s m args below hf hfit hheap happ hpre
  obtain ⟨k, o, h1, h2, h3, rfl, hF⟩ := lw_comes l p e ha hc hk s m args below hf hfit hheap happ hpre
  exact ⟨k, _, h1, h2, h3, hL args s _, lw_frame hF⟩
theorem i_vc : Claimed_1_1 ∧ Claimed_1_2 := ⟨lw_limb limb_1_1 (fun args s t => by simp [limb_1_1, Cond.after, Cond.holds, Cond.value]), lw_limb limb_1_2 (fun args s t => Cond.after_iff.mpr (by
  first | (rw [show limb_1_2 = Cond.eq .result (.int 1) from rfl, Cond.eq_ints (x := 1) (y := 1) rfl rfl]; simp; done) | (simp [limb_1_2, Cond.value, Term.eval]; done)))⟩
end
