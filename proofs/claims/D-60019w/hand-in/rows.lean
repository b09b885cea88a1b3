section
-- ===== PART A: goes FIRST, ahead of the names: the tables' words, and 'selects' of the private methods out of them =====
/-- a private method of a class that the tables say can be made, by its rows of tables_1 -/
def lw_okq (q : MethodName × Nat) : Prop := (q.1.cls ≠ "java/lang/invoke/MethodHandle" ∧ q.1.cls ≠ "java/lang/invoke/VarHandle") ∧ Cond.instantiable q.1.cls q.2 ∈ tables_1 ∧ Cond.privateMethod q.1 ∈ tables_1 ∧ Cond.instanceMethod q.1 ∈ tables_1
set_option maxRecDepth 100000
theorem lw_t1 {w : Cond} (h : w ∈ tables_1_1) : w ∈ tables_1 := List.mem_append_left _ h
theorem lw_t2 {w : Cond} (h : w ∈ tables_1_2) : w ∈ tables_1 := List.mem_append_right _ h
theorem lw_p0 : lw_okq (⟨"StepDebugger", "inside", "(I)Z"⟩, 18) := ⟨⟨by decide +kernel, by decide +kernel⟩, lw_t1 (List.mem_of_getElem? (i := 4) rfl), lw_t1 (List.mem_of_getElem? (i := 81) rfl), lw_t1 (List.mem_of_getElem? (i := 82) rfl)⟩
theorem lw_p1 : lw_okq (⟨"StepDebugger", "run", "(I)I"⟩, 18) := ⟨⟨by decide +kernel, by decide +kernel⟩, lw_t1 (List.mem_of_getElem? (i := 4) rfl), lw_t1 (List.mem_of_getElem? (i := 101) rfl), lw_t1 (List.mem_of_getElem? (i := 102) rfl)⟩
theorem lw_p2 : lw_okq (⟨"StepDebugger", "judge", "(I)I"⟩, 18) := ⟨⟨by decide +kernel, by decide +kernel⟩, lw_t1 (List.mem_of_getElem? (i := 4) rfl), lw_t1 (List.mem_of_getElem? (i := 105) rfl), lw_t1 (List.mem_of_getElem? (i := 106) rfl)⟩
theorem lw_p3 : lw_okq (⟨"StepDebugger", "stuck", "()Z"⟩, 18) := ⟨⟨by decide +kernel, by decide +kernel⟩, lw_t1 (List.mem_of_getElem? (i := 4) rfl), lw_t1 (List.mem_of_getElem? (i := 109) rfl), lw_t1 (List.mem_of_getElem? (i := 110) rfl)⟩
theorem lw_p4 : lw_okq (⟨"StepDebugger", "aimReached", "()Z"⟩, 18) := ⟨⟨by decide +kernel, by decide +kernel⟩, lw_t1 (List.mem_of_getElem? (i := 4) rfl), lw_t1 (List.mem_of_getElem? (i := 113) rfl), lw_t1 (List.mem_of_getElem? (i := 114) rfl)⟩
theorem lw_p5 : lw_okq (⟨"StepDebugger", "stepOff", "()I"⟩, 18) := ⟨⟨by decide +kernel, by decide +kernel⟩, lw_t1 (List.mem_of_getElem? (i := 4) rfl), lw_t1 (List.mem_of_getElem? (i := 117) rfl), lw_t1 (List.mem_of_getElem? (i := 118) rfl)⟩
theorem lw_p6 : lw_okq (⟨"StepDebugger", "successors", "()I"⟩, 18) := ⟨⟨by decide +kernel, by decide +kernel⟩, lw_t1 (List.mem_of_getElem? (i := 4) rfl), lw_t1 (List.mem_of_getElem? (i := 121) rfl), lw_t1 (List.mem_of_getElem? (i := 122) rfl)⟩
theorem lw_p7 : lw_okq (⟨"StepDebugger", "bit", "(I)I"⟩, 18) := ⟨⟨by decide +kernel, by decide +kernel⟩, lw_t1 (List.mem_of_getElem? (i := 4) rfl), lw_t1 (List.mem_of_getElem? (i := 125) rfl), lw_t1 (List.mem_of_getElem? (i := 126) rfl)⟩
theorem lw_p8 : lw_okq (⟨"StepDebugger", "resume", "(I)I"⟩, 18) := ⟨⟨by decide +kernel, by decide +kernel⟩, lw_t1 (List.mem_of_getElem? (i := 4) rfl), lw_t1 (List.mem_of_getElem? (i := 129) rfl), lw_t1 (List.mem_of_getElem? (i := 130) rfl)⟩
theorem lw_p9 : lw_okq (⟨"StepDebugger", "carry", "()V"⟩, 18) := ⟨⟨by decide +kernel, by decide +kernel⟩, lw_t1 (List.mem_of_getElem? (i := 4) rfl), lw_t1 (List.mem_of_getElem? (i := 133) rfl), lw_t1 (List.mem_of_getElem? (i := 134) rfl)⟩
theorem lw_p10 : lw_okq (⟨"StepDebugger", "work", "(III)V"⟩, 18) := ⟨⟨by decide +kernel, by decide +kernel⟩, lw_t1 (List.mem_of_getElem? (i := 4) rfl), lw_t1 (List.mem_of_getElem? (i := 137) rfl), lw_t1 (List.mem_of_getElem? (i := 138) rfl)⟩
theorem lw_p11 : lw_okq (⟨"StepDebugger", "plant", "(I)V"⟩, 18) := ⟨⟨by decide +kernel, by decide +kernel⟩, lw_t1 (List.mem_of_getElem? (i := 4) rfl), lw_t1 (List.mem_of_getElem? (i := 141) rfl), lw_t1 (List.mem_of_getElem? (i := 142) rfl)⟩
theorem lw_p12 : lw_okq (⟨"StepDebugger", "lift", "()V"⟩, 18) := ⟨⟨by decide +kernel, by decide +kernel⟩, lw_t1 (List.mem_of_getElem? (i := 4) rfl), lw_t1 (List.mem_of_getElem? (i := 145) rfl), lw_t1 (List.mem_of_getElem? (i := 146) rfl)⟩
theorem lw_p13 : lw_okq (⟨"StepDebuggerModel", "run", "(III)I"⟩, 13) := ⟨⟨by decide +kernel, by decide +kernel⟩, lw_t1 (List.mem_of_getElem? (i := 185) rfl), lw_t2 (List.mem_of_getElem? (i := 19) rfl), lw_t2 (List.mem_of_getElem? (i := 20) rfl)⟩
theorem lw_p14 : lw_okq (⟨"StepDebuggerModel", "inside", "()Z"⟩, 13) := ⟨⟨by decide +kernel, by decide +kernel⟩, lw_t1 (List.mem_of_getElem? (i := 185) rfl), lw_t2 (List.mem_of_getElem? (i := 23) rfl), lw_t2 (List.mem_of_getElem? (i := 24) rfl)⟩
theorem lw_p15 : lw_okq (⟨"StepDebuggerModel", "faulty", "()Z"⟩, 13) := ⟨⟨by decide +kernel, by decide +kernel⟩, lw_t1 (List.mem_of_getElem? (i := 185) rfl), lw_t2 (List.mem_of_getElem? (i := 27) rfl), lw_t2 (List.mem_of_getElem? (i := 28) rfl)⟩
def lw_privs_1 : List (MethodName × Nat) := [(⟨"StepDebugger", "inside", "(I)Z"⟩, 18), (⟨"StepDebugger", "run", "(I)I"⟩, 18), (⟨"StepDebugger", "judge", "(I)I"⟩, 18), (⟨"StepDebugger", "stuck", "()Z"⟩, 18), (⟨"StepDebugger", "aimReached", "()Z"⟩, 18), (⟨"StepDebugger", "stepOff", "()I"⟩, 18), (⟨"StepDebugger", "successors", "()I"⟩, 18), (⟨"StepDebugger", "bit", "(I)I"⟩, 18), (⟨"StepDebugger", "resume", "(I)I"⟩, 18), (⟨"StepDebugger", "carry", "()V"⟩, 18), (⟨"StepDebugger", "work", "(III)V"⟩, 18), (⟨"StepDebugger", "plant", "(I)V"⟩, 18), (⟨"StepDebugger", "lift", "()V"⟩, 18), (⟨"StepDebuggerModel", "run", "(III)I"⟩, 13), (⟨"StepDebuggerModel", "inside", "()Z"⟩, 13), (⟨"StepDebuggerModel", "faulty", "()Z"⟩, 13)]
theorem lw_r1 : ∀ q ∈ lw_privs_1, lw_okq q := List.forall_mem_cons.mpr ⟨lw_p0, List.forall_mem_cons.mpr ⟨lw_p1, List.forall_mem_cons.mpr ⟨lw_p2, List.forall_mem_cons.mpr ⟨lw_p3, List.forall_mem_cons.mpr ⟨lw_p4, List.forall_mem_cons.mpr ⟨lw_p5, List.forall_mem_cons.mpr ⟨lw_p6, List.forall_mem_cons.mpr ⟨lw_p7, List.forall_mem_cons.mpr ⟨lw_p8, List.forall_mem_cons.mpr ⟨lw_p9, List.forall_mem_cons.mpr ⟨lw_p10, List.forall_mem_cons.mpr ⟨lw_p11, List.forall_mem_cons.mpr ⟨lw_p12, List.forall_mem_cons.mpr ⟨lw_p13, List.forall_mem_cons.mpr ⟨lw_p14, List.forall_mem_cons.mpr ⟨lw_p15, fun _ h => absurd h List.not_mem_nil⟩⟩⟩⟩⟩⟩⟩⟩⟩⟩⟩⟩⟩⟩⟩⟩
theorem lw_p16 : lw_okq (⟨"StepDebuggerModel", "here", "()I"⟩, 13) := ⟨⟨by decide +kernel, by decide +kernel⟩, lw_t1 (List.mem_of_getElem? (i := 185) rfl), lw_t2 (List.mem_of_getElem? (i := 31) rfl), lw_t2 (List.mem_of_getElem? (i := 32) rfl)⟩
theorem lw_p17 : lw_okq (⟨"StepDebuggerModel", "carryOut", "(III)V"⟩, 13) := ⟨⟨by decide +kernel, by decide +kernel⟩, lw_t1 (List.mem_of_getElem? (i := 185) rfl), lw_t2 (List.mem_of_getElem? (i := 35) rfl), lw_t2 (List.mem_of_getElem? (i := 36) rfl)⟩
def lw_privs_2 : List (MethodName × Nat) := [(⟨"StepDebuggerModel", "here", "()I"⟩, 13), (⟨"StepDebuggerModel", "carryOut", "(III)V"⟩, 13)]
theorem lw_r2 : ∀ q ∈ lw_privs_2, lw_okq q := List.forall_mem_cons.mpr ⟨lw_p16, List.forall_mem_cons.mpr ⟨lw_p17, fun _ h => absurd h List.not_mem_nil⟩⟩
def lw_privs : List (MethodName × Nat) := lw_privs_1 ++ (lw_privs_2)
def lw_tbl : List Cond := k2_sels lw_privs ++ tables_1
theorem lw_privs_ok : ∀ q ∈ lw_privs, lw_okq q := by
  show ∀ q ∈ lw_privs_1 ++ (lw_privs_2), lw_okq q
  exact List.forall_mem_append.mpr ⟨lw_r1, lw_r2⟩
-- ===== ONE list of words for every method: the tables' words that hold all through a run =====
def lw_all : List Cond := lw_tbl.filter goodWord
/-- a word of the tables by its place: claim/WORDS.tsv -/
theorem lw_w {w : Cond} (i : Nat) (h : lw_tbl[i]? = some w) (g : goodWord w = true) : w ∈ lw_all := List.mem_filter.mpr ⟨List.mem_of_getElem? h, g⟩
theorem lw_all_tbl {w : Cond} (h : w ∈ lw_all) : w ∈ lw_tbl := (List.mem_filter.mp h).1
theorem lw_self : GoodIn lw_all lw_all := fun w h => ⟨h, good_of_word (List.mem_filter.mp h).2⟩
/-- a class's field words, by their places -/
theorem lw_in (ws : List Cond) (ps : List Nat) (hp : ws = ps.filterMap (fun i => lw_tbl[i]?)) (hg : ws.all goodWord = true) : ∀ w ∈ ws, w ∈ lw_all := by
  intro w h
  have h1 := List.all_eq_true.mp hg w h
  rw [hp] at h
  obtain ⟨i, -, hi⟩ := List.mem_filterMap.mp h
  exact lw_w i hi h1
/-- the words of a contract for the method y with code b, L locals, answer r -/
abbrev ws_ (y : MethodName) (b : ByteArray) (L : Nat) (r : Option FieldType) : List Cond := Cond.code y b L r :: lw_all
theorem lw_meth {y : MethodName} {b : ByteArray} {L : Nat} {r : Option FieldType} (h : Cond.code y b L r ∈ lw_all) : GoodIn lw_all (ws_ y b L r) := by
  intro w hw
  rcases List.mem_cons.mp hw with e | e
  · rw [e]
    exact lw_self _ h
  · exact lw_self _ e
theorem lw_app {a c : List Cond} (ha : ∀ w ∈ a, w ∈ lw_all) (hc : GoodIn lw_all c) : GoodIn lw_all (a ++ c) := by
  intro w hw
  rcases List.mem_append.mp hw with e | e
  · exact lw_self w (ha w e)
  · exact hc w e
/-- what a call through an object asks: cwV n hts (lw_V ..) -/
theorem lw_V {own : String} {idx : Nat} {C : String} {y : MethodName} {b : ByteArray} {L : Nat} {r : Option FieldType} (h1 : Cond.methodLink own idx y ∈ lw_all) (h2 : Cond.instanceMethod y ∈ lw_all) (h3 : Cond.selects C y y ∈ lw_all) (h4 : Cond.initialized C ∈ lw_all) (h5 : Cond.code y b L r ∈ lw_all) : GoodIn lw_all (wsV own idx C y (ws_ y b L r)) := by
  refine lw_app ?_ (lw_meth h5)
  intro w hw
  simp only [List.mem_cons, List.not_mem_nil, or_false] at hw
  rcases hw with e | e | e | e
  · rw [e]; exact h1
  · rw [e]; exact h2
  · rw [e]; exact h3
  · rw [e]; exact h4
/-- what a static call asks: va_cwS n hts (lw_S ..) -/
theorem lw_S {own : String} {idx : Nat} {y : MethodName} {b : ByteArray} {L : Nat} {r : Option FieldType} (h1 : Cond.methodLink own idx y ∈ lw_all) (h2 : Cond.static y ∈ lw_all) (h3 : Cond.initialized y.cls ∈ lw_all) (h4 : Cond.code y b L r ∈ lw_all) : GoodIn lw_all (va_wsS own idx y (ws_ y b L r)) := by
  refine lw_app ?_ (lw_meth h4)
  intro w hw
  simp only [List.mem_cons, List.not_mem_nil, or_false] at hw
  rcases hw with e | e | e
  · rw [e]; exact h1
  · rw [e]; exact h2
  · rw [e]; exact h3
/-- the words of a contract for a method WITH HANDLERS (hh: its table) -/
abbrev wsW_ (y : MethodName) (b : ByteArray) (L : Nat) (r : Option FieldType) (hh : List (Nat × Nat × Nat × Nat)) : List Cond := Cond.codeWith y b L r hh :: lw_all
theorem lw_methW {y : MethodName} {b : ByteArray} {L : Nat} {r : Option FieldType} {hh : List (Nat × Nat × Nat × Nat)} (h : Cond.codeWith y b L r hh ∈ lw_all) : GoodIn lw_all (wsW_ y b L r hh) := by
  intro w hw
  rcases List.mem_cons.mp hw with e | e
  · rw [e]
    exact lw_self _ h
  · exact lw_self _ e
/-- any list of words by their places (lw_in), good -/
theorem lw_good {ws : List Cond} (h : ∀ w ∈ ws, w ∈ lw_all) : GoodIn lw_all ws := fun w hw => lw_self w (h w hw)
/-- what a call of a method with handlers asks: vx_cwVW n hts (lw_VW ..), vx_cwSW n hts (lw_SW ..) -/
theorem lw_VW {own : String} {idx : Nat} {C : String} {y : MethodName} {b : ByteArray} {L : Nat} {r : Option FieldType} {hh : List (Nat × Nat × Nat × Nat)} (h1 : Cond.methodLink own idx y ∈ lw_all) (h2 : Cond.instanceMethod y ∈ lw_all) (h3 : Cond.selects C y y ∈ lw_all) (h4 : Cond.initialized C ∈ lw_all) (h5 : Cond.codeWith y b L r hh ∈ lw_all) : GoodIn lw_all (wsV own idx C y (wsW_ y b L r hh)) := by
  refine lw_app ?_ (lw_methW h5)
  intro w hw
  simp only [List.mem_cons, List.not_mem_nil, or_false] at hw
  rcases hw with e | e | e | e
  · rw [e]; exact h1
  · rw [e]; exact h2
  · rw [e]; exact h3
  · rw [e]; exact h4
theorem lw_SW {own : String} {idx : Nat} {y : MethodName} {b : ByteArray} {L : Nat} {r : Option FieldType} {hh : List (Nat × Nat × Nat × Nat)} (h1 : Cond.methodLink own idx y ∈ lw_all) (h2 : Cond.static y ∈ lw_all) (h3 : Cond.initialized y.cls ∈ lw_all) (h4 : Cond.codeWith y b L r hh ∈ lw_all) : GoodIn lw_all (va_wsS own idx y (wsW_ y b L r hh)) := by
  refine lw_app ?_ (lw_methW h4)
  intro w hw
  simp only [List.mem_cons, List.not_mem_nil, or_false] at hw
  rcases hw with e | e | e
  · rw [e]; exact h1
  · rw [e]; exact h2
  · rw [e]; exact h3
/-- a word by its place in its run of the tables -/
theorem lw_at {r : List Cond} (hr : ∀ w ∈ r, w ∈ lw_tbl) {w : Cond} (i : Nat) (h : r[i]? = some w) : w ∈ lw_tbl := hr w (List.mem_of_getElem? h)
theorem lw_g {w : Cond} (h : w ∈ lw_tbl) (g : goodWord w = true) : w ∈ lw_all := List.mem_filter.mpr ⟨h, g⟩
theorem lw_ms : ∀ w ∈ k2_sels lw_privs, w ∈ lw_tbl := fun w h => show w ∈ k2_sels lw_privs ++ tables_1 from List.mem_append_left _ h
theorem lw_m1 : ∀ w ∈ tables_1_1, w ∈ lw_tbl := fun w h => show w ∈ k2_sels lw_privs ++ tables_1 from List.mem_append_right (k2_sels lw_privs) (show w ∈ tables_1 from List.mem_append_left _ h)
theorem lw_m2 : ∀ w ∈ tables_1_2, w ∈ lw_tbl := fun w h => show w ∈ k2_sels lw_privs ++ tables_1 from List.mem_append_right (k2_sels lw_privs) (show w ∈ tables_1 from List.mem_append_right _ h)
theorem qs0 : (Cond.selects "StepDebugger" ⟨"StepDebugger", "inside", "(I)Z"⟩ ⟨"StepDebugger", "inside", "(I)Z"⟩) ∈ lw_all := lw_g (lw_at lw_ms 0 rfl) rfl
theorem qs1 : (Cond.selects "StepDebugger" ⟨"StepDebugger", "run", "(I)I"⟩ ⟨"StepDebugger", "run", "(I)I"⟩) ∈ lw_all := lw_g (lw_at lw_ms 1 rfl) rfl
theorem qs2 : (Cond.selects "StepDebugger" ⟨"StepDebugger", "judge", "(I)I"⟩ ⟨"StepDebugger", "judge", "(I)I"⟩) ∈ lw_all := lw_g (lw_at lw_ms 2 rfl) rfl
theorem qs3 : (Cond.selects "StepDebugger" ⟨"StepDebugger", "stuck", "()Z"⟩ ⟨"StepDebugger", "stuck", "()Z"⟩) ∈ lw_all := lw_g (lw_at lw_ms 3 rfl) rfl
theorem qs4 : (Cond.selects "StepDebugger" ⟨"StepDebugger", "aimReached", "()Z"⟩ ⟨"StepDebugger", "aimReached", "()Z"⟩) ∈ lw_all := lw_g (lw_at lw_ms 4 rfl) rfl
theorem qs5 : (Cond.selects "StepDebugger" ⟨"StepDebugger", "stepOff", "()I"⟩ ⟨"StepDebugger", "stepOff", "()I"⟩) ∈ lw_all := lw_g (lw_at lw_ms 5 rfl) rfl
theorem qs6 : (Cond.selects "StepDebugger" ⟨"StepDebugger", "successors", "()I"⟩ ⟨"StepDebugger", "successors", "()I"⟩) ∈ lw_all := lw_g (lw_at lw_ms 6 rfl) rfl
theorem qs7 : (Cond.selects "StepDebugger" ⟨"StepDebugger", "bit", "(I)I"⟩ ⟨"StepDebugger", "bit", "(I)I"⟩) ∈ lw_all := lw_g (lw_at lw_ms 7 rfl) rfl
theorem qs8 : (Cond.selects "StepDebugger" ⟨"StepDebugger", "resume", "(I)I"⟩ ⟨"StepDebugger", "resume", "(I)I"⟩) ∈ lw_all := lw_g (lw_at lw_ms 8 rfl) rfl
theorem qs9 : (Cond.selects "StepDebugger" ⟨"StepDebugger", "carry", "()V"⟩ ⟨"StepDebugger", "carry", "()V"⟩) ∈ lw_all := lw_g (lw_at lw_ms 9 rfl) rfl
theorem qs10 : (Cond.selects "StepDebugger" ⟨"StepDebugger", "work", "(III)V"⟩ ⟨"StepDebugger", "work", "(III)V"⟩) ∈ lw_all := lw_g (lw_at lw_ms 10 rfl) rfl
theorem qs11 : (Cond.selects "StepDebugger" ⟨"StepDebugger", "plant", "(I)V"⟩ ⟨"StepDebugger", "plant", "(I)V"⟩) ∈ lw_all := lw_g (lw_at lw_ms 11 rfl) rfl
theorem qs12 : (Cond.selects "StepDebugger" ⟨"StepDebugger", "lift", "()V"⟩ ⟨"StepDebugger", "lift", "()V"⟩) ∈ lw_all := lw_g (lw_at lw_ms 12 rfl) rfl
theorem qs13 : (Cond.selects "StepDebuggerModel" ⟨"StepDebuggerModel", "run", "(III)I"⟩ ⟨"StepDebuggerModel", "run", "(III)I"⟩) ∈ lw_all := lw_g (lw_at lw_ms 13 rfl) rfl
theorem qs14 : (Cond.selects "StepDebuggerModel" ⟨"StepDebuggerModel", "inside", "()Z"⟩ ⟨"StepDebuggerModel", "inside", "()Z"⟩) ∈ lw_all := lw_g (lw_at lw_ms 14 rfl) rfl
theorem qs15 : (Cond.selects "StepDebuggerModel" ⟨"StepDebuggerModel", "faulty", "()Z"⟩ ⟨"StepDebuggerModel", "faulty", "()Z"⟩) ∈ lw_all := lw_g (lw_at lw_ms 15 rfl) rfl
theorem qs16 : (Cond.selects "StepDebuggerModel" ⟨"StepDebuggerModel", "here", "()I"⟩ ⟨"StepDebuggerModel", "here", "()I"⟩) ∈ lw_all := lw_g (lw_at lw_ms 16 rfl) rfl
theorem qs17 : (Cond.selects "StepDebuggerModel" ⟨"StepDebuggerModel", "carryOut", "(III)V"⟩ ⟨"StepDebuggerModel", "carryOut", "(III)V"⟩) ∈ lw_all := lw_g (lw_at lw_ms 17 rfl) rfl
end
section
/-! StepDebugger -/
set_option maxRecDepth 100000
def RX0 : String := "StepDebugger"
def TX0 : u_T := fun k => match k with
  | 0 => ("StepDebugger", "ops", "[B", true)
  | 1 => ("StepDebugger", "as", "[B", true)
  | 2 => ("StepDebugger", "bs", "[I", true)
  | 3 => ("StepDebugger", "hidden", "[B", true)
  | 4 => ("StepDebugger", "planted", "I", false)
  | 5 => ("StepDebugger", "size", "I", false)
  | 6 => ("StepDebugger", "registers", "[I", true)
  | 7 => ("StepDebugger", "memory", "[I", true)
  | 8 => ("StepDebugger", "returns", "[I", true)
  | 9 => ("StepDebugger", "level", "I", false)
  | 10 => ("StepDebugger", "at", "I", false)
  | 11 => ("StepDebugger", "over", "Z", false)
  | 12 => ("StepDebugger", "count", "I", false)
  | 13 => ("StepDebugger", "breaks", "I", false)
  | 14 => ("StepDebugger", "why", "I", false)
  | 15 => ("StepDebugger", "aim", "I", false)
  | 16 => ("StepDebugger", "aimPlace", "I", false)
  | _ => ("StepDebugger", "aimDepth", "I", false)
def tyX0 : Nat → FieldType := fun k => match k with
  | 0 => .array .byte
  | 1 => .array .byte
  | 2 => .array .int
  | 3 => .array .byte
  | 4 => .int
  | 5 => .int
  | 6 => .array .int
  | 7 => .array .int
  | 8 => .array .int
  | 9 => .int
  | 10 => .int
  | 11 => .boolean
  | 12 => .int
  | 13 => .int
  | 14 => .int
  | 15 => .int
  | 16 => .int
  | _ => .int
abbrev wsX00 : List Cond := u_ws RX0 TX0 18
set_option maxRecDepth 100000 in
theorem nmX0 : ∀ a, a < 18 → ∀ b, b < 18 → a ≠ b → (TX0 a).2.1 ≠ (TX0 b).2.1 := by decide +kernel
set_option maxRecDepth 100000 in
theorem tyX0_ok : ∀ k, k < 18 → parseFieldDescriptor (TX0 k).2.2.1 = some (tyX0 k) := by decide +kernel
abbrev cX0_init : ByteArray := prog_1_method_1_code
def yX0_init : MethodName := ⟨RX0, "<init>", "()V"⟩
theorem dX0_init_0 : decode cX0_init 0 = .ok (.aload_n 0, 1) := by decide +kernel
theorem dX0_init_1 : decode cX0_init 1 = .ok (.invokespecial 1, 3) := by decide +kernel
theorem dX0_init_4 : decode cX0_init 4 = .ok (.aload_n 0, 1) := by decide +kernel
theorem dX0_init_5 : decode cX0_init 5 = .ok (.bipush 20, 2) := by decide +kernel
theorem dX0_init_7 : decode cX0_init 7 = .ok (.newarray .byte, 2) := by decide +kernel
theorem dX0_init_9 : decode cX0_init 9 = .ok (.putfield 7, 3) := by decide +kernel
theorem dX0_init_12 : decode cX0_init 12 = .ok (.aload_n 0, 1) := by decide +kernel
theorem dX0_init_13 : decode cX0_init 13 = .ok (.bipush 20, 2) := by decide +kernel
theorem dX0_init_15 : decode cX0_init 15 = .ok (.newarray .byte, 2) := by decide +kernel
theorem dX0_init_17 : decode cX0_init 17 = .ok (.putfield 13, 3) := by decide +kernel
theorem dX0_init_20 : decode cX0_init 20 = .ok (.aload_n 0, 1) := by decide +kernel
theorem dX0_init_21 : decode cX0_init 21 = .ok (.bipush 20, 2) := by decide +kernel
theorem dX0_init_23 : decode cX0_init 23 = .ok (.newarray .int, 2) := by decide +kernel
theorem dX0_init_25 : decode cX0_init 25 = .ok (.putfield 16, 3) := by decide +kernel
theorem dX0_init_28 : decode cX0_init 28 = .ok (.aload_n 0, 1) := by decide +kernel
theorem dX0_init_29 : decode cX0_init 29 = .ok (.bipush 20, 2) := by decide +kernel
theorem dX0_init_31 : decode cX0_init 31 = .ok (.newarray .byte, 2) := by decide +kernel
theorem dX0_init_33 : decode cX0_init 33 = .ok (.putfield 20, 3) := by decide +kernel
theorem dX0_init_36 : decode cX0_init 36 = .ok (.aload_n 0, 1) := by decide +kernel
theorem dX0_init_37 : decode cX0_init 37 = .ok (.iconst 4, 1) := by decide +kernel
theorem dX0_init_38 : decode cX0_init 38 = .ok (.newarray .int, 2) := by decide +kernel
theorem dX0_init_40 : decode cX0_init 40 = .ok (.putfield 23, 3) := by decide +kernel
theorem dX0_init_43 : decode cX0_init 43 = .ok (.aload_n 0, 1) := by decide +kernel
theorem dX0_init_44 : decode cX0_init 44 = .ok (.bipush 8, 2) := by decide +kernel
theorem dX0_init_46 : decode cX0_init 46 = .ok (.newarray .int, 2) := by decide +kernel
theorem dX0_init_48 : decode cX0_init 48 = .ok (.putfield 26, 3) := by decide +kernel
theorem dX0_init_51 : decode cX0_init 51 = .ok (.aload_n 0, 1) := by decide +kernel
theorem dX0_init_52 : decode cX0_init 52 = .ok (.bipush 6, 2) := by decide +kernel
theorem dX0_init_54 : decode cX0_init 54 = .ok (.newarray .int, 2) := by decide +kernel
theorem dX0_init_56 : decode cX0_init 56 = .ok (.putfield 29, 3) := by decide +kernel
theorem dX0_init_59 : decode cX0_init 59 = .ok (.return_, 1) := by decide +kernel
abbrev cX0_emit : ByteArray := prog_1_method_2_code
def yX0_emit : MethodName := ⟨RX0, "emit", "(III)I"⟩
theorem dX0_emit_0 : decode cX0_emit 0 = .ok (.aload_n 0, 1) := by decide +kernel
theorem dX0_emit_1 : decode cX0_emit 1 = .ok (.getfield 32, 3) := by decide +kernel
theorem dX0_emit_4 : decode cX0_emit 4 = .ok (.bipush 20, 2) := by decide +kernel
theorem dX0_emit_6 : decode cX0_emit 6 = .ok (.if_icmp .lt 5, 3) := by decide +kernel
theorem dX0_emit_9 : decode cX0_emit 9 = .ok (.iconst (-1), 1) := by decide +kernel
theorem dX0_emit_10 : decode cX0_emit 10 = .ok (.ireturn, 1) := by decide +kernel
theorem dX0_emit_11 : decode cX0_emit 11 = .ok (.iload_n 1, 1) := by decide +kernel
theorem dX0_emit_12 : decode cX0_emit 12 = .ok (.ifCond .lt 9, 3) := by decide +kernel
theorem dX0_emit_15 : decode cX0_emit 15 = .ok (.iload_n 1, 1) := by decide +kernel
theorem dX0_emit_16 : decode cX0_emit 16 = .ok (.bipush 10, 2) := by decide +kernel
theorem dX0_emit_18 : decode cX0_emit 18 = .ok (.if_icmp .le 6, 3) := by decide +kernel
theorem dX0_emit_21 : decode cX0_emit 21 = .ok (.bipush (-2), 2) := by decide +kernel
theorem dX0_emit_23 : decode cX0_emit 23 = .ok (.ireturn, 1) := by decide +kernel
theorem dX0_emit_24 : decode cX0_emit 24 = .ok (.iload_n 1, 1) := by decide +kernel
theorem dX0_emit_25 : decode cX0_emit 25 = .ok (.iconst 1, 1) := by decide +kernel
theorem dX0_emit_26 : decode cX0_emit 26 = .ok (.if_icmp .lt 12, 3) := by decide +kernel
theorem dX0_emit_29 : decode cX0_emit 29 = .ok (.iload_n 1, 1) := by decide +kernel
theorem dX0_emit_30 : decode cX0_emit 30 = .ok (.iconst 4, 1) := by decide +kernel
theorem dX0_emit_31 : decode cX0_emit 31 = .ok (.if_icmp .gt 7, 3) := by decide +kernel
theorem dX0_emit_34 : decode cX0_emit 34 = .ok (.iconst 1, 1) := by decide +kernel
theorem dX0_emit_35 : decode cX0_emit 35 = .ok (.goto 4, 3) := by decide +kernel
theorem dX0_emit_38 : decode cX0_emit 38 = .ok (.iconst 0, 1) := by decide +kernel
theorem dX0_emit_39 : decode cX0_emit 39 = .ok (.istore 4, 2) := by decide +kernel
theorem dX0_emit_41 : decode cX0_emit 41 = .ok (.iload_n 2, 1) := by decide +kernel
theorem dX0_emit_42 : decode cX0_emit 42 = .ok (.ifCond .lt 22, 3) := by decide +kernel
theorem dX0_emit_45 : decode cX0_emit 45 = .ok (.iload_n 2, 1) := by decide +kernel
theorem dX0_emit_46 : decode cX0_emit 46 = .ok (.iconst 3, 1) := by decide +kernel
theorem dX0_emit_47 : decode cX0_emit 47 = .ok (.if_icmp .gt 17, 3) := by decide +kernel
theorem dX0_emit_50 : decode cX0_emit 50 = .ok (.iload 4, 2) := by decide +kernel
theorem dX0_emit_52 : decode cX0_emit 52 = .ok (.ifCond .eq 15, 3) := by decide +kernel
theorem dX0_emit_55 : decode cX0_emit 55 = .ok (.iload_n 3, 1) := by decide +kernel
theorem dX0_emit_56 : decode cX0_emit 56 = .ok (.ifCond .lt 8, 3) := by decide +kernel
theorem dX0_emit_59 : decode cX0_emit 59 = .ok (.iload_n 3, 1) := by decide +kernel
theorem dX0_emit_60 : decode cX0_emit 60 = .ok (.iconst 3, 1) := by decide +kernel
theorem dX0_emit_61 : decode cX0_emit 61 = .ok (.if_icmp .le 6, 3) := by decide +kernel
theorem dX0_emit_64 : decode cX0_emit 64 = .ok (.bipush (-3), 2) := by decide +kernel
theorem dX0_emit_66 : decode cX0_emit 66 = .ok (.ireturn, 1) := by decide +kernel
theorem dX0_emit_67 : decode cX0_emit 67 = .ok (.aload_n 0, 1) := by decide +kernel
theorem dX0_emit_68 : decode cX0_emit 68 = .ok (.getfield 7, 3) := by decide +kernel
theorem dX0_emit_71 : decode cX0_emit 71 = .ok (.aload_n 0, 1) := by decide +kernel
theorem dX0_emit_72 : decode cX0_emit 72 = .ok (.getfield 32, 3) := by decide +kernel
theorem dX0_emit_75 : decode cX0_emit 75 = .ok (.iload_n 1, 1) := by decide +kernel
theorem dX0_emit_76 : decode cX0_emit 76 = .ok (.i2b, 1) := by decide +kernel
theorem dX0_emit_77 : decode cX0_emit 77 = .ok (.bastore, 1) := by decide +kernel
theorem dX0_emit_78 : decode cX0_emit 78 = .ok (.aload_n 0, 1) := by decide +kernel
theorem dX0_emit_79 : decode cX0_emit 79 = .ok (.getfield 13, 3) := by decide +kernel
theorem dX0_emit_82 : decode cX0_emit 82 = .ok (.aload_n 0, 1) := by decide +kernel
theorem dX0_emit_83 : decode cX0_emit 83 = .ok (.getfield 32, 3) := by decide +kernel
theorem dX0_emit_86 : decode cX0_emit 86 = .ok (.iload_n 2, 1) := by decide +kernel
theorem dX0_emit_87 : decode cX0_emit 87 = .ok (.i2b, 1) := by decide +kernel
theorem dX0_emit_88 : decode cX0_emit 88 = .ok (.bastore, 1) := by decide +kernel
theorem dX0_emit_89 : decode cX0_emit 89 = .ok (.aload_n 0, 1) := by decide +kernel
theorem dX0_emit_90 : decode cX0_emit 90 = .ok (.getfield 16, 3) := by decide +kernel
theorem dX0_emit_93 : decode cX0_emit 93 = .ok (.aload_n 0, 1) := by decide +kernel
theorem dX0_emit_94 : decode cX0_emit 94 = .ok (.getfield 32, 3) := by decide +kernel
theorem dX0_emit_97 : decode cX0_emit 97 = .ok (.iload_n 3, 1) := by decide +kernel
theorem dX0_emit_98 : decode cX0_emit 98 = .ok (.iastore, 1) := by decide +kernel
theorem dX0_emit_99 : decode cX0_emit 99 = .ok (.aload_n 0, 1) := by decide +kernel
theorem dX0_emit_100 : decode cX0_emit 100 = .ok (.dup, 1) := by decide +kernel
theorem dX0_emit_101 : decode cX0_emit 101 = .ok (.getfield 32, 3) := by decide +kernel
theorem dX0_emit_104 : decode cX0_emit 104 = .ok (.iconst 1, 1) := by decide +kernel
theorem dX0_emit_105 : decode cX0_emit 105 = .ok (.iadd, 1) := by decide +kernel
theorem dX0_emit_106 : decode cX0_emit 106 = .ok (.putfield 32, 3) := by decide +kernel
theorem dX0_emit_109 : decode cX0_emit 109 = .ok (.aload_n 0, 1) := by decide +kernel
theorem dX0_emit_110 : decode cX0_emit 110 = .ok (.getfield 32, 3) := by decide +kernel
theorem dX0_emit_113 : decode cX0_emit 113 = .ok (.iconst 1, 1) := by decide +kernel
theorem dX0_emit_114 : decode cX0_emit 114 = .ok (.isub, 1) := by decide +kernel
theorem dX0_emit_115 : decode cX0_emit 115 = .ok (.ireturn, 1) := by decide +kernel
abbrev cX0_length : ByteArray := prog_1_method_3_code
def yX0_length : MethodName := ⟨RX0, "length", "()I"⟩
theorem dX0_length_0 : decode cX0_length 0 = .ok (.aload_n 0, 1) := by decide +kernel
theorem dX0_length_1 : decode cX0_length 1 = .ok (.getfield 32, 3) := by decide +kernel
theorem dX0_length_4 : decode cX0_length 4 = .ok (.ireturn, 1) := by decide +kernel
abbrev cX0_codeAt : ByteArray := prog_1_method_5_code
def yX0_codeAt : MethodName := ⟨RX0, "codeAt", "(I)I"⟩
theorem dX0_codeAt_0 : decode cX0_codeAt 0 = .ok (.aload_n 0, 1) := by decide +kernel
theorem dX0_codeAt_1 : decode cX0_codeAt 1 = .ok (.iload_n 1, 1) := by decide +kernel
theorem dX0_codeAt_2 : decode cX0_codeAt 2 = .ok (.invokevirtual 36, 3) := by decide +kernel
theorem dX0_codeAt_5 : decode cX0_codeAt 5 = .ok (.ifCond .eq 22, 3) := by decide +kernel
theorem dX0_codeAt_8 : decode cX0_codeAt 8 = .ok (.aload_n 0, 1) := by decide +kernel
theorem dX0_codeAt_9 : decode cX0_codeAt 9 = .ok (.getfield 7, 3) := by decide +kernel
theorem dX0_codeAt_12 : decode cX0_codeAt 12 = .ok (.iload_n 1, 1) := by decide +kernel
theorem dX0_codeAt_13 : decode cX0_codeAt 13 = .ok (.baload, 1) := by decide +kernel
theorem dX0_codeAt_14 : decode cX0_codeAt 14 = .ok (.bipush 16, 2) := by decide +kernel
theorem dX0_codeAt_16 : decode cX0_codeAt 16 = .ok (.aload_n 0, 1) := by decide +kernel
theorem dX0_codeAt_17 : decode cX0_codeAt 17 = .ok (.getfield 13, 3) := by decide +kernel
theorem dX0_codeAt_20 : decode cX0_codeAt 20 = .ok (.iload_n 1, 1) := by decide +kernel
theorem dX0_codeAt_21 : decode cX0_codeAt 21 = .ok (.baload, 1) := by decide +kernel
theorem dX0_codeAt_22 : decode cX0_codeAt 22 = .ok (.imul, 1) := by decide +kernel
theorem dX0_codeAt_23 : decode cX0_codeAt 23 = .ok (.iadd, 1) := by decide +kernel
theorem dX0_codeAt_24 : decode cX0_codeAt 24 = .ok (.goto 4, 3) := by decide +kernel
theorem dX0_codeAt_27 : decode cX0_codeAt 27 = .ok (.iconst (-1), 1) := by decide +kernel
theorem dX0_codeAt_28 : decode cX0_codeAt 28 = .ok (.ireturn, 1) := by decide +kernel
abbrev cX0_inside : ByteArray := prog_1_method_4_code
def yX0_inside : MethodName := ⟨RX0, "inside", "(I)Z"⟩
theorem dX0_inside_0 : decode cX0_inside 0 = .ok (.iload_n 1, 1) := by decide +kernel
theorem dX0_inside_1 : decode cX0_inside 1 = .ok (.ifCond .lt 15, 3) := by decide +kernel
theorem dX0_inside_4 : decode cX0_inside 4 = .ok (.iload_n 1, 1) := by decide +kernel
theorem dX0_inside_5 : decode cX0_inside 5 = .ok (.aload_n 0, 1) := by decide +kernel
theorem dX0_inside_6 : decode cX0_inside 6 = .ok (.getfield 32, 3) := by decide +kernel
theorem dX0_inside_9 : decode cX0_inside 9 = .ok (.if_icmp .ge 7, 3) := by decide +kernel
theorem dX0_inside_12 : decode cX0_inside 12 = .ok (.iconst 1, 1) := by decide +kernel
theorem dX0_inside_13 : decode cX0_inside 13 = .ok (.goto 4, 3) := by decide +kernel
theorem dX0_inside_16 : decode cX0_inside 16 = .ok (.iconst 0, 1) := by decide +kernel
theorem dX0_inside_17 : decode cX0_inside 17 = .ok (.ireturn, 1) := by decide +kernel
abbrev cX0_reset : ByteArray := prog_1_method_6_code
def yX0_reset : MethodName := ⟨RX0, "reset", "()V"⟩
theorem dX0_reset_0 : decode cX0_reset 0 = .ok (.iconst 0, 1) := by decide +kernel
theorem dX0_reset_1 : decode cX0_reset 1 = .ok (.istore_n 1, 1) := by decide +kernel
theorem dX0_reset_2 : decode cX0_reset 2 = .ok (.iload_n 1, 1) := by decide +kernel
theorem dX0_reset_3 : decode cX0_reset 3 = .ok (.iconst 4, 1) := by decide +kernel
theorem dX0_reset_4 : decode cX0_reset 4 = .ok (.if_icmp .ge 16, 3) := by decide +kernel
theorem dX0_reset_7 : decode cX0_reset 7 = .ok (.aload_n 0, 1) := by decide +kernel
theorem dX0_reset_8 : decode cX0_reset 8 = .ok (.getfield 23, 3) := by decide +kernel
theorem dX0_reset_11 : decode cX0_reset 11 = .ok (.iload_n 1, 1) := by decide +kernel
theorem dX0_reset_12 : decode cX0_reset 12 = .ok (.iconst 0, 1) := by decide +kernel
theorem dX0_reset_13 : decode cX0_reset 13 = .ok (.iastore, 1) := by decide +kernel
theorem dX0_reset_14 : decode cX0_reset 14 = .ok (.iinc 1 1, 3) := by decide +kernel
theorem dX0_reset_17 : decode cX0_reset 17 = .ok (.goto (-15), 3) := by decide +kernel
theorem dX0_reset_20 : decode cX0_reset 20 = .ok (.iconst 0, 1) := by decide +kernel
theorem dX0_reset_21 : decode cX0_reset 21 = .ok (.istore_n 1, 1) := by decide +kernel
theorem dX0_reset_22 : decode cX0_reset 22 = .ok (.iload_n 1, 1) := by decide +kernel
theorem dX0_reset_23 : decode cX0_reset 23 = .ok (.bipush 8, 2) := by decide +kernel
theorem dX0_reset_25 : decode cX0_reset 25 = .ok (.if_icmp .ge 16, 3) := by decide +kernel
theorem dX0_reset_28 : decode cX0_reset 28 = .ok (.aload_n 0, 1) := by decide +kernel
theorem dX0_reset_29 : decode cX0_reset 29 = .ok (.getfield 26, 3) := by decide +kernel
theorem dX0_reset_32 : decode cX0_reset 32 = .ok (.iload_n 1, 1) := by decide +kernel
theorem dX0_reset_33 : decode cX0_reset 33 = .ok (.iconst 0, 1) := by decide +kernel
theorem dX0_reset_34 : decode cX0_reset 34 = .ok (.iastore, 1) := by decide +kernel
theorem dX0_reset_35 : decode cX0_reset 35 = .ok (.iinc 1 1, 3) := by decide +kernel
theorem dX0_reset_38 : decode cX0_reset 38 = .ok (.goto (-16), 3) := by decide +kernel
theorem dX0_reset_41 : decode cX0_reset 41 = .ok (.aload_n 0, 1) := by decide +kernel
theorem dX0_reset_42 : decode cX0_reset 42 = .ok (.iconst 0, 1) := by decide +kernel
theorem dX0_reset_43 : decode cX0_reset 43 = .ok (.putfield 40, 3) := by decide +kernel
theorem dX0_reset_46 : decode cX0_reset 46 = .ok (.aload_n 0, 1) := by decide +kernel
theorem dX0_reset_47 : decode cX0_reset 47 = .ok (.iconst 0, 1) := by decide +kernel
theorem dX0_reset_48 : decode cX0_reset 48 = .ok (.putfield 43, 3) := by decide +kernel
theorem dX0_reset_51 : decode cX0_reset 51 = .ok (.aload_n 0, 1) := by decide +kernel
theorem dX0_reset_52 : decode cX0_reset 52 = .ok (.iconst 0, 1) := by decide +kernel
theorem dX0_reset_53 : decode cX0_reset 53 = .ok (.putfield 46, 3) := by decide +kernel
theorem dX0_reset_56 : decode cX0_reset 56 = .ok (.aload_n 0, 1) := by decide +kernel
theorem dX0_reset_57 : decode cX0_reset 57 = .ok (.iconst 0, 1) := by decide +kernel
theorem dX0_reset_58 : decode cX0_reset 58 = .ok (.putfield 50, 3) := by decide +kernel
theorem dX0_reset_61 : decode cX0_reset 61 = .ok (.aload_n 0, 1) := by decide +kernel
theorem dX0_reset_62 : decode cX0_reset 62 = .ok (.iconst 0, 1) := by decide +kernel
theorem dX0_reset_63 : decode cX0_reset 63 = .ok (.putfield 53, 3) := by decide +kernel
theorem dX0_reset_66 : decode cX0_reset 66 = .ok (.return_, 1) := by decide +kernel
abbrev cX0_breakAt : ByteArray := prog_1_method_7_code
def yX0_breakAt : MethodName := ⟨RX0, "breakAt", "(IZ)Z"⟩
theorem dX0_breakAt_0 : decode cX0_breakAt 0 = .ok (.iload_n 1, 1) := by decide +kernel
theorem dX0_breakAt_1 : decode cX0_breakAt 1 = .ok (.ifCond .lt 9, 3) := by decide +kernel
theorem dX0_breakAt_4 : decode cX0_breakAt 4 = .ok (.iload_n 1, 1) := by decide +kernel
theorem dX0_breakAt_5 : decode cX0_breakAt 5 = .ok (.bipush 20, 2) := by decide +kernel
theorem dX0_breakAt_7 : decode cX0_breakAt 7 = .ok (.if_icmp .lt 5, 3) := by decide +kernel
theorem dX0_breakAt_10 : decode cX0_breakAt 10 = .ok (.iconst 0, 1) := by decide +kernel
theorem dX0_breakAt_11 : decode cX0_breakAt 11 = .ok (.ireturn, 1) := by decide +kernel
theorem dX0_breakAt_12 : decode cX0_breakAt 12 = .ok (.aload_n 0, 1) := by decide +kernel
theorem dX0_breakAt_13 : decode cX0_breakAt 13 = .ok (.iload_n 2, 1) := by decide +kernel
theorem dX0_breakAt_14 : decode cX0_breakAt 14 = .ok (.ifCond .eq 14, 3) := by decide +kernel
theorem dX0_breakAt_17 : decode cX0_breakAt 17 = .ok (.aload_n 0, 1) := by decide +kernel
theorem dX0_breakAt_18 : decode cX0_breakAt 18 = .ok (.getfield 56, 3) := by decide +kernel
theorem dX0_breakAt_21 : decode cX0_breakAt 21 = .ok (.iconst 1, 1) := by decide +kernel
theorem dX0_breakAt_22 : decode cX0_breakAt 22 = .ok (.iload_n 1, 1) := by decide +kernel
theorem dX0_breakAt_23 : decode cX0_breakAt 23 = .ok (.ishl, 1) := by decide +kernel
theorem dX0_breakAt_24 : decode cX0_breakAt 24 = .ok (.ior, 1) := by decide +kernel
theorem dX0_breakAt_25 : decode cX0_breakAt 25 = .ok (.goto 13, 3) := by decide +kernel
theorem dX0_breakAt_28 : decode cX0_breakAt 28 = .ok (.aload_n 0, 1) := by decide +kernel
theorem dX0_breakAt_29 : decode cX0_breakAt 29 = .ok (.getfield 56, 3) := by decide +kernel
theorem dX0_breakAt_32 : decode cX0_breakAt 32 = .ok (.iconst 1, 1) := by decide +kernel
theorem dX0_breakAt_33 : decode cX0_breakAt 33 = .ok (.iload_n 1, 1) := by decide +kernel
theorem dX0_breakAt_34 : decode cX0_breakAt 34 = .ok (.ishl, 1) := by decide +kernel
theorem dX0_breakAt_35 : decode cX0_breakAt 35 = .ok (.iconst (-1), 1) := by decide +kernel
theorem dX0_breakAt_36 : decode cX0_breakAt 36 = .ok (.ixor, 1) := by decide +kernel
theorem dX0_breakAt_37 : decode cX0_breakAt 37 = .ok (.iand, 1) := by decide +kernel
theorem dX0_breakAt_38 : decode cX0_breakAt 38 = .ok (.putfield 56, 3) := by decide +kernel
theorem dX0_breakAt_41 : decode cX0_breakAt 41 = .ok (.iconst 1, 1) := by decide +kernel
theorem dX0_breakAt_42 : decode cX0_breakAt 42 = .ok (.ireturn, 1) := by decide +kernel
abbrev cX0_breakpoints : ByteArray := prog_1_method_8_code
def yX0_breakpoints : MethodName := ⟨RX0, "breakpoints", "()I"⟩
theorem dX0_breakpoints_0 : decode cX0_breakpoints 0 = .ok (.aload_n 0, 1) := by decide +kernel
theorem dX0_breakpoints_1 : decode cX0_breakpoints 1 = .ok (.getfield 56, 3) := by decide +kernel
theorem dX0_breakpoints_4 : decode cX0_breakpoints 4 = .ok (.ireturn, 1) := by decide +kernel
abbrev cX0_step : ByteArray := prog_1_method_21_code
def yX0_step : MethodName := ⟨RX0, "step", "()I"⟩
theorem dX0_step_0 : decode cX0_step 0 = .ok (.aload_n 0, 1) := by decide +kernel
theorem dX0_step_1 : decode cX0_step 1 = .ok (.iconst 1, 1) := by decide +kernel
theorem dX0_step_2 : decode cX0_step 2 = .ok (.putfield 80, 3) := by decide +kernel
theorem dX0_step_5 : decode cX0_step 5 = .ok (.aload_n 0, 1) := by decide +kernel
theorem dX0_step_6 : decode cX0_step 6 = .ok (.iconst 0, 1) := by decide +kernel
theorem dX0_step_7 : decode cX0_step 7 = .ok (.invokevirtual 109, 3) := by decide +kernel
theorem dX0_step_10 : decode cX0_step 10 = .ok (.ireturn, 1) := by decide +kernel
abbrev cX0_run : ByteArray := prog_1_method_20_code
def yX0_run : MethodName := ⟨RX0, "run", "(I)I"⟩
theorem dX0_run_0 : decode cX0_run 0 = .ok (.aload_n 0, 1) := by decide +kernel
theorem dX0_run_1 : decode cX0_run 1 = .ok (.getfield 53, 3) := by decide +kernel
theorem dX0_run_4 : decode cX0_run 4 = .ok (.iconst 4, 1) := by decide +kernel
theorem dX0_run_5 : decode cX0_run 5 = .ok (.if_icmp .lt 8, 3) := by decide +kernel
theorem dX0_run_8 : decode cX0_run 8 = .ok (.aload_n 0, 1) := by decide +kernel
theorem dX0_run_9 : decode cX0_run 9 = .ok (.getfield 53, 3) := by decide +kernel
theorem dX0_run_12 : decode cX0_run 12 = .ok (.ireturn, 1) := by decide +kernel
theorem dX0_run_13 : decode cX0_run 13 = .ok (.iconst 0, 1) := by decide +kernel
theorem dX0_run_14 : decode cX0_run 14 = .ok (.istore_n 2, 1) := by decide +kernel
theorem dX0_run_15 : decode cX0_run 15 = .ok (.aload_n 0, 1) := by decide +kernel
theorem dX0_run_16 : decode cX0_run 16 = .ok (.iconst 0, 1) := by decide +kernel
theorem dX0_run_17 : decode cX0_run 17 = .ok (.invokevirtual 103, 3) := by decide +kernel
theorem dX0_run_20 : decode cX0_run 20 = .ok (.istore_n 3, 1) := by decide +kernel
theorem dX0_run_21 : decode cX0_run 21 = .ok (.iconst 0, 1) := by decide +kernel
theorem dX0_run_22 : decode cX0_run 22 = .ok (.istore 4, 2) := by decide +kernel
theorem dX0_run_24 : decode cX0_run 24 = .ok (.iload 4, 2) := by decide +kernel
theorem dX0_run_26 : decode cX0_run 26 = .ok (.sipush 150, 3) := by decide +kernel
theorem dX0_run_29 : decode cX0_run 29 = .ok (.if_icmp .gt 62, 3) := by decide +kernel
theorem dX0_run_32 : decode cX0_run 32 = .ok (.iload_n 3, 1) := by decide +kernel
theorem dX0_run_33 : decode cX0_run 33 = .ok (.ifCond .ne 58, 3) := by decide +kernel
theorem dX0_run_36 : decode cX0_run 36 = .ok (.iload_n 2, 1) := by decide +kernel
theorem dX0_run_37 : decode cX0_run 37 = .ok (.aload_n 0, 1) := by decide +kernel
theorem dX0_run_38 : decode cX0_run 38 = .ok (.invokevirtual 106, 3) := by decide +kernel
theorem dX0_run_41 : decode cX0_run 41 = .ok (.iadd, 1) := by decide +kernel
theorem dX0_run_42 : decode cX0_run 42 = .ok (.istore_n 2, 1) := by decide +kernel
theorem dX0_run_43 : decode cX0_run 43 = .ok (.aload_n 0, 1) := by decide +kernel
theorem dX0_run_44 : decode cX0_run 44 = .ok (.iload_n 2, 1) := by decide +kernel
theorem dX0_run_45 : decode cX0_run 45 = .ok (.invokevirtual 103, 3) := by decide +kernel
theorem dX0_run_48 : decode cX0_run 48 = .ok (.istore_n 3, 1) := by decide +kernel
theorem dX0_run_49 : decode cX0_run 49 = .ok (.iload_n 3, 1) := by decide +kernel
theorem dX0_run_50 : decode cX0_run 50 = .ok (.ifCond .ne 35, 3) := by decide +kernel
theorem dX0_run_53 : decode cX0_run 53 = .ok (.aload_n 0, 1) := by decide +kernel
theorem dX0_run_54 : decode cX0_run 54 = .ok (.aload_n 0, 1) := by decide +kernel
theorem dX0_run_55 : decode cX0_run 55 = .ok (.getfield 56, 3) := by decide +kernel
theorem dX0_run_58 : decode cX0_run 58 = .ok (.iload_n 1, 1) := by decide +kernel
theorem dX0_run_59 : decode cX0_run 59 = .ok (.ior, 1) := by decide +kernel
theorem dX0_run_60 : decode cX0_run 60 = .ok (.invokevirtual 96, 3) := by decide +kernel
theorem dX0_run_63 : decode cX0_run 63 = .ok (.iload_n 2, 1) := by decide +kernel
theorem dX0_run_64 : decode cX0_run 64 = .ok (.aload_n 0, 1) := by decide +kernel
theorem dX0_run_65 : decode cX0_run 65 = .ok (.sipush 150, 3) := by decide +kernel
theorem dX0_run_68 : decode cX0_run 68 = .ok (.iload_n 2, 1) := by decide +kernel
theorem dX0_run_69 : decode cX0_run 69 = .ok (.isub, 1) := by decide +kernel
theorem dX0_run_70 : decode cX0_run 70 = .ok (.invokevirtual 93, 3) := by decide +kernel
theorem dX0_run_73 : decode cX0_run 73 = .ok (.iadd, 1) := by decide +kernel
theorem dX0_run_74 : decode cX0_run 74 = .ok (.istore_n 2, 1) := by decide +kernel
theorem dX0_run_75 : decode cX0_run 75 = .ok (.aload_n 0, 1) := by decide +kernel
theorem dX0_run_76 : decode cX0_run 76 = .ok (.invokevirtual 100, 3) := by decide +kernel
theorem dX0_run_79 : decode cX0_run 79 = .ok (.aload_n 0, 1) := by decide +kernel
theorem dX0_run_80 : decode cX0_run 80 = .ok (.iload_n 2, 1) := by decide +kernel
theorem dX0_run_81 : decode cX0_run 81 = .ok (.invokevirtual 103, 3) := by decide +kernel
theorem dX0_run_84 : decode cX0_run 84 = .ok (.istore_n 3, 1) := by decide +kernel
theorem dX0_run_85 : decode cX0_run 85 = .ok (.iinc 4 1, 3) := by decide +kernel
theorem dX0_run_88 : decode cX0_run 88 = .ok (.goto (-64), 3) := by decide +kernel
theorem dX0_run_91 : decode cX0_run 91 = .ok (.aload_n 0, 1) := by decide +kernel
theorem dX0_run_92 : decode cX0_run 92 = .ok (.iload_n 3, 1) := by decide +kernel
theorem dX0_run_93 : decode cX0_run 93 = .ok (.putfield 53, 3) := by decide +kernel
theorem dX0_run_96 : decode cX0_run 96 = .ok (.iload_n 3, 1) := by decide +kernel
theorem dX0_run_97 : decode cX0_run 97 = .ok (.ireturn, 1) := by decide +kernel
abbrev cX0_judge : ByteArray := prog_1_method_17_code
def yX0_judge : MethodName := ⟨RX0, "judge", "(I)I"⟩
theorem dX0_judge_0 : decode cX0_judge 0 = .ok (.aload_n 0, 1) := by decide +kernel
theorem dX0_judge_1 : decode cX0_judge 1 = .ok (.getfield 46, 3) := by decide +kernel
theorem dX0_judge_4 : decode cX0_judge 4 = .ok (.ifCond .eq 6, 3) := by decide +kernel
theorem dX0_judge_7 : decode cX0_judge 7 = .ok (.bipush 6, 2) := by decide +kernel
theorem dX0_judge_9 : decode cX0_judge 9 = .ok (.ireturn, 1) := by decide +kernel
theorem dX0_judge_10 : decode cX0_judge 10 = .ok (.aload_n 0, 1) := by decide +kernel
theorem dX0_judge_11 : decode cX0_judge 11 = .ok (.aload_n 0, 1) := by decide +kernel
theorem dX0_judge_12 : decode cX0_judge 12 = .ok (.getfield 43, 3) := by decide +kernel
theorem dX0_judge_15 : decode cX0_judge 15 = .ok (.invokevirtual 36, 3) := by decide +kernel
theorem dX0_judge_18 : decode cX0_judge 18 = .ok (.ifCond .ne 5, 3) := by decide +kernel
theorem dX0_judge_21 : decode cX0_judge 21 = .ok (.iconst 4, 1) := by decide +kernel
theorem dX0_judge_22 : decode cX0_judge 22 = .ok (.ireturn, 1) := by decide +kernel
theorem dX0_judge_23 : decode cX0_judge 23 = .ok (.aload_n 0, 1) := by decide +kernel
theorem dX0_judge_24 : decode cX0_judge 24 = .ok (.invokevirtual 66, 3) := by decide +kernel
theorem dX0_judge_27 : decode cX0_judge 27 = .ok (.ifCond .eq 5, 3) := by decide +kernel
theorem dX0_judge_30 : decode cX0_judge 30 = .ok (.iconst 5, 1) := by decide +kernel
theorem dX0_judge_31 : decode cX0_judge 31 = .ok (.ireturn, 1) := by decide +kernel
theorem dX0_judge_32 : decode cX0_judge 32 = .ok (.iload_n 1, 1) := by decide +kernel
theorem dX0_judge_33 : decode cX0_judge 33 = .ok (.ifCond .le 12, 3) := by decide +kernel
theorem dX0_judge_36 : decode cX0_judge 36 = .ok (.aload_n 0, 1) := by decide +kernel
theorem dX0_judge_37 : decode cX0_judge 37 = .ok (.invokevirtual 77, 3) := by decide +kernel
theorem dX0_judge_40 : decode cX0_judge 40 = .ok (.ifCond .eq 5, 3) := by decide +kernel
theorem dX0_judge_43 : decode cX0_judge 43 = .ok (.iconst 1, 1) := by decide +kernel
theorem dX0_judge_44 : decode cX0_judge 44 = .ok (.ireturn, 1) := by decide +kernel
theorem dX0_judge_45 : decode cX0_judge 45 = .ok (.iload_n 1, 1) := by decide +kernel
theorem dX0_judge_46 : decode cX0_judge 46 = .ok (.ifCond .le 19, 3) := by decide +kernel
theorem dX0_judge_49 : decode cX0_judge 49 = .ok (.aload_n 0, 1) := by decide +kernel
theorem dX0_judge_50 : decode cX0_judge 50 = .ok (.getfield 56, 3) := by decide +kernel
theorem dX0_judge_53 : decode cX0_judge 53 = .ok (.aload_n 0, 1) := by decide +kernel
theorem dX0_judge_54 : decode cX0_judge 54 = .ok (.getfield 43, 3) := by decide +kernel
theorem dX0_judge_57 : decode cX0_judge 57 = .ok (.ishr, 1) := by decide +kernel
theorem dX0_judge_58 : decode cX0_judge 58 = .ok (.iconst 1, 1) := by decide +kernel
theorem dX0_judge_59 : decode cX0_judge 59 = .ok (.iand, 1) := by decide +kernel
theorem dX0_judge_60 : decode cX0_judge 60 = .ok (.ifCond .eq 5, 3) := by decide +kernel
theorem dX0_judge_63 : decode cX0_judge 63 = .ok (.iconst 2, 1) := by decide +kernel
theorem dX0_judge_64 : decode cX0_judge 64 = .ok (.ireturn, 1) := by decide +kernel
theorem dX0_judge_65 : decode cX0_judge 65 = .ok (.iload_n 1, 1) := by decide +kernel
theorem dX0_judge_66 : decode cX0_judge 66 = .ok (.sipush 150, 3) := by decide +kernel
theorem dX0_judge_69 : decode cX0_judge 69 = .ok (.if_icmp .lt 7, 3) := by decide +kernel
theorem dX0_judge_72 : decode cX0_judge 72 = .ok (.iconst 3, 1) := by decide +kernel
theorem dX0_judge_73 : decode cX0_judge 73 = .ok (.goto 4, 3) := by decide +kernel
theorem dX0_judge_76 : decode cX0_judge 76 = .ok (.iconst 0, 1) := by decide +kernel
theorem dX0_judge_77 : decode cX0_judge 77 = .ok (.ireturn, 1) := by decide +kernel
abbrev cX0_stuck : ByteArray := prog_1_method_14_code
def yX0_stuck : MethodName := ⟨RX0, "stuck", "()Z"⟩
theorem dX0_stuck_0 : decode cX0_stuck 0 = .ok (.aload_n 0, 1) := by decide +kernel
theorem dX0_stuck_1 : decode cX0_stuck 1 = .ok (.getfield 7, 3) := by decide +kernel
theorem dX0_stuck_4 : decode cX0_stuck 4 = .ok (.aload_n 0, 1) := by decide +kernel
theorem dX0_stuck_5 : decode cX0_stuck 5 = .ok (.getfield 43, 3) := by decide +kernel
theorem dX0_stuck_8 : decode cX0_stuck 8 = .ok (.baload, 1) := by decide +kernel
theorem dX0_stuck_9 : decode cX0_stuck 9 = .ok (.bipush 7, 2) := by decide +kernel
theorem dX0_stuck_11 : decode cX0_stuck 11 = .ok (.if_icmp .ne 12, 3) := by decide +kernel
theorem dX0_stuck_14 : decode cX0_stuck 14 = .ok (.aload_n 0, 1) := by decide +kernel
theorem dX0_stuck_15 : decode cX0_stuck 15 = .ok (.getfield 40, 3) := by decide +kernel
theorem dX0_stuck_18 : decode cX0_stuck 18 = .ok (.bipush 6, 2) := by decide +kernel
theorem dX0_stuck_20 : decode cX0_stuck 20 = .ok (.if_icmp .ge 24, 3) := by decide +kernel
theorem dX0_stuck_23 : decode cX0_stuck 23 = .ok (.aload_n 0, 1) := by decide +kernel
theorem dX0_stuck_24 : decode cX0_stuck 24 = .ok (.getfield 7, 3) := by decide +kernel
theorem dX0_stuck_27 : decode cX0_stuck 27 = .ok (.aload_n 0, 1) := by decide +kernel
theorem dX0_stuck_28 : decode cX0_stuck 28 = .ok (.getfield 43, 3) := by decide +kernel
theorem dX0_stuck_31 : decode cX0_stuck 31 = .ok (.baload, 1) := by decide +kernel
theorem dX0_stuck_32 : decode cX0_stuck 32 = .ok (.bipush 8, 2) := by decide +kernel
theorem dX0_stuck_34 : decode cX0_stuck 34 = .ok (.if_icmp .ne 14, 3) := by decide +kernel
theorem dX0_stuck_37 : decode cX0_stuck 37 = .ok (.aload_n 0, 1) := by decide +kernel
theorem dX0_stuck_38 : decode cX0_stuck 38 = .ok (.getfield 40, 3) := by decide +kernel
theorem dX0_stuck_41 : decode cX0_stuck 41 = .ok (.ifCond .ne 7, 3) := by decide +kernel
theorem dX0_stuck_44 : decode cX0_stuck 44 = .ok (.iconst 1, 1) := by decide +kernel
theorem dX0_stuck_45 : decode cX0_stuck 45 = .ok (.goto 4, 3) := by decide +kernel
theorem dX0_stuck_48 : decode cX0_stuck 48 = .ok (.iconst 0, 1) := by decide +kernel
theorem dX0_stuck_49 : decode cX0_stuck 49 = .ok (.ireturn, 1) := by decide +kernel
abbrev cX0_aimReached : ByteArray := prog_1_method_18_code
def yX0_aimReached : MethodName := ⟨RX0, "aimReached", "()Z"⟩
theorem dX0_aimReached_0 : decode cX0_aimReached 0 = .ok (.aload_n 0, 1) := by decide +kernel
theorem dX0_aimReached_1 : decode cX0_aimReached 1 = .ok (.getfield 80, 3) := by decide +kernel
theorem dX0_aimReached_4 : decode cX0_aimReached 4 = .ok (.iconst 1, 1) := by decide +kernel
theorem dX0_aimReached_5 : decode cX0_aimReached 5 = .ok (.if_icmp .ne 5, 3) := by decide +kernel
theorem dX0_aimReached_8 : decode cX0_aimReached 8 = .ok (.iconst 1, 1) := by decide +kernel
theorem dX0_aimReached_9 : decode cX0_aimReached 9 = .ok (.ireturn, 1) := by decide +kernel
theorem dX0_aimReached_10 : decode cX0_aimReached 10 = .ok (.aload_n 0, 1) := by decide +kernel
theorem dX0_aimReached_11 : decode cX0_aimReached 11 = .ok (.getfield 80, 3) := by decide +kernel
theorem dX0_aimReached_14 : decode cX0_aimReached 14 = .ok (.iconst 4, 1) := by decide +kernel
theorem dX0_aimReached_15 : decode cX0_aimReached 15 = .ok (.if_icmp .ne 20, 3) := by decide +kernel
theorem dX0_aimReached_18 : decode cX0_aimReached 18 = .ok (.aload_n 0, 1) := by decide +kernel
theorem dX0_aimReached_19 : decode cX0_aimReached 19 = .ok (.getfield 40, 3) := by decide +kernel
theorem dX0_aimReached_22 : decode cX0_aimReached 22 = .ok (.aload_n 0, 1) := by decide +kernel
theorem dX0_aimReached_23 : decode cX0_aimReached 23 = .ok (.getfield 83, 3) := by decide +kernel
theorem dX0_aimReached_26 : decode cX0_aimReached 26 = .ok (.if_icmp .ge 7, 3) := by decide +kernel
theorem dX0_aimReached_29 : decode cX0_aimReached 29 = .ok (.iconst 1, 1) := by decide +kernel
theorem dX0_aimReached_30 : decode cX0_aimReached 30 = .ok (.goto 4, 3) := by decide +kernel
theorem dX0_aimReached_33 : decode cX0_aimReached 33 = .ok (.iconst 0, 1) := by decide +kernel
theorem dX0_aimReached_34 : decode cX0_aimReached 34 = .ok (.ireturn, 1) := by decide +kernel
theorem dX0_aimReached_35 : decode cX0_aimReached 35 = .ok (.aload_n 0, 1) := by decide +kernel
theorem dX0_aimReached_36 : decode cX0_aimReached 36 = .ok (.getfield 80, 3) := by decide +kernel
theorem dX0_aimReached_39 : decode cX0_aimReached 39 = .ok (.iconst 3, 1) := by decide +kernel
theorem dX0_aimReached_40 : decode cX0_aimReached 40 = .ok (.if_icmp .ne 31, 3) := by decide +kernel
theorem dX0_aimReached_43 : decode cX0_aimReached 43 = .ok (.aload_n 0, 1) := by decide +kernel
theorem dX0_aimReached_44 : decode cX0_aimReached 44 = .ok (.getfield 43, 3) := by decide +kernel
theorem dX0_aimReached_47 : decode cX0_aimReached 47 = .ok (.aload_n 0, 1) := by decide +kernel
theorem dX0_aimReached_48 : decode cX0_aimReached 48 = .ok (.getfield 86, 3) := by decide +kernel
theorem dX0_aimReached_51 : decode cX0_aimReached 51 = .ok (.if_icmp .ne 18, 3) := by decide +kernel
theorem dX0_aimReached_54 : decode cX0_aimReached 54 = .ok (.aload_n 0, 1) := by decide +kernel
theorem dX0_aimReached_55 : decode cX0_aimReached 55 = .ok (.getfield 40, 3) := by decide +kernel
theorem dX0_aimReached_58 : decode cX0_aimReached 58 = .ok (.aload_n 0, 1) := by decide +kernel
theorem dX0_aimReached_59 : decode cX0_aimReached 59 = .ok (.getfield 83, 3) := by decide +kernel
theorem dX0_aimReached_62 : decode cX0_aimReached 62 = .ok (.if_icmp .ne 7, 3) := by decide +kernel
theorem dX0_aimReached_65 : decode cX0_aimReached 65 = .ok (.iconst 1, 1) := by decide +kernel
theorem dX0_aimReached_66 : decode cX0_aimReached 66 = .ok (.goto 4, 3) := by decide +kernel
theorem dX0_aimReached_69 : decode cX0_aimReached 69 = .ok (.iconst 0, 1) := by decide +kernel
theorem dX0_aimReached_70 : decode cX0_aimReached 70 = .ok (.ireturn, 1) := by decide +kernel
theorem dX0_aimReached_71 : decode cX0_aimReached 71 = .ok (.aload_n 0, 1) := by decide +kernel
theorem dX0_aimReached_72 : decode cX0_aimReached 72 = .ok (.getfield 80, 3) := by decide +kernel
theorem dX0_aimReached_75 : decode cX0_aimReached 75 = .ok (.iconst 2, 1) := by decide +kernel
theorem dX0_aimReached_76 : decode cX0_aimReached 76 = .ok (.if_icmp .ne 18, 3) := by decide +kernel
theorem dX0_aimReached_79 : decode cX0_aimReached 79 = .ok (.aload_n 0, 1) := by decide +kernel
theorem dX0_aimReached_80 : decode cX0_aimReached 80 = .ok (.getfield 43, 3) := by decide +kernel
theorem dX0_aimReached_83 : decode cX0_aimReached 83 = .ok (.aload_n 0, 1) := by decide +kernel
theorem dX0_aimReached_84 : decode cX0_aimReached 84 = .ok (.getfield 86, 3) := by decide +kernel
theorem dX0_aimReached_87 : decode cX0_aimReached 87 = .ok (.if_icmp .ne 7, 3) := by decide +kernel
theorem dX0_aimReached_90 : decode cX0_aimReached 90 = .ok (.iconst 1, 1) := by decide +kernel
theorem dX0_aimReached_91 : decode cX0_aimReached 91 = .ok (.goto 4, 3) := by decide +kernel
theorem dX0_aimReached_94 : decode cX0_aimReached 94 = .ok (.iconst 0, 1) := by decide +kernel
theorem dX0_aimReached_95 : decode cX0_aimReached 95 = .ok (.ireturn, 1) := by decide +kernel
abbrev cX0_stepOff : ByteArray := prog_1_method_19_code
def yX0_stepOff : MethodName := ⟨RX0, "stepOff", "()I"⟩
theorem dX0_stepOff_0 : decode cX0_stepOff 0 = .ok (.aload_n 0, 1) := by decide +kernel
theorem dX0_stepOff_1 : decode cX0_stepOff 1 = .ok (.invokevirtual 89, 3) := by decide +kernel
theorem dX0_stepOff_4 : decode cX0_stepOff 4 = .ok (.istore_n 1, 1) := by decide +kernel
theorem dX0_stepOff_5 : decode cX0_stepOff 5 = .ok (.iload_n 1, 1) := by decide +kernel
theorem dX0_stepOff_6 : decode cX0_stepOff 6 = .ok (.aload_n 0, 1) := by decide +kernel
theorem dX0_stepOff_7 : decode cX0_stepOff 7 = .ok (.getfield 43, 3) := by decide +kernel
theorem dX0_stepOff_10 : decode cX0_stepOff 10 = .ok (.ishr, 1) := by decide +kernel
theorem dX0_stepOff_11 : decode cX0_stepOff 11 = .ok (.iconst 1, 1) := by decide +kernel
theorem dX0_stepOff_12 : decode cX0_stepOff 12 = .ok (.iand, 1) := by decide +kernel
theorem dX0_stepOff_13 : decode cX0_stepOff 13 = .ok (.ifCond .eq 9, 3) := by decide +kernel
theorem dX0_stepOff_16 : decode cX0_stepOff 16 = .ok (.aload_n 0, 1) := by decide +kernel
theorem dX0_stepOff_17 : decode cX0_stepOff 17 = .ok (.iconst 1, 1) := by decide +kernel
theorem dX0_stepOff_18 : decode cX0_stepOff 18 = .ok (.invokevirtual 93, 3) := by decide +kernel
theorem dX0_stepOff_21 : decode cX0_stepOff 21 = .ok (.ireturn, 1) := by decide +kernel
theorem dX0_stepOff_22 : decode cX0_stepOff 22 = .ok (.aload_n 0, 1) := by decide +kernel
theorem dX0_stepOff_23 : decode cX0_stepOff 23 = .ok (.iload_n 1, 1) := by decide +kernel
theorem dX0_stepOff_24 : decode cX0_stepOff 24 = .ok (.invokevirtual 96, 3) := by decide +kernel
theorem dX0_stepOff_27 : decode cX0_stepOff 27 = .ok (.aload_n 0, 1) := by decide +kernel
theorem dX0_stepOff_28 : decode cX0_stepOff 28 = .ok (.iconst 2, 1) := by decide +kernel
theorem dX0_stepOff_29 : decode cX0_stepOff 29 = .ok (.invokevirtual 93, 3) := by decide +kernel
theorem dX0_stepOff_32 : decode cX0_stepOff 32 = .ok (.istore_n 2, 1) := by decide +kernel
theorem dX0_stepOff_33 : decode cX0_stepOff 33 = .ok (.aload_n 0, 1) := by decide +kernel
theorem dX0_stepOff_34 : decode cX0_stepOff 34 = .ok (.invokevirtual 100, 3) := by decide +kernel
theorem dX0_stepOff_37 : decode cX0_stepOff 37 = .ok (.iload_n 2, 1) := by decide +kernel
theorem dX0_stepOff_38 : decode cX0_stepOff 38 = .ok (.ireturn, 1) := by decide +kernel
end
section
set_option maxRecDepth 100000
abbrev cX0_successors : ByteArray := prog_1_method_12_code
def yX0_successors : MethodName := ⟨RX0, "successors", "()I"⟩
theorem dX0_successors_0 : decode cX0_successors 0 = .ok (.aload_n 0, 1) := by decide +kernel
theorem dX0_successors_1 : decode cX0_successors 1 = .ok (.getfield 7, 3) := by decide +kernel
theorem dX0_successors_4 : decode cX0_successors 4 = .ok (.aload_n 0, 1) := by decide +kernel
theorem dX0_successors_5 : decode cX0_successors 5 = .ok (.getfield 43, 3) := by decide +kernel
theorem dX0_successors_8 : decode cX0_successors 8 = .ok (.baload, 1) := by decide +kernel
theorem dX0_successors_9 : decode cX0_successors 9 = .ok (.istore_n 1, 1) := by decide +kernel
theorem dX0_successors_10 : decode cX0_successors 10 = .ok (.aload_n 0, 1) := by decide +kernel
theorem dX0_successors_11 : decode cX0_successors 11 = .ok (.aload_n 0, 1) := by decide +kernel
theorem dX0_successors_12 : decode cX0_successors 12 = .ok (.getfield 43, 3) := by decide +kernel
theorem dX0_successors_15 : decode cX0_successors 15 = .ok (.iconst 1, 1) := by decide +kernel
theorem dX0_successors_16 : decode cX0_successors 16 = .ok (.iadd, 1) := by decide +kernel
theorem dX0_successors_17 : decode cX0_successors 17 = .ok (.invokevirtual 62, 3) := by decide +kernel
theorem dX0_successors_20 : decode cX0_successors 20 = .ok (.istore_n 2, 1) := by decide +kernel
theorem dX0_successors_21 : decode cX0_successors 21 = .ok (.iload_n 1, 1) := by decide +kernel
theorem dX0_successors_22 : decode cX0_successors 22 = .ok (.iconst 5, 1) := by decide +kernel
theorem dX0_successors_23 : decode cX0_successors 23 = .ok (.if_icmp .ne 19, 3) := by decide +kernel
theorem dX0_successors_26 : decode cX0_successors 26 = .ok (.iload_n 2, 1) := by decide +kernel
theorem dX0_successors_27 : decode cX0_successors 27 = .ok (.aload_n 0, 1) := by decide +kernel
theorem dX0_successors_28 : decode cX0_successors 28 = .ok (.aload_n 0, 1) := by decide +kernel
theorem dX0_successors_29 : decode cX0_successors 29 = .ok (.getfield 16, 3) := by decide +kernel
theorem dX0_successors_32 : decode cX0_successors 32 = .ok (.aload_n 0, 1) := by decide +kernel
theorem dX0_successors_33 : decode cX0_successors 33 = .ok (.getfield 43, 3) := by decide +kernel
theorem dX0_successors_36 : decode cX0_successors 36 = .ok (.iaload, 1) := by decide +kernel
theorem dX0_successors_37 : decode cX0_successors 37 = .ok (.invokevirtual 62, 3) := by decide +kernel
theorem dX0_successors_40 : decode cX0_successors 40 = .ok (.ior, 1) := by decide +kernel
theorem dX0_successors_41 : decode cX0_successors 41 = .ok (.ireturn, 1) := by decide +kernel
theorem dX0_successors_42 : decode cX0_successors 42 = .ok (.iload_n 1, 1) := by decide +kernel
theorem dX0_successors_43 : decode cX0_successors 43 = .ok (.bipush 6, 2) := by decide +kernel
theorem dX0_successors_45 : decode cX0_successors 45 = .ok (.if_icmp .eq 9, 3) := by decide +kernel
theorem dX0_successors_48 : decode cX0_successors 48 = .ok (.iload_n 1, 1) := by decide +kernel
theorem dX0_successors_49 : decode cX0_successors 49 = .ok (.bipush 7, 2) := by decide +kernel
theorem dX0_successors_51 : decode cX0_successors 51 = .ok (.if_icmp .ne 17, 3) := by decide +kernel
theorem dX0_successors_54 : decode cX0_successors 54 = .ok (.aload_n 0, 1) := by decide +kernel
theorem dX0_successors_55 : decode cX0_successors 55 = .ok (.aload_n 0, 1) := by decide +kernel
theorem dX0_successors_56 : decode cX0_successors 56 = .ok (.getfield 16, 3) := by decide +kernel
theorem dX0_successors_59 : decode cX0_successors 59 = .ok (.aload_n 0, 1) := by decide +kernel
theorem dX0_successors_60 : decode cX0_successors 60 = .ok (.getfield 43, 3) := by decide +kernel
theorem dX0_successors_63 : decode cX0_successors 63 = .ok (.iaload, 1) := by decide +kernel
theorem dX0_successors_64 : decode cX0_successors 64 = .ok (.invokevirtual 62, 3) := by decide +kernel
theorem dX0_successors_67 : decode cX0_successors 67 = .ok (.ireturn, 1) := by decide +kernel
theorem dX0_successors_68 : decode cX0_successors 68 = .ok (.iload_n 1, 1) := by decide +kernel
theorem dX0_successors_69 : decode cX0_successors 69 = .ok (.bipush 8, 2) := by decide +kernel
theorem dX0_successors_71 : decode cX0_successors 71 = .ok (.if_icmp .ne 30, 3) := by decide +kernel
theorem dX0_successors_74 : decode cX0_successors 74 = .ok (.aload_n 0, 1) := by decide +kernel
theorem dX0_successors_75 : decode cX0_successors 75 = .ok (.getfield 40, 3) := by decide +kernel
theorem dX0_successors_78 : decode cX0_successors 78 = .ok (.ifCond .le 21, 3) := by decide +kernel
theorem dX0_successors_81 : decode cX0_successors 81 = .ok (.aload_n 0, 1) := by decide +kernel
theorem dX0_successors_82 : decode cX0_successors 82 = .ok (.aload_n 0, 1) := by decide +kernel
theorem dX0_successors_83 : decode cX0_successors 83 = .ok (.getfield 29, 3) := by decide +kernel
theorem dX0_successors_86 : decode cX0_successors 86 = .ok (.aload_n 0, 1) := by decide +kernel
theorem dX0_successors_87 : decode cX0_successors 87 = .ok (.getfield 40, 3) := by decide +kernel
theorem dX0_successors_90 : decode cX0_successors 90 = .ok (.iconst 1, 1) := by decide +kernel
theorem dX0_successors_91 : decode cX0_successors 91 = .ok (.isub, 1) := by decide +kernel
theorem dX0_successors_92 : decode cX0_successors 92 = .ok (.iaload, 1) := by decide +kernel
theorem dX0_successors_93 : decode cX0_successors 93 = .ok (.invokevirtual 62, 3) := by decide +kernel
theorem dX0_successors_96 : decode cX0_successors 96 = .ok (.goto 4, 3) := by decide +kernel
theorem dX0_successors_99 : decode cX0_successors 99 = .ok (.iconst 0, 1) := by decide +kernel
theorem dX0_successors_100 : decode cX0_successors 100 = .ok (.ireturn, 1) := by decide +kernel
theorem dX0_successors_101 : decode cX0_successors 101 = .ok (.iload_n 1, 1) := by decide +kernel
theorem dX0_successors_102 : decode cX0_successors 102 = .ok (.bipush 9, 2) := by decide +kernel
theorem dX0_successors_104 : decode cX0_successors 104 = .ok (.if_icmp .ne 22, 3) := by decide +kernel
theorem dX0_successors_107 : decode cX0_successors 107 = .ok (.aload_n 0, 1) := by decide +kernel
theorem dX0_successors_108 : decode cX0_successors 108 = .ok (.aload_n 0, 1) := by decide +kernel
theorem dX0_successors_109 : decode cX0_successors 109 = .ok (.getfield 23, 3) := by decide +kernel
theorem dX0_successors_112 : decode cX0_successors 112 = .ok (.aload_n 0, 1) := by decide +kernel
theorem dX0_successors_113 : decode cX0_successors 113 = .ok (.getfield 13, 3) := by decide +kernel
theorem dX0_successors_116 : decode cX0_successors 116 = .ok (.aload_n 0, 1) := by decide +kernel
theorem dX0_successors_117 : decode cX0_successors 117 = .ok (.getfield 43, 3) := by decide +kernel
theorem dX0_successors_120 : decode cX0_successors 120 = .ok (.baload, 1) := by decide +kernel
theorem dX0_successors_121 : decode cX0_successors 121 = .ok (.iaload, 1) := by decide +kernel
theorem dX0_successors_122 : decode cX0_successors 122 = .ok (.invokevirtual 62, 3) := by decide +kernel
theorem dX0_successors_125 : decode cX0_successors 125 = .ok (.ireturn, 1) := by decide +kernel
theorem dX0_successors_126 : decode cX0_successors 126 = .ok (.iload_n 1, 1) := by decide +kernel
theorem dX0_successors_127 : decode cX0_successors 127 = .ok (.bipush 10, 2) := by decide +kernel
theorem dX0_successors_129 : decode cX0_successors 129 = .ok (.if_icmp .ne 7, 3) := by decide +kernel
theorem dX0_successors_132 : decode cX0_successors 132 = .ok (.iconst 0, 1) := by decide +kernel
theorem dX0_successors_133 : decode cX0_successors 133 = .ok (.goto 4, 3) := by decide +kernel
theorem dX0_successors_136 : decode cX0_successors 136 = .ok (.iload_n 2, 1) := by decide +kernel
theorem dX0_successors_137 : decode cX0_successors 137 = .ok (.ireturn, 1) := by decide +kernel
abbrev cX0_bit : ByteArray := prog_1_method_11_code
def yX0_bit : MethodName := ⟨RX0, "bit", "(I)I"⟩
theorem dX0_bit_0 : decode cX0_bit 0 = .ok (.aload_n 0, 1) := by decide +kernel
theorem dX0_bit_1 : decode cX0_bit 1 = .ok (.iload_n 1, 1) := by decide +kernel
theorem dX0_bit_2 : decode cX0_bit 2 = .ok (.invokevirtual 36, 3) := by decide +kernel
theorem dX0_bit_5 : decode cX0_bit 5 = .ok (.ifCond .eq 9, 3) := by decide +kernel
theorem dX0_bit_8 : decode cX0_bit 8 = .ok (.iconst 1, 1) := by decide +kernel
theorem dX0_bit_9 : decode cX0_bit 9 = .ok (.iload_n 1, 1) := by decide +kernel
theorem dX0_bit_10 : decode cX0_bit 10 = .ok (.ishl, 1) := by decide +kernel
theorem dX0_bit_11 : decode cX0_bit 11 = .ok (.goto 4, 3) := by decide +kernel
theorem dX0_bit_14 : decode cX0_bit 14 = .ok (.iconst 0, 1) := by decide +kernel
theorem dX0_bit_15 : decode cX0_bit 15 = .ok (.ireturn, 1) := by decide +kernel
abbrev cX0_resume : ByteArray := prog_1_method_13_code
def yX0_resume : MethodName := ⟨RX0, "resume", "(I)I"⟩
theorem dX0_resume_0 : decode cX0_resume 0 = .ok (.iconst 0, 1) := by decide +kernel
theorem dX0_resume_1 : decode cX0_resume 1 = .ok (.istore_n 2, 1) := by decide +kernel
theorem dX0_resume_2 : decode cX0_resume 2 = .ok (.iconst 0, 1) := by decide +kernel
theorem dX0_resume_3 : decode cX0_resume 3 = .ok (.istore_n 3, 1) := by decide +kernel
theorem dX0_resume_4 : decode cX0_resume 4 = .ok (.iload_n 3, 1) := by decide +kernel
theorem dX0_resume_5 : decode cX0_resume 5 = .ok (.iload_n 1, 1) := by decide +kernel
theorem dX0_resume_6 : decode cX0_resume 6 = .ok (.if_icmp .ge 67, 3) := by decide +kernel
theorem dX0_resume_9 : decode cX0_resume 9 = .ok (.aload_n 0, 1) := by decide +kernel
theorem dX0_resume_10 : decode cX0_resume 10 = .ok (.getfield 46, 3) := by decide +kernel
theorem dX0_resume_13 : decode cX0_resume 13 = .ok (.ifCond .ne 60, 3) := by decide +kernel
theorem dX0_resume_16 : decode cX0_resume 16 = .ok (.aload_n 0, 1) := by decide +kernel
theorem dX0_resume_17 : decode cX0_resume 17 = .ok (.aload_n 0, 1) := by decide +kernel
theorem dX0_resume_18 : decode cX0_resume 18 = .ok (.getfield 43, 3) := by decide +kernel
theorem dX0_resume_21 : decode cX0_resume 21 = .ok (.invokevirtual 36, 3) := by decide +kernel
theorem dX0_resume_24 : decode cX0_resume 24 = .ok (.ifCond .eq 49, 3) := by decide +kernel
theorem dX0_resume_27 : decode cX0_resume 27 = .ok (.aload_n 0, 1) := by decide +kernel
theorem dX0_resume_28 : decode cX0_resume 28 = .ok (.getfield 7, 3) := by decide +kernel
theorem dX0_resume_31 : decode cX0_resume 31 = .ok (.aload_n 0, 1) := by decide +kernel
theorem dX0_resume_32 : decode cX0_resume 32 = .ok (.getfield 43, 3) := by decide +kernel
theorem dX0_resume_35 : decode cX0_resume 35 = .ok (.baload, 1) := by decide +kernel
theorem dX0_resume_36 : decode cX0_resume 36 = .ok (.bipush 11, 2) := by decide +kernel
theorem dX0_resume_38 : decode cX0_resume 38 = .ok (.if_icmp .eq 10, 3) := by decide +kernel
theorem dX0_resume_41 : decode cX0_resume 41 = .ok (.aload_n 0, 1) := by decide +kernel
theorem dX0_resume_42 : decode cX0_resume 42 = .ok (.invokevirtual 66, 3) := by decide +kernel
theorem dX0_resume_45 : decode cX0_resume 45 = .ok (.ifCond .eq 5, 3) := by decide +kernel
theorem dX0_resume_48 : decode cX0_resume 48 = .ok (.iload_n 2, 1) := by decide +kernel
theorem dX0_resume_49 : decode cX0_resume 49 = .ok (.ireturn, 1) := by decide +kernel
theorem dX0_resume_50 : decode cX0_resume 50 = .ok (.aload_n 0, 1) := by decide +kernel
theorem dX0_resume_51 : decode cX0_resume 51 = .ok (.invokevirtual 70, 3) := by decide +kernel
theorem dX0_resume_54 : decode cX0_resume 54 = .ok (.iinc 2 1, 3) := by decide +kernel
theorem dX0_resume_57 : decode cX0_resume 57 = .ok (.aload_n 0, 1) := by decide +kernel
theorem dX0_resume_58 : decode cX0_resume 58 = .ok (.dup, 1) := by decide +kernel
theorem dX0_resume_59 : decode cX0_resume 59 = .ok (.getfield 50, 3) := by decide +kernel
theorem dX0_resume_62 : decode cX0_resume 62 = .ok (.iconst 1, 1) := by decide +kernel
theorem dX0_resume_63 : decode cX0_resume 63 = .ok (.iadd, 1) := by decide +kernel
theorem dX0_resume_64 : decode cX0_resume 64 = .ok (.putfield 50, 3) := by decide +kernel
theorem dX0_resume_67 : decode cX0_resume 67 = .ok (.iinc 3 1, 3) := by decide +kernel
theorem dX0_resume_70 : decode cX0_resume 70 = .ok (.goto (-66), 3) := by decide +kernel
theorem dX0_resume_73 : decode cX0_resume 73 = .ok (.iload_n 2, 1) := by decide +kernel
theorem dX0_resume_74 : decode cX0_resume 74 = .ok (.ireturn, 1) := by decide +kernel
abbrev cX0_carry : ByteArray := prog_1_method_15_code
def yX0_carry : MethodName := ⟨RX0, "carry", "()V"⟩
theorem dX0_carry_0 : decode cX0_carry 0 = .ok (.aload_n 0, 1) := by decide +kernel
theorem dX0_carry_1 : decode cX0_carry 1 = .ok (.getfield 7, 3) := by decide +kernel
theorem dX0_carry_4 : decode cX0_carry 4 = .ok (.aload_n 0, 1) := by decide +kernel
theorem dX0_carry_5 : decode cX0_carry 5 = .ok (.getfield 43, 3) := by decide +kernel
theorem dX0_carry_8 : decode cX0_carry 8 = .ok (.baload, 1) := by decide +kernel
theorem dX0_carry_9 : decode cX0_carry 9 = .ok (.istore_n 1, 1) := by decide +kernel
theorem dX0_carry_10 : decode cX0_carry 10 = .ok (.aload_n 0, 1) := by decide +kernel
theorem dX0_carry_11 : decode cX0_carry 11 = .ok (.getfield 13, 3) := by decide +kernel
theorem dX0_carry_14 : decode cX0_carry 14 = .ok (.aload_n 0, 1) := by decide +kernel
theorem dX0_carry_15 : decode cX0_carry 15 = .ok (.getfield 43, 3) := by decide +kernel
theorem dX0_carry_18 : decode cX0_carry 18 = .ok (.baload, 1) := by decide +kernel
theorem dX0_carry_19 : decode cX0_carry 19 = .ok (.istore_n 2, 1) := by decide +kernel
theorem dX0_carry_20 : decode cX0_carry 20 = .ok (.aload_n 0, 1) := by decide +kernel
theorem dX0_carry_21 : decode cX0_carry 21 = .ok (.getfield 16, 3) := by decide +kernel
theorem dX0_carry_24 : decode cX0_carry 24 = .ok (.aload_n 0, 1) := by decide +kernel
theorem dX0_carry_25 : decode cX0_carry 25 = .ok (.getfield 43, 3) := by decide +kernel
theorem dX0_carry_28 : decode cX0_carry 28 = .ok (.iaload, 1) := by decide +kernel
theorem dX0_carry_29 : decode cX0_carry 29 = .ok (.istore_n 3, 1) := by decide +kernel
theorem dX0_carry_30 : decode cX0_carry 30 = .ok (.iload_n 1, 1) := by decide +kernel
theorem dX0_carry_31 : decode cX0_carry 31 = .ok (.iconst 4, 1) := by decide +kernel
theorem dX0_carry_32 : decode cX0_carry 32 = .ok (.if_icmp .gt 23, 3) := by decide +kernel
theorem dX0_carry_35 : decode cX0_carry 35 = .ok (.aload_n 0, 1) := by decide +kernel
theorem dX0_carry_36 : decode cX0_carry 36 = .ok (.iload_n 1, 1) := by decide +kernel
theorem dX0_carry_37 : decode cX0_carry 37 = .ok (.iload_n 2, 1) := by decide +kernel
theorem dX0_carry_38 : decode cX0_carry 38 = .ok (.iload_n 3, 1) := by decide +kernel
theorem dX0_carry_39 : decode cX0_carry 39 = .ok (.invokevirtual 73, 3) := by decide +kernel
theorem dX0_carry_42 : decode cX0_carry 42 = .ok (.aload_n 0, 1) := by decide +kernel
theorem dX0_carry_43 : decode cX0_carry 43 = .ok (.dup, 1) := by decide +kernel
theorem dX0_carry_44 : decode cX0_carry 44 = .ok (.getfield 43, 3) := by decide +kernel
theorem dX0_carry_47 : decode cX0_carry 47 = .ok (.iconst 1, 1) := by decide +kernel
theorem dX0_carry_48 : decode cX0_carry 48 = .ok (.iadd, 1) := by decide +kernel
theorem dX0_carry_49 : decode cX0_carry 49 = .ok (.putfield 43, 3) := by decide +kernel
theorem dX0_carry_52 : decode cX0_carry 52 = .ok (.goto 143, 3) := by decide +kernel
theorem dX0_carry_55 : decode cX0_carry 55 = .ok (.iload_n 1, 1) := by decide +kernel
theorem dX0_carry_56 : decode cX0_carry 56 = .ok (.iconst 5, 1) := by decide +kernel
theorem dX0_carry_57 : decode cX0_carry 57 = .ok (.if_icmp .ne 29, 3) := by decide +kernel
theorem dX0_carry_60 : decode cX0_carry 60 = .ok (.aload_n 0, 1) := by decide +kernel
theorem dX0_carry_61 : decode cX0_carry 61 = .ok (.aload_n 0, 1) := by decide +kernel
theorem dX0_carry_62 : decode cX0_carry 62 = .ok (.getfield 23, 3) := by decide +kernel
theorem dX0_carry_65 : decode cX0_carry 65 = .ok (.iload_n 2, 1) := by decide +kernel
theorem dX0_carry_66 : decode cX0_carry 66 = .ok (.iaload, 1) := by decide +kernel
theorem dX0_carry_67 : decode cX0_carry 67 = .ok (.ifCond .ne 7, 3) := by decide +kernel
theorem dX0_carry_70 : decode cX0_carry 70 = .ok (.iload_n 3, 1) := by decide +kernel
theorem dX0_carry_71 : decode cX0_carry 71 = .ok (.goto 9, 3) := by decide +kernel
theorem dX0_carry_74 : decode cX0_carry 74 = .ok (.aload_n 0, 1) := by decide +kernel
theorem dX0_carry_75 : decode cX0_carry 75 = .ok (.getfield 43, 3) := by decide +kernel
theorem dX0_carry_78 : decode cX0_carry 78 = .ok (.iconst 1, 1) := by decide +kernel
theorem dX0_carry_79 : decode cX0_carry 79 = .ok (.iadd, 1) := by decide +kernel
theorem dX0_carry_80 : decode cX0_carry 80 = .ok (.putfield 43, 3) := by decide +kernel
theorem dX0_carry_83 : decode cX0_carry 83 = .ok (.goto 112, 3) := by decide +kernel
theorem dX0_carry_86 : decode cX0_carry 86 = .ok (.iload_n 1, 1) := by decide +kernel
theorem dX0_carry_87 : decode cX0_carry 87 = .ok (.bipush 6, 2) := by decide +kernel
theorem dX0_carry_89 : decode cX0_carry 89 = .ok (.if_icmp .ne 11, 3) := by decide +kernel
theorem dX0_carry_92 : decode cX0_carry 92 = .ok (.aload_n 0, 1) := by decide +kernel
theorem dX0_carry_93 : decode cX0_carry 93 = .ok (.iload_n 3, 1) := by decide +kernel
theorem dX0_carry_94 : decode cX0_carry 94 = .ok (.putfield 43, 3) := by decide +kernel
theorem dX0_carry_97 : decode cX0_carry 97 = .ok (.goto 98, 3) := by decide +kernel
theorem dX0_carry_100 : decode cX0_carry 100 = .ok (.iload_n 1, 1) := by decide +kernel
theorem dX0_carry_101 : decode cX0_carry 101 = .ok (.bipush 7, 2) := by decide +kernel
theorem dX0_carry_103 : decode cX0_carry 103 = .ok (.if_icmp .ne 36, 3) := by decide +kernel
theorem dX0_carry_106 : decode cX0_carry 106 = .ok (.aload_n 0, 1) := by decide +kernel
theorem dX0_carry_107 : decode cX0_carry 107 = .ok (.getfield 29, 3) := by decide +kernel
theorem dX0_carry_110 : decode cX0_carry 110 = .ok (.aload_n 0, 1) := by decide +kernel
theorem dX0_carry_111 : decode cX0_carry 111 = .ok (.getfield 40, 3) := by decide +kernel
theorem dX0_carry_114 : decode cX0_carry 114 = .ok (.aload_n 0, 1) := by decide +kernel
theorem dX0_carry_115 : decode cX0_carry 115 = .ok (.getfield 43, 3) := by decide +kernel
theorem dX0_carry_118 : decode cX0_carry 118 = .ok (.iconst 1, 1) := by decide +kernel
theorem dX0_carry_119 : decode cX0_carry 119 = .ok (.iadd, 1) := by decide +kernel
theorem dX0_carry_120 : decode cX0_carry 120 = .ok (.iastore, 1) := by decide +kernel
theorem dX0_carry_121 : decode cX0_carry 121 = .ok (.aload_n 0, 1) := by decide +kernel
theorem dX0_carry_122 : decode cX0_carry 122 = .ok (.dup, 1) := by decide +kernel
theorem dX0_carry_123 : decode cX0_carry 123 = .ok (.getfield 40, 3) := by decide +kernel
theorem dX0_carry_126 : decode cX0_carry 126 = .ok (.iconst 1, 1) := by decide +kernel
theorem dX0_carry_127 : decode cX0_carry 127 = .ok (.iadd, 1) := by decide +kernel
theorem dX0_carry_128 : decode cX0_carry 128 = .ok (.putfield 40, 3) := by decide +kernel
theorem dX0_carry_131 : decode cX0_carry 131 = .ok (.aload_n 0, 1) := by decide +kernel
theorem dX0_carry_132 : decode cX0_carry 132 = .ok (.iload_n 3, 1) := by decide +kernel
theorem dX0_carry_133 : decode cX0_carry 133 = .ok (.putfield 43, 3) := by decide +kernel
theorem dX0_carry_136 : decode cX0_carry 136 = .ok (.goto 59, 3) := by decide +kernel
theorem dX0_carry_139 : decode cX0_carry 139 = .ok (.iload_n 1, 1) := by decide +kernel
theorem dX0_carry_140 : decode cX0_carry 140 = .ok (.bipush 8, 2) := by decide +kernel
theorem dX0_carry_142 : decode cX0_carry 142 = .ok (.if_icmp .ne 29, 3) := by decide +kernel
theorem dX0_carry_145 : decode cX0_carry 145 = .ok (.aload_n 0, 1) := by decide +kernel
theorem dX0_carry_146 : decode cX0_carry 146 = .ok (.dup, 1) := by decide +kernel
theorem dX0_carry_147 : decode cX0_carry 147 = .ok (.getfield 40, 3) := by decide +kernel
theorem dX0_carry_150 : decode cX0_carry 150 = .ok (.iconst 1, 1) := by decide +kernel
theorem dX0_carry_151 : decode cX0_carry 151 = .ok (.isub, 1) := by decide +kernel
theorem dX0_carry_152 : decode cX0_carry 152 = .ok (.putfield 40, 3) := by decide +kernel
theorem dX0_carry_155 : decode cX0_carry 155 = .ok (.aload_n 0, 1) := by decide +kernel
theorem dX0_carry_156 : decode cX0_carry 156 = .ok (.aload_n 0, 1) := by decide +kernel
theorem dX0_carry_157 : decode cX0_carry 157 = .ok (.getfield 29, 3) := by decide +kernel
theorem dX0_carry_160 : decode cX0_carry 160 = .ok (.aload_n 0, 1) := by decide +kernel
theorem dX0_carry_161 : decode cX0_carry 161 = .ok (.getfield 40, 3) := by decide +kernel
theorem dX0_carry_164 : decode cX0_carry 164 = .ok (.iaload, 1) := by decide +kernel
theorem dX0_carry_165 : decode cX0_carry 165 = .ok (.putfield 43, 3) := by decide +kernel
theorem dX0_carry_168 : decode cX0_carry 168 = .ok (.goto 27, 3) := by decide +kernel
theorem dX0_carry_171 : decode cX0_carry 171 = .ok (.iload_n 1, 1) := by decide +kernel
theorem dX0_carry_172 : decode cX0_carry 172 = .ok (.bipush 9, 2) := by decide +kernel
theorem dX0_carry_174 : decode cX0_carry 174 = .ok (.if_icmp .ne 16, 3) := by decide +kernel
theorem dX0_carry_177 : decode cX0_carry 177 = .ok (.aload_n 0, 1) := by decide +kernel
theorem dX0_carry_178 : decode cX0_carry 178 = .ok (.aload_n 0, 1) := by decide +kernel
theorem dX0_carry_179 : decode cX0_carry 179 = .ok (.getfield 23, 3) := by decide +kernel
theorem dX0_carry_182 : decode cX0_carry 182 = .ok (.iload_n 2, 1) := by decide +kernel
theorem dX0_carry_183 : decode cX0_carry 183 = .ok (.iaload, 1) := by decide +kernel
theorem dX0_carry_184 : decode cX0_carry 184 = .ok (.putfield 43, 3) := by decide +kernel
theorem dX0_carry_187 : decode cX0_carry 187 = .ok (.goto 8, 3) := by decide +kernel
theorem dX0_carry_190 : decode cX0_carry 190 = .ok (.aload_n 0, 1) := by decide +kernel
theorem dX0_carry_191 : decode cX0_carry 191 = .ok (.iconst 1, 1) := by decide +kernel
theorem dX0_carry_192 : decode cX0_carry 192 = .ok (.putfield 46, 3) := by decide +kernel
theorem dX0_carry_195 : decode cX0_carry 195 = .ok (.return_, 1) := by decide +kernel
abbrev cX0_work : ByteArray := prog_1_method_16_code
def yX0_work : MethodName := ⟨RX0, "work", "(III)V"⟩
theorem dX0_work_0 : decode cX0_work 0 = .ok (.iload_n 1, 1) := by decide +kernel
theorem dX0_work_1 : decode cX0_work 1 = .ok (.ifCond .ne 13, 3) := by decide +kernel
theorem dX0_work_4 : decode cX0_work 4 = .ok (.aload_n 0, 1) := by decide +kernel
theorem dX0_work_5 : decode cX0_work 5 = .ok (.getfield 23, 3) := by decide +kernel
theorem dX0_work_8 : decode cX0_work 8 = .ok (.iload_n 2, 1) := by decide +kernel
theorem dX0_work_9 : decode cX0_work 9 = .ok (.iload_n 3, 1) := by decide +kernel
theorem dX0_work_10 : decode cX0_work 10 = .ok (.iastore, 1) := by decide +kernel
theorem dX0_work_11 : decode cX0_work 11 = .ok (.goto 97, 3) := by decide +kernel
theorem dX0_work_14 : decode cX0_work 14 = .ok (.iload_n 1, 1) := by decide +kernel
theorem dX0_work_15 : decode cX0_work 15 = .ok (.iconst 1, 1) := by decide +kernel
theorem dX0_work_16 : decode cX0_work 16 = .ok (.if_icmp .ne 21, 3) := by decide +kernel
theorem dX0_work_19 : decode cX0_work 19 = .ok (.aload_n 0, 1) := by decide +kernel
theorem dX0_work_20 : decode cX0_work 20 = .ok (.getfield 23, 3) := by decide +kernel
theorem dX0_work_23 : decode cX0_work 23 = .ok (.iload_n 2, 1) := by decide +kernel
theorem dX0_work_24 : decode cX0_work 24 = .ok (.dup2, 1) := by decide +kernel
theorem dX0_work_25 : decode cX0_work 25 = .ok (.iaload, 1) := by decide +kernel
theorem dX0_work_26 : decode cX0_work 26 = .ok (.aload_n 0, 1) := by decide +kernel
theorem dX0_work_27 : decode cX0_work 27 = .ok (.getfield 23, 3) := by decide +kernel
theorem dX0_work_30 : decode cX0_work 30 = .ok (.iload_n 3, 1) := by decide +kernel
theorem dX0_work_31 : decode cX0_work 31 = .ok (.iaload, 1) := by decide +kernel
theorem dX0_work_32 : decode cX0_work 32 = .ok (.iadd, 1) := by decide +kernel
theorem dX0_work_33 : decode cX0_work 33 = .ok (.iastore, 1) := by decide +kernel
theorem dX0_work_34 : decode cX0_work 34 = .ok (.goto 74, 3) := by decide +kernel
theorem dX0_work_37 : decode cX0_work 37 = .ok (.iload_n 1, 1) := by decide +kernel
theorem dX0_work_38 : decode cX0_work 38 = .ok (.iconst 2, 1) := by decide +kernel
theorem dX0_work_39 : decode cX0_work 39 = .ok (.if_icmp .ne 21, 3) := by decide +kernel
theorem dX0_work_42 : decode cX0_work 42 = .ok (.aload_n 0, 1) := by decide +kernel
theorem dX0_work_43 : decode cX0_work 43 = .ok (.getfield 23, 3) := by decide +kernel
theorem dX0_work_46 : decode cX0_work 46 = .ok (.iload_n 2, 1) := by decide +kernel
theorem dX0_work_47 : decode cX0_work 47 = .ok (.dup2, 1) := by decide +kernel
theorem dX0_work_48 : decode cX0_work 48 = .ok (.iaload, 1) := by decide +kernel
theorem dX0_work_49 : decode cX0_work 49 = .ok (.aload_n 0, 1) := by decide +kernel
theorem dX0_work_50 : decode cX0_work 50 = .ok (.getfield 23, 3) := by decide +kernel
theorem dX0_work_53 : decode cX0_work 53 = .ok (.iload_n 3, 1) := by decide +kernel
theorem dX0_work_54 : decode cX0_work 54 = .ok (.iaload, 1) := by decide +kernel
theorem dX0_work_55 : decode cX0_work 55 = .ok (.isub, 1) := by decide +kernel
theorem dX0_work_56 : decode cX0_work 56 = .ok (.iastore, 1) := by decide +kernel
theorem dX0_work_57 : decode cX0_work 57 = .ok (.goto 51, 3) := by decide +kernel
theorem dX0_work_60 : decode cX0_work 60 = .ok (.iload_n 1, 1) := by decide +kernel
theorem dX0_work_61 : decode cX0_work 61 = .ok (.iconst 3, 1) := by decide +kernel
theorem dX0_work_62 : decode cX0_work 62 = .ok (.if_icmp .ne 26, 3) := by decide +kernel
theorem dX0_work_65 : decode cX0_work 65 = .ok (.aload_n 0, 1) := by decide +kernel
theorem dX0_work_66 : decode cX0_work 66 = .ok (.getfield 23, 3) := by decide +kernel
theorem dX0_work_69 : decode cX0_work 69 = .ok (.iload_n 2, 1) := by decide +kernel
theorem dX0_work_70 : decode cX0_work 70 = .ok (.aload_n 0, 1) := by decide +kernel
theorem dX0_work_71 : decode cX0_work 71 = .ok (.getfield 26, 3) := by decide +kernel
theorem dX0_work_74 : decode cX0_work 74 = .ok (.aload_n 0, 1) := by decide +kernel
theorem dX0_work_75 : decode cX0_work 75 = .ok (.getfield 23, 3) := by decide +kernel
theorem dX0_work_78 : decode cX0_work 78 = .ok (.iload_n 3, 1) := by decide +kernel
theorem dX0_work_79 : decode cX0_work 79 = .ok (.iaload, 1) := by decide +kernel
theorem dX0_work_80 : decode cX0_work 80 = .ok (.bipush 7, 2) := by decide +kernel
theorem dX0_work_82 : decode cX0_work 82 = .ok (.iand, 1) := by decide +kernel
theorem dX0_work_83 : decode cX0_work 83 = .ok (.iaload, 1) := by decide +kernel
theorem dX0_work_84 : decode cX0_work 84 = .ok (.iastore, 1) := by decide +kernel
theorem dX0_work_85 : decode cX0_work 85 = .ok (.goto 23, 3) := by decide +kernel
theorem dX0_work_88 : decode cX0_work 88 = .ok (.aload_n 0, 1) := by decide +kernel
theorem dX0_work_89 : decode cX0_work 89 = .ok (.getfield 26, 3) := by decide +kernel
theorem dX0_work_92 : decode cX0_work 92 = .ok (.aload_n 0, 1) := by decide +kernel
theorem dX0_work_93 : decode cX0_work 93 = .ok (.getfield 23, 3) := by decide +kernel
theorem dX0_work_96 : decode cX0_work 96 = .ok (.iload_n 3, 1) := by decide +kernel
theorem dX0_work_97 : decode cX0_work 97 = .ok (.iaload, 1) := by decide +kernel
theorem dX0_work_98 : decode cX0_work 98 = .ok (.bipush 7, 2) := by decide +kernel
theorem dX0_work_100 : decode cX0_work 100 = .ok (.iand, 1) := by decide +kernel
theorem dX0_work_101 : decode cX0_work 101 = .ok (.aload_n 0, 1) := by decide +kernel
theorem dX0_work_102 : decode cX0_work 102 = .ok (.getfield 23, 3) := by decide +kernel
theorem dX0_work_105 : decode cX0_work 105 = .ok (.iload_n 2, 1) := by decide +kernel
theorem dX0_work_106 : decode cX0_work 106 = .ok (.iaload, 1) := by decide +kernel
theorem dX0_work_107 : decode cX0_work 107 = .ok (.iastore, 1) := by decide +kernel
theorem dX0_work_108 : decode cX0_work 108 = .ok (.return_, 1) := by decide +kernel
abbrev cX0_plant : ByteArray := prog_1_method_9_code
def yX0_plant : MethodName := ⟨RX0, "plant", "(I)V"⟩
theorem dX0_plant_0 : decode cX0_plant 0 = .ok (.iconst 0, 1) := by decide +kernel
theorem dX0_plant_1 : decode cX0_plant 1 = .ok (.istore_n 2, 1) := by decide +kernel
theorem dX0_plant_2 : decode cX0_plant 2 = .ok (.iload_n 2, 1) := by decide +kernel
theorem dX0_plant_3 : decode cX0_plant 3 = .ok (.aload_n 0, 1) := by decide +kernel
theorem dX0_plant_4 : decode cX0_plant 4 = .ok (.getfield 32, 3) := by decide +kernel
theorem dX0_plant_7 : decode cX0_plant 7 = .ok (.if_icmp .ge 49, 3) := by decide +kernel
theorem dX0_plant_10 : decode cX0_plant 10 = .ok (.iload_n 1, 1) := by decide +kernel
theorem dX0_plant_11 : decode cX0_plant 11 = .ok (.iload_n 2, 1) := by decide +kernel
theorem dX0_plant_12 : decode cX0_plant 12 = .ok (.ishr, 1) := by decide +kernel
theorem dX0_plant_13 : decode cX0_plant 13 = .ok (.iconst 1, 1) := by decide +kernel
theorem dX0_plant_14 : decode cX0_plant 14 = .ok (.iand, 1) := by decide +kernel
theorem dX0_plant_15 : decode cX0_plant 15 = .ok (.ifCond .eq 35, 3) := by decide +kernel
theorem dX0_plant_18 : decode cX0_plant 18 = .ok (.aload_n 0, 1) := by decide +kernel
theorem dX0_plant_19 : decode cX0_plant 19 = .ok (.getfield 20, 3) := by decide +kernel
theorem dX0_plant_22 : decode cX0_plant 22 = .ok (.iload_n 2, 1) := by decide +kernel
theorem dX0_plant_23 : decode cX0_plant 23 = .ok (.aload_n 0, 1) := by decide +kernel
theorem dX0_plant_24 : decode cX0_plant 24 = .ok (.getfield 7, 3) := by decide +kernel
theorem dX0_plant_27 : decode cX0_plant 27 = .ok (.iload_n 2, 1) := by decide +kernel
theorem dX0_plant_28 : decode cX0_plant 28 = .ok (.baload, 1) := by decide +kernel
theorem dX0_plant_29 : decode cX0_plant 29 = .ok (.bastore, 1) := by decide +kernel
theorem dX0_plant_30 : decode cX0_plant 30 = .ok (.aload_n 0, 1) := by decide +kernel
theorem dX0_plant_31 : decode cX0_plant 31 = .ok (.getfield 7, 3) := by decide +kernel
theorem dX0_plant_34 : decode cX0_plant 34 = .ok (.iload_n 2, 1) := by decide +kernel
theorem dX0_plant_35 : decode cX0_plant 35 = .ok (.bipush 11, 2) := by decide +kernel
theorem dX0_plant_37 : decode cX0_plant 37 = .ok (.bastore, 1) := by decide +kernel
theorem dX0_plant_38 : decode cX0_plant 38 = .ok (.aload_n 0, 1) := by decide +kernel
theorem dX0_plant_39 : decode cX0_plant 39 = .ok (.dup, 1) := by decide +kernel
theorem dX0_plant_40 : decode cX0_plant 40 = .ok (.getfield 59, 3) := by decide +kernel
theorem dX0_plant_43 : decode cX0_plant 43 = .ok (.iconst 1, 1) := by decide +kernel
theorem dX0_plant_44 : decode cX0_plant 44 = .ok (.iload_n 2, 1) := by decide +kernel
theorem dX0_plant_45 : decode cX0_plant 45 = .ok (.ishl, 1) := by decide +kernel
theorem dX0_plant_46 : decode cX0_plant 46 = .ok (.ior, 1) := by decide +kernel
theorem dX0_plant_47 : decode cX0_plant 47 = .ok (.putfield 59, 3) := by decide +kernel
theorem dX0_plant_50 : decode cX0_plant 50 = .ok (.iinc 2 1, 3) := by decide +kernel
theorem dX0_plant_53 : decode cX0_plant 53 = .ok (.goto (-51), 3) := by decide +kernel
theorem dX0_plant_56 : decode cX0_plant 56 = .ok (.return_, 1) := by decide +kernel
abbrev cX0_lift : ByteArray := prog_1_method_10_code
def yX0_lift : MethodName := ⟨RX0, "lift", "()V"⟩
theorem dX0_lift_0 : decode cX0_lift 0 = .ok (.iconst 0, 1) := by decide +kernel
theorem dX0_lift_1 : decode cX0_lift 1 = .ok (.istore_n 1, 1) := by decide +kernel
theorem dX0_lift_2 : decode cX0_lift 2 = .ok (.iload_n 1, 1) := by decide +kernel
theorem dX0_lift_3 : decode cX0_lift 3 = .ok (.aload_n 0, 1) := by decide +kernel
theorem dX0_lift_4 : decode cX0_lift 4 = .ok (.getfield 32, 3) := by decide +kernel
theorem dX0_lift_7 : decode cX0_lift 7 = .ok (.if_icmp .ge 32, 3) := by decide +kernel
theorem dX0_lift_10 : decode cX0_lift 10 = .ok (.aload_n 0, 1) := by decide +kernel
theorem dX0_lift_11 : decode cX0_lift 11 = .ok (.getfield 59, 3) := by decide +kernel
theorem dX0_lift_14 : decode cX0_lift 14 = .ok (.iload_n 1, 1) := by decide +kernel
theorem dX0_lift_15 : decode cX0_lift 15 = .ok (.ishr, 1) := by decide +kernel
theorem dX0_lift_16 : decode cX0_lift 16 = .ok (.iconst 1, 1) := by decide +kernel
theorem dX0_lift_17 : decode cX0_lift 17 = .ok (.iand, 1) := by decide +kernel
theorem dX0_lift_18 : decode cX0_lift 18 = .ok (.ifCond .eq 15, 3) := by decide +kernel
theorem dX0_lift_21 : decode cX0_lift 21 = .ok (.aload_n 0, 1) := by decide +kernel
theorem dX0_lift_22 : decode cX0_lift 22 = .ok (.getfield 7, 3) := by decide +kernel
theorem dX0_lift_25 : decode cX0_lift 25 = .ok (.iload_n 1, 1) := by decide +kernel
theorem dX0_lift_26 : decode cX0_lift 26 = .ok (.aload_n 0, 1) := by decide +kernel
theorem dX0_lift_27 : decode cX0_lift 27 = .ok (.getfield 20, 3) := by decide +kernel
theorem dX0_lift_30 : decode cX0_lift 30 = .ok (.iload_n 1, 1) := by decide +kernel
theorem dX0_lift_31 : decode cX0_lift 31 = .ok (.baload, 1) := by decide +kernel
theorem dX0_lift_32 : decode cX0_lift 32 = .ok (.bastore, 1) := by decide +kernel
theorem dX0_lift_33 : decode cX0_lift 33 = .ok (.iinc 1 1, 3) := by decide +kernel
theorem dX0_lift_36 : decode cX0_lift 36 = .ok (.goto (-34), 3) := by decide +kernel
theorem dX0_lift_39 : decode cX0_lift 39 = .ok (.aload_n 0, 1) := by decide +kernel
theorem dX0_lift_40 : decode cX0_lift 40 = .ok (.iconst 0, 1) := by decide +kernel
theorem dX0_lift_41 : decode cX0_lift 41 = .ok (.putfield 59, 3) := by decide +kernel
theorem dX0_lift_44 : decode cX0_lift 44 = .ok (.return_, 1) := by decide +kernel
abbrev cX0_stepOver : ByteArray := prog_1_method_22_code
def yX0_stepOver : MethodName := ⟨RX0, "stepOver", "()I"⟩
theorem dX0_stepOver_0 : decode cX0_stepOver 0 = .ok (.aload_n 0, 1) := by decide +kernel
theorem dX0_stepOver_1 : decode cX0_stepOver 1 = .ok (.aload_n 0, 1) := by decide +kernel
theorem dX0_stepOver_2 : decode cX0_stepOver 2 = .ok (.getfield 43, 3) := by decide +kernel
theorem dX0_stepOver_5 : decode cX0_stepOver 5 = .ok (.invokevirtual 36, 3) := by decide +kernel
theorem dX0_stepOver_8 : decode cX0_stepOver 8 = .ok (.ifCond .eq 21, 3) := by decide +kernel
theorem dX0_stepOver_11 : decode cX0_stepOver 11 = .ok (.aload_n 0, 1) := by decide +kernel
theorem dX0_stepOver_12 : decode cX0_stepOver 12 = .ok (.getfield 7, 3) := by decide +kernel
theorem dX0_stepOver_15 : decode cX0_stepOver 15 = .ok (.aload_n 0, 1) := by decide +kernel
theorem dX0_stepOver_16 : decode cX0_stepOver 16 = .ok (.getfield 43, 3) := by decide +kernel
theorem dX0_stepOver_19 : decode cX0_stepOver 19 = .ok (.baload, 1) := by decide +kernel
theorem dX0_stepOver_20 : decode cX0_stepOver 20 = .ok (.bipush 7, 2) := by decide +kernel
theorem dX0_stepOver_22 : decode cX0_stepOver 22 = .ok (.if_icmp .ne 7, 3) := by decide +kernel
theorem dX0_stepOver_25 : decode cX0_stepOver 25 = .ok (.iconst 1, 1) := by decide +kernel
theorem dX0_stepOver_26 : decode cX0_stepOver 26 = .ok (.goto 4, 3) := by decide +kernel
theorem dX0_stepOver_29 : decode cX0_stepOver 29 = .ok (.iconst 0, 1) := by decide +kernel
theorem dX0_stepOver_30 : decode cX0_stepOver 30 = .ok (.istore_n 1, 1) := by decide +kernel
theorem dX0_stepOver_31 : decode cX0_stepOver 31 = .ok (.aload_n 0, 1) := by decide +kernel
theorem dX0_stepOver_32 : decode cX0_stepOver 32 = .ok (.iload_n 1, 1) := by decide +kernel
theorem dX0_stepOver_33 : decode cX0_stepOver 33 = .ok (.ifCond .eq 7, 3) := by decide +kernel
theorem dX0_stepOver_36 : decode cX0_stepOver 36 = .ok (.iconst 3, 1) := by decide +kernel
theorem dX0_stepOver_37 : decode cX0_stepOver 37 = .ok (.goto 4, 3) := by decide +kernel
theorem dX0_stepOver_40 : decode cX0_stepOver 40 = .ok (.iconst 1, 1) := by decide +kernel
theorem dX0_stepOver_41 : decode cX0_stepOver 41 = .ok (.putfield 80, 3) := by decide +kernel
theorem dX0_stepOver_44 : decode cX0_stepOver 44 = .ok (.aload_n 0, 1) := by decide +kernel
theorem dX0_stepOver_45 : decode cX0_stepOver 45 = .ok (.aload_n 0, 1) := by decide +kernel
theorem dX0_stepOver_46 : decode cX0_stepOver 46 = .ok (.getfield 43, 3) := by decide +kernel
theorem dX0_stepOver_49 : decode cX0_stepOver 49 = .ok (.iconst 1, 1) := by decide +kernel
theorem dX0_stepOver_50 : decode cX0_stepOver 50 = .ok (.iadd, 1) := by decide +kernel
theorem dX0_stepOver_51 : decode cX0_stepOver 51 = .ok (.putfield 86, 3) := by decide +kernel
theorem dX0_stepOver_54 : decode cX0_stepOver 54 = .ok (.aload_n 0, 1) := by decide +kernel
theorem dX0_stepOver_55 : decode cX0_stepOver 55 = .ok (.aload_n 0, 1) := by decide +kernel
theorem dX0_stepOver_56 : decode cX0_stepOver 56 = .ok (.getfield 40, 3) := by decide +kernel
theorem dX0_stepOver_59 : decode cX0_stepOver 59 = .ok (.putfield 83, 3) := by decide +kernel
theorem dX0_stepOver_62 : decode cX0_stepOver 62 = .ok (.iload_n 1, 1) := by decide +kernel
theorem dX0_stepOver_63 : decode cX0_stepOver 63 = .ok (.ifCond .eq 16, 3) := by decide +kernel
theorem dX0_stepOver_66 : decode cX0_stepOver 66 = .ok (.aload_n 0, 1) := by decide +kernel
theorem dX0_stepOver_67 : decode cX0_stepOver 67 = .ok (.aload_n 0, 1) := by decide +kernel
theorem dX0_stepOver_68 : decode cX0_stepOver 68 = .ok (.getfield 43, 3) := by decide +kernel
theorem dX0_stepOver_71 : decode cX0_stepOver 71 = .ok (.iconst 1, 1) := by decide +kernel
theorem dX0_stepOver_72 : decode cX0_stepOver 72 = .ok (.iadd, 1) := by decide +kernel
theorem dX0_stepOver_73 : decode cX0_stepOver 73 = .ok (.invokevirtual 62, 3) := by decide +kernel
theorem dX0_stepOver_76 : decode cX0_stepOver 76 = .ok (.goto 4, 3) := by decide +kernel
theorem dX0_stepOver_79 : decode cX0_stepOver 79 = .ok (.iconst 0, 1) := by decide +kernel
theorem dX0_stepOver_80 : decode cX0_stepOver 80 = .ok (.istore_n 2, 1) := by decide +kernel
theorem dX0_stepOver_81 : decode cX0_stepOver 81 = .ok (.aload_n 0, 1) := by decide +kernel
theorem dX0_stepOver_82 : decode cX0_stepOver 82 = .ok (.iload_n 2, 1) := by decide +kernel
theorem dX0_stepOver_83 : decode cX0_stepOver 83 = .ok (.invokevirtual 109, 3) := by decide +kernel
theorem dX0_stepOver_86 : decode cX0_stepOver 86 = .ok (.ireturn, 1) := by decide +kernel
abbrev cX0_stepOut : ByteArray := prog_1_method_23_code
def yX0_stepOut : MethodName := ⟨RX0, "stepOut", "()I"⟩
theorem dX0_stepOut_0 : decode cX0_stepOut 0 = .ok (.aload_n 0, 1) := by decide +kernel
theorem dX0_stepOut_1 : decode cX0_stepOut 1 = .ok (.iconst 4, 1) := by decide +kernel
theorem dX0_stepOut_2 : decode cX0_stepOut 2 = .ok (.putfield 80, 3) := by decide +kernel
theorem dX0_stepOut_5 : decode cX0_stepOut 5 = .ok (.aload_n 0, 1) := by decide +kernel
theorem dX0_stepOut_6 : decode cX0_stepOut 6 = .ok (.aload_n 0, 1) := by decide +kernel
theorem dX0_stepOut_7 : decode cX0_stepOut 7 = .ok (.getfield 40, 3) := by decide +kernel
theorem dX0_stepOut_10 : decode cX0_stepOut 10 = .ok (.putfield 83, 3) := by decide +kernel
theorem dX0_stepOut_13 : decode cX0_stepOut 13 = .ok (.aload_n 0, 1) := by decide +kernel
theorem dX0_stepOut_14 : decode cX0_stepOut 14 = .ok (.getfield 40, 3) := by decide +kernel
theorem dX0_stepOut_17 : decode cX0_stepOut 17 = .ok (.ifCond .le 21, 3) := by decide +kernel
theorem dX0_stepOut_20 : decode cX0_stepOut 20 = .ok (.aload_n 0, 1) := by decide +kernel
theorem dX0_stepOut_21 : decode cX0_stepOut 21 = .ok (.aload_n 0, 1) := by decide +kernel
theorem dX0_stepOut_22 : decode cX0_stepOut 22 = .ok (.getfield 29, 3) := by decide +kernel
theorem dX0_stepOut_25 : decode cX0_stepOut 25 = .ok (.aload_n 0, 1) := by decide +kernel
theorem dX0_stepOut_26 : decode cX0_stepOut 26 = .ok (.getfield 40, 3) := by decide +kernel
theorem dX0_stepOut_29 : decode cX0_stepOut 29 = .ok (.iconst 1, 1) := by decide +kernel
theorem dX0_stepOut_30 : decode cX0_stepOut 30 = .ok (.isub, 1) := by decide +kernel
theorem dX0_stepOut_31 : decode cX0_stepOut 31 = .ok (.iaload, 1) := by decide +kernel
theorem dX0_stepOut_32 : decode cX0_stepOut 32 = .ok (.invokevirtual 62, 3) := by decide +kernel
theorem dX0_stepOut_35 : decode cX0_stepOut 35 = .ok (.goto 4, 3) := by decide +kernel
theorem dX0_stepOut_38 : decode cX0_stepOut 38 = .ok (.iconst 0, 1) := by decide +kernel
theorem dX0_stepOut_39 : decode cX0_stepOut 39 = .ok (.istore_n 1, 1) := by decide +kernel
theorem dX0_stepOut_40 : decode cX0_stepOut 40 = .ok (.aload_n 0, 1) := by decide +kernel
theorem dX0_stepOut_41 : decode cX0_stepOut 41 = .ok (.iload_n 1, 1) := by decide +kernel
theorem dX0_stepOut_42 : decode cX0_stepOut 42 = .ok (.invokevirtual 109, 3) := by decide +kernel
theorem dX0_stepOut_45 : decode cX0_stepOut 45 = .ok (.ireturn, 1) := by decide +kernel
abbrev cX0_go : ByteArray := prog_1_method_24_code
def yX0_go : MethodName := ⟨RX0, "go", "()I"⟩
theorem dX0_go_0 : decode cX0_go 0 = .ok (.aload_n 0, 1) := by decide +kernel
theorem dX0_go_1 : decode cX0_go 1 = .ok (.iconst 0, 1) := by decide +kernel
theorem dX0_go_2 : decode cX0_go 2 = .ok (.putfield 80, 3) := by decide +kernel
theorem dX0_go_5 : decode cX0_go 5 = .ok (.aload_n 0, 1) := by decide +kernel
theorem dX0_go_6 : decode cX0_go 6 = .ok (.iconst 0, 1) := by decide +kernel
theorem dX0_go_7 : decode cX0_go 7 = .ok (.invokevirtual 109, 3) := by decide +kernel
theorem dX0_go_10 : decode cX0_go 10 = .ok (.ireturn, 1) := by decide +kernel
abbrev cX0_goTo : ByteArray := prog_1_method_25_code
def yX0_goTo : MethodName := ⟨RX0, "goTo", "(I)I"⟩
theorem dX0_goTo_0 : decode cX0_goTo 0 = .ok (.aload_n 0, 1) := by decide +kernel
theorem dX0_goTo_1 : decode cX0_goTo 1 = .ok (.iconst 2, 1) := by decide +kernel
theorem dX0_goTo_2 : decode cX0_goTo 2 = .ok (.putfield 80, 3) := by decide +kernel
theorem dX0_goTo_5 : decode cX0_goTo 5 = .ok (.aload_n 0, 1) := by decide +kernel
theorem dX0_goTo_6 : decode cX0_goTo 6 = .ok (.iload_n 1, 1) := by decide +kernel
theorem dX0_goTo_7 : decode cX0_goTo 7 = .ok (.putfield 86, 3) := by decide +kernel
theorem dX0_goTo_10 : decode cX0_goTo 10 = .ok (.aload_n 0, 1) := by decide +kernel
theorem dX0_goTo_11 : decode cX0_goTo 11 = .ok (.iload_n 1, 1) := by decide +kernel
theorem dX0_goTo_12 : decode cX0_goTo 12 = .ok (.invokevirtual 62, 3) := by decide +kernel
theorem dX0_goTo_15 : decode cX0_goTo 15 = .ok (.istore_n 2, 1) := by decide +kernel
theorem dX0_goTo_16 : decode cX0_goTo 16 = .ok (.aload_n 0, 1) := by decide +kernel
theorem dX0_goTo_17 : decode cX0_goTo 17 = .ok (.iload_n 2, 1) := by decide +kernel
theorem dX0_goTo_18 : decode cX0_goTo 18 = .ok (.invokevirtual 109, 3) := by decide +kernel
theorem dX0_goTo_21 : decode cX0_goTo 21 = .ok (.ireturn, 1) := by decide +kernel
abbrev cX0_reason : ByteArray := prog_1_method_26_code
def yX0_reason : MethodName := ⟨RX0, "reason", "()I"⟩
theorem dX0_reason_0 : decode cX0_reason 0 = .ok (.aload_n 0, 1) := by decide +kernel
theorem dX0_reason_1 : decode cX0_reason 1 = .ok (.getfield 53, 3) := by decide +kernel
theorem dX0_reason_4 : decode cX0_reason 4 = .ok (.ireturn, 1) := by decide +kernel
abbrev cX0_position : ByteArray := prog_1_method_27_code
def yX0_position : MethodName := ⟨RX0, "position", "()I"⟩
theorem dX0_position_0 : decode cX0_position 0 = .ok (.aload_n 0, 1) := by decide +kernel
theorem dX0_position_1 : decode cX0_position 1 = .ok (.getfield 43, 3) := by decide +kernel
theorem dX0_position_4 : decode cX0_position 4 = .ok (.ireturn, 1) := by decide +kernel
abbrev cX0_peek : ByteArray := prog_1_method_28_code
def yX0_peek : MethodName := ⟨RX0, "peek", "(I)I"⟩
theorem dX0_peek_0 : decode cX0_peek 0 = .ok (.iload_n 1, 1) := by decide +kernel
theorem dX0_peek_1 : decode cX0_peek 1 = .ok (.ifCond .lt 15, 3) := by decide +kernel
theorem dX0_peek_4 : decode cX0_peek 4 = .ok (.iload_n 1, 1) := by decide +kernel
theorem dX0_peek_5 : decode cX0_peek 5 = .ok (.iconst 4, 1) := by decide +kernel
theorem dX0_peek_6 : decode cX0_peek 6 = .ok (.if_icmp .ge 10, 3) := by decide +kernel
theorem dX0_peek_9 : decode cX0_peek 9 = .ok (.aload_n 0, 1) := by decide +kernel
theorem dX0_peek_10 : decode cX0_peek 10 = .ok (.getfield 23, 3) := by decide +kernel
theorem dX0_peek_13 : decode cX0_peek 13 = .ok (.iload_n 1, 1) := by decide +kernel
theorem dX0_peek_14 : decode cX0_peek 14 = .ok (.iaload, 1) := by decide +kernel
theorem dX0_peek_15 : decode cX0_peek 15 = .ok (.ireturn, 1) := by decide +kernel
theorem dX0_peek_16 : decode cX0_peek 16 = .ok (.iload_n 1, 1) := by decide +kernel
theorem dX0_peek_17 : decode cX0_peek 17 = .ok (.bipush 8, 2) := by decide +kernel
theorem dX0_peek_19 : decode cX0_peek 19 = .ok (.if_icmp .lt 19, 3) := by decide +kernel
theorem dX0_peek_22 : decode cX0_peek 22 = .ok (.iload_n 1, 1) := by decide +kernel
theorem dX0_peek_23 : decode cX0_peek 23 = .ok (.bipush 16, 2) := by decide +kernel
theorem dX0_peek_25 : decode cX0_peek 25 = .ok (.if_icmp .ge 13, 3) := by decide +kernel
theorem dX0_peek_28 : decode cX0_peek 28 = .ok (.aload_n 0, 1) := by decide +kernel
theorem dX0_peek_29 : decode cX0_peek 29 = .ok (.getfield 26, 3) := by decide +kernel
theorem dX0_peek_32 : decode cX0_peek 32 = .ok (.iload_n 1, 1) := by decide +kernel
theorem dX0_peek_33 : decode cX0_peek 33 = .ok (.bipush 8, 2) := by decide +kernel
theorem dX0_peek_35 : decode cX0_peek 35 = .ok (.isub, 1) := by decide +kernel
theorem dX0_peek_36 : decode cX0_peek 36 = .ok (.iaload, 1) := by decide +kernel
theorem dX0_peek_37 : decode cX0_peek 37 = .ok (.ireturn, 1) := by decide +kernel
theorem dX0_peek_38 : decode cX0_peek 38 = .ok (.iload_n 1, 1) := by decide +kernel
theorem dX0_peek_39 : decode cX0_peek 39 = .ok (.bipush 16, 2) := by decide +kernel
theorem dX0_peek_41 : decode cX0_peek 41 = .ok (.if_icmp .lt 24, 3) := by decide +kernel
theorem dX0_peek_44 : decode cX0_peek 44 = .ok (.iload_n 1, 1) := by decide +kernel
theorem dX0_peek_45 : decode cX0_peek 45 = .ok (.bipush 16, 2) := by decide +kernel
theorem dX0_peek_47 : decode cX0_peek 47 = .ok (.isub, 1) := by decide +kernel
theorem dX0_peek_48 : decode cX0_peek 48 = .ok (.aload_n 0, 1) := by decide +kernel
theorem dX0_peek_49 : decode cX0_peek 49 = .ok (.getfield 40, 3) := by decide +kernel
theorem dX0_peek_52 : decode cX0_peek 52 = .ok (.if_icmp .ge 13, 3) := by decide +kernel
theorem dX0_peek_55 : decode cX0_peek 55 = .ok (.aload_n 0, 1) := by decide +kernel
theorem dX0_peek_56 : decode cX0_peek 56 = .ok (.getfield 29, 3) := by decide +kernel
theorem dX0_peek_59 : decode cX0_peek 59 = .ok (.iload_n 1, 1) := by decide +kernel
theorem dX0_peek_60 : decode cX0_peek 60 = .ok (.bipush 16, 2) := by decide +kernel
theorem dX0_peek_62 : decode cX0_peek 62 = .ok (.isub, 1) := by decide +kernel
theorem dX0_peek_63 : decode cX0_peek 63 = .ok (.iaload, 1) := by decide +kernel
theorem dX0_peek_64 : decode cX0_peek 64 = .ok (.ireturn, 1) := by decide +kernel
theorem dX0_peek_65 : decode cX0_peek 65 = .ok (.iconst 0, 1) := by decide +kernel
theorem dX0_peek_66 : decode cX0_peek 66 = .ok (.ireturn, 1) := by decide +kernel
abbrev cX0_depth : ByteArray := prog_1_method_29_code
def yX0_depth : MethodName := ⟨RX0, "depth", "()I"⟩
theorem dX0_depth_0 : decode cX0_depth 0 = .ok (.aload_n 0, 1) := by decide +kernel
theorem dX0_depth_1 : decode cX0_depth 1 = .ok (.getfield 40, 3) := by decide +kernel
theorem dX0_depth_4 : decode cX0_depth 4 = .ok (.ireturn, 1) := by decide +kernel
abbrev cX0_steps : ByteArray := prog_1_method_30_code
def yX0_steps : MethodName := ⟨RX0, "steps", "()I"⟩
theorem dX0_steps_0 : decode cX0_steps 0 = .ok (.aload_n 0, 1) := by decide +kernel
theorem dX0_steps_1 : decode cX0_steps 1 = .ok (.getfield 50, 3) := by decide +kernel
theorem dX0_steps_4 : decode cX0_steps 4 = .ok (.ireturn, 1) := by decide +kernel
end
section
set_option maxRecDepth 100000
/-! java/lang/Object -/
def RJ0 : String := "java/lang/Object"
abbrev cJ0_init : ByteArray := object_method_1_code
def yJ0_init : MethodName := ⟨RJ0, "<init>", "()V"⟩
theorem dJ0_init_0 : decode cJ0_init 0 = .ok (.return_, 1) := by decide +kernel
theorem q27 : (Jvm.Cond.instanceMethod ({ cls := "java/lang/Object", name := "<init>", desc := "()V" } : Jvm.MethodName)) ∈ lw_all := lw_g (lw_at lw_m1 9 rfl) rfl
theorem q28 : (Jvm.Cond.code ({ cls := "java/lang/Object", name := "<init>", desc := "()V" } : Jvm.MethodName) object_method_1_code (1 : Nat) (Option.none : Option Jvm.ClassFile.FieldType)) ∈ lw_all := lw_g (lw_at lw_m1 10 rfl) rfl
theorem q84 : (Jvm.Cond.arrayClass Jvm.ClassFile.FieldType.byte) ∈ lw_all := lw_g (lw_at lw_m1 66 rfl) rfl
theorem q85 : (Jvm.Cond.arrayClass Jvm.ClassFile.FieldType.int) ∈ lw_all := lw_g (lw_at lw_m1 67 rfl) rfl
theorem q19 : (Jvm.Cond.initialized "StepDebugger") ∈ lw_all := lw_g (lw_at lw_m1 1 rfl) rfl
theorem q22 : (Jvm.Cond.instantiable "StepDebugger" (18 : Nat)) ∈ lw_all := lw_g (lw_at lw_m1 4 rfl) rfl
theorem q24 : (Jvm.Cond.instanceMethod ({ cls := "StepDebugger", name := "<init>", desc := "()V" } : Jvm.MethodName)) ∈ lw_all := lw_g (lw_at lw_m1 6 rfl) rfl
theorem q25 : (Jvm.Cond.code ({ cls := "StepDebugger", name := "<init>", desc := "()V" } : Jvm.MethodName) prog_1_method_1_code (1 : Nat) (Option.none : Option Jvm.ClassFile.FieldType)) ∈ lw_all := lw_g (lw_at lw_m1 7 rfl) rfl
theorem q26 : (Jvm.Cond.methodLink "StepDebugger" (1 : Nat) ({ cls := "java/lang/Object", name := "<init>", desc := "()V" } : Jvm.MethodName)) ∈ lw_all := lw_g (lw_at lw_m1 8 rfl) rfl
theorem q29 : (Jvm.Cond.fieldLink "StepDebugger" (7 : Nat) "StepDebugger" "ops" "[B") ∈ lw_all := lw_g (lw_at lw_m1 11 rfl) rfl
theorem q30 : (Jvm.Cond.fieldLink "StepDebugger" (13 : Nat) "StepDebugger" "as" "[B") ∈ lw_all := lw_g (lw_at lw_m1 12 rfl) rfl
theorem q31 : (Jvm.Cond.fieldLink "StepDebugger" (16 : Nat) "StepDebugger" "bs" "[I") ∈ lw_all := lw_g (lw_at lw_m1 13 rfl) rfl
theorem q32 : (Jvm.Cond.fieldLink "StepDebugger" (20 : Nat) "StepDebugger" "hidden" "[B") ∈ lw_all := lw_g (lw_at lw_m1 14 rfl) rfl
theorem q33 : (Jvm.Cond.fieldLink "StepDebugger" (59 : Nat) "StepDebugger" "planted" "I") ∈ lw_all := lw_g (lw_at lw_m1 15 rfl) rfl
theorem q34 : (Jvm.Cond.fieldLink "StepDebugger" (32 : Nat) "StepDebugger" "size" "I") ∈ lw_all := lw_g (lw_at lw_m1 16 rfl) rfl
theorem q35 : (Jvm.Cond.fieldLink "StepDebugger" (23 : Nat) "StepDebugger" "registers" "[I") ∈ lw_all := lw_g (lw_at lw_m1 17 rfl) rfl
theorem q36 : (Jvm.Cond.fieldLink "StepDebugger" (26 : Nat) "StepDebugger" "memory" "[I") ∈ lw_all := lw_g (lw_at lw_m1 18 rfl) rfl
theorem q37 : (Jvm.Cond.fieldLink "StepDebugger" (29 : Nat) "StepDebugger" "returns" "[I") ∈ lw_all := lw_g (lw_at lw_m1 19 rfl) rfl
theorem q38 : (Jvm.Cond.fieldLink "StepDebugger" (40 : Nat) "StepDebugger" "level" "I") ∈ lw_all := lw_g (lw_at lw_m1 20 rfl) rfl
theorem q39 : (Jvm.Cond.fieldLink "StepDebugger" (43 : Nat) "StepDebugger" "at" "I") ∈ lw_all := lw_g (lw_at lw_m1 21 rfl) rfl
theorem q40 : (Jvm.Cond.fieldLink "StepDebugger" (46 : Nat) "StepDebugger" "over" "Z") ∈ lw_all := lw_g (lw_at lw_m1 22 rfl) rfl
theorem q41 : (Jvm.Cond.fieldLink "StepDebugger" (50 : Nat) "StepDebugger" "count" "I") ∈ lw_all := lw_g (lw_at lw_m1 23 rfl) rfl
theorem q42 : (Jvm.Cond.fieldLink "StepDebugger" (56 : Nat) "StepDebugger" "breaks" "I") ∈ lw_all := lw_g (lw_at lw_m1 24 rfl) rfl
theorem q43 : (Jvm.Cond.fieldLink "StepDebugger" (53 : Nat) "StepDebugger" "why" "I") ∈ lw_all := lw_g (lw_at lw_m1 25 rfl) rfl
theorem q44 : (Jvm.Cond.fieldLink "StepDebugger" (80 : Nat) "StepDebugger" "aim" "I") ∈ lw_all := lw_g (lw_at lw_m1 26 rfl) rfl
theorem q45 : (Jvm.Cond.fieldLink "StepDebugger" (86 : Nat) "StepDebugger" "aimPlace" "I") ∈ lw_all := lw_g (lw_at lw_m1 27 rfl) rfl
theorem q46 : (Jvm.Cond.fieldLink "StepDebugger" (83 : Nat) "StepDebugger" "aimDepth" "I") ∈ lw_all := lw_g (lw_at lw_m1 28 rfl) rfl
theorem q47 : (Jvm.Cond.laysFinal "StepDebugger" "StepDebugger" "ops" "[B") ∈ lw_all := lw_g (lw_at lw_m1 29 rfl) rfl
theorem q48 : (Jvm.Cond.soleField "StepDebugger" "ops") ∈ lw_all := lw_g (lw_at lw_m1 30 rfl) rfl
theorem q49 : (Jvm.Cond.laysFinal "StepDebugger" "StepDebugger" "as" "[B") ∈ lw_all := lw_g (lw_at lw_m1 31 rfl) rfl
theorem q50 : (Jvm.Cond.soleField "StepDebugger" "as") ∈ lw_all := lw_g (lw_at lw_m1 32 rfl) rfl
theorem q51 : (Jvm.Cond.laysFinal "StepDebugger" "StepDebugger" "bs" "[I") ∈ lw_all := lw_g (lw_at lw_m1 33 rfl) rfl
theorem q52 : (Jvm.Cond.soleField "StepDebugger" "bs") ∈ lw_all := lw_g (lw_at lw_m1 34 rfl) rfl
theorem q53 : (Jvm.Cond.laysFinal "StepDebugger" "StepDebugger" "hidden" "[B") ∈ lw_all := lw_g (lw_at lw_m1 35 rfl) rfl
theorem q54 : (Jvm.Cond.soleField "StepDebugger" "hidden") ∈ lw_all := lw_g (lw_at lw_m1 36 rfl) rfl
theorem q55 : (Jvm.Cond.lays "StepDebugger" "StepDebugger" "planted" "I") ∈ lw_all := lw_g (lw_at lw_m1 37 rfl) rfl
theorem q56 : (Jvm.Cond.soleField "StepDebugger" "planted") ∈ lw_all := lw_g (lw_at lw_m1 38 rfl) rfl
theorem q57 : (Jvm.Cond.lays "StepDebugger" "StepDebugger" "size" "I") ∈ lw_all := lw_g (lw_at lw_m1 39 rfl) rfl
theorem q58 : (Jvm.Cond.soleField "StepDebugger" "size") ∈ lw_all := lw_g (lw_at lw_m1 40 rfl) rfl
theorem q59 : (Jvm.Cond.laysFinal "StepDebugger" "StepDebugger" "registers" "[I") ∈ lw_all := lw_g (lw_at lw_m1 41 rfl) rfl
theorem q60 : (Jvm.Cond.soleField "StepDebugger" "registers") ∈ lw_all := lw_g (lw_at lw_m1 42 rfl) rfl
theorem q61 : (Jvm.Cond.laysFinal "StepDebugger" "StepDebugger" "memory" "[I") ∈ lw_all := lw_g (lw_at lw_m1 43 rfl) rfl
theorem q62 : (Jvm.Cond.soleField "StepDebugger" "memory") ∈ lw_all := lw_g (lw_at lw_m1 44 rfl) rfl
theorem q63 : (Jvm.Cond.laysFinal "StepDebugger" "StepDebugger" "returns" "[I") ∈ lw_all := lw_g (lw_at lw_m1 45 rfl) rfl
theorem q64 : (Jvm.Cond.soleField "StepDebugger" "returns") ∈ lw_all := lw_g (lw_at lw_m1 46 rfl) rfl
theorem q65 : (Jvm.Cond.lays "StepDebugger" "StepDebugger" "level" "I") ∈ lw_all := lw_g (lw_at lw_m1 47 rfl) rfl
theorem q66 : (Jvm.Cond.soleField "StepDebugger" "level") ∈ lw_all := lw_g (lw_at lw_m1 48 rfl) rfl
theorem q67 : (Jvm.Cond.lays "StepDebugger" "StepDebugger" "at" "I") ∈ lw_all := lw_g (lw_at lw_m1 49 rfl) rfl
theorem q68 : (Jvm.Cond.soleField "StepDebugger" "at") ∈ lw_all := lw_g (lw_at lw_m1 50 rfl) rfl
theorem q69 : (Jvm.Cond.lays "StepDebugger" "StepDebugger" "over" "Z") ∈ lw_all := lw_g (lw_at lw_m1 51 rfl) rfl
theorem q70 : (Jvm.Cond.soleField "StepDebugger" "over") ∈ lw_all := lw_g (lw_at lw_m1 52 rfl) rfl
theorem q71 : (Jvm.Cond.lays "StepDebugger" "StepDebugger" "count" "I") ∈ lw_all := lw_g (lw_at lw_m1 53 rfl) rfl
theorem q72 : (Jvm.Cond.soleField "StepDebugger" "count") ∈ lw_all := lw_g (lw_at lw_m1 54 rfl) rfl
theorem q73 : (Jvm.Cond.lays "StepDebugger" "StepDebugger" "breaks" "I") ∈ lw_all := lw_g (lw_at lw_m1 55 rfl) rfl
theorem q74 : (Jvm.Cond.soleField "StepDebugger" "breaks") ∈ lw_all := lw_g (lw_at lw_m1 56 rfl) rfl
theorem q75 : (Jvm.Cond.lays "StepDebugger" "StepDebugger" "why" "I") ∈ lw_all := lw_g (lw_at lw_m1 57 rfl) rfl
theorem q76 : (Jvm.Cond.soleField "StepDebugger" "why") ∈ lw_all := lw_g (lw_at lw_m1 58 rfl) rfl
theorem q77 : (Jvm.Cond.lays "StepDebugger" "StepDebugger" "aim" "I") ∈ lw_all := lw_g (lw_at lw_m1 59 rfl) rfl
theorem q78 : (Jvm.Cond.soleField "StepDebugger" "aim") ∈ lw_all := lw_g (lw_at lw_m1 60 rfl) rfl
theorem q79 : (Jvm.Cond.lays "StepDebugger" "StepDebugger" "aimPlace" "I") ∈ lw_all := lw_g (lw_at lw_m1 61 rfl) rfl
theorem q80 : (Jvm.Cond.soleField "StepDebugger" "aimPlace") ∈ lw_all := lw_g (lw_at lw_m1 62 rfl) rfl
theorem q81 : (Jvm.Cond.lays "StepDebugger" "StepDebugger" "aimDepth" "I") ∈ lw_all := lw_g (lw_at lw_m1 63 rfl) rfl
theorem q82 : (Jvm.Cond.soleField "StepDebugger" "aimDepth") ∈ lw_all := lw_g (lw_at lw_m1 64 rfl) rfl
theorem q83 : (Jvm.Cond.superclass "StepDebugger" "java/lang/Object") ∈ lw_all := lw_g (lw_at lw_m1 65 rfl) rfl
theorem q87 : (Jvm.Cond.instanceMethod ({ cls := "StepDebugger", name := "emit", desc := "(III)I" } : Jvm.MethodName)) ∈ lw_all := lw_g (lw_at lw_m1 69 rfl) rfl
theorem q88 : (Jvm.Cond.selects "StepDebugger" ({ cls := "StepDebugger", name := "emit", desc := "(III)I" } : Jvm.MethodName) ({ cls := "StepDebugger", name := "emit", desc := "(III)I" } : Jvm.MethodName)) ∈ lw_all := lw_g (lw_at lw_m1 70 rfl) rfl
theorem q89 : (Jvm.Cond.code ({ cls := "StepDebugger", name := "emit", desc := "(III)I" } : Jvm.MethodName) prog_1_method_2_code (5 : Nat) (Option.some Jvm.ClassFile.FieldType.int)) ∈ lw_all := lw_g (lw_at lw_m1 71 rfl) rfl
theorem q91 : (Jvm.Cond.instanceMethod ({ cls := "StepDebugger", name := "length", desc := "()I" } : Jvm.MethodName)) ∈ lw_all := lw_g (lw_at lw_m1 73 rfl) rfl
theorem q92 : (Jvm.Cond.selects "StepDebugger" ({ cls := "StepDebugger", name := "length", desc := "()I" } : Jvm.MethodName) ({ cls := "StepDebugger", name := "length", desc := "()I" } : Jvm.MethodName)) ∈ lw_all := lw_g (lw_at lw_m1 74 rfl) rfl
theorem q93 : (Jvm.Cond.code ({ cls := "StepDebugger", name := "length", desc := "()I" } : Jvm.MethodName) prog_1_method_3_code (1 : Nat) (Option.some Jvm.ClassFile.FieldType.int)) ∈ lw_all := lw_g (lw_at lw_m1 75 rfl) rfl
theorem q95 : (Jvm.Cond.instanceMethod ({ cls := "StepDebugger", name := "codeAt", desc := "(I)I" } : Jvm.MethodName)) ∈ lw_all := lw_g (lw_at lw_m1 77 rfl) rfl
theorem q96 : (Jvm.Cond.selects "StepDebugger" ({ cls := "StepDebugger", name := "codeAt", desc := "(I)I" } : Jvm.MethodName) ({ cls := "StepDebugger", name := "codeAt", desc := "(I)I" } : Jvm.MethodName)) ∈ lw_all := lw_g (lw_at lw_m1 78 rfl) rfl
theorem q97 : (Jvm.Cond.code ({ cls := "StepDebugger", name := "codeAt", desc := "(I)I" } : Jvm.MethodName) prog_1_method_5_code (2 : Nat) (Option.some Jvm.ClassFile.FieldType.int)) ∈ lw_all := lw_g (lw_at lw_m1 79 rfl) rfl
theorem q98 : (Jvm.Cond.methodLink "StepDebugger" (36 : Nat) ({ cls := "StepDebugger", name := "inside", desc := "(I)Z" } : Jvm.MethodName)) ∈ lw_all := lw_g (lw_at lw_m1 80 rfl) rfl
theorem q99 : (Jvm.Cond.privateMethod ({ cls := "StepDebugger", name := "inside", desc := "(I)Z" } : Jvm.MethodName)) ∈ lw_tbl := lw_at lw_m1 81 rfl
theorem q100 : (Jvm.Cond.instanceMethod ({ cls := "StepDebugger", name := "inside", desc := "(I)Z" } : Jvm.MethodName)) ∈ lw_all := lw_g (lw_at lw_m1 82 rfl) rfl
theorem q101 : (Jvm.Cond.code ({ cls := "StepDebugger", name := "inside", desc := "(I)Z" } : Jvm.MethodName) prog_1_method_4_code (2 : Nat) (Option.some Jvm.ClassFile.FieldType.boolean)) ∈ lw_all := lw_g (lw_at lw_m1 83 rfl) rfl
theorem q103 : (Jvm.Cond.instanceMethod ({ cls := "StepDebugger", name := "reset", desc := "()V" } : Jvm.MethodName)) ∈ lw_all := lw_g (lw_at lw_m1 85 rfl) rfl
theorem q104 : (Jvm.Cond.selects "StepDebugger" ({ cls := "StepDebugger", name := "reset", desc := "()V" } : Jvm.MethodName) ({ cls := "StepDebugger", name := "reset", desc := "()V" } : Jvm.MethodName)) ∈ lw_all := lw_g (lw_at lw_m1 86 rfl) rfl
theorem q105 : (Jvm.Cond.code ({ cls := "StepDebugger", name := "reset", desc := "()V" } : Jvm.MethodName) prog_1_method_6_code (2 : Nat) (Option.none : Option Jvm.ClassFile.FieldType)) ∈ lw_all := lw_g (lw_at lw_m1 87 rfl) rfl
theorem q107 : (Jvm.Cond.instanceMethod ({ cls := "StepDebugger", name := "breakAt", desc := "(IZ)Z" } : Jvm.MethodName)) ∈ lw_all := lw_g (lw_at lw_m1 89 rfl) rfl
theorem q108 : (Jvm.Cond.selects "StepDebugger" ({ cls := "StepDebugger", name := "breakAt", desc := "(IZ)Z" } : Jvm.MethodName) ({ cls := "StepDebugger", name := "breakAt", desc := "(IZ)Z" } : Jvm.MethodName)) ∈ lw_all := lw_g (lw_at lw_m1 90 rfl) rfl
theorem q109 : (Jvm.Cond.code ({ cls := "StepDebugger", name := "breakAt", desc := "(IZ)Z" } : Jvm.MethodName) prog_1_method_7_code (3 : Nat) (Option.some Jvm.ClassFile.FieldType.boolean)) ∈ lw_all := lw_g (lw_at lw_m1 91 rfl) rfl
theorem q111 : (Jvm.Cond.instanceMethod ({ cls := "StepDebugger", name := "breakpoints", desc := "()I" } : Jvm.MethodName)) ∈ lw_all := lw_g (lw_at lw_m1 93 rfl) rfl
theorem q112 : (Jvm.Cond.selects "StepDebugger" ({ cls := "StepDebugger", name := "breakpoints", desc := "()I" } : Jvm.MethodName) ({ cls := "StepDebugger", name := "breakpoints", desc := "()I" } : Jvm.MethodName)) ∈ lw_all := lw_g (lw_at lw_m1 94 rfl) rfl
theorem q113 : (Jvm.Cond.code ({ cls := "StepDebugger", name := "breakpoints", desc := "()I" } : Jvm.MethodName) prog_1_method_8_code (1 : Nat) (Option.some Jvm.ClassFile.FieldType.int)) ∈ lw_all := lw_g (lw_at lw_m1 95 rfl) rfl
theorem q115 : (Jvm.Cond.instanceMethod ({ cls := "StepDebugger", name := "step", desc := "()I" } : Jvm.MethodName)) ∈ lw_all := lw_g (lw_at lw_m1 97 rfl) rfl
theorem q116 : (Jvm.Cond.selects "StepDebugger" ({ cls := "StepDebugger", name := "step", desc := "()I" } : Jvm.MethodName) ({ cls := "StepDebugger", name := "step", desc := "()I" } : Jvm.MethodName)) ∈ lw_all := lw_g (lw_at lw_m1 98 rfl) rfl
theorem q117 : (Jvm.Cond.code ({ cls := "StepDebugger", name := "step", desc := "()I" } : Jvm.MethodName) prog_1_method_21_code (1 : Nat) (Option.some Jvm.ClassFile.FieldType.int)) ∈ lw_all := lw_g (lw_at lw_m1 99 rfl) rfl
theorem q118 : (Jvm.Cond.methodLink "StepDebugger" (109 : Nat) ({ cls := "StepDebugger", name := "run", desc := "(I)I" } : Jvm.MethodName)) ∈ lw_all := lw_g (lw_at lw_m1 100 rfl) rfl
theorem q119 : (Jvm.Cond.privateMethod ({ cls := "StepDebugger", name := "run", desc := "(I)I" } : Jvm.MethodName)) ∈ lw_tbl := lw_at lw_m1 101 rfl
theorem q120 : (Jvm.Cond.instanceMethod ({ cls := "StepDebugger", name := "run", desc := "(I)I" } : Jvm.MethodName)) ∈ lw_all := lw_g (lw_at lw_m1 102 rfl) rfl
theorem q121 : (Jvm.Cond.code ({ cls := "StepDebugger", name := "run", desc := "(I)I" } : Jvm.MethodName) prog_1_method_20_code (5 : Nat) (Option.some Jvm.ClassFile.FieldType.int)) ∈ lw_all := lw_g (lw_at lw_m1 103 rfl) rfl
theorem q122 : (Jvm.Cond.methodLink "StepDebugger" (103 : Nat) ({ cls := "StepDebugger", name := "judge", desc := "(I)I" } : Jvm.MethodName)) ∈ lw_all := lw_g (lw_at lw_m1 104 rfl) rfl
theorem q123 : (Jvm.Cond.privateMethod ({ cls := "StepDebugger", name := "judge", desc := "(I)I" } : Jvm.MethodName)) ∈ lw_tbl := lw_at lw_m1 105 rfl
theorem q124 : (Jvm.Cond.instanceMethod ({ cls := "StepDebugger", name := "judge", desc := "(I)I" } : Jvm.MethodName)) ∈ lw_all := lw_g (lw_at lw_m1 106 rfl) rfl
theorem q125 : (Jvm.Cond.code ({ cls := "StepDebugger", name := "judge", desc := "(I)I" } : Jvm.MethodName) prog_1_method_17_code (2 : Nat) (Option.some Jvm.ClassFile.FieldType.int)) ∈ lw_all := lw_g (lw_at lw_m1 107 rfl) rfl
theorem q126 : (Jvm.Cond.methodLink "StepDebugger" (66 : Nat) ({ cls := "StepDebugger", name := "stuck", desc := "()Z" } : Jvm.MethodName)) ∈ lw_all := lw_g (lw_at lw_m1 108 rfl) rfl
theorem q127 : (Jvm.Cond.privateMethod ({ cls := "StepDebugger", name := "stuck", desc := "()Z" } : Jvm.MethodName)) ∈ lw_tbl := lw_at lw_m1 109 rfl
theorem q128 : (Jvm.Cond.instanceMethod ({ cls := "StepDebugger", name := "stuck", desc := "()Z" } : Jvm.MethodName)) ∈ lw_all := lw_g (lw_at lw_m1 110 rfl) rfl
theorem q129 : (Jvm.Cond.code ({ cls := "StepDebugger", name := "stuck", desc := "()Z" } : Jvm.MethodName) prog_1_method_14_code (1 : Nat) (Option.some Jvm.ClassFile.FieldType.boolean)) ∈ lw_all := lw_g (lw_at lw_m1 111 rfl) rfl
theorem q130 : (Jvm.Cond.methodLink "StepDebugger" (77 : Nat) ({ cls := "StepDebugger", name := "aimReached", desc := "()Z" } : Jvm.MethodName)) ∈ lw_all := lw_g (lw_at lw_m1 112 rfl) rfl
theorem q131 : (Jvm.Cond.privateMethod ({ cls := "StepDebugger", name := "aimReached", desc := "()Z" } : Jvm.MethodName)) ∈ lw_tbl := lw_at lw_m1 113 rfl
theorem q132 : (Jvm.Cond.instanceMethod ({ cls := "StepDebugger", name := "aimReached", desc := "()Z" } : Jvm.MethodName)) ∈ lw_all := lw_g (lw_at lw_m1 114 rfl) rfl
theorem q133 : (Jvm.Cond.code ({ cls := "StepDebugger", name := "aimReached", desc := "()Z" } : Jvm.MethodName) prog_1_method_18_code (1 : Nat) (Option.some Jvm.ClassFile.FieldType.boolean)) ∈ lw_all := lw_g (lw_at lw_m1 115 rfl) rfl
theorem q134 : (Jvm.Cond.methodLink "StepDebugger" (106 : Nat) ({ cls := "StepDebugger", name := "stepOff", desc := "()I" } : Jvm.MethodName)) ∈ lw_all := lw_g (lw_at lw_m1 116 rfl) rfl
theorem q135 : (Jvm.Cond.privateMethod ({ cls := "StepDebugger", name := "stepOff", desc := "()I" } : Jvm.MethodName)) ∈ lw_tbl := lw_at lw_m1 117 rfl
theorem q136 : (Jvm.Cond.instanceMethod ({ cls := "StepDebugger", name := "stepOff", desc := "()I" } : Jvm.MethodName)) ∈ lw_all := lw_g (lw_at lw_m1 118 rfl) rfl
theorem q137 : (Jvm.Cond.code ({ cls := "StepDebugger", name := "stepOff", desc := "()I" } : Jvm.MethodName) prog_1_method_19_code (3 : Nat) (Option.some Jvm.ClassFile.FieldType.int)) ∈ lw_all := lw_g (lw_at lw_m1 119 rfl) rfl
theorem q138 : (Jvm.Cond.methodLink "StepDebugger" (89 : Nat) ({ cls := "StepDebugger", name := "successors", desc := "()I" } : Jvm.MethodName)) ∈ lw_all := lw_g (lw_at lw_m1 120 rfl) rfl
theorem q139 : (Jvm.Cond.privateMethod ({ cls := "StepDebugger", name := "successors", desc := "()I" } : Jvm.MethodName)) ∈ lw_tbl := lw_at lw_m1 121 rfl
theorem q140 : (Jvm.Cond.instanceMethod ({ cls := "StepDebugger", name := "successors", desc := "()I" } : Jvm.MethodName)) ∈ lw_all := lw_g (lw_at lw_m1 122 rfl) rfl
theorem q141 : (Jvm.Cond.code ({ cls := "StepDebugger", name := "successors", desc := "()I" } : Jvm.MethodName) prog_1_method_12_code (3 : Nat) (Option.some Jvm.ClassFile.FieldType.int)) ∈ lw_all := lw_g (lw_at lw_m1 123 rfl) rfl
theorem q142 : (Jvm.Cond.methodLink "StepDebugger" (62 : Nat) ({ cls := "StepDebugger", name := "bit", desc := "(I)I" } : Jvm.MethodName)) ∈ lw_all := lw_g (lw_at lw_m1 124 rfl) rfl
theorem q143 : (Jvm.Cond.privateMethod ({ cls := "StepDebugger", name := "bit", desc := "(I)I" } : Jvm.MethodName)) ∈ lw_tbl := lw_at lw_m1 125 rfl
theorem q144 : (Jvm.Cond.instanceMethod ({ cls := "StepDebugger", name := "bit", desc := "(I)I" } : Jvm.MethodName)) ∈ lw_all := lw_g (lw_at lw_m1 126 rfl) rfl
theorem q145 : (Jvm.Cond.code ({ cls := "StepDebugger", name := "bit", desc := "(I)I" } : Jvm.MethodName) prog_1_method_11_code (2 : Nat) (Option.some Jvm.ClassFile.FieldType.int)) ∈ lw_all := lw_g (lw_at lw_m1 127 rfl) rfl
theorem q146 : (Jvm.Cond.methodLink "StepDebugger" (93 : Nat) ({ cls := "StepDebugger", name := "resume", desc := "(I)I" } : Jvm.MethodName)) ∈ lw_all := lw_g (lw_at lw_m1 128 rfl) rfl
theorem q147 : (Jvm.Cond.privateMethod ({ cls := "StepDebugger", name := "resume", desc := "(I)I" } : Jvm.MethodName)) ∈ lw_tbl := lw_at lw_m1 129 rfl
theorem q148 : (Jvm.Cond.instanceMethod ({ cls := "StepDebugger", name := "resume", desc := "(I)I" } : Jvm.MethodName)) ∈ lw_all := lw_g (lw_at lw_m1 130 rfl) rfl
theorem q149 : (Jvm.Cond.code ({ cls := "StepDebugger", name := "resume", desc := "(I)I" } : Jvm.MethodName) prog_1_method_13_code (4 : Nat) (Option.some Jvm.ClassFile.FieldType.int)) ∈ lw_all := lw_g (lw_at lw_m1 131 rfl) rfl
theorem q150 : (Jvm.Cond.methodLink "StepDebugger" (70 : Nat) ({ cls := "StepDebugger", name := "carry", desc := "()V" } : Jvm.MethodName)) ∈ lw_all := lw_g (lw_at lw_m1 132 rfl) rfl
theorem q151 : (Jvm.Cond.privateMethod ({ cls := "StepDebugger", name := "carry", desc := "()V" } : Jvm.MethodName)) ∈ lw_tbl := lw_at lw_m1 133 rfl
theorem q152 : (Jvm.Cond.instanceMethod ({ cls := "StepDebugger", name := "carry", desc := "()V" } : Jvm.MethodName)) ∈ lw_all := lw_g (lw_at lw_m1 134 rfl) rfl
theorem q153 : (Jvm.Cond.code ({ cls := "StepDebugger", name := "carry", desc := "()V" } : Jvm.MethodName) prog_1_method_15_code (4 : Nat) (Option.none : Option Jvm.ClassFile.FieldType)) ∈ lw_all := lw_g (lw_at lw_m1 135 rfl) rfl
theorem q154 : (Jvm.Cond.methodLink "StepDebugger" (73 : Nat) ({ cls := "StepDebugger", name := "work", desc := "(III)V" } : Jvm.MethodName)) ∈ lw_all := lw_g (lw_at lw_m1 136 rfl) rfl
theorem q155 : (Jvm.Cond.privateMethod ({ cls := "StepDebugger", name := "work", desc := "(III)V" } : Jvm.MethodName)) ∈ lw_tbl := lw_at lw_m1 137 rfl
theorem q156 : (Jvm.Cond.instanceMethod ({ cls := "StepDebugger", name := "work", desc := "(III)V" } : Jvm.MethodName)) ∈ lw_all := lw_g (lw_at lw_m1 138 rfl) rfl
theorem q157 : (Jvm.Cond.code ({ cls := "StepDebugger", name := "work", desc := "(III)V" } : Jvm.MethodName) prog_1_method_16_code (4 : Nat) (Option.none : Option Jvm.ClassFile.FieldType)) ∈ lw_all := lw_g (lw_at lw_m1 139 rfl) rfl
theorem q158 : (Jvm.Cond.methodLink "StepDebugger" (96 : Nat) ({ cls := "StepDebugger", name := "plant", desc := "(I)V" } : Jvm.MethodName)) ∈ lw_all := lw_g (lw_at lw_m1 140 rfl) rfl
theorem q159 : (Jvm.Cond.privateMethod ({ cls := "StepDebugger", name := "plant", desc := "(I)V" } : Jvm.MethodName)) ∈ lw_tbl := lw_at lw_m1 141 rfl
theorem q160 : (Jvm.Cond.instanceMethod ({ cls := "StepDebugger", name := "plant", desc := "(I)V" } : Jvm.MethodName)) ∈ lw_all := lw_g (lw_at lw_m1 142 rfl) rfl
theorem q161 : (Jvm.Cond.code ({ cls := "StepDebugger", name := "plant", desc := "(I)V" } : Jvm.MethodName) prog_1_method_9_code (3 : Nat) (Option.none : Option Jvm.ClassFile.FieldType)) ∈ lw_all := lw_g (lw_at lw_m1 143 rfl) rfl
theorem q162 : (Jvm.Cond.methodLink "StepDebugger" (100 : Nat) ({ cls := "StepDebugger", name := "lift", desc := "()V" } : Jvm.MethodName)) ∈ lw_all := lw_g (lw_at lw_m1 144 rfl) rfl
theorem q163 : (Jvm.Cond.privateMethod ({ cls := "StepDebugger", name := "lift", desc := "()V" } : Jvm.MethodName)) ∈ lw_tbl := lw_at lw_m1 145 rfl
theorem q164 : (Jvm.Cond.instanceMethod ({ cls := "StepDebugger", name := "lift", desc := "()V" } : Jvm.MethodName)) ∈ lw_all := lw_g (lw_at lw_m1 146 rfl) rfl
theorem q165 : (Jvm.Cond.code ({ cls := "StepDebugger", name := "lift", desc := "()V" } : Jvm.MethodName) prog_1_method_10_code (2 : Nat) (Option.none : Option Jvm.ClassFile.FieldType)) ∈ lw_all := lw_g (lw_at lw_m1 147 rfl) rfl
theorem q167 : (Jvm.Cond.instanceMethod ({ cls := "StepDebugger", name := "stepOver", desc := "()I" } : Jvm.MethodName)) ∈ lw_all := lw_g (lw_at lw_m1 149 rfl) rfl
theorem q168 : (Jvm.Cond.selects "StepDebugger" ({ cls := "StepDebugger", name := "stepOver", desc := "()I" } : Jvm.MethodName) ({ cls := "StepDebugger", name := "stepOver", desc := "()I" } : Jvm.MethodName)) ∈ lw_all := lw_g (lw_at lw_m1 150 rfl) rfl
theorem q169 : (Jvm.Cond.code ({ cls := "StepDebugger", name := "stepOver", desc := "()I" } : Jvm.MethodName) prog_1_method_22_code (3 : Nat) (Option.some Jvm.ClassFile.FieldType.int)) ∈ lw_all := lw_g (lw_at lw_m1 151 rfl) rfl
theorem q171 : (Jvm.Cond.instanceMethod ({ cls := "StepDebugger", name := "stepOut", desc := "()I" } : Jvm.MethodName)) ∈ lw_all := lw_g (lw_at lw_m1 153 rfl) rfl
theorem q172 : (Jvm.Cond.selects "StepDebugger" ({ cls := "StepDebugger", name := "stepOut", desc := "()I" } : Jvm.MethodName) ({ cls := "StepDebugger", name := "stepOut", desc := "()I" } : Jvm.MethodName)) ∈ lw_all := lw_g (lw_at lw_m1 154 rfl) rfl
theorem q173 : (Jvm.Cond.code ({ cls := "StepDebugger", name := "stepOut", desc := "()I" } : Jvm.MethodName) prog_1_method_23_code (2 : Nat) (Option.some Jvm.ClassFile.FieldType.int)) ∈ lw_all := lw_g (lw_at lw_m1 155 rfl) rfl
theorem q175 : (Jvm.Cond.instanceMethod ({ cls := "StepDebugger", name := "go", desc := "()I" } : Jvm.MethodName)) ∈ lw_all := lw_g (lw_at lw_m1 157 rfl) rfl
theorem q176 : (Jvm.Cond.selects "StepDebugger" ({ cls := "StepDebugger", name := "go", desc := "()I" } : Jvm.MethodName) ({ cls := "StepDebugger", name := "go", desc := "()I" } : Jvm.MethodName)) ∈ lw_all := lw_g (lw_at lw_m1 158 rfl) rfl
theorem q177 : (Jvm.Cond.code ({ cls := "StepDebugger", name := "go", desc := "()I" } : Jvm.MethodName) prog_1_method_24_code (1 : Nat) (Option.some Jvm.ClassFile.FieldType.int)) ∈ lw_all := lw_g (lw_at lw_m1 159 rfl) rfl
theorem q179 : (Jvm.Cond.instanceMethod ({ cls := "StepDebugger", name := "goTo", desc := "(I)I" } : Jvm.MethodName)) ∈ lw_all := lw_g (lw_at lw_m1 161 rfl) rfl
theorem q180 : (Jvm.Cond.selects "StepDebugger" ({ cls := "StepDebugger", name := "goTo", desc := "(I)I" } : Jvm.MethodName) ({ cls := "StepDebugger", name := "goTo", desc := "(I)I" } : Jvm.MethodName)) ∈ lw_all := lw_g (lw_at lw_m1 162 rfl) rfl
theorem q181 : (Jvm.Cond.code ({ cls := "StepDebugger", name := "goTo", desc := "(I)I" } : Jvm.MethodName) prog_1_method_25_code (3 : Nat) (Option.some Jvm.ClassFile.FieldType.int)) ∈ lw_all := lw_g (lw_at lw_m1 163 rfl) rfl
theorem q183 : (Jvm.Cond.instanceMethod ({ cls := "StepDebugger", name := "reason", desc := "()I" } : Jvm.MethodName)) ∈ lw_all := lw_g (lw_at lw_m1 165 rfl) rfl
theorem q184 : (Jvm.Cond.selects "StepDebugger" ({ cls := "StepDebugger", name := "reason", desc := "()I" } : Jvm.MethodName) ({ cls := "StepDebugger", name := "reason", desc := "()I" } : Jvm.MethodName)) ∈ lw_all := lw_g (lw_at lw_m1 166 rfl) rfl
theorem q185 : (Jvm.Cond.code ({ cls := "StepDebugger", name := "reason", desc := "()I" } : Jvm.MethodName) prog_1_method_26_code (1 : Nat) (Option.some Jvm.ClassFile.FieldType.int)) ∈ lw_all := lw_g (lw_at lw_m1 167 rfl) rfl
theorem q187 : (Jvm.Cond.instanceMethod ({ cls := "StepDebugger", name := "position", desc := "()I" } : Jvm.MethodName)) ∈ lw_all := lw_g (lw_at lw_m1 169 rfl) rfl
theorem q188 : (Jvm.Cond.selects "StepDebugger" ({ cls := "StepDebugger", name := "position", desc := "()I" } : Jvm.MethodName) ({ cls := "StepDebugger", name := "position", desc := "()I" } : Jvm.MethodName)) ∈ lw_all := lw_g (lw_at lw_m1 170 rfl) rfl
theorem q189 : (Jvm.Cond.code ({ cls := "StepDebugger", name := "position", desc := "()I" } : Jvm.MethodName) prog_1_method_27_code (1 : Nat) (Option.some Jvm.ClassFile.FieldType.int)) ∈ lw_all := lw_g (lw_at lw_m1 171 rfl) rfl
theorem q191 : (Jvm.Cond.instanceMethod ({ cls := "StepDebugger", name := "peek", desc := "(I)I" } : Jvm.MethodName)) ∈ lw_all := lw_g (lw_at lw_m1 173 rfl) rfl
theorem q192 : (Jvm.Cond.selects "StepDebugger" ({ cls := "StepDebugger", name := "peek", desc := "(I)I" } : Jvm.MethodName) ({ cls := "StepDebugger", name := "peek", desc := "(I)I" } : Jvm.MethodName)) ∈ lw_all := lw_g (lw_at lw_m1 174 rfl) rfl
theorem q193 : (Jvm.Cond.code ({ cls := "StepDebugger", name := "peek", desc := "(I)I" } : Jvm.MethodName) prog_1_method_28_code (2 : Nat) (Option.some Jvm.ClassFile.FieldType.int)) ∈ lw_all := lw_g (lw_at lw_m1 175 rfl) rfl
theorem q195 : (Jvm.Cond.instanceMethod ({ cls := "StepDebugger", name := "depth", desc := "()I" } : Jvm.MethodName)) ∈ lw_all := lw_g (lw_at lw_m1 177 rfl) rfl
theorem q196 : (Jvm.Cond.selects "StepDebugger" ({ cls := "StepDebugger", name := "depth", desc := "()I" } : Jvm.MethodName) ({ cls := "StepDebugger", name := "depth", desc := "()I" } : Jvm.MethodName)) ∈ lw_all := lw_g (lw_at lw_m1 178 rfl) rfl
theorem q197 : (Jvm.Cond.code ({ cls := "StepDebugger", name := "depth", desc := "()I" } : Jvm.MethodName) prog_1_method_29_code (1 : Nat) (Option.some Jvm.ClassFile.FieldType.int)) ∈ lw_all := lw_g (lw_at lw_m1 179 rfl) rfl
theorem q199 : (Jvm.Cond.instanceMethod ({ cls := "StepDebugger", name := "steps", desc := "()I" } : Jvm.MethodName)) ∈ lw_all := lw_g (lw_at lw_m1 181 rfl) rfl
theorem q200 : (Jvm.Cond.selects "StepDebugger" ({ cls := "StepDebugger", name := "steps", desc := "()I" } : Jvm.MethodName) ({ cls := "StepDebugger", name := "steps", desc := "()I" } : Jvm.MethodName)) ∈ lw_all := lw_g (lw_at lw_m1 182 rfl) rfl
theorem q201 : (Jvm.Cond.code ({ cls := "StepDebugger", name := "steps", desc := "()I" } : Jvm.MethodName) prog_1_method_30_code (1 : Nat) (Option.some Jvm.ClassFile.FieldType.int)) ∈ lw_all := lw_g (lw_at lw_m1 183 rfl) rfl
theorem in_X0 : ∀ w ∈ wsX00, w ∈ lw_all := lw_in wsX00 [47, 49, 51, 53, 55, 57, 59, 61, 63, 65, 67, 69, 71, 73, 75, 77, 79, 81] (by decide +kernel) (by decide +kernel)
end
section
/-! StepDebuggerModel -/
set_option maxRecDepth 100000
def RX1 : String := "StepDebuggerModel"
def TX1 : u_T := fun k => match k with
  | 0 => ("StepDebuggerModel", "size", "I", false)
  | 1 => ("StepDebuggerModel", "ops", "[I", false)
  | 2 => ("StepDebuggerModel", "as", "[I", false)
  | 3 => ("StepDebuggerModel", "bs", "[I", false)
  | 4 => ("StepDebuggerModel", "breaks", "I", false)
  | 5 => ("StepDebuggerModel", "reg", "[I", false)
  | 6 => ("StepDebuggerModel", "mem", "[I", false)
  | 7 => ("StepDebuggerModel", "back", "[I", false)
  | 8 => ("StepDebuggerModel", "deep", "I", false)
  | 9 => ("StepDebuggerModel", "pos", "I", false)
  | 10 => ("StepDebuggerModel", "count", "I", false)
  | 11 => ("StepDebuggerModel", "over", "Z", false)
  | _ => ("StepDebuggerModel", "why", "I", false)
def tyX1 : Nat → FieldType := fun k => match k with
  | 0 => .int
  | 1 => .array .int
  | 2 => .array .int
  | 3 => .array .int
  | 4 => .int
  | 5 => .array .int
  | 6 => .array .int
  | 7 => .array .int
  | 8 => .int
  | 9 => .int
  | 10 => .int
  | 11 => .boolean
  | _ => .int
abbrev wsX10 : List Cond := u_ws RX1 TX1 13
set_option maxRecDepth 100000 in
theorem nmX1 : ∀ a, a < 13 → ∀ b, b < 13 → a ≠ b → (TX1 a).2.1 ≠ (TX1 b).2.1 := by decide +kernel
set_option maxRecDepth 100000 in
theorem tyX1_ok : ∀ k, k < 13 → parseFieldDescriptor (TX1 k).2.2.1 = some (tyX1 k) := by decide +kernel
abbrev cX1_init : ByteArray := prog_3_method_1_code
def yX1_init : MethodName := ⟨RX1, "<init>", "()V"⟩
theorem dX1_init_0 : decode cX1_init 0 = .ok (.aload_n 0, 1) := by decide +kernel
theorem dX1_init_1 : decode cX1_init 1 = .ok (.invokespecial 1, 3) := by decide +kernel
theorem dX1_init_4 : decode cX1_init 4 = .ok (.aload_n 0, 1) := by decide +kernel
theorem dX1_init_5 : decode cX1_init 5 = .ok (.bipush 20, 2) := by decide +kernel
theorem dX1_init_7 : decode cX1_init 7 = .ok (.newarray .int, 2) := by decide +kernel
theorem dX1_init_9 : decode cX1_init 9 = .ok (.putfield 7, 3) := by decide +kernel
theorem dX1_init_12 : decode cX1_init 12 = .ok (.aload_n 0, 1) := by decide +kernel
theorem dX1_init_13 : decode cX1_init 13 = .ok (.bipush 20, 2) := by decide +kernel
theorem dX1_init_15 : decode cX1_init 15 = .ok (.newarray .int, 2) := by decide +kernel
theorem dX1_init_17 : decode cX1_init 17 = .ok (.putfield 13, 3) := by decide +kernel
theorem dX1_init_20 : decode cX1_init 20 = .ok (.aload_n 0, 1) := by decide +kernel
theorem dX1_init_21 : decode cX1_init 21 = .ok (.bipush 20, 2) := by decide +kernel
theorem dX1_init_23 : decode cX1_init 23 = .ok (.newarray .int, 2) := by decide +kernel
theorem dX1_init_25 : decode cX1_init 25 = .ok (.putfield 16, 3) := by decide +kernel
theorem dX1_init_28 : decode cX1_init 28 = .ok (.aload_n 0, 1) := by decide +kernel
theorem dX1_init_29 : decode cX1_init 29 = .ok (.iconst 4, 1) := by decide +kernel
theorem dX1_init_30 : decode cX1_init 30 = .ok (.newarray .int, 2) := by decide +kernel
theorem dX1_init_32 : decode cX1_init 32 = .ok (.putfield 19, 3) := by decide +kernel
theorem dX1_init_35 : decode cX1_init 35 = .ok (.aload_n 0, 1) := by decide +kernel
theorem dX1_init_36 : decode cX1_init 36 = .ok (.bipush 8, 2) := by decide +kernel
theorem dX1_init_38 : decode cX1_init 38 = .ok (.newarray .int, 2) := by decide +kernel
theorem dX1_init_40 : decode cX1_init 40 = .ok (.putfield 22, 3) := by decide +kernel
theorem dX1_init_43 : decode cX1_init 43 = .ok (.aload_n 0, 1) := by decide +kernel
theorem dX1_init_44 : decode cX1_init 44 = .ok (.bipush 6, 2) := by decide +kernel
theorem dX1_init_46 : decode cX1_init 46 = .ok (.newarray .int, 2) := by decide +kernel
theorem dX1_init_48 : decode cX1_init 48 = .ok (.putfield 25, 3) := by decide +kernel
theorem dX1_init_51 : decode cX1_init 51 = .ok (.return_, 1) := by decide +kernel
abbrev cX1_emit : ByteArray := prog_3_method_2_code
def yX1_emit : MethodName := ⟨RX1, "emit", "(III)I"⟩
theorem dX1_emit_0 : decode cX1_emit 0 = .ok (.aload_n 0, 1) := by decide +kernel
theorem dX1_emit_1 : decode cX1_emit 1 = .ok (.getfield 28, 3) := by decide +kernel
theorem dX1_emit_4 : decode cX1_emit 4 = .ok (.bipush 20, 2) := by decide +kernel
theorem dX1_emit_6 : decode cX1_emit 6 = .ok (.if_icmp .lt 5, 3) := by decide +kernel
theorem dX1_emit_9 : decode cX1_emit 9 = .ok (.iconst (-1), 1) := by decide +kernel
theorem dX1_emit_10 : decode cX1_emit 10 = .ok (.ireturn, 1) := by decide +kernel
theorem dX1_emit_11 : decode cX1_emit 11 = .ok (.iload_n 1, 1) := by decide +kernel
theorem dX1_emit_12 : decode cX1_emit 12 = .ok (.ifCond .lt 9, 3) := by decide +kernel
theorem dX1_emit_15 : decode cX1_emit 15 = .ok (.iload_n 1, 1) := by decide +kernel
theorem dX1_emit_16 : decode cX1_emit 16 = .ok (.bipush 10, 2) := by decide +kernel
theorem dX1_emit_18 : decode cX1_emit 18 = .ok (.if_icmp .le 6, 3) := by decide +kernel
theorem dX1_emit_21 : decode cX1_emit 21 = .ok (.bipush (-2), 2) := by decide +kernel
theorem dX1_emit_23 : decode cX1_emit 23 = .ok (.ireturn, 1) := by decide +kernel
theorem dX1_emit_24 : decode cX1_emit 24 = .ok (.iload_n 2, 1) := by decide +kernel
theorem dX1_emit_25 : decode cX1_emit 25 = .ok (.ifCond .lt 27, 3) := by decide +kernel
theorem dX1_emit_28 : decode cX1_emit 28 = .ok (.iload_n 2, 1) := by decide +kernel
theorem dX1_emit_29 : decode cX1_emit 29 = .ok (.iconst 3, 1) := by decide +kernel
theorem dX1_emit_30 : decode cX1_emit 30 = .ok (.if_icmp .gt 22, 3) := by decide +kernel
theorem dX1_emit_33 : decode cX1_emit 33 = .ok (.iload_n 1, 1) := by decide +kernel
theorem dX1_emit_34 : decode cX1_emit 34 = .ok (.iconst 1, 1) := by decide +kernel
theorem dX1_emit_35 : decode cX1_emit 35 = .ok (.if_icmp .lt 20, 3) := by decide +kernel
theorem dX1_emit_38 : decode cX1_emit 38 = .ok (.iload_n 1, 1) := by decide +kernel
theorem dX1_emit_39 : decode cX1_emit 39 = .ok (.iconst 4, 1) := by decide +kernel
theorem dX1_emit_40 : decode cX1_emit 40 = .ok (.if_icmp .gt 15, 3) := by decide +kernel
theorem dX1_emit_43 : decode cX1_emit 43 = .ok (.iload_n 3, 1) := by decide +kernel
theorem dX1_emit_44 : decode cX1_emit 44 = .ok (.ifCond .lt 8, 3) := by decide +kernel
theorem dX1_emit_47 : decode cX1_emit 47 = .ok (.iload_n 3, 1) := by decide +kernel
theorem dX1_emit_48 : decode cX1_emit 48 = .ok (.iconst 3, 1) := by decide +kernel
theorem dX1_emit_49 : decode cX1_emit 49 = .ok (.if_icmp .le 6, 3) := by decide +kernel
theorem dX1_emit_52 : decode cX1_emit 52 = .ok (.bipush (-3), 2) := by decide +kernel
theorem dX1_emit_54 : decode cX1_emit 54 = .ok (.ireturn, 1) := by decide +kernel
theorem dX1_emit_55 : decode cX1_emit 55 = .ok (.aload_n 0, 1) := by decide +kernel
theorem dX1_emit_56 : decode cX1_emit 56 = .ok (.getfield 7, 3) := by decide +kernel
theorem dX1_emit_59 : decode cX1_emit 59 = .ok (.aload_n 0, 1) := by decide +kernel
theorem dX1_emit_60 : decode cX1_emit 60 = .ok (.getfield 28, 3) := by decide +kernel
theorem dX1_emit_63 : decode cX1_emit 63 = .ok (.iload_n 1, 1) := by decide +kernel
theorem dX1_emit_64 : decode cX1_emit 64 = .ok (.iastore, 1) := by decide +kernel
theorem dX1_emit_65 : decode cX1_emit 65 = .ok (.aload_n 0, 1) := by decide +kernel
theorem dX1_emit_66 : decode cX1_emit 66 = .ok (.getfield 13, 3) := by decide +kernel
theorem dX1_emit_69 : decode cX1_emit 69 = .ok (.aload_n 0, 1) := by decide +kernel
theorem dX1_emit_70 : decode cX1_emit 70 = .ok (.getfield 28, 3) := by decide +kernel
theorem dX1_emit_73 : decode cX1_emit 73 = .ok (.iload_n 2, 1) := by decide +kernel
theorem dX1_emit_74 : decode cX1_emit 74 = .ok (.iastore, 1) := by decide +kernel
theorem dX1_emit_75 : decode cX1_emit 75 = .ok (.aload_n 0, 1) := by decide +kernel
theorem dX1_emit_76 : decode cX1_emit 76 = .ok (.getfield 16, 3) := by decide +kernel
theorem dX1_emit_79 : decode cX1_emit 79 = .ok (.aload_n 0, 1) := by decide +kernel
theorem dX1_emit_80 : decode cX1_emit 80 = .ok (.getfield 28, 3) := by decide +kernel
theorem dX1_emit_83 : decode cX1_emit 83 = .ok (.iload_n 3, 1) := by decide +kernel
theorem dX1_emit_84 : decode cX1_emit 84 = .ok (.iastore, 1) := by decide +kernel
theorem dX1_emit_85 : decode cX1_emit 85 = .ok (.aload_n 0, 1) := by decide +kernel
theorem dX1_emit_86 : decode cX1_emit 86 = .ok (.dup, 1) := by decide +kernel
theorem dX1_emit_87 : decode cX1_emit 87 = .ok (.getfield 28, 3) := by decide +kernel
theorem dX1_emit_90 : decode cX1_emit 90 = .ok (.iconst 1, 1) := by decide +kernel
theorem dX1_emit_91 : decode cX1_emit 91 = .ok (.iadd, 1) := by decide +kernel
theorem dX1_emit_92 : decode cX1_emit 92 = .ok (.putfield 28, 3) := by decide +kernel
theorem dX1_emit_95 : decode cX1_emit 95 = .ok (.aload_n 0, 1) := by decide +kernel
theorem dX1_emit_96 : decode cX1_emit 96 = .ok (.getfield 28, 3) := by decide +kernel
theorem dX1_emit_99 : decode cX1_emit 99 = .ok (.iconst 1, 1) := by decide +kernel
theorem dX1_emit_100 : decode cX1_emit 100 = .ok (.isub, 1) := by decide +kernel
theorem dX1_emit_101 : decode cX1_emit 101 = .ok (.ireturn, 1) := by decide +kernel
abbrev cX1_length : ByteArray := prog_3_method_3_code
def yX1_length : MethodName := ⟨RX1, "length", "()I"⟩
theorem dX1_length_0 : decode cX1_length 0 = .ok (.aload_n 0, 1) := by decide +kernel
theorem dX1_length_1 : decode cX1_length 1 = .ok (.getfield 28, 3) := by decide +kernel
theorem dX1_length_4 : decode cX1_length 4 = .ok (.ireturn, 1) := by decide +kernel
abbrev cX1_codeAt : ByteArray := prog_3_method_4_code
def yX1_codeAt : MethodName := ⟨RX1, "codeAt", "(I)I"⟩
theorem dX1_codeAt_0 : decode cX1_codeAt 0 = .ok (.iload_n 1, 1) := by decide +kernel
theorem dX1_codeAt_1 : decode cX1_codeAt 1 = .ok (.ifCond .lt 11, 3) := by decide +kernel
theorem dX1_codeAt_4 : decode cX1_codeAt 4 = .ok (.iload_n 1, 1) := by decide +kernel
theorem dX1_codeAt_5 : decode cX1_codeAt 5 = .ok (.aload_n 0, 1) := by decide +kernel
theorem dX1_codeAt_6 : decode cX1_codeAt 6 = .ok (.getfield 28, 3) := by decide +kernel
theorem dX1_codeAt_9 : decode cX1_codeAt 9 = .ok (.if_icmp .lt 7, 3) := by decide +kernel
theorem dX1_codeAt_12 : decode cX1_codeAt 12 = .ok (.iconst (-1), 1) := by decide +kernel
theorem dX1_codeAt_13 : decode cX1_codeAt 13 = .ok (.goto 19, 3) := by decide +kernel
theorem dX1_codeAt_16 : decode cX1_codeAt 16 = .ok (.aload_n 0, 1) := by decide +kernel
theorem dX1_codeAt_17 : decode cX1_codeAt 17 = .ok (.getfield 7, 3) := by decide +kernel
theorem dX1_codeAt_20 : decode cX1_codeAt 20 = .ok (.iload_n 1, 1) := by decide +kernel
theorem dX1_codeAt_21 : decode cX1_codeAt 21 = .ok (.iaload, 1) := by decide +kernel
theorem dX1_codeAt_22 : decode cX1_codeAt 22 = .ok (.bipush 16, 2) := by decide +kernel
theorem dX1_codeAt_24 : decode cX1_codeAt 24 = .ok (.aload_n 0, 1) := by decide +kernel
theorem dX1_codeAt_25 : decode cX1_codeAt 25 = .ok (.getfield 13, 3) := by decide +kernel
theorem dX1_codeAt_28 : decode cX1_codeAt 28 = .ok (.iload_n 1, 1) := by decide +kernel
theorem dX1_codeAt_29 : decode cX1_codeAt 29 = .ok (.iaload, 1) := by decide +kernel
theorem dX1_codeAt_30 : decode cX1_codeAt 30 = .ok (.imul, 1) := by decide +kernel
theorem dX1_codeAt_31 : decode cX1_codeAt 31 = .ok (.iadd, 1) := by decide +kernel
theorem dX1_codeAt_32 : decode cX1_codeAt 32 = .ok (.ireturn, 1) := by decide +kernel
abbrev cX1_reset : ByteArray := prog_3_method_5_code
def yX1_reset : MethodName := ⟨RX1, "reset", "()V"⟩
theorem dX1_reset_0 : decode cX1_reset 0 = .ok (.iconst 0, 1) := by decide +kernel
theorem dX1_reset_1 : decode cX1_reset 1 = .ok (.istore_n 1, 1) := by decide +kernel
theorem dX1_reset_2 : decode cX1_reset 2 = .ok (.iload_n 1, 1) := by decide +kernel
theorem dX1_reset_3 : decode cX1_reset 3 = .ok (.iconst 4, 1) := by decide +kernel
theorem dX1_reset_4 : decode cX1_reset 4 = .ok (.if_icmp .ge 16, 3) := by decide +kernel
theorem dX1_reset_7 : decode cX1_reset 7 = .ok (.aload_n 0, 1) := by decide +kernel
theorem dX1_reset_8 : decode cX1_reset 8 = .ok (.getfield 19, 3) := by decide +kernel
theorem dX1_reset_11 : decode cX1_reset 11 = .ok (.iload_n 1, 1) := by decide +kernel
theorem dX1_reset_12 : decode cX1_reset 12 = .ok (.iconst 0, 1) := by decide +kernel
theorem dX1_reset_13 : decode cX1_reset 13 = .ok (.iastore, 1) := by decide +kernel
theorem dX1_reset_14 : decode cX1_reset 14 = .ok (.iinc 1 1, 3) := by decide +kernel
theorem dX1_reset_17 : decode cX1_reset 17 = .ok (.goto (-15), 3) := by decide +kernel
theorem dX1_reset_20 : decode cX1_reset 20 = .ok (.iconst 0, 1) := by decide +kernel
theorem dX1_reset_21 : decode cX1_reset 21 = .ok (.istore_n 1, 1) := by decide +kernel
theorem dX1_reset_22 : decode cX1_reset 22 = .ok (.iload_n 1, 1) := by decide +kernel
theorem dX1_reset_23 : decode cX1_reset 23 = .ok (.bipush 8, 2) := by decide +kernel
theorem dX1_reset_25 : decode cX1_reset 25 = .ok (.if_icmp .ge 16, 3) := by decide +kernel
theorem dX1_reset_28 : decode cX1_reset 28 = .ok (.aload_n 0, 1) := by decide +kernel
theorem dX1_reset_29 : decode cX1_reset 29 = .ok (.getfield 22, 3) := by decide +kernel
theorem dX1_reset_32 : decode cX1_reset 32 = .ok (.iload_n 1, 1) := by decide +kernel
theorem dX1_reset_33 : decode cX1_reset 33 = .ok (.iconst 0, 1) := by decide +kernel
theorem dX1_reset_34 : decode cX1_reset 34 = .ok (.iastore, 1) := by decide +kernel
theorem dX1_reset_35 : decode cX1_reset 35 = .ok (.iinc 1 1, 3) := by decide +kernel
theorem dX1_reset_38 : decode cX1_reset 38 = .ok (.goto (-16), 3) := by decide +kernel
theorem dX1_reset_41 : decode cX1_reset 41 = .ok (.aload_n 0, 1) := by decide +kernel
theorem dX1_reset_42 : decode cX1_reset 42 = .ok (.iconst 0, 1) := by decide +kernel
theorem dX1_reset_43 : decode cX1_reset 43 = .ok (.putfield 32, 3) := by decide +kernel
theorem dX1_reset_46 : decode cX1_reset 46 = .ok (.aload_n 0, 1) := by decide +kernel
theorem dX1_reset_47 : decode cX1_reset 47 = .ok (.iconst 0, 1) := by decide +kernel
theorem dX1_reset_48 : decode cX1_reset 48 = .ok (.putfield 35, 3) := by decide +kernel
theorem dX1_reset_51 : decode cX1_reset 51 = .ok (.aload_n 0, 1) := by decide +kernel
theorem dX1_reset_52 : decode cX1_reset 52 = .ok (.iconst 0, 1) := by decide +kernel
theorem dX1_reset_53 : decode cX1_reset 53 = .ok (.putfield 38, 3) := by decide +kernel
theorem dX1_reset_56 : decode cX1_reset 56 = .ok (.aload_n 0, 1) := by decide +kernel
theorem dX1_reset_57 : decode cX1_reset 57 = .ok (.iconst 0, 1) := by decide +kernel
theorem dX1_reset_58 : decode cX1_reset 58 = .ok (.putfield 41, 3) := by decide +kernel
theorem dX1_reset_61 : decode cX1_reset 61 = .ok (.aload_n 0, 1) := by decide +kernel
theorem dX1_reset_62 : decode cX1_reset 62 = .ok (.iconst 0, 1) := by decide +kernel
theorem dX1_reset_63 : decode cX1_reset 63 = .ok (.putfield 45, 3) := by decide +kernel
theorem dX1_reset_66 : decode cX1_reset 66 = .ok (.return_, 1) := by decide +kernel
abbrev cX1_breakAt : ByteArray := prog_3_method_6_code
def yX1_breakAt : MethodName := ⟨RX1, "breakAt", "(IZ)Z"⟩
theorem dX1_breakAt_0 : decode cX1_breakAt 0 = .ok (.iload_n 1, 1) := by decide +kernel
theorem dX1_breakAt_1 : decode cX1_breakAt 1 = .ok (.ifCond .lt 9, 3) := by decide +kernel
theorem dX1_breakAt_4 : decode cX1_breakAt 4 = .ok (.iload_n 1, 1) := by decide +kernel
theorem dX1_breakAt_5 : decode cX1_breakAt 5 = .ok (.bipush 19, 2) := by decide +kernel
theorem dX1_breakAt_7 : decode cX1_breakAt 7 = .ok (.if_icmp .le 5, 3) := by decide +kernel
theorem dX1_breakAt_10 : decode cX1_breakAt 10 = .ok (.iconst 0, 1) := by decide +kernel
theorem dX1_breakAt_11 : decode cX1_breakAt 11 = .ok (.ireturn, 1) := by decide +kernel
theorem dX1_breakAt_12 : decode cX1_breakAt 12 = .ok (.aload_n 0, 1) := by decide +kernel
theorem dX1_breakAt_13 : decode cX1_breakAt 13 = .ok (.iload_n 2, 1) := by decide +kernel
theorem dX1_breakAt_14 : decode cX1_breakAt 14 = .ok (.ifCond .eq 14, 3) := by decide +kernel
theorem dX1_breakAt_17 : decode cX1_breakAt 17 = .ok (.aload_n 0, 1) := by decide +kernel
theorem dX1_breakAt_18 : decode cX1_breakAt 18 = .ok (.getfield 48, 3) := by decide +kernel
theorem dX1_breakAt_21 : decode cX1_breakAt 21 = .ok (.iconst 1, 1) := by decide +kernel
theorem dX1_breakAt_22 : decode cX1_breakAt 22 = .ok (.iload_n 1, 1) := by decide +kernel
theorem dX1_breakAt_23 : decode cX1_breakAt 23 = .ok (.ishl, 1) := by decide +kernel
theorem dX1_breakAt_24 : decode cX1_breakAt 24 = .ok (.ior, 1) := by decide +kernel
theorem dX1_breakAt_25 : decode cX1_breakAt 25 = .ok (.goto 13, 3) := by decide +kernel
theorem dX1_breakAt_28 : decode cX1_breakAt 28 = .ok (.aload_n 0, 1) := by decide +kernel
theorem dX1_breakAt_29 : decode cX1_breakAt 29 = .ok (.getfield 48, 3) := by decide +kernel
theorem dX1_breakAt_32 : decode cX1_breakAt 32 = .ok (.iconst 1, 1) := by decide +kernel
theorem dX1_breakAt_33 : decode cX1_breakAt 33 = .ok (.iload_n 1, 1) := by decide +kernel
theorem dX1_breakAt_34 : decode cX1_breakAt 34 = .ok (.ishl, 1) := by decide +kernel
theorem dX1_breakAt_35 : decode cX1_breakAt 35 = .ok (.iconst (-1), 1) := by decide +kernel
theorem dX1_breakAt_36 : decode cX1_breakAt 36 = .ok (.ixor, 1) := by decide +kernel
theorem dX1_breakAt_37 : decode cX1_breakAt 37 = .ok (.iand, 1) := by decide +kernel
theorem dX1_breakAt_38 : decode cX1_breakAt 38 = .ok (.putfield 48, 3) := by decide +kernel
theorem dX1_breakAt_41 : decode cX1_breakAt 41 = .ok (.iconst 1, 1) := by decide +kernel
theorem dX1_breakAt_42 : decode cX1_breakAt 42 = .ok (.ireturn, 1) := by decide +kernel
abbrev cX1_breakpoints : ByteArray := prog_3_method_7_code
def yX1_breakpoints : MethodName := ⟨RX1, "breakpoints", "()I"⟩
theorem dX1_breakpoints_0 : decode cX1_breakpoints 0 = .ok (.aload_n 0, 1) := by decide +kernel
theorem dX1_breakpoints_1 : decode cX1_breakpoints 1 = .ok (.getfield 48, 3) := by decide +kernel
theorem dX1_breakpoints_4 : decode cX1_breakpoints 4 = .ok (.ireturn, 1) := by decide +kernel
abbrev cX1_step : ByteArray := prog_3_method_13_code
def yX1_step : MethodName := ⟨RX1, "step", "()I"⟩
theorem dX1_step_0 : decode cX1_step 0 = .ok (.aload_n 0, 1) := by decide +kernel
theorem dX1_step_1 : decode cX1_step 1 = .ok (.iconst 0, 1) := by decide +kernel
theorem dX1_step_2 : decode cX1_step 2 = .ok (.iconst 0, 1) := by decide +kernel
theorem dX1_step_3 : decode cX1_step 3 = .ok (.iconst 0, 1) := by decide +kernel
theorem dX1_step_4 : decode cX1_step 4 = .ok (.invokevirtual 66, 3) := by decide +kernel
theorem dX1_step_7 : decode cX1_step 7 = .ok (.ireturn, 1) := by decide +kernel
abbrev cX1_run : ByteArray := prog_3_method_11_code
def yX1_run : MethodName := ⟨RX1, "run", "(III)I"⟩
theorem dX1_run_0 : decode cX1_run 0 = .ok (.aload_n 0, 1) := by decide +kernel
theorem dX1_run_1 : decode cX1_run 1 = .ok (.getfield 45, 3) := by decide +kernel
theorem dX1_run_4 : decode cX1_run 4 = .ok (.iconst 4, 1) := by decide +kernel
theorem dX1_run_5 : decode cX1_run 5 = .ok (.if_icmp .lt 8, 3) := by decide +kernel
theorem dX1_run_8 : decode cX1_run 8 = .ok (.aload_n 0, 1) := by decide +kernel
theorem dX1_run_9 : decode cX1_run 9 = .ok (.getfield 45, 3) := by decide +kernel
theorem dX1_run_12 : decode cX1_run 12 = .ok (.ireturn, 1) := by decide +kernel
theorem dX1_run_13 : decode cX1_run 13 = .ok (.aload_n 0, 1) := by decide +kernel
theorem dX1_run_14 : decode cX1_run 14 = .ok (.iconst 3, 1) := by decide +kernel
theorem dX1_run_15 : decode cX1_run 15 = .ok (.putfield 45, 3) := by decide +kernel
theorem dX1_run_18 : decode cX1_run 18 = .ok (.iconst 1, 1) := by decide +kernel
theorem dX1_run_19 : decode cX1_run 19 = .ok (.istore 4, 2) := by decide +kernel
theorem dX1_run_21 : decode cX1_run 21 = .ok (.iconst 0, 1) := by decide +kernel
theorem dX1_run_22 : decode cX1_run 22 = .ok (.istore 5, 2) := by decide +kernel
theorem dX1_run_24 : decode cX1_run 24 = .ok (.iload 5, 2) := by decide +kernel
theorem dX1_run_26 : decode cX1_run 26 = .ok (.sipush 150, 3) := by decide +kernel
theorem dX1_run_29 : decode cX1_run 29 = .ok (.if_icmp .gt 220, 3) := by decide +kernel
theorem dX1_run_32 : decode cX1_run 32 = .ok (.iload 4, 2) := by decide +kernel
theorem dX1_run_34 : decode cX1_run 34 = .ok (.ifCond .eq 215, 3) := by decide +kernel
theorem dX1_run_37 : decode cX1_run 37 = .ok (.iload_n 1, 1) := by decide +kernel
theorem dX1_run_38 : decode cX1_run 38 = .ok (.ifCond .eq 50, 3) := by decide +kernel
theorem dX1_run_41 : decode cX1_run 41 = .ok (.iload_n 1, 1) := by decide +kernel
theorem dX1_run_42 : decode cX1_run 42 = .ok (.iconst 1, 1) := by decide +kernel
theorem dX1_run_43 : decode cX1_run 43 = .ok (.if_icmp .ne 11, 3) := by decide +kernel
theorem dX1_run_46 : decode cX1_run 46 = .ok (.aload_n 0, 1) := by decide +kernel
theorem dX1_run_47 : decode cX1_run 47 = .ok (.getfield 35, 3) := by decide +kernel
theorem dX1_run_50 : decode cX1_run 50 = .ok (.iload_n 2, 1) := by decide +kernel
theorem dX1_run_51 : decode cX1_run 51 = .ok (.if_icmp .eq 37, 3) := by decide +kernel
theorem dX1_run_54 : decode cX1_run 54 = .ok (.iload_n 1, 1) := by decide +kernel
theorem dX1_run_55 : decode cX1_run 55 = .ok (.iconst 2, 1) := by decide +kernel
theorem dX1_run_56 : decode cX1_run 56 = .ok (.if_icmp .ne 11, 3) := by decide +kernel
theorem dX1_run_59 : decode cX1_run 59 = .ok (.aload_n 0, 1) := by decide +kernel
theorem dX1_run_60 : decode cX1_run 60 = .ok (.getfield 32, 3) := by decide +kernel
theorem dX1_run_63 : decode cX1_run 63 = .ok (.iload_n 3, 1) := by decide +kernel
theorem dX1_run_64 : decode cX1_run 64 = .ok (.if_icmp .lt 24, 3) := by decide +kernel
theorem dX1_run_67 : decode cX1_run 67 = .ok (.iload_n 1, 1) := by decide +kernel
theorem dX1_run_68 : decode cX1_run 68 = .ok (.iconst 3, 1) := by decide +kernel
theorem dX1_run_69 : decode cX1_run 69 = .ok (.if_icmp .ne 23, 3) := by decide +kernel
theorem dX1_run_72 : decode cX1_run 72 = .ok (.aload_n 0, 1) := by decide +kernel
theorem dX1_run_73 : decode cX1_run 73 = .ok (.getfield 35, 3) := by decide +kernel
theorem dX1_run_76 : decode cX1_run 76 = .ok (.iload_n 2, 1) := by decide +kernel
theorem dX1_run_77 : decode cX1_run 77 = .ok (.if_icmp .ne 15, 3) := by decide +kernel
theorem dX1_run_80 : decode cX1_run 80 = .ok (.aload_n 0, 1) := by decide +kernel
theorem dX1_run_81 : decode cX1_run 81 = .ok (.getfield 32, 3) := by decide +kernel
theorem dX1_run_84 : decode cX1_run 84 = .ok (.iload_n 3, 1) := by decide +kernel
theorem dX1_run_85 : decode cX1_run 85 = .ok (.if_icmp .ne 7, 3) := by decide +kernel
theorem dX1_run_88 : decode cX1_run 88 = .ok (.iconst 1, 1) := by decide +kernel
theorem dX1_run_89 : decode cX1_run 89 = .ok (.goto 4, 3) := by decide +kernel
theorem dX1_run_92 : decode cX1_run 92 = .ok (.iconst 0, 1) := by decide +kernel
theorem dX1_run_93 : decode cX1_run 93 = .ok (.istore 6, 2) := by decide +kernel
theorem dX1_run_95 : decode cX1_run 95 = .ok (.iconst 0, 1) := by decide +kernel
theorem dX1_run_96 : decode cX1_run 96 = .ok (.istore 4, 2) := by decide +kernel
theorem dX1_run_98 : decode cX1_run 98 = .ok (.aload_n 0, 1) := by decide +kernel
theorem dX1_run_99 : decode cX1_run 99 = .ok (.getfield 41, 3) := by decide +kernel
theorem dX1_run_102 : decode cX1_run 102 = .ok (.ifCond .eq 12, 3) := by decide +kernel
theorem dX1_run_105 : decode cX1_run 105 = .ok (.aload_n 0, 1) := by decide +kernel
theorem dX1_run_106 : decode cX1_run 106 = .ok (.bipush 6, 2) := by decide +kernel
theorem dX1_run_108 : decode cX1_run 108 = .ok (.putfield 45, 3) := by decide +kernel
theorem dX1_run_111 : decode cX1_run 111 = .ok (.goto 132, 3) := by decide +kernel
theorem dX1_run_114 : decode cX1_run 114 = .ok (.aload_n 0, 1) := by decide +kernel
theorem dX1_run_115 : decode cX1_run 115 = .ok (.invokevirtual 51, 3) := by decide +kernel
theorem dX1_run_118 : decode cX1_run 118 = .ok (.ifCond .ne 11, 3) := by decide +kernel
theorem dX1_run_121 : decode cX1_run 121 = .ok (.aload_n 0, 1) := by decide +kernel
theorem dX1_run_122 : decode cX1_run 122 = .ok (.iconst 4, 1) := by decide +kernel
theorem dX1_run_123 : decode cX1_run 123 = .ok (.putfield 45, 3) := by decide +kernel
theorem dX1_run_126 : decode cX1_run 126 = .ok (.goto 117, 3) := by decide +kernel
theorem dX1_run_129 : decode cX1_run 129 = .ok (.aload_n 0, 1) := by decide +kernel
theorem dX1_run_130 : decode cX1_run 130 = .ok (.invokevirtual 59, 3) := by decide +kernel
theorem dX1_run_133 : decode cX1_run 133 = .ok (.ifCond .eq 11, 3) := by decide +kernel
theorem dX1_run_136 : decode cX1_run 136 = .ok (.aload_n 0, 1) := by decide +kernel
theorem dX1_run_137 : decode cX1_run 137 = .ok (.iconst 5, 1) := by decide +kernel
theorem dX1_run_138 : decode cX1_run 138 = .ok (.putfield 45, 3) := by decide +kernel
theorem dX1_run_141 : decode cX1_run 141 = .ok (.goto 102, 3) := by decide +kernel
theorem dX1_run_144 : decode cX1_run 144 = .ok (.iload 5, 2) := by decide +kernel
theorem dX1_run_146 : decode cX1_run 146 = .ok (.ifCond .le 16, 3) := by decide +kernel
theorem dX1_run_149 : decode cX1_run 149 = .ok (.iload 6, 2) := by decide +kernel
theorem dX1_run_151 : decode cX1_run 151 = .ok (.ifCond .eq 11, 3) := by decide +kernel
theorem dX1_run_154 : decode cX1_run 154 = .ok (.aload_n 0, 1) := by decide +kernel
theorem dX1_run_155 : decode cX1_run 155 = .ok (.iconst 1, 1) := by decide +kernel
theorem dX1_run_156 : decode cX1_run 156 = .ok (.putfield 45, 3) := by decide +kernel
theorem dX1_run_159 : decode cX1_run 159 = .ok (.goto 84, 3) := by decide +kernel
theorem dX1_run_162 : decode cX1_run 162 = .ok (.iload 5, 2) := by decide +kernel
theorem dX1_run_164 : decode cX1_run 164 = .ok (.ifCond .le 35, 3) := by decide +kernel
theorem dX1_run_167 : decode cX1_run 167 = .ok (.aload_n 0, 1) := by decide +kernel
theorem dX1_run_168 : decode cX1_run 168 = .ok (.getfield 35, 3) := by decide +kernel
theorem dX1_run_171 : decode cX1_run 171 = .ok (.bipush 20, 2) := by decide +kernel
theorem dX1_run_173 : decode cX1_run 173 = .ok (.if_icmp .ge 26, 3) := by decide +kernel
theorem dX1_run_176 : decode cX1_run 176 = .ok (.aload_n 0, 1) := by decide +kernel
theorem dX1_run_177 : decode cX1_run 177 = .ok (.getfield 48, 3) := by decide +kernel
theorem dX1_run_180 : decode cX1_run 180 = .ok (.aload_n 0, 1) := by decide +kernel
theorem dX1_run_181 : decode cX1_run 181 = .ok (.getfield 35, 3) := by decide +kernel
theorem dX1_run_184 : decode cX1_run 184 = .ok (.ishr, 1) := by decide +kernel
theorem dX1_run_185 : decode cX1_run 185 = .ok (.iconst 1, 1) := by decide +kernel
theorem dX1_run_186 : decode cX1_run 186 = .ok (.iand, 1) := by decide +kernel
theorem dX1_run_187 : decode cX1_run 187 = .ok (.iconst 1, 1) := by decide +kernel
theorem dX1_run_188 : decode cX1_run 188 = .ok (.if_icmp .ne 11, 3) := by decide +kernel
theorem dX1_run_191 : decode cX1_run 191 = .ok (.aload_n 0, 1) := by decide +kernel
theorem dX1_run_192 : decode cX1_run 192 = .ok (.iconst 2, 1) := by decide +kernel
theorem dX1_run_193 : decode cX1_run 193 = .ok (.putfield 45, 3) := by decide +kernel
theorem dX1_run_196 : decode cX1_run 196 = .ok (.goto 47, 3) := by decide +kernel
theorem dX1_run_199 : decode cX1_run 199 = .ok (.iload 5, 2) := by decide +kernel
theorem dX1_run_201 : decode cX1_run 201 = .ok (.sipush 150, 3) := by decide +kernel
theorem dX1_run_204 : decode cX1_run 204 = .ok (.if_icmp .ge 39, 3) := by decide +kernel
theorem dX1_run_207 : decode cX1_run 207 = .ok (.iconst 1, 1) := by decide +kernel
theorem dX1_run_208 : decode cX1_run 208 = .ok (.istore 4, 2) := by decide +kernel
theorem dX1_run_210 : decode cX1_run 210 = .ok (.aload_n 0, 1) := by decide +kernel
theorem dX1_run_211 : decode cX1_run 211 = .ok (.aload_n 0, 1) := by decide +kernel
theorem dX1_run_212 : decode cX1_run 212 = .ok (.getfield 7, 3) := by decide +kernel
theorem dX1_run_215 : decode cX1_run 215 = .ok (.aload_n 0, 1) := by decide +kernel
theorem dX1_run_216 : decode cX1_run 216 = .ok (.getfield 35, 3) := by decide +kernel
theorem dX1_run_219 : decode cX1_run 219 = .ok (.iaload, 1) := by decide +kernel
theorem dX1_run_220 : decode cX1_run 220 = .ok (.aload_n 0, 1) := by decide +kernel
theorem dX1_run_221 : decode cX1_run 221 = .ok (.getfield 13, 3) := by decide +kernel
theorem dX1_run_224 : decode cX1_run 224 = .ok (.aload_n 0, 1) := by decide +kernel
theorem dX1_run_225 : decode cX1_run 225 = .ok (.getfield 35, 3) := by decide +kernel
theorem dX1_run_228 : decode cX1_run 228 = .ok (.iaload, 1) := by decide +kernel
theorem dX1_run_229 : decode cX1_run 229 = .ok (.iconst 3, 1) := by decide +kernel
theorem dX1_run_230 : decode cX1_run 230 = .ok (.iand, 1) := by decide +kernel
theorem dX1_run_231 : decode cX1_run 231 = .ok (.aload_n 0, 1) := by decide +kernel
theorem dX1_run_232 : decode cX1_run 232 = .ok (.getfield 16, 3) := by decide +kernel
theorem dX1_run_235 : decode cX1_run 235 = .ok (.aload_n 0, 1) := by decide +kernel
theorem dX1_run_236 : decode cX1_run 236 = .ok (.getfield 35, 3) := by decide +kernel
theorem dX1_run_239 : decode cX1_run 239 = .ok (.iaload, 1) := by decide +kernel
theorem dX1_run_240 : decode cX1_run 240 = .ok (.invokevirtual 62, 3) := by decide +kernel
theorem dX1_run_243 : decode cX1_run 243 = .ok (.iinc 5 1, 3) := by decide +kernel
theorem dX1_run_246 : decode cX1_run 246 = .ok (.goto (-222), 3) := by decide +kernel
theorem dX1_run_249 : decode cX1_run 249 = .ok (.aload_n 0, 1) := by decide +kernel
theorem dX1_run_250 : decode cX1_run 250 = .ok (.getfield 45, 3) := by decide +kernel
theorem dX1_run_253 : decode cX1_run 253 = .ok (.ireturn, 1) := by decide +kernel
abbrev cX1_inside : ByteArray := prog_3_method_8_code
def yX1_inside : MethodName := ⟨RX1, "inside", "()Z"⟩
theorem dX1_inside_0 : decode cX1_inside 0 = .ok (.aload_n 0, 1) := by decide +kernel
theorem dX1_inside_1 : decode cX1_inside 1 = .ok (.getfield 35, 3) := by decide +kernel
theorem dX1_inside_4 : decode cX1_inside 4 = .ok (.ifCond .lt 18, 3) := by decide +kernel
theorem dX1_inside_7 : decode cX1_inside 7 = .ok (.aload_n 0, 1) := by decide +kernel
theorem dX1_inside_8 : decode cX1_inside 8 = .ok (.getfield 35, 3) := by decide +kernel
theorem dX1_inside_11 : decode cX1_inside 11 = .ok (.aload_n 0, 1) := by decide +kernel
theorem dX1_inside_12 : decode cX1_inside 12 = .ok (.getfield 28, 3) := by decide +kernel
theorem dX1_inside_15 : decode cX1_inside 15 = .ok (.if_icmp .ge 7, 3) := by decide +kernel
theorem dX1_inside_18 : decode cX1_inside 18 = .ok (.iconst 1, 1) := by decide +kernel
theorem dX1_inside_19 : decode cX1_inside 19 = .ok (.goto 4, 3) := by decide +kernel
theorem dX1_inside_22 : decode cX1_inside 22 = .ok (.iconst 0, 1) := by decide +kernel
theorem dX1_inside_23 : decode cX1_inside 23 = .ok (.ireturn, 1) := by decide +kernel
abbrev cX1_faulty : ByteArray := prog_3_method_10_code
def yX1_faulty : MethodName := ⟨RX1, "faulty", "()Z"⟩
theorem dX1_faulty_0 : decode cX1_faulty 0 = .ok (.aload_n 0, 1) := by decide +kernel
theorem dX1_faulty_1 : decode cX1_faulty 1 = .ok (.invokevirtual 55, 3) := by decide +kernel
theorem dX1_faulty_4 : decode cX1_faulty 4 = .ok (.istore_n 1, 1) := by decide +kernel
theorem dX1_faulty_5 : decode cX1_faulty 5 = .ok (.iload_n 1, 1) := by decide +kernel
theorem dX1_faulty_6 : decode cX1_faulty 6 = .ok (.bipush 7, 2) := by decide +kernel
theorem dX1_faulty_8 : decode cX1_faulty 8 = .ok (.if_icmp .ne 12, 3) := by decide +kernel
theorem dX1_faulty_11 : decode cX1_faulty 11 = .ok (.aload_n 0, 1) := by decide +kernel
theorem dX1_faulty_12 : decode cX1_faulty 12 = .ok (.getfield 32, 3) := by decide +kernel
theorem dX1_faulty_15 : decode cX1_faulty 15 = .ok (.bipush 6, 2) := by decide +kernel
theorem dX1_faulty_17 : decode cX1_faulty 17 = .ok (.if_icmp .ge 16, 3) := by decide +kernel
theorem dX1_faulty_20 : decode cX1_faulty 20 = .ok (.iload_n 1, 1) := by decide +kernel
theorem dX1_faulty_21 : decode cX1_faulty 21 = .ok (.bipush 8, 2) := by decide +kernel
theorem dX1_faulty_23 : decode cX1_faulty 23 = .ok (.if_icmp .ne 14, 3) := by decide +kernel
theorem dX1_faulty_26 : decode cX1_faulty 26 = .ok (.aload_n 0, 1) := by decide +kernel
theorem dX1_faulty_27 : decode cX1_faulty 27 = .ok (.getfield 32, 3) := by decide +kernel
theorem dX1_faulty_30 : decode cX1_faulty 30 = .ok (.ifCond .gt 7, 3) := by decide +kernel
theorem dX1_faulty_33 : decode cX1_faulty 33 = .ok (.iconst 1, 1) := by decide +kernel
theorem dX1_faulty_34 : decode cX1_faulty 34 = .ok (.goto 4, 3) := by decide +kernel
theorem dX1_faulty_37 : decode cX1_faulty 37 = .ok (.iconst 0, 1) := by decide +kernel
theorem dX1_faulty_38 : decode cX1_faulty 38 = .ok (.ireturn, 1) := by decide +kernel
abbrev cX1_here : ByteArray := prog_3_method_9_code
def yX1_here : MethodName := ⟨RX1, "here", "()I"⟩
theorem dX1_here_0 : decode cX1_here 0 = .ok (.aload_n 0, 1) := by decide +kernel
theorem dX1_here_1 : decode cX1_here 1 = .ok (.invokevirtual 51, 3) := by decide +kernel
theorem dX1_here_4 : decode cX1_here 4 = .ok (.ifCond .eq 15, 3) := by decide +kernel
theorem dX1_here_7 : decode cX1_here 7 = .ok (.aload_n 0, 1) := by decide +kernel
theorem dX1_here_8 : decode cX1_here 8 = .ok (.getfield 7, 3) := by decide +kernel
theorem dX1_here_11 : decode cX1_here 11 = .ok (.aload_n 0, 1) := by decide +kernel
theorem dX1_here_12 : decode cX1_here 12 = .ok (.getfield 35, 3) := by decide +kernel
theorem dX1_here_15 : decode cX1_here 15 = .ok (.iaload, 1) := by decide +kernel
theorem dX1_here_16 : decode cX1_here 16 = .ok (.goto 4, 3) := by decide +kernel
theorem dX1_here_19 : decode cX1_here 19 = .ok (.iconst (-1), 1) := by decide +kernel
theorem dX1_here_20 : decode cX1_here 20 = .ok (.ireturn, 1) := by decide +kernel
abbrev cX1_carryOut : ByteArray := prog_3_method_12_code
def yX1_carryOut : MethodName := ⟨RX1, "carryOut", "(III)V"⟩
theorem dX1_carryOut_0 : decode cX1_carryOut 0 = .ok (.aload_n 0, 1) := by decide +kernel
theorem dX1_carryOut_1 : decode cX1_carryOut 1 = .ok (.dup, 1) := by decide +kernel
theorem dX1_carryOut_2 : decode cX1_carryOut 2 = .ok (.getfield 38, 3) := by decide +kernel
theorem dX1_carryOut_5 : decode cX1_carryOut 5 = .ok (.iconst 1, 1) := by decide +kernel
theorem dX1_carryOut_6 : decode cX1_carryOut 6 = .ok (.iadd, 1) := by decide +kernel
theorem dX1_carryOut_7 : decode cX1_carryOut 7 = .ok (.putfield 38, 3) := by decide +kernel
theorem dX1_carryOut_10 : decode cX1_carryOut 10 = .ok (.aload_n 0, 1) := by decide +kernel
theorem dX1_carryOut_11 : decode cX1_carryOut 11 = .ok (.getfield 35, 3) := by decide +kernel
theorem dX1_carryOut_14 : decode cX1_carryOut 14 = .ok (.iconst 1, 1) := by decide +kernel
theorem dX1_carryOut_15 : decode cX1_carryOut 15 = .ok (.iadd, 1) := by decide +kernel
theorem dX1_carryOut_16 : decode cX1_carryOut 16 = .ok (.istore 4, 2) := by decide +kernel
theorem dX1_carryOut_18 : decode cX1_carryOut 18 = .ok (.iload_n 1, 1) := by decide +kernel
theorem dX1_carryOut_19 : decode cX1_carryOut 19 = .ok (.ifCond .ne 13, 3) := by decide +kernel
theorem dX1_carryOut_22 : decode cX1_carryOut 22 = .ok (.aload_n 0, 1) := by decide +kernel
theorem dX1_carryOut_23 : decode cX1_carryOut 23 = .ok (.getfield 19, 3) := by decide +kernel
theorem dX1_carryOut_26 : decode cX1_carryOut 26 = .ok (.iload_n 2, 1) := by decide +kernel
theorem dX1_carryOut_27 : decode cX1_carryOut 27 = .ok (.iload_n 3, 1) := by decide +kernel
theorem dX1_carryOut_28 : decode cX1_carryOut 28 = .ok (.iastore, 1) := by decide +kernel
theorem dX1_carryOut_29 : decode cX1_carryOut 29 = .ok (.goto 287, 3) := by decide +kernel
theorem dX1_carryOut_32 : decode cX1_carryOut 32 = .ok (.iload_n 1, 1) := by decide +kernel
theorem dX1_carryOut_33 : decode cX1_carryOut 33 = .ok (.iconst 1, 1) := by decide +kernel
theorem dX1_carryOut_34 : decode cX1_carryOut 34 = .ok (.if_icmp .ne 27, 3) := by decide +kernel
theorem dX1_carryOut_37 : decode cX1_carryOut 37 = .ok (.aload_n 0, 1) := by decide +kernel
theorem dX1_carryOut_38 : decode cX1_carryOut 38 = .ok (.getfield 19, 3) := by decide +kernel
theorem dX1_carryOut_41 : decode cX1_carryOut 41 = .ok (.iload_n 2, 1) := by decide +kernel
theorem dX1_carryOut_42 : decode cX1_carryOut 42 = .ok (.aload_n 0, 1) := by decide +kernel
theorem dX1_carryOut_43 : decode cX1_carryOut 43 = .ok (.getfield 19, 3) := by decide +kernel
theorem dX1_carryOut_46 : decode cX1_carryOut 46 = .ok (.iload_n 2, 1) := by decide +kernel
theorem dX1_carryOut_47 : decode cX1_carryOut 47 = .ok (.iaload, 1) := by decide +kernel
theorem dX1_carryOut_48 : decode cX1_carryOut 48 = .ok (.aload_n 0, 1) := by decide +kernel
theorem dX1_carryOut_49 : decode cX1_carryOut 49 = .ok (.getfield 19, 3) := by decide +kernel
theorem dX1_carryOut_52 : decode cX1_carryOut 52 = .ok (.iload_n 3, 1) := by decide +kernel
theorem dX1_carryOut_53 : decode cX1_carryOut 53 = .ok (.iconst 3, 1) := by decide +kernel
theorem dX1_carryOut_54 : decode cX1_carryOut 54 = .ok (.iand, 1) := by decide +kernel
theorem dX1_carryOut_55 : decode cX1_carryOut 55 = .ok (.iaload, 1) := by decide +kernel
theorem dX1_carryOut_56 : decode cX1_carryOut 56 = .ok (.iadd, 1) := by decide +kernel
theorem dX1_carryOut_57 : decode cX1_carryOut 57 = .ok (.iastore, 1) := by decide +kernel
theorem dX1_carryOut_58 : decode cX1_carryOut 58 = .ok (.goto 258, 3) := by decide +kernel
theorem dX1_carryOut_61 : decode cX1_carryOut 61 = .ok (.iload_n 1, 1) := by decide +kernel
theorem dX1_carryOut_62 : decode cX1_carryOut 62 = .ok (.iconst 2, 1) := by decide +kernel
theorem dX1_carryOut_63 : decode cX1_carryOut 63 = .ok (.if_icmp .ne 27, 3) := by decide +kernel
theorem dX1_carryOut_66 : decode cX1_carryOut 66 = .ok (.aload_n 0, 1) := by decide +kernel
theorem dX1_carryOut_67 : decode cX1_carryOut 67 = .ok (.getfield 19, 3) := by decide +kernel
theorem dX1_carryOut_70 : decode cX1_carryOut 70 = .ok (.iload_n 2, 1) := by decide +kernel
theorem dX1_carryOut_71 : decode cX1_carryOut 71 = .ok (.aload_n 0, 1) := by decide +kernel
theorem dX1_carryOut_72 : decode cX1_carryOut 72 = .ok (.getfield 19, 3) := by decide +kernel
theorem dX1_carryOut_75 : decode cX1_carryOut 75 = .ok (.iload_n 2, 1) := by decide +kernel
theorem dX1_carryOut_76 : decode cX1_carryOut 76 = .ok (.iaload, 1) := by decide +kernel
theorem dX1_carryOut_77 : decode cX1_carryOut 77 = .ok (.aload_n 0, 1) := by decide +kernel
theorem dX1_carryOut_78 : decode cX1_carryOut 78 = .ok (.getfield 19, 3) := by decide +kernel
theorem dX1_carryOut_81 : decode cX1_carryOut 81 = .ok (.iload_n 3, 1) := by decide +kernel
theorem dX1_carryOut_82 : decode cX1_carryOut 82 = .ok (.iconst 3, 1) := by decide +kernel
theorem dX1_carryOut_83 : decode cX1_carryOut 83 = .ok (.iand, 1) := by decide +kernel
theorem dX1_carryOut_84 : decode cX1_carryOut 84 = .ok (.iaload, 1) := by decide +kernel
theorem dX1_carryOut_85 : decode cX1_carryOut 85 = .ok (.isub, 1) := by decide +kernel
theorem dX1_carryOut_86 : decode cX1_carryOut 86 = .ok (.iastore, 1) := by decide +kernel
theorem dX1_carryOut_87 : decode cX1_carryOut 87 = .ok (.goto 229, 3) := by decide +kernel
theorem dX1_carryOut_90 : decode cX1_carryOut 90 = .ok (.iload_n 1, 1) := by decide +kernel
theorem dX1_carryOut_91 : decode cX1_carryOut 91 = .ok (.iconst 3, 1) := by decide +kernel
theorem dX1_carryOut_92 : decode cX1_carryOut 92 = .ok (.if_icmp .ne 28, 3) := by decide +kernel
theorem dX1_carryOut_95 : decode cX1_carryOut 95 = .ok (.aload_n 0, 1) := by decide +kernel
theorem dX1_carryOut_96 : decode cX1_carryOut 96 = .ok (.getfield 19, 3) := by decide +kernel
theorem dX1_carryOut_99 : decode cX1_carryOut 99 = .ok (.iload_n 2, 1) := by decide +kernel
theorem dX1_carryOut_100 : decode cX1_carryOut 100 = .ok (.aload_n 0, 1) := by decide +kernel
theorem dX1_carryOut_101 : decode cX1_carryOut 101 = .ok (.getfield 22, 3) := by decide +kernel
theorem dX1_carryOut_104 : decode cX1_carryOut 104 = .ok (.aload_n 0, 1) := by decide +kernel
theorem dX1_carryOut_105 : decode cX1_carryOut 105 = .ok (.getfield 19, 3) := by decide +kernel
theorem dX1_carryOut_108 : decode cX1_carryOut 108 = .ok (.iload_n 3, 1) := by decide +kernel
theorem dX1_carryOut_109 : decode cX1_carryOut 109 = .ok (.iconst 3, 1) := by decide +kernel
theorem dX1_carryOut_110 : decode cX1_carryOut 110 = .ok (.iand, 1) := by decide +kernel
theorem dX1_carryOut_111 : decode cX1_carryOut 111 = .ok (.iaload, 1) := by decide +kernel
theorem dX1_carryOut_112 : decode cX1_carryOut 112 = .ok (.bipush 7, 2) := by decide +kernel
theorem dX1_carryOut_114 : decode cX1_carryOut 114 = .ok (.iand, 1) := by decide +kernel
theorem dX1_carryOut_115 : decode cX1_carryOut 115 = .ok (.iaload, 1) := by decide +kernel
theorem dX1_carryOut_116 : decode cX1_carryOut 116 = .ok (.iastore, 1) := by decide +kernel
theorem dX1_carryOut_117 : decode cX1_carryOut 117 = .ok (.goto 199, 3) := by decide +kernel
theorem dX1_carryOut_120 : decode cX1_carryOut 120 = .ok (.iload_n 1, 1) := by decide +kernel
theorem dX1_carryOut_121 : decode cX1_carryOut 121 = .ok (.iconst 4, 1) := by decide +kernel
theorem dX1_carryOut_122 : decode cX1_carryOut 122 = .ok (.if_icmp .ne 28, 3) := by decide +kernel
theorem dX1_carryOut_125 : decode cX1_carryOut 125 = .ok (.aload_n 0, 1) := by decide +kernel
theorem dX1_carryOut_126 : decode cX1_carryOut 126 = .ok (.getfield 22, 3) := by decide +kernel
theorem dX1_carryOut_129 : decode cX1_carryOut 129 = .ok (.aload_n 0, 1) := by decide +kernel
theorem dX1_carryOut_130 : decode cX1_carryOut 130 = .ok (.getfield 19, 3) := by decide +kernel
theorem dX1_carryOut_133 : decode cX1_carryOut 133 = .ok (.iload_n 3, 1) := by decide +kernel
theorem dX1_carryOut_134 : decode cX1_carryOut 134 = .ok (.iconst 3, 1) := by decide +kernel
theorem dX1_carryOut_135 : decode cX1_carryOut 135 = .ok (.iand, 1) := by decide +kernel
theorem dX1_carryOut_136 : decode cX1_carryOut 136 = .ok (.iaload, 1) := by decide +kernel
theorem dX1_carryOut_137 : decode cX1_carryOut 137 = .ok (.bipush 7, 2) := by decide +kernel
theorem dX1_carryOut_139 : decode cX1_carryOut 139 = .ok (.iand, 1) := by decide +kernel
theorem dX1_carryOut_140 : decode cX1_carryOut 140 = .ok (.aload_n 0, 1) := by decide +kernel
theorem dX1_carryOut_141 : decode cX1_carryOut 141 = .ok (.getfield 19, 3) := by decide +kernel
theorem dX1_carryOut_144 : decode cX1_carryOut 144 = .ok (.iload_n 2, 1) := by decide +kernel
theorem dX1_carryOut_145 : decode cX1_carryOut 145 = .ok (.iaload, 1) := by decide +kernel
theorem dX1_carryOut_146 : decode cX1_carryOut 146 = .ok (.iastore, 1) := by decide +kernel
theorem dX1_carryOut_147 : decode cX1_carryOut 147 = .ok (.goto 169, 3) := by decide +kernel
theorem dX1_carryOut_150 : decode cX1_carryOut 150 = .ok (.iload_n 1, 1) := by decide +kernel
theorem dX1_carryOut_151 : decode cX1_carryOut 151 = .ok (.iconst 5, 1) := by decide +kernel
theorem dX1_carryOut_152 : decode cX1_carryOut 152 = .ok (.if_icmp .ne 23, 3) := by decide +kernel
theorem dX1_carryOut_155 : decode cX1_carryOut 155 = .ok (.aload_n 0, 1) := by decide +kernel
theorem dX1_carryOut_156 : decode cX1_carryOut 156 = .ok (.getfield 19, 3) := by decide +kernel
theorem dX1_carryOut_159 : decode cX1_carryOut 159 = .ok (.iload_n 2, 1) := by decide +kernel
theorem dX1_carryOut_160 : decode cX1_carryOut 160 = .ok (.iaload, 1) := by decide +kernel
theorem dX1_carryOut_161 : decode cX1_carryOut 161 = .ok (.ifCond .ne 7, 3) := by decide +kernel
theorem dX1_carryOut_164 : decode cX1_carryOut 164 = .ok (.iload_n 3, 1) := by decide +kernel
theorem dX1_carryOut_165 : decode cX1_carryOut 165 = .ok (.goto 5, 3) := by decide +kernel
theorem dX1_carryOut_168 : decode cX1_carryOut 168 = .ok (.iload 4, 2) := by decide +kernel
theorem dX1_carryOut_170 : decode cX1_carryOut 170 = .ok (.istore 4, 2) := by decide +kernel
theorem dX1_carryOut_172 : decode cX1_carryOut 172 = .ok (.goto 144, 3) := by decide +kernel
theorem dX1_carryOut_175 : decode cX1_carryOut 175 = .ok (.iload_n 1, 1) := by decide +kernel
theorem dX1_carryOut_176 : decode cX1_carryOut 176 = .ok (.bipush 6, 2) := by decide +kernel
theorem dX1_carryOut_178 : decode cX1_carryOut 178 = .ok (.if_icmp .ne 9, 3) := by decide +kernel
theorem dX1_carryOut_181 : decode cX1_carryOut 181 = .ok (.iload_n 3, 1) := by decide +kernel
theorem dX1_carryOut_182 : decode cX1_carryOut 182 = .ok (.istore 4, 2) := by decide +kernel
theorem dX1_carryOut_184 : decode cX1_carryOut 184 = .ok (.goto 132, 3) := by decide +kernel
theorem dX1_carryOut_187 : decode cX1_carryOut 187 = .ok (.iload_n 1, 1) := by decide +kernel
theorem dX1_carryOut_188 : decode cX1_carryOut 188 = .ok (.bipush 7, 2) := by decide +kernel
theorem dX1_carryOut_190 : decode cX1_carryOut 190 = .ok (.if_icmp .ne 46, 3) := by decide +kernel
theorem dX1_carryOut_193 : decode cX1_carryOut 193 = .ok (.aload_n 0, 1) := by decide +kernel
theorem dX1_carryOut_194 : decode cX1_carryOut 194 = .ok (.getfield 32, 3) := by decide +kernel
theorem dX1_carryOut_197 : decode cX1_carryOut 197 = .ok (.ifCond .lt 39, 3) := by decide +kernel
theorem dX1_carryOut_200 : decode cX1_carryOut 200 = .ok (.aload_n 0, 1) := by decide +kernel
theorem dX1_carryOut_201 : decode cX1_carryOut 201 = .ok (.getfield 32, 3) := by decide +kernel
theorem dX1_carryOut_204 : decode cX1_carryOut 204 = .ok (.bipush 6, 2) := by decide +kernel
theorem dX1_carryOut_206 : decode cX1_carryOut 206 = .ok (.if_icmp .ge 30, 3) := by decide +kernel
theorem dX1_carryOut_209 : decode cX1_carryOut 209 = .ok (.aload_n 0, 1) := by decide +kernel
theorem dX1_carryOut_210 : decode cX1_carryOut 210 = .ok (.getfield 25, 3) := by decide +kernel
theorem dX1_carryOut_213 : decode cX1_carryOut 213 = .ok (.aload_n 0, 1) := by decide +kernel
theorem dX1_carryOut_214 : decode cX1_carryOut 214 = .ok (.getfield 32, 3) := by decide +kernel
theorem dX1_carryOut_217 : decode cX1_carryOut 217 = .ok (.iload 4, 2) := by decide +kernel
theorem dX1_carryOut_219 : decode cX1_carryOut 219 = .ok (.iastore, 1) := by decide +kernel
theorem dX1_carryOut_220 : decode cX1_carryOut 220 = .ok (.aload_n 0, 1) := by decide +kernel
theorem dX1_carryOut_221 : decode cX1_carryOut 221 = .ok (.dup, 1) := by decide +kernel
theorem dX1_carryOut_222 : decode cX1_carryOut 222 = .ok (.getfield 32, 3) := by decide +kernel
theorem dX1_carryOut_225 : decode cX1_carryOut 225 = .ok (.iconst 1, 1) := by decide +kernel
theorem dX1_carryOut_226 : decode cX1_carryOut 226 = .ok (.iadd, 1) := by decide +kernel
theorem dX1_carryOut_227 : decode cX1_carryOut 227 = .ok (.putfield 32, 3) := by decide +kernel
theorem dX1_carryOut_230 : decode cX1_carryOut 230 = .ok (.iload_n 3, 1) := by decide +kernel
theorem dX1_carryOut_231 : decode cX1_carryOut 231 = .ok (.istore 4, 2) := by decide +kernel
theorem dX1_carryOut_233 : decode cX1_carryOut 233 = .ok (.goto 83, 3) := by decide +kernel
theorem dX1_carryOut_236 : decode cX1_carryOut 236 = .ok (.iload_n 1, 1) := by decide +kernel
theorem dX1_carryOut_237 : decode cX1_carryOut 237 = .ok (.bipush 8, 2) := by decide +kernel
theorem dX1_carryOut_239 : decode cX1_carryOut 239 = .ok (.if_icmp .ne 43, 3) := by decide +kernel
theorem dX1_carryOut_242 : decode cX1_carryOut 242 = .ok (.aload_n 0, 1) := by decide +kernel
theorem dX1_carryOut_243 : decode cX1_carryOut 243 = .ok (.getfield 32, 3) := by decide +kernel
theorem dX1_carryOut_246 : decode cX1_carryOut 246 = .ok (.ifCond .le 36, 3) := by decide +kernel
theorem dX1_carryOut_249 : decode cX1_carryOut 249 = .ok (.aload_n 0, 1) := by decide +kernel
theorem dX1_carryOut_250 : decode cX1_carryOut 250 = .ok (.getfield 32, 3) := by decide +kernel
theorem dX1_carryOut_253 : decode cX1_carryOut 253 = .ok (.bipush 6, 2) := by decide +kernel
theorem dX1_carryOut_255 : decode cX1_carryOut 255 = .ok (.if_icmp .gt 27, 3) := by decide +kernel
theorem dX1_carryOut_258 : decode cX1_carryOut 258 = .ok (.aload_n 0, 1) := by decide +kernel
theorem dX1_carryOut_259 : decode cX1_carryOut 259 = .ok (.dup, 1) := by decide +kernel
theorem dX1_carryOut_260 : decode cX1_carryOut 260 = .ok (.getfield 32, 3) := by decide +kernel
theorem dX1_carryOut_263 : decode cX1_carryOut 263 = .ok (.iconst 1, 1) := by decide +kernel
theorem dX1_carryOut_264 : decode cX1_carryOut 264 = .ok (.isub, 1) := by decide +kernel
theorem dX1_carryOut_265 : decode cX1_carryOut 265 = .ok (.putfield 32, 3) := by decide +kernel
theorem dX1_carryOut_268 : decode cX1_carryOut 268 = .ok (.aload_n 0, 1) := by decide +kernel
theorem dX1_carryOut_269 : decode cX1_carryOut 269 = .ok (.getfield 25, 3) := by decide +kernel
theorem dX1_carryOut_272 : decode cX1_carryOut 272 = .ok (.aload_n 0, 1) := by decide +kernel
theorem dX1_carryOut_273 : decode cX1_carryOut 273 = .ok (.getfield 32, 3) := by decide +kernel
theorem dX1_carryOut_276 : decode cX1_carryOut 276 = .ok (.iaload, 1) := by decide +kernel
theorem dX1_carryOut_277 : decode cX1_carryOut 277 = .ok (.istore 4, 2) := by decide +kernel
theorem dX1_carryOut_279 : decode cX1_carryOut 279 = .ok (.goto 37, 3) := by decide +kernel
theorem dX1_carryOut_282 : decode cX1_carryOut 282 = .ok (.iload_n 1, 1) := by decide +kernel
theorem dX1_carryOut_283 : decode cX1_carryOut 283 = .ok (.bipush 9, 2) := by decide +kernel
theorem dX1_carryOut_285 : decode cX1_carryOut 285 = .ok (.if_icmp .ne 14, 3) := by decide +kernel
theorem dX1_carryOut_288 : decode cX1_carryOut 288 = .ok (.aload_n 0, 1) := by decide +kernel
theorem dX1_carryOut_289 : decode cX1_carryOut 289 = .ok (.getfield 19, 3) := by decide +kernel
theorem dX1_carryOut_292 : decode cX1_carryOut 292 = .ok (.iload_n 2, 1) := by decide +kernel
theorem dX1_carryOut_293 : decode cX1_carryOut 293 = .ok (.iaload, 1) := by decide +kernel
theorem dX1_carryOut_294 : decode cX1_carryOut 294 = .ok (.istore 4, 2) := by decide +kernel
theorem dX1_carryOut_296 : decode cX1_carryOut 296 = .ok (.goto 20, 3) := by decide +kernel
theorem dX1_carryOut_299 : decode cX1_carryOut 299 = .ok (.iload_n 1, 1) := by decide +kernel
theorem dX1_carryOut_300 : decode cX1_carryOut 300 = .ok (.bipush 10, 2) := by decide +kernel
theorem dX1_carryOut_302 : decode cX1_carryOut 302 = .ok (.if_icmp .ne 14, 3) := by decide +kernel
theorem dX1_carryOut_305 : decode cX1_carryOut 305 = .ok (.aload_n 0, 1) := by decide +kernel
theorem dX1_carryOut_306 : decode cX1_carryOut 306 = .ok (.iconst 1, 1) := by decide +kernel
theorem dX1_carryOut_307 : decode cX1_carryOut 307 = .ok (.putfield 41, 3) := by decide +kernel
theorem dX1_carryOut_310 : decode cX1_carryOut 310 = .ok (.aload_n 0, 1) := by decide +kernel
theorem dX1_carryOut_311 : decode cX1_carryOut 311 = .ok (.getfield 35, 3) := by decide +kernel
theorem dX1_carryOut_314 : decode cX1_carryOut 314 = .ok (.istore 4, 2) := by decide +kernel
theorem dX1_carryOut_316 : decode cX1_carryOut 316 = .ok (.aload_n 0, 1) := by decide +kernel
theorem dX1_carryOut_317 : decode cX1_carryOut 317 = .ok (.iload 4, 2) := by decide +kernel
theorem dX1_carryOut_319 : decode cX1_carryOut 319 = .ok (.putfield 35, 3) := by decide +kernel
theorem dX1_carryOut_322 : decode cX1_carryOut 322 = .ok (.return_, 1) := by decide +kernel
abbrev cX1_stepOver : ByteArray := prog_3_method_14_code
def yX1_stepOver : MethodName := ⟨RX1, "stepOver", "()I"⟩
theorem dX1_stepOver_0 : decode cX1_stepOver 0 = .ok (.aload_n 0, 1) := by decide +kernel
theorem dX1_stepOver_1 : decode cX1_stepOver 1 = .ok (.invokevirtual 55, 3) := by decide +kernel
theorem dX1_stepOver_4 : decode cX1_stepOver 4 = .ok (.bipush 7, 2) := by decide +kernel
theorem dX1_stepOver_6 : decode cX1_stepOver 6 = .ok (.if_icmp .ne 16, 3) := by decide +kernel
theorem dX1_stepOver_9 : decode cX1_stepOver 9 = .ok (.aload_n 0, 1) := by decide +kernel
theorem dX1_stepOver_10 : decode cX1_stepOver 10 = .ok (.getfield 32, 3) := by decide +kernel
theorem dX1_stepOver_13 : decode cX1_stepOver 13 = .ok (.bipush 6, 2) := by decide +kernel
theorem dX1_stepOver_15 : decode cX1_stepOver 15 = .ok (.if_icmp .ge 7, 3) := by decide +kernel
theorem dX1_stepOver_18 : decode cX1_stepOver 18 = .ok (.iconst 1, 1) := by decide +kernel
theorem dX1_stepOver_19 : decode cX1_stepOver 19 = .ok (.goto 4, 3) := by decide +kernel
theorem dX1_stepOver_22 : decode cX1_stepOver 22 = .ok (.iconst 0, 1) := by decide +kernel
theorem dX1_stepOver_23 : decode cX1_stepOver 23 = .ok (.istore_n 1, 1) := by decide +kernel
theorem dX1_stepOver_24 : decode cX1_stepOver 24 = .ok (.iload_n 1, 1) := by decide +kernel
theorem dX1_stepOver_25 : decode cX1_stepOver 25 = .ok (.ifCond .eq 21, 3) := by decide +kernel
theorem dX1_stepOver_28 : decode cX1_stepOver 28 = .ok (.aload_n 0, 1) := by decide +kernel
theorem dX1_stepOver_29 : decode cX1_stepOver 29 = .ok (.iconst 3, 1) := by decide +kernel
theorem dX1_stepOver_30 : decode cX1_stepOver 30 = .ok (.aload_n 0, 1) := by decide +kernel
theorem dX1_stepOver_31 : decode cX1_stepOver 31 = .ok (.getfield 35, 3) := by decide +kernel
theorem dX1_stepOver_34 : decode cX1_stepOver 34 = .ok (.iconst 1, 1) := by decide +kernel
theorem dX1_stepOver_35 : decode cX1_stepOver 35 = .ok (.iadd, 1) := by decide +kernel
theorem dX1_stepOver_36 : decode cX1_stepOver 36 = .ok (.aload_n 0, 1) := by decide +kernel
theorem dX1_stepOver_37 : decode cX1_stepOver 37 = .ok (.getfield 32, 3) := by decide +kernel
theorem dX1_stepOver_40 : decode cX1_stepOver 40 = .ok (.invokevirtual 66, 3) := by decide +kernel
theorem dX1_stepOver_43 : decode cX1_stepOver 43 = .ok (.goto 10, 3) := by decide +kernel
theorem dX1_stepOver_46 : decode cX1_stepOver 46 = .ok (.aload_n 0, 1) := by decide +kernel
theorem dX1_stepOver_47 : decode cX1_stepOver 47 = .ok (.iconst 0, 1) := by decide +kernel
theorem dX1_stepOver_48 : decode cX1_stepOver 48 = .ok (.iconst 0, 1) := by decide +kernel
theorem dX1_stepOver_49 : decode cX1_stepOver 49 = .ok (.iconst 0, 1) := by decide +kernel
theorem dX1_stepOver_50 : decode cX1_stepOver 50 = .ok (.invokevirtual 66, 3) := by decide +kernel
theorem dX1_stepOver_53 : decode cX1_stepOver 53 = .ok (.ireturn, 1) := by decide +kernel
abbrev cX1_stepOut : ByteArray := prog_3_method_15_code
def yX1_stepOut : MethodName := ⟨RX1, "stepOut", "()I"⟩
theorem dX1_stepOut_0 : decode cX1_stepOut 0 = .ok (.aload_n 0, 1) := by decide +kernel
theorem dX1_stepOut_1 : decode cX1_stepOut 1 = .ok (.iconst 2, 1) := by decide +kernel
theorem dX1_stepOut_2 : decode cX1_stepOut 2 = .ok (.iconst 0, 1) := by decide +kernel
theorem dX1_stepOut_3 : decode cX1_stepOut 3 = .ok (.aload_n 0, 1) := by decide +kernel
theorem dX1_stepOut_4 : decode cX1_stepOut 4 = .ok (.getfield 32, 3) := by decide +kernel
theorem dX1_stepOut_7 : decode cX1_stepOut 7 = .ok (.invokevirtual 66, 3) := by decide +kernel
theorem dX1_stepOut_10 : decode cX1_stepOut 10 = .ok (.ireturn, 1) := by decide +kernel
abbrev cX1_go : ByteArray := prog_3_method_16_code
def yX1_go : MethodName := ⟨RX1, "go", "()I"⟩
theorem dX1_go_0 : decode cX1_go 0 = .ok (.aload_n 0, 1) := by decide +kernel
theorem dX1_go_1 : decode cX1_go 1 = .ok (.iconst 4, 1) := by decide +kernel
theorem dX1_go_2 : decode cX1_go 2 = .ok (.iconst 0, 1) := by decide +kernel
theorem dX1_go_3 : decode cX1_go 3 = .ok (.iconst 0, 1) := by decide +kernel
theorem dX1_go_4 : decode cX1_go 4 = .ok (.invokevirtual 66, 3) := by decide +kernel
theorem dX1_go_7 : decode cX1_go 7 = .ok (.ireturn, 1) := by decide +kernel
abbrev cX1_goTo : ByteArray := prog_3_method_17_code
def yX1_goTo : MethodName := ⟨RX1, "goTo", "(I)I"⟩
theorem dX1_goTo_0 : decode cX1_goTo 0 = .ok (.aload_n 0, 1) := by decide +kernel
theorem dX1_goTo_1 : decode cX1_goTo 1 = .ok (.iconst 1, 1) := by decide +kernel
theorem dX1_goTo_2 : decode cX1_goTo 2 = .ok (.iload_n 1, 1) := by decide +kernel
theorem dX1_goTo_3 : decode cX1_goTo 3 = .ok (.iconst 0, 1) := by decide +kernel
theorem dX1_goTo_4 : decode cX1_goTo 4 = .ok (.invokevirtual 66, 3) := by decide +kernel
theorem dX1_goTo_7 : decode cX1_goTo 7 = .ok (.ireturn, 1) := by decide +kernel
abbrev cX1_reason : ByteArray := prog_3_method_18_code
def yX1_reason : MethodName := ⟨RX1, "reason", "()I"⟩
theorem dX1_reason_0 : decode cX1_reason 0 = .ok (.aload_n 0, 1) := by decide +kernel
theorem dX1_reason_1 : decode cX1_reason 1 = .ok (.getfield 45, 3) := by decide +kernel
theorem dX1_reason_4 : decode cX1_reason 4 = .ok (.ireturn, 1) := by decide +kernel
abbrev cX1_position : ByteArray := prog_3_method_19_code
def yX1_position : MethodName := ⟨RX1, "position", "()I"⟩
theorem dX1_position_0 : decode cX1_position 0 = .ok (.aload_n 0, 1) := by decide +kernel
theorem dX1_position_1 : decode cX1_position 1 = .ok (.getfield 35, 3) := by decide +kernel
theorem dX1_position_4 : decode cX1_position 4 = .ok (.ireturn, 1) := by decide +kernel
abbrev cX1_peek : ByteArray := prog_3_method_20_code
def yX1_peek : MethodName := ⟨RX1, "peek", "(I)I"⟩
theorem dX1_peek_0 : decode cX1_peek 0 = .ok (.iload_n 1, 1) := by decide +kernel
theorem dX1_peek_1 : decode cX1_peek 1 = .ok (.ifCond .lt 15, 3) := by decide +kernel
theorem dX1_peek_4 : decode cX1_peek 4 = .ok (.iload_n 1, 1) := by decide +kernel
theorem dX1_peek_5 : decode cX1_peek 5 = .ok (.iconst 3, 1) := by decide +kernel
theorem dX1_peek_6 : decode cX1_peek 6 = .ok (.if_icmp .gt 10, 3) := by decide +kernel
theorem dX1_peek_9 : decode cX1_peek 9 = .ok (.aload_n 0, 1) := by decide +kernel
theorem dX1_peek_10 : decode cX1_peek 10 = .ok (.getfield 19, 3) := by decide +kernel
theorem dX1_peek_13 : decode cX1_peek 13 = .ok (.iload_n 1, 1) := by decide +kernel
theorem dX1_peek_14 : decode cX1_peek 14 = .ok (.iaload, 1) := by decide +kernel
theorem dX1_peek_15 : decode cX1_peek 15 = .ok (.ireturn, 1) := by decide +kernel
theorem dX1_peek_16 : decode cX1_peek 16 = .ok (.iload_n 1, 1) := by decide +kernel
theorem dX1_peek_17 : decode cX1_peek 17 = .ok (.bipush 8, 2) := by decide +kernel
theorem dX1_peek_19 : decode cX1_peek 19 = .ok (.if_icmp .lt 19, 3) := by decide +kernel
theorem dX1_peek_22 : decode cX1_peek 22 = .ok (.iload_n 1, 1) := by decide +kernel
theorem dX1_peek_23 : decode cX1_peek 23 = .ok (.bipush 15, 2) := by decide +kernel
theorem dX1_peek_25 : decode cX1_peek 25 = .ok (.if_icmp .gt 13, 3) := by decide +kernel
theorem dX1_peek_28 : decode cX1_peek 28 = .ok (.aload_n 0, 1) := by decide +kernel
theorem dX1_peek_29 : decode cX1_peek 29 = .ok (.getfield 22, 3) := by decide +kernel
theorem dX1_peek_32 : decode cX1_peek 32 = .ok (.iload_n 1, 1) := by decide +kernel
theorem dX1_peek_33 : decode cX1_peek 33 = .ok (.bipush 8, 2) := by decide +kernel
theorem dX1_peek_35 : decode cX1_peek 35 = .ok (.isub, 1) := by decide +kernel
theorem dX1_peek_36 : decode cX1_peek 36 = .ok (.iaload, 1) := by decide +kernel
theorem dX1_peek_37 : decode cX1_peek 37 = .ok (.ireturn, 1) := by decide +kernel
theorem dX1_peek_38 : decode cX1_peek 38 = .ok (.iload_n 1, 1) := by decide +kernel
theorem dX1_peek_39 : decode cX1_peek 39 = .ok (.bipush 16, 2) := by decide +kernel
theorem dX1_peek_41 : decode cX1_peek 41 = .ok (.if_icmp .lt 32, 3) := by decide +kernel
theorem dX1_peek_44 : decode cX1_peek 44 = .ok (.iload_n 1, 1) := by decide +kernel
theorem dX1_peek_45 : decode cX1_peek 45 = .ok (.bipush 16, 2) := by decide +kernel
theorem dX1_peek_47 : decode cX1_peek 47 = .ok (.isub, 1) := by decide +kernel
theorem dX1_peek_48 : decode cX1_peek 48 = .ok (.aload_n 0, 1) := by decide +kernel
theorem dX1_peek_49 : decode cX1_peek 49 = .ok (.getfield 32, 3) := by decide +kernel
theorem dX1_peek_52 : decode cX1_peek 52 = .ok (.if_icmp .ge 21, 3) := by decide +kernel
theorem dX1_peek_55 : decode cX1_peek 55 = .ok (.iload_n 1, 1) := by decide +kernel
theorem dX1_peek_56 : decode cX1_peek 56 = .ok (.bipush 22, 2) := by decide +kernel
theorem dX1_peek_58 : decode cX1_peek 58 = .ok (.if_icmp .ge 15, 3) := by decide +kernel
theorem dX1_peek_61 : decode cX1_peek 61 = .ok (.aload_n 0, 1) := by decide +kernel
theorem dX1_peek_62 : decode cX1_peek 62 = .ok (.getfield 25, 3) := by decide +kernel
theorem dX1_peek_65 : decode cX1_peek 65 = .ok (.iload_n 1, 1) := by decide +kernel
theorem dX1_peek_66 : decode cX1_peek 66 = .ok (.bipush 16, 2) := by decide +kernel
theorem dX1_peek_68 : decode cX1_peek 68 = .ok (.isub, 1) := by decide +kernel
theorem dX1_peek_69 : decode cX1_peek 69 = .ok (.iaload, 1) := by decide +kernel
theorem dX1_peek_70 : decode cX1_peek 70 = .ok (.goto 4, 3) := by decide +kernel
theorem dX1_peek_73 : decode cX1_peek 73 = .ok (.iconst 0, 1) := by decide +kernel
theorem dX1_peek_74 : decode cX1_peek 74 = .ok (.ireturn, 1) := by decide +kernel
abbrev cX1_depth : ByteArray := prog_3_method_21_code
def yX1_depth : MethodName := ⟨RX1, "depth", "()I"⟩
theorem dX1_depth_0 : decode cX1_depth 0 = .ok (.aload_n 0, 1) := by decide +kernel
theorem dX1_depth_1 : decode cX1_depth 1 = .ok (.getfield 32, 3) := by decide +kernel
theorem dX1_depth_4 : decode cX1_depth 4 = .ok (.ireturn, 1) := by decide +kernel
abbrev cX1_steps : ByteArray := prog_3_method_22_code
def yX1_steps : MethodName := ⟨RX1, "steps", "()I"⟩
theorem dX1_steps_0 : decode cX1_steps 0 = .ok (.aload_n 0, 1) := by decide +kernel
theorem dX1_steps_1 : decode cX1_steps 1 = .ok (.getfield 38, 3) := by decide +kernel
theorem dX1_steps_4 : decode cX1_steps 4 = .ok (.ireturn, 1) := by decide +kernel
theorem q20 : (Jvm.Cond.initialized "StepDebuggerModel") ∈ lw_all := lw_g (lw_at lw_m1 2 rfl) rfl
theorem q203 : (Jvm.Cond.instantiable "StepDebuggerModel" (13 : Nat)) ∈ lw_all := lw_g (lw_at lw_m1 185 rfl) rfl
theorem q205 : (Jvm.Cond.instanceMethod ({ cls := "StepDebuggerModel", name := "<init>", desc := "()V" } : Jvm.MethodName)) ∈ lw_all := lw_g (lw_at lw_m1 187 rfl) rfl
theorem q206 : (Jvm.Cond.code ({ cls := "StepDebuggerModel", name := "<init>", desc := "()V" } : Jvm.MethodName) prog_3_method_1_code (1 : Nat) (Option.none : Option Jvm.ClassFile.FieldType)) ∈ lw_all := lw_g (lw_at lw_m1 188 rfl) rfl
theorem q207 : (Jvm.Cond.methodLink "StepDebuggerModel" (1 : Nat) ({ cls := "java/lang/Object", name := "<init>", desc := "()V" } : Jvm.MethodName)) ∈ lw_all := lw_g (lw_at lw_m1 189 rfl) rfl
theorem q208 : (Jvm.Cond.fieldLink "StepDebuggerModel" (28 : Nat) "StepDebuggerModel" "size" "I") ∈ lw_all := lw_g (lw_at lw_m1 190 rfl) rfl
theorem q209 : (Jvm.Cond.fieldLink "StepDebuggerModel" (7 : Nat) "StepDebuggerModel" "ops" "[I") ∈ lw_all := lw_g (lw_at lw_m1 191 rfl) rfl
theorem q210 : (Jvm.Cond.fieldLink "StepDebuggerModel" (13 : Nat) "StepDebuggerModel" "as" "[I") ∈ lw_all := lw_g (lw_at lw_m1 192 rfl) rfl
theorem q211 : (Jvm.Cond.fieldLink "StepDebuggerModel" (16 : Nat) "StepDebuggerModel" "bs" "[I") ∈ lw_all := lw_g (lw_at lw_m1 193 rfl) rfl
theorem q212 : (Jvm.Cond.fieldLink "StepDebuggerModel" (48 : Nat) "StepDebuggerModel" "breaks" "I") ∈ lw_all := lw_g (lw_at lw_m1 194 rfl) rfl
theorem q213 : (Jvm.Cond.fieldLink "StepDebuggerModel" (19 : Nat) "StepDebuggerModel" "reg" "[I") ∈ lw_all := lw_g (lw_at lw_m1 195 rfl) rfl
theorem q214 : (Jvm.Cond.fieldLink "StepDebuggerModel" (22 : Nat) "StepDebuggerModel" "mem" "[I") ∈ lw_all := lw_g (lw_at lw_m1 196 rfl) rfl
theorem q215 : (Jvm.Cond.fieldLink "StepDebuggerModel" (25 : Nat) "StepDebuggerModel" "back" "[I") ∈ lw_all := lw_g (lw_at lw_m1 197 rfl) rfl
theorem q216 : (Jvm.Cond.fieldLink "StepDebuggerModel" (32 : Nat) "StepDebuggerModel" "deep" "I") ∈ lw_all := lw_g (lw_at lw_m1 198 rfl) rfl
theorem q217 : (Jvm.Cond.fieldLink "StepDebuggerModel" (35 : Nat) "StepDebuggerModel" "pos" "I") ∈ lw_all := lw_g (lw_at lw_m1 199 rfl) rfl
theorem q218 : (Jvm.Cond.fieldLink "StepDebuggerModel" (38 : Nat) "StepDebuggerModel" "count" "I") ∈ lw_all := lw_g (lw_at lw_m1 200 rfl) rfl
theorem q219 : (Jvm.Cond.fieldLink "StepDebuggerModel" (41 : Nat) "StepDebuggerModel" "over" "Z") ∈ lw_all := lw_g (lw_at lw_m1 201 rfl) rfl
theorem q220 : (Jvm.Cond.fieldLink "StepDebuggerModel" (45 : Nat) "StepDebuggerModel" "why" "I") ∈ lw_all := lw_g (lw_at lw_m1 202 rfl) rfl
theorem q221 : (Jvm.Cond.lays "StepDebuggerModel" "StepDebuggerModel" "size" "I") ∈ lw_all := lw_g (lw_at lw_m1 203 rfl) rfl
theorem q222 : (Jvm.Cond.soleField "StepDebuggerModel" "size") ∈ lw_all := lw_g (lw_at lw_m1 204 rfl) rfl
theorem q223 : (Jvm.Cond.lays "StepDebuggerModel" "StepDebuggerModel" "ops" "[I") ∈ lw_all := lw_g (lw_at lw_m1 205 rfl) rfl
theorem q224 : (Jvm.Cond.soleField "StepDebuggerModel" "ops") ∈ lw_all := lw_g (lw_at lw_m1 206 rfl) rfl
theorem q225 : (Jvm.Cond.lays "StepDebuggerModel" "StepDebuggerModel" "as" "[I") ∈ lw_all := lw_g (lw_at lw_m1 207 rfl) rfl
theorem q226 : (Jvm.Cond.soleField "StepDebuggerModel" "as") ∈ lw_all := lw_g (lw_at lw_m1 208 rfl) rfl
theorem q227 : (Jvm.Cond.lays "StepDebuggerModel" "StepDebuggerModel" "bs" "[I") ∈ lw_all := lw_g (lw_at lw_m1 209 rfl) rfl
theorem q228 : (Jvm.Cond.soleField "StepDebuggerModel" "bs") ∈ lw_all := lw_g (lw_at lw_m1 210 rfl) rfl
theorem q229 : (Jvm.Cond.lays "StepDebuggerModel" "StepDebuggerModel" "breaks" "I") ∈ lw_all := lw_g (lw_at lw_m1 211 rfl) rfl
theorem q230 : (Jvm.Cond.soleField "StepDebuggerModel" "breaks") ∈ lw_all := lw_g (lw_at lw_m1 212 rfl) rfl
theorem q231 : (Jvm.Cond.lays "StepDebuggerModel" "StepDebuggerModel" "reg" "[I") ∈ lw_all := lw_g (lw_at lw_m1 213 rfl) rfl
theorem q232 : (Jvm.Cond.soleField "StepDebuggerModel" "reg") ∈ lw_all := lw_g (lw_at lw_m1 214 rfl) rfl
theorem q233 : (Jvm.Cond.lays "StepDebuggerModel" "StepDebuggerModel" "mem" "[I") ∈ lw_all := lw_g (lw_at lw_m1 215 rfl) rfl
theorem q234 : (Jvm.Cond.soleField "StepDebuggerModel" "mem") ∈ lw_all := lw_g (lw_at lw_m1 216 rfl) rfl
theorem q235 : (Jvm.Cond.lays "StepDebuggerModel" "StepDebuggerModel" "back" "[I") ∈ lw_all := lw_g (lw_at lw_m1 217 rfl) rfl
theorem q236 : (Jvm.Cond.soleField "StepDebuggerModel" "back") ∈ lw_all := lw_g (lw_at lw_m1 218 rfl) rfl
theorem q237 : (Jvm.Cond.lays "StepDebuggerModel" "StepDebuggerModel" "deep" "I") ∈ lw_all := lw_g (lw_at lw_m1 219 rfl) rfl
theorem q238 : (Jvm.Cond.soleField "StepDebuggerModel" "deep") ∈ lw_all := lw_g (lw_at lw_m1 220 rfl) rfl
theorem q239 : (Jvm.Cond.lays "StepDebuggerModel" "StepDebuggerModel" "pos" "I") ∈ lw_all := lw_g (lw_at lw_m1 221 rfl) rfl
theorem q240 : (Jvm.Cond.soleField "StepDebuggerModel" "pos") ∈ lw_all := lw_g (lw_at lw_m1 222 rfl) rfl
theorem q241 : (Jvm.Cond.lays "StepDebuggerModel" "StepDebuggerModel" "count" "I") ∈ lw_all := lw_g (lw_at lw_m1 223 rfl) rfl
theorem q242 : (Jvm.Cond.soleField "StepDebuggerModel" "count") ∈ lw_all := lw_g (lw_at lw_m1 224 rfl) rfl
theorem q243 : (Jvm.Cond.lays "StepDebuggerModel" "StepDebuggerModel" "over" "Z") ∈ lw_all := lw_g (lw_at lw_m1 225 rfl) rfl
theorem q244 : (Jvm.Cond.soleField "StepDebuggerModel" "over") ∈ lw_all := lw_g (lw_at lw_m1 226 rfl) rfl
theorem q245 : (Jvm.Cond.lays "StepDebuggerModel" "StepDebuggerModel" "why" "I") ∈ lw_all := lw_g (lw_at lw_m1 227 rfl) rfl
theorem q246 : (Jvm.Cond.soleField "StepDebuggerModel" "why") ∈ lw_all := lw_g (lw_at lw_m1 228 rfl) rfl
theorem q247 : (Jvm.Cond.superclass "StepDebuggerModel" "java/lang/Object") ∈ lw_all := lw_g (lw_at lw_m1 229 rfl) rfl
theorem q249 : (Jvm.Cond.instanceMethod ({ cls := "StepDebuggerModel", name := "emit", desc := "(III)I" } : Jvm.MethodName)) ∈ lw_all := lw_g (lw_at lw_m1 231 rfl) rfl
theorem q250 : (Jvm.Cond.selects "StepDebuggerModel" ({ cls := "StepDebuggerModel", name := "emit", desc := "(III)I" } : Jvm.MethodName) ({ cls := "StepDebuggerModel", name := "emit", desc := "(III)I" } : Jvm.MethodName)) ∈ lw_all := lw_g (lw_at lw_m1 232 rfl) rfl
theorem q251 : (Jvm.Cond.code ({ cls := "StepDebuggerModel", name := "emit", desc := "(III)I" } : Jvm.MethodName) prog_3_method_2_code (4 : Nat) (Option.some Jvm.ClassFile.FieldType.int)) ∈ lw_all := lw_g (lw_at lw_m1 233 rfl) rfl
theorem q253 : (Jvm.Cond.instanceMethod ({ cls := "StepDebuggerModel", name := "length", desc := "()I" } : Jvm.MethodName)) ∈ lw_all := lw_g (lw_at lw_m1 235 rfl) rfl
theorem q254 : (Jvm.Cond.selects "StepDebuggerModel" ({ cls := "StepDebuggerModel", name := "length", desc := "()I" } : Jvm.MethodName) ({ cls := "StepDebuggerModel", name := "length", desc := "()I" } : Jvm.MethodName)) ∈ lw_all := lw_g (lw_at lw_m1 236 rfl) rfl
theorem q255 : (Jvm.Cond.code ({ cls := "StepDebuggerModel", name := "length", desc := "()I" } : Jvm.MethodName) prog_3_method_3_code (1 : Nat) (Option.some Jvm.ClassFile.FieldType.int)) ∈ lw_all := lw_g (lw_at lw_m1 237 rfl) rfl
theorem q257 : (Jvm.Cond.instanceMethod ({ cls := "StepDebuggerModel", name := "codeAt", desc := "(I)I" } : Jvm.MethodName)) ∈ lw_all := lw_g (lw_at lw_m1 239 rfl) rfl
theorem q258 : (Jvm.Cond.selects "StepDebuggerModel" ({ cls := "StepDebuggerModel", name := "codeAt", desc := "(I)I" } : Jvm.MethodName) ({ cls := "StepDebuggerModel", name := "codeAt", desc := "(I)I" } : Jvm.MethodName)) ∈ lw_all := lw_g (lw_at lw_m2 0 rfl) rfl
theorem q259 : (Jvm.Cond.code ({ cls := "StepDebuggerModel", name := "codeAt", desc := "(I)I" } : Jvm.MethodName) prog_3_method_4_code (2 : Nat) (Option.some Jvm.ClassFile.FieldType.int)) ∈ lw_all := lw_g (lw_at lw_m2 1 rfl) rfl
theorem q261 : (Jvm.Cond.instanceMethod ({ cls := "StepDebuggerModel", name := "reset", desc := "()V" } : Jvm.MethodName)) ∈ lw_all := lw_g (lw_at lw_m2 3 rfl) rfl
theorem q262 : (Jvm.Cond.selects "StepDebuggerModel" ({ cls := "StepDebuggerModel", name := "reset", desc := "()V" } : Jvm.MethodName) ({ cls := "StepDebuggerModel", name := "reset", desc := "()V" } : Jvm.MethodName)) ∈ lw_all := lw_g (lw_at lw_m2 4 rfl) rfl
theorem q263 : (Jvm.Cond.code ({ cls := "StepDebuggerModel", name := "reset", desc := "()V" } : Jvm.MethodName) prog_3_method_5_code (2 : Nat) (Option.none : Option Jvm.ClassFile.FieldType)) ∈ lw_all := lw_g (lw_at lw_m2 5 rfl) rfl
theorem q265 : (Jvm.Cond.instanceMethod ({ cls := "StepDebuggerModel", name := "breakAt", desc := "(IZ)Z" } : Jvm.MethodName)) ∈ lw_all := lw_g (lw_at lw_m2 7 rfl) rfl
theorem q266 : (Jvm.Cond.selects "StepDebuggerModel" ({ cls := "StepDebuggerModel", name := "breakAt", desc := "(IZ)Z" } : Jvm.MethodName) ({ cls := "StepDebuggerModel", name := "breakAt", desc := "(IZ)Z" } : Jvm.MethodName)) ∈ lw_all := lw_g (lw_at lw_m2 8 rfl) rfl
theorem q267 : (Jvm.Cond.code ({ cls := "StepDebuggerModel", name := "breakAt", desc := "(IZ)Z" } : Jvm.MethodName) prog_3_method_6_code (3 : Nat) (Option.some Jvm.ClassFile.FieldType.boolean)) ∈ lw_all := lw_g (lw_at lw_m2 9 rfl) rfl
theorem q269 : (Jvm.Cond.instanceMethod ({ cls := "StepDebuggerModel", name := "breakpoints", desc := "()I" } : Jvm.MethodName)) ∈ lw_all := lw_g (lw_at lw_m2 11 rfl) rfl
theorem q270 : (Jvm.Cond.selects "StepDebuggerModel" ({ cls := "StepDebuggerModel", name := "breakpoints", desc := "()I" } : Jvm.MethodName) ({ cls := "StepDebuggerModel", name := "breakpoints", desc := "()I" } : Jvm.MethodName)) ∈ lw_all := lw_g (lw_at lw_m2 12 rfl) rfl
theorem q271 : (Jvm.Cond.code ({ cls := "StepDebuggerModel", name := "breakpoints", desc := "()I" } : Jvm.MethodName) prog_3_method_7_code (1 : Nat) (Option.some Jvm.ClassFile.FieldType.int)) ∈ lw_all := lw_g (lw_at lw_m2 13 rfl) rfl
theorem q273 : (Jvm.Cond.instanceMethod ({ cls := "StepDebuggerModel", name := "step", desc := "()I" } : Jvm.MethodName)) ∈ lw_all := lw_g (lw_at lw_m2 15 rfl) rfl
theorem q274 : (Jvm.Cond.selects "StepDebuggerModel" ({ cls := "StepDebuggerModel", name := "step", desc := "()I" } : Jvm.MethodName) ({ cls := "StepDebuggerModel", name := "step", desc := "()I" } : Jvm.MethodName)) ∈ lw_all := lw_g (lw_at lw_m2 16 rfl) rfl
theorem q275 : (Jvm.Cond.code ({ cls := "StepDebuggerModel", name := "step", desc := "()I" } : Jvm.MethodName) prog_3_method_13_code (1 : Nat) (Option.some Jvm.ClassFile.FieldType.int)) ∈ lw_all := lw_g (lw_at lw_m2 17 rfl) rfl
theorem q276 : (Jvm.Cond.methodLink "StepDebuggerModel" (66 : Nat) ({ cls := "StepDebuggerModel", name := "run", desc := "(III)I" } : Jvm.MethodName)) ∈ lw_all := lw_g (lw_at lw_m2 18 rfl) rfl
theorem q277 : (Jvm.Cond.privateMethod ({ cls := "StepDebuggerModel", name := "run", desc := "(III)I" } : Jvm.MethodName)) ∈ lw_tbl := lw_at lw_m2 19 rfl
theorem q278 : (Jvm.Cond.instanceMethod ({ cls := "StepDebuggerModel", name := "run", desc := "(III)I" } : Jvm.MethodName)) ∈ lw_all := lw_g (lw_at lw_m2 20 rfl) rfl
theorem q279 : (Jvm.Cond.code ({ cls := "StepDebuggerModel", name := "run", desc := "(III)I" } : Jvm.MethodName) prog_3_method_11_code (7 : Nat) (Option.some Jvm.ClassFile.FieldType.int)) ∈ lw_all := lw_g (lw_at lw_m2 21 rfl) rfl
theorem q280 : (Jvm.Cond.methodLink "StepDebuggerModel" (51 : Nat) ({ cls := "StepDebuggerModel", name := "inside", desc := "()Z" } : Jvm.MethodName)) ∈ lw_all := lw_g (lw_at lw_m2 22 rfl) rfl
theorem q281 : (Jvm.Cond.privateMethod ({ cls := "StepDebuggerModel", name := "inside", desc := "()Z" } : Jvm.MethodName)) ∈ lw_tbl := lw_at lw_m2 23 rfl
theorem q282 : (Jvm.Cond.instanceMethod ({ cls := "StepDebuggerModel", name := "inside", desc := "()Z" } : Jvm.MethodName)) ∈ lw_all := lw_g (lw_at lw_m2 24 rfl) rfl
theorem q283 : (Jvm.Cond.code ({ cls := "StepDebuggerModel", name := "inside", desc := "()Z" } : Jvm.MethodName) prog_3_method_8_code (1 : Nat) (Option.some Jvm.ClassFile.FieldType.boolean)) ∈ lw_all := lw_g (lw_at lw_m2 25 rfl) rfl
theorem q284 : (Jvm.Cond.methodLink "StepDebuggerModel" (59 : Nat) ({ cls := "StepDebuggerModel", name := "faulty", desc := "()Z" } : Jvm.MethodName)) ∈ lw_all := lw_g (lw_at lw_m2 26 rfl) rfl
theorem q285 : (Jvm.Cond.privateMethod ({ cls := "StepDebuggerModel", name := "faulty", desc := "()Z" } : Jvm.MethodName)) ∈ lw_tbl := lw_at lw_m2 27 rfl
theorem q286 : (Jvm.Cond.instanceMethod ({ cls := "StepDebuggerModel", name := "faulty", desc := "()Z" } : Jvm.MethodName)) ∈ lw_all := lw_g (lw_at lw_m2 28 rfl) rfl
theorem q287 : (Jvm.Cond.code ({ cls := "StepDebuggerModel", name := "faulty", desc := "()Z" } : Jvm.MethodName) prog_3_method_10_code (2 : Nat) (Option.some Jvm.ClassFile.FieldType.boolean)) ∈ lw_all := lw_g (lw_at lw_m2 29 rfl) rfl
theorem q288 : (Jvm.Cond.methodLink "StepDebuggerModel" (55 : Nat) ({ cls := "StepDebuggerModel", name := "here", desc := "()I" } : Jvm.MethodName)) ∈ lw_all := lw_g (lw_at lw_m2 30 rfl) rfl
theorem q289 : (Jvm.Cond.privateMethod ({ cls := "StepDebuggerModel", name := "here", desc := "()I" } : Jvm.MethodName)) ∈ lw_tbl := lw_at lw_m2 31 rfl
theorem q290 : (Jvm.Cond.instanceMethod ({ cls := "StepDebuggerModel", name := "here", desc := "()I" } : Jvm.MethodName)) ∈ lw_all := lw_g (lw_at lw_m2 32 rfl) rfl
theorem q291 : (Jvm.Cond.code ({ cls := "StepDebuggerModel", name := "here", desc := "()I" } : Jvm.MethodName) prog_3_method_9_code (1 : Nat) (Option.some Jvm.ClassFile.FieldType.int)) ∈ lw_all := lw_g (lw_at lw_m2 33 rfl) rfl
theorem q292 : (Jvm.Cond.methodLink "StepDebuggerModel" (62 : Nat) ({ cls := "StepDebuggerModel", name := "carryOut", desc := "(III)V" } : Jvm.MethodName)) ∈ lw_all := lw_g (lw_at lw_m2 34 rfl) rfl
theorem q293 : (Jvm.Cond.privateMethod ({ cls := "StepDebuggerModel", name := "carryOut", desc := "(III)V" } : Jvm.MethodName)) ∈ lw_tbl := lw_at lw_m2 35 rfl
theorem q294 : (Jvm.Cond.instanceMethod ({ cls := "StepDebuggerModel", name := "carryOut", desc := "(III)V" } : Jvm.MethodName)) ∈ lw_all := lw_g (lw_at lw_m2 36 rfl) rfl
theorem q295 : (Jvm.Cond.code ({ cls := "StepDebuggerModel", name := "carryOut", desc := "(III)V" } : Jvm.MethodName) prog_3_method_12_code (5 : Nat) (Option.none : Option Jvm.ClassFile.FieldType)) ∈ lw_all := lw_g (lw_at lw_m2 37 rfl) rfl
theorem q297 : (Jvm.Cond.instanceMethod ({ cls := "StepDebuggerModel", name := "stepOver", desc := "()I" } : Jvm.MethodName)) ∈ lw_all := lw_g (lw_at lw_m2 39 rfl) rfl
theorem q298 : (Jvm.Cond.selects "StepDebuggerModel" ({ cls := "StepDebuggerModel", name := "stepOver", desc := "()I" } : Jvm.MethodName) ({ cls := "StepDebuggerModel", name := "stepOver", desc := "()I" } : Jvm.MethodName)) ∈ lw_all := lw_g (lw_at lw_m2 40 rfl) rfl
theorem q299 : (Jvm.Cond.code ({ cls := "StepDebuggerModel", name := "stepOver", desc := "()I" } : Jvm.MethodName) prog_3_method_14_code (2 : Nat) (Option.some Jvm.ClassFile.FieldType.int)) ∈ lw_all := lw_g (lw_at lw_m2 41 rfl) rfl
theorem q301 : (Jvm.Cond.instanceMethod ({ cls := "StepDebuggerModel", name := "stepOut", desc := "()I" } : Jvm.MethodName)) ∈ lw_all := lw_g (lw_at lw_m2 43 rfl) rfl
theorem q302 : (Jvm.Cond.selects "StepDebuggerModel" ({ cls := "StepDebuggerModel", name := "stepOut", desc := "()I" } : Jvm.MethodName) ({ cls := "StepDebuggerModel", name := "stepOut", desc := "()I" } : Jvm.MethodName)) ∈ lw_all := lw_g (lw_at lw_m2 44 rfl) rfl
theorem q303 : (Jvm.Cond.code ({ cls := "StepDebuggerModel", name := "stepOut", desc := "()I" } : Jvm.MethodName) prog_3_method_15_code (1 : Nat) (Option.some Jvm.ClassFile.FieldType.int)) ∈ lw_all := lw_g (lw_at lw_m2 45 rfl) rfl
theorem q305 : (Jvm.Cond.instanceMethod ({ cls := "StepDebuggerModel", name := "go", desc := "()I" } : Jvm.MethodName)) ∈ lw_all := lw_g (lw_at lw_m2 47 rfl) rfl
theorem q306 : (Jvm.Cond.selects "StepDebuggerModel" ({ cls := "StepDebuggerModel", name := "go", desc := "()I" } : Jvm.MethodName) ({ cls := "StepDebuggerModel", name := "go", desc := "()I" } : Jvm.MethodName)) ∈ lw_all := lw_g (lw_at lw_m2 48 rfl) rfl
theorem q307 : (Jvm.Cond.code ({ cls := "StepDebuggerModel", name := "go", desc := "()I" } : Jvm.MethodName) prog_3_method_16_code (1 : Nat) (Option.some Jvm.ClassFile.FieldType.int)) ∈ lw_all := lw_g (lw_at lw_m2 49 rfl) rfl
theorem q309 : (Jvm.Cond.instanceMethod ({ cls := "StepDebuggerModel", name := "goTo", desc := "(I)I" } : Jvm.MethodName)) ∈ lw_all := lw_g (lw_at lw_m2 51 rfl) rfl
theorem q310 : (Jvm.Cond.selects "StepDebuggerModel" ({ cls := "StepDebuggerModel", name := "goTo", desc := "(I)I" } : Jvm.MethodName) ({ cls := "StepDebuggerModel", name := "goTo", desc := "(I)I" } : Jvm.MethodName)) ∈ lw_all := lw_g (lw_at lw_m2 52 rfl) rfl
theorem q311 : (Jvm.Cond.code ({ cls := "StepDebuggerModel", name := "goTo", desc := "(I)I" } : Jvm.MethodName) prog_3_method_17_code (2 : Nat) (Option.some Jvm.ClassFile.FieldType.int)) ∈ lw_all := lw_g (lw_at lw_m2 53 rfl) rfl
theorem q313 : (Jvm.Cond.instanceMethod ({ cls := "StepDebuggerModel", name := "reason", desc := "()I" } : Jvm.MethodName)) ∈ lw_all := lw_g (lw_at lw_m2 55 rfl) rfl
theorem q314 : (Jvm.Cond.selects "StepDebuggerModel" ({ cls := "StepDebuggerModel", name := "reason", desc := "()I" } : Jvm.MethodName) ({ cls := "StepDebuggerModel", name := "reason", desc := "()I" } : Jvm.MethodName)) ∈ lw_all := lw_g (lw_at lw_m2 56 rfl) rfl
theorem q315 : (Jvm.Cond.code ({ cls := "StepDebuggerModel", name := "reason", desc := "()I" } : Jvm.MethodName) prog_3_method_18_code (1 : Nat) (Option.some Jvm.ClassFile.FieldType.int)) ∈ lw_all := lw_g (lw_at lw_m2 57 rfl) rfl
theorem q317 : (Jvm.Cond.instanceMethod ({ cls := "StepDebuggerModel", name := "position", desc := "()I" } : Jvm.MethodName)) ∈ lw_all := lw_g (lw_at lw_m2 59 rfl) rfl
theorem q318 : (Jvm.Cond.selects "StepDebuggerModel" ({ cls := "StepDebuggerModel", name := "position", desc := "()I" } : Jvm.MethodName) ({ cls := "StepDebuggerModel", name := "position", desc := "()I" } : Jvm.MethodName)) ∈ lw_all := lw_g (lw_at lw_m2 60 rfl) rfl
theorem q319 : (Jvm.Cond.code ({ cls := "StepDebuggerModel", name := "position", desc := "()I" } : Jvm.MethodName) prog_3_method_19_code (1 : Nat) (Option.some Jvm.ClassFile.FieldType.int)) ∈ lw_all := lw_g (lw_at lw_m2 61 rfl) rfl
theorem q321 : (Jvm.Cond.instanceMethod ({ cls := "StepDebuggerModel", name := "peek", desc := "(I)I" } : Jvm.MethodName)) ∈ lw_all := lw_g (lw_at lw_m2 63 rfl) rfl
theorem q322 : (Jvm.Cond.selects "StepDebuggerModel" ({ cls := "StepDebuggerModel", name := "peek", desc := "(I)I" } : Jvm.MethodName) ({ cls := "StepDebuggerModel", name := "peek", desc := "(I)I" } : Jvm.MethodName)) ∈ lw_all := lw_g (lw_at lw_m2 64 rfl) rfl
theorem q323 : (Jvm.Cond.code ({ cls := "StepDebuggerModel", name := "peek", desc := "(I)I" } : Jvm.MethodName) prog_3_method_20_code (2 : Nat) (Option.some Jvm.ClassFile.FieldType.int)) ∈ lw_all := lw_g (lw_at lw_m2 65 rfl) rfl
theorem q325 : (Jvm.Cond.instanceMethod ({ cls := "StepDebuggerModel", name := "depth", desc := "()I" } : Jvm.MethodName)) ∈ lw_all := lw_g (lw_at lw_m2 67 rfl) rfl
theorem q326 : (Jvm.Cond.selects "StepDebuggerModel" ({ cls := "StepDebuggerModel", name := "depth", desc := "()I" } : Jvm.MethodName) ({ cls := "StepDebuggerModel", name := "depth", desc := "()I" } : Jvm.MethodName)) ∈ lw_all := lw_g (lw_at lw_m2 68 rfl) rfl
theorem q327 : (Jvm.Cond.code ({ cls := "StepDebuggerModel", name := "depth", desc := "()I" } : Jvm.MethodName) prog_3_method_21_code (1 : Nat) (Option.some Jvm.ClassFile.FieldType.int)) ∈ lw_all := lw_g (lw_at lw_m2 69 rfl) rfl
theorem q329 : (Jvm.Cond.instanceMethod ({ cls := "StepDebuggerModel", name := "steps", desc := "()I" } : Jvm.MethodName)) ∈ lw_all := lw_g (lw_at lw_m2 71 rfl) rfl
theorem q330 : (Jvm.Cond.selects "StepDebuggerModel" ({ cls := "StepDebuggerModel", name := "steps", desc := "()I" } : Jvm.MethodName) ({ cls := "StepDebuggerModel", name := "steps", desc := "()I" } : Jvm.MethodName)) ∈ lw_all := lw_g (lw_at lw_m2 72 rfl) rfl
theorem q331 : (Jvm.Cond.code ({ cls := "StepDebuggerModel", name := "steps", desc := "()I" } : Jvm.MethodName) prog_3_method_22_code (1 : Nat) (Option.some Jvm.ClassFile.FieldType.int)) ∈ lw_all := lw_g (lw_at lw_m2 73 rfl) rfl
theorem in_X1 : ∀ w ∈ wsX10, w ∈ lw_all := lw_in wsX10 [221, 223, 225, 227, 229, 231, 233, 235, 237, 239, 241, 243, 245] (by decide +kernel) (by decide +kernel)
end
section
/-! the law's own entry -/
set_option maxRecDepth 100000
abbrev cL_law : ByteArray := code
theorem dL_law_0 : decode cL_law 0 = .ok (.new 7, 3) := by decide +kernel
theorem dL_law_3 : decode cL_law 3 = .ok (.dup, 1) := by decide +kernel
theorem dL_law_4 : decode cL_law 4 = .ok (.invokespecial 9, 3) := by decide +kernel
theorem dL_law_7 : decode cL_law 7 = .ok (.astore_n 1, 1) := by decide +kernel
theorem dL_law_8 : decode cL_law 8 = .ok (.new 10, 3) := by decide +kernel
theorem dL_law_11 : decode cL_law 11 = .ok (.dup, 1) := by decide +kernel
theorem dL_law_12 : decode cL_law 12 = .ok (.invokespecial 12, 3) := by decide +kernel
theorem dL_law_15 : decode cL_law 15 = .ok (.astore_n 2, 1) := by decide +kernel
theorem dL_law_16 : decode cL_law 16 = .ok (.iconst 0, 1) := by decide +kernel
theorem dL_law_17 : decode cL_law 17 = .ok (.istore_n 3, 1) := by decide +kernel
theorem dL_law_18 : decode cL_law 18 = .ok (.iload_n 3, 1) := by decide +kernel
theorem dL_law_19 : decode cL_law 19 = .ok (.aload_n 0, 1) := by decide +kernel
theorem dL_law_20 : decode cL_law 20 = .ok (.arraylength, 1) := by decide +kernel
theorem dL_law_21 : decode cL_law 21 = .ok (.iconst 4, 1) := by decide +kernel
theorem dL_law_22 : decode cL_law 22 = .ok (.isub, 1) := by decide +kernel
theorem dL_law_23 : decode cL_law 23 = .ok (.if_icmp .gt 397, 3) := by decide +kernel
theorem dL_law_26 : decode cL_law 26 = .ok (.aload_n 0, 1) := by decide +kernel
theorem dL_law_27 : decode cL_law 27 = .ok (.iload_n 3, 1) := by decide +kernel
theorem dL_law_28 : decode cL_law 28 = .ok (.iaload, 1) := by decide +kernel
theorem dL_law_29 : decode cL_law 29 = .ok (.bipush 15, 2) := by decide +kernel
theorem dL_law_31 : decode cL_law 31 = .ok (.iand, 1) := by decide +kernel
theorem dL_law_32 : decode cL_law 32 = .ok (.tableswitch 382 0 15 #[80, 123, 136, 159, 170, 219, 232, 245, 258, 271, 284, 307, 320, 333, 356, 369], 80) := by decide +kernel
theorem dL_law_112 : decode cL_law 112 = .ok (.aload_n 1, 1) := by decide +kernel
theorem dL_law_113 : decode cL_law 113 = .ok (.aload_n 0, 1) := by decide +kernel
theorem dL_law_114 : decode cL_law 114 = .ok (.iload_n 3, 1) := by decide +kernel
theorem dL_law_115 : decode cL_law 115 = .ok (.iconst 1, 1) := by decide +kernel
theorem dL_law_116 : decode cL_law 116 = .ok (.iadd, 1) := by decide +kernel
theorem dL_law_117 : decode cL_law 117 = .ok (.iaload, 1) := by decide +kernel
theorem dL_law_118 : decode cL_law 118 = .ok (.aload_n 0, 1) := by decide +kernel
theorem dL_law_119 : decode cL_law 119 = .ok (.iload_n 3, 1) := by decide +kernel
theorem dL_law_120 : decode cL_law 120 = .ok (.iconst 2, 1) := by decide +kernel
theorem dL_law_121 : decode cL_law 121 = .ok (.iadd, 1) := by decide +kernel
theorem dL_law_122 : decode cL_law 122 = .ok (.iaload, 1) := by decide +kernel
theorem dL_law_123 : decode cL_law 123 = .ok (.aload_n 0, 1) := by decide +kernel
theorem dL_law_124 : decode cL_law 124 = .ok (.iload_n 3, 1) := by decide +kernel
theorem dL_law_125 : decode cL_law 125 = .ok (.iconst 3, 1) := by decide +kernel
theorem dL_law_126 : decode cL_law 126 = .ok (.iadd, 1) := by decide +kernel
theorem dL_law_127 : decode cL_law 127 = .ok (.iaload, 1) := by decide +kernel
theorem dL_law_128 : decode cL_law 128 = .ok (.invokevirtual 13, 3) := by decide +kernel
theorem dL_law_131 : decode cL_law 131 = .ok (.aload_n 2, 1) := by decide +kernel
theorem dL_law_132 : decode cL_law 132 = .ok (.aload_n 0, 1) := by decide +kernel
theorem dL_law_133 : decode cL_law 133 = .ok (.iload_n 3, 1) := by decide +kernel
theorem dL_law_134 : decode cL_law 134 = .ok (.iconst 1, 1) := by decide +kernel
theorem dL_law_135 : decode cL_law 135 = .ok (.iadd, 1) := by decide +kernel
theorem dL_law_136 : decode cL_law 136 = .ok (.iaload, 1) := by decide +kernel
theorem dL_law_137 : decode cL_law 137 = .ok (.aload_n 0, 1) := by decide +kernel
theorem dL_law_138 : decode cL_law 138 = .ok (.iload_n 3, 1) := by decide +kernel
theorem dL_law_139 : decode cL_law 139 = .ok (.iconst 2, 1) := by decide +kernel
theorem dL_law_140 : decode cL_law 140 = .ok (.iadd, 1) := by decide +kernel
theorem dL_law_141 : decode cL_law 141 = .ok (.iaload, 1) := by decide +kernel
theorem dL_law_142 : decode cL_law 142 = .ok (.aload_n 0, 1) := by decide +kernel
theorem dL_law_143 : decode cL_law 143 = .ok (.iload_n 3, 1) := by decide +kernel
theorem dL_law_144 : decode cL_law 144 = .ok (.iconst 3, 1) := by decide +kernel
theorem dL_law_145 : decode cL_law 145 = .ok (.iadd, 1) := by decide +kernel
theorem dL_law_146 : decode cL_law 146 = .ok (.iaload, 1) := by decide +kernel
theorem dL_law_147 : decode cL_law 147 = .ok (.invokevirtual 17, 3) := by decide +kernel
theorem dL_law_150 : decode cL_law 150 = .ok (.if_icmp .eq 264, 3) := by decide +kernel
theorem dL_law_153 : decode cL_law 153 = .ok (.iconst 0, 1) := by decide +kernel
theorem dL_law_154 : decode cL_law 154 = .ok (.ireturn, 1) := by decide +kernel
theorem dL_law_155 : decode cL_law 155 = .ok (.aload_n 1, 1) := by decide +kernel
theorem dL_law_156 : decode cL_law 156 = .ok (.invokevirtual 18, 3) := by decide +kernel
theorem dL_law_159 : decode cL_law 159 = .ok (.aload_n 2, 1) := by decide +kernel
theorem dL_law_160 : decode cL_law 160 = .ok (.invokevirtual 22, 3) := by decide +kernel
theorem dL_law_163 : decode cL_law 163 = .ok (.if_icmp .eq 251, 3) := by decide +kernel
theorem dL_law_166 : decode cL_law 166 = .ok (.iconst 0, 1) := by decide +kernel
theorem dL_law_167 : decode cL_law 167 = .ok (.ireturn, 1) := by decide +kernel
theorem dL_law_168 : decode cL_law 168 = .ok (.aload_n 1, 1) := by decide +kernel
theorem dL_law_169 : decode cL_law 169 = .ok (.aload_n 0, 1) := by decide +kernel
theorem dL_law_170 : decode cL_law 170 = .ok (.iload_n 3, 1) := by decide +kernel
theorem dL_law_171 : decode cL_law 171 = .ok (.iconst 1, 1) := by decide +kernel
theorem dL_law_172 : decode cL_law 172 = .ok (.iadd, 1) := by decide +kernel
theorem dL_law_173 : decode cL_law 173 = .ok (.iaload, 1) := by decide +kernel
theorem dL_law_174 : decode cL_law 174 = .ok (.invokevirtual 23, 3) := by decide +kernel
theorem dL_law_177 : decode cL_law 177 = .ok (.aload_n 2, 1) := by decide +kernel
theorem dL_law_178 : decode cL_law 178 = .ok (.aload_n 0, 1) := by decide +kernel
theorem dL_law_179 : decode cL_law 179 = .ok (.iload_n 3, 1) := by decide +kernel
theorem dL_law_180 : decode cL_law 180 = .ok (.iconst 1, 1) := by decide +kernel
theorem dL_law_181 : decode cL_law 181 = .ok (.iadd, 1) := by decide +kernel
theorem dL_law_182 : decode cL_law 182 = .ok (.iaload, 1) := by decide +kernel
theorem dL_law_183 : decode cL_law 183 = .ok (.invokevirtual 27, 3) := by decide +kernel
theorem dL_law_186 : decode cL_law 186 = .ok (.if_icmp .eq 228, 3) := by decide +kernel
theorem dL_law_189 : decode cL_law 189 = .ok (.iconst 0, 1) := by decide +kernel
theorem dL_law_190 : decode cL_law 190 = .ok (.ireturn, 1) := by decide +kernel
theorem dL_law_191 : decode cL_law 191 = .ok (.aload_n 1, 1) := by decide +kernel
theorem dL_law_192 : decode cL_law 192 = .ok (.invokevirtual 28, 3) := by decide +kernel
theorem dL_law_195 : decode cL_law 195 = .ok (.aload_n 2, 1) := by decide +kernel
theorem dL_law_196 : decode cL_law 196 = .ok (.invokevirtual 31, 3) := by decide +kernel
theorem dL_law_199 : decode cL_law 199 = .ok (.goto 215, 3) := by decide +kernel
theorem dL_law_202 : decode cL_law 202 = .ok (.aload_n 1, 1) := by decide +kernel
theorem dL_law_203 : decode cL_law 203 = .ok (.aload_n 0, 1) := by decide +kernel
theorem dL_law_204 : decode cL_law 204 = .ok (.iload_n 3, 1) := by decide +kernel
theorem dL_law_205 : decode cL_law 205 = .ok (.iconst 1, 1) := by decide +kernel
theorem dL_law_206 : decode cL_law 206 = .ok (.iadd, 1) := by decide +kernel
theorem dL_law_207 : decode cL_law 207 = .ok (.iaload, 1) := by decide +kernel
theorem dL_law_208 : decode cL_law 208 = .ok (.aload_n 0, 1) := by decide +kernel
theorem dL_law_209 : decode cL_law 209 = .ok (.iload_n 3, 1) := by decide +kernel
theorem dL_law_210 : decode cL_law 210 = .ok (.iconst 2, 1) := by decide +kernel
theorem dL_law_211 : decode cL_law 211 = .ok (.iadd, 1) := by decide +kernel
theorem dL_law_212 : decode cL_law 212 = .ok (.iaload, 1) := by decide +kernel
theorem dL_law_213 : decode cL_law 213 = .ok (.ifCond .eq 7, 3) := by decide +kernel
theorem dL_law_216 : decode cL_law 216 = .ok (.iconst 1, 1) := by decide +kernel
theorem dL_law_217 : decode cL_law 217 = .ok (.goto 4, 3) := by decide +kernel
theorem dL_law_220 : decode cL_law 220 = .ok (.iconst 0, 1) := by decide +kernel
theorem dL_law_221 : decode cL_law 221 = .ok (.invokevirtual 32, 3) := by decide +kernel
theorem dL_law_224 : decode cL_law 224 = .ok (.aload_n 2, 1) := by decide +kernel
theorem dL_law_225 : decode cL_law 225 = .ok (.aload_n 0, 1) := by decide +kernel
theorem dL_law_226 : decode cL_law 226 = .ok (.iload_n 3, 1) := by decide +kernel
theorem dL_law_227 : decode cL_law 227 = .ok (.iconst 1, 1) := by decide +kernel
theorem dL_law_228 : decode cL_law 228 = .ok (.iadd, 1) := by decide +kernel
theorem dL_law_229 : decode cL_law 229 = .ok (.iaload, 1) := by decide +kernel
theorem dL_law_230 : decode cL_law 230 = .ok (.aload_n 0, 1) := by decide +kernel
theorem dL_law_231 : decode cL_law 231 = .ok (.iload_n 3, 1) := by decide +kernel
theorem dL_law_232 : decode cL_law 232 = .ok (.iconst 2, 1) := by decide +kernel
theorem dL_law_233 : decode cL_law 233 = .ok (.iadd, 1) := by decide +kernel
theorem dL_law_234 : decode cL_law 234 = .ok (.iaload, 1) := by decide +kernel
theorem dL_law_235 : decode cL_law 235 = .ok (.ifCond .eq 7, 3) := by decide +kernel
theorem dL_law_238 : decode cL_law 238 = .ok (.iconst 1, 1) := by decide +kernel
theorem dL_law_239 : decode cL_law 239 = .ok (.goto 4, 3) := by decide +kernel
theorem dL_law_242 : decode cL_law 242 = .ok (.iconst 0, 1) := by decide +kernel
theorem dL_law_243 : decode cL_law 243 = .ok (.invokevirtual 36, 3) := by decide +kernel
theorem dL_law_246 : decode cL_law 246 = .ok (.if_icmp .eq 168, 3) := by decide +kernel
theorem dL_law_249 : decode cL_law 249 = .ok (.iconst 0, 1) := by decide +kernel
theorem dL_law_250 : decode cL_law 250 = .ok (.ireturn, 1) := by decide +kernel
theorem dL_law_251 : decode cL_law 251 = .ok (.aload_n 1, 1) := by decide +kernel
theorem dL_law_252 : decode cL_law 252 = .ok (.invokevirtual 37, 3) := by decide +kernel
theorem dL_law_255 : decode cL_law 255 = .ok (.aload_n 2, 1) := by decide +kernel
theorem dL_law_256 : decode cL_law 256 = .ok (.invokevirtual 40, 3) := by decide +kernel
theorem dL_law_259 : decode cL_law 259 = .ok (.if_icmp .eq 155, 3) := by decide +kernel
theorem dL_law_262 : decode cL_law 262 = .ok (.iconst 0, 1) := by decide +kernel
theorem dL_law_263 : decode cL_law 263 = .ok (.ireturn, 1) := by decide +kernel
theorem dL_law_264 : decode cL_law 264 = .ok (.aload_n 1, 1) := by decide +kernel
theorem dL_law_265 : decode cL_law 265 = .ok (.invokevirtual 41, 3) := by decide +kernel
theorem dL_law_268 : decode cL_law 268 = .ok (.aload_n 2, 1) := by decide +kernel
theorem dL_law_269 : decode cL_law 269 = .ok (.invokevirtual 44, 3) := by decide +kernel
theorem dL_law_272 : decode cL_law 272 = .ok (.if_icmp .eq 142, 3) := by decide +kernel
theorem dL_law_275 : decode cL_law 275 = .ok (.iconst 0, 1) := by decide +kernel
theorem dL_law_276 : decode cL_law 276 = .ok (.ireturn, 1) := by decide +kernel
theorem dL_law_277 : decode cL_law 277 = .ok (.aload_n 1, 1) := by decide +kernel
theorem dL_law_278 : decode cL_law 278 = .ok (.invokevirtual 45, 3) := by decide +kernel
theorem dL_law_281 : decode cL_law 281 = .ok (.aload_n 2, 1) := by decide +kernel
theorem dL_law_282 : decode cL_law 282 = .ok (.invokevirtual 48, 3) := by decide +kernel
theorem dL_law_285 : decode cL_law 285 = .ok (.if_icmp .eq 129, 3) := by decide +kernel
theorem dL_law_288 : decode cL_law 288 = .ok (.iconst 0, 1) := by decide +kernel
theorem dL_law_289 : decode cL_law 289 = .ok (.ireturn, 1) := by decide +kernel
theorem dL_law_290 : decode cL_law 290 = .ok (.aload_n 1, 1) := by decide +kernel
theorem dL_law_291 : decode cL_law 291 = .ok (.invokevirtual 49, 3) := by decide +kernel
theorem dL_law_294 : decode cL_law 294 = .ok (.aload_n 2, 1) := by decide +kernel
theorem dL_law_295 : decode cL_law 295 = .ok (.invokevirtual 52, 3) := by decide +kernel
theorem dL_law_298 : decode cL_law 298 = .ok (.if_icmp .eq 116, 3) := by decide +kernel
theorem dL_law_301 : decode cL_law 301 = .ok (.iconst 0, 1) := by decide +kernel
theorem dL_law_302 : decode cL_law 302 = .ok (.ireturn, 1) := by decide +kernel
theorem dL_law_303 : decode cL_law 303 = .ok (.aload_n 1, 1) := by decide +kernel
theorem dL_law_304 : decode cL_law 304 = .ok (.invokevirtual 53, 3) := by decide +kernel
theorem dL_law_307 : decode cL_law 307 = .ok (.aload_n 2, 1) := by decide +kernel
theorem dL_law_308 : decode cL_law 308 = .ok (.invokevirtual 56, 3) := by decide +kernel
theorem dL_law_311 : decode cL_law 311 = .ok (.if_icmp .eq 103, 3) := by decide +kernel
theorem dL_law_314 : decode cL_law 314 = .ok (.iconst 0, 1) := by decide +kernel
theorem dL_law_315 : decode cL_law 315 = .ok (.ireturn, 1) := by decide +kernel
theorem dL_law_316 : decode cL_law 316 = .ok (.aload_n 1, 1) := by decide +kernel
theorem dL_law_317 : decode cL_law 317 = .ok (.aload_n 0, 1) := by decide +kernel
theorem dL_law_318 : decode cL_law 318 = .ok (.iload_n 3, 1) := by decide +kernel
theorem dL_law_319 : decode cL_law 319 = .ok (.iconst 1, 1) := by decide +kernel
theorem dL_law_320 : decode cL_law 320 = .ok (.iadd, 1) := by decide +kernel
theorem dL_law_321 : decode cL_law 321 = .ok (.iaload, 1) := by decide +kernel
theorem dL_law_322 : decode cL_law 322 = .ok (.invokevirtual 57, 3) := by decide +kernel
theorem dL_law_325 : decode cL_law 325 = .ok (.aload_n 2, 1) := by decide +kernel
theorem dL_law_326 : decode cL_law 326 = .ok (.aload_n 0, 1) := by decide +kernel
theorem dL_law_327 : decode cL_law 327 = .ok (.iload_n 3, 1) := by decide +kernel
theorem dL_law_328 : decode cL_law 328 = .ok (.iconst 1, 1) := by decide +kernel
theorem dL_law_329 : decode cL_law 329 = .ok (.iadd, 1) := by decide +kernel
theorem dL_law_330 : decode cL_law 330 = .ok (.iaload, 1) := by decide +kernel
theorem dL_law_331 : decode cL_law 331 = .ok (.invokevirtual 60, 3) := by decide +kernel
theorem dL_law_334 : decode cL_law 334 = .ok (.if_icmp .eq 80, 3) := by decide +kernel
theorem dL_law_337 : decode cL_law 337 = .ok (.iconst 0, 1) := by decide +kernel
theorem dL_law_338 : decode cL_law 338 = .ok (.ireturn, 1) := by decide +kernel
theorem dL_law_339 : decode cL_law 339 = .ok (.aload_n 1, 1) := by decide +kernel
theorem dL_law_340 : decode cL_law 340 = .ok (.invokevirtual 61, 3) := by decide +kernel
theorem dL_law_343 : decode cL_law 343 = .ok (.aload_n 2, 1) := by decide +kernel
theorem dL_law_344 : decode cL_law 344 = .ok (.invokevirtual 64, 3) := by decide +kernel
theorem dL_law_347 : decode cL_law 347 = .ok (.if_icmp .eq 67, 3) := by decide +kernel
theorem dL_law_350 : decode cL_law 350 = .ok (.iconst 0, 1) := by decide +kernel
theorem dL_law_351 : decode cL_law 351 = .ok (.ireturn, 1) := by decide +kernel
theorem dL_law_352 : decode cL_law 352 = .ok (.aload_n 1, 1) := by decide +kernel
theorem dL_law_353 : decode cL_law 353 = .ok (.invokevirtual 65, 3) := by decide +kernel
theorem dL_law_356 : decode cL_law 356 = .ok (.aload_n 2, 1) := by decide +kernel
theorem dL_law_357 : decode cL_law 357 = .ok (.invokevirtual 68, 3) := by decide +kernel
theorem dL_law_360 : decode cL_law 360 = .ok (.if_icmp .eq 54, 3) := by decide +kernel
theorem dL_law_363 : decode cL_law 363 = .ok (.iconst 0, 1) := by decide +kernel
theorem dL_law_364 : decode cL_law 364 = .ok (.ireturn, 1) := by decide +kernel
theorem dL_law_365 : decode cL_law 365 = .ok (.aload_n 1, 1) := by decide +kernel
theorem dL_law_366 : decode cL_law 366 = .ok (.aload_n 0, 1) := by decide +kernel
theorem dL_law_367 : decode cL_law 367 = .ok (.iload_n 3, 1) := by decide +kernel
theorem dL_law_368 : decode cL_law 368 = .ok (.iconst 1, 1) := by decide +kernel
theorem dL_law_369 : decode cL_law 369 = .ok (.iadd, 1) := by decide +kernel
theorem dL_law_370 : decode cL_law 370 = .ok (.iaload, 1) := by decide +kernel
theorem dL_law_371 : decode cL_law 371 = .ok (.invokevirtual 69, 3) := by decide +kernel
theorem dL_law_374 : decode cL_law 374 = .ok (.aload_n 2, 1) := by decide +kernel
theorem dL_law_375 : decode cL_law 375 = .ok (.aload_n 0, 1) := by decide +kernel
theorem dL_law_376 : decode cL_law 376 = .ok (.iload_n 3, 1) := by decide +kernel
theorem dL_law_377 : decode cL_law 377 = .ok (.iconst 1, 1) := by decide +kernel
theorem dL_law_378 : decode cL_law 378 = .ok (.iadd, 1) := by decide +kernel
theorem dL_law_379 : decode cL_law 379 = .ok (.iaload, 1) := by decide +kernel
theorem dL_law_380 : decode cL_law 380 = .ok (.invokevirtual 72, 3) := by decide +kernel
theorem dL_law_383 : decode cL_law 383 = .ok (.if_icmp .eq 31, 3) := by decide +kernel
theorem dL_law_386 : decode cL_law 386 = .ok (.iconst 0, 1) := by decide +kernel
theorem dL_law_387 : decode cL_law 387 = .ok (.ireturn, 1) := by decide +kernel
theorem dL_law_388 : decode cL_law 388 = .ok (.aload_n 1, 1) := by decide +kernel
theorem dL_law_389 : decode cL_law 389 = .ok (.invokevirtual 73, 3) := by decide +kernel
theorem dL_law_392 : decode cL_law 392 = .ok (.aload_n 2, 1) := by decide +kernel
theorem dL_law_393 : decode cL_law 393 = .ok (.invokevirtual 76, 3) := by decide +kernel
theorem dL_law_396 : decode cL_law 396 = .ok (.if_icmp .eq 18, 3) := by decide +kernel
theorem dL_law_399 : decode cL_law 399 = .ok (.iconst 0, 1) := by decide +kernel
theorem dL_law_400 : decode cL_law 400 = .ok (.ireturn, 1) := by decide +kernel
theorem dL_law_401 : decode cL_law 401 = .ok (.aload_n 1, 1) := by decide +kernel
theorem dL_law_402 : decode cL_law 402 = .ok (.invokevirtual 77, 3) := by decide +kernel
theorem dL_law_405 : decode cL_law 405 = .ok (.aload_n 2, 1) := by decide +kernel
theorem dL_law_406 : decode cL_law 406 = .ok (.invokevirtual 80, 3) := by decide +kernel
theorem dL_law_409 : decode cL_law 409 = .ok (.if_icmp .eq 5, 3) := by decide +kernel
theorem dL_law_412 : decode cL_law 412 = .ok (.iconst 0, 1) := by decide +kernel
theorem dL_law_413 : decode cL_law 413 = .ok (.ireturn, 1) := by decide +kernel
theorem dL_law_414 : decode cL_law 414 = .ok (.iinc 3 4, 3) := by decide +kernel
theorem dL_law_417 : decode cL_law 417 = .ok (.goto (-399), 3) := by decide +kernel
theorem dL_law_420 : decode cL_law 420 = .ok (.iconst 1, 1) := by decide +kernel
theorem dL_law_421 : decode cL_law 421 = .ok (.ireturn, 1) := by decide +kernel
theorem q18 : (Jvm.Cond.initialized "StepDebuggerLaw") ∈ lw_all := lw_g (lw_at lw_m1 0 rfl) rfl
theorem q21 : (Jvm.Cond.classLink "StepDebuggerLaw" (7 : Nat) "StepDebugger") ∈ lw_all := lw_g (lw_at lw_m1 3 rfl) rfl
theorem q23 : (Jvm.Cond.methodLink "StepDebuggerLaw" (9 : Nat) ({ cls := "StepDebugger", name := "<init>", desc := "()V" } : Jvm.MethodName)) ∈ lw_all := lw_g (lw_at lw_m1 5 rfl) rfl
theorem q86 : (Jvm.Cond.methodLink "StepDebuggerLaw" (13 : Nat) ({ cls := "StepDebugger", name := "emit", desc := "(III)I" } : Jvm.MethodName)) ∈ lw_all := lw_g (lw_at lw_m1 68 rfl) rfl
theorem q90 : (Jvm.Cond.methodLink "StepDebuggerLaw" (18 : Nat) ({ cls := "StepDebugger", name := "length", desc := "()I" } : Jvm.MethodName)) ∈ lw_all := lw_g (lw_at lw_m1 72 rfl) rfl
theorem q94 : (Jvm.Cond.methodLink "StepDebuggerLaw" (23 : Nat) ({ cls := "StepDebugger", name := "codeAt", desc := "(I)I" } : Jvm.MethodName)) ∈ lw_all := lw_g (lw_at lw_m1 76 rfl) rfl
theorem q102 : (Jvm.Cond.methodLink "StepDebuggerLaw" (28 : Nat) ({ cls := "StepDebugger", name := "reset", desc := "()V" } : Jvm.MethodName)) ∈ lw_all := lw_g (lw_at lw_m1 84 rfl) rfl
theorem q106 : (Jvm.Cond.methodLink "StepDebuggerLaw" (32 : Nat) ({ cls := "StepDebugger", name := "breakAt", desc := "(IZ)Z" } : Jvm.MethodName)) ∈ lw_all := lw_g (lw_at lw_m1 88 rfl) rfl
theorem q110 : (Jvm.Cond.methodLink "StepDebuggerLaw" (37 : Nat) ({ cls := "StepDebugger", name := "breakpoints", desc := "()I" } : Jvm.MethodName)) ∈ lw_all := lw_g (lw_at lw_m1 92 rfl) rfl
theorem q114 : (Jvm.Cond.methodLink "StepDebuggerLaw" (41 : Nat) ({ cls := "StepDebugger", name := "step", desc := "()I" } : Jvm.MethodName)) ∈ lw_all := lw_g (lw_at lw_m1 96 rfl) rfl
theorem q166 : (Jvm.Cond.methodLink "StepDebuggerLaw" (45 : Nat) ({ cls := "StepDebugger", name := "stepOver", desc := "()I" } : Jvm.MethodName)) ∈ lw_all := lw_g (lw_at lw_m1 148 rfl) rfl
theorem q170 : (Jvm.Cond.methodLink "StepDebuggerLaw" (49 : Nat) ({ cls := "StepDebugger", name := "stepOut", desc := "()I" } : Jvm.MethodName)) ∈ lw_all := lw_g (lw_at lw_m1 152 rfl) rfl
theorem q174 : (Jvm.Cond.methodLink "StepDebuggerLaw" (53 : Nat) ({ cls := "StepDebugger", name := "go", desc := "()I" } : Jvm.MethodName)) ∈ lw_all := lw_g (lw_at lw_m1 156 rfl) rfl
theorem q178 : (Jvm.Cond.methodLink "StepDebuggerLaw" (57 : Nat) ({ cls := "StepDebugger", name := "goTo", desc := "(I)I" } : Jvm.MethodName)) ∈ lw_all := lw_g (lw_at lw_m1 160 rfl) rfl
theorem q182 : (Jvm.Cond.methodLink "StepDebuggerLaw" (61 : Nat) ({ cls := "StepDebugger", name := "reason", desc := "()I" } : Jvm.MethodName)) ∈ lw_all := lw_g (lw_at lw_m1 164 rfl) rfl
theorem q186 : (Jvm.Cond.methodLink "StepDebuggerLaw" (65 : Nat) ({ cls := "StepDebugger", name := "position", desc := "()I" } : Jvm.MethodName)) ∈ lw_all := lw_g (lw_at lw_m1 168 rfl) rfl
theorem q190 : (Jvm.Cond.methodLink "StepDebuggerLaw" (69 : Nat) ({ cls := "StepDebugger", name := "peek", desc := "(I)I" } : Jvm.MethodName)) ∈ lw_all := lw_g (lw_at lw_m1 172 rfl) rfl
theorem q194 : (Jvm.Cond.methodLink "StepDebuggerLaw" (73 : Nat) ({ cls := "StepDebugger", name := "depth", desc := "()I" } : Jvm.MethodName)) ∈ lw_all := lw_g (lw_at lw_m1 176 rfl) rfl
theorem q198 : (Jvm.Cond.methodLink "StepDebuggerLaw" (77 : Nat) ({ cls := "StepDebugger", name := "steps", desc := "()I" } : Jvm.MethodName)) ∈ lw_all := lw_g (lw_at lw_m1 180 rfl) rfl
theorem q202 : (Jvm.Cond.classLink "StepDebuggerLaw" (10 : Nat) "StepDebuggerModel") ∈ lw_all := lw_g (lw_at lw_m1 184 rfl) rfl
theorem q204 : (Jvm.Cond.methodLink "StepDebuggerLaw" (12 : Nat) ({ cls := "StepDebuggerModel", name := "<init>", desc := "()V" } : Jvm.MethodName)) ∈ lw_all := lw_g (lw_at lw_m1 186 rfl) rfl
theorem q248 : (Jvm.Cond.methodLink "StepDebuggerLaw" (17 : Nat) ({ cls := "StepDebuggerModel", name := "emit", desc := "(III)I" } : Jvm.MethodName)) ∈ lw_all := lw_g (lw_at lw_m1 230 rfl) rfl
theorem q252 : (Jvm.Cond.methodLink "StepDebuggerLaw" (22 : Nat) ({ cls := "StepDebuggerModel", name := "length", desc := "()I" } : Jvm.MethodName)) ∈ lw_all := lw_g (lw_at lw_m1 234 rfl) rfl
theorem q256 : (Jvm.Cond.methodLink "StepDebuggerLaw" (27 : Nat) ({ cls := "StepDebuggerModel", name := "codeAt", desc := "(I)I" } : Jvm.MethodName)) ∈ lw_all := lw_g (lw_at lw_m1 238 rfl) rfl
theorem q260 : (Jvm.Cond.methodLink "StepDebuggerLaw" (31 : Nat) ({ cls := "StepDebuggerModel", name := "reset", desc := "()V" } : Jvm.MethodName)) ∈ lw_all := lw_g (lw_at lw_m2 2 rfl) rfl
theorem q264 : (Jvm.Cond.methodLink "StepDebuggerLaw" (36 : Nat) ({ cls := "StepDebuggerModel", name := "breakAt", desc := "(IZ)Z" } : Jvm.MethodName)) ∈ lw_all := lw_g (lw_at lw_m2 6 rfl) rfl
theorem q268 : (Jvm.Cond.methodLink "StepDebuggerLaw" (40 : Nat) ({ cls := "StepDebuggerModel", name := "breakpoints", desc := "()I" } : Jvm.MethodName)) ∈ lw_all := lw_g (lw_at lw_m2 10 rfl) rfl
theorem q272 : (Jvm.Cond.methodLink "StepDebuggerLaw" (44 : Nat) ({ cls := "StepDebuggerModel", name := "step", desc := "()I" } : Jvm.MethodName)) ∈ lw_all := lw_g (lw_at lw_m2 14 rfl) rfl
theorem q296 : (Jvm.Cond.methodLink "StepDebuggerLaw" (48 : Nat) ({ cls := "StepDebuggerModel", name := "stepOver", desc := "()I" } : Jvm.MethodName)) ∈ lw_all := lw_g (lw_at lw_m2 38 rfl) rfl
theorem q300 : (Jvm.Cond.methodLink "StepDebuggerLaw" (52 : Nat) ({ cls := "StepDebuggerModel", name := "stepOut", desc := "()I" } : Jvm.MethodName)) ∈ lw_all := lw_g (lw_at lw_m2 42 rfl) rfl
theorem q304 : (Jvm.Cond.methodLink "StepDebuggerLaw" (56 : Nat) ({ cls := "StepDebuggerModel", name := "go", desc := "()I" } : Jvm.MethodName)) ∈ lw_all := lw_g (lw_at lw_m2 46 rfl) rfl
theorem q308 : (Jvm.Cond.methodLink "StepDebuggerLaw" (60 : Nat) ({ cls := "StepDebuggerModel", name := "goTo", desc := "(I)I" } : Jvm.MethodName)) ∈ lw_all := lw_g (lw_at lw_m2 50 rfl) rfl
theorem q312 : (Jvm.Cond.methodLink "StepDebuggerLaw" (64 : Nat) ({ cls := "StepDebuggerModel", name := "reason", desc := "()I" } : Jvm.MethodName)) ∈ lw_all := lw_g (lw_at lw_m2 54 rfl) rfl
theorem q316 : (Jvm.Cond.methodLink "StepDebuggerLaw" (68 : Nat) ({ cls := "StepDebuggerModel", name := "position", desc := "()I" } : Jvm.MethodName)) ∈ lw_all := lw_g (lw_at lw_m2 58 rfl) rfl
theorem q320 : (Jvm.Cond.methodLink "StepDebuggerLaw" (72 : Nat) ({ cls := "StepDebuggerModel", name := "peek", desc := "(I)I" } : Jvm.MethodName)) ∈ lw_all := lw_g (lw_at lw_m2 62 rfl) rfl
theorem q324 : (Jvm.Cond.methodLink "StepDebuggerLaw" (76 : Nat) ({ cls := "StepDebuggerModel", name := "depth", desc := "()I" } : Jvm.MethodName)) ∈ lw_all := lw_g (lw_at lw_m2 66 rfl) rfl
theorem q328 : (Jvm.Cond.methodLink "StepDebuggerLaw" (80 : Nat) ({ cls := "StepDebuggerModel", name := "steps", desc := "()I" } : Jvm.MethodName)) ∈ lw_all := lw_g (lw_at lw_m2 70 rfl) rfl
end
section
/-! THE PURE STATE. Sh: what both classes hold (code, target, breakpoints, reason); XE: what the debugger holds beside it (hidden, planted, aim, aimPlace, aimDepth) -/
abbrev Fn : Type := Nat → Int32
abbrev Sh : Type := Fn × Fn × Fn × Int32 × Fn × Fn × Fn × Int32 × Int32 × Int32 × Int32 × Int32 × Int32
abbrev XE : Type := Fn × Int32 × Int32 × Int32 × Int32
def sOp (S : Sh) : Fn := S.1
def sAs (S : Sh) : Fn := S.2.1
def sBs (S : Sh) : Fn := S.2.2.1
def sSz (S : Sh) : Int32 := S.2.2.2.1
def sRg (S : Sh) : Fn := S.2.2.2.2.1
def sMm (S : Sh) : Fn := S.2.2.2.2.2.1
def sRt (S : Sh) : Fn := S.2.2.2.2.2.2.1
def sLv (S : Sh) : Int32 := S.2.2.2.2.2.2.2.1
def sAt (S : Sh) : Int32 := S.2.2.2.2.2.2.2.2.1
def sOv (S : Sh) : Int32 := S.2.2.2.2.2.2.2.2.2.1
def sCt (S : Sh) : Int32 := S.2.2.2.2.2.2.2.2.2.2.1
def sBk (S : Sh) : Int32 := S.2.2.2.2.2.2.2.2.2.2.2.1
def sWy (S : Sh) : Int32 := S.2.2.2.2.2.2.2.2.2.2.2.2
def zOp (S : Sh) (y : Fn) : Sh := (y, S.2)
def zAs (S : Sh) (y : Fn) : Sh := (S.1, y, S.2.2)
def zBs (S : Sh) (y : Fn) : Sh := (S.1, S.2.1, y, S.2.2.2)
def zSz (S : Sh) (y : Int32) : Sh := (S.1, S.2.1, S.2.2.1, y, S.2.2.2.2)
def zRg (S : Sh) (y : Fn) : Sh := (S.1, S.2.1, S.2.2.1, S.2.2.2.1, y, S.2.2.2.2.2)
def zMm (S : Sh) (y : Fn) : Sh := (S.1, S.2.1, S.2.2.1, S.2.2.2.1, S.2.2.2.2.1, y, S.2.2.2.2.2.2)
def zRt (S : Sh) (y : Fn) : Sh := (S.1, S.2.1, S.2.2.1, S.2.2.2.1, S.2.2.2.2.1, S.2.2.2.2.2.1, y, S.2.2.2.2.2.2.2)
def zLv (S : Sh) (y : Int32) : Sh := (S.1, S.2.1, S.2.2.1, S.2.2.2.1, S.2.2.2.2.1, S.2.2.2.2.2.1, S.2.2.2.2.2.2.1, y, S.2.2.2.2.2.2.2.2)
def zAt (S : Sh) (y : Int32) : Sh := (S.1, S.2.1, S.2.2.1, S.2.2.2.1, S.2.2.2.2.1, S.2.2.2.2.2.1, S.2.2.2.2.2.2.1, S.2.2.2.2.2.2.2.1, y, S.2.2.2.2.2.2.2.2.2)
def zOv (S : Sh) (y : Int32) : Sh := (S.1, S.2.1, S.2.2.1, S.2.2.2.1, S.2.2.2.2.1, S.2.2.2.2.2.1, S.2.2.2.2.2.2.1, S.2.2.2.2.2.2.2.1, S.2.2.2.2.2.2.2.2.1, y, S.2.2.2.2.2.2.2.2.2.2)
def zCt (S : Sh) (y : Int32) : Sh := (S.1, S.2.1, S.2.2.1, S.2.2.2.1, S.2.2.2.2.1, S.2.2.2.2.2.1, S.2.2.2.2.2.2.1, S.2.2.2.2.2.2.2.1, S.2.2.2.2.2.2.2.2.1, S.2.2.2.2.2.2.2.2.2.1, y, S.2.2.2.2.2.2.2.2.2.2.2)
def zBk (S : Sh) (y : Int32) : Sh := (S.1, S.2.1, S.2.2.1, S.2.2.2.1, S.2.2.2.2.1, S.2.2.2.2.2.1, S.2.2.2.2.2.2.1, S.2.2.2.2.2.2.2.1, S.2.2.2.2.2.2.2.2.1, S.2.2.2.2.2.2.2.2.2.1, S.2.2.2.2.2.2.2.2.2.2.1, y, S.2.2.2.2.2.2.2.2.2.2.2.2)
def zWy (S : Sh) (y : Int32) : Sh := (S.1, S.2.1, S.2.2.1, S.2.2.2.1, S.2.2.2.2.1, S.2.2.2.2.2.1, S.2.2.2.2.2.2.1, S.2.2.2.2.2.2.2.1, S.2.2.2.2.2.2.2.2.1, S.2.2.2.2.2.2.2.2.2.1, S.2.2.2.2.2.2.2.2.2.2.1, S.2.2.2.2.2.2.2.2.2.2.2.1, y)
def eH (E : XE) : Fn := E.1
def eP (E : XE) : Int32 := E.2.1
def eA (E : XE) : Int32 := E.2.2.1
def eQ (E : XE) : Int32 := E.2.2.2.1
def eD (E : XE) : Int32 := E.2.2.2.2
def wH (E : XE) (y : Fn) : XE := (y, E.2)
def wP (E : XE) (y : Int32) : XE := (E.1, y, E.2.2)
def wA (E : XE) (y : Int32) : XE := (E.1, E.2.1, y, E.2.2.2)
def wQ (E : XE) (y : Int32) : XE := (E.1, E.2.1, E.2.2.1, y, E.2.2.2.2)
def wD (E : XE) (y : Int32) : XE := (E.1, E.2.1, E.2.2.1, E.2.2.2.1, y)
end
section
/-! ROWS OF OUR OWN: for each class one bundled invariant (xI, mI) and a row for each field, array, call and return -/
set_option maxRecDepth 100000
abbrev vwCl : List vw_C := [(RX0, TX0, 18), (RX1, TX1, 13)]
abbrev rmL (k : Nat) : Room := { frames := k, cells := 0, slots := 0, locals := 26 * k }
def xF (a : Nat → Nat) (S : Sh) (E : XE) : List Value := [.ref (a 0), .ref (a 1), .ref (a 2), .ref (a 3), .int (eP E), .int (sSz S), .ref (a 6), .ref (a 7), .ref (a 8), .int (sLv S), .int (sAt S), .int (sOv S), .int (sCt S), .int (sBk S), .int (sWy S), .int (eA E), .int (eQ E), .int (eD E)]
def xW (h : Nat) (a : Nat → Nat) (ca : Nat → ClassId) (S : Sh) (E : XE) : va_W := [(h, .inr (0, xF a S E)), (a 0, .inl (ca 0, 20, .inl (sOp S))), (a 1, .inl (ca 1, 20, .inl (sAs S))), (a 2, .inl (ca 2, 20, .inl (sBs S))), (a 3, .inl (ca 3, 20, .inl (eH E))), (a 6, .inl (ca 6, 4, .inl (sRg S))), (a 7, .inl (ca 7, 8, .inl (sMm S))), (a 8, .inl (ca 8, 6, .inl (sRt S)))]
def xT (ca : Nat → ClassId) : List (ClassId × FieldType) := [(ca 0, .byte), (ca 1, .byte), (ca 2, .int), (ca 3, .byte), (ca 6, .int), (ca 7, .int), (ca 8, .int)]
def xI (D : va_G) (h : Nat) (a : Nat → Nat) (ca : Nat → ClassId) (A : Nat → Prop) (s : State) (H : Heap) (locs : List Loc) (S : Sh) (E : XE) : Prop := va_K D vwCl (xT ca) s ∧ (∀ q, s.heap.size ≤ q → A q) ∧ va_P D vwCl (xW h a ca S E) H ∧ va_D A (xW h a ca S E) ∧ va_S A s.heap H locs
def xA (h : Nat) (a : Nat → Nat) (ca : Nat → ClassId) (S : Sh) (E : XE) (sz : Nat) : Nat → Prop := va_A (xW h a ca S E) sz
def xPc (D : va_G) (h : Nat) (a : Nat → Nat) (ca : Nat → ClassId) (As : List Value) (sz : Nat) (S : Sh) (E : XE) : Array Value → State → Prop := va_Pc (.ref h :: As) (fun U => U.heap.size = sz ∧ va_P D vwCl (xW h a ca S E) U.heap ∧ va_K D vwCl (xT ca) U ∧ va_D (fun _ => True) (xW h a ca S E))
def xB (D : va_G) (h : Nat) (a : Nat → Nat) (ca : Nat → ClassId) (A : Nat → Prop) (u : Sh × XE) (t : State) : Prop := va_P D vwCl (xW h a ca u.1 u.2) t.heap ∧ va_K D vwCl (xT ca) t ∧ va_D A (xW h a ca u.1 u.2)
def xQi (D : va_G) (h : Nat) (a : Nat → Nat) (ca : Nat → ClassId) (sz : Nat) (S : Sh) (E : XE) (post : Int32 → Sh × XE → Prop) : Array Value → State → Outcome → State → Prop := va_Qi post (xB D h a ca (xA h a ca S E sz)) (xA h a ca S E sz)
def xQv (D : va_G) (h : Nat) (a : Nat → Nat) (ca : Nat → ClassId) (sz : Nat) (S : Sh) (E : XE) (post : Sh × XE → Prop) : Array Value → State → Outcome → State → Prop := va_Qv post (xB D h a ca (xA h a ca S E sz)) (xA h a ca S E sz)
section
variable {p : Program} {l : Launch} {e : Env} {R : Room} {s : State} {m : MethodId} {args : Array Value} {below : List Frame} {meth : Method} {c : Code} {H : Heap} {locs : List Loc} {cells slots : Nat} {Q : State → Prop} {cc : ByteArray} {nL pc : Nat} {ls : Array Slot} {rest : List Value} {D : va_G} {h : Nat} {a : Nat → Nat} {ca : Nat → ClassId} {A : Nat → Prop} {S : Sh} {E : XE}
theorem x_g0 (F : CallFix p m c cc nL s args lw_all RX0) (I : xI D h a ca A s H locs S E) (hd : decode cc pc = .ok (.getfield 7, 3)) (kk : W p l e R s m args below meth c H locs cells slots Q (F0 m (pc + 3) ls (.ref (a 0) :: rest))) : W p l e R s m args below meth c H locs cells slots Q (F0 m pc ls (.ref h :: rest)) := by
  obtain ⟨hx, hb, hml, hown, hts⟩ := F
  obtain ⟨hK, hA, hP, hD, hS⟩ := I
  exact va_get (D := D) (ci := 0) (v := .ref (a 0)) (C := RX0) (T := TX0) (N := 18) hx hb hts in_X0 hown hK hP 0 rfl rfl 0 (by decide) (hts _ q29) (fun _ h9 => h9) rfl hd kk
theorem x_ld0 (F : CallFix p m c cc nL s args lw_all RX0) (I : xI D h a ca A s H locs S E) {i v : Int32} (hin : vp_in i 20) (hv : sOp S i.toNatClampNeg = v) (hd : decode cc pc = .ok (.baload, 1)) (kk : W p l e R s m args below meth c H locs cells slots Q (F0 m (pc + 1) ls (.int v :: rest))) : W p l e R s m args below meth c H locs cells slots Q (F0 m pc ls (.int i :: .ref (a 0) :: rest)) := by
  subst hv
  obtain ⟨hx, hb, hml, hown, hts⟩ := F
  obtain ⟨hK, hA, hP, hD, hS⟩ := I
  exact va_bald hx hb hK hP 1 0 rfl rfl hin hd kk
theorem x_st0 (F : CallFix p m c cc nL s args lw_all RX0) (I : xI D h a ca A s H locs S E) {f : Fn} (hf : sOp S = f) {i y v : Int32} (hin : vp_in i 20) (hv : vp_nar .byte y = v) (hd : decode cc pc = .ok (.bastore, 1)) (kk : ∀ (H1 : Heap) (locs1 : List Loc), xI D h a ca A s H1 locs1 (zOp S (upd f i.toNatClampNeg v)) E → W p l e R s m args below meth c H1 locs1 cells slots Q (F0 m (pc + 1) ls rest)) : W p l e R s m args below meth c H locs cells slots Q (F0 m pc ls (.int y :: .int i :: .ref (a 0) :: rest)) := by
  subst hv
  subst hf
  obtain ⟨hx, hb, hml, hown, hts⟩ := F
  obtain ⟨hK, hA, hP, hD, hS⟩ := I
  exact va_bast hx hb hK hP hD hS 1 0 rfl rfl hin hd (fun H1 locs1 hP hD hS => kk H1 locs1 ⟨hK, hA, hP, hD, hS⟩)
theorem x_g1 (F : CallFix p m c cc nL s args lw_all RX0) (I : xI D h a ca A s H locs S E) (hd : decode cc pc = .ok (.getfield 13, 3)) (kk : W p l e R s m args below meth c H locs cells slots Q (F0 m (pc + 3) ls (.ref (a 1) :: rest))) : W p l e R s m args below meth c H locs cells slots Q (F0 m pc ls (.ref h :: rest)) := by
  obtain ⟨hx, hb, hml, hown, hts⟩ := F
  obtain ⟨hK, hA, hP, hD, hS⟩ := I
  exact va_get (D := D) (ci := 0) (v := .ref (a 1)) (C := RX0) (T := TX0) (N := 18) hx hb hts in_X0 hown hK hP 0 rfl rfl 1 (by decide) (hts _ q30) (fun _ h9 => h9) rfl hd kk
theorem x_ld1 (F : CallFix p m c cc nL s args lw_all RX0) (I : xI D h a ca A s H locs S E) {i v : Int32} (hin : vp_in i 20) (hv : sAs S i.toNatClampNeg = v) (hd : decode cc pc = .ok (.baload, 1)) (kk : W p l e R s m args below meth c H locs cells slots Q (F0 m (pc + 1) ls (.int v :: rest))) : W p l e R s m args below meth c H locs cells slots Q (F0 m pc ls (.int i :: .ref (a 1) :: rest)) := by
  subst hv
  obtain ⟨hx, hb, hml, hown, hts⟩ := F
  obtain ⟨hK, hA, hP, hD, hS⟩ := I
  exact va_bald hx hb hK hP 2 1 rfl rfl hin hd kk
theorem x_st1 (F : CallFix p m c cc nL s args lw_all RX0) (I : xI D h a ca A s H locs S E) {f : Fn} (hf : sAs S = f) {i y v : Int32} (hin : vp_in i 20) (hv : vp_nar .byte y = v) (hd : decode cc pc = .ok (.bastore, 1)) (kk : ∀ (H1 : Heap) (locs1 : List Loc), xI D h a ca A s H1 locs1 (zAs S (upd f i.toNatClampNeg v)) E → W p l e R s m args below meth c H1 locs1 cells slots Q (F0 m (pc + 1) ls rest)) : W p l e R s m args below meth c H locs cells slots Q (F0 m pc ls (.int y :: .int i :: .ref (a 1) :: rest)) := by
  subst hv
  subst hf
  obtain ⟨hx, hb, hml, hown, hts⟩ := F
  obtain ⟨hK, hA, hP, hD, hS⟩ := I
  exact va_bast hx hb hK hP hD hS 2 1 rfl rfl hin hd (fun H1 locs1 hP hD hS => kk H1 locs1 ⟨hK, hA, hP, hD, hS⟩)
theorem x_g2 (F : CallFix p m c cc nL s args lw_all RX0) (I : xI D h a ca A s H locs S E) (hd : decode cc pc = .ok (.getfield 16, 3)) (kk : W p l e R s m args below meth c H locs cells slots Q (F0 m (pc + 3) ls (.ref (a 2) :: rest))) : W p l e R s m args below meth c H locs cells slots Q (F0 m pc ls (.ref h :: rest)) := by
  obtain ⟨hx, hb, hml, hown, hts⟩ := F
  obtain ⟨hK, hA, hP, hD, hS⟩ := I
  exact va_get (D := D) (ci := 0) (v := .ref (a 2)) (C := RX0) (T := TX0) (N := 18) hx hb hts in_X0 hown hK hP 0 rfl rfl 2 (by decide) (hts _ q31) (fun _ h9 => h9) rfl hd kk
theorem x_ld2 (F : CallFix p m c cc nL s args lw_all RX0) (I : xI D h a ca A s H locs S E) {i v : Int32} (hin : vp_in i 20) (hv : sBs S i.toNatClampNeg = v) (hd : decode cc pc = .ok (.iaload, 1)) (kk : W p l e R s m args below meth c H locs cells slots Q (F0 m (pc + 1) ls (.int v :: rest))) : W p l e R s m args below meth c H locs cells slots Q (F0 m pc ls (.int i :: .ref (a 2) :: rest)) := by
  subst hv
  obtain ⟨hx, hb, hml, hown, hts⟩ := F
  obtain ⟨hK, hA, hP, hD, hS⟩ := I
  exact va_iald hx hb hK hP 3 2 rfl rfl hin hd kk
theorem x_st2 (F : CallFix p m c cc nL s args lw_all RX0) (I : xI D h a ca A s H locs S E) {f : Fn} (hf : sBs S = f) {i v : Int32} (hin : vp_in i 20) (hd : decode cc pc = .ok (.iastore, 1)) (kk : ∀ (H1 : Heap) (locs1 : List Loc), xI D h a ca A s H1 locs1 (zBs S (upd f i.toNatClampNeg v)) E → W p l e R s m args below meth c H1 locs1 cells slots Q (F0 m (pc + 1) ls rest)) : W p l e R s m args below meth c H locs cells slots Q (F0 m pc ls (.int v :: .int i :: .ref (a 2) :: rest)) := by
  subst hf
  obtain ⟨hx, hb, hml, hown, hts⟩ := F
  obtain ⟨hK, hA, hP, hD, hS⟩ := I
  exact va_iast hx hb hK hP hD hS 3 2 rfl rfl hin hd (fun H1 locs1 hP hD hS => kk H1 locs1 ⟨hK, hA, hP, hD, hS⟩)
theorem x_g3 (F : CallFix p m c cc nL s args lw_all RX0) (I : xI D h a ca A s H locs S E) (hd : decode cc pc = .ok (.getfield 20, 3)) (kk : W p l e R s m args below meth c H locs cells slots Q (F0 m (pc + 3) ls (.ref (a 3) :: rest))) : W p l e R s m args below meth c H locs cells slots Q (F0 m pc ls (.ref h :: rest)) := by
  obtain ⟨hx, hb, hml, hown, hts⟩ := F
  obtain ⟨hK, hA, hP, hD, hS⟩ := I
  exact va_get (D := D) (ci := 0) (v := .ref (a 3)) (C := RX0) (T := TX0) (N := 18) hx hb hts in_X0 hown hK hP 0 rfl rfl 3 (by decide) (hts _ q32) (fun _ h9 => h9) rfl hd kk
theorem x_ld3 (F : CallFix p m c cc nL s args lw_all RX0) (I : xI D h a ca A s H locs S E) {i v : Int32} (hin : vp_in i 20) (hv : eH E i.toNatClampNeg = v) (hd : decode cc pc = .ok (.baload, 1)) (kk : W p l e R s m args below meth c H locs cells slots Q (F0 m (pc + 1) ls (.int v :: rest))) : W p l e R s m args below meth c H locs cells slots Q (F0 m pc ls (.int i :: .ref (a 3) :: rest)) := by
  subst hv
  obtain ⟨hx, hb, hml, hown, hts⟩ := F
  obtain ⟨hK, hA, hP, hD, hS⟩ := I
  exact va_bald hx hb hK hP 4 3 rfl rfl hin hd kk
theorem x_st3 (F : CallFix p m c cc nL s args lw_all RX0) (I : xI D h a ca A s H locs S E) {f : Fn} (hf : eH E = f) {i y v : Int32} (hin : vp_in i 20) (hv : vp_nar .byte y = v) (hd : decode cc pc = .ok (.bastore, 1)) (kk : ∀ (H1 : Heap) (locs1 : List Loc), xI D h a ca A s H1 locs1 S (wH E (upd f i.toNatClampNeg v)) → W p l e R s m args below meth c H1 locs1 cells slots Q (F0 m (pc + 1) ls rest)) : W p l e R s m args below meth c H locs cells slots Q (F0 m pc ls (.int y :: .int i :: .ref (a 3) :: rest)) := by
  subst hv
  subst hf
  obtain ⟨hx, hb, hml, hown, hts⟩ := F
  obtain ⟨hK, hA, hP, hD, hS⟩ := I
  exact va_bast hx hb hK hP hD hS 4 3 rfl rfl hin hd (fun H1 locs1 hP hD hS => kk H1 locs1 ⟨hK, hA, hP, hD, hS⟩)
theorem x_g4 (F : CallFix p m c cc nL s args lw_all RX0) (I : xI D h a ca A s H locs S E) {v : Int32} (hv : eP E = v) (hd : decode cc pc = .ok (.getfield 59, 3)) (kk : W p l e R s m args below meth c H locs cells slots Q (F0 m (pc + 3) ls (.int v :: rest))) : W p l e R s m args below meth c H locs cells slots Q (F0 m pc ls (.ref h :: rest)) := by
  subst hv
  obtain ⟨hx, hb, hml, hown, hts⟩ := F
  obtain ⟨hK, hA, hP, hD, hS⟩ := I
  exact va_get (D := D) (ci := 0) (v := .int (eP E)) (C := RX0) (T := TX0) (N := 18) hx hb hts in_X0 hown hK hP 0 rfl rfl 4 (by decide) (hts _ q33) (fun _ h9 => h9) rfl hd kk
theorem x_p4 (F : CallFix p m c cc nL s args lw_all RX0) (I : xI D h a ca A s H locs S E) {v : Int32} (hd : decode cc pc = .ok (.putfield 59, 3)) (kk : ∀ (H1 : Heap) (locs1 : List Loc), xI D h a ca A s H1 locs1 S (wP E v) → W p l e R s m args below meth c H1 locs1 cells slots Q (F0 m (pc + 3) ls rest)) : W p l e R s m args below meth c H locs cells slots Q (F0 m pc ls (.int v :: .ref h :: rest)) := by
  obtain ⟨hx, hb, hml, hown, hts⟩ := F
  obtain ⟨hK, hA, hP, hD, hS⟩ := I
  exact va_put (D := D) (ci := 0) (v := .int v) (ty := .int) (C := RX0) (T := TX0) (N := 18) hx hb hts in_X0 tyX0 tyX0_ok nmX0 hown hK hP hD hS 0 rfl rfl 4 (by decide) (hts _ q33) (fun _ h9 => h9) rfl (by decide +kernel) rfl rfl (Nat.le_of_ble_eq_true rfl) hd (fun H1 locs1 hP hD hS => kk H1 locs1 ⟨hK, hA, hP, hD, hS⟩)
theorem x_g5 (F : CallFix p m c cc nL s args lw_all RX0) (I : xI D h a ca A s H locs S E) {v : Int32} (hv : sSz S = v) (hd : decode cc pc = .ok (.getfield 32, 3)) (kk : W p l e R s m args below meth c H locs cells slots Q (F0 m (pc + 3) ls (.int v :: rest))) : W p l e R s m args below meth c H locs cells slots Q (F0 m pc ls (.ref h :: rest)) := by
  subst hv
  obtain ⟨hx, hb, hml, hown, hts⟩ := F
  obtain ⟨hK, hA, hP, hD, hS⟩ := I
  exact va_get (D := D) (ci := 0) (v := .int (sSz S)) (C := RX0) (T := TX0) (N := 18) hx hb hts in_X0 hown hK hP 0 rfl rfl 5 (by decide) (hts _ q34) (fun _ h9 => h9) rfl hd kk
theorem x_p5 (F : CallFix p m c cc nL s args lw_all RX0) (I : xI D h a ca A s H locs S E) {v : Int32} (hd : decode cc pc = .ok (.putfield 32, 3)) (kk : ∀ (H1 : Heap) (locs1 : List Loc), xI D h a ca A s H1 locs1 (zSz S v) E → W p l e R s m args below meth c H1 locs1 cells slots Q (F0 m (pc + 3) ls rest)) : W p l e R s m args below meth c H locs cells slots Q (F0 m pc ls (.int v :: .ref h :: rest)) := by
  obtain ⟨hx, hb, hml, hown, hts⟩ := F
  obtain ⟨hK, hA, hP, hD, hS⟩ := I
  exact va_put (D := D) (ci := 0) (v := .int v) (ty := .int) (C := RX0) (T := TX0) (N := 18) hx hb hts in_X0 tyX0 tyX0_ok nmX0 hown hK hP hD hS 0 rfl rfl 5 (by decide) (hts _ q34) (fun _ h9 => h9) rfl (by decide +kernel) rfl rfl (Nat.le_of_ble_eq_true rfl) hd (fun H1 locs1 hP hD hS => kk H1 locs1 ⟨hK, hA, hP, hD, hS⟩)
theorem x_g6 (F : CallFix p m c cc nL s args lw_all RX0) (I : xI D h a ca A s H locs S E) (hd : decode cc pc = .ok (.getfield 23, 3)) (kk : W p l e R s m args below meth c H locs cells slots Q (F0 m (pc + 3) ls (.ref (a 6) :: rest))) : W p l e R s m args below meth c H locs cells slots Q (F0 m pc ls (.ref h :: rest)) := by
  obtain ⟨hx, hb, hml, hown, hts⟩ := F
  obtain ⟨hK, hA, hP, hD, hS⟩ := I
  exact va_get (D := D) (ci := 0) (v := .ref (a 6)) (C := RX0) (T := TX0) (N := 18) hx hb hts in_X0 hown hK hP 0 rfl rfl 6 (by decide) (hts _ q35) (fun _ h9 => h9) rfl hd kk
theorem x_ld6 (F : CallFix p m c cc nL s args lw_all RX0) (I : xI D h a ca A s H locs S E) {i v : Int32} (hin : vp_in i 4) (hv : sRg S i.toNatClampNeg = v) (hd : decode cc pc = .ok (.iaload, 1)) (kk : W p l e R s m args below meth c H locs cells slots Q (F0 m (pc + 1) ls (.int v :: rest))) : W p l e R s m args below meth c H locs cells slots Q (F0 m pc ls (.int i :: .ref (a 6) :: rest)) := by
  subst hv
  obtain ⟨hx, hb, hml, hown, hts⟩ := F
  obtain ⟨hK, hA, hP, hD, hS⟩ := I
  exact va_iald hx hb hK hP 5 4 rfl rfl hin hd kk
theorem x_st6 (F : CallFix p m c cc nL s args lw_all RX0) (I : xI D h a ca A s H locs S E) {f : Fn} (hf : sRg S = f) {i v : Int32} (hin : vp_in i 4) (hd : decode cc pc = .ok (.iastore, 1)) (kk : ∀ (H1 : Heap) (locs1 : List Loc), xI D h a ca A s H1 locs1 (zRg S (upd f i.toNatClampNeg v)) E → W p l e R s m args below meth c H1 locs1 cells slots Q (F0 m (pc + 1) ls rest)) : W p l e R s m args below meth c H locs cells slots Q (F0 m pc ls (.int v :: .int i :: .ref (a 6) :: rest)) := by
  subst hf
  obtain ⟨hx, hb, hml, hown, hts⟩ := F
  obtain ⟨hK, hA, hP, hD, hS⟩ := I
  exact va_iast hx hb hK hP hD hS 5 4 rfl rfl hin hd (fun H1 locs1 hP hD hS => kk H1 locs1 ⟨hK, hA, hP, hD, hS⟩)
theorem x_g7 (F : CallFix p m c cc nL s args lw_all RX0) (I : xI D h a ca A s H locs S E) (hd : decode cc pc = .ok (.getfield 26, 3)) (kk : W p l e R s m args below meth c H locs cells slots Q (F0 m (pc + 3) ls (.ref (a 7) :: rest))) : W p l e R s m args below meth c H locs cells slots Q (F0 m pc ls (.ref h :: rest)) := by
  obtain ⟨hx, hb, hml, hown, hts⟩ := F
  obtain ⟨hK, hA, hP, hD, hS⟩ := I
  exact va_get (D := D) (ci := 0) (v := .ref (a 7)) (C := RX0) (T := TX0) (N := 18) hx hb hts in_X0 hown hK hP 0 rfl rfl 7 (by decide) (hts _ q36) (fun _ h9 => h9) rfl hd kk
theorem x_ld7 (F : CallFix p m c cc nL s args lw_all RX0) (I : xI D h a ca A s H locs S E) {i v : Int32} (hin : vp_in i 8) (hv : sMm S i.toNatClampNeg = v) (hd : decode cc pc = .ok (.iaload, 1)) (kk : W p l e R s m args below meth c H locs cells slots Q (F0 m (pc + 1) ls (.int v :: rest))) : W p l e R s m args below meth c H locs cells slots Q (F0 m pc ls (.int i :: .ref (a 7) :: rest)) := by
  subst hv
  obtain ⟨hx, hb, hml, hown, hts⟩ := F
  obtain ⟨hK, hA, hP, hD, hS⟩ := I
  exact va_iald hx hb hK hP 6 5 rfl rfl hin hd kk
theorem x_st7 (F : CallFix p m c cc nL s args lw_all RX0) (I : xI D h a ca A s H locs S E) {f : Fn} (hf : sMm S = f) {i v : Int32} (hin : vp_in i 8) (hd : decode cc pc = .ok (.iastore, 1)) (kk : ∀ (H1 : Heap) (locs1 : List Loc), xI D h a ca A s H1 locs1 (zMm S (upd f i.toNatClampNeg v)) E → W p l e R s m args below meth c H1 locs1 cells slots Q (F0 m (pc + 1) ls rest)) : W p l e R s m args below meth c H locs cells slots Q (F0 m pc ls (.int v :: .int i :: .ref (a 7) :: rest)) := by
  subst hf
  obtain ⟨hx, hb, hml, hown, hts⟩ := F
  obtain ⟨hK, hA, hP, hD, hS⟩ := I
  exact va_iast hx hb hK hP hD hS 6 5 rfl rfl hin hd (fun H1 locs1 hP hD hS => kk H1 locs1 ⟨hK, hA, hP, hD, hS⟩)
theorem x_g8 (F : CallFix p m c cc nL s args lw_all RX0) (I : xI D h a ca A s H locs S E) (hd : decode cc pc = .ok (.getfield 29, 3)) (kk : W p l e R s m args below meth c H locs cells slots Q (F0 m (pc + 3) ls (.ref (a 8) :: rest))) : W p l e R s m args below meth c H locs cells slots Q (F0 m pc ls (.ref h :: rest)) := by
  obtain ⟨hx, hb, hml, hown, hts⟩ := F
  obtain ⟨hK, hA, hP, hD, hS⟩ := I
  exact va_get (D := D) (ci := 0) (v := .ref (a 8)) (C := RX0) (T := TX0) (N := 18) hx hb hts in_X0 hown hK hP 0 rfl rfl 8 (by decide) (hts _ q37) (fun _ h9 => h9) rfl hd kk
theorem x_ld8 (F : CallFix p m c cc nL s args lw_all RX0) (I : xI D h a ca A s H locs S E) {i v : Int32} (hin : vp_in i 6) (hv : sRt S i.toNatClampNeg = v) (hd : decode cc pc = .ok (.iaload, 1)) (kk : W p l e R s m args below meth c H locs cells slots Q (F0 m (pc + 1) ls (.int v :: rest))) : W p l e R s m args below meth c H locs cells slots Q (F0 m pc ls (.int i :: .ref (a 8) :: rest)) := by
  subst hv
  obtain ⟨hx, hb, hml, hown, hts⟩ := F
  obtain ⟨hK, hA, hP, hD, hS⟩ := I
  exact va_iald hx hb hK hP 7 6 rfl rfl hin hd kk
theorem x_st8 (F : CallFix p m c cc nL s args lw_all RX0) (I : xI D h a ca A s H locs S E) {f : Fn} (hf : sRt S = f) {i v : Int32} (hin : vp_in i 6) (hd : decode cc pc = .ok (.iastore, 1)) (kk : ∀ (H1 : Heap) (locs1 : List Loc), xI D h a ca A s H1 locs1 (zRt S (upd f i.toNatClampNeg v)) E → W p l e R s m args below meth c H1 locs1 cells slots Q (F0 m (pc + 1) ls rest)) : W p l e R s m args below meth c H locs cells slots Q (F0 m pc ls (.int v :: .int i :: .ref (a 8) :: rest)) := by
  subst hf
  obtain ⟨hx, hb, hml, hown, hts⟩ := F
  obtain ⟨hK, hA, hP, hD, hS⟩ := I
  exact va_iast hx hb hK hP hD hS 7 6 rfl rfl hin hd (fun H1 locs1 hP hD hS => kk H1 locs1 ⟨hK, hA, hP, hD, hS⟩)
theorem x_g9 (F : CallFix p m c cc nL s args lw_all RX0) (I : xI D h a ca A s H locs S E) {v : Int32} (hv : sLv S = v) (hd : decode cc pc = .ok (.getfield 40, 3)) (kk : W p l e R s m args below meth c H locs cells slots Q (F0 m (pc + 3) ls (.int v :: rest))) : W p l e R s m args below meth c H locs cells slots Q (F0 m pc ls (.ref h :: rest)) := by
  subst hv
  obtain ⟨hx, hb, hml, hown, hts⟩ := F
  obtain ⟨hK, hA, hP, hD, hS⟩ := I
  exact va_get (D := D) (ci := 0) (v := .int (sLv S)) (C := RX0) (T := TX0) (N := 18) hx hb hts in_X0 hown hK hP 0 rfl rfl 9 (by decide) (hts _ q38) (fun _ h9 => h9) rfl hd kk
theorem x_p9 (F : CallFix p m c cc nL s args lw_all RX0) (I : xI D h a ca A s H locs S E) {v : Int32} (hd : decode cc pc = .ok (.putfield 40, 3)) (kk : ∀ (H1 : Heap) (locs1 : List Loc), xI D h a ca A s H1 locs1 (zLv S v) E → W p l e R s m args below meth c H1 locs1 cells slots Q (F0 m (pc + 3) ls rest)) : W p l e R s m args below meth c H locs cells slots Q (F0 m pc ls (.int v :: .ref h :: rest)) := by
  obtain ⟨hx, hb, hml, hown, hts⟩ := F
  obtain ⟨hK, hA, hP, hD, hS⟩ := I
  exact va_put (D := D) (ci := 0) (v := .int v) (ty := .int) (C := RX0) (T := TX0) (N := 18) hx hb hts in_X0 tyX0 tyX0_ok nmX0 hown hK hP hD hS 0 rfl rfl 9 (by decide) (hts _ q38) (fun _ h9 => h9) rfl (by decide +kernel) rfl rfl (Nat.le_of_ble_eq_true rfl) hd (fun H1 locs1 hP hD hS => kk H1 locs1 ⟨hK, hA, hP, hD, hS⟩)
theorem x_g10 (F : CallFix p m c cc nL s args lw_all RX0) (I : xI D h a ca A s H locs S E) {v : Int32} (hv : sAt S = v) (hd : decode cc pc = .ok (.getfield 43, 3)) (kk : W p l e R s m args below meth c H locs cells slots Q (F0 m (pc + 3) ls (.int v :: rest))) : W p l e R s m args below meth c H locs cells slots Q (F0 m pc ls (.ref h :: rest)) := by
  subst hv
  obtain ⟨hx, hb, hml, hown, hts⟩ := F
  obtain ⟨hK, hA, hP, hD, hS⟩ := I
  exact va_get (D := D) (ci := 0) (v := .int (sAt S)) (C := RX0) (T := TX0) (N := 18) hx hb hts in_X0 hown hK hP 0 rfl rfl 10 (by decide) (hts _ q39) (fun _ h9 => h9) rfl hd kk
theorem x_p10 (F : CallFix p m c cc nL s args lw_all RX0) (I : xI D h a ca A s H locs S E) {v : Int32} (hd : decode cc pc = .ok (.putfield 43, 3)) (kk : ∀ (H1 : Heap) (locs1 : List Loc), xI D h a ca A s H1 locs1 (zAt S v) E → W p l e R s m args below meth c H1 locs1 cells slots Q (F0 m (pc + 3) ls rest)) : W p l e R s m args below meth c H locs cells slots Q (F0 m pc ls (.int v :: .ref h :: rest)) := by
  obtain ⟨hx, hb, hml, hown, hts⟩ := F
  obtain ⟨hK, hA, hP, hD, hS⟩ := I
  exact va_put (D := D) (ci := 0) (v := .int v) (ty := .int) (C := RX0) (T := TX0) (N := 18) hx hb hts in_X0 tyX0 tyX0_ok nmX0 hown hK hP hD hS 0 rfl rfl 10 (by decide) (hts _ q39) (fun _ h9 => h9) rfl (by decide +kernel) rfl rfl (Nat.le_of_ble_eq_true rfl) hd (fun H1 locs1 hP hD hS => kk H1 locs1 ⟨hK, hA, hP, hD, hS⟩)
theorem x_g11 (F : CallFix p m c cc nL s args lw_all RX0) (I : xI D h a ca A s H locs S E) {v : Int32} (hv : sOv S = v) (hd : decode cc pc = .ok (.getfield 46, 3)) (kk : W p l e R s m args below meth c H locs cells slots Q (F0 m (pc + 3) ls (.int v :: rest))) : W p l e R s m args below meth c H locs cells slots Q (F0 m pc ls (.ref h :: rest)) := by
  subst hv
  obtain ⟨hx, hb, hml, hown, hts⟩ := F
  obtain ⟨hK, hA, hP, hD, hS⟩ := I
  exact va_get (D := D) (ci := 0) (v := .int (sOv S)) (C := RX0) (T := TX0) (N := 18) hx hb hts in_X0 hown hK hP 0 rfl rfl 11 (by decide) (hts _ q40) (fun _ h9 => h9) rfl hd kk
theorem x_p11 (F : CallFix p m c cc nL s args lw_all RX0) (I : xI D h a ca A s H locs S E) {v : Int32} (hn : narrow .boolean (.int v) = .int v) (hf : fits .boolean (.int v) = true) (hd : decode cc pc = .ok (.putfield 46, 3)) (kk : ∀ (H1 : Heap) (locs1 : List Loc), xI D h a ca A s H1 locs1 (zOv S v) E → W p l e R s m args below meth c H1 locs1 cells slots Q (F0 m (pc + 3) ls rest)) : W p l e R s m args below meth c H locs cells slots Q (F0 m pc ls (.int v :: .ref h :: rest)) := by
  obtain ⟨hx, hb, hml, hown, hts⟩ := F
  obtain ⟨hK, hA, hP, hD, hS⟩ := I
  exact va_put (D := D) (ci := 0) (v := .int v) (ty := .boolean) (C := RX0) (T := TX0) (N := 18) hx hb hts in_X0 tyX0 tyX0_ok nmX0 hown hK hP hD hS 0 rfl rfl 11 (by decide) (hts _ q40) (fun _ h9 => h9) rfl (by decide +kernel) hn hf (Nat.le_of_ble_eq_true rfl) hd (fun H1 locs1 hP hD hS => kk H1 locs1 ⟨hK, hA, hP, hD, hS⟩)
theorem x_g12 (F : CallFix p m c cc nL s args lw_all RX0) (I : xI D h a ca A s H locs S E) {v : Int32} (hv : sCt S = v) (hd : decode cc pc = .ok (.getfield 50, 3)) (kk : W p l e R s m args below meth c H locs cells slots Q (F0 m (pc + 3) ls (.int v :: rest))) : W p l e R s m args below meth c H locs cells slots Q (F0 m pc ls (.ref h :: rest)) := by
  subst hv
  obtain ⟨hx, hb, hml, hown, hts⟩ := F
  obtain ⟨hK, hA, hP, hD, hS⟩ := I
  exact va_get (D := D) (ci := 0) (v := .int (sCt S)) (C := RX0) (T := TX0) (N := 18) hx hb hts in_X0 hown hK hP 0 rfl rfl 12 (by decide) (hts _ q41) (fun _ h9 => h9) rfl hd kk
theorem x_p12 (F : CallFix p m c cc nL s args lw_all RX0) (I : xI D h a ca A s H locs S E) {v : Int32} (hd : decode cc pc = .ok (.putfield 50, 3)) (kk : ∀ (H1 : Heap) (locs1 : List Loc), xI D h a ca A s H1 locs1 (zCt S v) E → W p l e R s m args below meth c H1 locs1 cells slots Q (F0 m (pc + 3) ls rest)) : W p l e R s m args below meth c H locs cells slots Q (F0 m pc ls (.int v :: .ref h :: rest)) := by
  obtain ⟨hx, hb, hml, hown, hts⟩ := F
  obtain ⟨hK, hA, hP, hD, hS⟩ := I
  exact va_put (D := D) (ci := 0) (v := .int v) (ty := .int) (C := RX0) (T := TX0) (N := 18) hx hb hts in_X0 tyX0 tyX0_ok nmX0 hown hK hP hD hS 0 rfl rfl 12 (by decide) (hts _ q41) (fun _ h9 => h9) rfl (by decide +kernel) rfl rfl (Nat.le_of_ble_eq_true rfl) hd (fun H1 locs1 hP hD hS => kk H1 locs1 ⟨hK, hA, hP, hD, hS⟩)
theorem x_g13 (F : CallFix p m c cc nL s args lw_all RX0) (I : xI D h a ca A s H locs S E) {v : Int32} (hv : sBk S = v) (hd : decode cc pc = .ok (.getfield 56, 3)) (kk : W p l e R s m args below meth c H locs cells slots Q (F0 m (pc + 3) ls (.int v :: rest))) : W p l e R s m args below meth c H locs cells slots Q (F0 m pc ls (.ref h :: rest)) := by
  subst hv
  obtain ⟨hx, hb, hml, hown, hts⟩ := F
  obtain ⟨hK, hA, hP, hD, hS⟩ := I
  exact va_get (D := D) (ci := 0) (v := .int (sBk S)) (C := RX0) (T := TX0) (N := 18) hx hb hts in_X0 hown hK hP 0 rfl rfl 13 (by decide) (hts _ q42) (fun _ h9 => h9) rfl hd kk
theorem x_p13 (F : CallFix p m c cc nL s args lw_all RX0) (I : xI D h a ca A s H locs S E) {v : Int32} (hd : decode cc pc = .ok (.putfield 56, 3)) (kk : ∀ (H1 : Heap) (locs1 : List Loc), xI D h a ca A s H1 locs1 (zBk S v) E → W p l e R s m args below meth c H1 locs1 cells slots Q (F0 m (pc + 3) ls rest)) : W p l e R s m args below meth c H locs cells slots Q (F0 m pc ls (.int v :: .ref h :: rest)) := by
  obtain ⟨hx, hb, hml, hown, hts⟩ := F
  obtain ⟨hK, hA, hP, hD, hS⟩ := I
  exact va_put (D := D) (ci := 0) (v := .int v) (ty := .int) (C := RX0) (T := TX0) (N := 18) hx hb hts in_X0 tyX0 tyX0_ok nmX0 hown hK hP hD hS 0 rfl rfl 13 (by decide) (hts _ q42) (fun _ h9 => h9) rfl (by decide +kernel) rfl rfl (Nat.le_of_ble_eq_true rfl) hd (fun H1 locs1 hP hD hS => kk H1 locs1 ⟨hK, hA, hP, hD, hS⟩)
theorem x_g14 (F : CallFix p m c cc nL s args lw_all RX0) (I : xI D h a ca A s H locs S E) {v : Int32} (hv : sWy S = v) (hd : decode cc pc = .ok (.getfield 53, 3)) (kk : W p l e R s m args below meth c H locs cells slots Q (F0 m (pc + 3) ls (.int v :: rest))) : W p l e R s m args below meth c H locs cells slots Q (F0 m pc ls (.ref h :: rest)) := by
  subst hv
  obtain ⟨hx, hb, hml, hown, hts⟩ := F
  obtain ⟨hK, hA, hP, hD, hS⟩ := I
  exact va_get (D := D) (ci := 0) (v := .int (sWy S)) (C := RX0) (T := TX0) (N := 18) hx hb hts in_X0 hown hK hP 0 rfl rfl 14 (by decide) (hts _ q43) (fun _ h9 => h9) rfl hd kk
theorem x_p14 (F : CallFix p m c cc nL s args lw_all RX0) (I : xI D h a ca A s H locs S E) {v : Int32} (hd : decode cc pc = .ok (.putfield 53, 3)) (kk : ∀ (H1 : Heap) (locs1 : List Loc), xI D h a ca A s H1 locs1 (zWy S v) E → W p l e R s m args below meth c H1 locs1 cells slots Q (F0 m (pc + 3) ls rest)) : W p l e R s m args below meth c H locs cells slots Q (F0 m pc ls (.int v :: .ref h :: rest)) := by
  obtain ⟨hx, hb, hml, hown, hts⟩ := F
  obtain ⟨hK, hA, hP, hD, hS⟩ := I
  exact va_put (D := D) (ci := 0) (v := .int v) (ty := .int) (C := RX0) (T := TX0) (N := 18) hx hb hts in_X0 tyX0 tyX0_ok nmX0 hown hK hP hD hS 0 rfl rfl 14 (by decide) (hts _ q43) (fun _ h9 => h9) rfl (by decide +kernel) rfl rfl (Nat.le_of_ble_eq_true rfl) hd (fun H1 locs1 hP hD hS => kk H1 locs1 ⟨hK, hA, hP, hD, hS⟩)
theorem x_g15 (F : CallFix p m c cc nL s args lw_all RX0) (I : xI D h a ca A s H locs S E) {v : Int32} (hv : eA E = v) (hd : decode cc pc = .ok (.getfield 80, 3)) (kk : W p l e R s m args below meth c H locs cells slots Q (F0 m (pc + 3) ls (.int v :: rest))) : W p l e R s m args below meth c H locs cells slots Q (F0 m pc ls (.ref h :: rest)) := by
  subst hv
  obtain ⟨hx, hb, hml, hown, hts⟩ := F
  obtain ⟨hK, hA, hP, hD, hS⟩ := I
  exact va_get (D := D) (ci := 0) (v := .int (eA E)) (C := RX0) (T := TX0) (N := 18) hx hb hts in_X0 hown hK hP 0 rfl rfl 15 (by decide) (hts _ q44) (fun _ h9 => h9) rfl hd kk
theorem x_p15 (F : CallFix p m c cc nL s args lw_all RX0) (I : xI D h a ca A s H locs S E) {v : Int32} (hd : decode cc pc = .ok (.putfield 80, 3)) (kk : ∀ (H1 : Heap) (locs1 : List Loc), xI D h a ca A s H1 locs1 S (wA E v) → W p l e R s m args below meth c H1 locs1 cells slots Q (F0 m (pc + 3) ls rest)) : W p l e R s m args below meth c H locs cells slots Q (F0 m pc ls (.int v :: .ref h :: rest)) := by
  obtain ⟨hx, hb, hml, hown, hts⟩ := F
  obtain ⟨hK, hA, hP, hD, hS⟩ := I
  exact va_put (D := D) (ci := 0) (v := .int v) (ty := .int) (C := RX0) (T := TX0) (N := 18) hx hb hts in_X0 tyX0 tyX0_ok nmX0 hown hK hP hD hS 0 rfl rfl 15 (by decide) (hts _ q44) (fun _ h9 => h9) rfl (by decide +kernel) rfl rfl (Nat.le_of_ble_eq_true rfl) hd (fun H1 locs1 hP hD hS => kk H1 locs1 ⟨hK, hA, hP, hD, hS⟩)
theorem x_g16 (F : CallFix p m c cc nL s args lw_all RX0) (I : xI D h a ca A s H locs S E) {v : Int32} (hv : eQ E = v) (hd : decode cc pc = .ok (.getfield 86, 3)) (kk : W p l e R s m args below meth c H locs cells slots Q (F0 m (pc + 3) ls (.int v :: rest))) : W p l e R s m args below meth c H locs cells slots Q (F0 m pc ls (.ref h :: rest)) := by
  subst hv
  obtain ⟨hx, hb, hml, hown, hts⟩ := F
  obtain ⟨hK, hA, hP, hD, hS⟩ := I
  exact va_get (D := D) (ci := 0) (v := .int (eQ E)) (C := RX0) (T := TX0) (N := 18) hx hb hts in_X0 hown hK hP 0 rfl rfl 16 (by decide) (hts _ q45) (fun _ h9 => h9) rfl hd kk
theorem x_p16 (F : CallFix p m c cc nL s args lw_all RX0) (I : xI D h a ca A s H locs S E) {v : Int32} (hd : decode cc pc = .ok (.putfield 86, 3)) (kk : ∀ (H1 : Heap) (locs1 : List Loc), xI D h a ca A s H1 locs1 S (wQ E v) → W p l e R s m args below meth c H1 locs1 cells slots Q (F0 m (pc + 3) ls rest)) : W p l e R s m args below meth c H locs cells slots Q (F0 m pc ls (.int v :: .ref h :: rest)) := by
  obtain ⟨hx, hb, hml, hown, hts⟩ := F
  obtain ⟨hK, hA, hP, hD, hS⟩ := I
  exact va_put (D := D) (ci := 0) (v := .int v) (ty := .int) (C := RX0) (T := TX0) (N := 18) hx hb hts in_X0 tyX0 tyX0_ok nmX0 hown hK hP hD hS 0 rfl rfl 16 (by decide) (hts _ q45) (fun _ h9 => h9) rfl (by decide +kernel) rfl rfl (Nat.le_of_ble_eq_true rfl) hd (fun H1 locs1 hP hD hS => kk H1 locs1 ⟨hK, hA, hP, hD, hS⟩)
theorem x_g17 (F : CallFix p m c cc nL s args lw_all RX0) (I : xI D h a ca A s H locs S E) {v : Int32} (hv : eD E = v) (hd : decode cc pc = .ok (.getfield 83, 3)) (kk : W p l e R s m args below meth c H locs cells slots Q (F0 m (pc + 3) ls (.int v :: rest))) : W p l e R s m args below meth c H locs cells slots Q (F0 m pc ls (.ref h :: rest)) := by
  subst hv
  obtain ⟨hx, hb, hml, hown, hts⟩ := F
  obtain ⟨hK, hA, hP, hD, hS⟩ := I
  exact va_get (D := D) (ci := 0) (v := .int (eD E)) (C := RX0) (T := TX0) (N := 18) hx hb hts in_X0 hown hK hP 0 rfl rfl 17 (by decide) (hts _ q46) (fun _ h9 => h9) rfl hd kk
theorem x_p17 (F : CallFix p m c cc nL s args lw_all RX0) (I : xI D h a ca A s H locs S E) {v : Int32} (hd : decode cc pc = .ok (.putfield 83, 3)) (kk : ∀ (H1 : Heap) (locs1 : List Loc), xI D h a ca A s H1 locs1 S (wD E v) → W p l e R s m args below meth c H1 locs1 cells slots Q (F0 m (pc + 3) ls rest)) : W p l e R s m args below meth c H locs cells slots Q (F0 m pc ls (.int v :: .ref h :: rest)) := by
  obtain ⟨hx, hb, hml, hown, hts⟩ := F
  obtain ⟨hK, hA, hP, hD, hS⟩ := I
  exact va_put (D := D) (ci := 0) (v := .int v) (ty := .int) (C := RX0) (T := TX0) (N := 18) hx hb hts in_X0 tyX0 tyX0_ok nmX0 hown hK hP hD hS 0 rfl rfl 17 (by decide) (hts _ q46) (fun _ h9 => h9) rfl (by decide +kernel) rfl rfl (Nat.le_of_ble_eq_true rfl) hd (fun H1 locs1 hP hD hS => kk H1 locs1 ⟨hK, hA, hP, hD, hS⟩)
end
theorem x_enter {l : Launch} {D : va_G} {h : Nat} {a : Nat → Nat} {ca : Nat → ClassId} {S : Sh} {E : XE} {y : MethodName} {cc : ByteArray} {nL : Nat} {ret : Option FieldType} {rm : Room} {As : List Value} {sz : Nat} {Qc : Array Value → State → Outcome → State → Prop} {mc ms : Nat} {free : Addr → Prop} (hy : plainName y.cls = true) (hlen : (lg_sl (.ref h :: As)).length ≤ nL) (hcls : y.cls = RX0)
    (body : ∀ (p : Program) (e : Env) (s : State) (m : MethodId) (below : List Frame) (meth : Method) (c : Code), CallFix p m c cc nL s (Value.ref h :: As).toArray lw_all RX0 → meth.sig.returnType = ret → meth.locks = false → xI D h a ca (xA h a ca S E sz) s s.heap [] S E → ∀ ls : Array Slot, lv_has ls nL (lv_args 0 (.ref h :: As)) → W p l e rm s m (Value.ref h :: As).toArray below meth c s.heap [] 0 0 (MQ below Qc (Value.ref h :: As).toArray s mc ms free) (F0 m 0 ls [])) : Met l y (ws_ y cc nL ret) rm (xPc D h a ca As sz S E) Qc mc ms free := by
  refine Met.ofW (cc := cc) (maxL := nL) (ret := ret) hy rfl ?_
  intro p e s m args below meth c s₁ B hml hv
  obtain ⟨rfl, hsz, hP, hK, hD0⟩ := hv
  have hts := atoms_spec (ws := ws_ y cc nL ret) B.pre
  have hts : ∀ w ∈ lw_all, w.before _ s = true := fun w h => hts w (List.mem_cons_of_mem _ h)
  have hown : s.vm.findClass y.cls = some m.cls := findClass_of_methodNamed B.named
  rw [hcls] at hown
  subst hsz
  have hD := hD0.self (sz := s.heap.size)
  have hl := lv_entry (.ref h :: As) (n := nL) hlen
  rw [lg_entry_eq]
  exact body p e s m below meth c ⟨B.exec, B.bytes, hml, hown, hts⟩ B.returns B.notSynchronized ⟨hK, fun q hq => Or.inr hq, hP, hD, va_S.rf⟩ _ hl
section
variable {p : Program} {l : Launch} {e : Env} {R : Room} {s : State} {m : MethodId} {args : Array Value} {below : List Frame} {meth : Method} {c : Code} {H : Heap} {locs : List Loc} {cells slots : Nat} {Q : State → Prop} {cc : ByteArray} {nL pc : Nat} {ls : Array Slot} {rest : List Value} {D : va_G} {h : Nat} {a : Nat → Nat} {ca : Nat → ClassId} {A : Nat → Prop} {S : Sh} {E : XE} {S0 : Sh} {E0 : XE} {sz : Nat}
theorem x_ri (F : CallFix p m c cc nL s args lw_all RX0) (hr : meth.sig.returnType = some .int) (hlk : meth.locks = false) (I : xI D h a ca (xA h a ca S0 E0 sz) s H locs S E) {v : Int32} {post : Int32 → Sh × XE → Prop} (hp : post v (S, E)) (hd : decode cc pc = .ok (.ireturn, 1)) : W p l e R s m args below meth c H locs cells slots (MQ below (xQi D h a ca sz S0 E0 post) args s cells slots (xA h a ca S0 E0 sz)) (F0 m pc ls [.int v]) := by
  obtain ⟨hx, hb, hml, hown, hts⟩ := F
  obtain ⟨hK, hA, hP, hD, hS⟩ := I
  exact W.iret hx hb hr (fun t ht hW => ⟨⟨v, (S, E), rfl, hp, by rw [ht]; exact hP, va_K.moved hW.alike hK, hD⟩, hS.F ht⟩) hS.2.2 hd hlk
theorem x_rz (F : CallFix p m c cc nL s args lw_all RX0) (hr : meth.sig.returnType = some .boolean) (hlk : meth.locks = false) (I : xI D h a ca (xA h a ca S0 E0 sz) s H locs S E) {v : Int32} {post : Int32 → Sh × XE → Prop} (hn : narrow .boolean (.int v) = .int v) (hp : post v (S, E)) (hd : decode cc pc = .ok (.ireturn, 1)) : W p l e R s m args below meth c H locs cells slots (MQ below (xQi D h a ca sz S0 E0 post) args s cells slots (xA h a ca S0 E0 sz)) (F0 m pc ls [.int v]) := by
  obtain ⟨hx, hb, hml, hown, hts⟩ := F
  obtain ⟨hK, hA, hP, hD, hS⟩ := I
  exact W.zret hx hb hr hn (fun t ht hW => ⟨⟨v, (S, E), rfl, hp, by rw [ht]; exact hP, va_K.moved hW.alike hK, hD⟩, hS.F ht⟩) hS.2.2 hd hlk
theorem x_rv (F : CallFix p m c cc nL s args lw_all RX0) (hr : meth.sig.returnType = none) (hlk : meth.locks = false) (I : xI D h a ca (xA h a ca S0 E0 sz) s H locs S E) {post : Sh × XE → Prop} (hp : post (S, E)) (hd : decode cc pc = .ok (.return_, 1)) : W p l e R s m args below meth c H locs cells slots (MQ below (xQv D h a ca sz S0 E0 post) args s cells slots (xA h a ca S0 E0 sz)) (F0 m pc ls []) := by
  obtain ⟨hx, hb, hml, hown, hts⟩ := F
  obtain ⟨hK, hA, hP, hD, hS⟩ := I
  exact W.vret hx hb hr (fun t ht hW => ⟨⟨(S, E), rfl, hp, by rw [ht]; exact hP, va_K.moved hW.alike hK, hD⟩, hS.F ht⟩) hS.2.2 hd hlk
end
section
variable {p : Program} {l : Launch} {e : Env} {R : Room} {s : State} {m : MethodId} {args : Array Value} {below : List Frame} {meth : Method} {c : Code} {H : Heap} {locs : List Loc} {cells slots : Nat} {Q : State → Prop} {cc : ByteArray} {nL pc : Nat} {ls : Array Slot} {rest : List Value} {D : va_G} {h : Nat} {a : Nat → Nat} {ca : Nat → ClassId} {A : Nat → Prop} {S : Sh} {E : XE}
theorem x_ci (F : CallFix p m c cc nL s args lw_all RX0) (I : xI D h a ca A s H locs S E) {y : MethodName} {bytes : ByteArray} {maxL index n : Nat} {ret : Option FieldType} {rm : Room} {As : List Value} {post : Int32 → Sh × XE → Prop} {st0 : List Value} (hM : ∀ sz : Nat, Met l y (ws_ y bytes maxL ret) rm (xPc D h a ca As sz S E) (xQi D h a ca sz S E post) 0 0 (xA h a ca S E sz)) (cw : CallW R s args RX0 RX0 index y bytes maxL ret (ws_ y bytes maxL ret) rm 0 0 n) (hn : As.length = n) (hst : st0 = As.reverse ++ .ref h :: rest) (hsz : ls.size = nL) (hrest : (rest.map fun v => v.category).sum ≤ 8) (hd : decode cc pc = .ok (.invokevirtual index, 3)) (hroom : cells ≤ R.cells ∧ slots ≤ R.slots)
    (kk : ∀ (r : Int32) (u : Sh × XE) (H1 : Heap) (locs1 : List Loc), post r u → xI D h a ca A s H1 locs1 u.1 u.2 → W p l e R s m args below meth c H1 locs1 cells slots Q (F0 m (pc + 3) ls (.int r :: rest))) : W p l e R s m args below meth c H locs cells slots Q (F0 m pc ls st0) := by
  obtain ⟨hx, hb, hml, hown, hts⟩ := F
  obtain ⟨hK, hA, hP, hD, hS⟩ := I
  have hFc := va_free (wc := xW h a ca S E) hD hS hA [0, 1, 2, 3, 4, 5, 6, 7] rfl
  refine va_calli (va_runV (As := As) (rest := rest) ⟨hx, hb, hml, hown, hts⟩ (hM H.size) cw ⟨fun a U g mk q => by obtain ⟨q0, q1, qP, qK, qD⟩ := q; exact ⟨q0, q1, qP, va_K.moved (u := U) (U := U.calling g mk a) (Vm.Alike.refl U.vm) qK, qD⟩, va_recv hK hP (ci := 0) (q0 := 0) rfl rfl, fun U hU hW => ⟨rfl, by rw [hU], by rw [hU]; exact hP, va_K.moved hW.alike hK, hD.weaken (fun _ _ _ _ => trivial)⟩⟩ rfl hn hsz hst (lv_room hrest) hd hroom) hS (fun q _ h => hFc q h) hFc (fun r u t H1 locs1 ht hvm hw1 hB hz1 hk1 hS => ?_)
  obtain ⟨hP1, hK1, hD1⟩ := hB
  rw [ht] at hP1
  have hK1 := va_K.moved hvm.symm hK1
  exact kk r u H1 locs1 hw1 ⟨hK, hA, hP1, hD1.weaken (fun _ _ _ h => hFc _ h), hS⟩
theorem x_cv (F : CallFix p m c cc nL s args lw_all RX0) (I : xI D h a ca A s H locs S E) {y : MethodName} {bytes : ByteArray} {maxL index n : Nat} {ret : Option FieldType} {rm : Room} {As : List Value} {post : Sh × XE → Prop} {st0 : List Value} (hM : ∀ sz : Nat, Met l y (ws_ y bytes maxL ret) rm (xPc D h a ca As sz S E) (xQv D h a ca sz S E post) 0 0 (xA h a ca S E sz)) (cw : CallW R s args RX0 RX0 index y bytes maxL ret (ws_ y bytes maxL ret) rm 0 0 n) (hn : As.length = n) (hst : st0 = As.reverse ++ .ref h :: rest) (hsz : ls.size = nL) (hrest : (rest.map fun v => v.category).sum ≤ 8) (hd : decode cc pc = .ok (.invokevirtual index, 3)) (hroom : cells ≤ R.cells ∧ slots ≤ R.slots)
    (kk : ∀ (u : Sh × XE) (H1 : Heap) (locs1 : List Loc), post u → xI D h a ca A s H1 locs1 u.1 u.2 → W p l e R s m args below meth c H1 locs1 cells slots Q (F0 m (pc + 3) ls rest)) : W p l e R s m args below meth c H locs cells slots Q (F0 m pc ls st0) := by
  obtain ⟨hx, hb, hml, hown, hts⟩ := F
  obtain ⟨hK, hA, hP, hD, hS⟩ := I
  have hFc := va_free (wc := xW h a ca S E) hD hS hA [0, 1, 2, 3, 4, 5, 6, 7] rfl
  refine va_callv (va_runV (As := As) (rest := rest) ⟨hx, hb, hml, hown, hts⟩ (hM H.size) cw ⟨fun a U g mk q => by obtain ⟨q0, q1, qP, qK, qD⟩ := q; exact ⟨q0, q1, qP, va_K.moved (u := U) (U := U.calling g mk a) (Vm.Alike.refl U.vm) qK, qD⟩, va_recv hK hP (ci := 0) (q0 := 0) rfl rfl, fun U hU hW => ⟨rfl, by rw [hU], by rw [hU]; exact hP, va_K.moved hW.alike hK, hD.weaken (fun _ _ _ _ => trivial)⟩⟩ rfl hn hsz hst (lv_room hrest) hd hroom) hS (fun q _ h => hFc q h) hFc (fun u t H1 locs1 ht hvm hw1 hB hz1 hk1 hS => ?_)
  obtain ⟨hP1, hK1, hD1⟩ := hB
  rw [ht] at hP1
  have hK1 := va_K.moved hvm.symm hK1
  exact kk u H1 locs1 hw1 ⟨hK, hA, hP1, hD1.weaken (fun _ _ _ h => hFc _ h), hS⟩
theorem x_cs (F : CallFix p m c cc nL s args lw_all RX0) (I : xI D h a ca A s H locs S E) {v : Int32} {S1 : Sh} {E1 : XE} {y : MethodName} {bytes : ByteArray} {maxL index n : Nat} {ret : Option FieldType} {rm : Room} {As : List Value} {st0 : List Value} (hM : ∀ sz : Nat, Met l y (ws_ y bytes maxL ret) rm (xPc D h a ca As sz S E) (xQi D h a ca sz S E (fun r u => r = v ∧ u = (S1, E1))) 0 0 (xA h a ca S E sz)) (cw : CallW R s args RX0 RX0 index y bytes maxL ret (ws_ y bytes maxL ret) rm 0 0 n) (hn : As.length = n) (hst : st0 = As.reverse ++ .ref h :: rest) (hsz : ls.size = nL) (hrest : (rest.map fun v => v.category).sum ≤ 8) (hd : decode cc pc = .ok (.invokevirtual index, 3)) (hroom : cells ≤ R.cells ∧ slots ≤ R.slots)
    (kk : ∀ (H1 : Heap) (locs1 : List Loc), xI D h a ca A s H1 locs1 S1 E1 → W p l e R s m args below meth c H1 locs1 cells slots Q (F0 m (pc + 3) ls (.int v :: rest))) : W p l e R s m args below meth c H locs cells slots Q (F0 m pc ls st0) := x_ci F I hM cw hn hst hsz hrest hd hroom (fun r u H1 locs1 hp I1 => by obtain ⟨rfl, rfl⟩ := hp; exact kk H1 locs1 I1)
theorem x_cz (F : CallFix p m c cc nL s args lw_all RX0) (I : xI D h a ca A s H locs S E) {S1 : Sh} {E1 : XE} {y : MethodName} {bytes : ByteArray} {maxL index n : Nat} {ret : Option FieldType} {rm : Room} {As : List Value} {st0 : List Value} (hM : ∀ sz : Nat, Met l y (ws_ y bytes maxL ret) rm (xPc D h a ca As sz S E) (xQv D h a ca sz S E (fun u => u = (S1, E1))) 0 0 (xA h a ca S E sz)) (cw : CallW R s args RX0 RX0 index y bytes maxL ret (ws_ y bytes maxL ret) rm 0 0 n) (hn : As.length = n) (hst : st0 = As.reverse ++ .ref h :: rest) (hsz : ls.size = nL) (hrest : (rest.map fun v => v.category).sum ≤ 8) (hd : decode cc pc = .ok (.invokevirtual index, 3)) (hroom : cells ≤ R.cells ∧ slots ≤ R.slots)
    (kk : ∀ (H1 : Heap) (locs1 : List Loc), xI D h a ca A s H1 locs1 S1 E1 → W p l e R s m args below meth c H1 locs1 cells slots Q (F0 m (pc + 3) ls rest)) : W p l e R s m args below meth c H locs cells slots Q (F0 m pc ls st0) := x_cv F I hM cw hn hst hsz hrest hd hroom (fun u H1 locs1 hp I1 => by subst hp; exact kk H1 locs1 I1)
end
def mF (a : Nat → Nat) (S : Sh) : List Value := [.int (sSz S), .ref (a 1), .ref (a 2), .ref (a 3), .int (sBk S), .ref (a 5), .ref (a 6), .ref (a 7), .int (sLv S), .int (sAt S), .int (sCt S), .int (sOv S), .int (sWy S)]
def mW (h : Nat) (a : Nat → Nat) (ca : Nat → ClassId) (S : Sh) : va_W := [(h, .inr (1, mF a S)), (a 1, .inl (ca 1, 20, .inl (sOp S))), (a 2, .inl (ca 2, 20, .inl (sAs S))), (a 3, .inl (ca 3, 20, .inl (sBs S))), (a 5, .inl (ca 5, 4, .inl (sRg S))), (a 6, .inl (ca 6, 8, .inl (sMm S))), (a 7, .inl (ca 7, 6, .inl (sRt S)))]
def mT (ca : Nat → ClassId) : List (ClassId × FieldType) := [(ca 1, .int), (ca 2, .int), (ca 3, .int), (ca 5, .int), (ca 6, .int), (ca 7, .int)]
def mI (D : va_G) (h : Nat) (a : Nat → Nat) (ca : Nat → ClassId) (A : Nat → Prop) (s : State) (H : Heap) (locs : List Loc) (S : Sh) : Prop := va_K D vwCl (mT ca) s ∧ (∀ q, s.heap.size ≤ q → A q) ∧ va_P D vwCl (mW h a ca S) H ∧ va_D A (mW h a ca S) ∧ va_S A s.heap H locs
def mA (h : Nat) (a : Nat → Nat) (ca : Nat → ClassId) (S : Sh) (sz : Nat) : Nat → Prop := va_A (mW h a ca S) sz
def mPc (D : va_G) (h : Nat) (a : Nat → Nat) (ca : Nat → ClassId) (As : List Value) (sz : Nat) (S : Sh) : Array Value → State → Prop := va_Pc (.ref h :: As) (fun U => U.heap.size = sz ∧ va_P D vwCl (mW h a ca S) U.heap ∧ va_K D vwCl (mT ca) U ∧ va_D (fun _ => True) (mW h a ca S))
def mB (D : va_G) (h : Nat) (a : Nat → Nat) (ca : Nat → ClassId) (A : Nat → Prop) (u : Sh) (t : State) : Prop := va_P D vwCl (mW h a ca u) t.heap ∧ va_K D vwCl (mT ca) t ∧ va_D A (mW h a ca u)
def mQi (D : va_G) (h : Nat) (a : Nat → Nat) (ca : Nat → ClassId) (sz : Nat) (S : Sh) (post : Int32 → Sh → Prop) : Array Value → State → Outcome → State → Prop := va_Qi post (mB D h a ca (mA h a ca S sz)) (mA h a ca S sz)
def mQv (D : va_G) (h : Nat) (a : Nat → Nat) (ca : Nat → ClassId) (sz : Nat) (S : Sh) (post : Sh → Prop) : Array Value → State → Outcome → State → Prop := va_Qv post (mB D h a ca (mA h a ca S sz)) (mA h a ca S sz)
section
variable {p : Program} {l : Launch} {e : Env} {R : Room} {s : State} {m : MethodId} {args : Array Value} {below : List Frame} {meth : Method} {c : Code} {H : Heap} {locs : List Loc} {cells slots : Nat} {Q : State → Prop} {cc : ByteArray} {nL pc : Nat} {ls : Array Slot} {rest : List Value} {D : va_G} {h : Nat} {a : Nat → Nat} {ca : Nat → ClassId} {A : Nat → Prop} {S : Sh} 
theorem m_g0 (F : CallFix p m c cc nL s args lw_all RX1) (I : mI D h a ca A s H locs S) {v : Int32} (hv : sSz S = v) (hd : decode cc pc = .ok (.getfield 28, 3)) (kk : W p l e R s m args below meth c H locs cells slots Q (F0 m (pc + 3) ls (.int v :: rest))) : W p l e R s m args below meth c H locs cells slots Q (F0 m pc ls (.ref h :: rest)) := by
  subst hv
  obtain ⟨hx, hb, hml, hown, hts⟩ := F
  obtain ⟨hK, hA, hP, hD, hS⟩ := I
  exact va_get (D := D) (ci := 1) (v := .int (sSz S)) (C := RX1) (T := TX1) (N := 13) hx hb hts in_X1 hown hK hP 0 rfl rfl 0 (by decide) (hts _ q208) (fun _ h9 => h9) rfl hd kk
theorem m_p0 (F : CallFix p m c cc nL s args lw_all RX1) (I : mI D h a ca A s H locs S) {v : Int32} (hd : decode cc pc = .ok (.putfield 28, 3)) (kk : ∀ (H1 : Heap) (locs1 : List Loc), mI D h a ca A s H1 locs1 (zSz S v) → W p l e R s m args below meth c H1 locs1 cells slots Q (F0 m (pc + 3) ls rest)) : W p l e R s m args below meth c H locs cells slots Q (F0 m pc ls (.int v :: .ref h :: rest)) := by
  obtain ⟨hx, hb, hml, hown, hts⟩ := F
  obtain ⟨hK, hA, hP, hD, hS⟩ := I
  exact va_put (D := D) (ci := 1) (v := .int v) (ty := .int) (C := RX1) (T := TX1) (N := 13) hx hb hts in_X1 tyX1 tyX1_ok nmX1 hown hK hP hD hS 0 rfl rfl 0 (by decide) (hts _ q208) (fun _ h9 => h9) rfl (by decide +kernel) rfl rfl (Nat.le_of_ble_eq_true rfl) hd (fun H1 locs1 hP hD hS => kk H1 locs1 ⟨hK, hA, hP, hD, hS⟩)
theorem m_g1 (F : CallFix p m c cc nL s args lw_all RX1) (I : mI D h a ca A s H locs S) (hd : decode cc pc = .ok (.getfield 7, 3)) (kk : W p l e R s m args below meth c H locs cells slots Q (F0 m (pc + 3) ls (.ref (a 1) :: rest))) : W p l e R s m args below meth c H locs cells slots Q (F0 m pc ls (.ref h :: rest)) := by
  obtain ⟨hx, hb, hml, hown, hts⟩ := F
  obtain ⟨hK, hA, hP, hD, hS⟩ := I
  exact va_get (D := D) (ci := 1) (v := .ref (a 1)) (C := RX1) (T := TX1) (N := 13) hx hb hts in_X1 hown hK hP 0 rfl rfl 1 (by decide) (hts _ q209) (fun _ h9 => h9) rfl hd kk
theorem m_ld1 (F : CallFix p m c cc nL s args lw_all RX1) (I : mI D h a ca A s H locs S) {i v : Int32} (hin : vp_in i 20) (hv : sOp S i.toNatClampNeg = v) (hd : decode cc pc = .ok (.iaload, 1)) (kk : W p l e R s m args below meth c H locs cells slots Q (F0 m (pc + 1) ls (.int v :: rest))) : W p l e R s m args below meth c H locs cells slots Q (F0 m pc ls (.int i :: .ref (a 1) :: rest)) := by
  subst hv
  obtain ⟨hx, hb, hml, hown, hts⟩ := F
  obtain ⟨hK, hA, hP, hD, hS⟩ := I
  exact va_iald hx hb hK hP 1 0 rfl rfl hin hd kk
theorem m_st1 (F : CallFix p m c cc nL s args lw_all RX1) (I : mI D h a ca A s H locs S) {f : Fn} (hf : sOp S = f) {i v : Int32} (hin : vp_in i 20) (hd : decode cc pc = .ok (.iastore, 1)) (kk : ∀ (H1 : Heap) (locs1 : List Loc), mI D h a ca A s H1 locs1 (zOp S (upd f i.toNatClampNeg v)) → W p l e R s m args below meth c H1 locs1 cells slots Q (F0 m (pc + 1) ls rest)) : W p l e R s m args below meth c H locs cells slots Q (F0 m pc ls (.int v :: .int i :: .ref (a 1) :: rest)) := by
  subst hf
  obtain ⟨hx, hb, hml, hown, hts⟩ := F
  obtain ⟨hK, hA, hP, hD, hS⟩ := I
  exact va_iast hx hb hK hP hD hS 1 0 rfl rfl hin hd (fun H1 locs1 hP hD hS => kk H1 locs1 ⟨hK, hA, hP, hD, hS⟩)
theorem m_g2 (F : CallFix p m c cc nL s args lw_all RX1) (I : mI D h a ca A s H locs S) (hd : decode cc pc = .ok (.getfield 13, 3)) (kk : W p l e R s m args below meth c H locs cells slots Q (F0 m (pc + 3) ls (.ref (a 2) :: rest))) : W p l e R s m args below meth c H locs cells slots Q (F0 m pc ls (.ref h :: rest)) := by
  obtain ⟨hx, hb, hml, hown, hts⟩ := F
  obtain ⟨hK, hA, hP, hD, hS⟩ := I
  exact va_get (D := D) (ci := 1) (v := .ref (a 2)) (C := RX1) (T := TX1) (N := 13) hx hb hts in_X1 hown hK hP 0 rfl rfl 2 (by decide) (hts _ q210) (fun _ h9 => h9) rfl hd kk
theorem m_ld2 (F : CallFix p m c cc nL s args lw_all RX1) (I : mI D h a ca A s H locs S) {i v : Int32} (hin : vp_in i 20) (hv : sAs S i.toNatClampNeg = v) (hd : decode cc pc = .ok (.iaload, 1)) (kk : W p l e R s m args below meth c H locs cells slots Q (F0 m (pc + 1) ls (.int v :: rest))) : W p l e R s m args below meth c H locs cells slots Q (F0 m pc ls (.int i :: .ref (a 2) :: rest)) := by
  subst hv
  obtain ⟨hx, hb, hml, hown, hts⟩ := F
  obtain ⟨hK, hA, hP, hD, hS⟩ := I
  exact va_iald hx hb hK hP 2 1 rfl rfl hin hd kk
theorem m_st2 (F : CallFix p m c cc nL s args lw_all RX1) (I : mI D h a ca A s H locs S) {f : Fn} (hf : sAs S = f) {i v : Int32} (hin : vp_in i 20) (hd : decode cc pc = .ok (.iastore, 1)) (kk : ∀ (H1 : Heap) (locs1 : List Loc), mI D h a ca A s H1 locs1 (zAs S (upd f i.toNatClampNeg v)) → W p l e R s m args below meth c H1 locs1 cells slots Q (F0 m (pc + 1) ls rest)) : W p l e R s m args below meth c H locs cells slots Q (F0 m pc ls (.int v :: .int i :: .ref (a 2) :: rest)) := by
  subst hf
  obtain ⟨hx, hb, hml, hown, hts⟩ := F
  obtain ⟨hK, hA, hP, hD, hS⟩ := I
  exact va_iast hx hb hK hP hD hS 2 1 rfl rfl hin hd (fun H1 locs1 hP hD hS => kk H1 locs1 ⟨hK, hA, hP, hD, hS⟩)
theorem m_g3 (F : CallFix p m c cc nL s args lw_all RX1) (I : mI D h a ca A s H locs S) (hd : decode cc pc = .ok (.getfield 16, 3)) (kk : W p l e R s m args below meth c H locs cells slots Q (F0 m (pc + 3) ls (.ref (a 3) :: rest))) : W p l e R s m args below meth c H locs cells slots Q (F0 m pc ls (.ref h :: rest)) := by
  obtain ⟨hx, hb, hml, hown, hts⟩ := F
  obtain ⟨hK, hA, hP, hD, hS⟩ := I
  exact va_get (D := D) (ci := 1) (v := .ref (a 3)) (C := RX1) (T := TX1) (N := 13) hx hb hts in_X1 hown hK hP 0 rfl rfl 3 (by decide) (hts _ q211) (fun _ h9 => h9) rfl hd kk
theorem m_ld3 (F : CallFix p m c cc nL s args lw_all RX1) (I : mI D h a ca A s H locs S) {i v : Int32} (hin : vp_in i 20) (hv : sBs S i.toNatClampNeg = v) (hd : decode cc pc = .ok (.iaload, 1)) (kk : W p l e R s m args below meth c H locs cells slots Q (F0 m (pc + 1) ls (.int v :: rest))) : W p l e R s m args below meth c H locs cells slots Q (F0 m pc ls (.int i :: .ref (a 3) :: rest)) := by
  subst hv
  obtain ⟨hx, hb, hml, hown, hts⟩ := F
  obtain ⟨hK, hA, hP, hD, hS⟩ := I
  exact va_iald hx hb hK hP 3 2 rfl rfl hin hd kk
theorem m_st3 (F : CallFix p m c cc nL s args lw_all RX1) (I : mI D h a ca A s H locs S) {f : Fn} (hf : sBs S = f) {i v : Int32} (hin : vp_in i 20) (hd : decode cc pc = .ok (.iastore, 1)) (kk : ∀ (H1 : Heap) (locs1 : List Loc), mI D h a ca A s H1 locs1 (zBs S (upd f i.toNatClampNeg v)) → W p l e R s m args below meth c H1 locs1 cells slots Q (F0 m (pc + 1) ls rest)) : W p l e R s m args below meth c H locs cells slots Q (F0 m pc ls (.int v :: .int i :: .ref (a 3) :: rest)) := by
  subst hf
  obtain ⟨hx, hb, hml, hown, hts⟩ := F
  obtain ⟨hK, hA, hP, hD, hS⟩ := I
  exact va_iast hx hb hK hP hD hS 3 2 rfl rfl hin hd (fun H1 locs1 hP hD hS => kk H1 locs1 ⟨hK, hA, hP, hD, hS⟩)
theorem m_g4 (F : CallFix p m c cc nL s args lw_all RX1) (I : mI D h a ca A s H locs S) {v : Int32} (hv : sBk S = v) (hd : decode cc pc = .ok (.getfield 48, 3)) (kk : W p l e R s m args below meth c H locs cells slots Q (F0 m (pc + 3) ls (.int v :: rest))) : W p l e R s m args below meth c H locs cells slots Q (F0 m pc ls (.ref h :: rest)) := by
  subst hv
  obtain ⟨hx, hb, hml, hown, hts⟩ := F
  obtain ⟨hK, hA, hP, hD, hS⟩ := I
  exact va_get (D := D) (ci := 1) (v := .int (sBk S)) (C := RX1) (T := TX1) (N := 13) hx hb hts in_X1 hown hK hP 0 rfl rfl 4 (by decide) (hts _ q212) (fun _ h9 => h9) rfl hd kk
theorem m_p4 (F : CallFix p m c cc nL s args lw_all RX1) (I : mI D h a ca A s H locs S) {v : Int32} (hd : decode cc pc = .ok (.putfield 48, 3)) (kk : ∀ (H1 : Heap) (locs1 : List Loc), mI D h a ca A s H1 locs1 (zBk S v) → W p l e R s m args below meth c H1 locs1 cells slots Q (F0 m (pc + 3) ls rest)) : W p l e R s m args below meth c H locs cells slots Q (F0 m pc ls (.int v :: .ref h :: rest)) := by
  obtain ⟨hx, hb, hml, hown, hts⟩ := F
  obtain ⟨hK, hA, hP, hD, hS⟩ := I
  exact va_put (D := D) (ci := 1) (v := .int v) (ty := .int) (C := RX1) (T := TX1) (N := 13) hx hb hts in_X1 tyX1 tyX1_ok nmX1 hown hK hP hD hS 0 rfl rfl 4 (by decide) (hts _ q212) (fun _ h9 => h9) rfl (by decide +kernel) rfl rfl (Nat.le_of_ble_eq_true rfl) hd (fun H1 locs1 hP hD hS => kk H1 locs1 ⟨hK, hA, hP, hD, hS⟩)
theorem m_g5 (F : CallFix p m c cc nL s args lw_all RX1) (I : mI D h a ca A s H locs S) (hd : decode cc pc = .ok (.getfield 19, 3)) (kk : W p l e R s m args below meth c H locs cells slots Q (F0 m (pc + 3) ls (.ref (a 5) :: rest))) : W p l e R s m args below meth c H locs cells slots Q (F0 m pc ls (.ref h :: rest)) := by
  obtain ⟨hx, hb, hml, hown, hts⟩ := F
  obtain ⟨hK, hA, hP, hD, hS⟩ := I
  exact va_get (D := D) (ci := 1) (v := .ref (a 5)) (C := RX1) (T := TX1) (N := 13) hx hb hts in_X1 hown hK hP 0 rfl rfl 5 (by decide) (hts _ q213) (fun _ h9 => h9) rfl hd kk
theorem m_ld5 (F : CallFix p m c cc nL s args lw_all RX1) (I : mI D h a ca A s H locs S) {i v : Int32} (hin : vp_in i 4) (hv : sRg S i.toNatClampNeg = v) (hd : decode cc pc = .ok (.iaload, 1)) (kk : W p l e R s m args below meth c H locs cells slots Q (F0 m (pc + 1) ls (.int v :: rest))) : W p l e R s m args below meth c H locs cells slots Q (F0 m pc ls (.int i :: .ref (a 5) :: rest)) := by
  subst hv
  obtain ⟨hx, hb, hml, hown, hts⟩ := F
  obtain ⟨hK, hA, hP, hD, hS⟩ := I
  exact va_iald hx hb hK hP 4 3 rfl rfl hin hd kk
theorem m_st5 (F : CallFix p m c cc nL s args lw_all RX1) (I : mI D h a ca A s H locs S) {f : Fn} (hf : sRg S = f) {i v : Int32} (hin : vp_in i 4) (hd : decode cc pc = .ok (.iastore, 1)) (kk : ∀ (H1 : Heap) (locs1 : List Loc), mI D h a ca A s H1 locs1 (zRg S (upd f i.toNatClampNeg v)) → W p l e R s m args below meth c H1 locs1 cells slots Q (F0 m (pc + 1) ls rest)) : W p l e R s m args below meth c H locs cells slots Q (F0 m pc ls (.int v :: .int i :: .ref (a 5) :: rest)) := by
  subst hf
  obtain ⟨hx, hb, hml, hown, hts⟩ := F
  obtain ⟨hK, hA, hP, hD, hS⟩ := I
  exact va_iast hx hb hK hP hD hS 4 3 rfl rfl hin hd (fun H1 locs1 hP hD hS => kk H1 locs1 ⟨hK, hA, hP, hD, hS⟩)
theorem m_g6 (F : CallFix p m c cc nL s args lw_all RX1) (I : mI D h a ca A s H locs S) (hd : decode cc pc = .ok (.getfield 22, 3)) (kk : W p l e R s m args below meth c H locs cells slots Q (F0 m (pc + 3) ls (.ref (a 6) :: rest))) : W p l e R s m args below meth c H locs cells slots Q (F0 m pc ls (.ref h :: rest)) := by
  obtain ⟨hx, hb, hml, hown, hts⟩ := F
  obtain ⟨hK, hA, hP, hD, hS⟩ := I
  exact va_get (D := D) (ci := 1) (v := .ref (a 6)) (C := RX1) (T := TX1) (N := 13) hx hb hts in_X1 hown hK hP 0 rfl rfl 6 (by decide) (hts _ q214) (fun _ h9 => h9) rfl hd kk
theorem m_ld6 (F : CallFix p m c cc nL s args lw_all RX1) (I : mI D h a ca A s H locs S) {i v : Int32} (hin : vp_in i 8) (hv : sMm S i.toNatClampNeg = v) (hd : decode cc pc = .ok (.iaload, 1)) (kk : W p l e R s m args below meth c H locs cells slots Q (F0 m (pc + 1) ls (.int v :: rest))) : W p l e R s m args below meth c H locs cells slots Q (F0 m pc ls (.int i :: .ref (a 6) :: rest)) := by
  subst hv
  obtain ⟨hx, hb, hml, hown, hts⟩ := F
  obtain ⟨hK, hA, hP, hD, hS⟩ := I
  exact va_iald hx hb hK hP 5 4 rfl rfl hin hd kk
theorem m_st6 (F : CallFix p m c cc nL s args lw_all RX1) (I : mI D h a ca A s H locs S) {f : Fn} (hf : sMm S = f) {i v : Int32} (hin : vp_in i 8) (hd : decode cc pc = .ok (.iastore, 1)) (kk : ∀ (H1 : Heap) (locs1 : List Loc), mI D h a ca A s H1 locs1 (zMm S (upd f i.toNatClampNeg v)) → W p l e R s m args below meth c H1 locs1 cells slots Q (F0 m (pc + 1) ls rest)) : W p l e R s m args below meth c H locs cells slots Q (F0 m pc ls (.int v :: .int i :: .ref (a 6) :: rest)) := by
  subst hf
  obtain ⟨hx, hb, hml, hown, hts⟩ := F
  obtain ⟨hK, hA, hP, hD, hS⟩ := I
  exact va_iast hx hb hK hP hD hS 5 4 rfl rfl hin hd (fun H1 locs1 hP hD hS => kk H1 locs1 ⟨hK, hA, hP, hD, hS⟩)
theorem m_g7 (F : CallFix p m c cc nL s args lw_all RX1) (I : mI D h a ca A s H locs S) (hd : decode cc pc = .ok (.getfield 25, 3)) (kk : W p l e R s m args below meth c H locs cells slots Q (F0 m (pc + 3) ls (.ref (a 7) :: rest))) : W p l e R s m args below meth c H locs cells slots Q (F0 m pc ls (.ref h :: rest)) := by
  obtain ⟨hx, hb, hml, hown, hts⟩ := F
  obtain ⟨hK, hA, hP, hD, hS⟩ := I
  exact va_get (D := D) (ci := 1) (v := .ref (a 7)) (C := RX1) (T := TX1) (N := 13) hx hb hts in_X1 hown hK hP 0 rfl rfl 7 (by decide) (hts _ q215) (fun _ h9 => h9) rfl hd kk
theorem m_ld7 (F : CallFix p m c cc nL s args lw_all RX1) (I : mI D h a ca A s H locs S) {i v : Int32} (hin : vp_in i 6) (hv : sRt S i.toNatClampNeg = v) (hd : decode cc pc = .ok (.iaload, 1)) (kk : W p l e R s m args below meth c H locs cells slots Q (F0 m (pc + 1) ls (.int v :: rest))) : W p l e R s m args below meth c H locs cells slots Q (F0 m pc ls (.int i :: .ref (a 7) :: rest)) := by
  subst hv
  obtain ⟨hx, hb, hml, hown, hts⟩ := F
  obtain ⟨hK, hA, hP, hD, hS⟩ := I
  exact va_iald hx hb hK hP 6 5 rfl rfl hin hd kk
theorem m_st7 (F : CallFix p m c cc nL s args lw_all RX1) (I : mI D h a ca A s H locs S) {f : Fn} (hf : sRt S = f) {i v : Int32} (hin : vp_in i 6) (hd : decode cc pc = .ok (.iastore, 1)) (kk : ∀ (H1 : Heap) (locs1 : List Loc), mI D h a ca A s H1 locs1 (zRt S (upd f i.toNatClampNeg v)) → W p l e R s m args below meth c H1 locs1 cells slots Q (F0 m (pc + 1) ls rest)) : W p l e R s m args below meth c H locs cells slots Q (F0 m pc ls (.int v :: .int i :: .ref (a 7) :: rest)) := by
  subst hf
  obtain ⟨hx, hb, hml, hown, hts⟩ := F
  obtain ⟨hK, hA, hP, hD, hS⟩ := I
  exact va_iast hx hb hK hP hD hS 6 5 rfl rfl hin hd (fun H1 locs1 hP hD hS => kk H1 locs1 ⟨hK, hA, hP, hD, hS⟩)
theorem m_g8 (F : CallFix p m c cc nL s args lw_all RX1) (I : mI D h a ca A s H locs S) {v : Int32} (hv : sLv S = v) (hd : decode cc pc = .ok (.getfield 32, 3)) (kk : W p l e R s m args below meth c H locs cells slots Q (F0 m (pc + 3) ls (.int v :: rest))) : W p l e R s m args below meth c H locs cells slots Q (F0 m pc ls (.ref h :: rest)) := by
  subst hv
  obtain ⟨hx, hb, hml, hown, hts⟩ := F
  obtain ⟨hK, hA, hP, hD, hS⟩ := I
  exact va_get (D := D) (ci := 1) (v := .int (sLv S)) (C := RX1) (T := TX1) (N := 13) hx hb hts in_X1 hown hK hP 0 rfl rfl 8 (by decide) (hts _ q216) (fun _ h9 => h9) rfl hd kk
theorem m_p8 (F : CallFix p m c cc nL s args lw_all RX1) (I : mI D h a ca A s H locs S) {v : Int32} (hd : decode cc pc = .ok (.putfield 32, 3)) (kk : ∀ (H1 : Heap) (locs1 : List Loc), mI D h a ca A s H1 locs1 (zLv S v) → W p l e R s m args below meth c H1 locs1 cells slots Q (F0 m (pc + 3) ls rest)) : W p l e R s m args below meth c H locs cells slots Q (F0 m pc ls (.int v :: .ref h :: rest)) := by
  obtain ⟨hx, hb, hml, hown, hts⟩ := F
  obtain ⟨hK, hA, hP, hD, hS⟩ := I
  exact va_put (D := D) (ci := 1) (v := .int v) (ty := .int) (C := RX1) (T := TX1) (N := 13) hx hb hts in_X1 tyX1 tyX1_ok nmX1 hown hK hP hD hS 0 rfl rfl 8 (by decide) (hts _ q216) (fun _ h9 => h9) rfl (by decide +kernel) rfl rfl (Nat.le_of_ble_eq_true rfl) hd (fun H1 locs1 hP hD hS => kk H1 locs1 ⟨hK, hA, hP, hD, hS⟩)
theorem m_g9 (F : CallFix p m c cc nL s args lw_all RX1) (I : mI D h a ca A s H locs S) {v : Int32} (hv : sAt S = v) (hd : decode cc pc = .ok (.getfield 35, 3)) (kk : W p l e R s m args below meth c H locs cells slots Q (F0 m (pc + 3) ls (.int v :: rest))) : W p l e R s m args below meth c H locs cells slots Q (F0 m pc ls (.ref h :: rest)) := by
  subst hv
  obtain ⟨hx, hb, hml, hown, hts⟩ := F
  obtain ⟨hK, hA, hP, hD, hS⟩ := I
  exact va_get (D := D) (ci := 1) (v := .int (sAt S)) (C := RX1) (T := TX1) (N := 13) hx hb hts in_X1 hown hK hP 0 rfl rfl 9 (by decide) (hts _ q217) (fun _ h9 => h9) rfl hd kk
theorem m_p9 (F : CallFix p m c cc nL s args lw_all RX1) (I : mI D h a ca A s H locs S) {v : Int32} (hd : decode cc pc = .ok (.putfield 35, 3)) (kk : ∀ (H1 : Heap) (locs1 : List Loc), mI D h a ca A s H1 locs1 (zAt S v) → W p l e R s m args below meth c H1 locs1 cells slots Q (F0 m (pc + 3) ls rest)) : W p l e R s m args below meth c H locs cells slots Q (F0 m pc ls (.int v :: .ref h :: rest)) := by
  obtain ⟨hx, hb, hml, hown, hts⟩ := F
  obtain ⟨hK, hA, hP, hD, hS⟩ := I
  exact va_put (D := D) (ci := 1) (v := .int v) (ty := .int) (C := RX1) (T := TX1) (N := 13) hx hb hts in_X1 tyX1 tyX1_ok nmX1 hown hK hP hD hS 0 rfl rfl 9 (by decide) (hts _ q217) (fun _ h9 => h9) rfl (by decide +kernel) rfl rfl (Nat.le_of_ble_eq_true rfl) hd (fun H1 locs1 hP hD hS => kk H1 locs1 ⟨hK, hA, hP, hD, hS⟩)
theorem m_g10 (F : CallFix p m c cc nL s args lw_all RX1) (I : mI D h a ca A s H locs S) {v : Int32} (hv : sCt S = v) (hd : decode cc pc = .ok (.getfield 38, 3)) (kk : W p l e R s m args below meth c H locs cells slots Q (F0 m (pc + 3) ls (.int v :: rest))) : W p l e R s m args below meth c H locs cells slots Q (F0 m pc ls (.ref h :: rest)) := by
  subst hv
  obtain ⟨hx, hb, hml, hown, hts⟩ := F
  obtain ⟨hK, hA, hP, hD, hS⟩ := I
  exact va_get (D := D) (ci := 1) (v := .int (sCt S)) (C := RX1) (T := TX1) (N := 13) hx hb hts in_X1 hown hK hP 0 rfl rfl 10 (by decide) (hts _ q218) (fun _ h9 => h9) rfl hd kk
theorem m_p10 (F : CallFix p m c cc nL s args lw_all RX1) (I : mI D h a ca A s H locs S) {v : Int32} (hd : decode cc pc = .ok (.putfield 38, 3)) (kk : ∀ (H1 : Heap) (locs1 : List Loc), mI D h a ca A s H1 locs1 (zCt S v) → W p l e R s m args below meth c H1 locs1 cells slots Q (F0 m (pc + 3) ls rest)) : W p l e R s m args below meth c H locs cells slots Q (F0 m pc ls (.int v :: .ref h :: rest)) := by
  obtain ⟨hx, hb, hml, hown, hts⟩ := F
  obtain ⟨hK, hA, hP, hD, hS⟩ := I
  exact va_put (D := D) (ci := 1) (v := .int v) (ty := .int) (C := RX1) (T := TX1) (N := 13) hx hb hts in_X1 tyX1 tyX1_ok nmX1 hown hK hP hD hS 0 rfl rfl 10 (by decide) (hts _ q218) (fun _ h9 => h9) rfl (by decide +kernel) rfl rfl (Nat.le_of_ble_eq_true rfl) hd (fun H1 locs1 hP hD hS => kk H1 locs1 ⟨hK, hA, hP, hD, hS⟩)
theorem m_g11 (F : CallFix p m c cc nL s args lw_all RX1) (I : mI D h a ca A s H locs S) {v : Int32} (hv : sOv S = v) (hd : decode cc pc = .ok (.getfield 41, 3)) (kk : W p l e R s m args below meth c H locs cells slots Q (F0 m (pc + 3) ls (.int v :: rest))) : W p l e R s m args below meth c H locs cells slots Q (F0 m pc ls (.ref h :: rest)) := by
  subst hv
  obtain ⟨hx, hb, hml, hown, hts⟩ := F
  obtain ⟨hK, hA, hP, hD, hS⟩ := I
  exact va_get (D := D) (ci := 1) (v := .int (sOv S)) (C := RX1) (T := TX1) (N := 13) hx hb hts in_X1 hown hK hP 0 rfl rfl 11 (by decide) (hts _ q219) (fun _ h9 => h9) rfl hd kk
theorem m_p11 (F : CallFix p m c cc nL s args lw_all RX1) (I : mI D h a ca A s H locs S) {v : Int32} (hn : narrow .boolean (.int v) = .int v) (hf : fits .boolean (.int v) = true) (hd : decode cc pc = .ok (.putfield 41, 3)) (kk : ∀ (H1 : Heap) (locs1 : List Loc), mI D h a ca A s H1 locs1 (zOv S v) → W p l e R s m args below meth c H1 locs1 cells slots Q (F0 m (pc + 3) ls rest)) : W p l e R s m args below meth c H locs cells slots Q (F0 m pc ls (.int v :: .ref h :: rest)) := by
  obtain ⟨hx, hb, hml, hown, hts⟩ := F
  obtain ⟨hK, hA, hP, hD, hS⟩ := I
  exact va_put (D := D) (ci := 1) (v := .int v) (ty := .boolean) (C := RX1) (T := TX1) (N := 13) hx hb hts in_X1 tyX1 tyX1_ok nmX1 hown hK hP hD hS 0 rfl rfl 11 (by decide) (hts _ q219) (fun _ h9 => h9) rfl (by decide +kernel) hn hf (Nat.le_of_ble_eq_true rfl) hd (fun H1 locs1 hP hD hS => kk H1 locs1 ⟨hK, hA, hP, hD, hS⟩)
theorem m_g12 (F : CallFix p m c cc nL s args lw_all RX1) (I : mI D h a ca A s H locs S) {v : Int32} (hv : sWy S = v) (hd : decode cc pc = .ok (.getfield 45, 3)) (kk : W p l e R s m args below meth c H locs cells slots Q (F0 m (pc + 3) ls (.int v :: rest))) : W p l e R s m args below meth c H locs cells slots Q (F0 m pc ls (.ref h :: rest)) := by
  subst hv
  obtain ⟨hx, hb, hml, hown, hts⟩ := F
  obtain ⟨hK, hA, hP, hD, hS⟩ := I
  exact va_get (D := D) (ci := 1) (v := .int (sWy S)) (C := RX1) (T := TX1) (N := 13) hx hb hts in_X1 hown hK hP 0 rfl rfl 12 (by decide) (hts _ q220) (fun _ h9 => h9) rfl hd kk
theorem m_p12 (F : CallFix p m c cc nL s args lw_all RX1) (I : mI D h a ca A s H locs S) {v : Int32} (hd : decode cc pc = .ok (.putfield 45, 3)) (kk : ∀ (H1 : Heap) (locs1 : List Loc), mI D h a ca A s H1 locs1 (zWy S v) → W p l e R s m args below meth c H1 locs1 cells slots Q (F0 m (pc + 3) ls rest)) : W p l e R s m args below meth c H locs cells slots Q (F0 m pc ls (.int v :: .ref h :: rest)) := by
  obtain ⟨hx, hb, hml, hown, hts⟩ := F
  obtain ⟨hK, hA, hP, hD, hS⟩ := I
  exact va_put (D := D) (ci := 1) (v := .int v) (ty := .int) (C := RX1) (T := TX1) (N := 13) hx hb hts in_X1 tyX1 tyX1_ok nmX1 hown hK hP hD hS 0 rfl rfl 12 (by decide) (hts _ q220) (fun _ h9 => h9) rfl (by decide +kernel) rfl rfl (Nat.le_of_ble_eq_true rfl) hd (fun H1 locs1 hP hD hS => kk H1 locs1 ⟨hK, hA, hP, hD, hS⟩)
end
theorem m_enter {l : Launch} {D : va_G} {h : Nat} {a : Nat → Nat} {ca : Nat → ClassId} {S : Sh}  {y : MethodName} {cc : ByteArray} {nL : Nat} {ret : Option FieldType} {rm : Room} {As : List Value} {sz : Nat} {Qc : Array Value → State → Outcome → State → Prop} {mc ms : Nat} {free : Addr → Prop} (hy : plainName y.cls = true) (hlen : (lg_sl (.ref h :: As)).length ≤ nL) (hcls : y.cls = RX1)
    (body : ∀ (p : Program) (e : Env) (s : State) (m : MethodId) (below : List Frame) (meth : Method) (c : Code), CallFix p m c cc nL s (Value.ref h :: As).toArray lw_all RX1 → meth.sig.returnType = ret → meth.locks = false → mI D h a ca (mA h a ca S sz) s s.heap [] S → ∀ ls : Array Slot, lv_has ls nL (lv_args 0 (.ref h :: As)) → W p l e rm s m (Value.ref h :: As).toArray below meth c s.heap [] 0 0 (MQ below Qc (Value.ref h :: As).toArray s mc ms free) (F0 m 0 ls [])) : Met l y (ws_ y cc nL ret) rm (mPc D h a ca As sz S) Qc mc ms free := by
  refine Met.ofW (cc := cc) (maxL := nL) (ret := ret) hy rfl ?_
  intro p e s m args below meth c s₁ B hml hv
  obtain ⟨rfl, hsz, hP, hK, hD0⟩ := hv
  have hts := atoms_spec (ws := ws_ y cc nL ret) B.pre
  have hts : ∀ w ∈ lw_all, w.before _ s = true := fun w h => hts w (List.mem_cons_of_mem _ h)
  have hown : s.vm.findClass y.cls = some m.cls := findClass_of_methodNamed B.named
  rw [hcls] at hown
  subst hsz
  have hD := hD0.self (sz := s.heap.size)
  have hl := lv_entry (.ref h :: As) (n := nL) hlen
  rw [lg_entry_eq]
  exact body p e s m below meth c ⟨B.exec, B.bytes, hml, hown, hts⟩ B.returns B.notSynchronized ⟨hK, fun q hq => Or.inr hq, hP, hD, va_S.rf⟩ _ hl
section
variable {p : Program} {l : Launch} {e : Env} {R : Room} {s : State} {m : MethodId} {args : Array Value} {below : List Frame} {meth : Method} {c : Code} {H : Heap} {locs : List Loc} {cells slots : Nat} {Q : State → Prop} {cc : ByteArray} {nL pc : Nat} {ls : Array Slot} {rest : List Value} {D : va_G} {h : Nat} {a : Nat → Nat} {ca : Nat → ClassId} {A : Nat → Prop} {S : Sh}  {S0 : Sh}  {sz : Nat}
theorem m_ri (F : CallFix p m c cc nL s args lw_all RX1) (hr : meth.sig.returnType = some .int) (hlk : meth.locks = false) (I : mI D h a ca (mA h a ca S0 sz) s H locs S) {v : Int32} {post : Int32 → Sh → Prop} (hp : post v S) (hd : decode cc pc = .ok (.ireturn, 1)) : W p l e R s m args below meth c H locs cells slots (MQ below (mQi D h a ca sz S0 post) args s cells slots (mA h a ca S0 sz)) (F0 m pc ls [.int v]) := by
  obtain ⟨hx, hb, hml, hown, hts⟩ := F
  obtain ⟨hK, hA, hP, hD, hS⟩ := I
  exact W.iret hx hb hr (fun t ht hW => ⟨⟨v, S, rfl, hp, by rw [ht]; exact hP, va_K.moved hW.alike hK, hD⟩, hS.F ht⟩) hS.2.2 hd hlk
theorem m_rz (F : CallFix p m c cc nL s args lw_all RX1) (hr : meth.sig.returnType = some .boolean) (hlk : meth.locks = false) (I : mI D h a ca (mA h a ca S0 sz) s H locs S) {v : Int32} {post : Int32 → Sh → Prop} (hn : narrow .boolean (.int v) = .int v) (hp : post v S) (hd : decode cc pc = .ok (.ireturn, 1)) : W p l e R s m args below meth c H locs cells slots (MQ below (mQi D h a ca sz S0 post) args s cells slots (mA h a ca S0 sz)) (F0 m pc ls [.int v]) := by
  obtain ⟨hx, hb, hml, hown, hts⟩ := F
  obtain ⟨hK, hA, hP, hD, hS⟩ := I
  exact W.zret hx hb hr hn (fun t ht hW => ⟨⟨v, S, rfl, hp, by rw [ht]; exact hP, va_K.moved hW.alike hK, hD⟩, hS.F ht⟩) hS.2.2 hd hlk
theorem m_rv (F : CallFix p m c cc nL s args lw_all RX1) (hr : meth.sig.returnType = none) (hlk : meth.locks = false) (I : mI D h a ca (mA h a ca S0 sz) s H locs S) {post : Sh → Prop} (hp : post S) (hd : decode cc pc = .ok (.return_, 1)) : W p l e R s m args below meth c H locs cells slots (MQ below (mQv D h a ca sz S0 post) args s cells slots (mA h a ca S0 sz)) (F0 m pc ls []) := by
  obtain ⟨hx, hb, hml, hown, hts⟩ := F
  obtain ⟨hK, hA, hP, hD, hS⟩ := I
  exact W.vret hx hb hr (fun t ht hW => ⟨⟨S, rfl, hp, by rw [ht]; exact hP, va_K.moved hW.alike hK, hD⟩, hS.F ht⟩) hS.2.2 hd hlk
end
section
variable {p : Program} {l : Launch} {e : Env} {R : Room} {s : State} {m : MethodId} {args : Array Value} {below : List Frame} {meth : Method} {c : Code} {H : Heap} {locs : List Loc} {cells slots : Nat} {Q : State → Prop} {cc : ByteArray} {nL pc : Nat} {ls : Array Slot} {rest : List Value} {D : va_G} {h : Nat} {a : Nat → Nat} {ca : Nat → ClassId} {A : Nat → Prop} {S : Sh} 
theorem m_ci (F : CallFix p m c cc nL s args lw_all RX1) (I : mI D h a ca A s H locs S) {y : MethodName} {bytes : ByteArray} {maxL index n : Nat} {ret : Option FieldType} {rm : Room} {As : List Value} {post : Int32 → Sh → Prop} {st0 : List Value} (hM : ∀ sz : Nat, Met l y (ws_ y bytes maxL ret) rm (mPc D h a ca As sz S) (mQi D h a ca sz S post) 0 0 (mA h a ca S sz)) (cw : CallW R s args RX1 RX1 index y bytes maxL ret (ws_ y bytes maxL ret) rm 0 0 n) (hn : As.length = n) (hst : st0 = As.reverse ++ .ref h :: rest) (hsz : ls.size = nL) (hrest : (rest.map fun v => v.category).sum ≤ 8) (hd : decode cc pc = .ok (.invokevirtual index, 3)) (hroom : cells ≤ R.cells ∧ slots ≤ R.slots)
    (kk : ∀ (r : Int32) (u : Sh) (H1 : Heap) (locs1 : List Loc), post r u → mI D h a ca A s H1 locs1 u → W p l e R s m args below meth c H1 locs1 cells slots Q (F0 m (pc + 3) ls (.int r :: rest))) : W p l e R s m args below meth c H locs cells slots Q (F0 m pc ls st0) := by
  obtain ⟨hx, hb, hml, hown, hts⟩ := F
  obtain ⟨hK, hA, hP, hD, hS⟩ := I
  have hFc := va_free (wc := mW h a ca S) hD hS hA [0, 1, 2, 3, 4, 5, 6] rfl
  refine va_calli (va_runV (As := As) (rest := rest) ⟨hx, hb, hml, hown, hts⟩ (hM H.size) cw ⟨fun a U g mk q => by obtain ⟨q0, q1, qP, qK, qD⟩ := q; exact ⟨q0, q1, qP, va_K.moved (u := U) (U := U.calling g mk a) (Vm.Alike.refl U.vm) qK, qD⟩, va_recv hK hP (ci := 1) (q0 := 0) rfl rfl, fun U hU hW => ⟨rfl, by rw [hU], by rw [hU]; exact hP, va_K.moved hW.alike hK, hD.weaken (fun _ _ _ _ => trivial)⟩⟩ rfl hn hsz hst (lv_room hrest) hd hroom) hS (fun q _ h => hFc q h) hFc (fun r u t H1 locs1 ht hvm hw1 hB hz1 hk1 hS => ?_)
  obtain ⟨hP1, hK1, hD1⟩ := hB
  rw [ht] at hP1
  have hK1 := va_K.moved hvm.symm hK1
  exact kk r u H1 locs1 hw1 ⟨hK, hA, hP1, hD1.weaken (fun _ _ _ h => hFc _ h), hS⟩
theorem m_cv (F : CallFix p m c cc nL s args lw_all RX1) (I : mI D h a ca A s H locs S) {y : MethodName} {bytes : ByteArray} {maxL index n : Nat} {ret : Option FieldType} {rm : Room} {As : List Value} {post : Sh → Prop} {st0 : List Value} (hM : ∀ sz : Nat, Met l y (ws_ y bytes maxL ret) rm (mPc D h a ca As sz S) (mQv D h a ca sz S post) 0 0 (mA h a ca S sz)) (cw : CallW R s args RX1 RX1 index y bytes maxL ret (ws_ y bytes maxL ret) rm 0 0 n) (hn : As.length = n) (hst : st0 = As.reverse ++ .ref h :: rest) (hsz : ls.size = nL) (hrest : (rest.map fun v => v.category).sum ≤ 8) (hd : decode cc pc = .ok (.invokevirtual index, 3)) (hroom : cells ≤ R.cells ∧ slots ≤ R.slots)
    (kk : ∀ (u : Sh) (H1 : Heap) (locs1 : List Loc), post u → mI D h a ca A s H1 locs1 u → W p l e R s m args below meth c H1 locs1 cells slots Q (F0 m (pc + 3) ls rest)) : W p l e R s m args below meth c H locs cells slots Q (F0 m pc ls st0) := by
  obtain ⟨hx, hb, hml, hown, hts⟩ := F
  obtain ⟨hK, hA, hP, hD, hS⟩ := I
  have hFc := va_free (wc := mW h a ca S) hD hS hA [0, 1, 2, 3, 4, 5, 6] rfl
  refine va_callv (va_runV (As := As) (rest := rest) ⟨hx, hb, hml, hown, hts⟩ (hM H.size) cw ⟨fun a U g mk q => by obtain ⟨q0, q1, qP, qK, qD⟩ := q; exact ⟨q0, q1, qP, va_K.moved (u := U) (U := U.calling g mk a) (Vm.Alike.refl U.vm) qK, qD⟩, va_recv hK hP (ci := 1) (q0 := 0) rfl rfl, fun U hU hW => ⟨rfl, by rw [hU], by rw [hU]; exact hP, va_K.moved hW.alike hK, hD.weaken (fun _ _ _ _ => trivial)⟩⟩ rfl hn hsz hst (lv_room hrest) hd hroom) hS (fun q _ h => hFc q h) hFc (fun u t H1 locs1 ht hvm hw1 hB hz1 hk1 hS => ?_)
  obtain ⟨hP1, hK1, hD1⟩ := hB
  rw [ht] at hP1
  have hK1 := va_K.moved hvm.symm hK1
  exact kk u H1 locs1 hw1 ⟨hK, hA, hP1, hD1.weaken (fun _ _ _ h => hFc _ h), hS⟩
theorem m_cs (F : CallFix p m c cc nL s args lw_all RX1) (I : mI D h a ca A s H locs S) {v : Int32} {S1 : Sh} {y : MethodName} {bytes : ByteArray} {maxL index n : Nat} {ret : Option FieldType} {rm : Room} {As : List Value} {st0 : List Value} (hM : ∀ sz : Nat, Met l y (ws_ y bytes maxL ret) rm (mPc D h a ca As sz S) (mQi D h a ca sz S (fun r u => r = v ∧ u = S1)) 0 0 (mA h a ca S sz)) (cw : CallW R s args RX1 RX1 index y bytes maxL ret (ws_ y bytes maxL ret) rm 0 0 n) (hn : As.length = n) (hst : st0 = As.reverse ++ .ref h :: rest) (hsz : ls.size = nL) (hrest : (rest.map fun v => v.category).sum ≤ 8) (hd : decode cc pc = .ok (.invokevirtual index, 3)) (hroom : cells ≤ R.cells ∧ slots ≤ R.slots)
    (kk : ∀ (H1 : Heap) (locs1 : List Loc), mI D h a ca A s H1 locs1 S1 → W p l e R s m args below meth c H1 locs1 cells slots Q (F0 m (pc + 3) ls (.int v :: rest))) : W p l e R s m args below meth c H locs cells slots Q (F0 m pc ls st0) := m_ci F I hM cw hn hst hsz hrest hd hroom (fun r u H1 locs1 hp I1 => by obtain ⟨rfl, rfl⟩ := hp; exact kk H1 locs1 I1)
theorem m_cz (F : CallFix p m c cc nL s args lw_all RX1) (I : mI D h a ca A s H locs S) {S1 : Sh} {y : MethodName} {bytes : ByteArray} {maxL index n : Nat} {ret : Option FieldType} {rm : Room} {As : List Value} {st0 : List Value} (hM : ∀ sz : Nat, Met l y (ws_ y bytes maxL ret) rm (mPc D h a ca As sz S) (mQv D h a ca sz S (fun u => u = S1)) 0 0 (mA h a ca S sz)) (cw : CallW R s args RX1 RX1 index y bytes maxL ret (ws_ y bytes maxL ret) rm 0 0 n) (hn : As.length = n) (hst : st0 = As.reverse ++ .ref h :: rest) (hsz : ls.size = nL) (hrest : (rest.map fun v => v.category).sum ≤ 8) (hd : decode cc pc = .ok (.invokevirtual index, 3)) (hroom : cells ≤ R.cells ∧ slots ≤ R.slots)
    (kk : ∀ (H1 : Heap) (locs1 : List Loc), mI D h a ca A s H1 locs1 S1 → W p l e R s m args below meth c H1 locs1 cells slots Q (F0 m (pc + 3) ls rest)) : W p l e R s m args below meth c H locs cells slots Q (F0 m pc ls st0) := m_cv F I hM cw hn hst hsz hrest hd hroom (fun u H1 locs1 hp I1 => by subst hp; exact kk H1 locs1 I1)
end
theorem cw_x_inside {R : Room} {s : State} {args : Array Value} (hts : ∀ w ∈ lw_all, w.before args s = true) (hR : (rmL 0).frames + 1 ≤ R.frames ∧ 8 + (2 + 11) + (rmL 0).locals ≤ R.locals) : CallW R s args RX0 RX0 36 yX0_inside cX0_inside 2 (some .boolean) (ws_ yX0_inside cX0_inside 2 (some .boolean)) (rmL 0) 0 0 1 := cwV 1 hts (lw_V q98 q100 qs0 q19 q101) rfl rfl rfl (by decide +kernel) hR
theorem cw_x_run {R : Room} {s : State} {args : Array Value} (hts : ∀ w ∈ lw_all, w.before args s = true) (hR : (rmL 4).frames + 1 ≤ R.frames ∧ 8 + (5 + 11) + (rmL 4).locals ≤ R.locals) : CallW R s args RX0 RX0 109 yX0_run cX0_run 5 (some .int) (ws_ yX0_run cX0_run 5 (some .int)) (rmL 4) 0 0 1 := cwV 1 hts (lw_V q118 q120 qs1 q19 q121) rfl rfl rfl (by decide +kernel) hR
theorem cw_x_judge {R : Room} {s : State} {args : Array Value} (hts : ∀ w ∈ lw_all, w.before args s = true) (hR : (rmL 1).frames + 1 ≤ R.frames ∧ 8 + (2 + 11) + (rmL 1).locals ≤ R.locals) : CallW R s args RX0 RX0 103 yX0_judge cX0_judge 2 (some .int) (ws_ yX0_judge cX0_judge 2 (some .int)) (rmL 1) 0 0 1 := cwV 1 hts (lw_V q122 q124 qs2 q19 q125) rfl rfl rfl (by decide +kernel) hR
theorem cw_x_stuck {R : Room} {s : State} {args : Array Value} (hts : ∀ w ∈ lw_all, w.before args s = true) (hR : (rmL 0).frames + 1 ≤ R.frames ∧ 8 + (1 + 11) + (rmL 0).locals ≤ R.locals) : CallW R s args RX0 RX0 66 yX0_stuck cX0_stuck 1 (some .boolean) (ws_ yX0_stuck cX0_stuck 1 (some .boolean)) (rmL 0) 0 0 0 := cwV 0 hts (lw_V q126 q128 qs3 q19 q129) rfl rfl rfl (by decide +kernel) hR
theorem cw_x_aimReached {R : Room} {s : State} {args : Array Value} (hts : ∀ w ∈ lw_all, w.before args s = true) (hR : (rmL 0).frames + 1 ≤ R.frames ∧ 8 + (1 + 11) + (rmL 0).locals ≤ R.locals) : CallW R s args RX0 RX0 77 yX0_aimReached cX0_aimReached 1 (some .boolean) (ws_ yX0_aimReached cX0_aimReached 1 (some .boolean)) (rmL 0) 0 0 0 := cwV 0 hts (lw_V q130 q132 qs4 q19 q133) rfl rfl rfl (by decide +kernel) hR
theorem cw_x_stepOff {R : Room} {s : State} {args : Array Value} (hts : ∀ w ∈ lw_all, w.before args s = true) (hR : (rmL 3).frames + 1 ≤ R.frames ∧ 8 + (3 + 11) + (rmL 3).locals ≤ R.locals) : CallW R s args RX0 RX0 106 yX0_stepOff cX0_stepOff 3 (some .int) (ws_ yX0_stepOff cX0_stepOff 3 (some .int)) (rmL 3) 0 0 0 := cwV 0 hts (lw_V q134 q136 qs5 q19 q137) rfl rfl rfl (by decide +kernel) hR
theorem cw_x_successors {R : Room} {s : State} {args : Array Value} (hts : ∀ w ∈ lw_all, w.before args s = true) (hR : (rmL 2).frames + 1 ≤ R.frames ∧ 8 + (3 + 11) + (rmL 2).locals ≤ R.locals) : CallW R s args RX0 RX0 89 yX0_successors cX0_successors 3 (some .int) (ws_ yX0_successors cX0_successors 3 (some .int)) (rmL 2) 0 0 0 := cwV 0 hts (lw_V q138 q140 qs6 q19 q141) rfl rfl rfl (by decide +kernel) hR
theorem cw_x_bit {R : Room} {s : State} {args : Array Value} (hts : ∀ w ∈ lw_all, w.before args s = true) (hR : (rmL 1).frames + 1 ≤ R.frames ∧ 8 + (2 + 11) + (rmL 1).locals ≤ R.locals) : CallW R s args RX0 RX0 62 yX0_bit cX0_bit 2 (some .int) (ws_ yX0_bit cX0_bit 2 (some .int)) (rmL 1) 0 0 1 := cwV 1 hts (lw_V q142 q144 qs7 q19 q145) rfl rfl rfl (by decide +kernel) hR
theorem cw_x_resume {R : Room} {s : State} {args : Array Value} (hts : ∀ w ∈ lw_all, w.before args s = true) (hR : (rmL 2).frames + 1 ≤ R.frames ∧ 8 + (4 + 11) + (rmL 2).locals ≤ R.locals) : CallW R s args RX0 RX0 93 yX0_resume cX0_resume 4 (some .int) (ws_ yX0_resume cX0_resume 4 (some .int)) (rmL 2) 0 0 1 := cwV 1 hts (lw_V q146 q148 qs8 q19 q149) rfl rfl rfl (by decide +kernel) hR
theorem cw_x_carry {R : Room} {s : State} {args : Array Value} (hts : ∀ w ∈ lw_all, w.before args s = true) (hR : (rmL 1).frames + 1 ≤ R.frames ∧ 8 + (4 + 11) + (rmL 1).locals ≤ R.locals) : CallW R s args RX0 RX0 70 yX0_carry cX0_carry 4 none (ws_ yX0_carry cX0_carry 4 none) (rmL 1) 0 0 0 := cwV 0 hts (lw_V q150 q152 qs9 q19 q153) rfl rfl rfl (by decide +kernel) hR
theorem cw_x_work {R : Room} {s : State} {args : Array Value} (hts : ∀ w ∈ lw_all, w.before args s = true) (hR : (rmL 0).frames + 1 ≤ R.frames ∧ 8 + (4 + 11) + (rmL 0).locals ≤ R.locals) : CallW R s args RX0 RX0 73 yX0_work cX0_work 4 none (ws_ yX0_work cX0_work 4 none) (rmL 0) 0 0 3 := cwV 3 hts (lw_V q154 q156 qs10 q19 q157) rfl rfl rfl (by decide +kernel) hR
theorem cw_x_plant {R : Room} {s : State} {args : Array Value} (hts : ∀ w ∈ lw_all, w.before args s = true) (hR : (rmL 0).frames + 1 ≤ R.frames ∧ 8 + (3 + 11) + (rmL 0).locals ≤ R.locals) : CallW R s args RX0 RX0 96 yX0_plant cX0_plant 3 none (ws_ yX0_plant cX0_plant 3 none) (rmL 0) 0 0 1 := cwV 1 hts (lw_V q158 q160 qs11 q19 q161) rfl rfl rfl (by decide +kernel) hR
theorem cw_x_lift {R : Room} {s : State} {args : Array Value} (hts : ∀ w ∈ lw_all, w.before args s = true) (hR : (rmL 0).frames + 1 ≤ R.frames ∧ 8 + (2 + 11) + (rmL 0).locals ≤ R.locals) : CallW R s args RX0 RX0 100 yX0_lift cX0_lift 2 none (ws_ yX0_lift cX0_lift 2 none) (rmL 0) 0 0 0 := cwV 0 hts (lw_V q162 q164 qs12 q19 q165) rfl rfl rfl (by decide +kernel) hR
theorem cw_m_run {R : Room} {s : State} {args : Array Value} (hts : ∀ w ∈ lw_all, w.before args s = true) (hR : (rmL 3).frames + 1 ≤ R.frames ∧ 8 + (7 + 11) + (rmL 3).locals ≤ R.locals) : CallW R s args RX1 RX1 66 yX1_run cX1_run 7 (some .int) (ws_ yX1_run cX1_run 7 (some .int)) (rmL 3) 0 0 3 := cwV 3 hts (lw_V q276 q278 qs13 q20 q279) rfl rfl rfl (by decide +kernel) hR
theorem cw_m_inside {R : Room} {s : State} {args : Array Value} (hts : ∀ w ∈ lw_all, w.before args s = true) (hR : (rmL 0).frames + 1 ≤ R.frames ∧ 8 + (1 + 11) + (rmL 0).locals ≤ R.locals) : CallW R s args RX1 RX1 51 yX1_inside cX1_inside 1 (some .boolean) (ws_ yX1_inside cX1_inside 1 (some .boolean)) (rmL 0) 0 0 0 := cwV 0 hts (lw_V q280 q282 qs14 q20 q283) rfl rfl rfl (by decide +kernel) hR
theorem cw_m_faulty {R : Room} {s : State} {args : Array Value} (hts : ∀ w ∈ lw_all, w.before args s = true) (hR : (rmL 2).frames + 1 ≤ R.frames ∧ 8 + (2 + 11) + (rmL 2).locals ≤ R.locals) : CallW R s args RX1 RX1 59 yX1_faulty cX1_faulty 2 (some .boolean) (ws_ yX1_faulty cX1_faulty 2 (some .boolean)) (rmL 2) 0 0 0 := cwV 0 hts (lw_V q284 q286 qs15 q20 q287) rfl rfl rfl (by decide +kernel) hR
theorem cw_m_here {R : Room} {s : State} {args : Array Value} (hts : ∀ w ∈ lw_all, w.before args s = true) (hR : (rmL 1).frames + 1 ≤ R.frames ∧ 8 + (1 + 11) + (rmL 1).locals ≤ R.locals) : CallW R s args RX1 RX1 55 yX1_here cX1_here 1 (some .int) (ws_ yX1_here cX1_here 1 (some .int)) (rmL 1) 0 0 0 := cwV 0 hts (lw_V q288 q290 qs16 q20 q291) rfl rfl rfl (by decide +kernel) hR
theorem cw_m_carryOut {R : Room} {s : State} {args : Array Value} (hts : ∀ w ∈ lw_all, w.before args s = true) (hR : (rmL 0).frames + 1 ≤ R.frames ∧ 8 + (5 + 11) + (rmL 0).locals ≤ R.locals) : CallW R s args RX1 RX1 62 yX1_carryOut cX1_carryOut 5 none (ws_ yX1_carryOut cX1_carryOut 5 none) (rmL 0) 0 0 3 := cwV 3 hts (lw_V q292 q294 qs17 q20 q295) rfl rfl rfl (by decide +kernel) hR
end
section
/-! THE PURE MEANING of both classes' methods, over Sh -/
abbrev ins (S : Sh) (q : Int32) : Prop := ¬ (q < 0 ∨ sSz S ≤ q)
def opA (S : Sh) : Int32 := sOp S (sAt S).toNatClampNeg
def asA (S : Sh) : Int32 := sAs S (sAt S).toNatClampNeg
def bsA (S : Sh) : Int32 := sBs S (sAt S).toNatClampNeg
abbrev stk (S : Sh) : Prop := (opA S = 7 ∧ 6 ≤ sLv S) ∨ (opA S = 8 ∧ sLv S = 0)
/-- operations 0 to 4 -/
def wrk (op a b : Int32) (S : Sh) : Sh :=
  if op = 0 then zRg S (upd (sRg S) a.toNatClampNeg b)
  else if op = 1 then zRg S (upd (sRg S) a.toNatClampNeg (sRg S a.toNatClampNeg + sRg S b.toNatClampNeg))
  else if op = 2 then zRg S (upd (sRg S) a.toNatClampNeg (sRg S a.toNatClampNeg - sRg S b.toNatClampNeg))
  else if op = 3 then zRg S (upd (sRg S) a.toNatClampNeg (sMm S (sRg S b.toNatClampNeg &&& 7).toNatClampNeg))
  else zMm S (upd (sMm S) (sRg S b.toNatClampNeg &&& 7).toNatClampNeg (sRg S a.toNatClampNeg))
/-- one instruction, the count apart -/
def cry (op a b : Int32) (S : Sh) : Sh :=
  if ¬ 4 < op then zAt (wrk op a b S) (sAt S + 1)
  else if op = 5 then zAt S (if sRg S a.toNatClampNeg = 0 then b else sAt S + 1)
  else if op = 6 then zAt S b
  else if op = 7 then zAt (zLv (zRt S (upd (sRt S) (sLv S).toNatClampNeg (sAt S + 1))) (sLv S + 1)) b
  else if op = 8 then zAt (zLv S (sLv S - 1)) (sRt S (sLv S - 1).toNatClampNeg)
  else if op = 9 then zAt S (sRg S a.toNatClampNeg)
  else zOv S 1
def stp (S : Sh) : Sh := zCt (cry (opA S) (asA S) (bsA S) S) (sCt S + 1)
/-- emit: its answer and its state -/
def emR (S : Sh) (op a b : Int32) : Int32 :=
  if ¬ sSz S < 20 then -1 else if op < 0 ∨ ¬ op ≤ 10 then -2 else if a < 0 ∨ 3 < a ∨ (¬ op < 1 ∧ ¬ 4 < op ∧ (b < 0 ∨ ¬ b ≤ 3)) then -3 else sSz S + 1 - 1
def emS (S : Sh) (op a b : Int32) : Sh :=
  if ¬ sSz S < 20 then S else if op < 0 ∨ ¬ op ≤ 10 then S else if a < 0 ∨ 3 < a ∨ (¬ op < 1 ∧ ¬ 4 < op ∧ (b < 0 ∨ ¬ b ≤ 3)) then S else
    zSz (zBs (zAs (zOp S (upd (sOp S) (sSz S).toNatClampNeg op)) (upd (sAs S) (sSz S).toNatClampNeg a)) (upd (sBs S) (sSz S).toNatClampNeg b)) (sSz S + 1)
def insF (S : Sh) (q : Int32) : Int32 := if ins S q then 1 else 0
def cdR (S : Sh) (q : Int32) : Int32 := if ins S q then sOp S q.toNatClampNeg + 16 * sAs S q.toNatClampNeg else -1
def bitF (S : Sh) (q : Int32) : Int32 := if ins S q then (1 : Int32) <<< (q &&& 31) else 0
def rs4 (f : Fn) : Fn := upd (upd (upd (upd f (0 : Int32).toNatClampNeg 0) (1 : Int32).toNatClampNeg 0) (2 : Int32).toNatClampNeg 0) (3 : Int32).toNatClampNeg 0
def rs8 (f : Fn) : Fn := upd (upd (upd (upd (rs4 f) (4 : Int32).toNatClampNeg 0) (5 : Int32).toNatClampNeg 0) (6 : Int32).toNatClampNeg 0) (7 : Int32).toNatClampNeg 0
def rsS (S : Sh) : Sh := zWy (zCt (zOv (zAt (zLv (zMm (zRg S (rs4 (sRg S))) (rs8 (sMm S))) 0) 0) 0) 0) 0
def bkR (q : Int32) : Int32 := if q < 0 ∨ ¬ q < 20 then 0 else 1
def bkS (S : Sh) (q on : Int32) : Sh :=
  if q < 0 ∨ ¬ q < 20 then S else zBk S (if on = 0 then sBk S &&& (((1 : Int32) <<< (q &&& 31)) ^^^ (-1)) else sBk S ||| ((1 : Int32) <<< (q &&& 31)))
def stkF (S : Sh) : Int32 := if stk S then 1 else 0
def pkR (S : Sh) (i : Int32) : Int32 :=
  if ¬ i < 0 ∧ ¬ 4 ≤ i then sRg S i.toNatClampNeg
  else if ¬ i < 8 ∧ ¬ 16 ≤ i then sMm S (i - 8).toNatClampNeg
  else if ¬ i < 16 ∧ ¬ sLv S ≤ i - 16 then sRt S (i - 16).toNatClampNeg else 0
/-- the places where the target can be after its next instruction -/
def suc (S : Sh) : Int32 :=
  if opA S = 5 then bitF S (sAt S + 1) ||| bitF S (bsA S)
  else if opA S = 6 ∨ opA S = 7 then bitF S (bsA S)
  else if opA S = 8 then (if sLv S ≤ 0 then 0 else bitF S (sRt S (sLv S - 1).toNatClampNeg))
  else if opA S = 9 then bitF S (sRg S (asA S).toNatClampNeg)
  else if opA S = 10 then 0
  else bitF S (sAt S + 1)
/-- resume: at most n instructions, until a trap or a stop -/
def rsm : Nat → Sh → Nat × Sh
  | 0, S => (0, S)
  | n + 1, S => if sOv S = 0 ∧ ins S (sAt S) ∧ ¬ opA S = 11 ∧ ¬ stk S then ((rsm n (stp S)).1 + 1, (rsm n (stp S)).2) else (0, S)
/-- a look at the target before an instruction, d being carried out: the reason, 0 when it goes on -/
def look (S : Sh) (rc : Bool) (d : Nat) : Int32 :=
  if ¬ sOv S = 0 then 6 else if ¬ ins S (sAt S) then 4 else if stk S then 5 else if 0 < d ∧ rc = true then 1
  else if 0 < d ∧ ¬ ((sBk S >>> (sAt S &&& 31)) &&& 1) = 0 then 2 else if d < 150 then 0 else 3
def goF (rc : Sh → Bool) : Nat → Nat → Sh → Int32 × Sh
  | 0, _, S => (3, S)
  | n + 1, d, S => if look S (rc S) d = 0 then goF rc n (d + 1) (stp S) else (look S (rc S) d, S)
def runF (rc : Sh → Bool) (S : Sh) : Int32 × Sh :=
  if ¬ sWy S < 4 then (sWy S, S) else ((goF rc 151 0 S).1, zWy (goF rc 151 0 S).2 (goF rc 151 0 S).1)
def rcM (aim q d : Int32) (S : Sh) : Bool := decide (aim = 0 ∨ (aim = 1 ∧ sAt S = q) ∨ (aim = 2 ∧ sLv S < d) ∨ (aim = 3 ∧ sAt S = q ∧ sLv S = d))
def rcX (aim q d : Int32) (S : Sh) : Bool := decide (aim = 1 ∨ (aim = 4 ∧ sLv S < d) ∨ (aim = 3 ∧ sAt S = q ∧ sLv S = d) ∨ (aim = 2 ∧ sAt S = q))
/-- the public commands -/
def goTrue (S : Sh) : Int32 × Sh := runF (fun _ => true) S
def goFalse (S : Sh) : Int32 × Sh := runF (fun _ => false) S
def goPlace (q : Int32) (S : Sh) : Int32 × Sh := runF (fun T => decide (sAt T = q)) S
def goOut (S : Sh) : Int32 × Sh := runF (fun T => decide (sLv T < sLv S)) S
def goOver (S : Sh) : Int32 × Sh := if ins S (sAt S) ∧ opA S = 7 ∧ ¬ 6 ≤ sLv S then runF (fun T => decide (sAt T = sAt S + 1 ∧ sLv T = sLv S)) S else runF (fun _ => true) S
/-- what holds of every state between two instructions: places in range -/
def gd (S : Sh) : Prop :=
  (∃ n : Nat, n ≤ 20 ∧ sSz S = nI n) ∧ (∀ j, vp_in (sAs S j) 4 ∧ ¬ sOp S j < 0 ∧ ¬ 11 < sOp S j ∧ (¬ 4 < sOp S j → ¬ sOp S j = 0 → vp_in (sBs S j) 4)) ∧ ¬ sLv S < 0 ∧ ¬ 6 < sLv S ∧ (sOv S = 0 ∨ sOv S = 1)
/-- no trap in the code -/
def noT (S : Sh) : Prop := ∀ j, ¬ 10 < sOp S j
/-- bit i of a set -/
abbrev tst (x : Int32) (i : Nat) : Prop := ¬ ((x >>> (nI i &&& 31)) &&& 1) = 0
/-- plant, up to place i: the code, what is hidden, what is planted -/
def pno (x : Int32) (o : Fn) : Nat → Fn
  | 0 => o
  | i + 1 => if tst x i then upd (pno x o i) i 11 else pno x o i
def pnh (x : Int32) (o hd : Fn) : Nat → Fn
  | 0 => hd
  | i + 1 => if tst x i then upd (pnh x o hd i) i (pno x o i i) else pnh x o hd i
def pnt (x pl : Int32) : Nat → Int32
  | 0 => pl
  | i + 1 => if tst x i then pnt x pl i ||| ((1 : Int32) <<< (nI i &&& 31)) else pnt x pl i
/-- lift, up to place i: the code -/
def lfo (pl : Int32) (hd o : Fn) : Nat → Fn
  | 0 => o
  | i + 1 => if tst pl i then upd (lfo pl hd o i) i (hd i) else lfo pl hd o i
/-- the target can carry out an instruction -/
abbrev liv (S : Sh) : Prop := sOv S = 0 ∧ ins S (sAt S) ∧ ¬ stk S
/-- a mark that stands wherever the aim is first reached -/
def mrk (rc : Sh → Bool) (mark : Int32) (S : Sh) : Prop :=
  ∃ J : Sh → Prop, (liv S → J (stp S)) ∧ ∀ T : Sh, gd T → sSz T = sSz S → J T → ¬ rc T = true → liv T → J (stp T) ∧ (rc (stp T) = true → ins (stp T) (sAt (stp T)) → tst mark (sAt (stp T)).toNatClampNeg)
end
section
/-! NUMBERS: ranges and small facts for the walks -/
theorem i_lt {x y : Int32} : x < y ↔ x.toInt < y.toInt := Int32.lt_iff_toInt_lt
theorem i_le {x y : Int32} : x ≤ y ↔ x.toInt ≤ y.toInt := Int32.le_iff_toInt_le
theorem i_sub {x y : Int32} (h1 : -2147483648 ≤ x.toInt - y.toInt) (h2 : x.toInt - y.toInt < 2147483648) : (x - y).toInt = x.toInt - y.toInt := by
  rw [Int32.toInt_sub]
  exact Int.bmod_eq_of_le_mul_two (by omega) (by omega)
theorem i_add {x y : Int32} (h1 : -2147483648 ≤ x.toInt + y.toInt) (h2 : x.toInt + y.toInt < 2147483648) : (x + y).toInt = x.toInt + y.toInt := by
  rw [Int32.toInt_add]
  exact Int.bmod_eq_of_le_mul_two (by omega) (by omega)
theorem e_0 : (0 : Int32).toInt = 0 := rfl
theorem e_1 : (1 : Int32).toInt = 1 := rfl
theorem e_3 : (3 : Int32).toInt = 3 := rfl
theorem e_4 : (4 : Int32).toInt = 4 := rfl
theorem e_6 : (6 : Int32).toInt = 6 := rfl
theorem e_8 : (8 : Int32).toInt = 8 := rfl
theorem e_10 : (10 : Int32).toInt = 10 := rfl
theorem e_11 : (11 : Int32).toInt = 11 := rfl
theorem e_15 : (15 : Int32).toInt = 15 := rfl
theorem e_16 : (16 : Int32).toInt = 16 := rfl
theorem e_19 : (19 : Int32).toInt = 19 := rfl
theorem e_20 : (20 : Int32).toInt = 20 := rfl
theorem e_22 : (22 : Int32).toInt = 22 := rfl
theorem e_150 : (150 : Int32).toInt = 150 := rfl
theorem in4 {i : Int32} (h0 : ¬ i < 0) (h1 : ¬ 4 ≤ i) : vp_in i 4 := by
  rw [i_lt, e_0] at h0; rw [i_le, e_4] at h1; rw [vp_in_iff]; omega
theorem in4' {i : Int32} (h0 : ¬ i < 0) (h1 : ¬ 3 < i) : vp_in i 4 := by
  rw [i_lt, e_0] at h0; rw [i_lt, e_3] at h1; rw [vp_in_iff]; omega
theorem in_s8 {i : Int32} (h0 : ¬ i < 8) (h1 : ¬ 16 ≤ i) : vp_in (i - 8) 8 := by
  rw [i_lt, e_8] at h0; rw [i_le, e_16] at h1
  rw [vp_in_iff, i_sub (by rw [e_8]; omega) (by rw [e_8]; omega), e_8]; omega
theorem in_s8' {i : Int32} (h0 : ¬ i < 8) (h1 : ¬ 15 < i) : vp_in (i - 8) 8 := by
  rw [i_lt, e_8] at h0; rw [i_lt, e_15] at h1
  rw [vp_in_iff, i_sub (by rw [e_8]; omega) (by rw [e_8]; omega), e_8]; omega
theorem in_s16 {i v : Int32} (h0 : ¬ i < 16) (h1 : ¬ v ≤ i - 16) (h2 : ¬ 6 < v) : vp_in (i - 16) 6 := by
  rw [i_lt, e_16] at h0; rw [i_lt, e_6] at h2
  have hb := Int32.toInt_lt i
  have e := i_sub (x := i) (y := 16) (by rw [e_16]; omega) (by rw [e_16]; omega)
  rw [i_le, e, e_16] at h1
  rw [vp_in_iff, e, e_16]; omega
theorem le3 {i : Int32} : 3 < i ↔ 4 ≤ i := by rw [i_lt, i_le, e_3, e_4]; omega
theorem le15 {i : Int32} : 15 < i ↔ 16 ≤ i := by rw [i_lt, i_le, e_15, e_16]; omega
theorem le19 {i : Int32} : i ≤ 19 ↔ i < 20 := by rw [i_lt, i_le, e_19, e_20]; omega
theorem lt22 {i v : Int32} (h0 : ¬ i < 16) (h1 : ¬ v ≤ i - 16) (h2 : ¬ 6 < v) : ¬ 22 ≤ i := by
  rw [i_lt, e_16] at h0; rw [i_lt, e_6] at h2
  have hb := Int32.toInt_lt i
  have e := i_sub (x := i) (y := 16) (by rw [e_16]; omega) (by rw [e_16]; omega)
  rw [i_le, e, e_16] at h1
  rw [i_le, e_22]; omega
theorem b8_all : ∀ j : Nat, j ≤ 10 → (nI j).toInt8.toInt32 = nI j := by decide
theorem b8 {x : Int32} (h0 : ¬ x < 0) (h1 : x ≤ 10) : x.toInt8.toInt32 = x := by
  obtain ⟨j, hj, rfl⟩ := nI_of2 (M := 10) (n := 10) e_10 h0 h1
  exact b8_all j hj
theorem b8v {x : Int32} (h0 : ¬ x < 0) (h1 : x ≤ 10) : vp_nar .byte x = x := by rw [vp_nar_byte]; exact b8 h0 h1
theorem le10 {x : Int32} (h : ¬ 3 < x) : x ≤ 10 := by rw [i_lt, e_3] at h; rw [i_le, e_10]; omega
theorem n_lt {x y : Int32} : ¬ x < y ↔ y ≤ x := by rw [i_lt, i_le]; omega
theorem n_le {x y : Int32} : ¬ x ≤ y ↔ y < x := by rw [i_lt, i_le]; omega
theorem gd_in {S : Sh} {q : Int32} (h : gd S) (hq : ins S q) : vp_in q 20 := by
  obtain ⟨⟨n, hn, e⟩, -⟩ := h
  have h1 : ¬ q < 0 := fun h => hq (Or.inl h)
  have h2 : ¬ sSz S ≤ q := fun h => hq (Or.inr h)
  rw [e, i_le, nI_toInt (by omega)] at h2
  rw [i_lt, e_0] at h1
  rw [vp_in_iff]; omega
theorem gd_sz {S : Sh} (h : gd S) (hq : sSz S < 20) : vp_in (sSz S) 20 := by
  obtain ⟨⟨n, hn, e⟩, -⟩ := h
  rw [e] at hq ⊢
  rw [i_lt, nI_toInt (by omega), e_20] at hq
  exact vp_in_nI (by omega) (by omega)
theorem gd_as {S : Sh} (h : gd S) : vp_in (asA S) 4 := (h.2.1 _).1
theorem gd_bs {S : Sh} (h : gd S) (h1 : ¬ 4 < opA S) (h2 : ¬ opA S = 0) : vp_in (bsA S) 4 := (h.2.1 _).2.2.2 h1 h2
theorem gd_c7 {S : Sh} (h : gd S) (hs : ¬ stk S) (ho : opA S = 7) : vp_in (sLv S) 6 := by
  have h1 := h.2.2.1
  have h2 : ¬ 6 ≤ sLv S := fun q => hs (Or.inl ⟨ho, q⟩)
  rw [i_lt, e_0] at h1; rw [i_le, e_6] at h2; rw [vp_in_iff]; omega
theorem gd_l1 {S : Sh} (h : gd S) (hs : ¬ sLv S ≤ 0) : vp_in (sLv S - 1) 6 := by
  have h1 := h.2.2.2.1
  rw [i_lt, e_6] at h1; rw [i_le, e_0] at hs
  rw [vp_in_iff, i_sub (by rw [e_1]; omega) (by rw [e_1]; omega), e_1]; omega
theorem gd_le0 {S : Sh} (h : gd S) : sLv S ≤ 0 ↔ sLv S = 0 := by
  have h1 := h.2.2.1
  rw [i_lt, e_0] at h1
  rw [i_le, e_0, ← Int32.toInt_inj, e_0]; omega
theorem gd_c8 {S : Sh} (h : gd S) (hs : ¬ stk S) (ho : opA S = 8) : vp_in (sLv S - 1) 6 :=
  gd_l1 h (fun q => hs (Or.inr ⟨ho, (gd_le0 h).mp q⟩))
theorem insF_0 {S : Sh} {q : Int32} : insF S q = 0 ↔ ¬ ins S q := by
  unfold insF
  by_cases h : ins S q
  · rw [if_pos h]; exact ⟨fun e => absurd e (by decide), fun e => absurd h e⟩
  · rw [if_neg h]; exact ⟨fun _ => h, fun _ => rfl⟩
theorem insF_n {S : Sh} {q : Int32} (h : ¬ insF S q = 0) : ins S q := Decidable.not_not.mp (fun e => h (insF_0.mpr e))
theorem stkF_0 {S : Sh} : stkF S = 0 ↔ ¬ stk S := by
  unfold stkF
  by_cases h : stk S
  · rw [if_pos h]; exact ⟨fun e => absurd e (by decide), fun e => absurd h e⟩
  · rw [if_neg h]; exact ⟨fun _ => h, fun _ => rfl⟩
theorem stkF_n {S : Sh} (h : ¬ stkF S = 0) : stk S := Decidable.not_not.mp (fun e => h (stkF_0.mpr e))
theorem wrk_at (op a b : Int32) (S : Sh) : sAt (wrk op a b S) = sAt S := by
  unfold wrk
  repeat' split
  all_goals rfl
theorem in7 (x : Int32) : vp_in (x &&& 7) 8 := pk_andIn x (m := 7) 3 rfl (by decide)
theorem look6 {S : Sh} {rc : Bool} {d : Nat} (h : ¬ sOv S = 0) : look S rc d = 6 := by rw [look, if_pos h]
theorem look4 {S : Sh} {rc : Bool} {d : Nat} (h0 : sOv S = 0) (h : ¬ ins S (sAt S)) : look S rc d = 4 := by rw [look, if_neg (fun q => q h0), if_pos h]
theorem look5 {S : Sh} {rc : Bool} {d : Nat} (h0 : sOv S = 0) (h1 : ins S (sAt S)) (h2 : stk S) : look S rc d = 5 := by rw [look, if_neg (fun q => q h0), if_neg (fun q => q h1), if_pos h2]
theorem look1 {S : Sh} {rc : Bool} {d : Nat} (h0 : sOv S = 0) (h1 : ins S (sAt S)) (h2 : ¬ stk S) (h3 : 0 < d ∧ rc = true) : look S rc d = 1 := by rw [look, if_neg (fun q => q h0), if_neg (fun q => q h1), if_neg h2, if_pos h3]
theorem look2 {S : Sh} {rc : Bool} {d : Nat} (h0 : sOv S = 0) (h1 : ins S (sAt S)) (h2 : ¬ stk S) (h3 : ¬ (0 < d ∧ rc = true)) (h4 : 0 < d ∧ ¬ ((sBk S >>> (sAt S &&& 31)) &&& 1) = 0) : look S rc d = 2 := by rw [look, if_neg (fun q => q h0), if_neg (fun q => q h1), if_neg h2, if_neg h3, if_pos h4]
theorem look0 {S : Sh} {rc : Bool} {d : Nat} (h0 : sOv S = 0) (h1 : ins S (sAt S)) (h2 : ¬ stk S) (h3 : ¬ (0 < d ∧ rc = true)) (h4 : ¬ (0 < d ∧ ¬ ((sBk S >>> (sAt S &&& 31)) &&& 1) = 0)) (h5 : d < 150) : look S rc d = 0 := by rw [look, if_neg (fun q => q h0), if_neg (fun q => q h1), if_neg h2, if_neg h3, if_neg h4, if_pos h5]
theorem look3 {S : Sh} {rc : Bool} {d : Nat} (h0 : sOv S = 0) (h1 : ins S (sAt S)) (h2 : ¬ stk S) (h3 : ¬ (0 < d ∧ rc = true)) (h4 : ¬ (0 < d ∧ ¬ ((sBk S >>> (sAt S &&& 31)) &&& 1) = 0)) (h5 : ¬ d < 150) : look S rc d = 3 := by rw [look, if_neg (fun q => q h0), if_neg (fun q => q h1), if_neg h2, if_neg h3, if_neg h4, if_neg h5]
theorem d_le0 {d : Nat} (hd : d ≤ 150) : nI d ≤ 0 ↔ ¬ 0 < d := by rw [i_le, nI_toInt (by omega), e_0]; omega
theorem d_lt {d : Nat} (hd : d ≤ 150) : nI d < 150 ↔ d < 150 := by rw [i_lt, nI_toInt (by omega), e_150]; omega
theorem rcI_0 {b : Bool} (h : (if b = true then (1 : Int32) else 0) = 0) : ¬ b = true := fun q => absurd h (by rw [if_pos q]; decide)
theorem rcI_1 {b : Bool} (h : ¬ (if b = true then (1 : Int32) else 0) = 0) : b = true := Decidable.not_not.mp (fun q => h (by rw [if_neg q]))
theorem b8_all2 : ∀ j : Nat, j ≤ 11 → (nI j).toInt8.toInt32 = nI j := by decide
theorem b8w {x : Int32} (h0 : ¬ x < 0) (h1 : ¬ 11 < x) : vp_nar .byte x = x := by
  obtain ⟨j, hj, rfl⟩ := nI_of2 (M := 11) (n := 11) e_11 h0 (by rw [i_lt] at h1; rw [i_le]; omega)
  rw [vp_nar_byte]; exact b8_all2 j hj
theorem pno_i (x : Int32) (o : Fn) : ∀ n j : Nat, n ≤ j → pno x o n j = o j := by
  intro n
  induction n with
  | zero => intro j _; rfl
  | succ n ih =>
    intro j hj
    rw [pno]
    split
    · rw [pk_un (by omega)]; exact ih j (by omega)
    · exact ih j (by omega)
end
section
/-! CONTRACTS of the debugger: methods without loops, leaves first -/
set_option maxHeartbeats 4000000 in
set_option maxRecDepth 100000 in
/-- length(): a field -/
theorem met_x_length {l : Launch} {D : va_G} {h : Nat} {a : Nat → Nat} {ca : Nat → ClassId} {sz : Nat} {S : Sh} {E : XE} : Met l yX0_length (ws_ yX0_length cX0_length 1 (some .int)) (rmL 0) (xPc D h a ca [] sz S E) (xQi D h a ca sz S E (fun r u => r = sSz S ∧ u = (S, E))) 0 0 (xA h a ca S E sz) := by
  refine x_enter (by decide) (Nat.le_of_ble_eq_true rfl) rfl ?_
  intro p e s m below meth c F hr hlk I ls hl
  have hx := F.1
  have hb := F.2.1
  have hl : lv_has ls 1 [(0, .ref h)] := hl
  refine lv_aload_n hx hb dX0_length_0 rfl (lv_at hl 0 rfl) ?_
  refine x_g5 F I (v := sSz S) rfl dX0_length_1 ?_
  exact x_ri F hr hlk I ⟨rfl, rfl⟩ dX0_length_4
set_option maxHeartbeats 4000000 in
set_option maxRecDepth 100000 in
/-- breakpoints(): a field -/
theorem met_x_breakpoints {l : Launch} {D : va_G} {h : Nat} {a : Nat → Nat} {ca : Nat → ClassId} {sz : Nat} {S : Sh} {E : XE} : Met l yX0_breakpoints (ws_ yX0_breakpoints cX0_breakpoints 1 (some .int)) (rmL 0) (xPc D h a ca [] sz S E) (xQi D h a ca sz S E (fun r u => r = sBk S ∧ u = (S, E))) 0 0 (xA h a ca S E sz) := by
  refine x_enter (by decide) (Nat.le_of_ble_eq_true rfl) rfl ?_
  intro p e s m below meth c F hr hlk I ls hl
  have hx := F.1
  have hb := F.2.1
  have hl : lv_has ls 1 [(0, .ref h)] := hl
  refine lv_aload_n hx hb dX0_breakpoints_0 rfl (lv_at hl 0 rfl) ?_
  refine x_g13 F I (v := sBk S) rfl dX0_breakpoints_1 ?_
  exact x_ri F hr hlk I ⟨rfl, rfl⟩ dX0_breakpoints_4
set_option maxHeartbeats 4000000 in
set_option maxRecDepth 100000 in
/-- reason(): a field -/
theorem met_x_reason {l : Launch} {D : va_G} {h : Nat} {a : Nat → Nat} {ca : Nat → ClassId} {sz : Nat} {S : Sh} {E : XE} : Met l yX0_reason (ws_ yX0_reason cX0_reason 1 (some .int)) (rmL 0) (xPc D h a ca [] sz S E) (xQi D h a ca sz S E (fun r u => r = sWy S ∧ u = (S, E))) 0 0 (xA h a ca S E sz) := by
  refine x_enter (by decide) (Nat.le_of_ble_eq_true rfl) rfl ?_
  intro p e s m below meth c F hr hlk I ls hl
  have hx := F.1
  have hb := F.2.1
  have hl : lv_has ls 1 [(0, .ref h)] := hl
  refine lv_aload_n hx hb dX0_reason_0 rfl (lv_at hl 0 rfl) ?_
  refine x_g14 F I (v := sWy S) rfl dX0_reason_1 ?_
  exact x_ri F hr hlk I ⟨rfl, rfl⟩ dX0_reason_4
set_option maxHeartbeats 4000000 in
set_option maxRecDepth 100000 in
/-- position(): a field -/
theorem met_x_position {l : Launch} {D : va_G} {h : Nat} {a : Nat → Nat} {ca : Nat → ClassId} {sz : Nat} {S : Sh} {E : XE} : Met l yX0_position (ws_ yX0_position cX0_position 1 (some .int)) (rmL 0) (xPc D h a ca [] sz S E) (xQi D h a ca sz S E (fun r u => r = sAt S ∧ u = (S, E))) 0 0 (xA h a ca S E sz) := by
  refine x_enter (by decide) (Nat.le_of_ble_eq_true rfl) rfl ?_
  intro p e s m below meth c F hr hlk I ls hl
  have hx := F.1
  have hb := F.2.1
  have hl : lv_has ls 1 [(0, .ref h)] := hl
  refine lv_aload_n hx hb dX0_position_0 rfl (lv_at hl 0 rfl) ?_
  refine x_g10 F I (v := sAt S) rfl dX0_position_1 ?_
  exact x_ri F hr hlk I ⟨rfl, rfl⟩ dX0_position_4
set_option maxHeartbeats 4000000 in
set_option maxRecDepth 100000 in
/-- depth(): a field -/
theorem met_x_depth {l : Launch} {D : va_G} {h : Nat} {a : Nat → Nat} {ca : Nat → ClassId} {sz : Nat} {S : Sh} {E : XE} : Met l yX0_depth (ws_ yX0_depth cX0_depth 1 (some .int)) (rmL 0) (xPc D h a ca [] sz S E) (xQi D h a ca sz S E (fun r u => r = sLv S ∧ u = (S, E))) 0 0 (xA h a ca S E sz) := by
  refine x_enter (by decide) (Nat.le_of_ble_eq_true rfl) rfl ?_
  intro p e s m below meth c F hr hlk I ls hl
  have hx := F.1
  have hb := F.2.1
  have hl : lv_has ls 1 [(0, .ref h)] := hl
  refine lv_aload_n hx hb dX0_depth_0 rfl (lv_at hl 0 rfl) ?_
  refine x_g9 F I (v := sLv S) rfl dX0_depth_1 ?_
  exact x_ri F hr hlk I ⟨rfl, rfl⟩ dX0_depth_4
set_option maxHeartbeats 4000000 in
set_option maxRecDepth 100000 in
/-- steps(): a field -/
theorem met_x_steps {l : Launch} {D : va_G} {h : Nat} {a : Nat → Nat} {ca : Nat → ClassId} {sz : Nat} {S : Sh} {E : XE} : Met l yX0_steps (ws_ yX0_steps cX0_steps 1 (some .int)) (rmL 0) (xPc D h a ca [] sz S E) (xQi D h a ca sz S E (fun r u => r = sCt S ∧ u = (S, E))) 0 0 (xA h a ca S E sz) := by
  refine x_enter (by decide) (Nat.le_of_ble_eq_true rfl) rfl ?_
  intro p e s m below meth c F hr hlk I ls hl
  have hx := F.1
  have hb := F.2.1
  have hl : lv_has ls 1 [(0, .ref h)] := hl
  refine lv_aload_n hx hb dX0_steps_0 rfl (lv_at hl 0 rfl) ?_
  refine x_g12 F I (v := sCt S) rfl dX0_steps_1 ?_
  exact x_ri F hr hlk I ⟨rfl, rfl⟩ dX0_steps_4
set_option maxHeartbeats 4000000 in
set_option maxRecDepth 100000 in
/-- inside(p) -/
theorem met_x_inside {l : Launch} {D : va_G} {h : Nat} {a : Nat → Nat} {ca : Nat → ClassId} {sz : Nat} {S : Sh} {E : XE} (p0 : Int32) : Met l yX0_inside (ws_ yX0_inside cX0_inside 2 (some .boolean)) (rmL 0) (xPc D h a ca [.int p0] sz S E) (xQi D h a ca sz S E (fun r u => r = insF S p0 ∧ u = (S, E))) 0 0 (xA h a ca S E sz) := by
  refine x_enter (by decide) (Nat.le_of_ble_eq_true rfl) rfl ?_
  intro p e s m below meth c F hr hlk I ls hl
  have hx := F.1
  have hb := F.2.1
  have hl : lv_has ls 2 [(0, .ref h), (1, .int p0)] := hl
  refine lv_iload_n hx hb dX0_inside_0 rfl (lv_at hl 1 rfl) ?_
  refine lv_if_lt (tgt := 16) hx hb dX0_inside_1 (by decide) (fun c1 => ?_) (fun c1 => ?_)
  · refine lv_iconst (v := 0) hx hb dX0_inside_16 (by decide) ?_
    exact x_rz F hr hlk I rfl ⟨by simp [insF, c1], rfl⟩ dX0_inside_17
  · refine lv_iload_n hx hb dX0_inside_4 rfl (lv_at hl 1 rfl) ?_
    refine lv_aload_n hx hb dX0_inside_5 rfl (lv_at hl 0 rfl) ?_
    refine x_g5 F I (v := sSz S) rfl dX0_inside_6 ?_
    refine lv_icmp_ge (tgt := 16) hx hb dX0_inside_9 (by decide) (fun c9 => ?_) (fun c9 => ?_)
    · refine lv_iconst (v := 0) hx hb dX0_inside_16 (by decide) ?_
      exact x_rz F hr hlk I rfl ⟨by simp [insF, c1, c9], rfl⟩ dX0_inside_17
    · refine lv_iconst (v := 1) hx hb dX0_inside_12 (by decide) ?_
      refine lv_goto (tgt := 17) hx hb dX0_inside_13 (by decide) ?_
      exact x_rz F hr hlk I rfl ⟨by simp [insF, c1, c9], rfl⟩ dX0_inside_17
set_option maxHeartbeats 4000000 in
set_option maxRecDepth 100000 in
/-- stuck() -/
theorem met_x_stuck {l : Launch} {D : va_G} {h : Nat} {a : Nat → Nat} {ca : Nat → ClassId} {sz : Nat} {S : Sh} {E : XE} (hi : vp_in (sAt S) 20) : Met l yX0_stuck (ws_ yX0_stuck cX0_stuck 1 (some .boolean)) (rmL 0) (xPc D h a ca [] sz S E) (xQi D h a ca sz S E (fun r u => r = stkF S ∧ u = (S, E))) 0 0 (xA h a ca S E sz) := by
  refine x_enter (by decide) (Nat.le_of_ble_eq_true rfl) rfl ?_
  intro p e s m below meth c F hr hlk I ls hl
  have hx := F.1
  have hb := F.2.1
  have hl : lv_has ls 1 [(0, .ref h)] := hl
  refine lv_aload_n hx hb dX0_stuck_0 rfl (lv_at hl 0 rfl) ?_
  refine x_g0 F I dX0_stuck_1 ?_
  refine lv_aload_n hx hb dX0_stuck_4 rfl (lv_at hl 0 rfl) ?_
  refine x_g10 F I (v := sAt S) rfl dX0_stuck_5 ?_
  refine x_ld0 F I (v := sOp S (sAt S).toNatClampNeg) hi rfl dX0_stuck_8 ?_
  refine lv_bipush (v := 7) hx hb dX0_stuck_9 (by decide) ?_
  refine lv_icmp_ne (tgt := 23) hx hb dX0_stuck_11 (by decide) (fun c11 => ?_) (fun c11 => ?_)
  · refine lv_aload_n hx hb dX0_stuck_23 rfl (lv_at hl 0 rfl) ?_
    refine x_g0 F I dX0_stuck_24 ?_
    refine lv_aload_n hx hb dX0_stuck_27 rfl (lv_at hl 0 rfl) ?_
    refine x_g10 F I (v := sAt S) rfl dX0_stuck_28 ?_
    refine x_ld0 F I (v := sOp S (sAt S).toNatClampNeg) hi rfl dX0_stuck_31 ?_
    refine lv_bipush (v := 8) hx hb dX0_stuck_32 (by decide) ?_
    refine lv_icmp_ne (tgt := 48) hx hb dX0_stuck_34 (by decide) (fun c34 => ?_) (fun c34 => ?_)
    · refine lv_iconst (v := 0) hx hb dX0_stuck_48 (by decide) ?_
      exact x_rz F hr hlk I rfl ⟨by simp [stkF, stk, opA, c11, c34], rfl⟩ dX0_stuck_49
    · refine lv_aload_n hx hb dX0_stuck_37 rfl (lv_at hl 0 rfl) ?_
      refine x_g9 F I (v := sLv S) rfl dX0_stuck_38 ?_
      refine lv_if_ne (tgt := 48) hx hb dX0_stuck_41 (by decide) (fun c41 => ?_) (fun c41 => ?_)
      · refine lv_iconst (v := 0) hx hb dX0_stuck_48 (by decide) ?_
        exact x_rz F hr hlk I rfl ⟨by simp [stkF, stk, opA, c11, c34, c41], rfl⟩ dX0_stuck_49
      · refine lv_iconst (v := 1) hx hb dX0_stuck_44 (by decide) ?_
        refine lv_goto (tgt := 49) hx hb dX0_stuck_45 (by decide) ?_
        exact x_rz F hr hlk I rfl ⟨by simp [stkF, stk, opA, c11, c34, c41], rfl⟩ dX0_stuck_49
  · refine lv_aload_n hx hb dX0_stuck_14 rfl (lv_at hl 0 rfl) ?_
    refine x_g9 F I (v := sLv S) rfl dX0_stuck_15 ?_
    refine lv_bipush (v := 6) hx hb dX0_stuck_18 (by decide) ?_
    refine lv_icmp_ge (tgt := 44) hx hb dX0_stuck_20 (by decide) (fun c20 => ?_) (fun c20 => ?_)
    · refine lv_iconst (v := 1) hx hb dX0_stuck_44 (by decide) ?_
      refine lv_goto (tgt := 49) hx hb dX0_stuck_45 (by decide) ?_
      exact x_rz F hr hlk I rfl ⟨by simp [stkF, stk, opA, c11, c20], rfl⟩ dX0_stuck_49
    · refine lv_aload_n hx hb dX0_stuck_23 rfl (lv_at hl 0 rfl) ?_
      refine x_g0 F I dX0_stuck_24 ?_
      refine lv_aload_n hx hb dX0_stuck_27 rfl (lv_at hl 0 rfl) ?_
      refine x_g10 F I (v := sAt S) rfl dX0_stuck_28 ?_
      refine x_ld0 F I (v := sOp S (sAt S).toNatClampNeg) hi rfl dX0_stuck_31 ?_
      refine lv_bipush (v := 8) hx hb dX0_stuck_32 (by decide) ?_
      refine lv_icmp_ne (tgt := 48) hx hb dX0_stuck_34 (by decide) (fun c34 => ?_) (fun c34 => ?_)
      · refine lv_iconst (v := 0) hx hb dX0_stuck_48 (by decide) ?_
        exact x_rz F hr hlk I rfl ⟨by simp [stkF, stk, opA, c11, c20, c34], rfl⟩ dX0_stuck_49
      · exact absurd (c11.symm.trans c34) (by decide)
set_option maxHeartbeats 4000000 in
set_option maxRecDepth 100000 in
/-- aimReached() -/
theorem met_x_aimReached {l : Launch} {D : va_G} {h : Nat} {a : Nat → Nat} {ca : Nat → ClassId} {sz : Nat} {S : Sh} {E : XE} : Met l yX0_aimReached (ws_ yX0_aimReached cX0_aimReached 1 (some .boolean)) (rmL 0) (xPc D h a ca [] sz S E) (xQi D h a ca sz S E (fun r u => r = (if rcX (eA E) (eQ E) (eD E) S = true then 1 else 0) ∧ u = (S, E))) 0 0 (xA h a ca S E sz) := by
  refine x_enter (by decide) (Nat.le_of_ble_eq_true rfl) rfl ?_
  intro p e s m below meth c F hr hlk I ls hl
  have hx := F.1
  have hb := F.2.1
  have hl : lv_has ls 1 [(0, .ref h)] := hl
  refine lv_aload_n hx hb dX0_aimReached_0 rfl (lv_at hl 0 rfl) ?_
  refine x_g15 F I (v := eA E) rfl dX0_aimReached_1 ?_
  refine lv_iconst (v := 1) hx hb dX0_aimReached_4 (by decide) ?_
  refine lv_icmp_ne (tgt := 10) hx hb dX0_aimReached_5 (by decide) (fun c5 => ?_) (fun c5 => ?_)
  · refine lv_aload_n hx hb dX0_aimReached_10 rfl (lv_at hl 0 rfl) ?_
    refine x_g15 F I (v := eA E) rfl dX0_aimReached_11 ?_
    refine lv_iconst (v := 4) hx hb dX0_aimReached_14 (by decide) ?_
    refine lv_icmp_ne (tgt := 35) hx hb dX0_aimReached_15 (by decide) (fun c15 => ?_) (fun c15 => ?_)
    · refine lv_aload_n hx hb dX0_aimReached_35 rfl (lv_at hl 0 rfl) ?_
      refine x_g15 F I (v := eA E) rfl dX0_aimReached_36 ?_
      refine lv_iconst (v := 3) hx hb dX0_aimReached_39 (by decide) ?_
      refine lv_icmp_ne (tgt := 71) hx hb dX0_aimReached_40 (by decide) (fun c40 => ?_) (fun c40 => ?_)
      · refine lv_aload_n hx hb dX0_aimReached_71 rfl (lv_at hl 0 rfl) ?_
        refine x_g15 F I (v := eA E) rfl dX0_aimReached_72 ?_
        refine lv_iconst (v := 2) hx hb dX0_aimReached_75 (by decide) ?_
        refine lv_icmp_ne (tgt := 94) hx hb dX0_aimReached_76 (by decide) (fun c76 => ?_) (fun c76 => ?_)
        · refine lv_iconst (v := 0) hx hb dX0_aimReached_94 (by decide) ?_
          exact x_rz F hr hlk I rfl ⟨by simp [rcX, c5, c15, c40, c76], rfl⟩ dX0_aimReached_95
        · refine lv_aload_n hx hb dX0_aimReached_79 rfl (lv_at hl 0 rfl) ?_
          refine x_g10 F I (v := sAt S) rfl dX0_aimReached_80 ?_
          refine lv_aload_n hx hb dX0_aimReached_83 rfl (lv_at hl 0 rfl) ?_
          refine x_g16 F I (v := eQ E) rfl dX0_aimReached_84 ?_
          refine lv_icmp_ne (tgt := 94) hx hb dX0_aimReached_87 (by decide) (fun c87 => ?_) (fun c87 => ?_)
          · refine lv_iconst (v := 0) hx hb dX0_aimReached_94 (by decide) ?_
            exact x_rz F hr hlk I rfl ⟨by simp [rcX, c5, c15, c40, c76, c87], rfl⟩ dX0_aimReached_95
          · refine lv_iconst (v := 1) hx hb dX0_aimReached_90 (by decide) ?_
            refine lv_goto (tgt := 95) hx hb dX0_aimReached_91 (by decide) ?_
            exact x_rz F hr hlk I rfl ⟨by simp [rcX, c5, c15, c40, c76, c87], rfl⟩ dX0_aimReached_95
      · refine lv_aload_n hx hb dX0_aimReached_43 rfl (lv_at hl 0 rfl) ?_
        refine x_g10 F I (v := sAt S) rfl dX0_aimReached_44 ?_
        refine lv_aload_n hx hb dX0_aimReached_47 rfl (lv_at hl 0 rfl) ?_
        refine x_g16 F I (v := eQ E) rfl dX0_aimReached_48 ?_
        refine lv_icmp_ne (tgt := 69) hx hb dX0_aimReached_51 (by decide) (fun c51 => ?_) (fun c51 => ?_)
        · refine lv_iconst (v := 0) hx hb dX0_aimReached_69 (by decide) ?_
          exact x_rz F hr hlk I rfl ⟨by simp [rcX, c5, c15, c40, c51], rfl⟩ dX0_aimReached_70
        · refine lv_aload_n hx hb dX0_aimReached_54 rfl (lv_at hl 0 rfl) ?_
          refine x_g9 F I (v := sLv S) rfl dX0_aimReached_55 ?_
          refine lv_aload_n hx hb dX0_aimReached_58 rfl (lv_at hl 0 rfl) ?_
          refine x_g17 F I (v := eD E) rfl dX0_aimReached_59 ?_
          refine lv_icmp_ne (tgt := 69) hx hb dX0_aimReached_62 (by decide) (fun c62 => ?_) (fun c62 => ?_)
          · refine lv_iconst (v := 0) hx hb dX0_aimReached_69 (by decide) ?_
            exact x_rz F hr hlk I rfl ⟨by simp [rcX, c5, c15, c40, c51, c62], rfl⟩ dX0_aimReached_70
          · refine lv_iconst (v := 1) hx hb dX0_aimReached_65 (by decide) ?_
            refine lv_goto (tgt := 70) hx hb dX0_aimReached_66 (by decide) ?_
            exact x_rz F hr hlk I rfl ⟨by simp [rcX, c5, c15, c40, c51, c62], rfl⟩ dX0_aimReached_70
    · refine lv_aload_n hx hb dX0_aimReached_18 rfl (lv_at hl 0 rfl) ?_
      refine x_g9 F I (v := sLv S) rfl dX0_aimReached_19 ?_
      refine lv_aload_n hx hb dX0_aimReached_22 rfl (lv_at hl 0 rfl) ?_
      refine x_g17 F I (v := eD E) rfl dX0_aimReached_23 ?_
      refine lv_icmp_ge (tgt := 33) hx hb dX0_aimReached_26 (by decide) (fun c26 => ?_) (fun c26 => ?_)
      · refine lv_iconst (v := 0) hx hb dX0_aimReached_33 (by decide) ?_
        exact x_rz F hr hlk I rfl ⟨by simp [rcX, c5, c15, c26], rfl⟩ dX0_aimReached_34
      · refine lv_iconst (v := 1) hx hb dX0_aimReached_29 (by decide) ?_
        refine lv_goto (tgt := 34) hx hb dX0_aimReached_30 (by decide) ?_
        exact x_rz F hr hlk I rfl ⟨by simp [rcX, c5, c15, c26], rfl⟩ dX0_aimReached_34
  · refine lv_iconst (v := 1) hx hb dX0_aimReached_8 (by decide) ?_
    exact x_rz F hr hlk I rfl ⟨by simp [rcX, c5], rfl⟩ dX0_aimReached_9
set_option maxHeartbeats 4000000 in
set_option maxRecDepth 100000 in
/-- work(op, a, b) -/
theorem met_x_work {l : Launch} {D : va_G} {h : Nat} {a : Nat → Nat} {ca : Nat → ClassId} {sz : Nat} {S : Sh} {E : XE} (op : Int32) (a1 : Int32) (b1 : Int32) (ha : vp_in a1 4) (hb4 : ¬ op = 0 → vp_in b1 4) : Met l yX0_work (ws_ yX0_work cX0_work 4 none) (rmL 0) (xPc D h a ca [.int op, .int a1, .int b1] sz S E) (xQv D h a ca sz S E (fun u => u = (wrk op a1 b1 S, E))) 0 0 (xA h a ca S E sz) := by
  refine x_enter (by decide) (Nat.le_of_ble_eq_true rfl) rfl ?_
  intro p e s m below meth c F hr hlk I ls hl
  have hx := F.1
  have hb := F.2.1
  have hl : lv_has ls 4 [(0, .ref h), (1, .int op), (2, .int a1), (3, .int b1)] := hl
  refine lv_iload_n hx hb dX0_work_0 rfl (lv_at hl 1 rfl) ?_
  refine lv_if_ne (tgt := 14) hx hb dX0_work_1 (by decide) (fun c1 => ?_) (fun c1 => ?_)
  · refine lv_iload_n hx hb dX0_work_14 rfl (lv_at hl 1 rfl) ?_
    refine lv_iconst (v := 1) hx hb dX0_work_15 (by decide) ?_
    refine lv_icmp_ne (tgt := 37) hx hb dX0_work_16 (by decide) (fun c16 => ?_) (fun c16 => ?_)
    · refine lv_iload_n hx hb dX0_work_37 rfl (lv_at hl 1 rfl) ?_
      refine lv_iconst (v := 2) hx hb dX0_work_38 (by decide) ?_
      refine lv_icmp_ne (tgt := 60) hx hb dX0_work_39 (by decide) (fun c39 => ?_) (fun c39 => ?_)
      · refine lv_iload_n hx hb dX0_work_60 rfl (lv_at hl 1 rfl) ?_
        refine lv_iconst (v := 3) hx hb dX0_work_61 (by decide) ?_
        refine lv_icmp_ne (tgt := 88) hx hb dX0_work_62 (by decide) (fun c62 => ?_) (fun c62 => ?_)
        · refine lv_aload_n hx hb dX0_work_88 rfl (lv_at hl 0 rfl) ?_
          refine x_g7 F I dX0_work_89 ?_
          refine lv_aload_n hx hb dX0_work_92 rfl (lv_at hl 0 rfl) ?_
          refine x_g6 F I dX0_work_93 ?_
          refine lv_iload_n hx hb dX0_work_96 rfl (lv_at hl 3 rfl) ?_
          refine x_ld6 F I (v := sRg S b1.toNatClampNeg) (hb4 c1) rfl dX0_work_97 ?_
          refine lv_bipush (v := 7) hx hb dX0_work_98 (by decide) ?_
          refine lv_iand hx hb dX0_work_100 ?_
          refine lv_aload_n hx hb dX0_work_101 rfl (lv_at hl 0 rfl) ?_
          refine x_g6 F I dX0_work_102 ?_
          refine lv_iload_n hx hb dX0_work_105 rfl (lv_at hl 2 rfl) ?_
          refine x_ld6 F I (v := sRg S a1.toNatClampNeg) ha rfl dX0_work_106 ?_
          refine x_st7 F I (f := sMm S) rfl (in7 _) dX0_work_107 (fun H locs I => ?_)
          exact x_rv F hr hlk I (by simp [wrk, c1, c16, c39, c62]) dX0_work_108
        · refine lv_aload_n hx hb dX0_work_65 rfl (lv_at hl 0 rfl) ?_
          refine x_g6 F I dX0_work_66 ?_
          refine lv_iload_n hx hb dX0_work_69 rfl (lv_at hl 2 rfl) ?_
          refine lv_aload_n hx hb dX0_work_70 rfl (lv_at hl 0 rfl) ?_
          refine x_g7 F I dX0_work_71 ?_
          refine lv_aload_n hx hb dX0_work_74 rfl (lv_at hl 0 rfl) ?_
          refine x_g6 F I dX0_work_75 ?_
          refine lv_iload_n hx hb dX0_work_78 rfl (lv_at hl 3 rfl) ?_
          refine x_ld6 F I (v := sRg S b1.toNatClampNeg) (hb4 c1) rfl dX0_work_79 ?_
          refine lv_bipush (v := 7) hx hb dX0_work_80 (by decide) ?_
          refine lv_iand hx hb dX0_work_82 ?_
          refine x_ld7 F I (v := sMm S ((sRg S b1.toNatClampNeg) &&& 7).toNatClampNeg) (in7 _) rfl dX0_work_83 ?_
          refine x_st6 F I (f := sRg S) rfl ha dX0_work_84 (fun H locs I => ?_)
          refine lv_goto (tgt := 108) hx hb dX0_work_85 (by decide) ?_
          exact x_rv F hr hlk I (by simp [wrk, c1, c16, c39, c62]) dX0_work_108
      · refine lv_aload_n hx hb dX0_work_42 rfl (lv_at hl 0 rfl) ?_
        refine x_g6 F I dX0_work_43 ?_
        refine lv_iload_n hx hb dX0_work_46 rfl (lv_at hl 2 rfl) ?_
        refine lv_dup2_11 hx hb dX0_work_47 rfl rfl ?_
        refine x_ld6 F I (v := sRg S a1.toNatClampNeg) ha rfl dX0_work_48 ?_
        refine lv_aload_n hx hb dX0_work_49 rfl (lv_at hl 0 rfl) ?_
        refine x_g6 F I dX0_work_50 ?_
        refine lv_iload_n hx hb dX0_work_53 rfl (lv_at hl 3 rfl) ?_
        refine x_ld6 F I (v := sRg S b1.toNatClampNeg) (hb4 c1) rfl dX0_work_54 ?_
        refine lv_isub hx hb dX0_work_55 ?_
        refine x_st6 F I (f := sRg S) rfl ha dX0_work_56 (fun H locs I => ?_)
        refine lv_goto (tgt := 108) hx hb dX0_work_57 (by decide) ?_
        exact x_rv F hr hlk I (by simp [wrk, c1, c16, c39]) dX0_work_108
    · refine lv_aload_n hx hb dX0_work_19 rfl (lv_at hl 0 rfl) ?_
      refine x_g6 F I dX0_work_20 ?_
      refine lv_iload_n hx hb dX0_work_23 rfl (lv_at hl 2 rfl) ?_
      refine lv_dup2_11 hx hb dX0_work_24 rfl rfl ?_
      refine x_ld6 F I (v := sRg S a1.toNatClampNeg) ha rfl dX0_work_25 ?_
      refine lv_aload_n hx hb dX0_work_26 rfl (lv_at hl 0 rfl) ?_
      refine x_g6 F I dX0_work_27 ?_
      refine lv_iload_n hx hb dX0_work_30 rfl (lv_at hl 3 rfl) ?_
      refine x_ld6 F I (v := sRg S b1.toNatClampNeg) (hb4 c1) rfl dX0_work_31 ?_
      refine lv_iadd hx hb dX0_work_32 ?_
      refine x_st6 F I (f := sRg S) rfl ha dX0_work_33 (fun H locs I => ?_)
      refine lv_goto (tgt := 108) hx hb dX0_work_34 (by decide) ?_
      exact x_rv F hr hlk I (by simp [wrk, c1, c16]) dX0_work_108
  · refine lv_aload_n hx hb dX0_work_4 rfl (lv_at hl 0 rfl) ?_
    refine x_g6 F I dX0_work_5 ?_
    refine lv_iload_n hx hb dX0_work_8 rfl (lv_at hl 2 rfl) ?_
    refine lv_iload_n hx hb dX0_work_9 rfl (lv_at hl 3 rfl) ?_
    refine x_st6 F I (f := sRg S) rfl ha dX0_work_10 (fun H locs I => ?_)
    refine lv_goto (tgt := 108) hx hb dX0_work_11 (by decide) ?_
    exact x_rv F hr hlk I (by simp [wrk, c1]) dX0_work_108
set_option maxHeartbeats 4000000 in
set_option maxRecDepth 100000 in
/-- emit(op, a, b) -/
theorem met_x_emit {l : Launch} {D : va_G} {h : Nat} {a : Nat → Nat} {ca : Nat → ClassId} {sz : Nat} {S : Sh} {E : XE} (op : Int32) (a1 : Int32) (b1 : Int32) (hg : gd S) : Met l yX0_emit (ws_ yX0_emit cX0_emit 5 (some .int)) (rmL 0) (xPc D h a ca [.int op, .int a1, .int b1] sz S E) (xQi D h a ca sz S E (fun r u => r = emR S op a1 b1 ∧ u = (emS S op a1 b1, E))) 0 0 (xA h a ca S E sz) := by
  refine x_enter (by decide) (Nat.le_of_ble_eq_true rfl) rfl ?_
  intro p e s m below meth c F hr hlk I ls hl
  have hx := F.1
  have hb := F.2.1
  have hl : lv_has ls 5 [(0, .ref h), (1, .int op), (2, .int a1), (3, .int b1)] := hl
  refine lv_aload_n hx hb dX0_emit_0 rfl (lv_at hl 0 rfl) ?_
  refine x_g5 F I (v := sSz S) rfl dX0_emit_1 ?_
  refine lv_bipush (v := 20) hx hb dX0_emit_4 (by decide) ?_
  refine lv_icmp_lt (tgt := 11) hx hb dX0_emit_6 (by decide) (fun c6 => ?_) (fun c6 => ?_)
  · refine lv_iload_n hx hb dX0_emit_11 rfl (lv_at hl 1 rfl) ?_
    refine lv_if_lt (tgt := 21) hx hb dX0_emit_12 (by decide) (fun c12 => ?_) (fun c12 => ?_)
    · refine lv_bipush (v := (-2)) hx hb dX0_emit_21 (by decide) ?_
      exact x_ri F hr hlk I ⟨by simp [emR, c6, c12], by first | (simp [emS, c6, c12]; done) | (simp [emS, c6, c12]; rfl)⟩ dX0_emit_23
    · refine lv_iload_n hx hb dX0_emit_15 rfl (lv_at hl 1 rfl) ?_
      refine lv_bipush (v := 10) hx hb dX0_emit_16 (by decide) ?_
      refine lv_icmp_le (tgt := 24) hx hb dX0_emit_18 (by decide) (fun c18 => ?_) (fun c18 => ?_)
      · refine lv_iload_n hx hb dX0_emit_24 rfl (lv_at hl 1 rfl) ?_
        refine lv_iconst (v := 1) hx hb dX0_emit_25 (by decide) ?_
        refine lv_icmp_lt (tgt := 38) hx hb dX0_emit_26 (by decide) (fun c26 => ?_) (fun c26 => ?_)
        · refine lv_iconst (v := 0) hx hb dX0_emit_38 (by decide) ?_
          refine lv_istore (lv' := [(4, .int 0), (0, .ref h), (1, .int op), (2, .int a1), (3, .int b1)]) hx hb dX0_emit_39 hl (by decide) rfl (fun ls hl => ?_)
          refine lv_iload_n hx hb dX0_emit_41 rfl (lv_at hl 3 rfl) ?_
          refine lv_if_lt (tgt := 64) hx hb dX0_emit_42 (by decide) (fun c42 => ?_) (fun c42 => ?_)
          · refine lv_bipush (v := (-3)) hx hb dX0_emit_64 (by decide) ?_
            exact x_ri F hr hlk I ⟨by simp [emR, c6, c12, c18, c26, c42], by first | (simp [emS, c6, c12, c18, c26, c42]; done) | (simp [emS, c6, c12, c18, c26, c42]; rfl)⟩ dX0_emit_66
          · refine lv_iload_n hx hb dX0_emit_45 rfl (lv_at hl 3 rfl) ?_
            refine lv_iconst (v := 3) hx hb dX0_emit_46 (by decide) ?_
            refine lv_icmp_gt (tgt := 64) hx hb dX0_emit_47 (by decide) (fun c47 => ?_) (fun c47 => ?_)
            · refine lv_bipush (v := (-3)) hx hb dX0_emit_64 (by decide) ?_
              exact x_ri F hr hlk I ⟨by simp [emR, c6, c12, c18, c26, c42, c47], by first | (simp [emS, c6, c12, c18, c26, c42, c47]; done) | (simp [emS, c6, c12, c18, c26, c42, c47]; rfl)⟩ dX0_emit_66
            · refine lv_iload hx hb dX0_emit_50 (lv_at hl 0 rfl) ?_
              refine lv_if_eq (tgt := 67) hx hb dX0_emit_52 (by decide) (fun c52 => ?_) (fun c52 => ?_)
              · refine lv_aload_n hx hb dX0_emit_67 rfl (lv_at hl 1 rfl) ?_
                refine x_g0 F I dX0_emit_68 ?_
                refine lv_aload_n hx hb dX0_emit_71 rfl (lv_at hl 1 rfl) ?_
                refine x_g5 F I (v := sSz S) rfl dX0_emit_72 ?_
                refine lv_iload_n hx hb dX0_emit_75 rfl (lv_at hl 2 rfl) ?_
                refine lv_i2b (v := op) hx hb dX0_emit_76 (b8 c12 c18) ?_
                refine x_st0 F I (v := op) (f := sOp S) rfl (gd_sz hg c6) (b8v c12 c18) dX0_emit_77 (fun H locs I => ?_)
                refine lv_aload_n hx hb dX0_emit_78 rfl (lv_at hl 1 rfl) ?_
                refine x_g1 F I dX0_emit_79 ?_
                refine lv_aload_n hx hb dX0_emit_82 rfl (lv_at hl 1 rfl) ?_
                refine x_g5 F I (v := sSz S) rfl dX0_emit_83 ?_
                refine lv_iload_n hx hb dX0_emit_86 rfl (lv_at hl 3 rfl) ?_
                refine lv_i2b (v := a1) hx hb dX0_emit_87 (b8 c42 (le10 c47)) ?_
                refine x_st1 F I (v := a1) (f := sAs S) rfl (gd_sz hg c6) (b8v c42 (le10 c47)) dX0_emit_88 (fun H locs I => ?_)
                refine lv_aload_n hx hb dX0_emit_89 rfl (lv_at hl 1 rfl) ?_
                refine x_g2 F I dX0_emit_90 ?_
                refine lv_aload_n hx hb dX0_emit_93 rfl (lv_at hl 1 rfl) ?_
                refine x_g5 F I (v := sSz S) rfl dX0_emit_94 ?_
                refine lv_iload_n hx hb dX0_emit_97 rfl (lv_at hl 4 rfl) ?_
                refine x_st2 F I (f := sBs S) rfl (gd_sz hg c6) dX0_emit_98 (fun H locs I => ?_)
                refine lv_aload_n hx hb dX0_emit_99 rfl (lv_at hl 1 rfl) ?_
                refine lv_dup hx hb dX0_emit_100 rfl ?_
                refine x_g5 F I (v := sSz S) rfl dX0_emit_101 ?_
                refine lv_iconst (v := 1) hx hb dX0_emit_104 (by decide) ?_
                refine lv_iadd hx hb dX0_emit_105 ?_
                refine x_p5 F I dX0_emit_106 (fun H locs I => ?_)
                refine lv_aload_n hx hb dX0_emit_109 rfl (lv_at hl 1 rfl) ?_
                refine x_g5 F I (v := (sSz S) + 1) rfl dX0_emit_110 ?_
                refine lv_iconst (v := 1) hx hb dX0_emit_113 (by decide) ?_
                refine lv_isub hx hb dX0_emit_114 ?_
                exact x_ri F hr hlk I ⟨by simp [emR, c6, c12, c18, c26, c42, c47, c52], by first | (simp [emS, c6, c12, c18, c26, c42, c47, c52]; done) | (simp [emS, c6, c12, c18, c26, c42, c47, c52]; rfl)⟩ dX0_emit_115
              · exact absurd c52 (by decide)
        · refine lv_iload_n hx hb dX0_emit_29 rfl (lv_at hl 1 rfl) ?_
          refine lv_iconst (v := 4) hx hb dX0_emit_30 (by decide) ?_
          refine lv_icmp_gt (tgt := 38) hx hb dX0_emit_31 (by decide) (fun c31 => ?_) (fun c31 => ?_)
          · refine lv_iconst (v := 0) hx hb dX0_emit_38 (by decide) ?_
            refine lv_istore (lv' := [(4, .int 0), (0, .ref h), (1, .int op), (2, .int a1), (3, .int b1)]) hx hb dX0_emit_39 hl (by decide) rfl (fun ls hl => ?_)
            refine lv_iload_n hx hb dX0_emit_41 rfl (lv_at hl 3 rfl) ?_
            refine lv_if_lt (tgt := 64) hx hb dX0_emit_42 (by decide) (fun c42 => ?_) (fun c42 => ?_)
            · refine lv_bipush (v := (-3)) hx hb dX0_emit_64 (by decide) ?_
              exact x_ri F hr hlk I ⟨by simp [emR, c6, c12, c18, c26, c31, c42], by first | (simp [emS, c6, c12, c18, c26, c31, c42]; done) | (simp [emS, c6, c12, c18, c26, c31, c42]; rfl)⟩ dX0_emit_66
            · refine lv_iload_n hx hb dX0_emit_45 rfl (lv_at hl 3 rfl) ?_
              refine lv_iconst (v := 3) hx hb dX0_emit_46 (by decide) ?_
              refine lv_icmp_gt (tgt := 64) hx hb dX0_emit_47 (by decide) (fun c47 => ?_) (fun c47 => ?_)
              · refine lv_bipush (v := (-3)) hx hb dX0_emit_64 (by decide) ?_
                exact x_ri F hr hlk I ⟨by simp [emR, c6, c12, c18, c26, c31, c42, c47], by first | (simp [emS, c6, c12, c18, c26, c31, c42, c47]; done) | (simp [emS, c6, c12, c18, c26, c31, c42, c47]; rfl)⟩ dX0_emit_66
              · refine lv_iload hx hb dX0_emit_50 (lv_at hl 0 rfl) ?_
                refine lv_if_eq (tgt := 67) hx hb dX0_emit_52 (by decide) (fun c52 => ?_) (fun c52 => ?_)
                · refine lv_aload_n hx hb dX0_emit_67 rfl (lv_at hl 1 rfl) ?_
                  refine x_g0 F I dX0_emit_68 ?_
                  refine lv_aload_n hx hb dX0_emit_71 rfl (lv_at hl 1 rfl) ?_
                  refine x_g5 F I (v := sSz S) rfl dX0_emit_72 ?_
                  refine lv_iload_n hx hb dX0_emit_75 rfl (lv_at hl 2 rfl) ?_
                  refine lv_i2b (v := op) hx hb dX0_emit_76 (b8 c12 c18) ?_
                  refine x_st0 F I (v := op) (f := sOp S) rfl (gd_sz hg c6) (b8v c12 c18) dX0_emit_77 (fun H locs I => ?_)
                  refine lv_aload_n hx hb dX0_emit_78 rfl (lv_at hl 1 rfl) ?_
                  refine x_g1 F I dX0_emit_79 ?_
                  refine lv_aload_n hx hb dX0_emit_82 rfl (lv_at hl 1 rfl) ?_
                  refine x_g5 F I (v := sSz S) rfl dX0_emit_83 ?_
                  refine lv_iload_n hx hb dX0_emit_86 rfl (lv_at hl 3 rfl) ?_
                  refine lv_i2b (v := a1) hx hb dX0_emit_87 (b8 c42 (le10 c47)) ?_
                  refine x_st1 F I (v := a1) (f := sAs S) rfl (gd_sz hg c6) (b8v c42 (le10 c47)) dX0_emit_88 (fun H locs I => ?_)
                  refine lv_aload_n hx hb dX0_emit_89 rfl (lv_at hl 1 rfl) ?_
                  refine x_g2 F I dX0_emit_90 ?_
                  refine lv_aload_n hx hb dX0_emit_93 rfl (lv_at hl 1 rfl) ?_
                  refine x_g5 F I (v := sSz S) rfl dX0_emit_94 ?_
                  refine lv_iload_n hx hb dX0_emit_97 rfl (lv_at hl 4 rfl) ?_
                  refine x_st2 F I (f := sBs S) rfl (gd_sz hg c6) dX0_emit_98 (fun H locs I => ?_)
                  refine lv_aload_n hx hb dX0_emit_99 rfl (lv_at hl 1 rfl) ?_
                  refine lv_dup hx hb dX0_emit_100 rfl ?_
                  refine x_g5 F I (v := sSz S) rfl dX0_emit_101 ?_
                  refine lv_iconst (v := 1) hx hb dX0_emit_104 (by decide) ?_
                  refine lv_iadd hx hb dX0_emit_105 ?_
                  refine x_p5 F I dX0_emit_106 (fun H locs I => ?_)
                  refine lv_aload_n hx hb dX0_emit_109 rfl (lv_at hl 1 rfl) ?_
                  refine x_g5 F I (v := (sSz S) + 1) rfl dX0_emit_110 ?_
                  refine lv_iconst (v := 1) hx hb dX0_emit_113 (by decide) ?_
                  refine lv_isub hx hb dX0_emit_114 ?_
                  exact x_ri F hr hlk I ⟨by simp [emR, c6, c12, c18, c26, c31, c42, c47, c52], by first | (simp [emS, c6, c12, c18, c26, c31, c42, c47, c52]; done) | (simp [emS, c6, c12, c18, c26, c31, c42, c47, c52]; rfl)⟩ dX0_emit_115
                · exact absurd c52 (by decide)
          · refine lv_iconst (v := 1) hx hb dX0_emit_34 (by decide) ?_
            refine lv_goto (tgt := 39) hx hb dX0_emit_35 (by decide) ?_
            refine lv_istore (lv' := [(4, .int 1), (0, .ref h), (1, .int op), (2, .int a1), (3, .int b1)]) hx hb dX0_emit_39 hl (by decide) rfl (fun ls hl => ?_)
            refine lv_iload_n hx hb dX0_emit_41 rfl (lv_at hl 3 rfl) ?_
            refine lv_if_lt (tgt := 64) hx hb dX0_emit_42 (by decide) (fun c42 => ?_) (fun c42 => ?_)
            · refine lv_bipush (v := (-3)) hx hb dX0_emit_64 (by decide) ?_
              exact x_ri F hr hlk I ⟨by simp [emR, c6, c12, c18, c26, c31, c42], by first | (simp [emS, c6, c12, c18, c26, c31, c42]; done) | (simp [emS, c6, c12, c18, c26, c31, c42]; rfl)⟩ dX0_emit_66
            · refine lv_iload_n hx hb dX0_emit_45 rfl (lv_at hl 3 rfl) ?_
              refine lv_iconst (v := 3) hx hb dX0_emit_46 (by decide) ?_
              refine lv_icmp_gt (tgt := 64) hx hb dX0_emit_47 (by decide) (fun c47 => ?_) (fun c47 => ?_)
              · refine lv_bipush (v := (-3)) hx hb dX0_emit_64 (by decide) ?_
                exact x_ri F hr hlk I ⟨by simp [emR, c6, c12, c18, c26, c31, c42, c47], by first | (simp [emS, c6, c12, c18, c26, c31, c42, c47]; done) | (simp [emS, c6, c12, c18, c26, c31, c42, c47]; rfl)⟩ dX0_emit_66
              · refine lv_iload hx hb dX0_emit_50 (lv_at hl 0 rfl) ?_
                refine lv_if_eq (tgt := 67) hx hb dX0_emit_52 (by decide) (fun c52 => ?_) (fun c52 => ?_)
                · exact absurd c52 (by decide)
                · refine lv_iload_n hx hb dX0_emit_55 rfl (lv_at hl 4 rfl) ?_
                  refine lv_if_lt (tgt := 64) hx hb dX0_emit_56 (by decide) (fun c56 => ?_) (fun c56 => ?_)
                  · refine lv_bipush (v := (-3)) hx hb dX0_emit_64 (by decide) ?_
                    exact x_ri F hr hlk I ⟨by simp [emR, c6, c12, c18, c26, c31, c42, c47, c52, c56], by first | (simp [emS, c6, c12, c18, c26, c31, c42, c47, c52, c56]; done) | (simp [emS, c6, c12, c18, c26, c31, c42, c47, c52, c56]; rfl)⟩ dX0_emit_66
                  · refine lv_iload_n hx hb dX0_emit_59 rfl (lv_at hl 4 rfl) ?_
                    refine lv_iconst (v := 3) hx hb dX0_emit_60 (by decide) ?_
                    refine lv_icmp_le (tgt := 67) hx hb dX0_emit_61 (by decide) (fun c61 => ?_) (fun c61 => ?_)
                    · refine lv_aload_n hx hb dX0_emit_67 rfl (lv_at hl 1 rfl) ?_
                      refine x_g0 F I dX0_emit_68 ?_
                      refine lv_aload_n hx hb dX0_emit_71 rfl (lv_at hl 1 rfl) ?_
                      refine x_g5 F I (v := sSz S) rfl dX0_emit_72 ?_
                      refine lv_iload_n hx hb dX0_emit_75 rfl (lv_at hl 2 rfl) ?_
                      refine lv_i2b (v := op) hx hb dX0_emit_76 (b8 c12 c18) ?_
                      refine x_st0 F I (v := op) (f := sOp S) rfl (gd_sz hg c6) (b8v c12 c18) dX0_emit_77 (fun H locs I => ?_)
                      refine lv_aload_n hx hb dX0_emit_78 rfl (lv_at hl 1 rfl) ?_
                      refine x_g1 F I dX0_emit_79 ?_
                      refine lv_aload_n hx hb dX0_emit_82 rfl (lv_at hl 1 rfl) ?_
                      refine x_g5 F I (v := sSz S) rfl dX0_emit_83 ?_
                      refine lv_iload_n hx hb dX0_emit_86 rfl (lv_at hl 3 rfl) ?_
                      refine lv_i2b (v := a1) hx hb dX0_emit_87 (b8 c42 (le10 c47)) ?_
                      refine x_st1 F I (v := a1) (f := sAs S) rfl (gd_sz hg c6) (b8v c42 (le10 c47)) dX0_emit_88 (fun H locs I => ?_)
                      refine lv_aload_n hx hb dX0_emit_89 rfl (lv_at hl 1 rfl) ?_
                      refine x_g2 F I dX0_emit_90 ?_
                      refine lv_aload_n hx hb dX0_emit_93 rfl (lv_at hl 1 rfl) ?_
                      refine x_g5 F I (v := sSz S) rfl dX0_emit_94 ?_
                      refine lv_iload_n hx hb dX0_emit_97 rfl (lv_at hl 4 rfl) ?_
                      refine x_st2 F I (f := sBs S) rfl (gd_sz hg c6) dX0_emit_98 (fun H locs I => ?_)
                      refine lv_aload_n hx hb dX0_emit_99 rfl (lv_at hl 1 rfl) ?_
                      refine lv_dup hx hb dX0_emit_100 rfl ?_
                      refine x_g5 F I (v := sSz S) rfl dX0_emit_101 ?_
                      refine lv_iconst (v := 1) hx hb dX0_emit_104 (by decide) ?_
                      refine lv_iadd hx hb dX0_emit_105 ?_
                      refine x_p5 F I dX0_emit_106 (fun H locs I => ?_)
                      refine lv_aload_n hx hb dX0_emit_109 rfl (lv_at hl 1 rfl) ?_
                      refine x_g5 F I (v := (sSz S) + 1) rfl dX0_emit_110 ?_
                      refine lv_iconst (v := 1) hx hb dX0_emit_113 (by decide) ?_
                      refine lv_isub hx hb dX0_emit_114 ?_
                      exact x_ri F hr hlk I ⟨by simp [emR, c6, c12, c18, c26, c31, c42, c47, c52, c56, c61], by first | (simp [emS, c6, c12, c18, c26, c31, c42, c47, c52, c56, c61]; done) | (simp [emS, c6, c12, c18, c26, c31, c42, c47, c52, c56, c61]; rfl)⟩ dX0_emit_115
                    · refine lv_bipush (v := (-3)) hx hb dX0_emit_64 (by decide) ?_
                      exact x_ri F hr hlk I ⟨by simp [emR, c6, c12, c18, c26, c31, c42, c47, c52, c56, c61], by first | (simp [emS, c6, c12, c18, c26, c31, c42, c47, c52, c56, c61]; done) | (simp [emS, c6, c12, c18, c26, c31, c42, c47, c52, c56, c61]; rfl)⟩ dX0_emit_66
      · refine lv_bipush (v := (-2)) hx hb dX0_emit_21 (by decide) ?_
        exact x_ri F hr hlk I ⟨by simp [emR, c6, c12, c18], by first | (simp [emS, c6, c12, c18]; done) | (simp [emS, c6, c12, c18]; rfl)⟩ dX0_emit_23
  · refine lv_iconst (v := (-1)) hx hb dX0_emit_9 (by decide) ?_
    exact x_ri F hr hlk I ⟨by simp [emR, c6], by first | (simp [emS, c6]; done) | (simp [emS, c6]; rfl)⟩ dX0_emit_10
set_option maxHeartbeats 4000000 in
set_option maxRecDepth 100000 in
/-- peek(i) -/
theorem met_x_peek {l : Launch} {D : va_G} {h : Nat} {a : Nat → Nat} {ca : Nat → ClassId} {sz : Nat} {S : Sh} {E : XE} (i1 : Int32) (hg : gd S) : Met l yX0_peek (ws_ yX0_peek cX0_peek 2 (some .int)) (rmL 0) (xPc D h a ca [.int i1] sz S E) (xQi D h a ca sz S E (fun r u => r = pkR S i1 ∧ u = (S, E))) 0 0 (xA h a ca S E sz) := by
  refine x_enter (by decide) (Nat.le_of_ble_eq_true rfl) rfl ?_
  intro p e s m below meth c F hr hlk I ls hl
  have hx := F.1
  have hb := F.2.1
  have hl : lv_has ls 2 [(0, .ref h), (1, .int i1)] := hl
  refine lv_iload_n hx hb dX0_peek_0 rfl (lv_at hl 1 rfl) ?_
  refine lv_if_lt (tgt := 16) hx hb dX0_peek_1 (by decide) (fun c1 => ?_) (fun c1 => ?_)
  · refine lv_iload_n hx hb dX0_peek_16 rfl (lv_at hl 1 rfl) ?_
    refine lv_bipush (v := 8) hx hb dX0_peek_17 (by decide) ?_
    refine lv_icmp_lt (tgt := 38) hx hb dX0_peek_19 (by decide) (fun c19 => ?_) (fun c19 => ?_)
    · refine lv_iload_n hx hb dX0_peek_38 rfl (lv_at hl 1 rfl) ?_
      refine lv_bipush (v := 16) hx hb dX0_peek_39 (by decide) ?_
      refine lv_icmp_lt (tgt := 65) hx hb dX0_peek_41 (by decide) (fun c41 => ?_) (fun c41 => ?_)
      · refine lv_iconst (v := 0) hx hb dX0_peek_65 (by decide) ?_
        exact x_ri F hr hlk I ⟨by simp [pkR, c1, c19, c41], rfl⟩ dX0_peek_66
      · refine lv_iload_n hx hb dX0_peek_44 rfl (lv_at hl 1 rfl) ?_
        refine lv_bipush (v := 16) hx hb dX0_peek_45 (by decide) ?_
        refine lv_isub hx hb dX0_peek_47 ?_
        refine lv_aload_n hx hb dX0_peek_48 rfl (lv_at hl 0 rfl) ?_
        refine x_g9 F I (v := sLv S) rfl dX0_peek_49 ?_
        refine lv_icmp_ge (tgt := 65) hx hb dX0_peek_52 (by decide) (fun c52 => ?_) (fun c52 => ?_)
        · refine lv_iconst (v := 0) hx hb dX0_peek_65 (by decide) ?_
          exact x_ri F hr hlk I ⟨by simp [pkR, c1, c19, c41, c52], rfl⟩ dX0_peek_66
        · refine lv_aload_n hx hb dX0_peek_55 rfl (lv_at hl 0 rfl) ?_
          refine x_g8 F I dX0_peek_56 ?_
          refine lv_iload_n hx hb dX0_peek_59 rfl (lv_at hl 1 rfl) ?_
          refine lv_bipush (v := 16) hx hb dX0_peek_60 (by decide) ?_
          refine lv_isub hx hb dX0_peek_62 ?_
          refine x_ld8 F I (v := sRt S (i1 - 16).toNatClampNeg) (in_s16 c41 c52 hg.2.2.2.1) rfl dX0_peek_63 ?_
          exact x_ri F hr hlk I ⟨by simp [pkR, c1, c19, c41, c52], rfl⟩ dX0_peek_64
    · refine lv_iload_n hx hb dX0_peek_22 rfl (lv_at hl 1 rfl) ?_
      refine lv_bipush (v := 16) hx hb dX0_peek_23 (by decide) ?_
      refine lv_icmp_ge (tgt := 38) hx hb dX0_peek_25 (by decide) (fun c25 => ?_) (fun c25 => ?_)
      · refine lv_iload_n hx hb dX0_peek_38 rfl (lv_at hl 1 rfl) ?_
        refine lv_bipush (v := 16) hx hb dX0_peek_39 (by decide) ?_
        refine lv_icmp_lt (tgt := 65) hx hb dX0_peek_41 (by decide) (fun c41 => ?_) (fun c41 => ?_)
        · refine lv_iconst (v := 0) hx hb dX0_peek_65 (by decide) ?_
          exact x_ri F hr hlk I ⟨by simp [pkR, c1, c19, c25, c41], rfl⟩ dX0_peek_66
        · refine lv_iload_n hx hb dX0_peek_44 rfl (lv_at hl 1 rfl) ?_
          refine lv_bipush (v := 16) hx hb dX0_peek_45 (by decide) ?_
          refine lv_isub hx hb dX0_peek_47 ?_
          refine lv_aload_n hx hb dX0_peek_48 rfl (lv_at hl 0 rfl) ?_
          refine x_g9 F I (v := sLv S) rfl dX0_peek_49 ?_
          refine lv_icmp_ge (tgt := 65) hx hb dX0_peek_52 (by decide) (fun c52 => ?_) (fun c52 => ?_)
          · refine lv_iconst (v := 0) hx hb dX0_peek_65 (by decide) ?_
            exact x_ri F hr hlk I ⟨by simp [pkR, c1, c19, c25, c41, c52], rfl⟩ dX0_peek_66
          · refine lv_aload_n hx hb dX0_peek_55 rfl (lv_at hl 0 rfl) ?_
            refine x_g8 F I dX0_peek_56 ?_
            refine lv_iload_n hx hb dX0_peek_59 rfl (lv_at hl 1 rfl) ?_
            refine lv_bipush (v := 16) hx hb dX0_peek_60 (by decide) ?_
            refine lv_isub hx hb dX0_peek_62 ?_
            refine x_ld8 F I (v := sRt S (i1 - 16).toNatClampNeg) (in_s16 c41 c52 hg.2.2.2.1) rfl dX0_peek_63 ?_
            exact x_ri F hr hlk I ⟨by simp [pkR, c1, c19, c25, c41, c52], rfl⟩ dX0_peek_64
      · refine lv_aload_n hx hb dX0_peek_28 rfl (lv_at hl 0 rfl) ?_
        refine x_g7 F I dX0_peek_29 ?_
        refine lv_iload_n hx hb dX0_peek_32 rfl (lv_at hl 1 rfl) ?_
        refine lv_bipush (v := 8) hx hb dX0_peek_33 (by decide) ?_
        refine lv_isub hx hb dX0_peek_35 ?_
        refine x_ld7 F I (v := sMm S (i1 - 8).toNatClampNeg) (in_s8 c19 c25) rfl dX0_peek_36 ?_
        exact x_ri F hr hlk I ⟨by simp [pkR, c1, c19, c25], rfl⟩ dX0_peek_37
  · refine lv_iload_n hx hb dX0_peek_4 rfl (lv_at hl 1 rfl) ?_
    refine lv_iconst (v := 4) hx hb dX0_peek_5 (by decide) ?_
    refine lv_icmp_ge (tgt := 16) hx hb dX0_peek_6 (by decide) (fun c6 => ?_) (fun c6 => ?_)
    · refine lv_iload_n hx hb dX0_peek_16 rfl (lv_at hl 1 rfl) ?_
      refine lv_bipush (v := 8) hx hb dX0_peek_17 (by decide) ?_
      refine lv_icmp_lt (tgt := 38) hx hb dX0_peek_19 (by decide) (fun c19 => ?_) (fun c19 => ?_)
      · refine lv_iload_n hx hb dX0_peek_38 rfl (lv_at hl 1 rfl) ?_
        refine lv_bipush (v := 16) hx hb dX0_peek_39 (by decide) ?_
        refine lv_icmp_lt (tgt := 65) hx hb dX0_peek_41 (by decide) (fun c41 => ?_) (fun c41 => ?_)
        · refine lv_iconst (v := 0) hx hb dX0_peek_65 (by decide) ?_
          exact x_ri F hr hlk I ⟨by simp [pkR, c1, c6, c19, c41], rfl⟩ dX0_peek_66
        · refine lv_iload_n hx hb dX0_peek_44 rfl (lv_at hl 1 rfl) ?_
          refine lv_bipush (v := 16) hx hb dX0_peek_45 (by decide) ?_
          refine lv_isub hx hb dX0_peek_47 ?_
          refine lv_aload_n hx hb dX0_peek_48 rfl (lv_at hl 0 rfl) ?_
          refine x_g9 F I (v := sLv S) rfl dX0_peek_49 ?_
          refine lv_icmp_ge (tgt := 65) hx hb dX0_peek_52 (by decide) (fun c52 => ?_) (fun c52 => ?_)
          · refine lv_iconst (v := 0) hx hb dX0_peek_65 (by decide) ?_
            exact x_ri F hr hlk I ⟨by simp [pkR, c1, c6, c19, c41, c52], rfl⟩ dX0_peek_66
          · refine lv_aload_n hx hb dX0_peek_55 rfl (lv_at hl 0 rfl) ?_
            refine x_g8 F I dX0_peek_56 ?_
            refine lv_iload_n hx hb dX0_peek_59 rfl (lv_at hl 1 rfl) ?_
            refine lv_bipush (v := 16) hx hb dX0_peek_60 (by decide) ?_
            refine lv_isub hx hb dX0_peek_62 ?_
            refine x_ld8 F I (v := sRt S (i1 - 16).toNatClampNeg) (in_s16 c41 c52 hg.2.2.2.1) rfl dX0_peek_63 ?_
            exact x_ri F hr hlk I ⟨by simp [pkR, c1, c6, c19, c41, c52], rfl⟩ dX0_peek_64
      · refine lv_iload_n hx hb dX0_peek_22 rfl (lv_at hl 1 rfl) ?_
        refine lv_bipush (v := 16) hx hb dX0_peek_23 (by decide) ?_
        refine lv_icmp_ge (tgt := 38) hx hb dX0_peek_25 (by decide) (fun c25 => ?_) (fun c25 => ?_)
        · refine lv_iload_n hx hb dX0_peek_38 rfl (lv_at hl 1 rfl) ?_
          refine lv_bipush (v := 16) hx hb dX0_peek_39 (by decide) ?_
          refine lv_icmp_lt (tgt := 65) hx hb dX0_peek_41 (by decide) (fun c41 => ?_) (fun c41 => ?_)
          · refine lv_iconst (v := 0) hx hb dX0_peek_65 (by decide) ?_
            exact x_ri F hr hlk I ⟨by simp [pkR, c1, c6, c19, c25, c41], rfl⟩ dX0_peek_66
          · refine lv_iload_n hx hb dX0_peek_44 rfl (lv_at hl 1 rfl) ?_
            refine lv_bipush (v := 16) hx hb dX0_peek_45 (by decide) ?_
            refine lv_isub hx hb dX0_peek_47 ?_
            refine lv_aload_n hx hb dX0_peek_48 rfl (lv_at hl 0 rfl) ?_
            refine x_g9 F I (v := sLv S) rfl dX0_peek_49 ?_
            refine lv_icmp_ge (tgt := 65) hx hb dX0_peek_52 (by decide) (fun c52 => ?_) (fun c52 => ?_)
            · refine lv_iconst (v := 0) hx hb dX0_peek_65 (by decide) ?_
              exact x_ri F hr hlk I ⟨by simp [pkR, c1, c6, c19, c25, c41, c52], rfl⟩ dX0_peek_66
            · refine lv_aload_n hx hb dX0_peek_55 rfl (lv_at hl 0 rfl) ?_
              refine x_g8 F I dX0_peek_56 ?_
              refine lv_iload_n hx hb dX0_peek_59 rfl (lv_at hl 1 rfl) ?_
              refine lv_bipush (v := 16) hx hb dX0_peek_60 (by decide) ?_
              refine lv_isub hx hb dX0_peek_62 ?_
              refine x_ld8 F I (v := sRt S (i1 - 16).toNatClampNeg) (in_s16 c41 c52 hg.2.2.2.1) rfl dX0_peek_63 ?_
              exact x_ri F hr hlk I ⟨by simp [pkR, c1, c6, c19, c25, c41, c52], rfl⟩ dX0_peek_64
        · refine lv_aload_n hx hb dX0_peek_28 rfl (lv_at hl 0 rfl) ?_
          refine x_g7 F I dX0_peek_29 ?_
          refine lv_iload_n hx hb dX0_peek_32 rfl (lv_at hl 1 rfl) ?_
          refine lv_bipush (v := 8) hx hb dX0_peek_33 (by decide) ?_
          refine lv_isub hx hb dX0_peek_35 ?_
          refine x_ld7 F I (v := sMm S (i1 - 8).toNatClampNeg) (in_s8 c19 c25) rfl dX0_peek_36 ?_
          exact x_ri F hr hlk I ⟨by simp [pkR, c1, c6, c19, c25], rfl⟩ dX0_peek_37
    · refine lv_aload_n hx hb dX0_peek_9 rfl (lv_at hl 0 rfl) ?_
      refine x_g6 F I dX0_peek_10 ?_
      refine lv_iload_n hx hb dX0_peek_13 rfl (lv_at hl 1 rfl) ?_
      refine x_ld6 F I (v := sRg S i1.toNatClampNeg) (in4 c1 c6) rfl dX0_peek_14 ?_
      exact x_ri F hr hlk I ⟨by simp [pkR, c1, c6], rfl⟩ dX0_peek_15
set_option maxHeartbeats 4000000 in
set_option maxRecDepth 100000 in
/-- breakAt(p, on) -/
theorem met_x_breakAt {l : Launch} {D : va_G} {h : Nat} {a : Nat → Nat} {ca : Nat → ClassId} {sz : Nat} {S : Sh} {E : XE} (p0 : Int32) (on : Int32) : Met l yX0_breakAt (ws_ yX0_breakAt cX0_breakAt 3 (some .boolean)) (rmL 0) (xPc D h a ca [.int p0, .int on] sz S E) (xQi D h a ca sz S E (fun r u => r = bkR p0 ∧ u = (bkS S p0 on, E))) 0 0 (xA h a ca S E sz) := by
  refine x_enter (by decide) (Nat.le_of_ble_eq_true rfl) rfl ?_
  intro p e s m below meth c F hr hlk I ls hl
  have hx := F.1
  have hb := F.2.1
  have hl : lv_has ls 3 [(0, .ref h), (1, .int p0), (2, .int on)] := hl
  refine lv_iload_n hx hb dX0_breakAt_0 rfl (lv_at hl 1 rfl) ?_
  refine lv_if_lt (tgt := 10) hx hb dX0_breakAt_1 (by decide) (fun c1 => ?_) (fun c1 => ?_)
  · refine lv_iconst (v := 0) hx hb dX0_breakAt_10 (by decide) ?_
    exact x_rz F hr hlk I rfl ⟨by simp [bkR, c1], by simp [bkS, c1]⟩ dX0_breakAt_11
  · refine lv_iload_n hx hb dX0_breakAt_4 rfl (lv_at hl 1 rfl) ?_
    refine lv_bipush (v := 20) hx hb dX0_breakAt_5 (by decide) ?_
    refine lv_icmp_lt (tgt := 12) hx hb dX0_breakAt_7 (by decide) (fun c7 => ?_) (fun c7 => ?_)
    · refine lv_aload_n hx hb dX0_breakAt_12 rfl (lv_at hl 0 rfl) ?_
      refine lv_iload_n hx hb dX0_breakAt_13 rfl (lv_at hl 2 rfl) ?_
      refine lv_if_eq (tgt := 28) hx hb dX0_breakAt_14 (by decide) (fun c14 => ?_) (fun c14 => ?_)
      · refine lv_aload_n hx hb dX0_breakAt_28 rfl (lv_at hl 0 rfl) ?_
        refine x_g13 F I (v := sBk S) rfl dX0_breakAt_29 ?_
        refine lv_iconst (v := 1) hx hb dX0_breakAt_32 (by decide) ?_
        refine lv_iload_n hx hb dX0_breakAt_33 rfl (lv_at hl 1 rfl) ?_
        refine lv_ishl hx hb dX0_breakAt_34 ?_
        refine lv_iconst (v := (-1)) hx hb dX0_breakAt_35 (by decide) ?_
        refine lv_ixor hx hb dX0_breakAt_36 ?_
        refine lv_iand hx hb dX0_breakAt_37 ?_
        refine x_p13 F I dX0_breakAt_38 (fun H locs I => ?_)
        refine lv_iconst (v := 1) hx hb dX0_breakAt_41 (by decide) ?_
        exact x_rz F hr hlk I rfl ⟨by simp [bkR, c1, c7, c14], by simp [bkS, c1, c7, c14]⟩ dX0_breakAt_42
      · refine lv_aload_n hx hb dX0_breakAt_17 rfl (lv_at hl 0 rfl) ?_
        refine x_g13 F I (v := sBk S) rfl dX0_breakAt_18 ?_
        refine lv_iconst (v := 1) hx hb dX0_breakAt_21 (by decide) ?_
        refine lv_iload_n hx hb dX0_breakAt_22 rfl (lv_at hl 1 rfl) ?_
        refine lv_ishl hx hb dX0_breakAt_23 ?_
        refine lv_ior hx hb dX0_breakAt_24 ?_
        refine lv_goto (tgt := 38) hx hb dX0_breakAt_25 (by decide) ?_
        refine x_p13 F I dX0_breakAt_38 (fun H locs I => ?_)
        refine lv_iconst (v := 1) hx hb dX0_breakAt_41 (by decide) ?_
        exact x_rz F hr hlk I rfl ⟨by simp [bkR, c1, c7, c14], by simp [bkS, c1, c7, c14]⟩ dX0_breakAt_42
    · refine lv_iconst (v := 0) hx hb dX0_breakAt_10 (by decide) ?_
      exact x_rz F hr hlk I rfl ⟨by simp [bkR, c1, c7], by simp [bkS, c1, c7]⟩ dX0_breakAt_11
set_option maxHeartbeats 4000000 in
set_option maxRecDepth 100000 in
/-- reset() -/
theorem met_x_reset {l : Launch} {D : va_G} {h : Nat} {a : Nat → Nat} {ca : Nat → ClassId} {sz : Nat} {S : Sh} {E : XE} : Met l yX0_reset (ws_ yX0_reset cX0_reset 2 none) (rmL 0) (xPc D h a ca [] sz S E) (xQv D h a ca sz S E (fun u => u = (rsS S, E))) 0 0 (xA h a ca S E sz) := by
  refine x_enter (by decide) (Nat.le_of_ble_eq_true rfl) rfl ?_
  intro p e s m below meth c F hr hlk I ls hl
  have hx := F.1
  have hb := F.2.1
  have hl : lv_has ls 2 [(0, .ref h)] := hl
  refine lv_iconst (v := 0) hx hb dX0_reset_0 (by decide) ?_
  refine lv_istore_n (lv' := [(1, .int 0), (0, .ref h)]) hx hb dX0_reset_1 rfl hl (by decide) rfl (fun ls hl => ?_)
  refine lv_iload_n hx hb dX0_reset_2 rfl (lv_at hl 0 rfl) ?_
  refine lv_iconst (v := 4) hx hb dX0_reset_3 (by decide) ?_
  refine lv_icmp_ge (tgt := 20) hx hb dX0_reset_4 (by decide) (fun c4 => ?_) (fun c4 => ?_)
  · exact absurd c4 (by decide)
  · refine lv_aload_n hx hb dX0_reset_7 rfl (lv_at hl 1 rfl) ?_
    refine x_g6 F I dX0_reset_8 ?_
    refine lv_iload_n hx hb dX0_reset_11 rfl (lv_at hl 0 rfl) ?_
    refine lv_iconst (v := 0) hx hb dX0_reset_12 (by decide) ?_
    refine x_st6 F I (f := sRg S) rfl (vp_in_nI (n := 0) (by decide) (by decide)) dX0_reset_13 (fun H locs I => ?_)
    refine lv_iinc (v := 1) (lv' := [(1, .int 1), (0, .ref h)]) hx hb dX0_reset_14 hl (k := 0) rfl (by decide) (by decide) rfl (fun ls hl => ?_)
    refine lv_goto (tgt := 2) hx hb dX0_reset_17 (by decide) ?_
    refine lv_iload_n hx hb dX0_reset_2 rfl (lv_at hl 0 rfl) ?_
    refine lv_iconst (v := 4) hx hb dX0_reset_3 (by decide) ?_
    refine lv_icmp_ge (tgt := 20) hx hb dX0_reset_4 (by decide) (fun c4 => ?_) (fun c4 => ?_)
    · exact absurd c4 (by decide)
    · refine lv_aload_n hx hb dX0_reset_7 rfl (lv_at hl 1 rfl) ?_
      refine x_g6 F I dX0_reset_8 ?_
      refine lv_iload_n hx hb dX0_reset_11 rfl (lv_at hl 0 rfl) ?_
      refine lv_iconst (v := 0) hx hb dX0_reset_12 (by decide) ?_
      refine x_st6 F I (f := upd (sRg S) (0 : Int32).toNatClampNeg 0) rfl (vp_in_nI (n := 1) (by decide) (by decide)) dX0_reset_13 (fun H locs I => ?_)
      have I : xI D h a ca _ s H locs (zRg S (upd (upd (sRg S) (0 : Int32).toNatClampNeg 0) (1 : Int32).toNatClampNeg 0)) E := I
      refine lv_iinc (v := 2) (lv' := [(1, .int 2), (0, .ref h)]) hx hb dX0_reset_14 hl (k := 0) rfl (by decide) (by decide) rfl (fun ls hl => ?_)
      refine lv_goto (tgt := 2) hx hb dX0_reset_17 (by decide) ?_
      refine lv_iload_n hx hb dX0_reset_2 rfl (lv_at hl 0 rfl) ?_
      refine lv_iconst (v := 4) hx hb dX0_reset_3 (by decide) ?_
      refine lv_icmp_ge (tgt := 20) hx hb dX0_reset_4 (by decide) (fun c4 => ?_) (fun c4 => ?_)
      · exact absurd c4 (by decide)
      · refine lv_aload_n hx hb dX0_reset_7 rfl (lv_at hl 1 rfl) ?_
        refine x_g6 F I dX0_reset_8 ?_
        refine lv_iload_n hx hb dX0_reset_11 rfl (lv_at hl 0 rfl) ?_
        refine lv_iconst (v := 0) hx hb dX0_reset_12 (by decide) ?_
        refine x_st6 F I (f := upd (upd (sRg S) (0 : Int32).toNatClampNeg 0) (1 : Int32).toNatClampNeg 0) rfl (vp_in_nI (n := 2) (by decide) (by decide)) dX0_reset_13 (fun H locs I => ?_)
        have I : xI D h a ca _ s H locs (zRg S (upd (upd (upd (sRg S) (0 : Int32).toNatClampNeg 0) (1 : Int32).toNatClampNeg 0) (2 : Int32).toNatClampNeg 0)) E := I
        refine lv_iinc (v := 3) (lv' := [(1, .int 3), (0, .ref h)]) hx hb dX0_reset_14 hl (k := 0) rfl (by decide) (by decide) rfl (fun ls hl => ?_)
        refine lv_goto (tgt := 2) hx hb dX0_reset_17 (by decide) ?_
        refine lv_iload_n hx hb dX0_reset_2 rfl (lv_at hl 0 rfl) ?_
        refine lv_iconst (v := 4) hx hb dX0_reset_3 (by decide) ?_
        refine lv_icmp_ge (tgt := 20) hx hb dX0_reset_4 (by decide) (fun c4 => ?_) (fun c4 => ?_)
        · exact absurd c4 (by decide)
        · refine lv_aload_n hx hb dX0_reset_7 rfl (lv_at hl 1 rfl) ?_
          refine x_g6 F I dX0_reset_8 ?_
          refine lv_iload_n hx hb dX0_reset_11 rfl (lv_at hl 0 rfl) ?_
          refine lv_iconst (v := 0) hx hb dX0_reset_12 (by decide) ?_
          refine x_st6 F I (f := upd (upd (upd (sRg S) (0 : Int32).toNatClampNeg 0) (1 : Int32).toNatClampNeg 0) (2 : Int32).toNatClampNeg 0) rfl (vp_in_nI (n := 3) (by decide) (by decide)) dX0_reset_13 (fun H locs I => ?_)
          have I : xI D h a ca _ s H locs (zRg S (upd (upd (upd (upd (sRg S) (0 : Int32).toNatClampNeg 0) (1 : Int32).toNatClampNeg 0) (2 : Int32).toNatClampNeg 0) (3 : Int32).toNatClampNeg 0)) E := I
          refine lv_iinc (v := 4) (lv' := [(1, .int 4), (0, .ref h)]) hx hb dX0_reset_14 hl (k := 0) rfl (by decide) (by decide) rfl (fun ls hl => ?_)
          refine lv_goto (tgt := 2) hx hb dX0_reset_17 (by decide) ?_
          refine lv_iload_n hx hb dX0_reset_2 rfl (lv_at hl 0 rfl) ?_
          refine lv_iconst (v := 4) hx hb dX0_reset_3 (by decide) ?_
          refine lv_icmp_ge (tgt := 20) hx hb dX0_reset_4 (by decide) (fun c4 => ?_) (fun c4 => ?_)
          · refine lv_iconst (v := 0) hx hb dX0_reset_20 (by decide) ?_
            refine lv_istore_n (lv' := [(1, .int 0), (0, .ref h)]) hx hb dX0_reset_21 rfl hl (by decide) rfl (fun ls hl => ?_)
            refine lv_iload_n hx hb dX0_reset_22 rfl (lv_at hl 0 rfl) ?_
            refine lv_bipush (v := 8) hx hb dX0_reset_23 (by decide) ?_
            refine lv_icmp_ge (tgt := 41) hx hb dX0_reset_25 (by decide) (fun c25 => ?_) (fun c25 => ?_)
            · exact absurd c25 (by decide)
            · refine lv_aload_n hx hb dX0_reset_28 rfl (lv_at hl 1 rfl) ?_
              refine x_g7 F I dX0_reset_29 ?_
              refine lv_iload_n hx hb dX0_reset_32 rfl (lv_at hl 0 rfl) ?_
              refine lv_iconst (v := 0) hx hb dX0_reset_33 (by decide) ?_
              refine x_st7 F I (f := sMm S) rfl (vp_in_nI (n := 0) (by decide) (by decide)) dX0_reset_34 (fun H locs I => ?_)
              refine lv_iinc (v := 1) (lv' := [(1, .int 1), (0, .ref h)]) hx hb dX0_reset_35 hl (k := 0) rfl (by decide) (by decide) rfl (fun ls hl => ?_)
              refine lv_goto (tgt := 22) hx hb dX0_reset_38 (by decide) ?_
              refine lv_iload_n hx hb dX0_reset_22 rfl (lv_at hl 0 rfl) ?_
              refine lv_bipush (v := 8) hx hb dX0_reset_23 (by decide) ?_
              refine lv_icmp_ge (tgt := 41) hx hb dX0_reset_25 (by decide) (fun c25 => ?_) (fun c25 => ?_)
              · exact absurd c25 (by decide)
              · refine lv_aload_n hx hb dX0_reset_28 rfl (lv_at hl 1 rfl) ?_
                refine x_g7 F I dX0_reset_29 ?_
                refine lv_iload_n hx hb dX0_reset_32 rfl (lv_at hl 0 rfl) ?_
                refine lv_iconst (v := 0) hx hb dX0_reset_33 (by decide) ?_
                refine x_st7 F I (f := upd (sMm S) (0 : Int32).toNatClampNeg 0) rfl (vp_in_nI (n := 1) (by decide) (by decide)) dX0_reset_34 (fun H locs I => ?_)
                have I : xI D h a ca _ s H locs (zMm (zRg S (upd (upd (upd (upd (sRg S) (0 : Int32).toNatClampNeg 0) (1 : Int32).toNatClampNeg 0) (2 : Int32).toNatClampNeg 0) (3 : Int32).toNatClampNeg 0)) (upd (upd (sMm S) (0 : Int32).toNatClampNeg 0) (1 : Int32).toNatClampNeg 0)) E := I
                refine lv_iinc (v := 2) (lv' := [(1, .int 2), (0, .ref h)]) hx hb dX0_reset_35 hl (k := 0) rfl (by decide) (by decide) rfl (fun ls hl => ?_)
                refine lv_goto (tgt := 22) hx hb dX0_reset_38 (by decide) ?_
                refine lv_iload_n hx hb dX0_reset_22 rfl (lv_at hl 0 rfl) ?_
                refine lv_bipush (v := 8) hx hb dX0_reset_23 (by decide) ?_
                refine lv_icmp_ge (tgt := 41) hx hb dX0_reset_25 (by decide) (fun c25 => ?_) (fun c25 => ?_)
                · exact absurd c25 (by decide)
                · refine lv_aload_n hx hb dX0_reset_28 rfl (lv_at hl 1 rfl) ?_
                  refine x_g7 F I dX0_reset_29 ?_
                  refine lv_iload_n hx hb dX0_reset_32 rfl (lv_at hl 0 rfl) ?_
                  refine lv_iconst (v := 0) hx hb dX0_reset_33 (by decide) ?_
                  refine x_st7 F I (f := upd (upd (sMm S) (0 : Int32).toNatClampNeg 0) (1 : Int32).toNatClampNeg 0) rfl (vp_in_nI (n := 2) (by decide) (by decide)) dX0_reset_34 (fun H locs I => ?_)
                  have I : xI D h a ca _ s H locs (zMm (zRg S (upd (upd (upd (upd (sRg S) (0 : Int32).toNatClampNeg 0) (1 : Int32).toNatClampNeg 0) (2 : Int32).toNatClampNeg 0) (3 : Int32).toNatClampNeg 0)) (upd (upd (upd (sMm S) (0 : Int32).toNatClampNeg 0) (1 : Int32).toNatClampNeg 0) (2 : Int32).toNatClampNeg 0)) E := I
                  refine lv_iinc (v := 3) (lv' := [(1, .int 3), (0, .ref h)]) hx hb dX0_reset_35 hl (k := 0) rfl (by decide) (by decide) rfl (fun ls hl => ?_)
                  refine lv_goto (tgt := 22) hx hb dX0_reset_38 (by decide) ?_
                  refine lv_iload_n hx hb dX0_reset_22 rfl (lv_at hl 0 rfl) ?_
                  refine lv_bipush (v := 8) hx hb dX0_reset_23 (by decide) ?_
                  refine lv_icmp_ge (tgt := 41) hx hb dX0_reset_25 (by decide) (fun c25 => ?_) (fun c25 => ?_)
                  · exact absurd c25 (by decide)
                  · refine lv_aload_n hx hb dX0_reset_28 rfl (lv_at hl 1 rfl) ?_
                    refine x_g7 F I dX0_reset_29 ?_
                    refine lv_iload_n hx hb dX0_reset_32 rfl (lv_at hl 0 rfl) ?_
                    refine lv_iconst (v := 0) hx hb dX0_reset_33 (by decide) ?_
                    refine x_st7 F I (f := upd (upd (upd (sMm S) (0 : Int32).toNatClampNeg 0) (1 : Int32).toNatClampNeg 0) (2 : Int32).toNatClampNeg 0) rfl (vp_in_nI (n := 3) (by decide) (by decide)) dX0_reset_34 (fun H locs I => ?_)
                    have I : xI D h a ca _ s H locs (zMm (zRg S (upd (upd (upd (upd (sRg S) (0 : Int32).toNatClampNeg 0) (1 : Int32).toNatClampNeg 0) (2 : Int32).toNatClampNeg 0) (3 : Int32).toNatClampNeg 0)) (upd (upd (upd (upd (sMm S) (0 : Int32).toNatClampNeg 0) (1 : Int32).toNatClampNeg 0) (2 : Int32).toNatClampNeg 0) (3 : Int32).toNatClampNeg 0)) E := I
                    refine lv_iinc (v := 4) (lv' := [(1, .int 4), (0, .ref h)]) hx hb dX0_reset_35 hl (k := 0) rfl (by decide) (by decide) rfl (fun ls hl => ?_)
                    refine lv_goto (tgt := 22) hx hb dX0_reset_38 (by decide) ?_
                    refine lv_iload_n hx hb dX0_reset_22 rfl (lv_at hl 0 rfl) ?_
                    refine lv_bipush (v := 8) hx hb dX0_reset_23 (by decide) ?_
                    refine lv_icmp_ge (tgt := 41) hx hb dX0_reset_25 (by decide) (fun c25 => ?_) (fun c25 => ?_)
                    · exact absurd c25 (by decide)
                    · refine lv_aload_n hx hb dX0_reset_28 rfl (lv_at hl 1 rfl) ?_
                      refine x_g7 F I dX0_reset_29 ?_
                      refine lv_iload_n hx hb dX0_reset_32 rfl (lv_at hl 0 rfl) ?_
                      refine lv_iconst (v := 0) hx hb dX0_reset_33 (by decide) ?_
                      refine x_st7 F I (f := upd (upd (upd (upd (sMm S) (0 : Int32).toNatClampNeg 0) (1 : Int32).toNatClampNeg 0) (2 : Int32).toNatClampNeg 0) (3 : Int32).toNatClampNeg 0) rfl (vp_in_nI (n := 4) (by decide) (by decide)) dX0_reset_34 (fun H locs I => ?_)
                      have I : xI D h a ca _ s H locs (zMm (zRg S (upd (upd (upd (upd (sRg S) (0 : Int32).toNatClampNeg 0) (1 : Int32).toNatClampNeg 0) (2 : Int32).toNatClampNeg 0) (3 : Int32).toNatClampNeg 0)) (upd (upd (upd (upd (upd (sMm S) (0 : Int32).toNatClampNeg 0) (1 : Int32).toNatClampNeg 0) (2 : Int32).toNatClampNeg 0) (3 : Int32).toNatClampNeg 0) (4 : Int32).toNatClampNeg 0)) E := I
                      refine lv_iinc (v := 5) (lv' := [(1, .int 5), (0, .ref h)]) hx hb dX0_reset_35 hl (k := 0) rfl (by decide) (by decide) rfl (fun ls hl => ?_)
                      refine lv_goto (tgt := 22) hx hb dX0_reset_38 (by decide) ?_
                      refine lv_iload_n hx hb dX0_reset_22 rfl (lv_at hl 0 rfl) ?_
                      refine lv_bipush (v := 8) hx hb dX0_reset_23 (by decide) ?_
                      refine lv_icmp_ge (tgt := 41) hx hb dX0_reset_25 (by decide) (fun c25 => ?_) (fun c25 => ?_)
                      · exact absurd c25 (by decide)
                      · refine lv_aload_n hx hb dX0_reset_28 rfl (lv_at hl 1 rfl) ?_
                        refine x_g7 F I dX0_reset_29 ?_
                        refine lv_iload_n hx hb dX0_reset_32 rfl (lv_at hl 0 rfl) ?_
                        refine lv_iconst (v := 0) hx hb dX0_reset_33 (by decide) ?_
                        refine x_st7 F I (f := upd (upd (upd (upd (upd (sMm S) (0 : Int32).toNatClampNeg 0) (1 : Int32).toNatClampNeg 0) (2 : Int32).toNatClampNeg 0) (3 : Int32).toNatClampNeg 0) (4 : Int32).toNatClampNeg 0) rfl (vp_in_nI (n := 5) (by decide) (by decide)) dX0_reset_34 (fun H locs I => ?_)
                        have I : xI D h a ca _ s H locs (zMm (zRg S (upd (upd (upd (upd (sRg S) (0 : Int32).toNatClampNeg 0) (1 : Int32).toNatClampNeg 0) (2 : Int32).toNatClampNeg 0) (3 : Int32).toNatClampNeg 0)) (upd (upd (upd (upd (upd (upd (sMm S) (0 : Int32).toNatClampNeg 0) (1 : Int32).toNatClampNeg 0) (2 : Int32).toNatClampNeg 0) (3 : Int32).toNatClampNeg 0) (4 : Int32).toNatClampNeg 0) (5 : Int32).toNatClampNeg 0)) E := I
                        refine lv_iinc (v := 6) (lv' := [(1, .int 6), (0, .ref h)]) hx hb dX0_reset_35 hl (k := 0) rfl (by decide) (by decide) rfl (fun ls hl => ?_)
                        refine lv_goto (tgt := 22) hx hb dX0_reset_38 (by decide) ?_
                        refine lv_iload_n hx hb dX0_reset_22 rfl (lv_at hl 0 rfl) ?_
                        refine lv_bipush (v := 8) hx hb dX0_reset_23 (by decide) ?_
                        refine lv_icmp_ge (tgt := 41) hx hb dX0_reset_25 (by decide) (fun c25 => ?_) (fun c25 => ?_)
                        · exact absurd c25 (by decide)
                        · refine lv_aload_n hx hb dX0_reset_28 rfl (lv_at hl 1 rfl) ?_
                          refine x_g7 F I dX0_reset_29 ?_
                          refine lv_iload_n hx hb dX0_reset_32 rfl (lv_at hl 0 rfl) ?_
                          refine lv_iconst (v := 0) hx hb dX0_reset_33 (by decide) ?_
                          refine x_st7 F I (f := upd (upd (upd (upd (upd (upd (sMm S) (0 : Int32).toNatClampNeg 0) (1 : Int32).toNatClampNeg 0) (2 : Int32).toNatClampNeg 0) (3 : Int32).toNatClampNeg 0) (4 : Int32).toNatClampNeg 0) (5 : Int32).toNatClampNeg 0) rfl (vp_in_nI (n := 6) (by decide) (by decide)) dX0_reset_34 (fun H locs I => ?_)
                          have I : xI D h a ca _ s H locs (zMm (zRg S (upd (upd (upd (upd (sRg S) (0 : Int32).toNatClampNeg 0) (1 : Int32).toNatClampNeg 0) (2 : Int32).toNatClampNeg 0) (3 : Int32).toNatClampNeg 0)) (upd (upd (upd (upd (upd (upd (upd (sMm S) (0 : Int32).toNatClampNeg 0) (1 : Int32).toNatClampNeg 0) (2 : Int32).toNatClampNeg 0) (3 : Int32).toNatClampNeg 0) (4 : Int32).toNatClampNeg 0) (5 : Int32).toNatClampNeg 0) (6 : Int32).toNatClampNeg 0)) E := I
                          refine lv_iinc (v := 7) (lv' := [(1, .int 7), (0, .ref h)]) hx hb dX0_reset_35 hl (k := 0) rfl (by decide) (by decide) rfl (fun ls hl => ?_)
                          refine lv_goto (tgt := 22) hx hb dX0_reset_38 (by decide) ?_
                          refine lv_iload_n hx hb dX0_reset_22 rfl (lv_at hl 0 rfl) ?_
                          refine lv_bipush (v := 8) hx hb dX0_reset_23 (by decide) ?_
                          refine lv_icmp_ge (tgt := 41) hx hb dX0_reset_25 (by decide) (fun c25 => ?_) (fun c25 => ?_)
                          · exact absurd c25 (by decide)
                          · refine lv_aload_n hx hb dX0_reset_28 rfl (lv_at hl 1 rfl) ?_
                            refine x_g7 F I dX0_reset_29 ?_
                            refine lv_iload_n hx hb dX0_reset_32 rfl (lv_at hl 0 rfl) ?_
                            refine lv_iconst (v := 0) hx hb dX0_reset_33 (by decide) ?_
                            refine x_st7 F I (f := upd (upd (upd (upd (upd (upd (upd (sMm S) (0 : Int32).toNatClampNeg 0) (1 : Int32).toNatClampNeg 0) (2 : Int32).toNatClampNeg 0) (3 : Int32).toNatClampNeg 0) (4 : Int32).toNatClampNeg 0) (5 : Int32).toNatClampNeg 0) (6 : Int32).toNatClampNeg 0) rfl (vp_in_nI (n := 7) (by decide) (by decide)) dX0_reset_34 (fun H locs I => ?_)
                            have I : xI D h a ca _ s H locs (zMm (zRg S (upd (upd (upd (upd (sRg S) (0 : Int32).toNatClampNeg 0) (1 : Int32).toNatClampNeg 0) (2 : Int32).toNatClampNeg 0) (3 : Int32).toNatClampNeg 0)) (upd (upd (upd (upd (upd (upd (upd (upd (sMm S) (0 : Int32).toNatClampNeg 0) (1 : Int32).toNatClampNeg 0) (2 : Int32).toNatClampNeg 0) (3 : Int32).toNatClampNeg 0) (4 : Int32).toNatClampNeg 0) (5 : Int32).toNatClampNeg 0) (6 : Int32).toNatClampNeg 0) (7 : Int32).toNatClampNeg 0)) E := I
                            refine lv_iinc (v := 8) (lv' := [(1, .int 8), (0, .ref h)]) hx hb dX0_reset_35 hl (k := 0) rfl (by decide) (by decide) rfl (fun ls hl => ?_)
                            refine lv_goto (tgt := 22) hx hb dX0_reset_38 (by decide) ?_
                            refine lv_iload_n hx hb dX0_reset_22 rfl (lv_at hl 0 rfl) ?_
                            refine lv_bipush (v := 8) hx hb dX0_reset_23 (by decide) ?_
                            refine lv_icmp_ge (tgt := 41) hx hb dX0_reset_25 (by decide) (fun c25 => ?_) (fun c25 => ?_)
                            · refine lv_aload_n hx hb dX0_reset_41 rfl (lv_at hl 1 rfl) ?_
                              refine lv_iconst (v := 0) hx hb dX0_reset_42 (by decide) ?_
                              refine x_p9 F I dX0_reset_43 (fun H locs I => ?_)
                              refine lv_aload_n hx hb dX0_reset_46 rfl (lv_at hl 1 rfl) ?_
                              refine lv_iconst (v := 0) hx hb dX0_reset_47 (by decide) ?_
                              refine x_p10 F I dX0_reset_48 (fun H locs I => ?_)
                              refine lv_aload_n hx hb dX0_reset_51 rfl (lv_at hl 1 rfl) ?_
                              refine lv_iconst (v := 0) hx hb dX0_reset_52 (by decide) ?_
                              refine x_p11 F I rfl rfl dX0_reset_53 (fun H locs I => ?_)
                              refine lv_aload_n hx hb dX0_reset_56 rfl (lv_at hl 1 rfl) ?_
                              refine lv_iconst (v := 0) hx hb dX0_reset_57 (by decide) ?_
                              refine x_p12 F I dX0_reset_58 (fun H locs I => ?_)
                              refine lv_aload_n hx hb dX0_reset_61 rfl (lv_at hl 1 rfl) ?_
                              refine lv_iconst (v := 0) hx hb dX0_reset_62 (by decide) ?_
                              refine x_p14 F I dX0_reset_63 (fun H locs I => ?_)
                              exact x_rv F hr hlk I rfl dX0_reset_66
                            · exact absurd c25 (by decide)
          · exact absurd c4 (by decide)
set_option maxHeartbeats 4000000 in
set_option maxRecDepth 100000 in
/-- codeAt(p) -/
theorem met_x_codeAt {l : Launch} {D : va_G} {h : Nat} {a : Nat → Nat} {ca : Nat → ClassId} {sz : Nat} {S : Sh} {E : XE} (p0 : Int32) (hg : gd S) : Met l yX0_codeAt (ws_ yX0_codeAt cX0_codeAt 2 (some .int)) (rmL 1) (xPc D h a ca [.int p0] sz S E) (xQi D h a ca sz S E (fun r u => r = cdR S p0 ∧ u = (S, E))) 0 0 (xA h a ca S E sz) := by
  refine x_enter (by decide) (Nat.le_of_ble_eq_true rfl) rfl ?_
  intro p e s m below meth c F hr hlk I ls hl
  have hx := F.1
  have hb := F.2.1
  have hl : lv_has ls 2 [(0, .ref h), (1, .int p0)] := hl
  refine lv_aload_n hx hb dX0_codeAt_0 rfl (lv_at hl 0 rfl) ?_
  refine lv_iload_n hx hb dX0_codeAt_1 rfl (lv_at hl 1 rfl) ?_
  refine x_cs F I (v := insF S p0) (S1 := S) (E1 := E) (As := [.int p0]) (rest := []) (fun sz => met_x_inside p0) (cw_x_inside F.2.2.2.2 ⟨by decide, by decide⟩) rfl rfl hl.1 (Nat.le_of_ble_eq_true rfl) dX0_codeAt_2 ⟨Nat.zero_le _, Nat.zero_le _⟩ (fun H locs I => ?_)
  refine lv_if_eq (tgt := 27) hx hb dX0_codeAt_5 (by decide) (fun c5 => ?_) (fun c5 => ?_)
  · refine lv_iconst (v := (-1)) hx hb dX0_codeAt_27 (by decide) ?_
    exact x_ri F hr hlk I ⟨by rw [cdR, if_neg (insF_0.mp c5)], rfl⟩ dX0_codeAt_28
  · refine lv_aload_n hx hb dX0_codeAt_8 rfl (lv_at hl 0 rfl) ?_
    refine x_g0 F I dX0_codeAt_9 ?_
    refine lv_iload_n hx hb dX0_codeAt_12 rfl (lv_at hl 1 rfl) ?_
    refine x_ld0 F I (v := sOp S p0.toNatClampNeg) (gd_in hg (insF_n c5)) rfl dX0_codeAt_13 ?_
    refine lv_bipush (v := 16) hx hb dX0_codeAt_14 (by decide) ?_
    refine lv_aload_n hx hb dX0_codeAt_16 rfl (lv_at hl 0 rfl) ?_
    refine x_g1 F I dX0_codeAt_17 ?_
    refine lv_iload_n hx hb dX0_codeAt_20 rfl (lv_at hl 1 rfl) ?_
    refine x_ld1 F I (v := sAs S p0.toNatClampNeg) (gd_in hg (insF_n c5)) rfl dX0_codeAt_21 ?_
    refine lv_imul hx hb dX0_codeAt_22 ?_
    refine lv_iadd hx hb dX0_codeAt_23 ?_
    refine lv_goto (tgt := 28) hx hb dX0_codeAt_24 (by decide) ?_
    exact x_ri F hr hlk I ⟨by rw [cdR, if_pos (insF_n c5)], rfl⟩ dX0_codeAt_28
set_option maxHeartbeats 4000000 in
set_option maxRecDepth 100000 in
/-- bit(p) -/
theorem met_x_bit {l : Launch} {D : va_G} {h : Nat} {a : Nat → Nat} {ca : Nat → ClassId} {sz : Nat} {S : Sh} {E : XE} (p0 : Int32) : Met l yX0_bit (ws_ yX0_bit cX0_bit 2 (some .int)) (rmL 1) (xPc D h a ca [.int p0] sz S E) (xQi D h a ca sz S E (fun r u => r = bitF S p0 ∧ u = (S, E))) 0 0 (xA h a ca S E sz) := by
  refine x_enter (by decide) (Nat.le_of_ble_eq_true rfl) rfl ?_
  intro p e s m below meth c F hr hlk I ls hl
  have hx := F.1
  have hb := F.2.1
  have hl : lv_has ls 2 [(0, .ref h), (1, .int p0)] := hl
  refine lv_aload_n hx hb dX0_bit_0 rfl (lv_at hl 0 rfl) ?_
  refine lv_iload_n hx hb dX0_bit_1 rfl (lv_at hl 1 rfl) ?_
  refine x_cs F I (v := insF S p0) (S1 := S) (E1 := E) (As := [.int p0]) (rest := []) (fun sz => met_x_inside p0) (cw_x_inside F.2.2.2.2 ⟨by decide, by decide⟩) rfl rfl hl.1 (Nat.le_of_ble_eq_true rfl) dX0_bit_2 ⟨Nat.zero_le _, Nat.zero_le _⟩ (fun H locs I => ?_)
  refine lv_if_eq (tgt := 14) hx hb dX0_bit_5 (by decide) (fun c5 => ?_) (fun c5 => ?_)
  · refine lv_iconst (v := 0) hx hb dX0_bit_14 (by decide) ?_
    exact x_ri F hr hlk I ⟨by rw [bitF, if_neg (insF_0.mp c5)], rfl⟩ dX0_bit_15
  · refine lv_iconst (v := 1) hx hb dX0_bit_8 (by decide) ?_
    refine lv_iload_n hx hb dX0_bit_9 rfl (lv_at hl 1 rfl) ?_
    refine lv_ishl hx hb dX0_bit_10 ?_
    refine lv_goto (tgt := 15) hx hb dX0_bit_11 (by decide) ?_
    exact x_ri F hr hlk I ⟨by rw [bitF, if_pos (insF_n c5)], rfl⟩ dX0_bit_15
end
section
/-! CONTRACTS of the debugger: carry, judge, successors -/
set_option maxHeartbeats 4000000 in
set_option maxRecDepth 100000 in
/-- carry(): one instruction, the count apart -/
theorem met_x_carry {l : Launch} {D : va_G} {h : Nat} {a : Nat → Nat} {ca : Nat → ClassId} {sz : Nat} {S : Sh} {E : XE} (hg : gd S) (hi : ins S (sAt S)) (hs : ¬ stk S) : Met l yX0_carry (ws_ yX0_carry cX0_carry 4 none) (rmL 1) (xPc D h a ca [] sz S E) (xQv D h a ca sz S E (fun u => u = (cry (opA S) (asA S) (bsA S) S, E))) 0 0 (xA h a ca S E sz) := by
  refine x_enter (by decide) (Nat.le_of_ble_eq_true rfl) rfl ?_
  intro p e s m below meth c F hr hlk I ls hl
  have hx := F.1
  have hb := F.2.1
  have hl : lv_has ls 4 [(0, .ref h)] := hl
  have hi20 : vp_in (sAt S) 20 := gd_in hg hi
  refine lv_aload_n hx hb dX0_carry_0 rfl (lv_at hl 0 rfl) ?_
  refine x_g0 F I dX0_carry_1 ?_
  refine lv_aload_n hx hb dX0_carry_4 rfl (lv_at hl 0 rfl) ?_
  refine x_g10 F I (v := sAt S) rfl dX0_carry_5 ?_
  refine x_ld0 F I (v := opA S) hi20 rfl dX0_carry_8 ?_
  refine lv_istore_n (lv' := [(1, .int (opA S)), (0, .ref h)]) hx hb dX0_carry_9 rfl hl (by decide) rfl (fun ls hl => ?_)
  refine lv_aload_n hx hb dX0_carry_10 rfl (lv_at hl 1 rfl) ?_
  refine x_g1 F I dX0_carry_11 ?_
  refine lv_aload_n hx hb dX0_carry_14 rfl (lv_at hl 1 rfl) ?_
  refine x_g10 F I (v := sAt S) rfl dX0_carry_15 ?_
  refine x_ld1 F I (v := asA S) hi20 rfl dX0_carry_18 ?_
  refine lv_istore_n (lv' := [(2, .int (asA S)), (1, .int (opA S)), (0, .ref h)]) hx hb dX0_carry_19 rfl hl (by decide) rfl (fun ls hl => ?_)
  refine lv_aload_n hx hb dX0_carry_20 rfl (lv_at hl 2 rfl) ?_
  refine x_g2 F I dX0_carry_21 ?_
  refine lv_aload_n hx hb dX0_carry_24 rfl (lv_at hl 2 rfl) ?_
  refine x_g10 F I (v := sAt S) rfl dX0_carry_25 ?_
  refine x_ld2 F I (v := bsA S) hi20 rfl dX0_carry_28 ?_
  refine lv_istore_n (lv' := [(3, .int (bsA S)), (2, .int (asA S)), (1, .int (opA S)), (0, .ref h)]) hx hb dX0_carry_29 rfl hl (by decide) rfl (fun ls hl => ?_)
  refine lv_iload_n hx hb dX0_carry_30 rfl (lv_at hl 2 rfl) ?_
  refine lv_iconst (v := 4) hx hb dX0_carry_31 (by decide) ?_
  refine lv_icmp_gt (tgt := 55) hx hb dX0_carry_32 (by decide) (fun c32 => ?_) (fun c32 => ?_)
  · refine lv_iload_n hx hb dX0_carry_55 rfl (lv_at hl 2 rfl) ?_
    refine lv_iconst (v := 5) hx hb dX0_carry_56 (by decide) ?_
    refine lv_icmp_ne (tgt := 86) hx hb dX0_carry_57 (by decide) (fun c57 => ?_) (fun c57 => ?_)
    · refine lv_iload_n hx hb dX0_carry_86 rfl (lv_at hl 2 rfl) ?_
      refine lv_bipush (v := 6) hx hb dX0_carry_87 (by decide) ?_
      refine lv_icmp_ne (tgt := 100) hx hb dX0_carry_89 (by decide) (fun c89 => ?_) (fun c89 => ?_)
      · refine lv_iload_n hx hb dX0_carry_100 rfl (lv_at hl 2 rfl) ?_
        refine lv_bipush (v := 7) hx hb dX0_carry_101 (by decide) ?_
        refine lv_icmp_ne (tgt := 139) hx hb dX0_carry_103 (by decide) (fun c103 => ?_) (fun c103 => ?_)
        · refine lv_iload_n hx hb dX0_carry_139 rfl (lv_at hl 2 rfl) ?_
          refine lv_bipush (v := 8) hx hb dX0_carry_140 (by decide) ?_
          refine lv_icmp_ne (tgt := 171) hx hb dX0_carry_142 (by decide) (fun c142 => ?_) (fun c142 => ?_)
          · refine lv_iload_n hx hb dX0_carry_171 rfl (lv_at hl 2 rfl) ?_
            refine lv_bipush (v := 9) hx hb dX0_carry_172 (by decide) ?_
            refine lv_icmp_ne (tgt := 190) hx hb dX0_carry_174 (by decide) (fun c174 => ?_) (fun c174 => ?_)
            · refine lv_aload_n hx hb dX0_carry_190 rfl (lv_at hl 3 rfl) ?_
              refine lv_iconst (v := 1) hx hb dX0_carry_191 (by decide) ?_
              refine x_p11 F I rfl rfl dX0_carry_192 (fun H locs I => ?_)
              exact x_rv F hr hlk I (by simp [cry, c32, c57, c89, c103, c142, c174]) dX0_carry_195
            · refine lv_aload_n hx hb dX0_carry_177 rfl (lv_at hl 3 rfl) ?_
              refine lv_aload_n hx hb dX0_carry_178 rfl (lv_at hl 3 rfl) ?_
              refine x_g6 F I dX0_carry_179 ?_
              refine lv_iload_n hx hb dX0_carry_182 rfl (lv_at hl 1 rfl) ?_
              refine x_ld6 F I (v := sRg S (asA S).toNatClampNeg) (gd_as hg) rfl dX0_carry_183 ?_
              refine x_p10 F I dX0_carry_184 (fun H locs I => ?_)
              refine lv_goto (tgt := 195) hx hb dX0_carry_187 (by decide) ?_
              exact x_rv F hr hlk I (by simp [cry, c32, c57, c89, c103, c142, c174]) dX0_carry_195
          · refine lv_aload_n hx hb dX0_carry_145 rfl (lv_at hl 3 rfl) ?_
            refine lv_dup hx hb dX0_carry_146 rfl ?_
            refine x_g9 F I (v := sLv S) rfl dX0_carry_147 ?_
            refine lv_iconst (v := 1) hx hb dX0_carry_150 (by decide) ?_
            refine lv_isub hx hb dX0_carry_151 ?_
            refine x_p9 F I dX0_carry_152 (fun H locs I => ?_)
            refine lv_aload_n hx hb dX0_carry_155 rfl (lv_at hl 3 rfl) ?_
            refine lv_aload_n hx hb dX0_carry_156 rfl (lv_at hl 3 rfl) ?_
            refine x_g8 F I dX0_carry_157 ?_
            refine lv_aload_n hx hb dX0_carry_160 rfl (lv_at hl 3 rfl) ?_
            refine x_g9 F I (v := (sLv S) - 1) rfl dX0_carry_161 ?_
            refine x_ld8 F I (v := sRt S ((sLv S) - 1).toNatClampNeg) (gd_c8 hg hs c142) rfl dX0_carry_164 ?_
            refine x_p10 F I dX0_carry_165 (fun H locs I => ?_)
            refine lv_goto (tgt := 195) hx hb dX0_carry_168 (by decide) ?_
            exact x_rv F hr hlk I (by simp [cry, c32, c57, c89, c103, c142]) dX0_carry_195
        · refine lv_aload_n hx hb dX0_carry_106 rfl (lv_at hl 3 rfl) ?_
          refine x_g8 F I dX0_carry_107 ?_
          refine lv_aload_n hx hb dX0_carry_110 rfl (lv_at hl 3 rfl) ?_
          refine x_g9 F I (v := sLv S) rfl dX0_carry_111 ?_
          refine lv_aload_n hx hb dX0_carry_114 rfl (lv_at hl 3 rfl) ?_
          refine x_g10 F I (v := sAt S) rfl dX0_carry_115 ?_
          refine lv_iconst (v := 1) hx hb dX0_carry_118 (by decide) ?_
          refine lv_iadd hx hb dX0_carry_119 ?_
          refine x_st8 F I (f := sRt S) rfl (gd_c7 hg hs c103) dX0_carry_120 (fun H locs I => ?_)
          refine lv_aload_n hx hb dX0_carry_121 rfl (lv_at hl 3 rfl) ?_
          refine lv_dup hx hb dX0_carry_122 rfl ?_
          refine x_g9 F I (v := sLv S) rfl dX0_carry_123 ?_
          refine lv_iconst (v := 1) hx hb dX0_carry_126 (by decide) ?_
          refine lv_iadd hx hb dX0_carry_127 ?_
          refine x_p9 F I dX0_carry_128 (fun H locs I => ?_)
          refine lv_aload_n hx hb dX0_carry_131 rfl (lv_at hl 3 rfl) ?_
          refine lv_iload_n hx hb dX0_carry_132 rfl (lv_at hl 0 rfl) ?_
          refine x_p10 F I dX0_carry_133 (fun H locs I => ?_)
          refine lv_goto (tgt := 195) hx hb dX0_carry_136 (by decide) ?_
          exact x_rv F hr hlk I (by simp [cry, c32, c57, c89, c103]) dX0_carry_195
      · refine lv_aload_n hx hb dX0_carry_92 rfl (lv_at hl 3 rfl) ?_
        refine lv_iload_n hx hb dX0_carry_93 rfl (lv_at hl 0 rfl) ?_
        refine x_p10 F I dX0_carry_94 (fun H locs I => ?_)
        refine lv_goto (tgt := 195) hx hb dX0_carry_97 (by decide) ?_
        exact x_rv F hr hlk I (by simp [cry, c32, c57, c89]) dX0_carry_195
    · refine lv_aload_n hx hb dX0_carry_60 rfl (lv_at hl 3 rfl) ?_
      refine lv_aload_n hx hb dX0_carry_61 rfl (lv_at hl 3 rfl) ?_
      refine x_g6 F I dX0_carry_62 ?_
      refine lv_iload_n hx hb dX0_carry_65 rfl (lv_at hl 1 rfl) ?_
      refine x_ld6 F I (v := sRg S (asA S).toNatClampNeg) (gd_as hg) rfl dX0_carry_66 ?_
      refine lv_if_ne (tgt := 74) hx hb dX0_carry_67 (by decide) (fun c67 => ?_) (fun c67 => ?_)
      · refine lv_aload_n hx hb dX0_carry_74 rfl (lv_at hl 3 rfl) ?_
        refine x_g10 F I (v := sAt S) rfl dX0_carry_75 ?_
        refine lv_iconst (v := 1) hx hb dX0_carry_78 (by decide) ?_
        refine lv_iadd hx hb dX0_carry_79 ?_
        refine x_p10 F I dX0_carry_80 (fun H locs I => ?_)
        refine lv_goto (tgt := 195) hx hb dX0_carry_83 (by decide) ?_
        exact x_rv F hr hlk I (by simp [cry, c32, c57, c67]) dX0_carry_195
      · refine lv_iload_n hx hb dX0_carry_70 rfl (lv_at hl 0 rfl) ?_
        refine lv_goto (tgt := 80) hx hb dX0_carry_71 (by decide) ?_
        refine x_p10 F I dX0_carry_80 (fun H locs I => ?_)
        refine lv_goto (tgt := 195) hx hb dX0_carry_83 (by decide) ?_
        exact x_rv F hr hlk I (by simp [cry, c32, c57, c67]) dX0_carry_195
  · refine lv_aload_n hx hb dX0_carry_35 rfl (lv_at hl 3 rfl) ?_
    refine lv_iload_n hx hb dX0_carry_36 rfl (lv_at hl 2 rfl) ?_
    refine lv_iload_n hx hb dX0_carry_37 rfl (lv_at hl 1 rfl) ?_
    refine lv_iload_n hx hb dX0_carry_38 rfl (lv_at hl 0 rfl) ?_
    refine x_cz F I (S1 := (wrk (opA S) (asA S) (bsA S) S)) (E1 := E) (As := [.int (opA S), .int (asA S), .int (bsA S)]) (rest := []) (fun sz => met_x_work _ _ _ (gd_as hg) (fun q => gd_bs hg c32 q)) (cw_x_work F.2.2.2.2 ⟨by decide, by decide⟩) rfl rfl hl.1 (Nat.le_of_ble_eq_true rfl) dX0_carry_39 ⟨Nat.zero_le _, Nat.zero_le _⟩ (fun H locs I => ?_)
    refine lv_aload_n hx hb dX0_carry_42 rfl (lv_at hl 3 rfl) ?_
    refine lv_dup hx hb dX0_carry_43 rfl ?_
    refine x_g10 F I (v := sAt S) (wrk_at _ _ _ _) dX0_carry_44 ?_
    refine lv_iconst (v := 1) hx hb dX0_carry_47 (by decide) ?_
    refine lv_iadd hx hb dX0_carry_48 ?_
    refine x_p10 F I dX0_carry_49 (fun H locs I => ?_)
    refine lv_goto (tgt := 195) hx hb dX0_carry_52 (by decide) ?_
    exact x_rv F hr hlk I (by simp [cry, c32]) dX0_carry_195
set_option maxHeartbeats 4000000 in
set_option maxRecDepth 100000 in
/-- judge(d) -/
theorem met_x_judge {l : Launch} {D : va_G} {h : Nat} {a : Nat → Nat} {ca : Nat → ClassId} {sz : Nat} {S : Sh} {E : XE} (d : Nat) (hg : gd S) (hd : d ≤ 150) : Met l yX0_judge (ws_ yX0_judge cX0_judge 2 (some .int)) (rmL 1) (xPc D h a ca [.int (nI d)] sz S E) (xQi D h a ca sz S E (fun r u => r = look S (rcX (eA E) (eQ E) (eD E) S) d ∧ u = (S, E))) 0 0 (xA h a ca S E sz) := by
  refine x_enter (by decide) (Nat.le_of_ble_eq_true rfl) rfl ?_
  intro p e s m below meth c F hr hlk I ls hl
  have hx := F.1
  have hb := F.2.1
  have hl : lv_has ls 2 [(0, .ref h), (1, .int (nI d))] := hl
  refine lv_aload_n hx hb dX0_judge_0 rfl (lv_at hl 0 rfl) ?_
  refine x_g11 F I (v := sOv S) rfl dX0_judge_1 ?_
  refine lv_if_eq (tgt := 10) hx hb dX0_judge_4 (by decide) (fun c4 => ?_) (fun c4 => ?_)
  · refine lv_aload_n hx hb dX0_judge_10 rfl (lv_at hl 0 rfl) ?_
    refine lv_aload_n hx hb dX0_judge_11 rfl (lv_at hl 0 rfl) ?_
    refine x_g10 F I (v := sAt S) rfl dX0_judge_12 ?_
    refine x_cs F I (v := insF S (sAt S)) (S1 := S) (E1 := E) (As := [.int (sAt S)]) (rest := []) (fun sz => met_x_inside (sAt S)) (cw_x_inside F.2.2.2.2 ⟨by decide, by decide⟩) rfl rfl hl.1 (Nat.le_of_ble_eq_true rfl) dX0_judge_15 ⟨Nat.zero_le _, Nat.zero_le _⟩ (fun H locs I => ?_)
    refine lv_if_ne (tgt := 23) hx hb dX0_judge_18 (by decide) (fun c18 => ?_) (fun c18 => ?_)
    · refine lv_aload_n hx hb dX0_judge_23 rfl (lv_at hl 0 rfl) ?_
      refine x_cs F I (v := stkF S) (S1 := S) (E1 := E) (As := []) (rest := []) (fun sz => met_x_stuck (gd_in hg (insF_n c18))) (cw_x_stuck F.2.2.2.2 ⟨by decide, by decide⟩) rfl rfl hl.1 (Nat.le_of_ble_eq_true rfl) dX0_judge_24 ⟨Nat.zero_le _, Nat.zero_le _⟩ (fun H locs I => ?_)
      refine lv_if_eq (tgt := 32) hx hb dX0_judge_27 (by decide) (fun c27 => ?_) (fun c27 => ?_)
      · refine lv_iload_n hx hb dX0_judge_32 rfl (lv_at hl 1 rfl) ?_
        refine lv_if_le (tgt := 45) hx hb dX0_judge_33 (by decide) (fun c33 => ?_) (fun c33 => ?_)
        · refine lv_iload_n hx hb dX0_judge_45 rfl (lv_at hl 1 rfl) ?_
          refine lv_if_le (tgt := 65) hx hb dX0_judge_46 (by decide) (fun c46 => ?_) (fun c46 => ?_)
          · refine lv_iload_n hx hb dX0_judge_65 rfl (lv_at hl 1 rfl) ?_
            refine lv_sipush (v := 150) hx hb dX0_judge_66 (by decide) ?_
            refine lv_icmp_lt (tgt := 76) hx hb dX0_judge_69 (by decide) (fun c69 => ?_) (fun c69 => ?_)
            · refine lv_iconst (v := 0) hx hb dX0_judge_76 (by decide) ?_
              exact x_ri F hr hlk I ⟨(look0 c4 (insF_n c18) (stkF_0.mp c27) (fun q => (d_le0 hd).mp c33 q.1) (fun q => (d_le0 hd).mp c33 q.1) ((d_lt hd).mp c69)).symm, rfl⟩ dX0_judge_77
            · refine lv_iconst (v := 3) hx hb dX0_judge_72 (by decide) ?_
              refine lv_goto (tgt := 77) hx hb dX0_judge_73 (by decide) ?_
              exact x_ri F hr hlk I ⟨(look3 c4 (insF_n c18) (stkF_0.mp c27) (fun q => (d_le0 hd).mp c33 q.1) (fun q => (d_le0 hd).mp c33 q.1) (fun q => c69 ((d_lt hd).mpr q))).symm, rfl⟩ dX0_judge_77
          · exact absurd c33 c46
        · refine lv_aload_n hx hb dX0_judge_36 rfl (lv_at hl 0 rfl) ?_
          refine x_cs F I (v := (if (rcX (eA E) (eQ E) (eD E) S) = true then (1 : Int32) else 0)) (S1 := S) (E1 := E) (As := []) (rest := []) (fun sz => met_x_aimReached) (cw_x_aimReached F.2.2.2.2 ⟨by decide, by decide⟩) rfl rfl hl.1 (Nat.le_of_ble_eq_true rfl) dX0_judge_37 ⟨Nat.zero_le _, Nat.zero_le _⟩ (fun H locs I => ?_)
          refine lv_if_eq (tgt := 45) hx hb dX0_judge_40 (by decide) (fun c40 => ?_) (fun c40 => ?_)
          · refine lv_iload_n hx hb dX0_judge_45 rfl (lv_at hl 1 rfl) ?_
            refine lv_if_le (tgt := 65) hx hb dX0_judge_46 (by decide) (fun c46 => ?_) (fun c46 => ?_)
            · exact absurd c46 c33
            · refine lv_aload_n hx hb dX0_judge_49 rfl (lv_at hl 0 rfl) ?_
              refine x_g13 F I (v := sBk S) rfl dX0_judge_50 ?_
              refine lv_aload_n hx hb dX0_judge_53 rfl (lv_at hl 0 rfl) ?_
              refine x_g10 F I (v := sAt S) rfl dX0_judge_54 ?_
              refine lv_ishr hx hb dX0_judge_57 ?_
              refine lv_iconst (v := 1) hx hb dX0_judge_58 (by decide) ?_
              refine lv_iand hx hb dX0_judge_59 ?_
              refine lv_if_eq (tgt := 65) hx hb dX0_judge_60 (by decide) (fun c60 => ?_) (fun c60 => ?_)
              · refine lv_iload_n hx hb dX0_judge_65 rfl (lv_at hl 1 rfl) ?_
                refine lv_sipush (v := 150) hx hb dX0_judge_66 (by decide) ?_
                refine lv_icmp_lt (tgt := 76) hx hb dX0_judge_69 (by decide) (fun c69 => ?_) (fun c69 => ?_)
                · refine lv_iconst (v := 0) hx hb dX0_judge_76 (by decide) ?_
                  exact x_ri F hr hlk I ⟨(look0 c4 (insF_n c18) (stkF_0.mp c27) (fun q => rcI_0 c40 q.2) (fun q => q.2 c60) ((d_lt hd).mp c69)).symm, rfl⟩ dX0_judge_77
                · refine lv_iconst (v := 3) hx hb dX0_judge_72 (by decide) ?_
                  refine lv_goto (tgt := 77) hx hb dX0_judge_73 (by decide) ?_
                  exact x_ri F hr hlk I ⟨(look3 c4 (insF_n c18) (stkF_0.mp c27) (fun q => rcI_0 c40 q.2) (fun q => q.2 c60) (fun q => c69 ((d_lt hd).mpr q))).symm, rfl⟩ dX0_judge_77
              · refine lv_iconst (v := 2) hx hb dX0_judge_63 (by decide) ?_
                exact x_ri F hr hlk I ⟨(look2 c4 (insF_n c18) (stkF_0.mp c27) (fun q => rcI_0 c40 q.2) ⟨(Decidable.not_not.mp (fun q => c33 ((d_le0 hd).mpr q))), c60⟩).symm, rfl⟩ dX0_judge_64
          · refine lv_iconst (v := 1) hx hb dX0_judge_43 (by decide) ?_
            exact x_ri F hr hlk I ⟨(look1 c4 (insF_n c18) (stkF_0.mp c27) ⟨(Decidable.not_not.mp (fun q => c33 ((d_le0 hd).mpr q))), rcI_1 c40⟩).symm, rfl⟩ dX0_judge_44
      · refine lv_iconst (v := 5) hx hb dX0_judge_30 (by decide) ?_
        exact x_ri F hr hlk I ⟨(look5 c4 (insF_n c18) (stkF_n c27)).symm, rfl⟩ dX0_judge_31
    · refine lv_iconst (v := 4) hx hb dX0_judge_21 (by decide) ?_
      exact x_ri F hr hlk I ⟨(look4 c4 (insF_0.mp c18)).symm, rfl⟩ dX0_judge_22
  · refine lv_bipush (v := 6) hx hb dX0_judge_7 (by decide) ?_
    exact x_ri F hr hlk I ⟨(look6 c4).symm, rfl⟩ dX0_judge_9
set_option maxHeartbeats 4000000 in
set_option maxRecDepth 100000 in
/-- successors() -/
theorem met_x_successors {l : Launch} {D : va_G} {h : Nat} {a : Nat → Nat} {ca : Nat → ClassId} {sz : Nat} {S : Sh} {E : XE} (hg : gd S) (hi : ins S (sAt S)) : Met l yX0_successors (ws_ yX0_successors cX0_successors 3 (some .int)) (rmL 2) (xPc D h a ca [] sz S E) (xQi D h a ca sz S E (fun r u => r = suc S ∧ u = (S, E))) 0 0 (xA h a ca S E sz) := by
  refine x_enter (by decide) (Nat.le_of_ble_eq_true rfl) rfl ?_
  intro p e s m below meth c F hr hlk I ls hl
  have hx := F.1
  have hb := F.2.1
  have hl : lv_has ls 3 [(0, .ref h)] := hl
  have hi20 : vp_in (sAt S) 20 := gd_in hg hi
  refine lv_aload_n hx hb dX0_successors_0 rfl (lv_at hl 0 rfl) ?_
  refine x_g0 F I dX0_successors_1 ?_
  refine lv_aload_n hx hb dX0_successors_4 rfl (lv_at hl 0 rfl) ?_
  refine x_g10 F I (v := sAt S) rfl dX0_successors_5 ?_
  refine x_ld0 F I (v := opA S) hi20 rfl dX0_successors_8 ?_
  refine lv_istore_n (lv' := [(1, .int (opA S)), (0, .ref h)]) hx hb dX0_successors_9 rfl hl (by decide) rfl (fun ls hl => ?_)
  refine lv_aload_n hx hb dX0_successors_10 rfl (lv_at hl 1 rfl) ?_
  refine lv_aload_n hx hb dX0_successors_11 rfl (lv_at hl 1 rfl) ?_
  refine x_g10 F I (v := sAt S) rfl dX0_successors_12 ?_
  refine lv_iconst (v := 1) hx hb dX0_successors_15 (by decide) ?_
  refine lv_iadd hx hb dX0_successors_16 ?_
  refine x_cs F I (v := bitF S ((sAt S) + 1)) (S1 := S) (E1 := E) (As := [.int ((sAt S) + 1)]) (rest := []) (fun sz => met_x_bit ((sAt S) + 1)) (cw_x_bit F.2.2.2.2 ⟨by decide, by decide⟩) rfl rfl hl.1 (Nat.le_of_ble_eq_true rfl) dX0_successors_17 ⟨Nat.zero_le _, Nat.zero_le _⟩ (fun H locs I => ?_)
  refine lv_istore_n (lv' := [(2, .int (bitF S ((sAt S) + 1))), (1, .int (opA S)), (0, .ref h)]) hx hb dX0_successors_20 rfl hl (by decide) rfl (fun ls hl => ?_)
  refine lv_iload_n hx hb dX0_successors_21 rfl (lv_at hl 1 rfl) ?_
  refine lv_iconst (v := 5) hx hb dX0_successors_22 (by decide) ?_
  refine lv_icmp_ne (tgt := 42) hx hb dX0_successors_23 (by decide) (fun c23 => ?_) (fun c23 => ?_)
  · refine lv_iload_n hx hb dX0_successors_42 rfl (lv_at hl 1 rfl) ?_
    refine lv_bipush (v := 6) hx hb dX0_successors_43 (by decide) ?_
    refine lv_icmp_eq (tgt := 54) hx hb dX0_successors_45 (by decide) (fun c45 => ?_) (fun c45 => ?_)
    · refine lv_aload_n hx hb dX0_successors_54 rfl (lv_at hl 2 rfl) ?_
      refine lv_aload_n hx hb dX0_successors_55 rfl (lv_at hl 2 rfl) ?_
      refine x_g2 F I dX0_successors_56 ?_
      refine lv_aload_n hx hb dX0_successors_59 rfl (lv_at hl 2 rfl) ?_
      refine x_g10 F I (v := sAt S) rfl dX0_successors_60 ?_
      refine x_ld2 F I (v := bsA S) hi20 rfl dX0_successors_63 ?_
      refine x_cs F I (v := bitF S (bsA S)) (S1 := S) (E1 := E) (As := [.int (bsA S)]) (rest := []) (fun sz => met_x_bit (bsA S)) (cw_x_bit F.2.2.2.2 ⟨by decide, by decide⟩) rfl rfl hl.1 (Nat.le_of_ble_eq_true rfl) dX0_successors_64 ⟨Nat.zero_le _, Nat.zero_le _⟩ (fun H locs I => ?_)
      exact x_ri F hr hlk I ⟨by simp [suc, c23, c45], rfl⟩ dX0_successors_67
    · refine lv_iload_n hx hb dX0_successors_48 rfl (lv_at hl 1 rfl) ?_
      refine lv_bipush (v := 7) hx hb dX0_successors_49 (by decide) ?_
      refine lv_icmp_ne (tgt := 68) hx hb dX0_successors_51 (by decide) (fun c51 => ?_) (fun c51 => ?_)
      · refine lv_iload_n hx hb dX0_successors_68 rfl (lv_at hl 1 rfl) ?_
        refine lv_bipush (v := 8) hx hb dX0_successors_69 (by decide) ?_
        refine lv_icmp_ne (tgt := 101) hx hb dX0_successors_71 (by decide) (fun c71 => ?_) (fun c71 => ?_)
        · refine lv_iload_n hx hb dX0_successors_101 rfl (lv_at hl 1 rfl) ?_
          refine lv_bipush (v := 9) hx hb dX0_successors_102 (by decide) ?_
          refine lv_icmp_ne (tgt := 126) hx hb dX0_successors_104 (by decide) (fun c104 => ?_) (fun c104 => ?_)
          · refine lv_iload_n hx hb dX0_successors_126 rfl (lv_at hl 1 rfl) ?_
            refine lv_bipush (v := 10) hx hb dX0_successors_127 (by decide) ?_
            refine lv_icmp_ne (tgt := 136) hx hb dX0_successors_129 (by decide) (fun c129 => ?_) (fun c129 => ?_)
            · refine lv_iload_n hx hb dX0_successors_136 rfl (lv_at hl 0 rfl) ?_
              exact x_ri F hr hlk I ⟨by simp [suc, c23, c45, c51, c71, c104, c129], rfl⟩ dX0_successors_137
            · refine lv_iconst (v := 0) hx hb dX0_successors_132 (by decide) ?_
              refine lv_goto (tgt := 137) hx hb dX0_successors_133 (by decide) ?_
              exact x_ri F hr hlk I ⟨by simp [suc, c23, c45, c51, c71, c104, c129], rfl⟩ dX0_successors_137
          · refine lv_aload_n hx hb dX0_successors_107 rfl (lv_at hl 2 rfl) ?_
            refine lv_aload_n hx hb dX0_successors_108 rfl (lv_at hl 2 rfl) ?_
            refine x_g6 F I dX0_successors_109 ?_
            refine lv_aload_n hx hb dX0_successors_112 rfl (lv_at hl 2 rfl) ?_
            refine x_g1 F I dX0_successors_113 ?_
            refine lv_aload_n hx hb dX0_successors_116 rfl (lv_at hl 2 rfl) ?_
            refine x_g10 F I (v := sAt S) rfl dX0_successors_117 ?_
            refine x_ld1 F I (v := asA S) hi20 rfl dX0_successors_120 ?_
            refine x_ld6 F I (v := sRg S (asA S).toNatClampNeg) (gd_as hg) rfl dX0_successors_121 ?_
            refine x_cs F I (v := bitF S (sRg S (asA S).toNatClampNeg)) (S1 := S) (E1 := E) (As := [.int (sRg S (asA S).toNatClampNeg)]) (rest := []) (fun sz => met_x_bit (sRg S (asA S).toNatClampNeg)) (cw_x_bit F.2.2.2.2 ⟨by decide, by decide⟩) rfl rfl hl.1 (Nat.le_of_ble_eq_true rfl) dX0_successors_122 ⟨Nat.zero_le _, Nat.zero_le _⟩ (fun H locs I => ?_)
            exact x_ri F hr hlk I ⟨by simp [suc, c23, c45, c51, c71, c104], rfl⟩ dX0_successors_125
        · refine lv_aload_n hx hb dX0_successors_74 rfl (lv_at hl 2 rfl) ?_
          refine x_g9 F I (v := sLv S) rfl dX0_successors_75 ?_
          refine lv_if_le (tgt := 99) hx hb dX0_successors_78 (by decide) (fun c78 => ?_) (fun c78 => ?_)
          · refine lv_iconst (v := 0) hx hb dX0_successors_99 (by decide) ?_
            exact x_ri F hr hlk I ⟨by simp [suc, c23, c45, c51, c71, c78], rfl⟩ dX0_successors_100
          · refine lv_aload_n hx hb dX0_successors_81 rfl (lv_at hl 2 rfl) ?_
            refine lv_aload_n hx hb dX0_successors_82 rfl (lv_at hl 2 rfl) ?_
            refine x_g8 F I dX0_successors_83 ?_
            refine lv_aload_n hx hb dX0_successors_86 rfl (lv_at hl 2 rfl) ?_
            refine x_g9 F I (v := sLv S) rfl dX0_successors_87 ?_
            refine lv_iconst (v := 1) hx hb dX0_successors_90 (by decide) ?_
            refine lv_isub hx hb dX0_successors_91 ?_
            refine x_ld8 F I (v := sRt S ((sLv S) - 1).toNatClampNeg) (gd_l1 hg c78) rfl dX0_successors_92 ?_
            refine x_cs F I (v := bitF S (sRt S ((sLv S) - 1).toNatClampNeg)) (S1 := S) (E1 := E) (As := [.int (sRt S ((sLv S) - 1).toNatClampNeg)]) (rest := []) (fun sz => met_x_bit (sRt S ((sLv S) - 1).toNatClampNeg)) (cw_x_bit F.2.2.2.2 ⟨by decide, by decide⟩) rfl rfl hl.1 (Nat.le_of_ble_eq_true rfl) dX0_successors_93 ⟨Nat.zero_le _, Nat.zero_le _⟩ (fun H locs I => ?_)
            refine lv_goto (tgt := 100) hx hb dX0_successors_96 (by decide) ?_
            exact x_ri F hr hlk I ⟨by simp [suc, c23, c45, c51, c71, c78], rfl⟩ dX0_successors_100
      · refine lv_aload_n hx hb dX0_successors_54 rfl (lv_at hl 2 rfl) ?_
        refine lv_aload_n hx hb dX0_successors_55 rfl (lv_at hl 2 rfl) ?_
        refine x_g2 F I dX0_successors_56 ?_
        refine lv_aload_n hx hb dX0_successors_59 rfl (lv_at hl 2 rfl) ?_
        refine x_g10 F I (v := sAt S) rfl dX0_successors_60 ?_
        refine x_ld2 F I (v := bsA S) hi20 rfl dX0_successors_63 ?_
        refine x_cs F I (v := bitF S (bsA S)) (S1 := S) (E1 := E) (As := [.int (bsA S)]) (rest := []) (fun sz => met_x_bit (bsA S)) (cw_x_bit F.2.2.2.2 ⟨by decide, by decide⟩) rfl rfl hl.1 (Nat.le_of_ble_eq_true rfl) dX0_successors_64 ⟨Nat.zero_le _, Nat.zero_le _⟩ (fun H locs I => ?_)
        exact x_ri F hr hlk I ⟨by simp [suc, c23, c45, c51], rfl⟩ dX0_successors_67
  · refine lv_iload_n hx hb dX0_successors_26 rfl (lv_at hl 0 rfl) ?_
    refine lv_aload_n hx hb dX0_successors_27 rfl (lv_at hl 2 rfl) ?_
    refine lv_aload_n hx hb dX0_successors_28 rfl (lv_at hl 2 rfl) ?_
    refine x_g2 F I dX0_successors_29 ?_
    refine lv_aload_n hx hb dX0_successors_32 rfl (lv_at hl 2 rfl) ?_
    refine x_g10 F I (v := sAt S) rfl dX0_successors_33 ?_
    refine x_ld2 F I (v := bsA S) hi20 rfl dX0_successors_36 ?_
    refine x_cs F I (v := bitF S (bsA S)) (S1 := S) (E1 := E) (As := [.int (bsA S)]) (rest := [.int (bitF S ((sAt S) + 1))]) (fun sz => met_x_bit (bsA S)) (cw_x_bit F.2.2.2.2 ⟨by decide, by decide⟩) rfl rfl hl.1 (Nat.le_of_ble_eq_true rfl) dX0_successors_37 ⟨Nat.zero_le _, Nat.zero_le _⟩ (fun H locs I => ?_)
    refine lv_ior hx hb dX0_successors_40 ?_
    exact x_ri F hr hlk I ⟨by simp [suc, c23], rfl⟩ dX0_successors_41
end
section
/-! ===== Int32 by its bits: bt x i ===== -/
def bt (x : Int32) (i : Nat) : Bool := x.toBitVec.getLsbD i
theorem b_ext {x y : Int32} (h : ∀ i, i < 32 → bt x i = bt y i) : x = y := Int32.toBitVec_inj.mp (BitVec.eq_of_getLsbD_eq (fun i hi => h i hi))
theorem b_or (x y : Int32) (i : Nat) : bt (x ||| y) i = (bt x i || bt y i) := by unfold bt; rw [Int32.toBitVec_or, BitVec.getLsbD_or]
theorem b_and (x y : Int32) (i : Nat) : bt (x &&& y) i = (bt x i && bt y i) := by unfold bt; rw [Int32.toBitVec_and, BitVec.getLsbD_and]
theorem b_xor (x y : Int32) (i : Nat) : bt (x ^^^ y) i = (bt x i ^^ bt y i) := by unfold bt; rw [Int32.toBitVec_xor, BitVec.getLsbD_xor]
theorem b_big {x : Int32} {i : Nat} (h : 32 ≤ i) : bt x i = false := BitVec.getLsbD_of_ge _ _ h
theorem b_255 (i : Nat) : bt 255 i = decide (i < 8) := by
  rcases Nat.lt_or_ge i 32 with h | h
  · exact (by decide +kernel : ∀ i, i < 32 → bt 255 i = decide (i < 8)) i h
  · rw [b_big h, decide_eq_false (by omega)]
theorem b_65535 (i : Nat) : bt 65535 i = decide (i < 16) := by
  rcases Nat.lt_or_ge i 32 with h | h
  · exact (by decide +kernel : ∀ i, i < 32 → bt 65535 i = decide (i < 16)) i h
  · rw [b_big h, decide_eq_false (by omega)]
theorem b_m1 : ∀ i, i < 32 → bt (-1) i = true := by decide +kernel
theorem b_0 (i : Nat) : bt 0 i = false := BitVec.getLsbD_zero
theorem s_l : ∀ n, n < 32 → ((nI n &&& 31).toBitVec.smod 32).toNat = n := by decide +kernel
theorem s_u : ∀ n, n < 32 → (((nI n).toUInt32 &&& Int32.toUInt32 31).toBitVec % 32).toNat = n := by decide +kernel
theorem b_shl (n : Nat) (hn : n < 32) (x : Int32) {i : Nat} (hi : i < 32) : bt (x <<< (nI n &&& 31)) i = (decide (n ≤ i) && bt x (i - n)) := by
  unfold bt
  rw [Int32.toBitVec_shiftLeft]
  show (x.toBitVec <<< ((nI n &&& 31).toBitVec.smod 32).toNat).getLsbD i = _
  rw [s_l n hn, BitVec.getLsbD_shiftLeft]
  rcases Nat.lt_or_ge i n with h | h
  · simp [h, Nat.not_le.mpr h]
  · simp [hi, h, Nat.not_lt.mpr h]
theorem b_ushr (n : Nat) (hn : n < 32) (x : Int32) (i : Nat) : bt ((x.toUInt32 >>> ((nI n).toUInt32 &&& Int32.toUInt32 31)).toInt32) i = bt x (n + i) := by
  show (x.toUInt32 >>> ((nI n).toUInt32 &&& Int32.toUInt32 31)).toBitVec.getLsbD i = x.toUInt32.toBitVec.getLsbD (n + i)
  rw [UInt32.toBitVec_shiftRight]
  show (x.toUInt32.toBitVec >>> (((nI n).toUInt32 &&& Int32.toUInt32 31).toBitVec % 32).toNat).getLsbD i = _
  rw [s_u n hn, BitVec.getLsbD_ushiftRight]
theorem b_sshr (n : Nat) (hn : n < 32) (x : Int32) {i : Nat} (hi : i < 32) : bt (x >>> (nI n &&& 31)) i = if n + i < 32 then bt x (n + i) else bt x 31 := by
  unfold bt
  rw [Int32.toBitVec_shiftRight]
  show (x.toBitVec.sshiftRight ((nI n &&& 31).toBitVec.smod 32).toNat).getLsbD i = _
  rw [s_l n hn, BitVec.getLsbD_sshiftRight, BitVec.msb_eq_getLsbD_last]
  simp [hi]
theorem b_shl8 (x : Int32) {i : Nat} (hi : i < 32) : bt (x <<< ((8 : Int32) &&& 31)) i = (decide (8 ≤ i) && bt x (i - 8)) := b_shl 8 (by omega) x hi
theorem b_shl16 (x : Int32) {i : Nat} (hi : i < 32) : bt (x <<< ((16 : Int32) &&& 31)) i = (decide (16 ≤ i) && bt x (i - 16)) := b_shl 16 (by omega) x hi
theorem b_shl24 (x : Int32) {i : Nat} (hi : i < 32) : bt (x <<< ((24 : Int32) &&& 31)) i = (decide (24 ≤ i) && bt x (i - 24)) := b_shl 24 (by omega) x hi
theorem b_sshr8 (x : Int32) {i : Nat} (hi : i < 32) : bt (x >>> ((8 : Int32) &&& 31)) i = if 8 + i < 32 then bt x (8 + i) else bt x 31 := b_sshr 8 (by omega) x hi
/-! PURE LAWS: what a step keeps, bits of a set, plant and lift, resume among traps -/
theorem b_1 : ∀ j, j < 32 → bt 1 j = decide (j = 0) := by decide +kernel
theorem tst_bt {x : Int32} {i : Nat} (hi : i < 32) : tst x i ↔ bt x i = true := by
  have e0 : bt ((x >>> (nI i &&& 31)) &&& 1) 0 = bt x i := by
    rw [b_and, b_sshr i hi x (by omega), if_pos (by omega), b_1 0 (by omega)]
    simp
  constructor
  · intro h
    cases hb : bt x i with
    | true => rfl
    | false =>
      refine absurd (b_ext ?_) h
      intro j hj
      rw [b_0]
      by_cases h0 : j = 0
      · subst h0; rw [e0, hb]
      · rw [b_and, b_1 j hj, decide_eq_false h0, Bool.and_false]
  · intro h q
    rw [q, b_0] at e0
    rw [← e0] at h
    exact absurd h (by decide)
theorem tst_or {x y : Int32} {i : Nat} (hi : i < 32) : tst (x ||| y) i ↔ tst x i ∨ tst y i := by
  rw [tst_bt hi, tst_bt hi, tst_bt hi, b_or, Bool.or_eq_true]
theorem tst_0 {i : Nat} (hi : i < 32) : ¬ tst 0 i := by
  rw [tst_bt hi, b_0]; decide
theorem tst_sh {j i : Nat} (hj : j < 32) (hi : i < 32) : tst ((1 : Int32) <<< (nI j &&& 31)) i ↔ i = j := by
  rw [tst_bt hi, b_shl j hj 1 hi]
  by_cases h : j ≤ i
  · rw [b_1 (i - j) (by omega)]
    simp [h]; omega
  · simp [h]; omega
theorem wrk_op (op a b : Int32) (S : Sh) : sOp (wrk op a b S) = sOp S := by
  unfold wrk
  repeat' split
  all_goals rfl
theorem cry_op (op a b : Int32) (S : Sh) : sOp (cry op a b S) = sOp S := by
  unfold cry
  repeat' split
  · exact wrk_op op a b S
  all_goals rfl
theorem wrk_as (op a b : Int32) (S : Sh) : sAs (wrk op a b S) = sAs S := by
  unfold wrk
  repeat' split
  all_goals rfl
theorem cry_as (op a b : Int32) (S : Sh) : sAs (cry op a b S) = sAs S := by
  unfold cry
  repeat' split
  · exact wrk_as op a b S
  all_goals rfl
theorem wrk_bs (op a b : Int32) (S : Sh) : sBs (wrk op a b S) = sBs S := by
  unfold wrk
  repeat' split
  all_goals rfl
theorem cry_bs (op a b : Int32) (S : Sh) : sBs (cry op a b S) = sBs S := by
  unfold cry
  repeat' split
  · exact wrk_bs op a b S
  all_goals rfl
theorem wrk_sz (op a b : Int32) (S : Sh) : sSz (wrk op a b S) = sSz S := by
  unfold wrk
  repeat' split
  all_goals rfl
theorem cry_sz (op a b : Int32) (S : Sh) : sSz (cry op a b S) = sSz S := by
  unfold cry
  repeat' split
  · exact wrk_sz op a b S
  all_goals rfl
theorem wrk_ct (op a b : Int32) (S : Sh) : sCt (wrk op a b S) = sCt S := by
  unfold wrk
  repeat' split
  all_goals rfl
theorem cry_ct (op a b : Int32) (S : Sh) : sCt (cry op a b S) = sCt S := by
  unfold cry
  repeat' split
  · exact wrk_ct op a b S
  all_goals rfl
theorem wrk_bk (op a b : Int32) (S : Sh) : sBk (wrk op a b S) = sBk S := by
  unfold wrk
  repeat' split
  all_goals rfl
theorem cry_bk (op a b : Int32) (S : Sh) : sBk (cry op a b S) = sBk S := by
  unfold cry
  repeat' split
  · exact wrk_bk op a b S
  all_goals rfl
theorem wrk_wy (op a b : Int32) (S : Sh) : sWy (wrk op a b S) = sWy S := by
  unfold wrk
  repeat' split
  all_goals rfl
theorem cry_wy (op a b : Int32) (S : Sh) : sWy (cry op a b S) = sWy S := by
  unfold cry
  repeat' split
  · exact wrk_wy op a b S
  all_goals rfl
theorem stp_op (S : Sh) : sOp (stp S) = sOp S := cry_op (opA S) (asA S) (bsA S) S
theorem stp_as (S : Sh) : sAs (stp S) = sAs S := cry_as (opA S) (asA S) (bsA S) S
theorem stp_bs (S : Sh) : sBs (stp S) = sBs S := cry_bs (opA S) (asA S) (bsA S) S
theorem stp_sz (S : Sh) : sSz (stp S) = sSz S := cry_sz (opA S) (asA S) (bsA S) S
theorem stp_bk (S : Sh) : sBk (stp S) = sBk S := cry_bk (opA S) (asA S) (bsA S) S
theorem stp_wy (S : Sh) : sWy (stp S) = sWy S := cry_wy (opA S) (asA S) (bsA S) S
theorem wrk_lv (op a b : Int32) (S : Sh) : sLv (wrk op a b S) = sLv S := by
  unfold wrk
  repeat' split
  all_goals rfl
theorem wrk_ov (op a b : Int32) (S : Sh) : sOv (wrk op a b S) = sOv S := by
  unfold wrk
  repeat' split
  all_goals rfl
theorem wrk_rt (op a b : Int32) (S : Sh) : sRt (wrk op a b S) = sRt S := by
  unfold wrk
  repeat' split
  all_goals rfl
theorem no7 {op : Int32} (h : ¬ 4 < op) : ¬ op = 5 ∧ ¬ op = 6 ∧ ¬ op = 7 ∧ ¬ op = 8 ∧ ¬ op = 9 ∧ ¬ op = 10 := by
  refine ⟨?_, ?_, ?_, ?_, ?_, ?_⟩ <;> (intro e; subst e; exact h (by decide))
/-- an instruction, by its kind -/
theorem cry_w {op a b : Int32} {S : Sh} (h : ¬ 4 < op) : cry op a b S = zAt (wrk op a b S) (sAt S + 1) := by rw [cry, if_pos h]
theorem cry_5 {a b : Int32} {S : Sh} : cry 5 a b S = zAt S (if sRg S a.toNatClampNeg = 0 then b else sAt S + 1) := by
  rw [cry, if_neg (by decide), if_pos rfl]
theorem cry_6 {a b : Int32} {S : Sh} : cry 6 a b S = zAt S b := by
  rw [cry, if_neg (by decide), if_neg (by decide), if_pos rfl]
theorem cry_7 {a b : Int32} {S : Sh} : cry 7 a b S = zAt (zLv (zRt S (upd (sRt S) (sLv S).toNatClampNeg (sAt S + 1))) (sLv S + 1)) b := by
  rw [cry, if_neg (by decide), if_neg (by decide), if_neg (by decide), if_pos rfl]
theorem cry_8 {a b : Int32} {S : Sh} : cry 8 a b S = zAt (zLv S (sLv S - 1)) (sRt S (sLv S - 1).toNatClampNeg) := by
  rw [cry, if_neg (by decide), if_neg (by decide), if_neg (by decide), if_neg (by decide), if_pos rfl]
theorem cry_9 {a b : Int32} {S : Sh} : cry 9 a b S = zAt S (sRg S a.toNatClampNeg) := by
  rw [cry, if_neg (by decide), if_neg (by decide), if_neg (by decide), if_neg (by decide), if_neg (by decide), if_pos rfl]
theorem cry_x {op a b : Int32} {S : Sh} (h4 : 4 < op) (h5 : ¬ op = 5) (h6 : ¬ op = 6) (h7 : ¬ op = 7) (h8 : ¬ op = 8) (h9 : ¬ op = 9) : cry op a b S = zOv S 1 := by
  rw [cry, if_neg (fun q => q h4), if_neg h5, if_neg h6, if_neg h7, if_neg h8, if_neg h9]
/-- one case for each kind of instruction -/
theorem op_cases {P : Int32 → Prop} (op : Int32) (hw : ¬ 4 < op → P op) (p5 : P 5) (p6 : P 6) (p7 : P 7) (p8 : P 8) (p9 : P 9) (px : 4 < op → ¬ op = 5 → ¬ op = 6 → ¬ op = 7 → ¬ op = 8 → ¬ op = 9 → P op) : P op := by
  by_cases h4 : 4 < op
  · by_cases h5 : op = 5
    · rw [h5]; exact p5
    by_cases h6 : op = 6
    · rw [h6]; exact p6
    by_cases h7 : op = 7
    · rw [h7]; exact p7
    by_cases h8 : op = 8
    · rw [h8]; exact p8
    by_cases h9 : op = 9
    · rw [h9]; exact p9
    exact px h4 h5 h6 h7 h8 h9
  · exact hw h4
theorem cry_lv (op a b : Int32) (S : Sh) : sLv (cry op a b S) = if op = 7 then sLv S + 1 else if op = 8 then sLv S - 1 else sLv S := by
  refine op_cases (P := fun op => sLv (cry op a b S) = if op = 7 then sLv S + 1 else if op = 8 then sLv S - 1 else sLv S) op ?_ ?_ ?_ ?_ ?_ ?_ ?_
  · intro h
    rw [cry_w h, if_neg (no7 h).2.2.1, if_neg (no7 h).2.2.2.1]
    exact wrk_lv op a b S
  · rw [cry_5]; rfl
  · rw [cry_6]; rfl
  · rw [cry_7]; rfl
  · rw [cry_8]; rfl
  · rw [cry_9]; rfl
  · intro h4 h5 h6 h7 h8 h9
    rw [cry_x h4 h5 h6 h7 h8 h9, if_neg h7, if_neg h8]; rfl
theorem cry_ov (op a b : Int32) (S : Sh) : sOv (cry op a b S) = sOv S ∨ sOv (cry op a b S) = 1 := by
  refine op_cases (P := fun op => sOv (cry op a b S) = sOv S ∨ sOv (cry op a b S) = 1) op ?_ ?_ ?_ ?_ ?_ ?_ ?_
  · intro h
    rw [cry_w h]
    exact Or.inl (wrk_ov op a b S)
  · rw [cry_5]; exact Or.inl rfl
  · rw [cry_6]; exact Or.inl rfl
  · rw [cry_7]; exact Or.inl rfl
  · rw [cry_8]; exact Or.inl rfl
  · rw [cry_9]; exact Or.inl rfl
  · intro h4 h5 h6 h7 h8 h9
    rw [cry_x h4 h5 h6 h7 h8 h9]; exact Or.inr rfl
theorem gd_stp {S : Sh} (h : gd S) (hv : liv S) : gd (stp S) := by
  obtain ⟨hz, hc, h0, h6, ho⟩ := h
  obtain ⟨v0, v1, v2⟩ := hv
  have hlv : sLv (stp S) = if opA S = 7 then sLv S + 1 else if opA S = 8 then sLv S - 1 else sLv S := cry_lv _ _ _ S
  refine ⟨by rw [stp_sz]; exact hz, by rw [stp_as, stp_op, stp_bs]; exact hc, ?_, ?_, ?_⟩
  · rw [hlv]
    split
    · rename_i e
      have h9 : ¬ 6 ≤ sLv S := fun q => v2 (Or.inl ⟨e, q⟩)
      rw [i_lt, e_0] at h0
      rw [i_le, e_6] at h9
      rw [i_lt, i_add (by rw [e_1]; omega) (by rw [e_1]; omega), e_1, e_0]; omega
    · split
      · rename_i e1 e2
        have h9 : ¬ sLv S = 0 := fun q => v2 (Or.inr ⟨e2, q⟩)
        rw [i_lt, e_0] at h0
        rw [i_lt, e_6] at h6
        rw [← Int32.toInt_inj, e_0] at h9
        rw [i_lt, i_sub (by rw [e_1]; omega) (by rw [e_1]; omega), e_1, e_0]; omega
      · exact h0
  · rw [hlv]
    split
    · rename_i e
      have h9 : ¬ 6 ≤ sLv S := fun q => v2 (Or.inl ⟨e, q⟩)
      rw [i_lt, e_0] at h0
      rw [i_le, e_6] at h9
      rw [i_lt, i_add (by rw [e_1]; omega) (by rw [e_1]; omega), e_1, e_6]; omega
    · split
      · rw [i_lt, e_0] at h0
        rw [i_lt, e_6] at h6
        rw [i_lt, i_sub (by rw [e_1]; omega) (by rw [e_1]; omega), e_1, e_6]; omega
      · exact h6
  · rcases cry_ov (opA S) (asA S) (bsA S) S with e | e
    · have e2 : sOv (stp S) = sOv S := e
      rw [e2]; exact ho
    · exact Or.inr e
theorem noT_stp {S : Sh} (h : noT S) : noT (stp S) := by
  intro j; rw [stp_op]; exact h j
theorem wrk_zOp (op a b : Int32) (S : Sh) (y : Fn) : wrk op a b (zOp S y) = zOp (wrk op a b S) y := by
  unfold wrk
  by_cases h0 : op = 0
  · rw [if_pos h0, if_pos h0]; rfl
  rw [if_neg h0, if_neg h0]
  by_cases h1 : op = 1
  · rw [if_pos h1, if_pos h1]; rfl
  rw [if_neg h1, if_neg h1]
  by_cases h2 : op = 2
  · rw [if_pos h2, if_pos h2]; rfl
  rw [if_neg h2, if_neg h2]
  by_cases h3 : op = 3
  · rw [if_pos h3, if_pos h3]; rfl
  rw [if_neg h3, if_neg h3]; rfl
theorem cry_zOp (op a b : Int32) (S : Sh) (y : Fn) : cry op a b (zOp S y) = zOp (cry op a b S) y := by
  refine op_cases (P := fun op => cry op a b (zOp S y) = zOp (cry op a b S) y) op ?_ ?_ ?_ ?_ ?_ ?_ ?_
  · intro h
    rw [cry_w h, cry_w h, wrk_zOp]; rfl
  · rw [cry_5, cry_5]; rfl
  · rw [cry_6, cry_6]; rfl
  · rw [cry_7, cry_7]; rfl
  · rw [cry_8, cry_8]; rfl
  · rw [cry_9, cry_9]; rfl
  · intro h4 h5 h6 h7 h8 h9
    rw [cry_x h4 h5 h6 h7 h8 h9, cry_x h4 h5 h6 h7 h8 h9]; rfl
theorem wrk_zWy (op a b : Int32) (S : Sh) (y : Int32) : wrk op a b (zWy S y) = zWy (wrk op a b S) y := by
  unfold wrk
  by_cases h0 : op = 0
  · rw [if_pos h0, if_pos h0]; rfl
  rw [if_neg h0, if_neg h0]
  by_cases h1 : op = 1
  · rw [if_pos h1, if_pos h1]; rfl
  rw [if_neg h1, if_neg h1]
  by_cases h2 : op = 2
  · rw [if_pos h2, if_pos h2]; rfl
  rw [if_neg h2, if_neg h2]
  by_cases h3 : op = 3
  · rw [if_pos h3, if_pos h3]; rfl
  rw [if_neg h3, if_neg h3]; rfl
theorem cry_zWy (op a b : Int32) (S : Sh) (y : Int32) : cry op a b (zWy S y) = zWy (cry op a b S) y := by
  refine op_cases (P := fun op => cry op a b (zWy S y) = zWy (cry op a b S) y) op ?_ ?_ ?_ ?_ ?_ ?_ ?_
  · intro h
    rw [cry_w h, cry_w h, wrk_zWy]; rfl
  · rw [cry_5, cry_5]; rfl
  · rw [cry_6, cry_6]; rfl
  · rw [cry_7, cry_7]; rfl
  · rw [cry_8, cry_8]; rfl
  · rw [cry_9, cry_9]; rfl
  · intro h4 h5 h6 h7 h8 h9
    rw [cry_x h4 h5 h6 h7 h8 h9, cry_x h4 h5 h6 h7 h8 h9]; rfl
theorem stp_zOp {S : Sh} {o : Fn} (h : opA (zOp S o) = opA S) : stp (zOp S o) = zOp (stp S) o := by
  have e : stp (zOp S o) = zCt (cry (opA (zOp S o)) (asA S) (bsA S) (zOp S o)) (sCt S + 1) := rfl
  rw [e, h, cry_zOp]; rfl
theorem stp_zWy (S : Sh) (v : Int32) : stp (zWy S v) = zWy (stp S) v := by
  have e : stp (zWy S v) = zCt (cry (opA S) (asA S) (bsA S) (zWy S v)) (sCt S + 1) := rfl
  rw [e, cry_zWy]; rfl
theorem goF_zWy (rc : Sh → Bool) (v : Int32) (hrc : ∀ T, rc (zWy T v) = rc T) : ∀ (n d : Nat) (S : Sh), goF rc n d (zWy S v) = ((goF rc n d S).1, zWy (goF rc n d S).2 v) := by
  intro n
  induction n with
  | zero => intro d S; rfl
  | succ n ih =>
    intro d S
    have e : look (zWy S v) (rc (zWy S v)) d = look S (rc S) d := by rw [hrc]; rfl
    rw [goF, goF, e]
    by_cases h : look S (rc S) d = 0
    · rw [if_pos h, if_pos h, stp_zWy, ih]
    · rw [if_neg h, if_neg h]
theorem pno_c (x : Int32) (o : Fn) : ∀ n j : Nat, pno x o n j = if j < n ∧ tst x j then 11 else o j := by
  intro n
  induction n with
  | zero => intro j; rw [if_neg (by omega)]; rfl
  | succ n ih =>
    intro j
    rw [pno]
    by_cases ht : tst x n
    · rw [if_pos ht]
      by_cases hj : j = n
      · subst hj; rw [pk_us, if_pos ⟨by omega, ht⟩]
      · rw [pk_un hj, ih]
        by_cases hc : j < n ∧ tst x j
        · rw [if_pos hc, if_pos ⟨by omega, hc.2⟩]
        · rw [if_neg hc, if_neg (fun q => hc ⟨by omega, q.2⟩)]
    · rw [if_neg ht, ih]
      by_cases hc : j < n ∧ tst x j
      · rw [if_pos hc, if_pos ⟨by omega, hc.2⟩]
      · rw [if_neg hc, if_neg (fun q => hc ⟨by
          have : j ≠ n := fun e => ht (e ▸ q.2)
          omega, q.2⟩)]
theorem pnh_c (x : Int32) (o hd : Fn) : ∀ n j : Nat, pnh x o hd n j = if j < n ∧ tst x j then o j else hd j := by
  intro n
  induction n with
  | zero => intro j; rw [if_neg (by omega)]; rfl
  | succ n ih =>
    intro j
    rw [pnh]
    by_cases ht : tst x n
    · rw [if_pos ht]
      by_cases hj : j = n
      · subst hj; rw [pk_us, if_pos ⟨by omega, ht⟩]; exact pno_i x o j j (Nat.le_refl _)
      · rw [pk_un hj, ih]
        by_cases hc : j < n ∧ tst x j
        · rw [if_pos hc, if_pos ⟨by omega, hc.2⟩]
        · rw [if_neg hc, if_neg (fun q => hc ⟨by omega, q.2⟩)]
    · rw [if_neg ht, ih]
      by_cases hc : j < n ∧ tst x j
      · rw [if_pos hc, if_pos ⟨by omega, hc.2⟩]
      · rw [if_neg hc, if_neg (fun q => hc ⟨by
          have : j ≠ n := fun e => ht (e ▸ q.2)
          omega, q.2⟩)]
theorem pnt_c (x : Int32) : ∀ n : Nat, n ≤ 20 → ∀ j, j < 32 → (tst (pnt x 0 n) j ↔ j < n ∧ tst x j) := by
  intro n
  induction n with
  | zero => intro _ j hj; exact ⟨fun q => absurd q (tst_0 hj), fun q => absurd q.1 (by omega)⟩
  | succ n ih =>
    intro hn j hj
    rw [pnt]
    by_cases ht : tst x n
    · rw [if_pos ht, tst_or hj, tst_sh (by omega) hj, ih (by omega) j hj]
      constructor
      · rintro (q | q)
        · exact ⟨by omega, q.2⟩
        · subst q; exact ⟨by omega, ht⟩
      · intro q
        by_cases hjn : j = n
        · exact Or.inr hjn
        · exact Or.inl ⟨by omega, q.2⟩
    · rw [if_neg ht, ih (by omega) j hj]
      constructor
      · intro q; exact ⟨by omega, q.2⟩
      · intro q
        have : j ≠ n := fun e => ht (e ▸ q.2)
        exact ⟨by omega, q.2⟩
theorem lfo_c (pl : Int32) (hd o : Fn) : ∀ n j : Nat, lfo pl hd o n j = if j < n ∧ tst pl j then hd j else o j := by
  intro n
  induction n with
  | zero => intro j; rw [if_neg (by omega)]; rfl
  | succ n ih =>
    intro j
    rw [lfo]
    by_cases ht : tst pl n
    · rw [if_pos ht]
      by_cases hj : j = n
      · subst hj; rw [pk_us, if_pos ⟨by omega, ht⟩]
      · rw [pk_un hj, ih]
        by_cases hc : j < n ∧ tst pl j
        · rw [if_pos hc, if_pos ⟨by omega, hc.2⟩]
        · rw [if_neg hc, if_neg (fun q => hc ⟨by omega, q.2⟩)]
    · rw [if_neg ht, ih]
      by_cases hc : j < n ∧ tst pl j
      · rw [if_pos hc, if_pos ⟨by omega, hc.2⟩]
      · rw [if_neg hc, if_neg (fun q => hc ⟨by
          have : j ≠ n := fun e => ht (e ▸ q.2)
          omega, q.2⟩)]
/-- what is planted is lifted: the code is as it was -/
theorem lift_back {x : Int32} {o hd : Fn} {n : Nat} (hn : n ≤ 20) : lfo (pnt x 0 n) (pnh x o hd n) (pno x o n) n = o := by
  funext j
  rw [lfo_c]
  by_cases hj : j < n
  · by_cases ht : tst x j
    · rw [if_pos ⟨hj, (pnt_c x n hn j (by omega)).mpr ⟨hj, ht⟩⟩, pnh_c, if_pos ⟨hj, ht⟩]
    · rw [if_neg (fun q => ht ((pnt_c x n hn j (by omega)).mp q.2).2), pno_c, if_neg (fun q => ht q.2)]
  · rw [if_neg (fun q => hj q.1), pno_c, if_neg (fun q => hj q.1)]
/-- a trapped state is good too -/
theorem gd_trap {S : Sh} (h : gd S) (x : Int32) (n : Nat) : gd (zOp S (pno x (sOp S) n)) := by
  obtain ⟨hz, hc, h0, h6, ho⟩ := h
  refine ⟨hz, ?_, h0, h6, ho⟩
  intro j
  show vp_in (sAs S j) 4 ∧ ¬ pno x (sOp S) n j < 0 ∧ ¬ 11 < pno x (sOp S) n j ∧ (¬ 4 < pno x (sOp S) n j → ¬ pno x (sOp S) n j = 0 → vp_in (sBs S j) 4)
  rw [pno_c]
  by_cases hj : j < n ∧ tst x j
  · rw [if_pos hj]
    exact ⟨(hc j).1, by decide, by decide, fun q => absurd (by decide) q⟩
  · rw [if_neg hj]
    exact hc j
/-- an inner place as a number -/
theorem ins_nI {S : Sh} {q : Int32} {n : Nat} (hn : n ≤ 20) (hz : sSz S = nI n) (hq : ins S q) : ∃ j : Nat, j < n ∧ q = nI j ∧ q.toNatClampNeg = j := by
  have h1 : ¬ q < 0 := fun h => hq (Or.inl h)
  have h2 : ¬ sSz S ≤ q := fun h => hq (Or.inr h)
  rw [hz, i_le, nI_toInt (by omega)] at h2
  obtain ⟨j, hj, rfl⟩ := nI_of h1
  rw [nI_toInt (by omega)] at h2
  exact ⟨j, by omega, rfl, nI_clamp (by omega)⟩
theorem tst_bitF {S : Sh} {q : Int32} {n : Nat} (hn : n ≤ 20) (hz : sSz S = nI n) (hq : ins S q) : tst (bitF S q) q.toNatClampNeg := by
  obtain ⟨j, hj, e, ec⟩ := ins_nI hn hz hq
  rw [bitF, if_pos hq, ec, e, tst_sh (by omega) (by omega)]
/-- where an instruction leads, the set of successors stands -/
theorem suc_ok {S : Sh} {n : Nat} (hn : n ≤ 20) (hz : sSz S = nI n) (hg : gd S) (hv : liv S) (ho : sOv (stp S) = 0) (hi : ins S (sAt (stp S))) : tst (suc S) (sAt (stp S)).toNatClampNeg := by
  obtain ⟨v0, v1, v2⟩ := hv
  have hb : ∀ q, ins S q → q.toNatClampNeg < 32 := fun q hq => by
    obtain ⟨j, hj, e, ec⟩ := ins_nI hn hz hq
    omega
  have es : sAt (stp S) = sAt (cry (opA S) (asA S) (bsA S) S) := rfl
  have eo : sOv (stp S) = sOv (cry (opA S) (asA S) (bsA S) S) := rfl
  rw [es] at hi ⊢
  rw [eo] at ho
  unfold suc
  by_cases h4 : 4 < opA S
  · by_cases h5 : opA S = 5
    · rw [if_pos h5]
      rw [h5, cry_5] at hi ⊢
      change ins S (if sRg S (asA S).toNatClampNeg = 0 then bsA S else sAt S + 1) at hi
      show tst _ (if sRg S (asA S).toNatClampNeg = 0 then bsA S else sAt S + 1).toNatClampNeg
      by_cases hr : sRg S (asA S).toNatClampNeg = 0
      · rw [if_pos hr] at hi ⊢
        rw [tst_or (hb _ hi)]
        exact Or.inr (tst_bitF hn hz hi)
      · rw [if_neg hr] at hi ⊢
        rw [tst_or (hb _ hi)]
        exact Or.inl (tst_bitF hn hz hi)
    rw [if_neg h5]
    by_cases h6 : opA S = 6
    · rw [if_pos (Or.inl h6)]
      rw [h6, cry_6] at hi ⊢
      exact tst_bitF hn hz hi
    by_cases h7 : opA S = 7
    · rw [if_pos (Or.inr h7)]
      rw [h7, cry_7] at hi ⊢
      exact tst_bitF hn hz hi
    rw [if_neg (fun q => q.elim h6 h7)]
    by_cases h8 : opA S = 8
    · rw [if_pos h8, if_neg (fun q => v2 (Or.inr ⟨h8, (gd_le0 hg).mp q⟩))]
      rw [h8, cry_8] at hi ⊢
      exact tst_bitF hn hz hi
    rw [if_neg h8]
    by_cases h9 : opA S = 9
    · rw [if_pos h9]
      rw [h9, cry_9] at hi ⊢
      exact tst_bitF hn hz hi
    rw [cry_x h4 h5 h6 h7 h8 h9] at ho
    exact absurd ho (by show ¬ (1 : Int32) = 0; decide)
  · rw [if_neg (no7 h4).1, if_neg (fun q => q.elim (no7 h4).2.1 (no7 h4).2.2.1), if_neg (no7 h4).2.2.2.1, if_neg (no7 h4).2.2.2.2.1, if_neg (no7 h4).2.2.2.2.2]
    rw [cry_w h4] at hi ⊢
    exact tst_bitF hn hz hi
/-- one instruction by itself -/
theorem rsm_1 {S : Sh} (hv : liv S) (hT : noT S) : rsm 1 S = (1, stp S) := by
  rw [rsm, if_pos ⟨hv.1, hv.2.1, fun q => hT (sAt S).toNatClampNeg (by rw [show sOp S (sAt S).toNatClampNeg = 11 from q]; decide), hv.2.2⟩]; rfl
theorem opA_trap {S : Sh} {x : Int32} {o : Fn} {n : Nat} : opA (zOp S (pno x o n)) = if (sAt S).toNatClampNeg < n ∧ tst x (sAt S).toNatClampNeg then 11 else o (sAt S).toNatClampNeg := pno_c x o n _
/-- one instruction among traps at its successors -/
theorem rsm_2 {S : Sh} {n : Nat} (hn : n ≤ 20) (hz : sSz S = nI n) (hg : gd S) (hT : noT S) (hv : liv S) (hs : ¬ tst (suc S) (sAt S).toNatClampNeg) : rsm 2 (zOp S (pno (suc S) (sOp S) n)) = (1, zOp (stp S) (pno (suc S) (sOp S) n)) := by
  have e1 : opA (zOp S (pno (suc S) (sOp S) n)) = opA S := by rw [opA_trap, if_neg (fun q => hs q.2)]; rfl
  have e2 : ¬ stk (zOp S (pno (suc S) (sOp S) n)) := by
    intro q
    rcases q with q | q
    · rw [e1] at q; exact hv.2.2 (Or.inl q)
    · rw [e1] at q; exact hv.2.2 (Or.inr q)
  rw [rsm, if_pos ⟨hv.1, hv.2.1, by rw [e1]; exact fun q => hT (sAt S).toNatClampNeg (by rw [show sOp S (sAt S).toNatClampNeg = 11 from q]; decide), e2⟩, stp_zOp e1]
  rw [rsm, if_neg]
  rintro ⟨q1, q2, q3, -⟩
  have q2' : ins S (sAt (stp S)) := by
    intro q
    apply q2
    rcases q with q | q
    · exact Or.inl q
    · exact Or.inr (by show sSz (stp S) ≤ _; rw [stp_sz]; exact q)
  apply q3
  obtain ⟨j, hj, e, ec⟩ := ins_nI hn hz q2'
  rw [opA_trap, if_pos ⟨by omega, suc_ok hn hz hg hv q1 q2'⟩]
/-- resume among traps at all places where the run must be looked at: it goes as the plain run -/
theorem rsm_trap {rc : Sh → Bool} {x : Int32} {o : Fn} {bk : Int32} {n : Nat} (hn : n ≤ 20) (J : Sh → Prop) (hb : ∀ j, j < n → tst bk j → tst x j)
    (hJ : ∀ T : Sh, gd T → sSz T = nI n → J T → ¬ rc T = true → liv T → J (stp T) ∧ (rc (stp T) = true → ins (stp T) (sAt (stp T)) → tst x (sAt (stp T)).toNatClampNeg)) :
    ∀ (k d : Nat) (T : Sh), d + k = 150 → 1 ≤ d → gd T → noT T → sOp T = o → sSz T = nI n → sBk T = bk → J T → (rc T = true → ins T (sAt T) → tst x (sAt T).toNatClampNeg) →
      ∃ (i : Nat) (U : Sh), i ≤ k ∧ rsm k (zOp T (pno x o n)) = (i, zOp U (pno x o n)) ∧ goF rc (k + 1) d T = goF rc (k + 1 - i) (d + i) U ∧ gd U ∧ noT U ∧ sOp U = o ∧ sSz U = nI n ∧ sBk U = bk ∧ J U := by
  intro k
  induction k with
  | zero =>
    intro d T h1 h2 hg hT ho hz hk hj ht
    exact ⟨0, T, Nat.le_refl _, rfl, rfl, hg, hT, ho, hz, hk, hj⟩
  | succ k ih =>
    intro d T h1 h2 hg hT ho hz hk hj ht
    by_cases hc : sOv (zOp T (pno x o n)) = 0 ∧ ins (zOp T (pno x o n)) (sAt (zOp T (pno x o n))) ∧ ¬ opA (zOp T (pno x o n)) = 11 ∧ ¬ stk (zOp T (pno x o n))
    · obtain ⟨c0, c1, c2, c3⟩ := id hc
      have hi : ins T (sAt T) := c1
      obtain ⟨j, hjn, e, ec⟩ := ins_nI hn hz hi
      have hnt : ¬ tst x (sAt T).toNatClampNeg := fun q => c2 (by rw [opA_trap, if_pos ⟨by omega, q⟩])
      have e1 : opA (zOp T (pno x o n)) = opA T := by rw [opA_trap, if_neg (fun q => hnt q.2), ← ho]; rfl
      have hst : ¬ stk T := by
        intro q
        apply c3
        rcases q with q | q
        · exact Or.inl ⟨by rw [e1]; exact q.1, q.2⟩
        · exact Or.inr ⟨by rw [e1]; exact q.1, q.2⟩
      have hv : liv T := ⟨c0, hi, hst⟩
      have hrc : ¬ rc T = true := fun q => hnt (ht q hi)
      have hbk : ¬ ((sBk T >>> (sAt T &&& 31)) &&& 1) ≠ 0 := by
        intro q
        apply hnt
        rw [hk, e] at q
        rw [ec]
        exact hb j hjn q
      have hl : look T (rc T) d = 0 := look0 c0 hi hst (fun q => hrc q.2) (fun q => hbk q.2) (by omega)
      obtain ⟨hj2, ht2⟩ := hJ T hg hz hj hrc hv
      obtain ⟨i, U, a1, a2, a3, a4⟩ := ih (d + 1) (stp T) (by omega) (by omega) (gd_stp hg hv) (noT_stp hT) (by rw [stp_op]; exact ho) (by rw [stp_sz]; exact hz) (by rw [stp_bk]; exact hk) hj2 ht2
      refine ⟨i + 1, U, by omega, ?_, ?_, a4⟩
      · rw [rsm, if_pos hc, stp_zOp e1, a2]
      · rw [goF, if_pos hl, a3, show k + 1 + 1 - (i + 1) = k + 1 - i by omega, show d + (i + 1) = d + 1 + i by omega]
    · exact ⟨0, T, Nat.zero_le _, by rw [rsm, if_neg hc], rfl, hg, hT, ho, hz, hk, hj⟩
theorem hid_ok {x : Int32} {o hd : Fn} {n : Nat} (hn : n ≤ 20) (ho : ∀ j, vp_nar .byte (o j) = o j) : ∀ j, j < n → tst (pnt x 0 n) j → vp_nar .byte (pnh x o hd n j) = pnh x o hd n j := by
  intro j hj ht
  rw [pnh_c, if_pos ⟨hj, ((pnt_c x n hn j (by omega)).mp ht).2⟩]
  exact ho j
theorem gd_b8 {S : Sh} (h : gd S) : ∀ j, vp_nar .byte (sOp S j) = sOp S j := fun j => b8w (h.2.1 j).2.1 (h.2.1 j).2.2.1
/-- the state behind plant, a run of the target, lift -/
theorem lift_S {T : Sh} {E : XE} {x : Int32} {o : Fn} {n : Nat} (hn : n ≤ 20) (hp : eP E = 0) (ho : sOp T = o) : zOp (zOp T (pno x o n)) (lfo (eP (wP (wH E (pnh x o (eH E) n)) (pnt x (eP E) n))) (eH (wP (wH E (pnh x o (eH E) n)) (pnt x (eP E) n))) (sOp (zOp T (pno x o n))) n) = T := by
  have e : lfo (eP (wP (wH E (pnh x o (eH E) n)) (pnt x (eP E) n))) (eH (wP (wH E (pnh x o (eH E) n)) (pnt x (eP E) n))) (sOp (zOp T (pno x o n))) n = lfo (pnt x (eP E) n) (pnh x o (eH E) n) (pno x o n) n := rfl
  rw [e, hp, lift_back hn, ← ho]; rfl
theorem lift_E {E : XE} {hd : Fn} {pl : Int32} (hp : eP E = 0) : wP (wP (wH E hd) pl) 0 = wH E hd := by
  obtain ⟨e0, e1, e2⟩ := E
  change e1 = 0 at hp
  subst hp; rfl
theorem lift_h {E : XE} {x : Int32} {o : Fn} {n : Nat} (hn : n ≤ 20) (hp : eP E = 0) (ho : ∀ j, vp_nar .byte (o j) = o j) : ∀ j, j < n → tst (eP (wP (wH E (pnh x o (eH E) n)) (pnt x (eP E) n))) j → vp_nar .byte (eH (wP (wH E (pnh x o (eH E) n)) (pnt x (eP E) n)) j) = eH (wP (wH E (pnh x o (eH E) n)) (pnt x (eP E) n)) j := by
  intro j hj ht
  have ht : tst (pnt x (eP E) n) j := ht
  rw [hp] at ht
  exact hid_ok hn ho j hj ht
theorem look_0 {S : Sh} {rc : Bool} {d : Nat} (h : look S rc d = 0) : liv S ∧ ¬ (0 < d ∧ rc = true) ∧ d < 150 := by
  unfold look at h
  by_cases h0 : ¬ sOv S = 0
  · rw [if_pos h0] at h; exact absurd h (by decide)
  rw [if_neg h0] at h
  by_cases h1 : ¬ ins S (sAt S)
  · rw [if_pos h1] at h; exact absurd h (by decide)
  rw [if_neg h1] at h
  by_cases h2 : stk S
  · rw [if_pos h2] at h; exact absurd h (by decide)
  rw [if_neg h2] at h
  by_cases h3 : 0 < d ∧ rc = true
  · rw [if_pos h3] at h; exact absurd h (by decide)
  rw [if_neg h3] at h
  by_cases h4 : 0 < d ∧ ¬ ((sBk S >>> (sAt S &&& 31)) &&& 1) = 0
  · rw [if_pos h4] at h; exact absurd h (by decide)
  rw [if_neg h4] at h
  by_cases h5 : d < 150
  · exact ⟨⟨Decidable.not_not.mp h0, Decidable.not_not.mp h1, h2⟩, h3, h5⟩
  · rw [if_neg h5] at h; exact absurd h (by decide)
theorem look_d0 (S : Sh) (rc rc' : Bool) : look S rc 0 = look S rc' 0 := by
  simp [look]
theorem goF_end {rc : Sh → Bool} {n d : Nat} {S : Sh} (hn : 0 < n) (h : ¬ look S (rc S) d = 0) : goF rc n d S = (look S (rc S) d, S) := by
  obtain ⟨k, rfl⟩ : ∃ k, n = k + 1 := ⟨n - 1, by omega⟩
  rw [goF, if_neg h]
theorem goF_on {rc : Sh → Bool} {n d : Nat} {S : Sh} (hn : 0 < n) (h : look S (rc S) d = 0) : goF rc n d S = goF rc (n - 1) (d + 1) (stp S) := by
  obtain ⟨k, rfl⟩ : ∃ k, n = k + 1 := ⟨n - 1, by omega⟩
  rw [goF, if_pos h]; rfl
theorem run_irr {rc rc' : Sh → Bool} {S : Sh} (h : ¬ liv S) : runF rc S = runF rc' S := by
  have h1 : ¬ look S (rc S) 0 = 0 := fun q => h (look_0 q).1
  have h2 : ¬ look S (rc' S) 0 = 0 := fun q => h (look_0 q).1
  unfold runF
  rw [goF_end (by omega) h1, goF_end (by omega) h2, look_d0 S (rc S) (rc' S)]
theorem run_w {rc : Sh → Bool} {S : Sh} (h : ¬ sWy S < 4) : runF rc S = (sWy S, S) := by rw [runF, if_pos h]
theorem run_g {rc : Sh → Bool} {S T : Sh} {w : Int32} (h : sWy S < 4) (hg : goF rc 151 0 S = (w, T)) : runF rc S = (w, zWy T w) := by rw [runF, if_neg (fun q => q h), hg]
theorem and3 : ∀ x : Int32, vp_in x 4 → x &&& 3 = x := by
  intro x hx
  obtain ⟨j, hj, rfl⟩ := vp_in_of hx (by omega)
  exact (by decide : ∀ j : Nat, j < 4 → nI j &&& 3 = nI j) j hj
theorem mrk_T (mark : Int32) (S : Sh) : mrk (fun _ => true) mark S := ⟨fun _ => True, fun _ => trivial, fun T _ _ _ h _ => absurd rfl h⟩
theorem mrk_F (mark : Int32) (S : Sh) : mrk (fun _ => false) mark S := ⟨fun _ => True, fun _ => trivial, fun T _ _ _ _ _ => ⟨trivial, fun h => absurd (show false = true from h) (by decide)⟩⟩
theorem ins_stp {S T : Sh} {q : Int32} (h : sSz T = sSz S) (hi : ins (stp T) q) : ins S q := by
  intro k
  apply hi
  rcases k with k | k
  · exact Or.inl k
  · exact Or.inr (by rw [stp_sz, h]; exact k)
theorem mrk_P {n : Nat} {S : Sh} (hn : n ≤ 20) (hz : sSz S = nI n) (rc : Sh → Bool) (q : Int32) (hrc : ∀ T, rc T = true → sAt T = q) : mrk rc (bitF S q) S := by
  refine ⟨fun _ => True, fun _ => trivial, fun T _ hs _ _ _ => ⟨trivial, fun h hi => ?_⟩⟩
  rw [hrc _ h] at hi ⊢
  exact tst_bitF hn hz (ins_stp hs hi)
theorem cry_rt {op a b : Int32} {S : Sh} {j : Nat} (h : ¬ (sLv S).toNatClampNeg = j) : sRt (cry op a b S) j = sRt S j := by
  refine op_cases (P := fun op => sRt (cry op a b S) j = sRt S j) op ?_ ?_ ?_ ?_ ?_ ?_ ?_
  · intro h
    rw [cry_w h]
    show sRt (wrk op a b S) j = _
    rw [wrk_rt]
  · rw [cry_5]; rfl
  · rw [cry_6]; rfl
  · rw [cry_7]
    show upd (sRt S) (sLv S).toNatClampNeg (sAt S + 1) j = _
    rw [pk_un (fun e => h e.symm)]
  · rw [cry_8]; rfl
  · rw [cry_9]; rfl
  · intro h4 h5 h6 h7 h8 h9
    rw [cry_x h4 h5 h6 h7 h8 h9]; rfl
theorem lv_nI {T : Sh} (hg : gd T) : ∃ j : Nat, j ≤ 6 ∧ sLv T = nI j :=
  nI_of2 e_6 hg.2.2.1 (by have h := hg.2.2.2.1; rw [i_lt] at h; rw [i_le]; omega)
/-- the mark of stepOut: where the frame returns to -/
theorem mrk_O {n : Nat} {S : Sh} (hn : n ≤ 20) (hz : sSz S = nI n) (hg : gd S) (mark : Int32) (hm : ¬ sLv S ≤ 0 → mark = bitF S (sRt S (sLv S - 1).toNatClampNeg)) : mrk (fun T => decide (sLv T < sLv S)) mark S := by
  obtain ⟨v, hv6, ev⟩ := lv_nI hg
  have key : ∀ T : Sh, gd T → sSz T = sSz S → (0 < v → sRt T (v - 1) = sRt S (v - 1)) → ¬ sLv T < sLv S → liv T → (0 < v → sRt (stp T) (v - 1) = sRt S (v - 1)) ∧ (sLv (stp T) < sLv S → ins (stp T) (sAt (stp T)) → tst mark (sAt (stp T)).toNatClampNeg) := by
    intro T hgT hs hJ hn2 hl
    obtain ⟨t, ht6, et⟩ := lv_nI hgT
    have hlv : sLv (stp T) = if opA T = 7 then sLv T + 1 else if opA T = 8 then sLv T - 1 else sLv T := cry_lv _ _ _ T
    rw [et, ev, nI_ltI (by omega) (by omega)] at hn2
    constructor
    · intro h0
      have e0 : sRt (stp T) (v - 1) = sRt (cry (opA T) (asA T) (bsA T) T) (v - 1) := rfl
      rw [e0, cry_rt (by rw [et, nI_clamp (by omega)]; omega)]
      exact hJ h0
    · intro h hi
      rw [hlv, et, ev] at h
      by_cases h7 : opA T = 7
      · rw [if_pos h7, nI_1, nI_ltI (by omega) (by omega)] at h
        omega
      rw [if_neg h7] at h
      by_cases h8 : opA T = 8
      · have ht0 : t ≠ 0 := fun e => hl.2.2 (Or.inr ⟨h8, by rw [et, e]; rfl⟩)
        obtain ⟨t1, rfl⟩ : ∃ k, t = k + 1 := ⟨t - 1, by omega⟩
        rw [if_pos h8, nI_pred, nI_ltI (by omega) (by omega)] at h
        have hvt : v = t1 + 1 := by omega
        subst hvt
        have ea : sAt (stp T) = sRt S t1 := by
          have e0 : sAt (stp T) = sAt (cry (opA T) (asA T) (bsA T) T) := rfl
          have e1 : sAt (zAt (zLv T (sLv T - 1)) (sRt T (sLv T - 1).toNatClampNeg)) = sRt T (sLv T - 1).toNatClampNeg := rfl
          rw [e0, h8, cry_8, e1, et, nI_pred, nI_clamp (by omega)]
          exact hJ (by omega)
        have em : mark = bitF S (sRt S t1) := by
          rw [hm (by rw [ev, i_le, nI_toInt (by omega), e_0]; omega), ev, nI_pred, nI_clamp (by omega)]
        rw [ea] at hi ⊢
        rw [em]
        exact tst_bitF hn hz (ins_stp hs hi)
      · rw [if_neg h8, nI_ltI (by omega) (by omega)] at h
        omega
  refine ⟨fun T => ¬ sLv T < sLv S → 0 < v → sRt T (v - 1) = sRt S (v - 1), ?_, ?_⟩
  · intro hl _
    exact (key S hg rfl (fun _ => rfl) (by rw [i_lt]; omega) hl).1
  · intro T hgT hs hJ hr hl
    have hr : ¬ sLv T < sLv S := fun q => hr (decide_eq_true q)
    obtain ⟨k1, k2⟩ := key T hgT hs (hJ hr) hr hl
    exact ⟨fun _ => k1, fun q => k2 (of_decide_eq_true q)⟩
theorem rcX_1 (q d : Int32) : rcX 1 q d = (fun _ => true) := by
  funext T; simp [rcX]
theorem rcX_0 (q d : Int32) : rcX 0 q d = (fun _ => false) := by
  funext T; simp [rcX]
theorem rcX_2 (q d : Int32) : rcX 2 q d = (fun T => decide (sAt T = q)) := by
  funext T; simp [rcX]
theorem rcX_3 (q d : Int32) : rcX 3 q d = (fun T => decide (sAt T = q ∧ sLv T = d)) := by
  funext T; simp [rcX]
theorem rcX_4 (q d : Int32) : rcX 4 q d = (fun T => decide (sLv T < d)) := by
  funext T; simp [rcX]
theorem rcM_0 (q d : Int32) : rcM 0 q d = (fun _ => true) := by
  funext T; simp [rcM]
theorem rcM_1 (q d : Int32) : rcM 1 q d = (fun T => decide (sAt T = q)) := by
  funext T; simp [rcM]
theorem rcM_2 (q d : Int32) : rcM 2 q d = (fun T => decide (sLv T < d)) := by
  funext T; simp [rcM]
theorem rcM_3 (q d : Int32) : rcM 3 q d = (fun T => decide (sAt T = q ∧ sLv T = d)) := by
  funext T; simp [rcM]
theorem rcM_4 (q d : Int32) : rcM 4 q d = (fun _ => false) := by
  funext T; simp [rcM]
theorem goOver_y {S : Sh} (hi : ins S (sAt S)) (ho : opA S = 7) : goOver S = runF (fun T => decide (sAt T = sAt S + 1 ∧ sLv T = sLv S)) S := by
  unfold goOver
  by_cases h6 : 6 ≤ sLv S
  · rw [if_neg (fun q => q.2.2 h6)]
    exact run_irr (fun q => q.2.2 (Or.inl ⟨ho, h6⟩))
  · rw [if_pos ⟨hi, ho, h6⟩]
theorem goOver_c {S : Sh} {r : Int32} {u1 : Sh} {u2 : XE} (hi : ins S (sAt S)) (ho : opA S = 7) (h : r = (runF (fun T => decide (sAt T = sAt S + 1 ∧ sLv T = sLv S)) S).1 ∧ u1 = (runF (fun T => decide (sAt T = sAt S + 1 ∧ sLv T = sLv S)) S).2 ∧ eP u2 = 0) : r = (goOver S).1 ∧ u1 = (goOver S).2 ∧ eP u2 = 0 := by
  rw [goOver_y hi ho]; exact h
theorem goOver_n {S : Sh} {r : Int32} {u1 : Sh} {u2 : XE} (hn : ¬ (ins S (sAt S) ∧ opA S = 7 ∧ ¬ 6 ≤ sLv S)) (h : r = (runF (fun _ => true) S).1 ∧ u1 = (runF (fun _ => true) S).2 ∧ eP u2 = 0) : r = (goOver S).1 ∧ u1 = (goOver S).2 ∧ eP u2 = 0 := by
  rw [goOver, if_neg hn]; exact h
theorem cr0 {op a b : Int32} {S : Sh} (h : op = 0) : cry op a b S = zAt (zRg S (upd (sRg S) a.toNatClampNeg b)) (sAt S + 1) := by
  subst h; rw [cry_w (by decide), wrk, if_pos rfl]
theorem cr1 {op a b : Int32} {S : Sh} (h : op = 1) : cry op a b S = zAt (zRg S (upd (sRg S) a.toNatClampNeg (sRg S a.toNatClampNeg + sRg S b.toNatClampNeg))) (sAt S + 1) := by
  subst h; rw [cry_w (by decide), wrk, if_neg (by decide), if_pos rfl]
theorem cr2 {op a b : Int32} {S : Sh} (h : op = 2) : cry op a b S = zAt (zRg S (upd (sRg S) a.toNatClampNeg (sRg S a.toNatClampNeg - sRg S b.toNatClampNeg))) (sAt S + 1) := by
  subst h; rw [cry_w (by decide), wrk, if_neg (by decide), if_neg (by decide), if_pos rfl]
theorem cr3 {op a b : Int32} {S : Sh} (h : op = 3) : cry op a b S = zAt (zRg S (upd (sRg S) a.toNatClampNeg (sMm S (sRg S b.toNatClampNeg &&& 7).toNatClampNeg))) (sAt S + 1) := by
  subst h; rw [cry_w (by decide), wrk, if_neg (by decide), if_neg (by decide), if_neg (by decide), if_pos rfl]
theorem cr4 {op a b : Int32} {S : Sh} (h : op = 4) : cry op a b S = zAt (zMm S (upd (sMm S) (sRg S b.toNatClampNeg &&& 7).toNatClampNeg (sRg S a.toNatClampNeg))) (sAt S + 1) := by
  subst h; rw [cry_w (by decide), wrk, if_neg (by decide), if_neg (by decide), if_neg (by decide), if_neg (by decide)]
theorem cr5 {op a b : Int32} {S : Sh} (h : op = 5) : cry op a b S = zAt S (if sRg S a.toNatClampNeg = 0 then b else sAt S + 1) := by subst h; exact cry_5
theorem cr6 {op a b : Int32} {S : Sh} (h : op = 6) : cry op a b S = zAt S b := by subst h; exact cry_6
theorem cr7 {op a b : Int32} {S : Sh} (h : op = 7) : cry op a b S = zAt (zLv (zRt S (upd (sRt S) (sLv S).toNatClampNeg (sAt S + 1))) (sLv S + 1)) b := by subst h; exact cry_7
theorem cr8 {op a b : Int32} {S : Sh} (h : op = 8) : cry op a b S = zAt (zLv S (sLv S - 1)) (sRt S (sLv S - 1).toNatClampNeg) := by subst h; exact cry_8
theorem cr9 {op a b : Int32} {S : Sh} (h : op = 9) : cry op a b S = zAt S (sRg S a.toNatClampNeg) := by subst h; exact cry_9
theorem cr10 {op a b : Int32} {S : Sh} (h : op = 10) : cry op a b S = zOv S 1 := by
  subst h; exact cry_x (by decide) (by decide) (by decide) (by decide) (by decide) (by decide)
theorem op10 {x : Int32} (h0 : ¬ x < 0) (h10 : ¬ 10 < x) (n0 : ¬ x = 0) (n1 : ¬ x = 1) (n2 : ¬ x = 2) (n3 : ¬ x = 3) (n4 : ¬ x = 4) (n5 : ¬ x = 5) (n6 : ¬ x = 6) (n7 : ¬ x = 7) (n8 : ¬ x = 8) (n9 : ¬ x = 9) : ¬ ¬ x = 10 := by
  intro n10
  obtain ⟨j, hj, rfl⟩ := nI_of2 (M := 10) (n := 10) e_10 h0 (by rw [i_lt] at h10; rw [i_le]; omega)
  have : j = 0 ∨ j = 1 ∨ j = 2 ∨ j = 3 ∨ j = 4 ∨ j = 5 ∨ j = 6 ∨ j = 7 ∨ j = 8 ∨ j = 9 ∨ j = 10 := by omega
  rcases this with rfl | rfl | rfl | rfl | rfl | rfl | rfl | rfl | rfl | rfl | rfl
  · exact n0 rfl
  · exact n1 rfl
  · exact n2 rfl
  · exact n3 rfl
  · exact n4 rfl
  · exact n5 rfl
  · exact n6 rfl
  · exact n7 rfl
  · exact n8 rfl
  · exact n9 rfl
  · exact n10 rfl
theorem lt20 {x : Int32} (h : vp_in x 20) : ¬ 20 ≤ x := by
  rw [vp_in_iff] at h; rw [i_le, e_20]; omega
theorem and_1 (x : Int32) : x &&& 1 = 0 ∨ x &&& 1 = 1 := by
  obtain ⟨j, hj, e⟩ := pk_andE x (m := 1) 1 rfl
  rw [e]
  have : j = 0 ∨ j = 1 := by omega
  rcases this with rfl | rfl
  · exact Or.inl rfl
  · exact Or.inr rfl
theorem bit_n1 {x : Int32} (h : ¬ x &&& 1 = 1) : x &&& 1 = 0 := (and_1 x).resolve_right h
theorem bit_1 {x : Int32} (h : x &&& 1 = 1) : ¬ x &&& 1 = 0 := fun q => absurd (h.symm.trans q) (by decide)
theorem here_7 {S : Sh} (h : (if ins S (sAt S) then opA S else -1) = 7) : ins S (sAt S) ∧ opA S = 7 := by
  by_cases hi : ins S (sAt S)
  · rw [if_pos hi] at h; exact ⟨hi, h⟩
  · rw [if_neg hi] at h; exact absurd h (by decide)
end
section
/-! CONTRACTS of the debugger: the loops plant, lift, resume -/
set_option maxHeartbeats 4000000 in
set_option maxRecDepth 100000 in
/-- plant(set) -/
theorem met_x_plant {l : Launch} {D : va_G} {h : Nat} {a : Nat → Nat} {ca : Nat → ClassId} {sz : Nat} {S : Sh} {E : XE} (x1 : Int32) (hg : gd S) {n : Nat} (hn : n ≤ 20) (hz : sSz S = nI n) : Met l yX0_plant (ws_ yX0_plant cX0_plant 3 none) (rmL 0) (xPc D h a ca [.int x1] sz S E) (xQv D h a ca sz S E (fun u => u = (zOp S (pno x1 (sOp S) n), wP (wH E (pnh x1 (sOp S) (eH E) n)) (pnt x1 (eP E) n)))) 0 0 (xA h a ca S E sz) := by
  refine x_enter (by decide) (Nat.le_of_ble_eq_true rfl) rfl ?_
  intro p e s m below meth c F hr hlk I ls hl
  have hx := F.1
  have hb := F.2.1
  have hl : lv_has ls 3 [(0, .ref h), (1, .int x1)] := hl
  have loop : ∀ (k i : Nat) (H : Heap) (locs : List Loc) (ls : Array Slot), i + k = n → xI D h a ca (xA h a ca S E sz) s H locs (zOp S (pno x1 (sOp S) i)) (wP (wH E (pnh x1 (sOp S) (eH E) i)) (pnt x1 (eP E) i)) → lv_has ls 3 [(2, .int (nI i)), (0, .ref h), (1, .int x1)] → W p l e (rmL 0) s m (Value.ref h :: [.int x1]).toArray below meth c H locs 0 0 (MQ below (xQv D h a ca sz S E (fun u => u = (zOp S (pno x1 (sOp S) n), wP (wH E (pnh x1 (sOp S) (eH E) n)) (pnt x1 (eP E) n)))) (Value.ref h :: [.int x1]).toArray s 0 0 (xA h a ca S E sz)) (F0 m 2 ls []) := by
    intro k
    induction k with
    | zero =>
      intro i H locs ls hk I hl
      have hin : i = n := by omega
      subst hin
      refine lv_iload_n hx hb dX0_plant_2 rfl (lv_at hl 0 rfl) ?_
      refine lv_aload_n hx hb dX0_plant_3 rfl (lv_at hl 1 rfl) ?_
      refine x_g5 F I (v := nI i) hz dX0_plant_4 ?_
      refine lv_icmp_ge (tgt := 56) hx hb dX0_plant_7 (by decide) (fun c7 => ?_) (fun c7 => ?_)
      · exact x_rv F hr hlk I rfl dX0_plant_56
      · exact absurd (Int32.le_refl _) c7
    | succ k ih =>
      intro i H locs ls hk I hl
      have hlt : i < n := by omega
      have hin : vp_in (nI i) 20 := vp_in_nI (by omega) (by omega)
      have hcl : (nI i).toNatClampNeg = i := nI_clamp (by omega)
      have hop : pno x1 (sOp S) i i = sOp S i := pno_i x1 (sOp S) i i (Nat.le_refl _)
      refine lv_iload_n hx hb dX0_plant_2 rfl (lv_at hl 0 rfl) ?_
      refine lv_aload_n hx hb dX0_plant_3 rfl (lv_at hl 1 rfl) ?_
      refine x_g5 F I (v := nI n) hz dX0_plant_4 ?_
      refine lv_icmp_ge (tgt := 56) hx hb dX0_plant_7 (by decide) (fun c7 => ?_) (fun c7 => ?_)
      · exact absurd c7 (nI_ge hlt (by omega))
      · refine lv_iload_n hx hb dX0_plant_10 rfl (lv_at hl 2 rfl) ?_
        refine lv_iload_n hx hb dX0_plant_11 rfl (lv_at hl 0 rfl) ?_
        refine lv_ishr hx hb dX0_plant_12 ?_
        refine lv_iconst (v := 1) hx hb dX0_plant_13 (by decide) ?_
        refine lv_iand hx hb dX0_plant_14 ?_
        refine lv_if_eq (tgt := 50) hx hb dX0_plant_15 (by decide) (fun c15 => ?_) (fun c15 => ?_)
        · refine lv_iinc (v := nI (i + 1)) (lv' := [(2, .int (nI (i + 1))), (0, .ref h), (1, .int x1)]) hx hb dX0_plant_50 hl (k := 0) rfl (nI_1 i) (by decide) rfl (fun ls hl => ?_)
          refine lv_goto (tgt := 2) hx hb dX0_plant_53 (by decide) ?_
          have e1 : ¬ tst x1 i := fun q => q c15
          refine ih (i + 1) _ _ _ (by omega) ?_ (lv_sub hl [0, 1, 2] rfl)
          rw [pno, pnh, pnt, if_neg e1, if_neg e1, if_neg e1]; exact I
        · refine lv_aload_n hx hb dX0_plant_18 rfl (lv_at hl 1 rfl) ?_
          refine x_g3 F I dX0_plant_19 ?_
          refine lv_iload_n hx hb dX0_plant_22 rfl (lv_at hl 0 rfl) ?_
          refine lv_aload_n hx hb dX0_plant_23 rfl (lv_at hl 1 rfl) ?_
          refine x_g0 F I dX0_plant_24 ?_
          refine lv_iload_n hx hb dX0_plant_27 rfl (lv_at hl 0 rfl) ?_
          refine x_ld0 F I (v := sOp (zOp S (pno x1 (sOp S) i)) (nI i).toNatClampNeg) hin rfl dX0_plant_28 ?_
          refine x_st3 F I (v := sOp (zOp S (pno x1 (sOp S) i)) (nI i).toNatClampNeg) (f := eH (wP (wH E (pnh x1 (sOp S) (eH E) i)) (pnt x1 (eP E) i))) rfl hin (by rw [hcl]; show vp_nar .byte (pno x1 (sOp S) i i) = pno x1 (sOp S) i i; rw [hop]; exact b8w (hg.2.1 i).2.1 (hg.2.1 i).2.2.1) dX0_plant_29 (fun H locs I => ?_)
          refine lv_aload_n hx hb dX0_plant_30 rfl (lv_at hl 1 rfl) ?_
          refine x_g0 F I dX0_plant_31 ?_
          refine lv_iload_n hx hb dX0_plant_34 rfl (lv_at hl 0 rfl) ?_
          refine lv_bipush (v := 11) hx hb dX0_plant_35 (by decide) ?_
          refine x_st0 F I (v := 11) (f := sOp (zOp S (pno x1 (sOp S) i))) rfl hin rfl dX0_plant_37 (fun H locs I => ?_)
          refine lv_aload_n hx hb dX0_plant_38 rfl (lv_at hl 1 rfl) ?_
          refine lv_dup hx hb dX0_plant_39 rfl ?_
          refine x_g4 F I (v := eP (wP (wH E (pnh x1 (sOp S) (eH E) i)) (pnt x1 (eP E) i))) rfl dX0_plant_40 ?_
          refine lv_iconst (v := 1) hx hb dX0_plant_43 (by decide) ?_
          refine lv_iload_n hx hb dX0_plant_44 rfl (lv_at hl 0 rfl) ?_
          refine lv_ishl hx hb dX0_plant_45 ?_
          refine lv_ior hx hb dX0_plant_46 ?_
          refine x_p4 F I dX0_plant_47 (fun H locs I => ?_)
          refine lv_iinc (v := nI (i + 1)) (lv' := [(2, .int (nI (i + 1))), (0, .ref h), (1, .int x1)]) hx hb dX0_plant_50 hl (k := 0) rfl (nI_1 i) (by decide) rfl (fun ls hl => ?_)
          refine lv_goto (tgt := 2) hx hb dX0_plant_53 (by decide) ?_
          refine ih (i + 1) _ _ _ (by omega) ?_ (lv_sub hl [0, 1, 2] rfl)
          rw [hcl] at I
          rw [pno, pnh, pnt, if_pos c15, if_pos c15, if_pos c15]; exact I
  refine lv_iconst (v := 0) hx hb dX0_plant_0 (by decide) ?_
  refine lv_istore_n (lv' := [(2, .int 0), (0, .ref h), (1, .int x1)]) hx hb dX0_plant_1 rfl hl (by decide) rfl (fun ls hl => ?_)
  exact loop n 0 _ _ _ (by omega) I hl
set_option maxHeartbeats 4000000 in
set_option maxRecDepth 100000 in
/-- lift() -/
theorem met_x_lift {l : Launch} {D : va_G} {h : Nat} {a : Nat → Nat} {ca : Nat → ClassId} {sz : Nat} {S : Sh} {E : XE} {n : Nat} (hn : n ≤ 20) (hz : sSz S = nI n) (hh : ∀ j, j < n → tst (eP E) j → vp_nar .byte (eH E j) = eH E j) : Met l yX0_lift (ws_ yX0_lift cX0_lift 2 none) (rmL 0) (xPc D h a ca [] sz S E) (xQv D h a ca sz S E (fun u => u = (zOp S (lfo (eP E) (eH E) (sOp S) n), wP E 0))) 0 0 (xA h a ca S E sz) := by
  refine x_enter (by decide) (Nat.le_of_ble_eq_true rfl) rfl ?_
  intro p e s m below meth c F hr hlk I ls hl
  have hx := F.1
  have hb := F.2.1
  have hl : lv_has ls 2 [(0, .ref h)] := hl
  have loop : ∀ (k i : Nat) (H : Heap) (locs : List Loc) (ls : Array Slot), i + k = n → xI D h a ca (xA h a ca S E sz) s H locs (zOp S (lfo (eP E) (eH E) (sOp S) i)) E → lv_has ls 2 [(1, .int (nI i)), (0, .ref h)] → W p l e (rmL 0) s m (Value.ref h :: []).toArray below meth c H locs 0 0 (MQ below (xQv D h a ca sz S E (fun u => u = (zOp S (lfo (eP E) (eH E) (sOp S) n), wP E 0))) (Value.ref h :: []).toArray s 0 0 (xA h a ca S E sz)) (F0 m 2 ls []) := by
    intro k
    induction k with
    | zero =>
      intro i H locs ls hk I hl
      have hin : i = n := by omega
      subst hin
      refine lv_iload_n hx hb dX0_lift_2 rfl (lv_at hl 0 rfl) ?_
      refine lv_aload_n hx hb dX0_lift_3 rfl (lv_at hl 1 rfl) ?_
      refine x_g5 F I (v := nI i) hz dX0_lift_4 ?_
      refine lv_icmp_ge (tgt := 39) hx hb dX0_lift_7 (by decide) (fun c7 => ?_) (fun c7 => ?_)
      · refine lv_aload_n hx hb dX0_lift_39 rfl (lv_at hl 1 rfl) ?_
        refine lv_iconst (v := 0) hx hb dX0_lift_40 (by decide) ?_
        refine x_p4 F I dX0_lift_41 (fun H locs I => ?_)
        exact x_rv F hr hlk I rfl dX0_lift_44
      · exact absurd (Int32.le_refl _) c7
    | succ k ih =>
      intro i H locs ls hk I hl
      have hlt : i < n := by omega
      have hin : vp_in (nI i) 20 := vp_in_nI (by omega) (by omega)
      have hcl : (nI i).toNatClampNeg = i := nI_clamp (by omega)
      refine lv_iload_n hx hb dX0_lift_2 rfl (lv_at hl 0 rfl) ?_
      refine lv_aload_n hx hb dX0_lift_3 rfl (lv_at hl 1 rfl) ?_
      refine x_g5 F I (v := nI n) hz dX0_lift_4 ?_
      refine lv_icmp_ge (tgt := 39) hx hb dX0_lift_7 (by decide) (fun c7 => ?_) (fun c7 => ?_)
      · exact absurd c7 (nI_ge hlt (by omega))
      · refine lv_aload_n hx hb dX0_lift_10 rfl (lv_at hl 1 rfl) ?_
        refine x_g4 F I (v := eP E) rfl dX0_lift_11 ?_
        refine lv_iload_n hx hb dX0_lift_14 rfl (lv_at hl 0 rfl) ?_
        refine lv_ishr hx hb dX0_lift_15 ?_
        refine lv_iconst (v := 1) hx hb dX0_lift_16 (by decide) ?_
        refine lv_iand hx hb dX0_lift_17 ?_
        refine lv_if_eq (tgt := 33) hx hb dX0_lift_18 (by decide) (fun c18 => ?_) (fun c18 => ?_)
        · refine lv_iinc (v := nI (i + 1)) (lv' := [(1, .int (nI (i + 1))), (0, .ref h)]) hx hb dX0_lift_33 hl (k := 0) rfl (nI_1 i) (by decide) rfl (fun ls hl => ?_)
          refine lv_goto (tgt := 2) hx hb dX0_lift_36 (by decide) ?_
          have e1 : ¬ tst (eP E) i := fun q => q c18
          refine ih (i + 1) _ _ _ (by omega) ?_ (lv_sub hl [0, 1] rfl)
          rw [lfo, if_neg e1]; exact I
        · refine lv_aload_n hx hb dX0_lift_21 rfl (lv_at hl 1 rfl) ?_
          refine x_g0 F I dX0_lift_22 ?_
          refine lv_iload_n hx hb dX0_lift_25 rfl (lv_at hl 0 rfl) ?_
          refine lv_aload_n hx hb dX0_lift_26 rfl (lv_at hl 1 rfl) ?_
          refine x_g3 F I dX0_lift_27 ?_
          refine lv_iload_n hx hb dX0_lift_30 rfl (lv_at hl 0 rfl) ?_
          refine x_ld3 F I (v := eH E (nI i).toNatClampNeg) hin rfl dX0_lift_31 ?_
          refine x_st0 F I (v := eH E (nI i).toNatClampNeg) (f := sOp (zOp S (lfo (eP E) (eH E) (sOp S) i))) rfl hin (by rw [hcl]; exact hh i hlt c18) dX0_lift_32 (fun H locs I => ?_)
          refine lv_iinc (v := nI (i + 1)) (lv' := [(1, .int (nI (i + 1))), (0, .ref h)]) hx hb dX0_lift_33 hl (k := 0) rfl (nI_1 i) (by decide) rfl (fun ls hl => ?_)
          refine lv_goto (tgt := 2) hx hb dX0_lift_36 (by decide) ?_
          refine ih (i + 1) _ _ _ (by omega) ?_ (lv_sub hl [0, 1] rfl)
          rw [hcl] at I
          rw [lfo, if_pos c18]; exact I
  refine lv_iconst (v := 0) hx hb dX0_lift_0 (by decide) ?_
  refine lv_istore_n (lv' := [(1, .int 0), (0, .ref h)]) hx hb dX0_lift_1 rfl hl (by decide) rfl (fun ls hl => ?_)
  exact loop n 0 _ _ _ (by omega) I hl
set_option maxHeartbeats 4000000 in
set_option maxRecDepth 100000 in
/-- resume(n) -/
theorem met_x_resume {l : Launch} {D : va_G} {h : Nat} {a : Nat → Nat} {ca : Nat → ClassId} {sz : Nat} {S : Sh} {E : XE} (n : Nat) (hg : gd S) (hn : n ≤ 150) : Met l yX0_resume (ws_ yX0_resume cX0_resume 4 (some .int)) (rmL 2) (xPc D h a ca [.int (nI n)] sz S E) (xQi D h a ca sz S E (fun r u => r = nI (rsm n S).1 ∧ u = ((rsm n S).2, E))) 0 0 (xA h a ca S E sz) := by
  refine x_enter (by decide) (Nat.le_of_ble_eq_true rfl) rfl ?_
  intro p e s m below meth c F hr hlk I ls hl
  have hx := F.1
  have hb := F.2.1
  have hl : lv_has ls 4 [(0, .ref h), (1, .int (nI n))] := hl
  have loop : ∀ (k d : Nat) (T : Sh) (H : Heap) (locs : List Loc) (ls : Array Slot), d + k = n → rsm n S = (d + (rsm k T).1, (rsm k T).2) → gd T → xI D h a ca (xA h a ca S E sz) s H locs T E → lv_has ls 4 [(3, .int (nI d)), (2, .int (nI d)), (0, .ref h), (1, .int (nI n))] → W p l e (rmL 2) s m (Value.ref h :: [.int (nI n)]).toArray below meth c H locs 0 0 (MQ below (xQi D h a ca sz S E (fun r u => r = nI (rsm n S).1 ∧ u = ((rsm n S).2, E))) (Value.ref h :: [.int (nI n)]).toArray s 0 0 (xA h a ca S E sz)) (F0 m 4 ls []) := by
    intro k
    induction k with
    | zero =>
      intro d T H locs ls hk hrs hgT I hl
      have hdn : d = n := by omega
      subst hdn
      refine lv_iload_n hx hb dX0_resume_4 rfl (lv_at hl 0 rfl) ?_
      refine lv_iload_n hx hb dX0_resume_5 rfl (lv_at hl 3 rfl) ?_
      refine lv_icmp_ge (tgt := 73) hx hb dX0_resume_6 (by decide) (fun c6 => ?_) (fun c6 => ?_)
      · refine lv_iload_n hx hb dX0_resume_73 rfl (lv_at hl 1 rfl) ?_
        exact x_ri F hr hlk I ⟨by rw [hrs]; rfl, by rw [hrs]; rfl⟩ dX0_resume_74
      · exact absurd (Int32.le_refl _) c6
    | succ k ih =>
      intro d T H locs ls hk hrs hgT I hl
      have hlt : d < n := by omega
      refine lv_iload_n hx hb dX0_resume_4 rfl (lv_at hl 0 rfl) ?_
      refine lv_iload_n hx hb dX0_resume_5 rfl (lv_at hl 3 rfl) ?_
      refine lv_icmp_ge (tgt := 73) hx hb dX0_resume_6 (by decide) (fun c6 => ?_) (fun c6 => ?_)
      · exact absurd c6 (nI_ge hlt (by omega))
      · refine lv_aload_n hx hb dX0_resume_9 rfl (lv_at hl 2 rfl) ?_
        refine x_g11 F I (v := sOv T) rfl dX0_resume_10 ?_
        refine lv_if_ne (tgt := 73) hx hb dX0_resume_13 (by decide) (fun c13 => ?_) (fun c13 => ?_)
        · refine lv_iload_n hx hb dX0_resume_73 rfl (lv_at hl 1 rfl) ?_
          exact x_ri F hr hlk I ⟨by rw [hrs, rsm, if_neg (fun q => c13 q.1)]; rfl, by rw [hrs, rsm, if_neg (fun q => c13 q.1)]⟩ dX0_resume_74
        · refine lv_aload_n hx hb dX0_resume_16 rfl (lv_at hl 2 rfl) ?_
          refine lv_aload_n hx hb dX0_resume_17 rfl (lv_at hl 2 rfl) ?_
          refine x_g10 F I (v := sAt T) rfl dX0_resume_18 ?_
          refine x_cs F I (v := insF T (sAt T)) (S1 := T) (E1 := E) (As := [.int (sAt T)]) (rest := []) (fun sz => met_x_inside (sAt T)) (cw_x_inside F.2.2.2.2 ⟨by decide, by decide⟩) rfl rfl hl.1 (Nat.le_of_ble_eq_true rfl) dX0_resume_21 ⟨Nat.zero_le _, Nat.zero_le _⟩ (fun H locs I => ?_)
          refine lv_if_eq (tgt := 73) hx hb dX0_resume_24 (by decide) (fun c24 => ?_) (fun c24 => ?_)
          · refine lv_iload_n hx hb dX0_resume_73 rfl (lv_at hl 1 rfl) ?_
            exact x_ri F hr hlk I ⟨by rw [hrs, rsm, if_neg (fun q => insF_0.mp c24 q.2.1)]; rfl, by rw [hrs, rsm, if_neg (fun q => insF_0.mp c24 q.2.1)]⟩ dX0_resume_74
          · refine lv_aload_n hx hb dX0_resume_27 rfl (lv_at hl 2 rfl) ?_
            refine x_g0 F I dX0_resume_28 ?_
            refine lv_aload_n hx hb dX0_resume_31 rfl (lv_at hl 2 rfl) ?_
            refine x_g10 F I (v := sAt T) rfl dX0_resume_32 ?_
            refine x_ld0 F I (v := opA T) (gd_in hgT (insF_n c24)) rfl dX0_resume_35 ?_
            refine lv_bipush (v := 11) hx hb dX0_resume_36 (by decide) ?_
            refine lv_icmp_eq (tgt := 48) hx hb dX0_resume_38 (by decide) (fun c38 => ?_) (fun c38 => ?_)
            · refine lv_iload_n hx hb dX0_resume_48 rfl (lv_at hl 1 rfl) ?_
              exact x_ri F hr hlk I ⟨by rw [hrs, rsm, if_neg (fun q => q.2.2.1 c38)]; rfl, by rw [hrs, rsm, if_neg (fun q => q.2.2.1 c38)]⟩ dX0_resume_49
            · refine lv_aload_n hx hb dX0_resume_41 rfl (lv_at hl 2 rfl) ?_
              refine x_cs F I (v := stkF T) (S1 := T) (E1 := E) (As := []) (rest := []) (fun sz => met_x_stuck (gd_in hgT (insF_n c24))) (cw_x_stuck F.2.2.2.2 ⟨by decide, by decide⟩) rfl rfl hl.1 (Nat.le_of_ble_eq_true rfl) dX0_resume_42 ⟨Nat.zero_le _, Nat.zero_le _⟩ (fun H locs I => ?_)
              refine lv_if_eq (tgt := 50) hx hb dX0_resume_45 (by decide) (fun c45 => ?_) (fun c45 => ?_)
              · refine lv_aload_n hx hb dX0_resume_50 rfl (lv_at hl 2 rfl) ?_
                refine x_cz F I (S1 := (cry (opA T) (asA T) (bsA T) T)) (E1 := E) (As := []) (rest := []) (fun sz => met_x_carry hgT (insF_n c24) (stkF_0.mp c45)) (cw_x_carry F.2.2.2.2 ⟨by decide, by decide⟩) rfl rfl hl.1 (Nat.le_of_ble_eq_true rfl) dX0_resume_51 ⟨Nat.zero_le _, Nat.zero_le _⟩ (fun H locs I => ?_)
                refine lv_iinc (v := nI (d + 1)) (lv' := [(2, .int (nI (d + 1))), (3, .int (nI d)), (0, .ref h), (1, .int (nI n))]) hx hb dX0_resume_54 hl (k := 1) rfl (nI_1 d) (by decide) rfl (fun ls hl => ?_)
                refine lv_aload_n hx hb dX0_resume_57 rfl (lv_at hl 2 rfl) ?_
                refine lv_dup hx hb dX0_resume_58 rfl ?_
                refine x_g12 F I (v := sCt T) (cry_ct _ _ _ _) dX0_resume_59 ?_
                refine lv_iconst (v := 1) hx hb dX0_resume_62 (by decide) ?_
                refine lv_iadd hx hb dX0_resume_63 ?_
                refine x_p12 F I dX0_resume_64 (fun H locs I => ?_)
                refine lv_iinc (v := nI (d + 1)) (lv' := [(3, .int (nI (d + 1))), (2, .int (nI (d + 1))), (0, .ref h), (1, .int (nI n))]) hx hb dX0_resume_67 hl (k := 1) rfl (nI_1 d) (by decide) rfl (fun ls hl => ?_)
                refine lv_goto (tgt := 4) hx hb dX0_resume_70 (by decide) ?_
                have hlv : sOv T = 0 ∧ ins T (sAt T) ∧ ¬ opA T = 11 ∧ ¬ stk T := ⟨c13, insF_n c24, c38, stkF_0.mp c45⟩
                refine ih (d + 1) (stp T) _ _ _ (by omega) ?_ (gd_stp hgT ⟨c13, insF_n c24, stkF_0.mp c45⟩) I (lv_sub hl [0, 1, 2, 3] rfl)
                rw [hrs, rsm, if_pos hlv]
                simp only [Prod.mk.injEq, and_true]
                omega
              · refine lv_iload_n hx hb dX0_resume_48 rfl (lv_at hl 1 rfl) ?_
                exact x_ri F hr hlk I ⟨by rw [hrs, rsm, if_neg (fun q => q.2.2.2 (stkF_n c45))]; rfl, by rw [hrs, rsm, if_neg (fun q => q.2.2.2 (stkF_n c45))]⟩ dX0_resume_49
  refine lv_iconst (v := 0) hx hb dX0_resume_0 (by decide) ?_
  refine lv_istore_n (lv' := [(2, .int 0), (0, .ref h), (1, .int (nI n))]) hx hb dX0_resume_1 rfl hl (by decide) rfl (fun ls hl => ?_)
  refine lv_iconst (v := 0) hx hb dX0_resume_2 (by decide) ?_
  refine lv_istore_n (lv' := [(3, .int 0), (2, .int 0), (0, .ref h), (1, .int (nI n))]) hx hb dX0_resume_3 rfl hl (by decide) rfl (fun ls hl => ?_)
  exact loop n 0 S _ _ _ (by omega) (by simp) hg I hl
end
section
/-! CONTRACTS of the debugger: stepOff, run, the commands -/
set_option maxHeartbeats 4000000 in
set_option maxRecDepth 100000 in
/-- stepOff(): one instruction, among traps or by itself -/
theorem met_x_stepOff {l : Launch} {D : va_G} {h : Nat} {a : Nat → Nat} {ca : Nat → ClassId} {sz : Nat} {S : Sh} {E : XE} {n : Nat} (hn : n ≤ 20) (hz : sSz S = nI n) (hg : gd S) (hT : noT S) (hv : liv S) (hp : eP E = 0) : Met l yX0_stepOff (ws_ yX0_stepOff cX0_stepOff 3 (some .int)) (rmL 3) (xPc D h a ca [] sz S E) (xQi D h a ca sz S E (fun r u => r = 1 ∧ u.1 = stp S ∧ ∃ hd, u.2 = wH E hd)) 0 0 (xA h a ca S E sz) := by
  refine x_enter (by decide) (Nat.le_of_ble_eq_true rfl) rfl ?_
  intro p e s m below meth c F hr hlk I ls hl
  have hx := F.1
  have hb := F.2.1
  have hl : lv_has ls 3 [(0, .ref h)] := hl
  obtain ⟨j, hj, ej, ec⟩ := ins_nI hn hz hv.2.1
  have eat : nI (sAt S).toNatClampNeg = sAt S := by rw [ec, ej]
  refine lv_aload_n hx hb dX0_stepOff_0 rfl (lv_at hl 0 rfl) ?_
  refine x_cs F I (v := suc S) (S1 := S) (E1 := E) (As := []) (rest := []) (fun sz => met_x_successors hg hv.2.1) (cw_x_successors F.2.2.2.2 ⟨by decide, by decide⟩) rfl rfl hl.1 (Nat.le_of_ble_eq_true rfl) dX0_stepOff_1 ⟨Nat.zero_le _, Nat.zero_le _⟩ (fun H locs I => ?_)
  refine lv_istore_n (lv' := [(1, .int (suc S)), (0, .ref h)]) hx hb dX0_stepOff_4 rfl hl (by decide) rfl (fun ls hl => ?_)
  refine lv_iload_n hx hb dX0_stepOff_5 rfl (lv_at hl 0 rfl) ?_
  refine lv_aload_n hx hb dX0_stepOff_6 rfl (lv_at hl 1 rfl) ?_
  refine x_g10 F I (v := sAt S) rfl dX0_stepOff_7 ?_
  refine lv_ishr hx hb dX0_stepOff_10 ?_
  refine lv_iconst (v := 1) hx hb dX0_stepOff_11 (by decide) ?_
  refine lv_iand hx hb dX0_stepOff_12 ?_
  refine lv_if_eq (tgt := 22) hx hb dX0_stepOff_13 (by decide) (fun c13 => ?_) (fun c13 => ?_)
  · refine lv_aload_n hx hb dX0_stepOff_22 rfl (lv_at hl 1 rfl) ?_
    refine lv_iload_n hx hb dX0_stepOff_23 rfl (lv_at hl 0 rfl) ?_
    refine x_cz F I (S1 := (zOp S (pno (suc S) (sOp S) n))) (E1 := (wP (wH E (pnh (suc S) (sOp S) (eH E) n)) (pnt (suc S) (eP E) n))) (As := [.int (suc S)]) (rest := []) (fun sz => met_x_plant _ hg hn hz) (cw_x_plant F.2.2.2.2 ⟨by decide, by decide⟩) rfl rfl hl.1 (Nat.le_of_ble_eq_true rfl) dX0_stepOff_24 ⟨Nat.zero_le _, Nat.zero_le _⟩ (fun H locs I => ?_)
    have er := rsm_2 hn hz hg hT hv (fun q => q (by rw [eat]; exact c13))
    refine lv_aload_n hx hb dX0_stepOff_27 rfl (lv_at hl 1 rfl) ?_
    refine lv_iconst (v := 2) hx hb dX0_stepOff_28 (by decide) ?_
    refine x_cs F I (v := 1) (S1 := (zOp (stp S) (pno (suc S) (sOp S) n))) (E1 := (wP (wH E (pnh (suc S) (sOp S) (eH E) n)) (pnt (suc S) (eP E) n))) (As := [.int 2]) (rest := []) (fun sz => by have q := met_x_resume (l := l) (D := D) (h := h) (a := a) (ca := ca) (sz := sz) (E := (wP (wH E (pnh (suc S) (sOp S) (eH E) n)) (pnt (suc S) (eP E) n))) 2 (gd_trap hg (suc S) n) (by omega); rw [er] at q; exact q) (cw_x_resume F.2.2.2.2 ⟨by decide, by decide⟩) rfl rfl hl.1 (Nat.le_of_ble_eq_true rfl) dX0_stepOff_29 ⟨Nat.zero_le _, Nat.zero_le _⟩ (fun H locs I => ?_)
    refine lv_istore_n (lv' := [(2, .int 1), (1, .int (suc S)), (0, .ref h)]) hx hb dX0_stepOff_32 rfl hl (by decide) rfl (fun ls hl => ?_)
    refine lv_aload_n hx hb dX0_stepOff_33 rfl (lv_at hl 2 rfl) ?_
    refine x_cz F I (S1 := (stp S)) (E1 := (wH E (pnh (suc S) (sOp S) (eH E) n))) (As := []) (rest := []) (fun sz => by have q := met_x_lift (l := l) (D := D) (h := h) (a := a) (ca := ca) (sz := sz) (S := (zOp (stp S) (pno (suc S) (sOp S) n))) (E := (wP (wH E (pnh (suc S) (sOp S) (eH E) n)) (pnt (suc S) (eP E) n))) hn ((stp_sz S).trans hz) (lift_h hn hp (gd_b8 hg)); rw [lift_S hn hp (stp_op S), lift_E hp] at q; exact q) (cw_x_lift F.2.2.2.2 ⟨by decide, by decide⟩) rfl rfl hl.1 (Nat.le_of_ble_eq_true rfl) dX0_stepOff_34 ⟨Nat.zero_le _, Nat.zero_le _⟩ (fun H locs I => ?_)
    refine lv_iload_n hx hb dX0_stepOff_37 rfl (lv_at hl 0 rfl) ?_
    exact x_ri F hr hlk I ⟨rfl, rfl, _, rfl⟩ dX0_stepOff_38
  · refine lv_aload_n hx hb dX0_stepOff_16 rfl (lv_at hl 1 rfl) ?_
    refine lv_iconst (v := 1) hx hb dX0_stepOff_17 (by decide) ?_
    refine x_cs F I (v := nI (rsm 1 S).1) (S1 := (rsm 1 S).2) (E1 := E) (As := [.int 1]) (rest := []) (fun sz => met_x_resume 1 hg (by omega)) (cw_x_resume F.2.2.2.2 ⟨by decide, by decide⟩) rfl rfl hl.1 (Nat.le_of_ble_eq_true rfl) dX0_stepOff_18 ⟨Nat.zero_le _, Nat.zero_le _⟩ (fun H locs I => ?_)
    exact x_ri F hr hlk I ⟨by rw [rsm_1 hv hT]; rfl, by rw [rsm_1 hv hT], eH E, rfl⟩ dX0_stepOff_21
set_option maxHeartbeats 4000000 in
set_option maxRecDepth 100000 in
/-- run(mark): as the plain run goes -/
theorem met_x_run {l : Launch} {D : va_G} {h : Nat} {a : Nat → Nat} {ca : Nat → ClassId} {sz : Nat} {S : Sh} {E : XE} (x1 : Int32) {n : Nat} (hn : n ≤ 20) (hz : sSz S = nI n) (hg : gd S) (hT : noT S) (hp : eP E = 0) (hm : mrk (rcX (eA E) (eQ E) (eD E)) x1 S) : Met l yX0_run (ws_ yX0_run cX0_run 5 (some .int)) (rmL 4) (xPc D h a ca [.int x1] sz S E) (xQi D h a ca sz S E (fun r u => r = (runF (rcX (eA E) (eQ E) (eD E)) S).1 ∧ u.1 = (runF (rcX (eA E) (eQ E) (eD E)) S).2 ∧ eP u.2 = 0)) 0 0 (xA h a ca S E sz) := by
  refine x_enter (by decide) (Nat.le_of_ble_eq_true rfl) rfl ?_
  intro p e s m below meth c F hr hlk I ls hl
  have hx := F.1
  have hb := F.2.1
  have hl : lv_has ls 5 [(0, .ref h), (1, .int x1)] := hl
  obtain ⟨J, hJ0, hJ1⟩ := hm
  have loop : sWy S < 4 → ∀ (k rd d : Nat) (T : Sh) (hd : Fn) (H : Heap) (locs : List Loc) (ls : Array Slot), 151 - d ≤ k → d ≤ 150 → rd ≤ d → gd T → noT T → sSz T = nI n → goF (rcX (eA E) (eQ E) (eD E)) 151 0 S = goF (rcX (eA E) (eQ E) (eD E)) (151 - d) d T → (d = 0 ∧ T = S ∨ 1 ≤ d ∧ J T) → xI D h a ca (xA h a ca S E sz) s H locs T (wH E hd) → lv_has ls 5 [(4, .int (nI rd)), (3, .int (look T (rcX (eA E) (eQ E) (eD E) T) d)), (2, .int (nI d)), (0, .ref h), (1, .int x1)] → W p l e (rmL 4) s m (Value.ref h :: [.int x1]).toArray below meth c H locs 0 0 (MQ below (xQi D h a ca sz S E (fun r u => r = (runF (rcX (eA E) (eQ E) (eD E)) S).1 ∧ u.1 = (runF (rcX (eA E) (eQ E) (eD E)) S).2 ∧ eP u.2 = 0)) (Value.ref h :: [.int x1]).toArray s 0 0 (xA h a ca S E sz)) (F0 m 24 ls []) := by
    intro hw k
    induction k with
    | zero => intro rd d T hd H locs ls h1 h2; exact absurd h1 (by omega)
    | succ k ih =>
      intro rd d T hd H locs ls h1 h2 h3 hgT hTT hzT hgo hst I hl
      refine lv_iload hx hb dX0_run_24 (lv_at hl 0 rfl) ?_
      refine lv_sipush (v := 150) hx hb dX0_run_26 (by decide) ?_
      refine lv_icmp_gt (tgt := 91) hx hb dX0_run_29 (by decide) (fun c29 => ?_) (fun c29 => ?_)
      · exact absurd c29 (by rw [i_lt, e_150, nI_toInt (by omega)]; omega)
      · refine lv_iload_n hx hb dX0_run_32 rfl (lv_at hl 1 rfl) ?_
        refine lv_if_ne (tgt := 91) hx hb dX0_run_33 (by decide) (fun c33 => ?_) (fun c33 => ?_)
        · refine lv_aload_n hx hb dX0_run_91 rfl (lv_at hl 3 rfl) ?_
          refine lv_iload_n hx hb dX0_run_92 rfl (lv_at hl 1 rfl) ?_
          refine x_p14 F I dX0_run_93 (fun H locs I => ?_)
          refine lv_iload_n hx hb dX0_run_96 rfl (lv_at hl 1 rfl) ?_
          exact x_ri F hr hlk I (by have e9 := run_g hw (hgo.trans (goF_end (by omega) c33)); exact ⟨by rw [e9], by rw [e9], hp⟩) dX0_run_97
        · refine lv_iload_n hx hb dX0_run_36 rfl (lv_at hl 2 rfl) ?_
          refine lv_aload_n hx hb dX0_run_37 rfl (lv_at hl 3 rfl) ?_
          obtain ⟨hlv, hnr, hd150⟩ := look_0 c33
          refine x_ci F I (As := []) (rest := [.int (nI d)]) (fun sz => met_x_stepOff hn hzT hgT hTT hlv hp) (cw_x_stepOff F.2.2.2.2 ⟨by decide, by decide⟩) rfl rfl hl.1 (Nat.le_of_ble_eq_true rfl) dX0_run_38 ⟨Nat.zero_le _, Nat.zero_le _⟩ (fun r u H locs hq I => ?_)
          obtain ⟨u1, u2⟩ := u
          obtain ⟨rfl, hu1, hd2, hu2⟩ := hq
          have hu1 : u1 = stp T := hu1
          have hu2 : u2 = wH E hd2 := hu2
          subst hu1
          subst hu2
          have I : xI D h a ca (xA h a ca S E sz) s H locs (stp T) (wH E hd2) := I
          have hgo1 : goF (rcX (eA E) (eQ E) (eD E)) 151 0 S = goF (rcX (eA E) (eQ E) (eD E)) (151 - (d + 1)) (d + 1) (stp T) := by rw [hgo, goF_on (by omega) c33]; rfl
          have hJs : J (stp T) := by
            rcases hst with ⟨-, hS⟩ | ⟨hd1, hJT⟩
            · rw [hS] at hlv ⊢; exact hJ0 hlv
            · exact (hJ1 T hgT (hzT.trans hz.symm) hJT (fun q => hnr ⟨hd1, q⟩) hlv).1
          have hgs := gd_stp hgT hlv
          have hTs := noT_stp hTT
          have hzs : sSz (stp T) = nI n := (stp_sz T).trans hzT
          refine lv_iadd hx hb dX0_run_41 ?_
          refine lv_topi (fun y9 e9 => ?_)
          rw [nI_1] at e9
          subst e9
          refine lv_istore_n (lv' := [(2, .int (nI (d + 1))), (4, .int (nI rd)), (3, .int (look T (rcX (eA E) (eQ E) (eD E) T) d)), (0, .ref h), (1, .int x1)]) hx hb dX0_run_42 rfl hl (by decide) rfl (fun ls hl => ?_)
          refine lv_aload_n hx hb dX0_run_43 rfl (lv_at hl 3 rfl) ?_
          refine lv_iload_n hx hb dX0_run_44 rfl (lv_at hl 0 rfl) ?_
          refine x_cs F I (v := look (stp T) (rcX (eA E) (eQ E) (eD E) (stp T)) (d + 1)) (S1 := (stp T)) (E1 := (wH E hd2)) (As := [.int (nI (d + 1))]) (rest := []) (fun sz => met_x_judge (d + 1) hgs (by omega)) (cw_x_judge F.2.2.2.2 ⟨by decide, by decide⟩) rfl rfl hl.1 (Nat.le_of_ble_eq_true rfl) dX0_run_45 ⟨Nat.zero_le _, Nat.zero_le _⟩ (fun H locs I => ?_)
          refine lv_istore_n (lv' := [(3, .int (look (stp T) (rcX (eA E) (eQ E) (eD E) (stp T)) (d + 1))), (2, .int (nI (d + 1))), (4, .int (nI rd)), (0, .ref h), (1, .int x1)]) hx hb dX0_run_48 rfl hl (by decide) rfl (fun ls hl => ?_)
          refine lv_iload_n hx hb dX0_run_49 rfl (lv_at hl 0 rfl) ?_
          refine lv_if_ne (tgt := 85) hx hb dX0_run_50 (by decide) (fun c50 => ?_) (fun c50 => ?_)
          · refine lv_iinc (v := nI (rd + 1)) (lv' := [(4, .int (nI (rd + 1))), (3, .int (look (stp T) (rcX (eA E) (eQ E) (eD E) (stp T)) (d + 1))), (2, .int (nI (d + 1))), (0, .ref h), (1, .int x1)]) hx hb dX0_run_85 hl (k := 2) rfl (nI_1 rd) (by decide) rfl (fun ls hl => ?_)
            refine lv_goto (tgt := 24) hx hb dX0_run_88 (by decide) ?_
            exact ih (rd + 1) (d + 1) (stp T) _ _ _ _ (by omega) (by omega) (by omega) hgs hTs hzs hgo1 (Or.inr ⟨by omega, hJs⟩) I (lv_sub hl [0, 1, 2, 3, 4] rfl)
          · refine lv_aload_n hx hb dX0_run_53 rfl (lv_at hl 3 rfl) ?_
            refine lv_aload_n hx hb dX0_run_54 rfl (lv_at hl 3 rfl) ?_
            refine x_g13 F I (v := sBk (stp T)) rfl dX0_run_55 ?_
            refine lv_iload_n hx hb dX0_run_58 rfl (lv_at hl 4 rfl) ?_
            refine lv_ior hx hb dX0_run_59 ?_
            refine x_cz F I (S1 := (zOp (stp T) (pno (sBk (stp T) ||| x1) (sOp (stp T)) n))) (E1 := (wP (wH (wH E hd2) (pnh (sBk (stp T) ||| x1) (sOp (stp T)) (eH (wH E hd2)) n)) (pnt (sBk (stp T) ||| x1) (eP (wH E hd2)) n))) (As := [.int ((sBk (stp T)) ||| x1)]) (rest := []) (fun sz => met_x_plant _ hgs hn hzs) (cw_x_plant F.2.2.2.2 ⟨by decide, by decide⟩) rfl rfl hl.1 (Nat.le_of_ble_eq_true rfl) dX0_run_60 ⟨Nat.zero_le _, Nat.zero_le _⟩ (fun H locs I => ?_)
            obtain ⟨-, hnr1, hd151⟩ := look_0 c50
            obtain ⟨i, U, hi, er, hgo2, hgU, hTU, hoU, hzU, hkU, hJU⟩ := rsm_trap (rc := (rcX (eA E) (eQ E) (eD E))) (x := (sBk (stp T) ||| x1)) (o := sOp (stp T)) (bk := sBk (stp T)) hn J (fun j hj q => (tst_or (by omega)).mpr (Or.inl q)) (fun T9 g9 z9 j9 r9 l9 => ⟨(hJ1 T9 g9 (z9.trans hz.symm) j9 r9 l9).1, fun q1 q2 => (tst_or (by obtain ⟨j7, hj7, -, e7⟩ := ins_nI hn ((stp_sz T9).trans z9) q2; omega)).mpr (Or.inr ((hJ1 T9 g9 (z9.trans hz.symm) j9 r9 l9).2 q1 q2))⟩) (150 - (d + 1)) (d + 1) (stp T) (by omega) (by omega) hgs hTs rfl hzs rfl hJs (fun q => absurd ⟨by omega, q⟩ hnr1)
            have hgo3 : goF (rcX (eA E) (eQ E) (eD E)) 151 0 S = goF (rcX (eA E) (eQ E) (eD E)) (151 - (d + 1 + i)) (d + 1 + i) U := by rw [hgo1, show 151 - (d + 1) = 150 - (d + 1) + 1 by omega, hgo2, show 150 - (d + 1) + 1 - i = 151 - (d + 1 + i) by omega]
            refine lv_iload_n hx hb dX0_run_63 rfl (lv_at hl 1 rfl) ?_
            refine lv_aload_n hx hb dX0_run_64 rfl (lv_at hl 3 rfl) ?_
            refine lv_sipush (v := 150) hx hb dX0_run_65 (by decide) ?_
            refine lv_iload_n hx hb dX0_run_68 rfl (lv_at hl 1 rfl) ?_
            refine lv_isub hx hb dX0_run_69 ?_
            refine lv_topi (fun y9 e9 => ?_)
            rw [show (150 : Int32) = nI 150 from rfl, pk_sub (by omega)] at e9
            subst e9
            refine x_cs F I (v := nI i) (S1 := (zOp U (pno (sBk (stp T) ||| x1) (sOp (stp T)) n))) (E1 := (wP (wH (wH E hd2) (pnh (sBk (stp T) ||| x1) (sOp (stp T)) (eH (wH E hd2)) n)) (pnt (sBk (stp T) ||| x1) (eP (wH E hd2)) n))) (As := [.int (nI (150 - (d + 1)))]) (rest := [.int (nI (d + 1))]) (fun sz => by have q := met_x_resume (l := l) (D := D) (h := h) (a := a) (ca := ca) (sz := sz) (E := (wP (wH (wH E hd2) (pnh (sBk (stp T) ||| x1) (sOp (stp T)) (eH (wH E hd2)) n)) (pnt (sBk (stp T) ||| x1) (eP (wH E hd2)) n))) (150 - (d + 1)) (gd_trap hgs (sBk (stp T) ||| x1) n) (by omega); rw [er] at q; exact q) (cw_x_resume F.2.2.2.2 ⟨by decide, by decide⟩) rfl rfl hl.1 (Nat.le_of_ble_eq_true rfl) dX0_run_70 ⟨Nat.zero_le _, Nat.zero_le _⟩ (fun H locs I => ?_)
            refine lv_iadd hx hb dX0_run_73 ?_
            refine lv_topi (fun y9 e9 => ?_)
            rw [nI_add] at e9
            subst e9
            refine lv_istore_n (lv' := [(2, .int (nI (d + 1 + i))), (3, .int (look (stp T) (rcX (eA E) (eQ E) (eD E) (stp T)) (d + 1))), (4, .int (nI rd)), (0, .ref h), (1, .int x1)]) hx hb dX0_run_74 rfl hl (by decide) rfl (fun ls hl => ?_)
            refine lv_aload_n hx hb dX0_run_75 rfl (lv_at hl 3 rfl) ?_
            refine x_cz F I (S1 := U) (E1 := (wH E (pnh (sBk (stp T) ||| x1) (sOp (stp T)) (eH (wH E hd2)) n))) (As := []) (rest := []) (fun sz => by have q := met_x_lift (l := l) (D := D) (h := h) (a := a) (ca := ca) (sz := sz) (S := (zOp U (pno (sBk (stp T) ||| x1) (sOp (stp T)) n))) (E := (wP (wH (wH E hd2) (pnh (sBk (stp T) ||| x1) (sOp (stp T)) (eH (wH E hd2)) n)) (pnt (sBk (stp T) ||| x1) (eP (wH E hd2)) n))) hn hzU (lift_h (E := wH E hd2) hn hp (gd_b8 hgs)); rw [lift_S (E := wH E hd2) hn hp hoU, lift_E (E := wH E hd2) hp] at q; exact q) (cw_x_lift F.2.2.2.2 ⟨by decide, by decide⟩) rfl rfl hl.1 (Nat.le_of_ble_eq_true rfl) dX0_run_76 ⟨Nat.zero_le _, Nat.zero_le _⟩ (fun H locs I => ?_)
            refine lv_aload_n hx hb dX0_run_79 rfl (lv_at hl 3 rfl) ?_
            refine lv_iload_n hx hb dX0_run_80 rfl (lv_at hl 0 rfl) ?_
            refine x_cs F I (v := look U (rcX (eA E) (eQ E) (eD E) U) (d + 1 + i)) (S1 := U) (E1 := (wH E (pnh (sBk (stp T) ||| x1) (sOp (stp T)) (eH (wH E hd2)) n))) (As := [.int (nI (d + 1 + i))]) (rest := []) (fun sz => met_x_judge (d + 1 + i) hgU (by omega)) (cw_x_judge F.2.2.2.2 ⟨by decide, by decide⟩) rfl rfl hl.1 (Nat.le_of_ble_eq_true rfl) dX0_run_81 ⟨Nat.zero_le _, Nat.zero_le _⟩ (fun H locs I => ?_)
            refine lv_istore_n (lv' := [(3, .int (look U (rcX (eA E) (eQ E) (eD E) U) (d + 1 + i))), (2, .int (nI (d + 1 + i))), (4, .int (nI rd)), (0, .ref h), (1, .int x1)]) hx hb dX0_run_84 rfl hl (by decide) rfl (fun ls hl => ?_)
            refine lv_iinc (v := nI (rd + 1)) (lv' := [(4, .int (nI (rd + 1))), (3, .int (look U (rcX (eA E) (eQ E) (eD E) U) (d + 1 + i))), (2, .int (nI (d + 1 + i))), (0, .ref h), (1, .int x1)]) hx hb dX0_run_85 hl (k := 2) rfl (nI_1 rd) (by decide) rfl (fun ls hl => ?_)
            refine lv_goto (tgt := 24) hx hb dX0_run_88 (by decide) ?_
            exact ih (rd + 1) (d + 1 + i) U _ _ _ _ (by omega) (by omega) (by omega) hgU hTU hzU hgo3 (Or.inr ⟨by omega, hJU⟩) I (lv_sub hl [0, 1, 2, 3, 4] rfl)
  refine lv_aload_n hx hb dX0_run_0 rfl (lv_at hl 0 rfl) ?_
  refine x_g14 F I (v := sWy S) rfl dX0_run_1 ?_
  refine lv_iconst (v := 4) hx hb dX0_run_4 (by decide) ?_
  refine lv_icmp_lt (tgt := 13) hx hb dX0_run_5 (by decide) (fun c5 => ?_) (fun c5 => ?_)
  · refine lv_iconst (v := 0) hx hb dX0_run_13 (by decide) ?_
    refine lv_istore_n (lv' := [(2, .int 0), (0, .ref h), (1, .int x1)]) hx hb dX0_run_14 rfl hl (by decide) rfl (fun ls hl => ?_)
    refine lv_aload_n hx hb dX0_run_15 rfl (lv_at hl 1 rfl) ?_
    refine lv_iconst (v := 0) hx hb dX0_run_16 (by decide) ?_
    refine x_cs F I (v := look S (rcX (eA E) (eQ E) (eD E) S) 0) (S1 := S) (E1 := E) (As := [.int 0]) (rest := []) (fun sz => met_x_judge 0 hg (by omega)) (cw_x_judge F.2.2.2.2 ⟨by decide, by decide⟩) rfl rfl hl.1 (Nat.le_of_ble_eq_true rfl) dX0_run_17 ⟨Nat.zero_le _, Nat.zero_le _⟩ (fun H locs I => ?_)
    refine lv_istore_n (lv' := [(3, .int (look S (rcX (eA E) (eQ E) (eD E) S) 0)), (2, .int 0), (0, .ref h), (1, .int x1)]) hx hb dX0_run_20 rfl hl (by decide) rfl (fun ls hl => ?_)
    refine lv_iconst (v := 0) hx hb dX0_run_21 (by decide) ?_
    refine lv_istore (lv' := [(4, .int 0), (3, .int (look S (rcX (eA E) (eQ E) (eD E) S) 0)), (2, .int 0), (0, .ref h), (1, .int x1)]) hx hb dX0_run_22 hl (by decide) rfl (fun ls hl => ?_)
    exact loop c5 151 0 0 S (eH E) _ _ _ (by omega) (by omega) (by omega) hg hT hz rfl (Or.inl ⟨rfl, rfl⟩) I (lv_sub hl [0, 1, 2, 3, 4] rfl)
  · refine lv_aload_n hx hb dX0_run_8 rfl (lv_at hl 0 rfl) ?_
    refine x_g14 F I (v := sWy S) rfl dX0_run_9 ?_
    exact x_ri F hr hlk I ⟨by rw [run_w c5], by rw [run_w c5], hp⟩ dX0_run_12
set_option maxHeartbeats 4000000 in
set_option maxRecDepth 100000 in
/-- step() -/
theorem met_x_step {l : Launch} {D : va_G} {h : Nat} {a : Nat → Nat} {ca : Nat → ClassId} {sz : Nat} {S : Sh} {E : XE} {n : Nat} (hn : n ≤ 20) (hz : sSz S = nI n) (hg : gd S) (hT : noT S) (hp : eP E = 0) : Met l yX0_step (ws_ yX0_step cX0_step 1 (some .int)) (rmL 5) (xPc D h a ca [] sz S E) (xQi D h a ca sz S E (fun r u => r = (goTrue S).1 ∧ u.1 = (goTrue S).2 ∧ eP u.2 = 0)) 0 0 (xA h a ca S E sz) := by
  refine x_enter (by decide) (Nat.le_of_ble_eq_true rfl) rfl ?_
  intro p e s m below meth c F hr hlk I ls hl
  have hx := F.1
  have hb := F.2.1
  have hl : lv_has ls 1 [(0, .ref h)] := hl
  refine lv_aload_n hx hb dX0_step_0 rfl (lv_at hl 0 rfl) ?_
  refine lv_iconst (v := 1) hx hb dX0_step_1 (by decide) ?_
  refine x_p15 F I dX0_step_2 (fun H locs I => ?_)
  refine lv_aload_n hx hb dX0_step_5 rfl (lv_at hl 0 rfl) ?_
  refine lv_iconst (v := 0) hx hb dX0_step_6 (by decide) ?_
  have hrc : rcX 1 (eQ E) (eD E) = (fun _ => true) := rcX_1 _ _
  refine x_ci F I (As := [.int 0]) (rest := []) (fun sz => met_x_run 0 hn hz hg hT hp (by show mrk (rcX 1 (eQ E) (eD E)) _ _; rw [hrc]; exact mrk_T _ _)) (cw_x_run F.2.2.2.2 ⟨by decide, by decide⟩) rfl rfl hl.1 (Nat.le_of_ble_eq_true rfl) dX0_step_7 ⟨Nat.zero_le _, Nat.zero_le _⟩ (fun r u H locs hq I => ?_)
  obtain ⟨u1, u2⟩ := u
  have hq : r = (runF (rcX 1 (eQ E) (eD E)) S).1 ∧ u1 = (runF (rcX 1 (eQ E) (eD E)) S).2 ∧ eP u2 = 0 := hq
  rw [hrc] at hq
  exact x_ri F hr hlk I hq dX0_step_10
set_option maxHeartbeats 4000000 in
set_option maxRecDepth 100000 in
/-- go() -/
theorem met_x_go {l : Launch} {D : va_G} {h : Nat} {a : Nat → Nat} {ca : Nat → ClassId} {sz : Nat} {S : Sh} {E : XE} {n : Nat} (hn : n ≤ 20) (hz : sSz S = nI n) (hg : gd S) (hT : noT S) (hp : eP E = 0) : Met l yX0_go (ws_ yX0_go cX0_go 1 (some .int)) (rmL 5) (xPc D h a ca [] sz S E) (xQi D h a ca sz S E (fun r u => r = (goFalse S).1 ∧ u.1 = (goFalse S).2 ∧ eP u.2 = 0)) 0 0 (xA h a ca S E sz) := by
  refine x_enter (by decide) (Nat.le_of_ble_eq_true rfl) rfl ?_
  intro p e s m below meth c F hr hlk I ls hl
  have hx := F.1
  have hb := F.2.1
  have hl : lv_has ls 1 [(0, .ref h)] := hl
  refine lv_aload_n hx hb dX0_go_0 rfl (lv_at hl 0 rfl) ?_
  refine lv_iconst (v := 0) hx hb dX0_go_1 (by decide) ?_
  refine x_p15 F I dX0_go_2 (fun H locs I => ?_)
  refine lv_aload_n hx hb dX0_go_5 rfl (lv_at hl 0 rfl) ?_
  refine lv_iconst (v := 0) hx hb dX0_go_6 (by decide) ?_
  have hrc : rcX 0 (eQ E) (eD E) = (fun _ => false) := rcX_0 _ _
  refine x_ci F I (As := [.int 0]) (rest := []) (fun sz => met_x_run 0 hn hz hg hT hp (by show mrk (rcX 0 (eQ E) (eD E)) _ _; rw [hrc]; exact mrk_F _ _)) (cw_x_run F.2.2.2.2 ⟨by decide, by decide⟩) rfl rfl hl.1 (Nat.le_of_ble_eq_true rfl) dX0_go_7 ⟨Nat.zero_le _, Nat.zero_le _⟩ (fun r u H locs hq I => ?_)
  obtain ⟨u1, u2⟩ := u
  have hq : r = (runF (rcX 0 (eQ E) (eD E)) S).1 ∧ u1 = (runF (rcX 0 (eQ E) (eD E)) S).2 ∧ eP u2 = 0 := hq
  rw [hrc] at hq
  exact x_ri F hr hlk I hq dX0_go_10
set_option maxHeartbeats 4000000 in
set_option maxRecDepth 100000 in
/-- goTo(p) -/
theorem met_x_goTo {l : Launch} {D : va_G} {h : Nat} {a : Nat → Nat} {ca : Nat → ClassId} {sz : Nat} {S : Sh} {E : XE} (p0 : Int32) {n : Nat} (hn : n ≤ 20) (hz : sSz S = nI n) (hg : gd S) (hT : noT S) (hp : eP E = 0) : Met l yX0_goTo (ws_ yX0_goTo cX0_goTo 3 (some .int)) (rmL 5) (xPc D h a ca [.int p0] sz S E) (xQi D h a ca sz S E (fun r u => r = (goPlace p0 S).1 ∧ u.1 = (goPlace p0 S).2 ∧ eP u.2 = 0)) 0 0 (xA h a ca S E sz) := by
  refine x_enter (by decide) (Nat.le_of_ble_eq_true rfl) rfl ?_
  intro p e s m below meth c F hr hlk I ls hl
  have hx := F.1
  have hb := F.2.1
  have hl : lv_has ls 3 [(0, .ref h), (1, .int p0)] := hl
  refine lv_aload_n hx hb dX0_goTo_0 rfl (lv_at hl 0 rfl) ?_
  refine lv_iconst (v := 2) hx hb dX0_goTo_1 (by decide) ?_
  refine x_p15 F I dX0_goTo_2 (fun H locs I => ?_)
  refine lv_aload_n hx hb dX0_goTo_5 rfl (lv_at hl 0 rfl) ?_
  refine lv_iload_n hx hb dX0_goTo_6 rfl (lv_at hl 1 rfl) ?_
  refine x_p16 F I dX0_goTo_7 (fun H locs I => ?_)
  refine lv_aload_n hx hb dX0_goTo_10 rfl (lv_at hl 0 rfl) ?_
  refine lv_iload_n hx hb dX0_goTo_11 rfl (lv_at hl 1 rfl) ?_
  refine x_cs F I (v := bitF S p0) (S1 := S) (E1 := (wQ (wA E 2) p0)) (As := [.int p0]) (rest := []) (fun sz => met_x_bit p0) (cw_x_bit F.2.2.2.2 ⟨by decide, by decide⟩) rfl rfl hl.1 (Nat.le_of_ble_eq_true rfl) dX0_goTo_12 ⟨Nat.zero_le _, Nat.zero_le _⟩ (fun H locs I => ?_)
  refine lv_istore_n (lv' := [(2, .int (bitF S p0)), (0, .ref h), (1, .int p0)]) hx hb dX0_goTo_15 rfl hl (by decide) rfl (fun ls hl => ?_)
  refine lv_aload_n hx hb dX0_goTo_16 rfl (lv_at hl 1 rfl) ?_
  refine lv_iload_n hx hb dX0_goTo_17 rfl (lv_at hl 0 rfl) ?_
  have hrc : rcX 2 p0 (eD E) = (fun T => decide (sAt T = p0)) := rcX_2 _ _
  refine x_ci F I (As := [.int (bitF S p0)]) (rest := []) (fun sz => met_x_run (bitF S p0) hn hz hg hT hp (by show mrk (rcX 2 p0 (eD E)) _ _; rw [hrc]; exact mrk_P hn hz _ p0 (fun T q => of_decide_eq_true q))) (cw_x_run F.2.2.2.2 ⟨by decide, by decide⟩) rfl rfl hl.1 (Nat.le_of_ble_eq_true rfl) dX0_goTo_18 ⟨Nat.zero_le _, Nat.zero_le _⟩ (fun r u H locs hq I => ?_)
  obtain ⟨u1, u2⟩ := u
  have hq : r = (runF (rcX 2 p0 (eD E)) S).1 ∧ u1 = (runF (rcX 2 p0 (eD E)) S).2 ∧ eP u2 = 0 := hq
  rw [hrc] at hq
  exact x_ri F hr hlk I hq dX0_goTo_21
set_option maxHeartbeats 4000000 in
set_option maxRecDepth 100000 in
/-- stepOut() -/
theorem met_x_stepOut {l : Launch} {D : va_G} {h : Nat} {a : Nat → Nat} {ca : Nat → ClassId} {sz : Nat} {S : Sh} {E : XE} {n : Nat} (hn : n ≤ 20) (hz : sSz S = nI n) (hg : gd S) (hT : noT S) (hp : eP E = 0) : Met l yX0_stepOut (ws_ yX0_stepOut cX0_stepOut 2 (some .int)) (rmL 5) (xPc D h a ca [] sz S E) (xQi D h a ca sz S E (fun r u => r = (goOut S).1 ∧ u.1 = (goOut S).2 ∧ eP u.2 = 0)) 0 0 (xA h a ca S E sz) := by
  refine x_enter (by decide) (Nat.le_of_ble_eq_true rfl) rfl ?_
  intro p e s m below meth c F hr hlk I ls hl
  have hx := F.1
  have hb := F.2.1
  have hl : lv_has ls 2 [(0, .ref h)] := hl
  refine lv_aload_n hx hb dX0_stepOut_0 rfl (lv_at hl 0 rfl) ?_
  refine lv_iconst (v := 4) hx hb dX0_stepOut_1 (by decide) ?_
  refine x_p15 F I dX0_stepOut_2 (fun H locs I => ?_)
  refine lv_aload_n hx hb dX0_stepOut_5 rfl (lv_at hl 0 rfl) ?_
  refine lv_aload_n hx hb dX0_stepOut_6 rfl (lv_at hl 0 rfl) ?_
  refine x_g9 F I (v := sLv S) rfl dX0_stepOut_7 ?_
  refine x_p17 F I dX0_stepOut_10 (fun H locs I => ?_)
  refine lv_aload_n hx hb dX0_stepOut_13 rfl (lv_at hl 0 rfl) ?_
  refine x_g9 F I (v := sLv S) rfl dX0_stepOut_14 ?_
  refine lv_if_le (tgt := 38) hx hb dX0_stepOut_17 (by decide) (fun c17 => ?_) (fun c17 => ?_)
  · refine lv_iconst (v := 0) hx hb dX0_stepOut_38 (by decide) ?_
    refine lv_istore_n (lv' := [(1, .int 0), (0, .ref h)]) hx hb dX0_stepOut_39 rfl hl (by decide) rfl (fun ls hl => ?_)
    refine lv_aload_n hx hb dX0_stepOut_40 rfl (lv_at hl 1 rfl) ?_
    refine lv_iload_n hx hb dX0_stepOut_41 rfl (lv_at hl 0 rfl) ?_
    have hrc : rcX 4 (eQ E) (sLv S) = (fun T => decide (sLv T < sLv S)) := rcX_4 _ _
    refine x_ci F I (As := [.int 0]) (rest := []) (fun sz => met_x_run 0 hn hz hg hT hp (by show mrk (rcX 4 (eQ E) (sLv S)) _ _; rw [hrc]; exact mrk_O hn hz hg _ (fun q => absurd c17 q))) (cw_x_run F.2.2.2.2 ⟨by decide, by decide⟩) rfl rfl hl.1 (Nat.le_of_ble_eq_true rfl) dX0_stepOut_42 ⟨Nat.zero_le _, Nat.zero_le _⟩ (fun r u H locs hq I => ?_)
    obtain ⟨u1, u2⟩ := u
    have hq : r = (runF (rcX 4 (eQ E) (sLv S)) S).1 ∧ u1 = (runF (rcX 4 (eQ E) (sLv S)) S).2 ∧ eP u2 = 0 := hq
    rw [hrc] at hq
    exact x_ri F hr hlk I hq dX0_stepOut_45
  · refine lv_aload_n hx hb dX0_stepOut_20 rfl (lv_at hl 0 rfl) ?_
    refine lv_aload_n hx hb dX0_stepOut_21 rfl (lv_at hl 0 rfl) ?_
    refine x_g8 F I dX0_stepOut_22 ?_
    refine lv_aload_n hx hb dX0_stepOut_25 rfl (lv_at hl 0 rfl) ?_
    refine x_g9 F I (v := sLv S) rfl dX0_stepOut_26 ?_
    refine lv_iconst (v := 1) hx hb dX0_stepOut_29 (by decide) ?_
    refine lv_isub hx hb dX0_stepOut_30 ?_
    refine x_ld8 F I (v := sRt S ((sLv S) - 1).toNatClampNeg) (gd_l1 hg c17) rfl dX0_stepOut_31 ?_
    refine x_cs F I (v := bitF S (sRt S ((sLv S) - 1).toNatClampNeg)) (S1 := S) (E1 := (wD (wA E 4) (sLv S))) (As := [.int (sRt S ((sLv S) - 1).toNatClampNeg)]) (rest := []) (fun sz => met_x_bit (sRt S ((sLv S) - 1).toNatClampNeg)) (cw_x_bit F.2.2.2.2 ⟨by decide, by decide⟩) rfl rfl hl.1 (Nat.le_of_ble_eq_true rfl) dX0_stepOut_32 ⟨Nat.zero_le _, Nat.zero_le _⟩ (fun H locs I => ?_)
    refine lv_goto (tgt := 39) hx hb dX0_stepOut_35 (by decide) ?_
    refine lv_istore_n (lv' := [(1, .int (bitF S (sRt S ((sLv S) - 1).toNatClampNeg))), (0, .ref h)]) hx hb dX0_stepOut_39 rfl hl (by decide) rfl (fun ls hl => ?_)
    refine lv_aload_n hx hb dX0_stepOut_40 rfl (lv_at hl 1 rfl) ?_
    refine lv_iload_n hx hb dX0_stepOut_41 rfl (lv_at hl 0 rfl) ?_
    have hrc : rcX 4 (eQ E) (sLv S) = (fun T => decide (sLv T < sLv S)) := rcX_4 _ _
    refine x_ci F I (As := [.int (bitF S (sRt S ((sLv S) - 1).toNatClampNeg))]) (rest := []) (fun sz => met_x_run (bitF S (sRt S ((sLv S) - 1).toNatClampNeg)) hn hz hg hT hp (by show mrk (rcX 4 (eQ E) (sLv S)) _ _; rw [hrc]; exact mrk_O hn hz hg _ (fun _ => rfl))) (cw_x_run F.2.2.2.2 ⟨by decide, by decide⟩) rfl rfl hl.1 (Nat.le_of_ble_eq_true rfl) dX0_stepOut_42 ⟨Nat.zero_le _, Nat.zero_le _⟩ (fun r u H locs hq I => ?_)
    obtain ⟨u1, u2⟩ := u
    have hq : r = (runF (rcX 4 (eQ E) (sLv S)) S).1 ∧ u1 = (runF (rcX 4 (eQ E) (sLv S)) S).2 ∧ eP u2 = 0 := hq
    rw [hrc] at hq
    exact x_ri F hr hlk I hq dX0_stepOut_45
set_option maxHeartbeats 4000000 in
set_option maxRecDepth 100000 in
/-- stepOver() -/
theorem met_x_stepOver {l : Launch} {D : va_G} {h : Nat} {a : Nat → Nat} {ca : Nat → ClassId} {sz : Nat} {S : Sh} {E : XE} {n : Nat} (hn : n ≤ 20) (hz : sSz S = nI n) (hg : gd S) (hT : noT S) (hp : eP E = 0) : Met l yX0_stepOver (ws_ yX0_stepOver cX0_stepOver 3 (some .int)) (rmL 5) (xPc D h a ca [] sz S E) (xQi D h a ca sz S E (fun r u => r = (goOver S).1 ∧ u.1 = (goOver S).2 ∧ eP u.2 = 0)) 0 0 (xA h a ca S E sz) := by
  refine x_enter (by decide) (Nat.le_of_ble_eq_true rfl) rfl ?_
  intro p e s m below meth c F hr hlk I ls hl
  have hx := F.1
  have hb := F.2.1
  have hl : lv_has ls 3 [(0, .ref h)] := hl
  refine lv_aload_n hx hb dX0_stepOver_0 rfl (lv_at hl 0 rfl) ?_
  refine lv_aload_n hx hb dX0_stepOver_1 rfl (lv_at hl 0 rfl) ?_
  refine x_g10 F I (v := sAt S) rfl dX0_stepOver_2 ?_
  refine x_cs F I (v := insF S (sAt S)) (S1 := S) (E1 := E) (As := [.int (sAt S)]) (rest := []) (fun sz => met_x_inside (sAt S)) (cw_x_inside F.2.2.2.2 ⟨by decide, by decide⟩) rfl rfl hl.1 (Nat.le_of_ble_eq_true rfl) dX0_stepOver_5 ⟨Nat.zero_le _, Nat.zero_le _⟩ (fun H locs I => ?_)
  refine lv_if_eq (tgt := 29) hx hb dX0_stepOver_8 (by decide) (fun c8 => ?_) (fun c8 => ?_)
  · refine lv_iconst (v := 0) hx hb dX0_stepOver_29 (by decide) ?_
    refine lv_istore_n (lv' := [(1, .int 0), (0, .ref h)]) hx hb dX0_stepOver_30 rfl hl (by decide) rfl (fun ls hl => ?_)
    refine lv_aload_n hx hb dX0_stepOver_31 rfl (lv_at hl 1 rfl) ?_
    refine lv_iload_n hx hb dX0_stepOver_32 rfl (lv_at hl 0 rfl) ?_
    refine lv_if_eq (tgt := 40) hx hb dX0_stepOver_33 (by decide) (fun c33 => ?_) (fun c33 => ?_)
    · refine lv_iconst (v := 1) hx hb dX0_stepOver_40 (by decide) ?_
      refine x_p15 F I dX0_stepOver_41 (fun H locs I => ?_)
      refine lv_aload_n hx hb dX0_stepOver_44 rfl (lv_at hl 1 rfl) ?_
      refine lv_aload_n hx hb dX0_stepOver_45 rfl (lv_at hl 1 rfl) ?_
      refine x_g10 F I (v := sAt S) rfl dX0_stepOver_46 ?_
      refine lv_iconst (v := 1) hx hb dX0_stepOver_49 (by decide) ?_
      refine lv_iadd hx hb dX0_stepOver_50 ?_
      refine x_p16 F I dX0_stepOver_51 (fun H locs I => ?_)
      refine lv_aload_n hx hb dX0_stepOver_54 rfl (lv_at hl 1 rfl) ?_
      refine lv_aload_n hx hb dX0_stepOver_55 rfl (lv_at hl 1 rfl) ?_
      refine x_g9 F I (v := sLv S) rfl dX0_stepOver_56 ?_
      refine x_p17 F I dX0_stepOver_59 (fun H locs I => ?_)
      refine lv_iload_n hx hb dX0_stepOver_62 rfl (lv_at hl 0 rfl) ?_
      refine lv_if_eq (tgt := 79) hx hb dX0_stepOver_63 (by decide) (fun c63 => ?_) (fun c63 => ?_)
      · refine lv_iconst (v := 0) hx hb dX0_stepOver_79 (by decide) ?_
        refine lv_istore_n (lv' := [(2, .int 0), (1, .int 0), (0, .ref h)]) hx hb dX0_stepOver_80 rfl hl (by decide) rfl (fun ls hl => ?_)
        refine lv_aload_n hx hb dX0_stepOver_81 rfl (lv_at hl 2 rfl) ?_
        refine lv_iload_n hx hb dX0_stepOver_82 rfl (lv_at hl 0 rfl) ?_
        have hrc : rcX 1 (sAt S + 1) (sLv S) = (fun _ => true) := rcX_1 _ _
        refine x_ci F I (As := [.int 0]) (rest := []) (fun sz => met_x_run 0 hn hz hg hT hp (by show mrk (rcX 1 (sAt S + 1) (sLv S)) _ _; rw [hrc]; exact mrk_T _ _)) (cw_x_run F.2.2.2.2 ⟨by decide, by decide⟩) rfl rfl hl.1 (Nat.le_of_ble_eq_true rfl) dX0_stepOver_83 ⟨Nat.zero_le _, Nat.zero_le _⟩ (fun r u H locs hq I => ?_)
        obtain ⟨u1, u2⟩ := u
        have hq : r = (runF (rcX 1 (sAt S + 1) (sLv S)) S).1 ∧ u1 = (runF (rcX 1 (sAt S + 1) (sLv S)) S).2 ∧ eP u2 = 0 := hq
        rw [hrc] at hq
        exact x_ri F hr hlk I (goOver_n (fun q => insF_0.mp c8 q.1) hq) dX0_stepOver_86
      · exact absurd c63 (by decide)
    · exact absurd c33 (by decide)
  · refine lv_aload_n hx hb dX0_stepOver_11 rfl (lv_at hl 0 rfl) ?_
    refine x_g0 F I dX0_stepOver_12 ?_
    refine lv_aload_n hx hb dX0_stepOver_15 rfl (lv_at hl 0 rfl) ?_
    refine x_g10 F I (v := sAt S) rfl dX0_stepOver_16 ?_
    refine x_ld0 F I (v := opA S) (gd_in hg (insF_n c8)) rfl dX0_stepOver_19 ?_
    refine lv_bipush (v := 7) hx hb dX0_stepOver_20 (by decide) ?_
    refine lv_icmp_ne (tgt := 29) hx hb dX0_stepOver_22 (by decide) (fun c22 => ?_) (fun c22 => ?_)
    · refine lv_iconst (v := 0) hx hb dX0_stepOver_29 (by decide) ?_
      refine lv_istore_n (lv' := [(1, .int 0), (0, .ref h)]) hx hb dX0_stepOver_30 rfl hl (by decide) rfl (fun ls hl => ?_)
      refine lv_aload_n hx hb dX0_stepOver_31 rfl (lv_at hl 1 rfl) ?_
      refine lv_iload_n hx hb dX0_stepOver_32 rfl (lv_at hl 0 rfl) ?_
      refine lv_if_eq (tgt := 40) hx hb dX0_stepOver_33 (by decide) (fun c33 => ?_) (fun c33 => ?_)
      · refine lv_iconst (v := 1) hx hb dX0_stepOver_40 (by decide) ?_
        refine x_p15 F I dX0_stepOver_41 (fun H locs I => ?_)
        refine lv_aload_n hx hb dX0_stepOver_44 rfl (lv_at hl 1 rfl) ?_
        refine lv_aload_n hx hb dX0_stepOver_45 rfl (lv_at hl 1 rfl) ?_
        refine x_g10 F I (v := sAt S) rfl dX0_stepOver_46 ?_
        refine lv_iconst (v := 1) hx hb dX0_stepOver_49 (by decide) ?_
        refine lv_iadd hx hb dX0_stepOver_50 ?_
        refine x_p16 F I dX0_stepOver_51 (fun H locs I => ?_)
        refine lv_aload_n hx hb dX0_stepOver_54 rfl (lv_at hl 1 rfl) ?_
        refine lv_aload_n hx hb dX0_stepOver_55 rfl (lv_at hl 1 rfl) ?_
        refine x_g9 F I (v := sLv S) rfl dX0_stepOver_56 ?_
        refine x_p17 F I dX0_stepOver_59 (fun H locs I => ?_)
        refine lv_iload_n hx hb dX0_stepOver_62 rfl (lv_at hl 0 rfl) ?_
        refine lv_if_eq (tgt := 79) hx hb dX0_stepOver_63 (by decide) (fun c63 => ?_) (fun c63 => ?_)
        · refine lv_iconst (v := 0) hx hb dX0_stepOver_79 (by decide) ?_
          refine lv_istore_n (lv' := [(2, .int 0), (1, .int 0), (0, .ref h)]) hx hb dX0_stepOver_80 rfl hl (by decide) rfl (fun ls hl => ?_)
          refine lv_aload_n hx hb dX0_stepOver_81 rfl (lv_at hl 2 rfl) ?_
          refine lv_iload_n hx hb dX0_stepOver_82 rfl (lv_at hl 0 rfl) ?_
          have hrc : rcX 1 (sAt S + 1) (sLv S) = (fun _ => true) := rcX_1 _ _
          refine x_ci F I (As := [.int 0]) (rest := []) (fun sz => met_x_run 0 hn hz hg hT hp (by show mrk (rcX 1 (sAt S + 1) (sLv S)) _ _; rw [hrc]; exact mrk_T _ _)) (cw_x_run F.2.2.2.2 ⟨by decide, by decide⟩) rfl rfl hl.1 (Nat.le_of_ble_eq_true rfl) dX0_stepOver_83 ⟨Nat.zero_le _, Nat.zero_le _⟩ (fun r u H locs hq I => ?_)
          obtain ⟨u1, u2⟩ := u
          have hq : r = (runF (rcX 1 (sAt S + 1) (sLv S)) S).1 ∧ u1 = (runF (rcX 1 (sAt S + 1) (sLv S)) S).2 ∧ eP u2 = 0 := hq
          rw [hrc] at hq
          exact x_ri F hr hlk I (goOver_n (fun q => c22 q.2.1) hq) dX0_stepOver_86
        · exact absurd c63 (by decide)
      · exact absurd c33 (by decide)
    · refine lv_iconst (v := 1) hx hb dX0_stepOver_25 (by decide) ?_
      refine lv_goto (tgt := 30) hx hb dX0_stepOver_26 (by decide) ?_
      refine lv_istore_n (lv' := [(1, .int 1), (0, .ref h)]) hx hb dX0_stepOver_30 rfl hl (by decide) rfl (fun ls hl => ?_)
      refine lv_aload_n hx hb dX0_stepOver_31 rfl (lv_at hl 1 rfl) ?_
      refine lv_iload_n hx hb dX0_stepOver_32 rfl (lv_at hl 0 rfl) ?_
      refine lv_if_eq (tgt := 40) hx hb dX0_stepOver_33 (by decide) (fun c33 => ?_) (fun c33 => ?_)
      · exact absurd c33 (by decide)
      · refine lv_iconst (v := 3) hx hb dX0_stepOver_36 (by decide) ?_
        refine lv_goto (tgt := 41) hx hb dX0_stepOver_37 (by decide) ?_
        refine x_p15 F I dX0_stepOver_41 (fun H locs I => ?_)
        refine lv_aload_n hx hb dX0_stepOver_44 rfl (lv_at hl 1 rfl) ?_
        refine lv_aload_n hx hb dX0_stepOver_45 rfl (lv_at hl 1 rfl) ?_
        refine x_g10 F I (v := sAt S) rfl dX0_stepOver_46 ?_
        refine lv_iconst (v := 1) hx hb dX0_stepOver_49 (by decide) ?_
        refine lv_iadd hx hb dX0_stepOver_50 ?_
        refine x_p16 F I dX0_stepOver_51 (fun H locs I => ?_)
        refine lv_aload_n hx hb dX0_stepOver_54 rfl (lv_at hl 1 rfl) ?_
        refine lv_aload_n hx hb dX0_stepOver_55 rfl (lv_at hl 1 rfl) ?_
        refine x_g9 F I (v := sLv S) rfl dX0_stepOver_56 ?_
        refine x_p17 F I dX0_stepOver_59 (fun H locs I => ?_)
        refine lv_iload_n hx hb dX0_stepOver_62 rfl (lv_at hl 0 rfl) ?_
        refine lv_if_eq (tgt := 79) hx hb dX0_stepOver_63 (by decide) (fun c63 => ?_) (fun c63 => ?_)
        · exact absurd c63 (by decide)
        · refine lv_aload_n hx hb dX0_stepOver_66 rfl (lv_at hl 1 rfl) ?_
          refine lv_aload_n hx hb dX0_stepOver_67 rfl (lv_at hl 1 rfl) ?_
          refine x_g10 F I (v := sAt S) rfl dX0_stepOver_68 ?_
          refine lv_iconst (v := 1) hx hb dX0_stepOver_71 (by decide) ?_
          refine lv_iadd hx hb dX0_stepOver_72 ?_
          refine x_cs F I (v := bitF S ((sAt S) + 1)) (S1 := S) (E1 := (wD (wQ (wA E 3) ((sAt S) + 1)) (sLv S))) (As := [.int ((sAt S) + 1)]) (rest := []) (fun sz => met_x_bit ((sAt S) + 1)) (cw_x_bit F.2.2.2.2 ⟨by decide, by decide⟩) rfl rfl hl.1 (Nat.le_of_ble_eq_true rfl) dX0_stepOver_73 ⟨Nat.zero_le _, Nat.zero_le _⟩ (fun H locs I => ?_)
          refine lv_goto (tgt := 80) hx hb dX0_stepOver_76 (by decide) ?_
          refine lv_istore_n (lv' := [(2, .int (bitF S ((sAt S) + 1))), (1, .int 1), (0, .ref h)]) hx hb dX0_stepOver_80 rfl hl (by decide) rfl (fun ls hl => ?_)
          refine lv_aload_n hx hb dX0_stepOver_81 rfl (lv_at hl 2 rfl) ?_
          refine lv_iload_n hx hb dX0_stepOver_82 rfl (lv_at hl 0 rfl) ?_
          have hrc : rcX 3 (sAt S + 1) (sLv S) = (fun T => decide (sAt T = sAt S + 1 ∧ sLv T = sLv S)) := rcX_3 _ _
          refine x_ci F I (As := [.int (bitF S ((sAt S) + 1))]) (rest := []) (fun sz => met_x_run (bitF S ((sAt S) + 1)) hn hz hg hT hp (by show mrk (rcX 3 (sAt S + 1) (sLv S)) _ _; rw [hrc]; exact mrk_P hn hz _ (sAt S + 1) (fun T q => (of_decide_eq_true q).1))) (cw_x_run F.2.2.2.2 ⟨by decide, by decide⟩) rfl rfl hl.1 (Nat.le_of_ble_eq_true rfl) dX0_stepOver_83 ⟨Nat.zero_le _, Nat.zero_le _⟩ (fun r u H locs hq I => ?_)
          obtain ⟨u1, u2⟩ := u
          have hq : r = (runF (rcX 3 (sAt S + 1) (sLv S)) S).1 ∧ u1 = (runF (rcX 3 (sAt S + 1) (sLv S)) S).2 ∧ eP u2 = 0 := hq
          rw [hrc] at hq
          exact x_ri F hr hlk I (goOver_c (insF_n c8) c22 hq) dX0_stepOver_86
end
section
/-! CONTRACTS of the reference: methods without loops -/
set_option maxHeartbeats 4000000 in
set_option maxRecDepth 100000 in
/-- length(): a field -/
theorem met_m_length {l : Launch} {D : va_G} {h : Nat} {a : Nat → Nat} {ca : Nat → ClassId} {sz : Nat} {S : Sh} : Met l yX1_length (ws_ yX1_length cX1_length 1 (some .int)) (rmL 0) (mPc D h a ca [] sz S) (mQi D h a ca sz S (fun r u => r = sSz S ∧ u = S)) 0 0 (mA h a ca S sz) := by
  refine m_enter (by decide) (Nat.le_of_ble_eq_true rfl) rfl ?_
  intro p e s m below meth c F hr hlk I ls hl
  have hx := F.1
  have hb := F.2.1
  have hl : lv_has ls 1 [(0, .ref h)] := hl
  refine lv_aload_n hx hb dX1_length_0 rfl (lv_at hl 0 rfl) ?_
  refine m_g0 F I (v := sSz S) rfl dX1_length_1 ?_
  exact m_ri F hr hlk I ⟨rfl, rfl⟩ dX1_length_4
set_option maxHeartbeats 4000000 in
set_option maxRecDepth 100000 in
/-- breakpoints(): a field -/
theorem met_m_breakpoints {l : Launch} {D : va_G} {h : Nat} {a : Nat → Nat} {ca : Nat → ClassId} {sz : Nat} {S : Sh} : Met l yX1_breakpoints (ws_ yX1_breakpoints cX1_breakpoints 1 (some .int)) (rmL 0) (mPc D h a ca [] sz S) (mQi D h a ca sz S (fun r u => r = sBk S ∧ u = S)) 0 0 (mA h a ca S sz) := by
  refine m_enter (by decide) (Nat.le_of_ble_eq_true rfl) rfl ?_
  intro p e s m below meth c F hr hlk I ls hl
  have hx := F.1
  have hb := F.2.1
  have hl : lv_has ls 1 [(0, .ref h)] := hl
  refine lv_aload_n hx hb dX1_breakpoints_0 rfl (lv_at hl 0 rfl) ?_
  refine m_g4 F I (v := sBk S) rfl dX1_breakpoints_1 ?_
  exact m_ri F hr hlk I ⟨rfl, rfl⟩ dX1_breakpoints_4
set_option maxHeartbeats 4000000 in
set_option maxRecDepth 100000 in
/-- reason(): a field -/
theorem met_m_reason {l : Launch} {D : va_G} {h : Nat} {a : Nat → Nat} {ca : Nat → ClassId} {sz : Nat} {S : Sh} : Met l yX1_reason (ws_ yX1_reason cX1_reason 1 (some .int)) (rmL 0) (mPc D h a ca [] sz S) (mQi D h a ca sz S (fun r u => r = sWy S ∧ u = S)) 0 0 (mA h a ca S sz) := by
  refine m_enter (by decide) (Nat.le_of_ble_eq_true rfl) rfl ?_
  intro p e s m below meth c F hr hlk I ls hl
  have hx := F.1
  have hb := F.2.1
  have hl : lv_has ls 1 [(0, .ref h)] := hl
  refine lv_aload_n hx hb dX1_reason_0 rfl (lv_at hl 0 rfl) ?_
  refine m_g12 F I (v := sWy S) rfl dX1_reason_1 ?_
  exact m_ri F hr hlk I ⟨rfl, rfl⟩ dX1_reason_4
set_option maxHeartbeats 4000000 in
set_option maxRecDepth 100000 in
/-- position(): a field -/
theorem met_m_position {l : Launch} {D : va_G} {h : Nat} {a : Nat → Nat} {ca : Nat → ClassId} {sz : Nat} {S : Sh} : Met l yX1_position (ws_ yX1_position cX1_position 1 (some .int)) (rmL 0) (mPc D h a ca [] sz S) (mQi D h a ca sz S (fun r u => r = sAt S ∧ u = S)) 0 0 (mA h a ca S sz) := by
  refine m_enter (by decide) (Nat.le_of_ble_eq_true rfl) rfl ?_
  intro p e s m below meth c F hr hlk I ls hl
  have hx := F.1
  have hb := F.2.1
  have hl : lv_has ls 1 [(0, .ref h)] := hl
  refine lv_aload_n hx hb dX1_position_0 rfl (lv_at hl 0 rfl) ?_
  refine m_g9 F I (v := sAt S) rfl dX1_position_1 ?_
  exact m_ri F hr hlk I ⟨rfl, rfl⟩ dX1_position_4
set_option maxHeartbeats 4000000 in
set_option maxRecDepth 100000 in
/-- depth(): a field -/
theorem met_m_depth {l : Launch} {D : va_G} {h : Nat} {a : Nat → Nat} {ca : Nat → ClassId} {sz : Nat} {S : Sh} : Met l yX1_depth (ws_ yX1_depth cX1_depth 1 (some .int)) (rmL 0) (mPc D h a ca [] sz S) (mQi D h a ca sz S (fun r u => r = sLv S ∧ u = S)) 0 0 (mA h a ca S sz) := by
  refine m_enter (by decide) (Nat.le_of_ble_eq_true rfl) rfl ?_
  intro p e s m below meth c F hr hlk I ls hl
  have hx := F.1
  have hb := F.2.1
  have hl : lv_has ls 1 [(0, .ref h)] := hl
  refine lv_aload_n hx hb dX1_depth_0 rfl (lv_at hl 0 rfl) ?_
  refine m_g8 F I (v := sLv S) rfl dX1_depth_1 ?_
  exact m_ri F hr hlk I ⟨rfl, rfl⟩ dX1_depth_4
set_option maxHeartbeats 4000000 in
set_option maxRecDepth 100000 in
/-- steps(): a field -/
theorem met_m_steps {l : Launch} {D : va_G} {h : Nat} {a : Nat → Nat} {ca : Nat → ClassId} {sz : Nat} {S : Sh} : Met l yX1_steps (ws_ yX1_steps cX1_steps 1 (some .int)) (rmL 0) (mPc D h a ca [] sz S) (mQi D h a ca sz S (fun r u => r = sCt S ∧ u = S)) 0 0 (mA h a ca S sz) := by
  refine m_enter (by decide) (Nat.le_of_ble_eq_true rfl) rfl ?_
  intro p e s m below meth c F hr hlk I ls hl
  have hx := F.1
  have hb := F.2.1
  have hl : lv_has ls 1 [(0, .ref h)] := hl
  refine lv_aload_n hx hb dX1_steps_0 rfl (lv_at hl 0 rfl) ?_
  refine m_g10 F I (v := sCt S) rfl dX1_steps_1 ?_
  exact m_ri F hr hlk I ⟨rfl, rfl⟩ dX1_steps_4
set_option maxHeartbeats 4000000 in
set_option maxRecDepth 100000 in
/-- inside() -/
theorem met_m_inside {l : Launch} {D : va_G} {h : Nat} {a : Nat → Nat} {ca : Nat → ClassId} {sz : Nat} {S : Sh} : Met l yX1_inside (ws_ yX1_inside cX1_inside 1 (some .boolean)) (rmL 0) (mPc D h a ca [] sz S) (mQi D h a ca sz S (fun r u => r = insF S (sAt S) ∧ u = S)) 0 0 (mA h a ca S sz) := by
  refine m_enter (by decide) (Nat.le_of_ble_eq_true rfl) rfl ?_
  intro p e s m below meth c F hr hlk I ls hl
  have hx := F.1
  have hb := F.2.1
  have hl : lv_has ls 1 [(0, .ref h)] := hl
  refine lv_aload_n hx hb dX1_inside_0 rfl (lv_at hl 0 rfl) ?_
  refine m_g9 F I (v := sAt S) rfl dX1_inside_1 ?_
  refine lv_if_lt (tgt := 22) hx hb dX1_inside_4 (by decide) (fun c4 => ?_) (fun c4 => ?_)
  · refine lv_iconst (v := 0) hx hb dX1_inside_22 (by decide) ?_
    exact m_rz F hr hlk I rfl ⟨by simp [insF, c4], rfl⟩ dX1_inside_23
  · refine lv_aload_n hx hb dX1_inside_7 rfl (lv_at hl 0 rfl) ?_
    refine m_g9 F I (v := sAt S) rfl dX1_inside_8 ?_
    refine lv_aload_n hx hb dX1_inside_11 rfl (lv_at hl 0 rfl) ?_
    refine m_g0 F I (v := sSz S) rfl dX1_inside_12 ?_
    refine lv_icmp_ge (tgt := 22) hx hb dX1_inside_15 (by decide) (fun c15 => ?_) (fun c15 => ?_)
    · refine lv_iconst (v := 0) hx hb dX1_inside_22 (by decide) ?_
      exact m_rz F hr hlk I rfl ⟨by simp [insF, c4, c15], rfl⟩ dX1_inside_23
    · refine lv_iconst (v := 1) hx hb dX1_inside_18 (by decide) ?_
      refine lv_goto (tgt := 23) hx hb dX1_inside_19 (by decide) ?_
      exact m_rz F hr hlk I rfl ⟨by simp [insF, c4, c15], rfl⟩ dX1_inside_23
set_option maxHeartbeats 4000000 in
set_option maxRecDepth 100000 in
/-- emit(op, a, b) -/
theorem met_m_emit {l : Launch} {D : va_G} {h : Nat} {a : Nat → Nat} {ca : Nat → ClassId} {sz : Nat} {S : Sh} (op : Int32) (a1 : Int32) (b1 : Int32) (hg : gd S) : Met l yX1_emit (ws_ yX1_emit cX1_emit 4 (some .int)) (rmL 0) (mPc D h a ca [.int op, .int a1, .int b1] sz S) (mQi D h a ca sz S (fun r u => r = emR S op a1 b1 ∧ u = emS S op a1 b1)) 0 0 (mA h a ca S sz) := by
  refine m_enter (by decide) (Nat.le_of_ble_eq_true rfl) rfl ?_
  intro p e s m below meth c F hr hlk I ls hl
  have hx := F.1
  have hb := F.2.1
  have hl : lv_has ls 4 [(0, .ref h), (1, .int op), (2, .int a1), (3, .int b1)] := hl
  refine lv_aload_n hx hb dX1_emit_0 rfl (lv_at hl 0 rfl) ?_
  refine m_g0 F I (v := sSz S) rfl dX1_emit_1 ?_
  refine lv_bipush (v := 20) hx hb dX1_emit_4 (by decide) ?_
  refine lv_icmp_lt (tgt := 11) hx hb dX1_emit_6 (by decide) (fun c6 => ?_) (fun c6 => ?_)
  · refine lv_iload_n hx hb dX1_emit_11 rfl (lv_at hl 1 rfl) ?_
    refine lv_if_lt (tgt := 21) hx hb dX1_emit_12 (by decide) (fun c12 => ?_) (fun c12 => ?_)
    · refine lv_bipush (v := (-2)) hx hb dX1_emit_21 (by decide) ?_
      exact m_ri F hr hlk I ⟨by simp [emR, c6, c12], by first | (simp [emS, c6, c12]; done) | (simp [emS, c6, c12]; rfl)⟩ dX1_emit_23
    · refine lv_iload_n hx hb dX1_emit_15 rfl (lv_at hl 1 rfl) ?_
      refine lv_bipush (v := 10) hx hb dX1_emit_16 (by decide) ?_
      refine lv_icmp_le (tgt := 24) hx hb dX1_emit_18 (by decide) (fun c18 => ?_) (fun c18 => ?_)
      · refine lv_iload_n hx hb dX1_emit_24 rfl (lv_at hl 2 rfl) ?_
        refine lv_if_lt (tgt := 52) hx hb dX1_emit_25 (by decide) (fun c25 => ?_) (fun c25 => ?_)
        · refine lv_bipush (v := (-3)) hx hb dX1_emit_52 (by decide) ?_
          exact m_ri F hr hlk I ⟨by simp [emR, c6, c12, c18, c25], by first | (simp [emS, c6, c12, c18, c25]; done) | (simp [emS, c6, c12, c18, c25]; rfl)⟩ dX1_emit_54
        · refine lv_iload_n hx hb dX1_emit_28 rfl (lv_at hl 2 rfl) ?_
          refine lv_iconst (v := 3) hx hb dX1_emit_29 (by decide) ?_
          refine lv_icmp_gt (tgt := 52) hx hb dX1_emit_30 (by decide) (fun c30 => ?_) (fun c30 => ?_)
          · refine lv_bipush (v := (-3)) hx hb dX1_emit_52 (by decide) ?_
            exact m_ri F hr hlk I ⟨by simp [emR, c6, c12, c18, c25, c30], by first | (simp [emS, c6, c12, c18, c25, c30]; done) | (simp [emS, c6, c12, c18, c25, c30]; rfl)⟩ dX1_emit_54
          · refine lv_iload_n hx hb dX1_emit_33 rfl (lv_at hl 1 rfl) ?_
            refine lv_iconst (v := 1) hx hb dX1_emit_34 (by decide) ?_
            refine lv_icmp_lt (tgt := 55) hx hb dX1_emit_35 (by decide) (fun c35 => ?_) (fun c35 => ?_)
            · refine lv_aload_n hx hb dX1_emit_55 rfl (lv_at hl 0 rfl) ?_
              refine m_g1 F I dX1_emit_56 ?_
              refine lv_aload_n hx hb dX1_emit_59 rfl (lv_at hl 0 rfl) ?_
              refine m_g0 F I (v := sSz S) rfl dX1_emit_60 ?_
              refine lv_iload_n hx hb dX1_emit_63 rfl (lv_at hl 1 rfl) ?_
              refine m_st1 F I (f := sOp S) rfl (gd_sz hg c6) dX1_emit_64 (fun H locs I => ?_)
              refine lv_aload_n hx hb dX1_emit_65 rfl (lv_at hl 0 rfl) ?_
              refine m_g2 F I dX1_emit_66 ?_
              refine lv_aload_n hx hb dX1_emit_69 rfl (lv_at hl 0 rfl) ?_
              refine m_g0 F I (v := sSz S) rfl dX1_emit_70 ?_
              refine lv_iload_n hx hb dX1_emit_73 rfl (lv_at hl 2 rfl) ?_
              refine m_st2 F I (f := sAs S) rfl (gd_sz hg c6) dX1_emit_74 (fun H locs I => ?_)
              refine lv_aload_n hx hb dX1_emit_75 rfl (lv_at hl 0 rfl) ?_
              refine m_g3 F I dX1_emit_76 ?_
              refine lv_aload_n hx hb dX1_emit_79 rfl (lv_at hl 0 rfl) ?_
              refine m_g0 F I (v := sSz S) rfl dX1_emit_80 ?_
              refine lv_iload_n hx hb dX1_emit_83 rfl (lv_at hl 3 rfl) ?_
              refine m_st3 F I (f := sBs S) rfl (gd_sz hg c6) dX1_emit_84 (fun H locs I => ?_)
              refine lv_aload_n hx hb dX1_emit_85 rfl (lv_at hl 0 rfl) ?_
              refine lv_dup hx hb dX1_emit_86 rfl ?_
              refine m_g0 F I (v := sSz S) rfl dX1_emit_87 ?_
              refine lv_iconst (v := 1) hx hb dX1_emit_90 (by decide) ?_
              refine lv_iadd hx hb dX1_emit_91 ?_
              refine m_p0 F I dX1_emit_92 (fun H locs I => ?_)
              refine lv_aload_n hx hb dX1_emit_95 rfl (lv_at hl 0 rfl) ?_
              refine m_g0 F I (v := (sSz S) + 1) rfl dX1_emit_96 ?_
              refine lv_iconst (v := 1) hx hb dX1_emit_99 (by decide) ?_
              refine lv_isub hx hb dX1_emit_100 ?_
              exact m_ri F hr hlk I ⟨by simp [emR, c6, c12, c18, c25, c30, c35], by first | (simp [emS, c6, c12, c18, c25, c30, c35]; done) | (simp [emS, c6, c12, c18, c25, c30, c35]; rfl)⟩ dX1_emit_101
            · refine lv_iload_n hx hb dX1_emit_38 rfl (lv_at hl 1 rfl) ?_
              refine lv_iconst (v := 4) hx hb dX1_emit_39 (by decide) ?_
              refine lv_icmp_gt (tgt := 55) hx hb dX1_emit_40 (by decide) (fun c40 => ?_) (fun c40 => ?_)
              · refine lv_aload_n hx hb dX1_emit_55 rfl (lv_at hl 0 rfl) ?_
                refine m_g1 F I dX1_emit_56 ?_
                refine lv_aload_n hx hb dX1_emit_59 rfl (lv_at hl 0 rfl) ?_
                refine m_g0 F I (v := sSz S) rfl dX1_emit_60 ?_
                refine lv_iload_n hx hb dX1_emit_63 rfl (lv_at hl 1 rfl) ?_
                refine m_st1 F I (f := sOp S) rfl (gd_sz hg c6) dX1_emit_64 (fun H locs I => ?_)
                refine lv_aload_n hx hb dX1_emit_65 rfl (lv_at hl 0 rfl) ?_
                refine m_g2 F I dX1_emit_66 ?_
                refine lv_aload_n hx hb dX1_emit_69 rfl (lv_at hl 0 rfl) ?_
                refine m_g0 F I (v := sSz S) rfl dX1_emit_70 ?_
                refine lv_iload_n hx hb dX1_emit_73 rfl (lv_at hl 2 rfl) ?_
                refine m_st2 F I (f := sAs S) rfl (gd_sz hg c6) dX1_emit_74 (fun H locs I => ?_)
                refine lv_aload_n hx hb dX1_emit_75 rfl (lv_at hl 0 rfl) ?_
                refine m_g3 F I dX1_emit_76 ?_
                refine lv_aload_n hx hb dX1_emit_79 rfl (lv_at hl 0 rfl) ?_
                refine m_g0 F I (v := sSz S) rfl dX1_emit_80 ?_
                refine lv_iload_n hx hb dX1_emit_83 rfl (lv_at hl 3 rfl) ?_
                refine m_st3 F I (f := sBs S) rfl (gd_sz hg c6) dX1_emit_84 (fun H locs I => ?_)
                refine lv_aload_n hx hb dX1_emit_85 rfl (lv_at hl 0 rfl) ?_
                refine lv_dup hx hb dX1_emit_86 rfl ?_
                refine m_g0 F I (v := sSz S) rfl dX1_emit_87 ?_
                refine lv_iconst (v := 1) hx hb dX1_emit_90 (by decide) ?_
                refine lv_iadd hx hb dX1_emit_91 ?_
                refine m_p0 F I dX1_emit_92 (fun H locs I => ?_)
                refine lv_aload_n hx hb dX1_emit_95 rfl (lv_at hl 0 rfl) ?_
                refine m_g0 F I (v := (sSz S) + 1) rfl dX1_emit_96 ?_
                refine lv_iconst (v := 1) hx hb dX1_emit_99 (by decide) ?_
                refine lv_isub hx hb dX1_emit_100 ?_
                exact m_ri F hr hlk I ⟨by simp [emR, c6, c12, c18, c25, c30, c35, c40], by first | (simp [emS, c6, c12, c18, c25, c30, c35, c40]; done) | (simp [emS, c6, c12, c18, c25, c30, c35, c40]; rfl)⟩ dX1_emit_101
              · refine lv_iload_n hx hb dX1_emit_43 rfl (lv_at hl 3 rfl) ?_
                refine lv_if_lt (tgt := 52) hx hb dX1_emit_44 (by decide) (fun c44 => ?_) (fun c44 => ?_)
                · refine lv_bipush (v := (-3)) hx hb dX1_emit_52 (by decide) ?_
                  exact m_ri F hr hlk I ⟨by simp [emR, c6, c12, c18, c25, c30, c35, c40, c44], by first | (simp [emS, c6, c12, c18, c25, c30, c35, c40, c44]; done) | (simp [emS, c6, c12, c18, c25, c30, c35, c40, c44]; rfl)⟩ dX1_emit_54
                · refine lv_iload_n hx hb dX1_emit_47 rfl (lv_at hl 3 rfl) ?_
                  refine lv_iconst (v := 3) hx hb dX1_emit_48 (by decide) ?_
                  refine lv_icmp_le (tgt := 55) hx hb dX1_emit_49 (by decide) (fun c49 => ?_) (fun c49 => ?_)
                  · refine lv_aload_n hx hb dX1_emit_55 rfl (lv_at hl 0 rfl) ?_
                    refine m_g1 F I dX1_emit_56 ?_
                    refine lv_aload_n hx hb dX1_emit_59 rfl (lv_at hl 0 rfl) ?_
                    refine m_g0 F I (v := sSz S) rfl dX1_emit_60 ?_
                    refine lv_iload_n hx hb dX1_emit_63 rfl (lv_at hl 1 rfl) ?_
                    refine m_st1 F I (f := sOp S) rfl (gd_sz hg c6) dX1_emit_64 (fun H locs I => ?_)
                    refine lv_aload_n hx hb dX1_emit_65 rfl (lv_at hl 0 rfl) ?_
                    refine m_g2 F I dX1_emit_66 ?_
                    refine lv_aload_n hx hb dX1_emit_69 rfl (lv_at hl 0 rfl) ?_
                    refine m_g0 F I (v := sSz S) rfl dX1_emit_70 ?_
                    refine lv_iload_n hx hb dX1_emit_73 rfl (lv_at hl 2 rfl) ?_
                    refine m_st2 F I (f := sAs S) rfl (gd_sz hg c6) dX1_emit_74 (fun H locs I => ?_)
                    refine lv_aload_n hx hb dX1_emit_75 rfl (lv_at hl 0 rfl) ?_
                    refine m_g3 F I dX1_emit_76 ?_
                    refine lv_aload_n hx hb dX1_emit_79 rfl (lv_at hl 0 rfl) ?_
                    refine m_g0 F I (v := sSz S) rfl dX1_emit_80 ?_
                    refine lv_iload_n hx hb dX1_emit_83 rfl (lv_at hl 3 rfl) ?_
                    refine m_st3 F I (f := sBs S) rfl (gd_sz hg c6) dX1_emit_84 (fun H locs I => ?_)
                    refine lv_aload_n hx hb dX1_emit_85 rfl (lv_at hl 0 rfl) ?_
                    refine lv_dup hx hb dX1_emit_86 rfl ?_
                    refine m_g0 F I (v := sSz S) rfl dX1_emit_87 ?_
                    refine lv_iconst (v := 1) hx hb dX1_emit_90 (by decide) ?_
                    refine lv_iadd hx hb dX1_emit_91 ?_
                    refine m_p0 F I dX1_emit_92 (fun H locs I => ?_)
                    refine lv_aload_n hx hb dX1_emit_95 rfl (lv_at hl 0 rfl) ?_
                    refine m_g0 F I (v := (sSz S) + 1) rfl dX1_emit_96 ?_
                    refine lv_iconst (v := 1) hx hb dX1_emit_99 (by decide) ?_
                    refine lv_isub hx hb dX1_emit_100 ?_
                    exact m_ri F hr hlk I ⟨by simp [emR, c6, c12, c18, c25, c30, c35, c40, c44, c49], by first | (simp [emS, c6, c12, c18, c25, c30, c35, c40, c44, c49]; done) | (simp [emS, c6, c12, c18, c25, c30, c35, c40, c44, c49]; rfl)⟩ dX1_emit_101
                  · refine lv_bipush (v := (-3)) hx hb dX1_emit_52 (by decide) ?_
                    exact m_ri F hr hlk I ⟨by simp [emR, c6, c12, c18, c25, c30, c35, c40, c44, c49], by first | (simp [emS, c6, c12, c18, c25, c30, c35, c40, c44, c49]; done) | (simp [emS, c6, c12, c18, c25, c30, c35, c40, c44, c49]; rfl)⟩ dX1_emit_54
      · refine lv_bipush (v := (-2)) hx hb dX1_emit_21 (by decide) ?_
        exact m_ri F hr hlk I ⟨by simp [emR, c6, c12, c18], by first | (simp [emS, c6, c12, c18]; done) | (simp [emS, c6, c12, c18]; rfl)⟩ dX1_emit_23
  · refine lv_iconst (v := (-1)) hx hb dX1_emit_9 (by decide) ?_
    exact m_ri F hr hlk I ⟨by simp [emR, c6], by first | (simp [emS, c6]; done) | (simp [emS, c6]; rfl)⟩ dX1_emit_10
set_option maxHeartbeats 4000000 in
set_option maxRecDepth 100000 in
/-- codeAt(p) -/
theorem met_m_codeAt {l : Launch} {D : va_G} {h : Nat} {a : Nat → Nat} {ca : Nat → ClassId} {sz : Nat} {S : Sh} (p0 : Int32) (hg : gd S) : Met l yX1_codeAt (ws_ yX1_codeAt cX1_codeAt 2 (some .int)) (rmL 0) (mPc D h a ca [.int p0] sz S) (mQi D h a ca sz S (fun r u => r = cdR S p0 ∧ u = S)) 0 0 (mA h a ca S sz) := by
  refine m_enter (by decide) (Nat.le_of_ble_eq_true rfl) rfl ?_
  intro p e s m below meth c F hr hlk I ls hl
  have hx := F.1
  have hb := F.2.1
  have hl : lv_has ls 2 [(0, .ref h), (1, .int p0)] := hl
  refine lv_iload_n hx hb dX1_codeAt_0 rfl (lv_at hl 1 rfl) ?_
  refine lv_if_lt (tgt := 12) hx hb dX1_codeAt_1 (by decide) (fun c1 => ?_) (fun c1 => ?_)
  · refine lv_iconst (v := (-1)) hx hb dX1_codeAt_12 (by decide) ?_
    refine lv_goto (tgt := 32) hx hb dX1_codeAt_13 (by decide) ?_
    exact m_ri F hr hlk I ⟨by rw [cdR, if_neg (fun q => q (Or.inl c1))], rfl⟩ dX1_codeAt_32
  · refine lv_iload_n hx hb dX1_codeAt_4 rfl (lv_at hl 1 rfl) ?_
    refine lv_aload_n hx hb dX1_codeAt_5 rfl (lv_at hl 0 rfl) ?_
    refine m_g0 F I (v := sSz S) rfl dX1_codeAt_6 ?_
    refine lv_icmp_lt (tgt := 16) hx hb dX1_codeAt_9 (by decide) (fun c9 => ?_) (fun c9 => ?_)
    · refine lv_aload_n hx hb dX1_codeAt_16 rfl (lv_at hl 0 rfl) ?_
      refine m_g1 F I dX1_codeAt_17 ?_
      refine lv_iload_n hx hb dX1_codeAt_20 rfl (lv_at hl 1 rfl) ?_
      refine m_ld1 F I (v := sOp S p0.toNatClampNeg) (gd_in hg (fun q => q.elim c1 (n_le.mpr c9))) rfl dX1_codeAt_21 ?_
      refine lv_bipush (v := 16) hx hb dX1_codeAt_22 (by decide) ?_
      refine lv_aload_n hx hb dX1_codeAt_24 rfl (lv_at hl 0 rfl) ?_
      refine m_g2 F I dX1_codeAt_25 ?_
      refine lv_iload_n hx hb dX1_codeAt_28 rfl (lv_at hl 1 rfl) ?_
      refine m_ld2 F I (v := sAs S p0.toNatClampNeg) (gd_in hg (fun q => q.elim c1 (n_le.mpr c9))) rfl dX1_codeAt_29 ?_
      refine lv_imul hx hb dX1_codeAt_30 ?_
      refine lv_iadd hx hb dX1_codeAt_31 ?_
      exact m_ri F hr hlk I ⟨by rw [cdR, if_pos (fun q => q.elim c1 (n_le.mpr c9))], rfl⟩ dX1_codeAt_32
    · refine lv_iconst (v := (-1)) hx hb dX1_codeAt_12 (by decide) ?_
      refine lv_goto (tgt := 32) hx hb dX1_codeAt_13 (by decide) ?_
      exact m_ri F hr hlk I ⟨by rw [cdR, if_neg (fun q => q (Or.inr (n_lt.mp c9)))], rfl⟩ dX1_codeAt_32
set_option maxHeartbeats 4000000 in
set_option maxRecDepth 100000 in
/-- reset() -/
theorem met_m_reset {l : Launch} {D : va_G} {h : Nat} {a : Nat → Nat} {ca : Nat → ClassId} {sz : Nat} {S : Sh} : Met l yX1_reset (ws_ yX1_reset cX1_reset 2 none) (rmL 0) (mPc D h a ca [] sz S) (mQv D h a ca sz S (fun u => u = rsS S)) 0 0 (mA h a ca S sz) := by
  refine m_enter (by decide) (Nat.le_of_ble_eq_true rfl) rfl ?_
  intro p e s m below meth c F hr hlk I ls hl
  have hx := F.1
  have hb := F.2.1
  have hl : lv_has ls 2 [(0, .ref h)] := hl
  refine lv_iconst (v := 0) hx hb dX1_reset_0 (by decide) ?_
  refine lv_istore_n (lv' := [(1, .int 0), (0, .ref h)]) hx hb dX1_reset_1 rfl hl (by decide) rfl (fun ls hl => ?_)
  refine lv_iload_n hx hb dX1_reset_2 rfl (lv_at hl 0 rfl) ?_
  refine lv_iconst (v := 4) hx hb dX1_reset_3 (by decide) ?_
  refine lv_icmp_ge (tgt := 20) hx hb dX1_reset_4 (by decide) (fun c4 => ?_) (fun c4 => ?_)
  · exact absurd c4 (by decide)
  · refine lv_aload_n hx hb dX1_reset_7 rfl (lv_at hl 1 rfl) ?_
    refine m_g5 F I dX1_reset_8 ?_
    refine lv_iload_n hx hb dX1_reset_11 rfl (lv_at hl 0 rfl) ?_
    refine lv_iconst (v := 0) hx hb dX1_reset_12 (by decide) ?_
    refine m_st5 F I (f := sRg S) rfl (vp_in_nI (n := 0) (by decide) (by decide)) dX1_reset_13 (fun H locs I => ?_)
    refine lv_iinc (v := 1) (lv' := [(1, .int 1), (0, .ref h)]) hx hb dX1_reset_14 hl (k := 0) rfl (by decide) (by decide) rfl (fun ls hl => ?_)
    refine lv_goto (tgt := 2) hx hb dX1_reset_17 (by decide) ?_
    refine lv_iload_n hx hb dX1_reset_2 rfl (lv_at hl 0 rfl) ?_
    refine lv_iconst (v := 4) hx hb dX1_reset_3 (by decide) ?_
    refine lv_icmp_ge (tgt := 20) hx hb dX1_reset_4 (by decide) (fun c4 => ?_) (fun c4 => ?_)
    · exact absurd c4 (by decide)
    · refine lv_aload_n hx hb dX1_reset_7 rfl (lv_at hl 1 rfl) ?_
      refine m_g5 F I dX1_reset_8 ?_
      refine lv_iload_n hx hb dX1_reset_11 rfl (lv_at hl 0 rfl) ?_
      refine lv_iconst (v := 0) hx hb dX1_reset_12 (by decide) ?_
      refine m_st5 F I (f := upd (sRg S) (0 : Int32).toNatClampNeg 0) rfl (vp_in_nI (n := 1) (by decide) (by decide)) dX1_reset_13 (fun H locs I => ?_)
      have I : mI D h a ca _ s H locs (zRg S (upd (upd (sRg S) (0 : Int32).toNatClampNeg 0) (1 : Int32).toNatClampNeg 0)) := I
      refine lv_iinc (v := 2) (lv' := [(1, .int 2), (0, .ref h)]) hx hb dX1_reset_14 hl (k := 0) rfl (by decide) (by decide) rfl (fun ls hl => ?_)
      refine lv_goto (tgt := 2) hx hb dX1_reset_17 (by decide) ?_
      refine lv_iload_n hx hb dX1_reset_2 rfl (lv_at hl 0 rfl) ?_
      refine lv_iconst (v := 4) hx hb dX1_reset_3 (by decide) ?_
      refine lv_icmp_ge (tgt := 20) hx hb dX1_reset_4 (by decide) (fun c4 => ?_) (fun c4 => ?_)
      · exact absurd c4 (by decide)
      · refine lv_aload_n hx hb dX1_reset_7 rfl (lv_at hl 1 rfl) ?_
        refine m_g5 F I dX1_reset_8 ?_
        refine lv_iload_n hx hb dX1_reset_11 rfl (lv_at hl 0 rfl) ?_
        refine lv_iconst (v := 0) hx hb dX1_reset_12 (by decide) ?_
        refine m_st5 F I (f := upd (upd (sRg S) (0 : Int32).toNatClampNeg 0) (1 : Int32).toNatClampNeg 0) rfl (vp_in_nI (n := 2) (by decide) (by decide)) dX1_reset_13 (fun H locs I => ?_)
        have I : mI D h a ca _ s H locs (zRg S (upd (upd (upd (sRg S) (0 : Int32).toNatClampNeg 0) (1 : Int32).toNatClampNeg 0) (2 : Int32).toNatClampNeg 0)) := I
        refine lv_iinc (v := 3) (lv' := [(1, .int 3), (0, .ref h)]) hx hb dX1_reset_14 hl (k := 0) rfl (by decide) (by decide) rfl (fun ls hl => ?_)
        refine lv_goto (tgt := 2) hx hb dX1_reset_17 (by decide) ?_
        refine lv_iload_n hx hb dX1_reset_2 rfl (lv_at hl 0 rfl) ?_
        refine lv_iconst (v := 4) hx hb dX1_reset_3 (by decide) ?_
        refine lv_icmp_ge (tgt := 20) hx hb dX1_reset_4 (by decide) (fun c4 => ?_) (fun c4 => ?_)
        · exact absurd c4 (by decide)
        · refine lv_aload_n hx hb dX1_reset_7 rfl (lv_at hl 1 rfl) ?_
          refine m_g5 F I dX1_reset_8 ?_
          refine lv_iload_n hx hb dX1_reset_11 rfl (lv_at hl 0 rfl) ?_
          refine lv_iconst (v := 0) hx hb dX1_reset_12 (by decide) ?_
          refine m_st5 F I (f := upd (upd (upd (sRg S) (0 : Int32).toNatClampNeg 0) (1 : Int32).toNatClampNeg 0) (2 : Int32).toNatClampNeg 0) rfl (vp_in_nI (n := 3) (by decide) (by decide)) dX1_reset_13 (fun H locs I => ?_)
          have I : mI D h a ca _ s H locs (zRg S (upd (upd (upd (upd (sRg S) (0 : Int32).toNatClampNeg 0) (1 : Int32).toNatClampNeg 0) (2 : Int32).toNatClampNeg 0) (3 : Int32).toNatClampNeg 0)) := I
          refine lv_iinc (v := 4) (lv' := [(1, .int 4), (0, .ref h)]) hx hb dX1_reset_14 hl (k := 0) rfl (by decide) (by decide) rfl (fun ls hl => ?_)
          refine lv_goto (tgt := 2) hx hb dX1_reset_17 (by decide) ?_
          refine lv_iload_n hx hb dX1_reset_2 rfl (lv_at hl 0 rfl) ?_
          refine lv_iconst (v := 4) hx hb dX1_reset_3 (by decide) ?_
          refine lv_icmp_ge (tgt := 20) hx hb dX1_reset_4 (by decide) (fun c4 => ?_) (fun c4 => ?_)
          · refine lv_iconst (v := 0) hx hb dX1_reset_20 (by decide) ?_
            refine lv_istore_n (lv' := [(1, .int 0), (0, .ref h)]) hx hb dX1_reset_21 rfl hl (by decide) rfl (fun ls hl => ?_)
            refine lv_iload_n hx hb dX1_reset_22 rfl (lv_at hl 0 rfl) ?_
            refine lv_bipush (v := 8) hx hb dX1_reset_23 (by decide) ?_
            refine lv_icmp_ge (tgt := 41) hx hb dX1_reset_25 (by decide) (fun c25 => ?_) (fun c25 => ?_)
            · exact absurd c25 (by decide)
            · refine lv_aload_n hx hb dX1_reset_28 rfl (lv_at hl 1 rfl) ?_
              refine m_g6 F I dX1_reset_29 ?_
              refine lv_iload_n hx hb dX1_reset_32 rfl (lv_at hl 0 rfl) ?_
              refine lv_iconst (v := 0) hx hb dX1_reset_33 (by decide) ?_
              refine m_st6 F I (f := sMm S) rfl (vp_in_nI (n := 0) (by decide) (by decide)) dX1_reset_34 (fun H locs I => ?_)
              refine lv_iinc (v := 1) (lv' := [(1, .int 1), (0, .ref h)]) hx hb dX1_reset_35 hl (k := 0) rfl (by decide) (by decide) rfl (fun ls hl => ?_)
              refine lv_goto (tgt := 22) hx hb dX1_reset_38 (by decide) ?_
              refine lv_iload_n hx hb dX1_reset_22 rfl (lv_at hl 0 rfl) ?_
              refine lv_bipush (v := 8) hx hb dX1_reset_23 (by decide) ?_
              refine lv_icmp_ge (tgt := 41) hx hb dX1_reset_25 (by decide) (fun c25 => ?_) (fun c25 => ?_)
              · exact absurd c25 (by decide)
              · refine lv_aload_n hx hb dX1_reset_28 rfl (lv_at hl 1 rfl) ?_
                refine m_g6 F I dX1_reset_29 ?_
                refine lv_iload_n hx hb dX1_reset_32 rfl (lv_at hl 0 rfl) ?_
                refine lv_iconst (v := 0) hx hb dX1_reset_33 (by decide) ?_
                refine m_st6 F I (f := upd (sMm S) (0 : Int32).toNatClampNeg 0) rfl (vp_in_nI (n := 1) (by decide) (by decide)) dX1_reset_34 (fun H locs I => ?_)
                have I : mI D h a ca _ s H locs (zMm (zRg S (upd (upd (upd (upd (sRg S) (0 : Int32).toNatClampNeg 0) (1 : Int32).toNatClampNeg 0) (2 : Int32).toNatClampNeg 0) (3 : Int32).toNatClampNeg 0)) (upd (upd (sMm S) (0 : Int32).toNatClampNeg 0) (1 : Int32).toNatClampNeg 0)) := I
                refine lv_iinc (v := 2) (lv' := [(1, .int 2), (0, .ref h)]) hx hb dX1_reset_35 hl (k := 0) rfl (by decide) (by decide) rfl (fun ls hl => ?_)
                refine lv_goto (tgt := 22) hx hb dX1_reset_38 (by decide) ?_
                refine lv_iload_n hx hb dX1_reset_22 rfl (lv_at hl 0 rfl) ?_
                refine lv_bipush (v := 8) hx hb dX1_reset_23 (by decide) ?_
                refine lv_icmp_ge (tgt := 41) hx hb dX1_reset_25 (by decide) (fun c25 => ?_) (fun c25 => ?_)
                · exact absurd c25 (by decide)
                · refine lv_aload_n hx hb dX1_reset_28 rfl (lv_at hl 1 rfl) ?_
                  refine m_g6 F I dX1_reset_29 ?_
                  refine lv_iload_n hx hb dX1_reset_32 rfl (lv_at hl 0 rfl) ?_
                  refine lv_iconst (v := 0) hx hb dX1_reset_33 (by decide) ?_
                  refine m_st6 F I (f := upd (upd (sMm S) (0 : Int32).toNatClampNeg 0) (1 : Int32).toNatClampNeg 0) rfl (vp_in_nI (n := 2) (by decide) (by decide)) dX1_reset_34 (fun H locs I => ?_)
                  have I : mI D h a ca _ s H locs (zMm (zRg S (upd (upd (upd (upd (sRg S) (0 : Int32).toNatClampNeg 0) (1 : Int32).toNatClampNeg 0) (2 : Int32).toNatClampNeg 0) (3 : Int32).toNatClampNeg 0)) (upd (upd (upd (sMm S) (0 : Int32).toNatClampNeg 0) (1 : Int32).toNatClampNeg 0) (2 : Int32).toNatClampNeg 0)) := I
                  refine lv_iinc (v := 3) (lv' := [(1, .int 3), (0, .ref h)]) hx hb dX1_reset_35 hl (k := 0) rfl (by decide) (by decide) rfl (fun ls hl => ?_)
                  refine lv_goto (tgt := 22) hx hb dX1_reset_38 (by decide) ?_
                  refine lv_iload_n hx hb dX1_reset_22 rfl (lv_at hl 0 rfl) ?_
                  refine lv_bipush (v := 8) hx hb dX1_reset_23 (by decide) ?_
                  refine lv_icmp_ge (tgt := 41) hx hb dX1_reset_25 (by decide) (fun c25 => ?_) (fun c25 => ?_)
                  · exact absurd c25 (by decide)
                  · refine lv_aload_n hx hb dX1_reset_28 rfl (lv_at hl 1 rfl) ?_
                    refine m_g6 F I dX1_reset_29 ?_
                    refine lv_iload_n hx hb dX1_reset_32 rfl (lv_at hl 0 rfl) ?_
                    refine lv_iconst (v := 0) hx hb dX1_reset_33 (by decide) ?_
                    refine m_st6 F I (f := upd (upd (upd (sMm S) (0 : Int32).toNatClampNeg 0) (1 : Int32).toNatClampNeg 0) (2 : Int32).toNatClampNeg 0) rfl (vp_in_nI (n := 3) (by decide) (by decide)) dX1_reset_34 (fun H locs I => ?_)
                    have I : mI D h a ca _ s H locs (zMm (zRg S (upd (upd (upd (upd (sRg S) (0 : Int32).toNatClampNeg 0) (1 : Int32).toNatClampNeg 0) (2 : Int32).toNatClampNeg 0) (3 : Int32).toNatClampNeg 0)) (upd (upd (upd (upd (sMm S) (0 : Int32).toNatClampNeg 0) (1 : Int32).toNatClampNeg 0) (2 : Int32).toNatClampNeg 0) (3 : Int32).toNatClampNeg 0)) := I
                    refine lv_iinc (v := 4) (lv' := [(1, .int 4), (0, .ref h)]) hx hb dX1_reset_35 hl (k := 0) rfl (by decide) (by decide) rfl (fun ls hl => ?_)
                    refine lv_goto (tgt := 22) hx hb dX1_reset_38 (by decide) ?_
                    refine lv_iload_n hx hb dX1_reset_22 rfl (lv_at hl 0 rfl) ?_
                    refine lv_bipush (v := 8) hx hb dX1_reset_23 (by decide) ?_
                    refine lv_icmp_ge (tgt := 41) hx hb dX1_reset_25 (by decide) (fun c25 => ?_) (fun c25 => ?_)
                    · exact absurd c25 (by decide)
                    · refine lv_aload_n hx hb dX1_reset_28 rfl (lv_at hl 1 rfl) ?_
                      refine m_g6 F I dX1_reset_29 ?_
                      refine lv_iload_n hx hb dX1_reset_32 rfl (lv_at hl 0 rfl) ?_
                      refine lv_iconst (v := 0) hx hb dX1_reset_33 (by decide) ?_
                      refine m_st6 F I (f := upd (upd (upd (upd (sMm S) (0 : Int32).toNatClampNeg 0) (1 : Int32).toNatClampNeg 0) (2 : Int32).toNatClampNeg 0) (3 : Int32).toNatClampNeg 0) rfl (vp_in_nI (n := 4) (by decide) (by decide)) dX1_reset_34 (fun H locs I => ?_)
                      have I : mI D h a ca _ s H locs (zMm (zRg S (upd (upd (upd (upd (sRg S) (0 : Int32).toNatClampNeg 0) (1 : Int32).toNatClampNeg 0) (2 : Int32).toNatClampNeg 0) (3 : Int32).toNatClampNeg 0)) (upd (upd (upd (upd (upd (sMm S) (0 : Int32).toNatClampNeg 0) (1 : Int32).toNatClampNeg 0) (2 : Int32).toNatClampNeg 0) (3 : Int32).toNatClampNeg 0) (4 : Int32).toNatClampNeg 0)) := I
                      refine lv_iinc (v := 5) (lv' := [(1, .int 5), (0, .ref h)]) hx hb dX1_reset_35 hl (k := 0) rfl (by decide) (by decide) rfl (fun ls hl => ?_)
                      refine lv_goto (tgt := 22) hx hb dX1_reset_38 (by decide) ?_
                      refine lv_iload_n hx hb dX1_reset_22 rfl (lv_at hl 0 rfl) ?_
                      refine lv_bipush (v := 8) hx hb dX1_reset_23 (by decide) ?_
                      refine lv_icmp_ge (tgt := 41) hx hb dX1_reset_25 (by decide) (fun c25 => ?_) (fun c25 => ?_)
                      · exact absurd c25 (by decide)
                      · refine lv_aload_n hx hb dX1_reset_28 rfl (lv_at hl 1 rfl) ?_
                        refine m_g6 F I dX1_reset_29 ?_
                        refine lv_iload_n hx hb dX1_reset_32 rfl (lv_at hl 0 rfl) ?_
                        refine lv_iconst (v := 0) hx hb dX1_reset_33 (by decide) ?_
                        refine m_st6 F I (f := upd (upd (upd (upd (upd (sMm S) (0 : Int32).toNatClampNeg 0) (1 : Int32).toNatClampNeg 0) (2 : Int32).toNatClampNeg 0) (3 : Int32).toNatClampNeg 0) (4 : Int32).toNatClampNeg 0) rfl (vp_in_nI (n := 5) (by decide) (by decide)) dX1_reset_34 (fun H locs I => ?_)
                        have I : mI D h a ca _ s H locs (zMm (zRg S (upd (upd (upd (upd (sRg S) (0 : Int32).toNatClampNeg 0) (1 : Int32).toNatClampNeg 0) (2 : Int32).toNatClampNeg 0) (3 : Int32).toNatClampNeg 0)) (upd (upd (upd (upd (upd (upd (sMm S) (0 : Int32).toNatClampNeg 0) (1 : Int32).toNatClampNeg 0) (2 : Int32).toNatClampNeg 0) (3 : Int32).toNatClampNeg 0) (4 : Int32).toNatClampNeg 0) (5 : Int32).toNatClampNeg 0)) := I
                        refine lv_iinc (v := 6) (lv' := [(1, .int 6), (0, .ref h)]) hx hb dX1_reset_35 hl (k := 0) rfl (by decide) (by decide) rfl (fun ls hl => ?_)
                        refine lv_goto (tgt := 22) hx hb dX1_reset_38 (by decide) ?_
                        refine lv_iload_n hx hb dX1_reset_22 rfl (lv_at hl 0 rfl) ?_
                        refine lv_bipush (v := 8) hx hb dX1_reset_23 (by decide) ?_
                        refine lv_icmp_ge (tgt := 41) hx hb dX1_reset_25 (by decide) (fun c25 => ?_) (fun c25 => ?_)
                        · exact absurd c25 (by decide)
                        · refine lv_aload_n hx hb dX1_reset_28 rfl (lv_at hl 1 rfl) ?_
                          refine m_g6 F I dX1_reset_29 ?_
                          refine lv_iload_n hx hb dX1_reset_32 rfl (lv_at hl 0 rfl) ?_
                          refine lv_iconst (v := 0) hx hb dX1_reset_33 (by decide) ?_
                          refine m_st6 F I (f := upd (upd (upd (upd (upd (upd (sMm S) (0 : Int32).toNatClampNeg 0) (1 : Int32).toNatClampNeg 0) (2 : Int32).toNatClampNeg 0) (3 : Int32).toNatClampNeg 0) (4 : Int32).toNatClampNeg 0) (5 : Int32).toNatClampNeg 0) rfl (vp_in_nI (n := 6) (by decide) (by decide)) dX1_reset_34 (fun H locs I => ?_)
                          have I : mI D h a ca _ s H locs (zMm (zRg S (upd (upd (upd (upd (sRg S) (0 : Int32).toNatClampNeg 0) (1 : Int32).toNatClampNeg 0) (2 : Int32).toNatClampNeg 0) (3 : Int32).toNatClampNeg 0)) (upd (upd (upd (upd (upd (upd (upd (sMm S) (0 : Int32).toNatClampNeg 0) (1 : Int32).toNatClampNeg 0) (2 : Int32).toNatClampNeg 0) (3 : Int32).toNatClampNeg 0) (4 : Int32).toNatClampNeg 0) (5 : Int32).toNatClampNeg 0) (6 : Int32).toNatClampNeg 0)) := I
                          refine lv_iinc (v := 7) (lv' := [(1, .int 7), (0, .ref h)]) hx hb dX1_reset_35 hl (k := 0) rfl (by decide) (by decide) rfl (fun ls hl => ?_)
                          refine lv_goto (tgt := 22) hx hb dX1_reset_38 (by decide) ?_
                          refine lv_iload_n hx hb dX1_reset_22 rfl (lv_at hl 0 rfl) ?_
                          refine lv_bipush (v := 8) hx hb dX1_reset_23 (by decide) ?_
                          refine lv_icmp_ge (tgt := 41) hx hb dX1_reset_25 (by decide) (fun c25 => ?_) (fun c25 => ?_)
                          · exact absurd c25 (by decide)
                          · refine lv_aload_n hx hb dX1_reset_28 rfl (lv_at hl 1 rfl) ?_
                            refine m_g6 F I dX1_reset_29 ?_
                            refine lv_iload_n hx hb dX1_reset_32 rfl (lv_at hl 0 rfl) ?_
                            refine lv_iconst (v := 0) hx hb dX1_reset_33 (by decide) ?_
                            refine m_st6 F I (f := upd (upd (upd (upd (upd (upd (upd (sMm S) (0 : Int32).toNatClampNeg 0) (1 : Int32).toNatClampNeg 0) (2 : Int32).toNatClampNeg 0) (3 : Int32).toNatClampNeg 0) (4 : Int32).toNatClampNeg 0) (5 : Int32).toNatClampNeg 0) (6 : Int32).toNatClampNeg 0) rfl (vp_in_nI (n := 7) (by decide) (by decide)) dX1_reset_34 (fun H locs I => ?_)
                            have I : mI D h a ca _ s H locs (zMm (zRg S (upd (upd (upd (upd (sRg S) (0 : Int32).toNatClampNeg 0) (1 : Int32).toNatClampNeg 0) (2 : Int32).toNatClampNeg 0) (3 : Int32).toNatClampNeg 0)) (upd (upd (upd (upd (upd (upd (upd (upd (sMm S) (0 : Int32).toNatClampNeg 0) (1 : Int32).toNatClampNeg 0) (2 : Int32).toNatClampNeg 0) (3 : Int32).toNatClampNeg 0) (4 : Int32).toNatClampNeg 0) (5 : Int32).toNatClampNeg 0) (6 : Int32).toNatClampNeg 0) (7 : Int32).toNatClampNeg 0)) := I
                            refine lv_iinc (v := 8) (lv' := [(1, .int 8), (0, .ref h)]) hx hb dX1_reset_35 hl (k := 0) rfl (by decide) (by decide) rfl (fun ls hl => ?_)
                            refine lv_goto (tgt := 22) hx hb dX1_reset_38 (by decide) ?_
                            refine lv_iload_n hx hb dX1_reset_22 rfl (lv_at hl 0 rfl) ?_
                            refine lv_bipush (v := 8) hx hb dX1_reset_23 (by decide) ?_
                            refine lv_icmp_ge (tgt := 41) hx hb dX1_reset_25 (by decide) (fun c25 => ?_) (fun c25 => ?_)
                            · refine lv_aload_n hx hb dX1_reset_41 rfl (lv_at hl 1 rfl) ?_
                              refine lv_iconst (v := 0) hx hb dX1_reset_42 (by decide) ?_
                              refine m_p8 F I dX1_reset_43 (fun H locs I => ?_)
                              refine lv_aload_n hx hb dX1_reset_46 rfl (lv_at hl 1 rfl) ?_
                              refine lv_iconst (v := 0) hx hb dX1_reset_47 (by decide) ?_
                              refine m_p9 F I dX1_reset_48 (fun H locs I => ?_)
                              refine lv_aload_n hx hb dX1_reset_51 rfl (lv_at hl 1 rfl) ?_
                              refine lv_iconst (v := 0) hx hb dX1_reset_52 (by decide) ?_
                              refine m_p10 F I dX1_reset_53 (fun H locs I => ?_)
                              refine lv_aload_n hx hb dX1_reset_56 rfl (lv_at hl 1 rfl) ?_
                              refine lv_iconst (v := 0) hx hb dX1_reset_57 (by decide) ?_
                              refine m_p11 F I rfl rfl dX1_reset_58 (fun H locs I => ?_)
                              refine lv_aload_n hx hb dX1_reset_61 rfl (lv_at hl 1 rfl) ?_
                              refine lv_iconst (v := 0) hx hb dX1_reset_62 (by decide) ?_
                              refine m_p12 F I dX1_reset_63 (fun H locs I => ?_)
                              exact m_rv F hr hlk I rfl dX1_reset_66
                            · exact absurd c25 (by decide)
          · exact absurd c4 (by decide)
set_option maxHeartbeats 4000000 in
set_option maxRecDepth 100000 in
/-- breakAt(p, on) -/
theorem met_m_breakAt {l : Launch} {D : va_G} {h : Nat} {a : Nat → Nat} {ca : Nat → ClassId} {sz : Nat} {S : Sh} (p0 : Int32) (on : Int32) : Met l yX1_breakAt (ws_ yX1_breakAt cX1_breakAt 3 (some .boolean)) (rmL 0) (mPc D h a ca [.int p0, .int on] sz S) (mQi D h a ca sz S (fun r u => r = bkR p0 ∧ u = bkS S p0 on)) 0 0 (mA h a ca S sz) := by
  refine m_enter (by decide) (Nat.le_of_ble_eq_true rfl) rfl ?_
  intro p e s m below meth c F hr hlk I ls hl
  have hx := F.1
  have hb := F.2.1
  have hl : lv_has ls 3 [(0, .ref h), (1, .int p0), (2, .int on)] := hl
  refine lv_iload_n hx hb dX1_breakAt_0 rfl (lv_at hl 1 rfl) ?_
  refine lv_if_lt (tgt := 10) hx hb dX1_breakAt_1 (by decide) (fun c1 => ?_) (fun c1 => ?_)
  · refine lv_iconst (v := 0) hx hb dX1_breakAt_10 (by decide) ?_
    exact m_rz F hr hlk I rfl ⟨by simp [bkR, ← le19, c1], by simp [bkS, ← le19, c1]⟩ dX1_breakAt_11
  · refine lv_iload_n hx hb dX1_breakAt_4 rfl (lv_at hl 1 rfl) ?_
    refine lv_bipush (v := 19) hx hb dX1_breakAt_5 (by decide) ?_
    refine lv_icmp_le (tgt := 12) hx hb dX1_breakAt_7 (by decide) (fun c7 => ?_) (fun c7 => ?_)
    · refine lv_aload_n hx hb dX1_breakAt_12 rfl (lv_at hl 0 rfl) ?_
      refine lv_iload_n hx hb dX1_breakAt_13 rfl (lv_at hl 2 rfl) ?_
      refine lv_if_eq (tgt := 28) hx hb dX1_breakAt_14 (by decide) (fun c14 => ?_) (fun c14 => ?_)
      · refine lv_aload_n hx hb dX1_breakAt_28 rfl (lv_at hl 0 rfl) ?_
        refine m_g4 F I (v := sBk S) rfl dX1_breakAt_29 ?_
        refine lv_iconst (v := 1) hx hb dX1_breakAt_32 (by decide) ?_
        refine lv_iload_n hx hb dX1_breakAt_33 rfl (lv_at hl 1 rfl) ?_
        refine lv_ishl hx hb dX1_breakAt_34 ?_
        refine lv_iconst (v := (-1)) hx hb dX1_breakAt_35 (by decide) ?_
        refine lv_ixor hx hb dX1_breakAt_36 ?_
        refine lv_iand hx hb dX1_breakAt_37 ?_
        refine m_p4 F I dX1_breakAt_38 (fun H locs I => ?_)
        refine lv_iconst (v := 1) hx hb dX1_breakAt_41 (by decide) ?_
        exact m_rz F hr hlk I rfl ⟨by simp [bkR, ← le19, c1, c7, c14], by simp [bkS, ← le19, c1, c7, c14]⟩ dX1_breakAt_42
      · refine lv_aload_n hx hb dX1_breakAt_17 rfl (lv_at hl 0 rfl) ?_
        refine m_g4 F I (v := sBk S) rfl dX1_breakAt_18 ?_
        refine lv_iconst (v := 1) hx hb dX1_breakAt_21 (by decide) ?_
        refine lv_iload_n hx hb dX1_breakAt_22 rfl (lv_at hl 1 rfl) ?_
        refine lv_ishl hx hb dX1_breakAt_23 ?_
        refine lv_ior hx hb dX1_breakAt_24 ?_
        refine lv_goto (tgt := 38) hx hb dX1_breakAt_25 (by decide) ?_
        refine m_p4 F I dX1_breakAt_38 (fun H locs I => ?_)
        refine lv_iconst (v := 1) hx hb dX1_breakAt_41 (by decide) ?_
        exact m_rz F hr hlk I rfl ⟨by simp [bkR, ← le19, c1, c7, c14], by simp [bkS, ← le19, c1, c7, c14]⟩ dX1_breakAt_42
    · refine lv_iconst (v := 0) hx hb dX1_breakAt_10 (by decide) ?_
      exact m_rz F hr hlk I rfl ⟨by simp [bkR, ← le19, c1, c7], by simp [bkS, ← le19, c1, c7]⟩ dX1_breakAt_11
set_option maxHeartbeats 4000000 in
set_option maxRecDepth 100000 in
/-- peek(i) -/
theorem met_m_peek {l : Launch} {D : va_G} {h : Nat} {a : Nat → Nat} {ca : Nat → ClassId} {sz : Nat} {S : Sh} (i1 : Int32) (hg : gd S) : Met l yX1_peek (ws_ yX1_peek cX1_peek 2 (some .int)) (rmL 0) (mPc D h a ca [.int i1] sz S) (mQi D h a ca sz S (fun r u => r = pkR S i1 ∧ u = S)) 0 0 (mA h a ca S sz) := by
  refine m_enter (by decide) (Nat.le_of_ble_eq_true rfl) rfl ?_
  intro p e s m below meth c F hr hlk I ls hl
  have hx := F.1
  have hb := F.2.1
  have hl : lv_has ls 2 [(0, .ref h), (1, .int i1)] := hl
  refine lv_iload_n hx hb dX1_peek_0 rfl (lv_at hl 1 rfl) ?_
  refine lv_if_lt (tgt := 16) hx hb dX1_peek_1 (by decide) (fun c1 => ?_) (fun c1 => ?_)
  · refine lv_iload_n hx hb dX1_peek_16 rfl (lv_at hl 1 rfl) ?_
    refine lv_bipush (v := 8) hx hb dX1_peek_17 (by decide) ?_
    refine lv_icmp_lt (tgt := 38) hx hb dX1_peek_19 (by decide) (fun c19 => ?_) (fun c19 => ?_)
    · refine lv_iload_n hx hb dX1_peek_38 rfl (lv_at hl 1 rfl) ?_
      refine lv_bipush (v := 16) hx hb dX1_peek_39 (by decide) ?_
      refine lv_icmp_lt (tgt := 73) hx hb dX1_peek_41 (by decide) (fun c41 => ?_) (fun c41 => ?_)
      · refine lv_iconst (v := 0) hx hb dX1_peek_73 (by decide) ?_
        exact m_ri F hr hlk I ⟨by simp [pkR, ← le3, ← le15, c1, c19, c41], rfl⟩ dX1_peek_74
      · refine lv_iload_n hx hb dX1_peek_44 rfl (lv_at hl 1 rfl) ?_
        refine lv_bipush (v := 16) hx hb dX1_peek_45 (by decide) ?_
        refine lv_isub hx hb dX1_peek_47 ?_
        refine lv_aload_n hx hb dX1_peek_48 rfl (lv_at hl 0 rfl) ?_
        refine m_g8 F I (v := sLv S) rfl dX1_peek_49 ?_
        refine lv_icmp_ge (tgt := 73) hx hb dX1_peek_52 (by decide) (fun c52 => ?_) (fun c52 => ?_)
        · refine lv_iconst (v := 0) hx hb dX1_peek_73 (by decide) ?_
          exact m_ri F hr hlk I ⟨by simp [pkR, ← le3, ← le15, c1, c19, c41, c52], rfl⟩ dX1_peek_74
        · refine lv_iload_n hx hb dX1_peek_55 rfl (lv_at hl 1 rfl) ?_
          refine lv_bipush (v := 22) hx hb dX1_peek_56 (by decide) ?_
          refine lv_icmp_ge (tgt := 73) hx hb dX1_peek_58 (by decide) (fun c58 => ?_) (fun c58 => ?_)
          · exact absurd c58 (lt22 c41 c52 hg.2.2.2.1)
          · refine lv_aload_n hx hb dX1_peek_61 rfl (lv_at hl 0 rfl) ?_
            refine m_g7 F I dX1_peek_62 ?_
            refine lv_iload_n hx hb dX1_peek_65 rfl (lv_at hl 1 rfl) ?_
            refine lv_bipush (v := 16) hx hb dX1_peek_66 (by decide) ?_
            refine lv_isub hx hb dX1_peek_68 ?_
            refine m_ld7 F I (v := sRt S (i1 - 16).toNatClampNeg) (in_s16 c41 c52 hg.2.2.2.1) rfl dX1_peek_69 ?_
            refine lv_goto (tgt := 74) hx hb dX1_peek_70 (by decide) ?_
            exact m_ri F hr hlk I ⟨by simp [pkR, ← le3, ← le15, c1, c19, c41, c52, c58], rfl⟩ dX1_peek_74
    · refine lv_iload_n hx hb dX1_peek_22 rfl (lv_at hl 1 rfl) ?_
      refine lv_bipush (v := 15) hx hb dX1_peek_23 (by decide) ?_
      refine lv_icmp_gt (tgt := 38) hx hb dX1_peek_25 (by decide) (fun c25 => ?_) (fun c25 => ?_)
      · refine lv_iload_n hx hb dX1_peek_38 rfl (lv_at hl 1 rfl) ?_
        refine lv_bipush (v := 16) hx hb dX1_peek_39 (by decide) ?_
        refine lv_icmp_lt (tgt := 73) hx hb dX1_peek_41 (by decide) (fun c41 => ?_) (fun c41 => ?_)
        · refine lv_iconst (v := 0) hx hb dX1_peek_73 (by decide) ?_
          exact m_ri F hr hlk I ⟨by simp [pkR, ← le3, ← le15, c1, c19, c25, c41], rfl⟩ dX1_peek_74
        · refine lv_iload_n hx hb dX1_peek_44 rfl (lv_at hl 1 rfl) ?_
          refine lv_bipush (v := 16) hx hb dX1_peek_45 (by decide) ?_
          refine lv_isub hx hb dX1_peek_47 ?_
          refine lv_aload_n hx hb dX1_peek_48 rfl (lv_at hl 0 rfl) ?_
          refine m_g8 F I (v := sLv S) rfl dX1_peek_49 ?_
          refine lv_icmp_ge (tgt := 73) hx hb dX1_peek_52 (by decide) (fun c52 => ?_) (fun c52 => ?_)
          · refine lv_iconst (v := 0) hx hb dX1_peek_73 (by decide) ?_
            exact m_ri F hr hlk I ⟨by simp [pkR, ← le3, ← le15, c1, c19, c25, c41, c52], rfl⟩ dX1_peek_74
          · refine lv_iload_n hx hb dX1_peek_55 rfl (lv_at hl 1 rfl) ?_
            refine lv_bipush (v := 22) hx hb dX1_peek_56 (by decide) ?_
            refine lv_icmp_ge (tgt := 73) hx hb dX1_peek_58 (by decide) (fun c58 => ?_) (fun c58 => ?_)
            · exact absurd c58 (lt22 c41 c52 hg.2.2.2.1)
            · refine lv_aload_n hx hb dX1_peek_61 rfl (lv_at hl 0 rfl) ?_
              refine m_g7 F I dX1_peek_62 ?_
              refine lv_iload_n hx hb dX1_peek_65 rfl (lv_at hl 1 rfl) ?_
              refine lv_bipush (v := 16) hx hb dX1_peek_66 (by decide) ?_
              refine lv_isub hx hb dX1_peek_68 ?_
              refine m_ld7 F I (v := sRt S (i1 - 16).toNatClampNeg) (in_s16 c41 c52 hg.2.2.2.1) rfl dX1_peek_69 ?_
              refine lv_goto (tgt := 74) hx hb dX1_peek_70 (by decide) ?_
              exact m_ri F hr hlk I ⟨by simp [pkR, ← le3, ← le15, c1, c19, c25, c41, c52, c58], rfl⟩ dX1_peek_74
      · refine lv_aload_n hx hb dX1_peek_28 rfl (lv_at hl 0 rfl) ?_
        refine m_g6 F I dX1_peek_29 ?_
        refine lv_iload_n hx hb dX1_peek_32 rfl (lv_at hl 1 rfl) ?_
        refine lv_bipush (v := 8) hx hb dX1_peek_33 (by decide) ?_
        refine lv_isub hx hb dX1_peek_35 ?_
        refine m_ld6 F I (v := sMm S (i1 - 8).toNatClampNeg) (in_s8' c19 c25) rfl dX1_peek_36 ?_
        exact m_ri F hr hlk I ⟨by simp [pkR, ← le3, ← le15, c1, c19, c25], rfl⟩ dX1_peek_37
  · refine lv_iload_n hx hb dX1_peek_4 rfl (lv_at hl 1 rfl) ?_
    refine lv_iconst (v := 3) hx hb dX1_peek_5 (by decide) ?_
    refine lv_icmp_gt (tgt := 16) hx hb dX1_peek_6 (by decide) (fun c6 => ?_) (fun c6 => ?_)
    · refine lv_iload_n hx hb dX1_peek_16 rfl (lv_at hl 1 rfl) ?_
      refine lv_bipush (v := 8) hx hb dX1_peek_17 (by decide) ?_
      refine lv_icmp_lt (tgt := 38) hx hb dX1_peek_19 (by decide) (fun c19 => ?_) (fun c19 => ?_)
      · refine lv_iload_n hx hb dX1_peek_38 rfl (lv_at hl 1 rfl) ?_
        refine lv_bipush (v := 16) hx hb dX1_peek_39 (by decide) ?_
        refine lv_icmp_lt (tgt := 73) hx hb dX1_peek_41 (by decide) (fun c41 => ?_) (fun c41 => ?_)
        · refine lv_iconst (v := 0) hx hb dX1_peek_73 (by decide) ?_
          exact m_ri F hr hlk I ⟨by simp [pkR, ← le3, ← le15, c1, c6, c19, c41], rfl⟩ dX1_peek_74
        · refine lv_iload_n hx hb dX1_peek_44 rfl (lv_at hl 1 rfl) ?_
          refine lv_bipush (v := 16) hx hb dX1_peek_45 (by decide) ?_
          refine lv_isub hx hb dX1_peek_47 ?_
          refine lv_aload_n hx hb dX1_peek_48 rfl (lv_at hl 0 rfl) ?_
          refine m_g8 F I (v := sLv S) rfl dX1_peek_49 ?_
          refine lv_icmp_ge (tgt := 73) hx hb dX1_peek_52 (by decide) (fun c52 => ?_) (fun c52 => ?_)
          · refine lv_iconst (v := 0) hx hb dX1_peek_73 (by decide) ?_
            exact m_ri F hr hlk I ⟨by simp [pkR, ← le3, ← le15, c1, c6, c19, c41, c52], rfl⟩ dX1_peek_74
          · refine lv_iload_n hx hb dX1_peek_55 rfl (lv_at hl 1 rfl) ?_
            refine lv_bipush (v := 22) hx hb dX1_peek_56 (by decide) ?_
            refine lv_icmp_ge (tgt := 73) hx hb dX1_peek_58 (by decide) (fun c58 => ?_) (fun c58 => ?_)
            · exact absurd c58 (lt22 c41 c52 hg.2.2.2.1)
            · refine lv_aload_n hx hb dX1_peek_61 rfl (lv_at hl 0 rfl) ?_
              refine m_g7 F I dX1_peek_62 ?_
              refine lv_iload_n hx hb dX1_peek_65 rfl (lv_at hl 1 rfl) ?_
              refine lv_bipush (v := 16) hx hb dX1_peek_66 (by decide) ?_
              refine lv_isub hx hb dX1_peek_68 ?_
              refine m_ld7 F I (v := sRt S (i1 - 16).toNatClampNeg) (in_s16 c41 c52 hg.2.2.2.1) rfl dX1_peek_69 ?_
              refine lv_goto (tgt := 74) hx hb dX1_peek_70 (by decide) ?_
              exact m_ri F hr hlk I ⟨by simp [pkR, ← le3, ← le15, c1, c6, c19, c41, c52, c58], rfl⟩ dX1_peek_74
      · refine lv_iload_n hx hb dX1_peek_22 rfl (lv_at hl 1 rfl) ?_
        refine lv_bipush (v := 15) hx hb dX1_peek_23 (by decide) ?_
        refine lv_icmp_gt (tgt := 38) hx hb dX1_peek_25 (by decide) (fun c25 => ?_) (fun c25 => ?_)
        · refine lv_iload_n hx hb dX1_peek_38 rfl (lv_at hl 1 rfl) ?_
          refine lv_bipush (v := 16) hx hb dX1_peek_39 (by decide) ?_
          refine lv_icmp_lt (tgt := 73) hx hb dX1_peek_41 (by decide) (fun c41 => ?_) (fun c41 => ?_)
          · refine lv_iconst (v := 0) hx hb dX1_peek_73 (by decide) ?_
            exact m_ri F hr hlk I ⟨by simp [pkR, ← le3, ← le15, c1, c6, c19, c25, c41], rfl⟩ dX1_peek_74
          · refine lv_iload_n hx hb dX1_peek_44 rfl (lv_at hl 1 rfl) ?_
            refine lv_bipush (v := 16) hx hb dX1_peek_45 (by decide) ?_
            refine lv_isub hx hb dX1_peek_47 ?_
            refine lv_aload_n hx hb dX1_peek_48 rfl (lv_at hl 0 rfl) ?_
            refine m_g8 F I (v := sLv S) rfl dX1_peek_49 ?_
            refine lv_icmp_ge (tgt := 73) hx hb dX1_peek_52 (by decide) (fun c52 => ?_) (fun c52 => ?_)
            · refine lv_iconst (v := 0) hx hb dX1_peek_73 (by decide) ?_
              exact m_ri F hr hlk I ⟨by simp [pkR, ← le3, ← le15, c1, c6, c19, c25, c41, c52], rfl⟩ dX1_peek_74
            · refine lv_iload_n hx hb dX1_peek_55 rfl (lv_at hl 1 rfl) ?_
              refine lv_bipush (v := 22) hx hb dX1_peek_56 (by decide) ?_
              refine lv_icmp_ge (tgt := 73) hx hb dX1_peek_58 (by decide) (fun c58 => ?_) (fun c58 => ?_)
              · exact absurd c58 (lt22 c41 c52 hg.2.2.2.1)
              · refine lv_aload_n hx hb dX1_peek_61 rfl (lv_at hl 0 rfl) ?_
                refine m_g7 F I dX1_peek_62 ?_
                refine lv_iload_n hx hb dX1_peek_65 rfl (lv_at hl 1 rfl) ?_
                refine lv_bipush (v := 16) hx hb dX1_peek_66 (by decide) ?_
                refine lv_isub hx hb dX1_peek_68 ?_
                refine m_ld7 F I (v := sRt S (i1 - 16).toNatClampNeg) (in_s16 c41 c52 hg.2.2.2.1) rfl dX1_peek_69 ?_
                refine lv_goto (tgt := 74) hx hb dX1_peek_70 (by decide) ?_
                exact m_ri F hr hlk I ⟨by simp [pkR, ← le3, ← le15, c1, c6, c19, c25, c41, c52, c58], rfl⟩ dX1_peek_74
        · refine lv_aload_n hx hb dX1_peek_28 rfl (lv_at hl 0 rfl) ?_
          refine m_g6 F I dX1_peek_29 ?_
          refine lv_iload_n hx hb dX1_peek_32 rfl (lv_at hl 1 rfl) ?_
          refine lv_bipush (v := 8) hx hb dX1_peek_33 (by decide) ?_
          refine lv_isub hx hb dX1_peek_35 ?_
          refine m_ld6 F I (v := sMm S (i1 - 8).toNatClampNeg) (in_s8' c19 c25) rfl dX1_peek_36 ?_
          exact m_ri F hr hlk I ⟨by simp [pkR, ← le3, ← le15, c1, c6, c19, c25], rfl⟩ dX1_peek_37
    · refine lv_aload_n hx hb dX1_peek_9 rfl (lv_at hl 0 rfl) ?_
      refine m_g5 F I dX1_peek_10 ?_
      refine lv_iload_n hx hb dX1_peek_13 rfl (lv_at hl 1 rfl) ?_
      refine m_ld5 F I (v := sRg S i1.toNatClampNeg) (in4' c1 c6) rfl dX1_peek_14 ?_
      exact m_ri F hr hlk I ⟨by simp [pkR, ← le3, ← le15, c1, c6], rfl⟩ dX1_peek_15
set_option maxHeartbeats 4000000 in
set_option maxRecDepth 100000 in
/-- here() -/
theorem met_m_here {l : Launch} {D : va_G} {h : Nat} {a : Nat → Nat} {ca : Nat → ClassId} {sz : Nat} {S : Sh} (hg : gd S) : Met l yX1_here (ws_ yX1_here cX1_here 1 (some .int)) (rmL 1) (mPc D h a ca [] sz S) (mQi D h a ca sz S (fun r u => r = (if ins S (sAt S) then opA S else -1) ∧ u = S)) 0 0 (mA h a ca S sz) := by
  refine m_enter (by decide) (Nat.le_of_ble_eq_true rfl) rfl ?_
  intro p e s m below meth c F hr hlk I ls hl
  have hx := F.1
  have hb := F.2.1
  have hl : lv_has ls 1 [(0, .ref h)] := hl
  refine lv_aload_n hx hb dX1_here_0 rfl (lv_at hl 0 rfl) ?_
  refine m_cs F I (v := insF S (sAt S)) (S1 := S) (As := []) (rest := []) (fun sz => met_m_inside) (cw_m_inside F.2.2.2.2 ⟨by decide, by decide⟩) rfl rfl hl.1 (Nat.le_of_ble_eq_true rfl) dX1_here_1 ⟨Nat.zero_le _, Nat.zero_le _⟩ (fun H locs I => ?_)
  refine lv_if_eq (tgt := 19) hx hb dX1_here_4 (by decide) (fun c4 => ?_) (fun c4 => ?_)
  · refine lv_iconst (v := (-1)) hx hb dX1_here_19 (by decide) ?_
    exact m_ri F hr hlk I ⟨by rw [if_neg (insF_0.mp c4)], rfl⟩ dX1_here_20
  · refine lv_aload_n hx hb dX1_here_7 rfl (lv_at hl 0 rfl) ?_
    refine m_g1 F I dX1_here_8 ?_
    refine lv_aload_n hx hb dX1_here_11 rfl (lv_at hl 0 rfl) ?_
    refine m_g9 F I (v := sAt S) rfl dX1_here_12 ?_
    refine m_ld1 F I (v := opA S) (gd_in hg (insF_n c4)) rfl dX1_here_15 ?_
    refine lv_goto (tgt := 20) hx hb dX1_here_16 (by decide) ?_
    exact m_ri F hr hlk I ⟨by rw [if_pos (insF_n c4)], rfl⟩ dX1_here_20
set_option maxHeartbeats 4000000 in
set_option maxRecDepth 100000 in
/-- faulty() -/
theorem met_m_faulty {l : Launch} {D : va_G} {h : Nat} {a : Nat → Nat} {ca : Nat → ClassId} {sz : Nat} {S : Sh} (hg : gd S) (hi : ins S (sAt S)) : Met l yX1_faulty (ws_ yX1_faulty cX1_faulty 2 (some .boolean)) (rmL 2) (mPc D h a ca [] sz S) (mQi D h a ca sz S (fun r u => r = stkF S ∧ u = S)) 0 0 (mA h a ca S sz) := by
  refine m_enter (by decide) (Nat.le_of_ble_eq_true rfl) rfl ?_
  intro p e s m below meth c F hr hlk I ls hl
  have hx := F.1
  have hb := F.2.1
  have hl : lv_has ls 2 [(0, .ref h)] := hl
  have hl0 : ¬ 0 < sLv S ↔ sLv S = 0 := by rw [n_lt]; exact gd_le0 hg
  refine lv_aload_n hx hb dX1_faulty_0 rfl (lv_at hl 0 rfl) ?_
  refine m_cs F I (v := opA S) (S1 := S) (As := []) (rest := []) (fun sz => by have q := met_m_here (l := l) (D := D) (h := h) (a := a) (ca := ca) (sz := sz) hg; rw [if_pos hi] at q; exact q) (cw_m_here F.2.2.2.2 ⟨by decide, by decide⟩) rfl rfl hl.1 (Nat.le_of_ble_eq_true rfl) dX1_faulty_1 ⟨Nat.zero_le _, Nat.zero_le _⟩ (fun H locs I => ?_)
  refine lv_istore_n (lv' := [(1, .int (opA S)), (0, .ref h)]) hx hb dX1_faulty_4 rfl hl (by decide) rfl (fun ls hl => ?_)
  refine lv_iload_n hx hb dX1_faulty_5 rfl (lv_at hl 0 rfl) ?_
  refine lv_bipush (v := 7) hx hb dX1_faulty_6 (by decide) ?_
  refine lv_icmp_ne (tgt := 20) hx hb dX1_faulty_8 (by decide) (fun c8 => ?_) (fun c8 => ?_)
  · refine lv_iload_n hx hb dX1_faulty_20 rfl (lv_at hl 0 rfl) ?_
    refine lv_bipush (v := 8) hx hb dX1_faulty_21 (by decide) ?_
    refine lv_icmp_ne (tgt := 37) hx hb dX1_faulty_23 (by decide) (fun c23 => ?_) (fun c23 => ?_)
    · refine lv_iconst (v := 0) hx hb dX1_faulty_37 (by decide) ?_
      exact m_rz F hr hlk I rfl ⟨by simp [stkF, stk, ← hl0, c8, c23], rfl⟩ dX1_faulty_38
    · refine lv_aload_n hx hb dX1_faulty_26 rfl (lv_at hl 1 rfl) ?_
      refine m_g8 F I (v := sLv S) rfl dX1_faulty_27 ?_
      refine lv_if_gt (tgt := 37) hx hb dX1_faulty_30 (by decide) (fun c30 => ?_) (fun c30 => ?_)
      · refine lv_iconst (v := 0) hx hb dX1_faulty_37 (by decide) ?_
        exact m_rz F hr hlk I rfl ⟨by simp [stkF, stk, ← hl0, c8, c23, c30], rfl⟩ dX1_faulty_38
      · refine lv_iconst (v := 1) hx hb dX1_faulty_33 (by decide) ?_
        refine lv_goto (tgt := 38) hx hb dX1_faulty_34 (by decide) ?_
        exact m_rz F hr hlk I rfl ⟨by simp [stkF, stk, ← hl0, c8, c23, c30], rfl⟩ dX1_faulty_38
  · refine lv_aload_n hx hb dX1_faulty_11 rfl (lv_at hl 1 rfl) ?_
    refine m_g8 F I (v := sLv S) rfl dX1_faulty_12 ?_
    refine lv_bipush (v := 6) hx hb dX1_faulty_15 (by decide) ?_
    refine lv_icmp_ge (tgt := 33) hx hb dX1_faulty_17 (by decide) (fun c17 => ?_) (fun c17 => ?_)
    · refine lv_iconst (v := 1) hx hb dX1_faulty_33 (by decide) ?_
      refine lv_goto (tgt := 38) hx hb dX1_faulty_34 (by decide) ?_
      exact m_rz F hr hlk I rfl ⟨by simp [stkF, stk, ← hl0, c8, c17], rfl⟩ dX1_faulty_38
    · refine lv_iload_n hx hb dX1_faulty_20 rfl (lv_at hl 0 rfl) ?_
      refine lv_bipush (v := 8) hx hb dX1_faulty_21 (by decide) ?_
      refine lv_icmp_ne (tgt := 37) hx hb dX1_faulty_23 (by decide) (fun c23 => ?_) (fun c23 => ?_)
      · refine lv_iconst (v := 0) hx hb dX1_faulty_37 (by decide) ?_
        exact m_rz F hr hlk I rfl ⟨by simp [stkF, stk, ← hl0, c8, c17, c23], rfl⟩ dX1_faulty_38
      · exact absurd (c8.symm.trans c23) (by decide)
set_option maxHeartbeats 4000000 in
set_option maxRecDepth 100000 in
/-- carryOut(op, a, b): one instruction -/
theorem met_m_carryOut {l : Launch} {D : va_G} {h : Nat} {a : Nat → Nat} {ca : Nat → ClassId} {sz : Nat} {S : Sh} (hg : gd S) (hT : noT S) (hi : ins S (sAt S)) (hs : ¬ stk S) : Met l yX1_carryOut (ws_ yX1_carryOut cX1_carryOut 5 none) (rmL 0) (mPc D h a ca [.int (opA S), .int (asA S), .int (bsA S)] sz S) (mQv D h a ca sz S (fun u => u = stp S)) 0 0 (mA h a ca S sz) := by
  refine m_enter (by decide) (Nat.le_of_ble_eq_true rfl) rfl ?_
  intro p e s m below meth c F hr hlk I ls hl
  have hx := F.1
  have hb := F.2.1
  have hl : lv_has ls 5 [(0, .ref h), (1, .int (opA S)), (2, .int (asA S)), (3, .int (bsA S))] := hl
  refine lv_aload_n hx hb dX1_carryOut_0 rfl (lv_at hl 0 rfl) ?_
  refine lv_dup hx hb dX1_carryOut_1 rfl ?_
  refine m_g10 F I (v := sCt S) rfl dX1_carryOut_2 ?_
  refine lv_iconst (v := 1) hx hb dX1_carryOut_5 (by decide) ?_
  refine lv_iadd hx hb dX1_carryOut_6 ?_
  refine m_p10 F I dX1_carryOut_7 (fun H locs I => ?_)
  refine lv_aload_n hx hb dX1_carryOut_10 rfl (lv_at hl 0 rfl) ?_
  refine m_g9 F I (v := sAt S) rfl dX1_carryOut_11 ?_
  refine lv_iconst (v := 1) hx hb dX1_carryOut_14 (by decide) ?_
  refine lv_iadd hx hb dX1_carryOut_15 ?_
  refine lv_istore (lv' := [(4, .int ((sAt S) + 1)), (0, .ref h), (1, .int (opA S)), (2, .int (asA S)), (3, .int (bsA S))]) hx hb dX1_carryOut_16 hl (by decide) rfl (fun ls hl => ?_)
  refine lv_iload_n hx hb dX1_carryOut_18 rfl (lv_at hl 2 rfl) ?_
  refine lv_if_ne (tgt := 32) hx hb dX1_carryOut_19 (by decide) (fun c19 => ?_) (fun c19 => ?_)
  · refine lv_iload_n hx hb dX1_carryOut_32 rfl (lv_at hl 2 rfl) ?_
    refine lv_iconst (v := 1) hx hb dX1_carryOut_33 (by decide) ?_
    refine lv_icmp_ne (tgt := 61) hx hb dX1_carryOut_34 (by decide) (fun c34 => ?_) (fun c34 => ?_)
    · refine lv_iload_n hx hb dX1_carryOut_61 rfl (lv_at hl 2 rfl) ?_
      refine lv_iconst (v := 2) hx hb dX1_carryOut_62 (by decide) ?_
      refine lv_icmp_ne (tgt := 90) hx hb dX1_carryOut_63 (by decide) (fun c63 => ?_) (fun c63 => ?_)
      · refine lv_iload_n hx hb dX1_carryOut_90 rfl (lv_at hl 2 rfl) ?_
        refine lv_iconst (v := 3) hx hb dX1_carryOut_91 (by decide) ?_
        refine lv_icmp_ne (tgt := 120) hx hb dX1_carryOut_92 (by decide) (fun c92 => ?_) (fun c92 => ?_)
        · refine lv_iload_n hx hb dX1_carryOut_120 rfl (lv_at hl 2 rfl) ?_
          refine lv_iconst (v := 4) hx hb dX1_carryOut_121 (by decide) ?_
          refine lv_icmp_ne (tgt := 150) hx hb dX1_carryOut_122 (by decide) (fun c122 => ?_) (fun c122 => ?_)
          · refine lv_iload_n hx hb dX1_carryOut_150 rfl (lv_at hl 2 rfl) ?_
            refine lv_iconst (v := 5) hx hb dX1_carryOut_151 (by decide) ?_
            refine lv_icmp_ne (tgt := 175) hx hb dX1_carryOut_152 (by decide) (fun c152 => ?_) (fun c152 => ?_)
            · refine lv_iload_n hx hb dX1_carryOut_175 rfl (lv_at hl 2 rfl) ?_
              refine lv_bipush (v := 6) hx hb dX1_carryOut_176 (by decide) ?_
              refine lv_icmp_ne (tgt := 187) hx hb dX1_carryOut_178 (by decide) (fun c178 => ?_) (fun c178 => ?_)
              · refine lv_iload_n hx hb dX1_carryOut_187 rfl (lv_at hl 2 rfl) ?_
                refine lv_bipush (v := 7) hx hb dX1_carryOut_188 (by decide) ?_
                refine lv_icmp_ne (tgt := 236) hx hb dX1_carryOut_190 (by decide) (fun c190 => ?_) (fun c190 => ?_)
                · refine lv_iload_n hx hb dX1_carryOut_236 rfl (lv_at hl 2 rfl) ?_
                  refine lv_bipush (v := 8) hx hb dX1_carryOut_237 (by decide) ?_
                  refine lv_icmp_ne (tgt := 282) hx hb dX1_carryOut_239 (by decide) (fun c239 => ?_) (fun c239 => ?_)
                  · refine lv_iload_n hx hb dX1_carryOut_282 rfl (lv_at hl 2 rfl) ?_
                    refine lv_bipush (v := 9) hx hb dX1_carryOut_283 (by decide) ?_
                    refine lv_icmp_ne (tgt := 299) hx hb dX1_carryOut_285 (by decide) (fun c285 => ?_) (fun c285 => ?_)
                    · refine lv_iload_n hx hb dX1_carryOut_299 rfl (lv_at hl 2 rfl) ?_
                      refine lv_bipush (v := 10) hx hb dX1_carryOut_300 (by decide) ?_
                      refine lv_icmp_ne (tgt := 316) hx hb dX1_carryOut_302 (by decide) (fun c302 => ?_) (fun c302 => ?_)
                      · exact absurd c302 (op10 (hg.2.1 _).2.1 (hT _) c19 c34 c63 c92 c122 c152 c178 c190 c239 c285)
                      · refine lv_aload_n hx hb dX1_carryOut_305 rfl (lv_at hl 1 rfl) ?_
                        refine lv_iconst (v := 1) hx hb dX1_carryOut_306 (by decide) ?_
                        refine m_p11 F I rfl rfl dX1_carryOut_307 (fun H locs I => ?_)
                        refine lv_aload_n hx hb dX1_carryOut_310 rfl (lv_at hl 1 rfl) ?_
                        refine m_g9 F I (v := sAt S) rfl dX1_carryOut_311 ?_
                        refine lv_istore (lv' := [(4, .int (sAt S)), (0, .ref h), (1, .int (opA S)), (2, .int (asA S)), (3, .int (bsA S))]) hx hb dX1_carryOut_314 hl (by decide) rfl (fun ls hl => ?_)
                        refine lv_aload_n hx hb dX1_carryOut_316 rfl (lv_at hl 1 rfl) ?_
                        refine lv_iload hx hb dX1_carryOut_317 (lv_at hl 0 rfl) ?_
                        refine m_p9 F I dX1_carryOut_319 (fun H locs I => ?_)
                        exact m_rv F hr hlk I (by rw [stp, cr10 c302]; rfl) dX1_carryOut_322
                    · refine lv_aload_n hx hb dX1_carryOut_288 rfl (lv_at hl 1 rfl) ?_
                      refine m_g5 F I dX1_carryOut_289 ?_
                      refine lv_iload_n hx hb dX1_carryOut_292 rfl (lv_at hl 3 rfl) ?_
                      refine m_ld5 F I (v := sRg S (asA S).toNatClampNeg) (gd_as hg) rfl dX1_carryOut_293 ?_
                      refine lv_istore (lv' := [(4, .int (sRg S (asA S).toNatClampNeg)), (0, .ref h), (1, .int (opA S)), (2, .int (asA S)), (3, .int (bsA S))]) hx hb dX1_carryOut_294 hl (by decide) rfl (fun ls hl => ?_)
                      refine lv_goto (tgt := 316) hx hb dX1_carryOut_296 (by decide) ?_
                      refine lv_aload_n hx hb dX1_carryOut_316 rfl (lv_at hl 1 rfl) ?_
                      refine lv_iload hx hb dX1_carryOut_317 (lv_at hl 0 rfl) ?_
                      refine m_p9 F I dX1_carryOut_319 (fun H locs I => ?_)
                      exact m_rv F hr hlk I (by rw [stp, cr9 c285]; rfl) dX1_carryOut_322
                  · refine lv_aload_n hx hb dX1_carryOut_242 rfl (lv_at hl 1 rfl) ?_
                    refine m_g8 F I (v := sLv S) rfl dX1_carryOut_243 ?_
                    refine lv_if_le (tgt := 282) hx hb dX1_carryOut_246 (by decide) (fun c246 => ?_) (fun c246 => ?_)
                    · exact absurd (Or.inr ⟨c239, (gd_le0 hg).mp c246⟩) hs
                    · refine lv_aload_n hx hb dX1_carryOut_249 rfl (lv_at hl 1 rfl) ?_
                      refine m_g8 F I (v := sLv S) rfl dX1_carryOut_250 ?_
                      refine lv_bipush (v := 6) hx hb dX1_carryOut_253 (by decide) ?_
                      refine lv_icmp_gt (tgt := 282) hx hb dX1_carryOut_255 (by decide) (fun c255 => ?_) (fun c255 => ?_)
                      · exact absurd c255 hg.2.2.2.1
                      · refine lv_aload_n hx hb dX1_carryOut_258 rfl (lv_at hl 1 rfl) ?_
                        refine lv_dup hx hb dX1_carryOut_259 rfl ?_
                        refine m_g8 F I (v := sLv S) rfl dX1_carryOut_260 ?_
                        refine lv_iconst (v := 1) hx hb dX1_carryOut_263 (by decide) ?_
                        refine lv_isub hx hb dX1_carryOut_264 ?_
                        refine m_p8 F I dX1_carryOut_265 (fun H locs I => ?_)
                        refine lv_aload_n hx hb dX1_carryOut_268 rfl (lv_at hl 1 rfl) ?_
                        refine m_g7 F I dX1_carryOut_269 ?_
                        refine lv_aload_n hx hb dX1_carryOut_272 rfl (lv_at hl 1 rfl) ?_
                        refine m_g8 F I (v := (sLv S) - 1) rfl dX1_carryOut_273 ?_
                        refine m_ld7 F I (v := sRt S ((sLv S) - 1).toNatClampNeg) (gd_c8 hg hs c239) rfl dX1_carryOut_276 ?_
                        refine lv_istore (lv' := [(4, .int (sRt S ((sLv S) - 1).toNatClampNeg)), (0, .ref h), (1, .int (opA S)), (2, .int (asA S)), (3, .int (bsA S))]) hx hb dX1_carryOut_277 hl (by decide) rfl (fun ls hl => ?_)
                        refine lv_goto (tgt := 316) hx hb dX1_carryOut_279 (by decide) ?_
                        refine lv_aload_n hx hb dX1_carryOut_316 rfl (lv_at hl 1 rfl) ?_
                        refine lv_iload hx hb dX1_carryOut_317 (lv_at hl 0 rfl) ?_
                        refine m_p9 F I dX1_carryOut_319 (fun H locs I => ?_)
                        exact m_rv F hr hlk I (by rw [stp, cr8 c239]; rfl) dX1_carryOut_322
                · refine lv_aload_n hx hb dX1_carryOut_193 rfl (lv_at hl 1 rfl) ?_
                  refine m_g8 F I (v := sLv S) rfl dX1_carryOut_194 ?_
                  refine lv_if_lt (tgt := 236) hx hb dX1_carryOut_197 (by decide) (fun c197 => ?_) (fun c197 => ?_)
                  · exact absurd c197 hg.2.2.1
                  · refine lv_aload_n hx hb dX1_carryOut_200 rfl (lv_at hl 1 rfl) ?_
                    refine m_g8 F I (v := sLv S) rfl dX1_carryOut_201 ?_
                    refine lv_bipush (v := 6) hx hb dX1_carryOut_204 (by decide) ?_
                    refine lv_icmp_ge (tgt := 236) hx hb dX1_carryOut_206 (by decide) (fun c206 => ?_) (fun c206 => ?_)
                    · exact absurd (Or.inl ⟨c190, c206⟩) hs
                    · refine lv_aload_n hx hb dX1_carryOut_209 rfl (lv_at hl 1 rfl) ?_
                      refine m_g7 F I dX1_carryOut_210 ?_
                      refine lv_aload_n hx hb dX1_carryOut_213 rfl (lv_at hl 1 rfl) ?_
                      refine m_g8 F I (v := sLv S) rfl dX1_carryOut_214 ?_
                      refine lv_iload hx hb dX1_carryOut_217 (lv_at hl 0 rfl) ?_
                      refine m_st7 F I (f := sRt S) rfl (gd_c7 hg hs c190) dX1_carryOut_219 (fun H locs I => ?_)
                      refine lv_aload_n hx hb dX1_carryOut_220 rfl (lv_at hl 1 rfl) ?_
                      refine lv_dup hx hb dX1_carryOut_221 rfl ?_
                      refine m_g8 F I (v := sLv S) rfl dX1_carryOut_222 ?_
                      refine lv_iconst (v := 1) hx hb dX1_carryOut_225 (by decide) ?_
                      refine lv_iadd hx hb dX1_carryOut_226 ?_
                      refine m_p8 F I dX1_carryOut_227 (fun H locs I => ?_)
                      refine lv_iload_n hx hb dX1_carryOut_230 rfl (lv_at hl 4 rfl) ?_
                      refine lv_istore (lv' := [(4, .int (bsA S)), (0, .ref h), (1, .int (opA S)), (2, .int (asA S)), (3, .int (bsA S))]) hx hb dX1_carryOut_231 hl (by decide) rfl (fun ls hl => ?_)
                      refine lv_goto (tgt := 316) hx hb dX1_carryOut_233 (by decide) ?_
                      refine lv_aload_n hx hb dX1_carryOut_316 rfl (lv_at hl 1 rfl) ?_
                      refine lv_iload hx hb dX1_carryOut_317 (lv_at hl 0 rfl) ?_
                      refine m_p9 F I dX1_carryOut_319 (fun H locs I => ?_)
                      exact m_rv F hr hlk I (by rw [stp, cr7 c190]; rfl) dX1_carryOut_322
              · refine lv_iload_n hx hb dX1_carryOut_181 rfl (lv_at hl 4 rfl) ?_
                refine lv_istore (lv' := [(4, .int (bsA S)), (0, .ref h), (1, .int (opA S)), (2, .int (asA S)), (3, .int (bsA S))]) hx hb dX1_carryOut_182 hl (by decide) rfl (fun ls hl => ?_)
                refine lv_goto (tgt := 316) hx hb dX1_carryOut_184 (by decide) ?_
                refine lv_aload_n hx hb dX1_carryOut_316 rfl (lv_at hl 1 rfl) ?_
                refine lv_iload hx hb dX1_carryOut_317 (lv_at hl 0 rfl) ?_
                refine m_p9 F I dX1_carryOut_319 (fun H locs I => ?_)
                exact m_rv F hr hlk I (by rw [stp, cr6 c178]; rfl) dX1_carryOut_322
            · refine lv_aload_n hx hb dX1_carryOut_155 rfl (lv_at hl 1 rfl) ?_
              refine m_g5 F I dX1_carryOut_156 ?_
              refine lv_iload_n hx hb dX1_carryOut_159 rfl (lv_at hl 3 rfl) ?_
              refine m_ld5 F I (v := sRg S (asA S).toNatClampNeg) (gd_as hg) rfl dX1_carryOut_160 ?_
              refine lv_if_ne (tgt := 168) hx hb dX1_carryOut_161 (by decide) (fun c161 => ?_) (fun c161 => ?_)
              · refine lv_iload hx hb dX1_carryOut_168 (lv_at hl 0 rfl) ?_
                refine lv_istore (lv' := [(4, .int ((sAt S) + 1)), (0, .ref h), (1, .int (opA S)), (2, .int (asA S)), (3, .int (bsA S))]) hx hb dX1_carryOut_170 hl (by decide) rfl (fun ls hl => ?_)
                refine lv_goto (tgt := 316) hx hb dX1_carryOut_172 (by decide) ?_
                refine lv_aload_n hx hb dX1_carryOut_316 rfl (lv_at hl 1 rfl) ?_
                refine lv_iload hx hb dX1_carryOut_317 (lv_at hl 0 rfl) ?_
                refine m_p9 F I dX1_carryOut_319 (fun H locs I => ?_)
                exact m_rv F hr hlk I (by rw [stp, cr5 c152, if_neg c161]; rfl) dX1_carryOut_322
              · refine lv_iload_n hx hb dX1_carryOut_164 rfl (lv_at hl 4 rfl) ?_
                refine lv_goto (tgt := 170) hx hb dX1_carryOut_165 (by decide) ?_
                refine lv_istore (lv' := [(4, .int (bsA S)), (0, .ref h), (1, .int (opA S)), (2, .int (asA S)), (3, .int (bsA S))]) hx hb dX1_carryOut_170 hl (by decide) rfl (fun ls hl => ?_)
                refine lv_goto (tgt := 316) hx hb dX1_carryOut_172 (by decide) ?_
                refine lv_aload_n hx hb dX1_carryOut_316 rfl (lv_at hl 1 rfl) ?_
                refine lv_iload hx hb dX1_carryOut_317 (lv_at hl 0 rfl) ?_
                refine m_p9 F I dX1_carryOut_319 (fun H locs I => ?_)
                exact m_rv F hr hlk I (by rw [stp, cr5 c152, if_pos c161]; rfl) dX1_carryOut_322
          · refine lv_aload_n hx hb dX1_carryOut_125 rfl (lv_at hl 1 rfl) ?_
            refine m_g6 F I dX1_carryOut_126 ?_
            refine lv_aload_n hx hb dX1_carryOut_129 rfl (lv_at hl 1 rfl) ?_
            refine m_g5 F I dX1_carryOut_130 ?_
            refine lv_iload_n hx hb dX1_carryOut_133 rfl (lv_at hl 4 rfl) ?_
            refine lv_iconst (v := 3) hx hb dX1_carryOut_134 (by decide) ?_
            refine lv_iand hx hb dX1_carryOut_135 ?_
            refine lv_topi (fun y9 e9 => ?_)
            rw [and3 _ (gd_bs hg (by rw [c122]; decide) c19)] at e9
            subst e9
            refine m_ld5 F I (v := sRg S (bsA S).toNatClampNeg) (gd_bs hg (by rw [c122]; decide) c19) rfl dX1_carryOut_136 ?_
            refine lv_bipush (v := 7) hx hb dX1_carryOut_137 (by decide) ?_
            refine lv_iand hx hb dX1_carryOut_139 ?_
            refine lv_aload_n hx hb dX1_carryOut_140 rfl (lv_at hl 1 rfl) ?_
            refine m_g5 F I dX1_carryOut_141 ?_
            refine lv_iload_n hx hb dX1_carryOut_144 rfl (lv_at hl 3 rfl) ?_
            refine m_ld5 F I (v := sRg S (asA S).toNatClampNeg) (gd_as hg) rfl dX1_carryOut_145 ?_
            refine m_st6 F I (f := sMm S) rfl (in7 _) dX1_carryOut_146 (fun H locs I => ?_)
            refine lv_goto (tgt := 316) hx hb dX1_carryOut_147 (by decide) ?_
            refine lv_aload_n hx hb dX1_carryOut_316 rfl (lv_at hl 1 rfl) ?_
            refine lv_iload hx hb dX1_carryOut_317 (lv_at hl 0 rfl) ?_
            refine m_p9 F I dX1_carryOut_319 (fun H locs I => ?_)
            exact m_rv F hr hlk I (by rw [stp, cr4 c122]; rfl) dX1_carryOut_322
        · refine lv_aload_n hx hb dX1_carryOut_95 rfl (lv_at hl 1 rfl) ?_
          refine m_g5 F I dX1_carryOut_96 ?_
          refine lv_iload_n hx hb dX1_carryOut_99 rfl (lv_at hl 3 rfl) ?_
          refine lv_aload_n hx hb dX1_carryOut_100 rfl (lv_at hl 1 rfl) ?_
          refine m_g6 F I dX1_carryOut_101 ?_
          refine lv_aload_n hx hb dX1_carryOut_104 rfl (lv_at hl 1 rfl) ?_
          refine m_g5 F I dX1_carryOut_105 ?_
          refine lv_iload_n hx hb dX1_carryOut_108 rfl (lv_at hl 4 rfl) ?_
          refine lv_iconst (v := 3) hx hb dX1_carryOut_109 (by decide) ?_
          refine lv_iand hx hb dX1_carryOut_110 ?_
          refine lv_topi (fun y9 e9 => ?_)
          rw [and3 _ (gd_bs hg (by rw [c92]; decide) c19)] at e9
          subst e9
          refine m_ld5 F I (v := sRg S (bsA S).toNatClampNeg) (gd_bs hg (by rw [c92]; decide) c19) rfl dX1_carryOut_111 ?_
          refine lv_bipush (v := 7) hx hb dX1_carryOut_112 (by decide) ?_
          refine lv_iand hx hb dX1_carryOut_114 ?_
          refine m_ld6 F I (v := sMm S ((sRg S (bsA S).toNatClampNeg) &&& 7).toNatClampNeg) (in7 _) rfl dX1_carryOut_115 ?_
          refine m_st5 F I (f := sRg S) rfl (gd_as hg) dX1_carryOut_116 (fun H locs I => ?_)
          refine lv_goto (tgt := 316) hx hb dX1_carryOut_117 (by decide) ?_
          refine lv_aload_n hx hb dX1_carryOut_316 rfl (lv_at hl 1 rfl) ?_
          refine lv_iload hx hb dX1_carryOut_317 (lv_at hl 0 rfl) ?_
          refine m_p9 F I dX1_carryOut_319 (fun H locs I => ?_)
          exact m_rv F hr hlk I (by rw [stp, cr3 c92]; rfl) dX1_carryOut_322
      · refine lv_aload_n hx hb dX1_carryOut_66 rfl (lv_at hl 1 rfl) ?_
        refine m_g5 F I dX1_carryOut_67 ?_
        refine lv_iload_n hx hb dX1_carryOut_70 rfl (lv_at hl 3 rfl) ?_
        refine lv_aload_n hx hb dX1_carryOut_71 rfl (lv_at hl 1 rfl) ?_
        refine m_g5 F I dX1_carryOut_72 ?_
        refine lv_iload_n hx hb dX1_carryOut_75 rfl (lv_at hl 3 rfl) ?_
        refine m_ld5 F I (v := sRg S (asA S).toNatClampNeg) (gd_as hg) rfl dX1_carryOut_76 ?_
        refine lv_aload_n hx hb dX1_carryOut_77 rfl (lv_at hl 1 rfl) ?_
        refine m_g5 F I dX1_carryOut_78 ?_
        refine lv_iload_n hx hb dX1_carryOut_81 rfl (lv_at hl 4 rfl) ?_
        refine lv_iconst (v := 3) hx hb dX1_carryOut_82 (by decide) ?_
        refine lv_iand hx hb dX1_carryOut_83 ?_
        refine lv_topi (fun y9 e9 => ?_)
        rw [and3 _ (gd_bs hg (by rw [c63]; decide) c19)] at e9
        subst e9
        refine m_ld5 F I (v := sRg S (bsA S).toNatClampNeg) (gd_bs hg (by rw [c63]; decide) c19) rfl dX1_carryOut_84 ?_
        refine lv_isub hx hb dX1_carryOut_85 ?_
        refine m_st5 F I (f := sRg S) rfl (gd_as hg) dX1_carryOut_86 (fun H locs I => ?_)
        refine lv_goto (tgt := 316) hx hb dX1_carryOut_87 (by decide) ?_
        refine lv_aload_n hx hb dX1_carryOut_316 rfl (lv_at hl 1 rfl) ?_
        refine lv_iload hx hb dX1_carryOut_317 (lv_at hl 0 rfl) ?_
        refine m_p9 F I dX1_carryOut_319 (fun H locs I => ?_)
        exact m_rv F hr hlk I (by rw [stp, cr2 c63]; rfl) dX1_carryOut_322
    · refine lv_aload_n hx hb dX1_carryOut_37 rfl (lv_at hl 1 rfl) ?_
      refine m_g5 F I dX1_carryOut_38 ?_
      refine lv_iload_n hx hb dX1_carryOut_41 rfl (lv_at hl 3 rfl) ?_
      refine lv_aload_n hx hb dX1_carryOut_42 rfl (lv_at hl 1 rfl) ?_
      refine m_g5 F I dX1_carryOut_43 ?_
      refine lv_iload_n hx hb dX1_carryOut_46 rfl (lv_at hl 3 rfl) ?_
      refine m_ld5 F I (v := sRg S (asA S).toNatClampNeg) (gd_as hg) rfl dX1_carryOut_47 ?_
      refine lv_aload_n hx hb dX1_carryOut_48 rfl (lv_at hl 1 rfl) ?_
      refine m_g5 F I dX1_carryOut_49 ?_
      refine lv_iload_n hx hb dX1_carryOut_52 rfl (lv_at hl 4 rfl) ?_
      refine lv_iconst (v := 3) hx hb dX1_carryOut_53 (by decide) ?_
      refine lv_iand hx hb dX1_carryOut_54 ?_
      refine lv_topi (fun y9 e9 => ?_)
      rw [and3 _ (gd_bs hg (by rw [c34]; decide) c19)] at e9
      subst e9
      refine m_ld5 F I (v := sRg S (bsA S).toNatClampNeg) (gd_bs hg (by rw [c34]; decide) c19) rfl dX1_carryOut_55 ?_
      refine lv_iadd hx hb dX1_carryOut_56 ?_
      refine m_st5 F I (f := sRg S) rfl (gd_as hg) dX1_carryOut_57 (fun H locs I => ?_)
      refine lv_goto (tgt := 316) hx hb dX1_carryOut_58 (by decide) ?_
      refine lv_aload_n hx hb dX1_carryOut_316 rfl (lv_at hl 1 rfl) ?_
      refine lv_iload hx hb dX1_carryOut_317 (lv_at hl 0 rfl) ?_
      refine m_p9 F I dX1_carryOut_319 (fun H locs I => ?_)
      exact m_rv F hr hlk I (by rw [stp, cr1 c34]; rfl) dX1_carryOut_322
  · refine lv_aload_n hx hb dX1_carryOut_22 rfl (lv_at hl 1 rfl) ?_
    refine m_g5 F I dX1_carryOut_23 ?_
    refine lv_iload_n hx hb dX1_carryOut_26 rfl (lv_at hl 3 rfl) ?_
    refine lv_iload_n hx hb dX1_carryOut_27 rfl (lv_at hl 4 rfl) ?_
    refine m_st5 F I (f := sRg S) rfl (gd_as hg) dX1_carryOut_28 (fun H locs I => ?_)
    refine lv_goto (tgt := 316) hx hb dX1_carryOut_29 (by decide) ?_
    refine lv_aload_n hx hb dX1_carryOut_316 rfl (lv_at hl 1 rfl) ?_
    refine lv_iload hx hb dX1_carryOut_317 (lv_at hl 0 rfl) ?_
    refine m_p9 F I dX1_carryOut_319 (fun H locs I => ?_)
    exact m_rv F hr hlk I (by rw [stp, cr0 c19]; rfl) dX1_carryOut_322
end
section
/-! CONTRACTS of the reference: run and the commands -/
set_option maxHeartbeats 4000000 in
set_option maxRecDepth 100000 in
/-- run(aim, p, d) -/
theorem met_m_run {l : Launch} {D : va_G} {h : Nat} {a : Nat → Nat} {ca : Nat → ClassId} {sz : Nat} {S : Sh} (am : Int32) (q1 : Int32) (d1 : Int32) (hg : gd S) (hT : noT S) : Met l yX1_run (ws_ yX1_run cX1_run 7 (some .int)) (rmL 3) (mPc D h a ca [.int am, .int q1, .int d1] sz S) (mQi D h a ca sz S (fun r u => r = (runF (rcM am q1 d1) S).1 ∧ u = (runF (rcM am q1 d1) S).2)) 0 0 (mA h a ca S sz) := by
  refine m_enter (by decide) (Nat.le_of_ble_eq_true rfl) rfl ?_
  intro p e s m below meth c F hr hlk I ls hl
  have hx := F.1
  have hb := F.2.1
  have hl : lv_has ls 7 [(0, .ref h), (1, .int am), (2, .int q1), (3, .int d1)] := hl
  have fin : sWy S < 4 → ∀ (d : Nat) (T : Sh) (w : Int32), goF (rcM am q1 d1) 151 0 (zWy S 3) = goF (rcM am q1 d1) (151 - d) d T → d ≤ 150 → look T (rcM am q1 d1 T) d = w → ¬ w = 0 → w = (runF (rcM am q1 d1) S).1 ∧ zWy T w = (runF (rcM am q1 d1) S).2 := by
    intro hw d T w hgo hd hlk hw0
    subst hlk
    have e1 := hgo.trans (goF_end (by omega) hw0)
    have e2 := goF_zWy (rcM am q1 d1) 3 (fun T => rfl) 151 0 S
    rw [e1] at e2
    have e3 := Prod.mk.inj e2
    rw [runF, if_neg (fun q => q hw)]
    exact ⟨e3.1, by show zWy T _ = zWy _ _; rw [← e3.1, e3.2]; rfl⟩
  have loop : sWy S < 4 → ∀ (k d : Nat) (T : Sh) (H : Heap) (locs : List Loc) (ls : Array Slot), d + k = 151 → 1 ≤ k → gd T → noT T → sWy T = 3 → goF (rcM am q1 d1) 151 0 (zWy S 3) = goF (rcM am q1 d1) (151 - d) d T → mI D h a ca (mA h a ca S sz) s H locs T → lv_has ls 7 [(5, .int (nI d)), (4, .int 1), (0, .ref h), (1, .int am), (2, .int q1), (3, .int d1)] → W p l e (rmL 3) s m (Value.ref h :: [.int am, .int q1, .int d1]).toArray below meth c H locs 0 0 (MQ below (mQi D h a ca sz S (fun r u => r = (runF (rcM am q1 d1) S).1 ∧ u = (runF (rcM am q1 d1) S).2)) (Value.ref h :: [.int am, .int q1, .int d1]).toArray s 0 0 (mA h a ca S sz)) (F0 m 24 ls []) := by
    intro hw k
    induction k with
    | zero => intro d T H locs ls h1 h2; exact absurd h2 (by omega)
    | succ k ih =>
      intro d T H locs ls hdk h1 hgT hTT hyT hgo I hl
      have join : ∀ (v : Int32) (ls : Array Slot), v = (if rcM am q1 d1 T = true then (1 : Int32) else 0) → lv_has ls 7 [(5, .int (nI d)), (4, .int 1), (0, .ref h), (1, .int am), (2, .int q1), (3, .int d1)] → W p l e (rmL 3) s m (Value.ref h :: [.int am, .int q1, .int d1]).toArray below meth c H locs 0 0 (MQ below (mQi D h a ca sz S (fun r u => r = (runF (rcM am q1 d1) S).1 ∧ u = (runF (rcM am q1 d1) S).2)) (Value.ref h :: [.int am, .int q1, .int d1]).toArray s 0 0 (mA h a ca S sz)) (F0 m 93 ls [.int v]) := by
        intro v ls hv hl
        subst hv
        refine lv_istore (lv' := [(6, .int (if rcM am q1 d1 T = true then (1 : Int32) else 0)), (5, .int (nI d)), (4, .int 1), (0, .ref h), (1, .int am), (2, .int q1), (3, .int d1)]) hx hb dX1_run_93 hl (by decide) rfl (fun ls hl => ?_)
        refine lv_iconst (v := 0) hx hb dX1_run_95 (by decide) ?_
        refine lv_istore (lv' := [(4, .int 0), (6, .int (if rcM am q1 d1 T = true then (1 : Int32) else 0)), (5, .int (nI d)), (0, .ref h), (1, .int am), (2, .int q1), (3, .int d1)]) hx hb dX1_run_96 hl (by decide) rfl (fun ls hl => ?_)
        refine lv_aload_n hx hb dX1_run_98 rfl (lv_at hl 3 rfl) ?_
        refine m_g11 F I (v := sOv T) rfl dX1_run_99 ?_
        refine lv_if_eq (tgt := 114) hx hb dX1_run_102 (by decide) (fun c102 => ?_) (fun c102 => ?_)
        · refine lv_aload_n hx hb dX1_run_114 rfl (lv_at hl 3 rfl) ?_
          refine m_cs F I (v := insF T (sAt T)) (S1 := T) (As := []) (rest := []) (fun sz => met_m_inside) (cw_m_inside F.2.2.2.2 ⟨by decide, by decide⟩) rfl rfl hl.1 (Nat.le_of_ble_eq_true rfl) dX1_run_115 ⟨Nat.zero_le _, Nat.zero_le _⟩ (fun H locs I => ?_)
          refine lv_if_ne (tgt := 129) hx hb dX1_run_118 (by decide) (fun c118 => ?_) (fun c118 => ?_)
          · refine lv_aload_n hx hb dX1_run_129 rfl (lv_at hl 3 rfl) ?_
            refine m_cs F I (v := stkF T) (S1 := T) (As := []) (rest := []) (fun sz => met_m_faulty hgT (insF_n c118)) (cw_m_faulty F.2.2.2.2 ⟨by decide, by decide⟩) rfl rfl hl.1 (Nat.le_of_ble_eq_true rfl) dX1_run_130 ⟨Nat.zero_le _, Nat.zero_le _⟩ (fun H locs I => ?_)
            refine lv_if_eq (tgt := 144) hx hb dX1_run_133 (by decide) (fun c133 => ?_) (fun c133 => ?_)
            · refine lv_iload hx hb dX1_run_144 (lv_at hl 2 rfl) ?_
              refine lv_if_le (tgt := 162) hx hb dX1_run_146 (by decide) (fun c146 => ?_) (fun c146 => ?_)
              · refine lv_iload hx hb dX1_run_162 (lv_at hl 2 rfl) ?_
                refine lv_if_le (tgt := 199) hx hb dX1_run_164 (by decide) (fun c164 => ?_) (fun c164 => ?_)
                · refine lv_iload hx hb dX1_run_199 (lv_at hl 2 rfl) ?_
                  refine lv_sipush (v := 150) hx hb dX1_run_201 (by decide) ?_
                  refine lv_icmp_ge (tgt := 243) hx hb dX1_run_204 (by decide) (fun c204 => ?_) (fun c204 => ?_)
                  · refine lv_iinc (v := nI (d + 1)) (lv' := [(5, .int (nI (d + 1))), (4, .int 0), (6, .int (if rcM am q1 d1 T = true then (1 : Int32) else 0)), (0, .ref h), (1, .int am), (2, .int q1), (3, .int d1)]) hx hb dX1_run_243 hl (k := 2) rfl (nI_1 d) (by decide) rfl (fun ls hl => ?_)
                    refine lv_goto (tgt := 24) hx hb dX1_run_246 (by decide) ?_
                    refine lv_iload hx hb dX1_run_24 (lv_at hl 0 rfl) ?_
                    refine lv_sipush (v := 150) hx hb dX1_run_26 (by decide) ?_
                    refine lv_icmp_gt (tgt := 249) hx hb dX1_run_29 (by decide) (fun c29 => ?_) (fun c29 => ?_)
                    · refine lv_aload_n hx hb dX1_run_249 rfl (lv_at hl 3 rfl) ?_
                      refine m_g12 F I (v := 3) hyT dX1_run_250 ?_
                      exact m_ri F hr hlk I (by have q := fin hw d T 3 hgo (by omega) (look3 c102 (insF_n c118) (stkF_0.mp c133) (fun q => (d_le0 (show d ≤ 150 by omega)).mp c146 q.1) (fun q => (d_le0 (show d ≤ 150 by omega)).mp c146 q.1) (fun q => absurd c204 (n_le.mpr ((d_lt (show d ≤ 150 by omega)).mpr q)))) (by decide); have e : zWy T 3 = T := (by rw [← hyT]; rfl); rw [e] at q; exact q) dX1_run_253
                    · refine lv_iload hx hb dX1_run_32 (lv_at hl 1 rfl) ?_
                      refine lv_if_eq (tgt := 249) hx hb dX1_run_34 (by decide) (fun c34 => ?_) (fun c34 => ?_)
                      · refine lv_aload_n hx hb dX1_run_249 rfl (lv_at hl 3 rfl) ?_
                        refine m_g12 F I (v := 3) hyT dX1_run_250 ?_
                        exact m_ri F hr hlk I (by have q := fin hw d T 3 hgo (by omega) (look3 c102 (insF_n c118) (stkF_0.mp c133) (fun q => (d_le0 (show d ≤ 150 by omega)).mp c146 q.1) (fun q => (d_le0 (show d ≤ 150 by omega)).mp c146 q.1) (fun q => absurd c204 (n_le.mpr ((d_lt (show d ≤ 150 by omega)).mpr q)))) (by decide); have e : zWy T 3 = T := (by rw [← hyT]; rfl); rw [e] at q; exact q) dX1_run_253
                      · exact absurd c34 (by decide)
                  · refine lv_iconst (v := 1) hx hb dX1_run_207 (by decide) ?_
                    refine lv_istore (lv' := [(4, .int 1), (6, .int (if rcM am q1 d1 T = true then (1 : Int32) else 0)), (5, .int (nI d)), (0, .ref h), (1, .int am), (2, .int q1), (3, .int d1)]) hx hb dX1_run_208 hl (by decide) rfl (fun ls hl => ?_)
                    refine lv_aload_n hx hb dX1_run_210 rfl (lv_at hl 3 rfl) ?_
                    refine lv_aload_n hx hb dX1_run_211 rfl (lv_at hl 3 rfl) ?_
                    refine m_g1 F I dX1_run_212 ?_
                    refine lv_aload_n hx hb dX1_run_215 rfl (lv_at hl 3 rfl) ?_
                    refine m_g9 F I (v := sAt T) rfl dX1_run_216 ?_
                    refine m_ld1 F I (v := opA T) (gd_in hgT (insF_n c118)) rfl dX1_run_219 ?_
                    refine lv_aload_n hx hb dX1_run_220 rfl (lv_at hl 3 rfl) ?_
                    refine m_g2 F I dX1_run_221 ?_
                    refine lv_aload_n hx hb dX1_run_224 rfl (lv_at hl 3 rfl) ?_
                    refine m_g9 F I (v := sAt T) rfl dX1_run_225 ?_
                    refine m_ld2 F I (v := asA T) (gd_in hgT (insF_n c118)) rfl dX1_run_228 ?_
                    refine lv_iconst (v := 3) hx hb dX1_run_229 (by decide) ?_
                    refine lv_iand hx hb dX1_run_230 ?_
                    refine lv_topi (fun y9 e9 => ?_)
                    rw [and3 _ (gd_as hgT)] at e9
                    subst e9
                    refine lv_aload_n hx hb dX1_run_231 rfl (lv_at hl 3 rfl) ?_
                    refine m_g3 F I dX1_run_232 ?_
                    refine lv_aload_n hx hb dX1_run_235 rfl (lv_at hl 3 rfl) ?_
                    refine m_g9 F I (v := sAt T) rfl dX1_run_236 ?_
                    refine m_ld3 F I (v := bsA T) (gd_in hgT (insF_n c118)) rfl dX1_run_239 ?_
                    refine m_cz F I (S1 := stp T) (As := [.int (opA T), .int (asA T), .int (bsA T)]) (rest := []) (fun sz => met_m_carryOut hgT hTT (insF_n c118) (stkF_0.mp c133)) (cw_m_carryOut F.2.2.2.2 ⟨by decide, by decide⟩) rfl rfl hl.1 (Nat.le_of_ble_eq_true rfl) dX1_run_240 ⟨Nat.zero_le _, Nat.zero_le _⟩ (fun H locs I => ?_)
                    refine lv_iinc (v := nI (d + 1)) (lv' := [(5, .int (nI (d + 1))), (4, .int 1), (6, .int (if rcM am q1 d1 T = true then (1 : Int32) else 0)), (0, .ref h), (1, .int am), (2, .int q1), (3, .int d1)]) hx hb dX1_run_243 hl (k := 2) rfl (nI_1 d) (by decide) rfl (fun ls hl => ?_)
                    refine lv_goto (tgt := 24) hx hb dX1_run_246 (by decide) ?_
                    have hl0 := look0 (rc := (rcM am q1 d1 T)) c102 (insF_n c118) (stkF_0.mp c133) (fun q => (d_le0 (show d ≤ 150 by omega)).mp c146 q.1) (fun q => (d_le0 (show d ≤ 150 by omega)).mp c146 q.1) ((d_lt (show d ≤ 150 by omega)).mp (n_le.mp c204))
                    have hd150 := (look_0 hl0).2.2
                    exact ih (d + 1) (stp T) _ _ _ (by omega) (by omega) (gd_stp hgT ⟨c102, insF_n c118, stkF_0.mp c133⟩) (noT_stp hTT) ((stp_wy T).trans hyT) (by rw [hgo, goF_on (by omega) hl0]; rfl) I (lv_sub hl [0, 1, 3, 4, 5, 6] rfl)
                · exact absurd c146 c164
              · refine lv_iload hx hb dX1_run_149 (lv_at hl 1 rfl) ?_
                refine lv_if_eq (tgt := 162) hx hb dX1_run_151 (by decide) (fun c151 => ?_) (fun c151 => ?_)
                · refine lv_iload hx hb dX1_run_162 (lv_at hl 2 rfl) ?_
                  refine lv_if_le (tgt := 199) hx hb dX1_run_164 (by decide) (fun c164 => ?_) (fun c164 => ?_)
                  · exact absurd c164 c146
                  · refine lv_aload_n hx hb dX1_run_167 rfl (lv_at hl 3 rfl) ?_
                    refine m_g9 F I (v := sAt T) rfl dX1_run_168 ?_
                    refine lv_bipush (v := 20) hx hb dX1_run_171 (by decide) ?_
                    refine lv_icmp_ge (tgt := 199) hx hb dX1_run_173 (by decide) (fun c173 => ?_) (fun c173 => ?_)
                    · exact absurd c173 (lt20 (gd_in hgT (insF_n c118)))
                    · refine lv_aload_n hx hb dX1_run_176 rfl (lv_at hl 3 rfl) ?_
                      refine m_g4 F I (v := sBk T) rfl dX1_run_177 ?_
                      refine lv_aload_n hx hb dX1_run_180 rfl (lv_at hl 3 rfl) ?_
                      refine m_g9 F I (v := sAt T) rfl dX1_run_181 ?_
                      refine lv_ishr hx hb dX1_run_184 ?_
                      refine lv_iconst (v := 1) hx hb dX1_run_185 (by decide) ?_
                      refine lv_iand hx hb dX1_run_186 ?_
                      refine lv_iconst (v := 1) hx hb dX1_run_187 (by decide) ?_
                      refine lv_icmp_ne (tgt := 199) hx hb dX1_run_188 (by decide) (fun c188 => ?_) (fun c188 => ?_)
                      · refine lv_iload hx hb dX1_run_199 (lv_at hl 2 rfl) ?_
                        refine lv_sipush (v := 150) hx hb dX1_run_201 (by decide) ?_
                        refine lv_icmp_ge (tgt := 243) hx hb dX1_run_204 (by decide) (fun c204 => ?_) (fun c204 => ?_)
                        · refine lv_iinc (v := nI (d + 1)) (lv' := [(5, .int (nI (d + 1))), (4, .int 0), (6, .int (if rcM am q1 d1 T = true then (1 : Int32) else 0)), (0, .ref h), (1, .int am), (2, .int q1), (3, .int d1)]) hx hb dX1_run_243 hl (k := 2) rfl (nI_1 d) (by decide) rfl (fun ls hl => ?_)
                          refine lv_goto (tgt := 24) hx hb dX1_run_246 (by decide) ?_
                          refine lv_iload hx hb dX1_run_24 (lv_at hl 0 rfl) ?_
                          refine lv_sipush (v := 150) hx hb dX1_run_26 (by decide) ?_
                          refine lv_icmp_gt (tgt := 249) hx hb dX1_run_29 (by decide) (fun c29 => ?_) (fun c29 => ?_)
                          · refine lv_aload_n hx hb dX1_run_249 rfl (lv_at hl 3 rfl) ?_
                            refine m_g12 F I (v := 3) hyT dX1_run_250 ?_
                            exact m_ri F hr hlk I (by have q := fin hw d T 3 hgo (by omega) (look3 c102 (insF_n c118) (stkF_0.mp c133) (fun q => rcI_0 c151 q.2) (fun q => q.2 (bit_n1 c188)) (fun q => absurd c204 (n_le.mpr ((d_lt (show d ≤ 150 by omega)).mpr q)))) (by decide); have e : zWy T 3 = T := (by rw [← hyT]; rfl); rw [e] at q; exact q) dX1_run_253
                          · refine lv_iload hx hb dX1_run_32 (lv_at hl 1 rfl) ?_
                            refine lv_if_eq (tgt := 249) hx hb dX1_run_34 (by decide) (fun c34 => ?_) (fun c34 => ?_)
                            · refine lv_aload_n hx hb dX1_run_249 rfl (lv_at hl 3 rfl) ?_
                              refine m_g12 F I (v := 3) hyT dX1_run_250 ?_
                              exact m_ri F hr hlk I (by have q := fin hw d T 3 hgo (by omega) (look3 c102 (insF_n c118) (stkF_0.mp c133) (fun q => rcI_0 c151 q.2) (fun q => q.2 (bit_n1 c188)) (fun q => absurd c204 (n_le.mpr ((d_lt (show d ≤ 150 by omega)).mpr q)))) (by decide); have e : zWy T 3 = T := (by rw [← hyT]; rfl); rw [e] at q; exact q) dX1_run_253
                            · exact absurd c34 (by decide)
                        · refine lv_iconst (v := 1) hx hb dX1_run_207 (by decide) ?_
                          refine lv_istore (lv' := [(4, .int 1), (6, .int (if rcM am q1 d1 T = true then (1 : Int32) else 0)), (5, .int (nI d)), (0, .ref h), (1, .int am), (2, .int q1), (3, .int d1)]) hx hb dX1_run_208 hl (by decide) rfl (fun ls hl => ?_)
                          refine lv_aload_n hx hb dX1_run_210 rfl (lv_at hl 3 rfl) ?_
                          refine lv_aload_n hx hb dX1_run_211 rfl (lv_at hl 3 rfl) ?_
                          refine m_g1 F I dX1_run_212 ?_
                          refine lv_aload_n hx hb dX1_run_215 rfl (lv_at hl 3 rfl) ?_
                          refine m_g9 F I (v := sAt T) rfl dX1_run_216 ?_
                          refine m_ld1 F I (v := opA T) (gd_in hgT (insF_n c118)) rfl dX1_run_219 ?_
                          refine lv_aload_n hx hb dX1_run_220 rfl (lv_at hl 3 rfl) ?_
                          refine m_g2 F I dX1_run_221 ?_
                          refine lv_aload_n hx hb dX1_run_224 rfl (lv_at hl 3 rfl) ?_
                          refine m_g9 F I (v := sAt T) rfl dX1_run_225 ?_
                          refine m_ld2 F I (v := asA T) (gd_in hgT (insF_n c118)) rfl dX1_run_228 ?_
                          refine lv_iconst (v := 3) hx hb dX1_run_229 (by decide) ?_
                          refine lv_iand hx hb dX1_run_230 ?_
                          refine lv_topi (fun y9 e9 => ?_)
                          rw [and3 _ (gd_as hgT)] at e9
                          subst e9
                          refine lv_aload_n hx hb dX1_run_231 rfl (lv_at hl 3 rfl) ?_
                          refine m_g3 F I dX1_run_232 ?_
                          refine lv_aload_n hx hb dX1_run_235 rfl (lv_at hl 3 rfl) ?_
                          refine m_g9 F I (v := sAt T) rfl dX1_run_236 ?_
                          refine m_ld3 F I (v := bsA T) (gd_in hgT (insF_n c118)) rfl dX1_run_239 ?_
                          refine m_cz F I (S1 := stp T) (As := [.int (opA T), .int (asA T), .int (bsA T)]) (rest := []) (fun sz => met_m_carryOut hgT hTT (insF_n c118) (stkF_0.mp c133)) (cw_m_carryOut F.2.2.2.2 ⟨by decide, by decide⟩) rfl rfl hl.1 (Nat.le_of_ble_eq_true rfl) dX1_run_240 ⟨Nat.zero_le _, Nat.zero_le _⟩ (fun H locs I => ?_)
                          refine lv_iinc (v := nI (d + 1)) (lv' := [(5, .int (nI (d + 1))), (4, .int 1), (6, .int (if rcM am q1 d1 T = true then (1 : Int32) else 0)), (0, .ref h), (1, .int am), (2, .int q1), (3, .int d1)]) hx hb dX1_run_243 hl (k := 2) rfl (nI_1 d) (by decide) rfl (fun ls hl => ?_)
                          refine lv_goto (tgt := 24) hx hb dX1_run_246 (by decide) ?_
                          have hl0 := look0 (rc := (rcM am q1 d1 T)) c102 (insF_n c118) (stkF_0.mp c133) (fun q => rcI_0 c151 q.2) (fun q => q.2 (bit_n1 c188)) ((d_lt (show d ≤ 150 by omega)).mp (n_le.mp c204))
                          have hd150 := (look_0 hl0).2.2
                          exact ih (d + 1) (stp T) _ _ _ (by omega) (by omega) (gd_stp hgT ⟨c102, insF_n c118, stkF_0.mp c133⟩) (noT_stp hTT) ((stp_wy T).trans hyT) (by rw [hgo, goF_on (by omega) hl0]; rfl) I (lv_sub hl [0, 1, 3, 4, 5, 6] rfl)
                      · refine lv_aload_n hx hb dX1_run_191 rfl (lv_at hl 3 rfl) ?_
                        refine lv_iconst (v := 2) hx hb dX1_run_192 (by decide) ?_
                        refine m_p12 F I dX1_run_193 (fun H locs I => ?_)
                        refine lv_goto (tgt := 243) hx hb dX1_run_196 (by decide) ?_
                        refine lv_iinc (v := nI (d + 1)) (lv' := [(5, .int (nI (d + 1))), (4, .int 0), (6, .int (if rcM am q1 d1 T = true then (1 : Int32) else 0)), (0, .ref h), (1, .int am), (2, .int q1), (3, .int d1)]) hx hb dX1_run_243 hl (k := 2) rfl (nI_1 d) (by decide) rfl (fun ls hl => ?_)
                        refine lv_goto (tgt := 24) hx hb dX1_run_246 (by decide) ?_
                        refine lv_iload hx hb dX1_run_24 (lv_at hl 0 rfl) ?_
                        refine lv_sipush (v := 150) hx hb dX1_run_26 (by decide) ?_
                        refine lv_icmp_gt (tgt := 249) hx hb dX1_run_29 (by decide) (fun c29 => ?_) (fun c29 => ?_)
                        · refine lv_aload_n hx hb dX1_run_249 rfl (lv_at hl 3 rfl) ?_
                          refine m_g12 F I (v := 2) rfl dX1_run_250 ?_
                          exact m_ri F hr hlk I (fin hw d T 2 hgo (by omega) (look2 c102 (insF_n c118) (stkF_0.mp c133) (fun q => rcI_0 c151 q.2) ⟨(Decidable.not_not.mp (fun q => c146 ((d_le0 (show d ≤ 150 by omega)).mpr q))), bit_1 c188⟩) (by decide)) dX1_run_253
                        · refine lv_iload hx hb dX1_run_32 (lv_at hl 1 rfl) ?_
                          refine lv_if_eq (tgt := 249) hx hb dX1_run_34 (by decide) (fun c34 => ?_) (fun c34 => ?_)
                          · refine lv_aload_n hx hb dX1_run_249 rfl (lv_at hl 3 rfl) ?_
                            refine m_g12 F I (v := 2) rfl dX1_run_250 ?_
                            exact m_ri F hr hlk I (fin hw d T 2 hgo (by omega) (look2 c102 (insF_n c118) (stkF_0.mp c133) (fun q => rcI_0 c151 q.2) ⟨(Decidable.not_not.mp (fun q => c146 ((d_le0 (show d ≤ 150 by omega)).mpr q))), bit_1 c188⟩) (by decide)) dX1_run_253
                          · exact absurd c34 (by decide)
                · refine lv_aload_n hx hb dX1_run_154 rfl (lv_at hl 3 rfl) ?_
                  refine lv_iconst (v := 1) hx hb dX1_run_155 (by decide) ?_
                  refine m_p12 F I dX1_run_156 (fun H locs I => ?_)
                  refine lv_goto (tgt := 243) hx hb dX1_run_159 (by decide) ?_
                  refine lv_iinc (v := nI (d + 1)) (lv' := [(5, .int (nI (d + 1))), (4, .int 0), (6, .int (if rcM am q1 d1 T = true then (1 : Int32) else 0)), (0, .ref h), (1, .int am), (2, .int q1), (3, .int d1)]) hx hb dX1_run_243 hl (k := 2) rfl (nI_1 d) (by decide) rfl (fun ls hl => ?_)
                  refine lv_goto (tgt := 24) hx hb dX1_run_246 (by decide) ?_
                  refine lv_iload hx hb dX1_run_24 (lv_at hl 0 rfl) ?_
                  refine lv_sipush (v := 150) hx hb dX1_run_26 (by decide) ?_
                  refine lv_icmp_gt (tgt := 249) hx hb dX1_run_29 (by decide) (fun c29 => ?_) (fun c29 => ?_)
                  · refine lv_aload_n hx hb dX1_run_249 rfl (lv_at hl 3 rfl) ?_
                    refine m_g12 F I (v := 1) rfl dX1_run_250 ?_
                    exact m_ri F hr hlk I (fin hw d T 1 hgo (by omega) (look1 c102 (insF_n c118) (stkF_0.mp c133) ⟨(Decidable.not_not.mp (fun q => c146 ((d_le0 (show d ≤ 150 by omega)).mpr q))), rcI_1 c151⟩) (by decide)) dX1_run_253
                  · refine lv_iload hx hb dX1_run_32 (lv_at hl 1 rfl) ?_
                    refine lv_if_eq (tgt := 249) hx hb dX1_run_34 (by decide) (fun c34 => ?_) (fun c34 => ?_)
                    · refine lv_aload_n hx hb dX1_run_249 rfl (lv_at hl 3 rfl) ?_
                      refine m_g12 F I (v := 1) rfl dX1_run_250 ?_
                      exact m_ri F hr hlk I (fin hw d T 1 hgo (by omega) (look1 c102 (insF_n c118) (stkF_0.mp c133) ⟨(Decidable.not_not.mp (fun q => c146 ((d_le0 (show d ≤ 150 by omega)).mpr q))), rcI_1 c151⟩) (by decide)) dX1_run_253
                    · exact absurd c34 (by decide)
            · refine lv_aload_n hx hb dX1_run_136 rfl (lv_at hl 3 rfl) ?_
              refine lv_iconst (v := 5) hx hb dX1_run_137 (by decide) ?_
              refine m_p12 F I dX1_run_138 (fun H locs I => ?_)
              refine lv_goto (tgt := 243) hx hb dX1_run_141 (by decide) ?_
              refine lv_iinc (v := nI (d + 1)) (lv' := [(5, .int (nI (d + 1))), (4, .int 0), (6, .int (if rcM am q1 d1 T = true then (1 : Int32) else 0)), (0, .ref h), (1, .int am), (2, .int q1), (3, .int d1)]) hx hb dX1_run_243 hl (k := 2) rfl (nI_1 d) (by decide) rfl (fun ls hl => ?_)
              refine lv_goto (tgt := 24) hx hb dX1_run_246 (by decide) ?_
              refine lv_iload hx hb dX1_run_24 (lv_at hl 0 rfl) ?_
              refine lv_sipush (v := 150) hx hb dX1_run_26 (by decide) ?_
              refine lv_icmp_gt (tgt := 249) hx hb dX1_run_29 (by decide) (fun c29 => ?_) (fun c29 => ?_)
              · refine lv_aload_n hx hb dX1_run_249 rfl (lv_at hl 3 rfl) ?_
                refine m_g12 F I (v := 5) rfl dX1_run_250 ?_
                exact m_ri F hr hlk I (fin hw d T 5 hgo (by omega) (look5 c102 (insF_n c118) (stkF_n c133)) (by decide)) dX1_run_253
              · refine lv_iload hx hb dX1_run_32 (lv_at hl 1 rfl) ?_
                refine lv_if_eq (tgt := 249) hx hb dX1_run_34 (by decide) (fun c34 => ?_) (fun c34 => ?_)
                · refine lv_aload_n hx hb dX1_run_249 rfl (lv_at hl 3 rfl) ?_
                  refine m_g12 F I (v := 5) rfl dX1_run_250 ?_
                  exact m_ri F hr hlk I (fin hw d T 5 hgo (by omega) (look5 c102 (insF_n c118) (stkF_n c133)) (by decide)) dX1_run_253
                · exact absurd c34 (by decide)
          · refine lv_aload_n hx hb dX1_run_121 rfl (lv_at hl 3 rfl) ?_
            refine lv_iconst (v := 4) hx hb dX1_run_122 (by decide) ?_
            refine m_p12 F I dX1_run_123 (fun H locs I => ?_)
            refine lv_goto (tgt := 243) hx hb dX1_run_126 (by decide) ?_
            refine lv_iinc (v := nI (d + 1)) (lv' := [(5, .int (nI (d + 1))), (4, .int 0), (6, .int (if rcM am q1 d1 T = true then (1 : Int32) else 0)), (0, .ref h), (1, .int am), (2, .int q1), (3, .int d1)]) hx hb dX1_run_243 hl (k := 2) rfl (nI_1 d) (by decide) rfl (fun ls hl => ?_)
            refine lv_goto (tgt := 24) hx hb dX1_run_246 (by decide) ?_
            refine lv_iload hx hb dX1_run_24 (lv_at hl 0 rfl) ?_
            refine lv_sipush (v := 150) hx hb dX1_run_26 (by decide) ?_
            refine lv_icmp_gt (tgt := 249) hx hb dX1_run_29 (by decide) (fun c29 => ?_) (fun c29 => ?_)
            · refine lv_aload_n hx hb dX1_run_249 rfl (lv_at hl 3 rfl) ?_
              refine m_g12 F I (v := 4) rfl dX1_run_250 ?_
              exact m_ri F hr hlk I (fin hw d T 4 hgo (by omega) (look4 c102 (insF_0.mp c118)) (by decide)) dX1_run_253
            · refine lv_iload hx hb dX1_run_32 (lv_at hl 1 rfl) ?_
              refine lv_if_eq (tgt := 249) hx hb dX1_run_34 (by decide) (fun c34 => ?_) (fun c34 => ?_)
              · refine lv_aload_n hx hb dX1_run_249 rfl (lv_at hl 3 rfl) ?_
                refine m_g12 F I (v := 4) rfl dX1_run_250 ?_
                exact m_ri F hr hlk I (fin hw d T 4 hgo (by omega) (look4 c102 (insF_0.mp c118)) (by decide)) dX1_run_253
              · exact absurd c34 (by decide)
        · refine lv_aload_n hx hb dX1_run_105 rfl (lv_at hl 3 rfl) ?_
          refine lv_bipush (v := 6) hx hb dX1_run_106 (by decide) ?_
          refine m_p12 F I dX1_run_108 (fun H locs I => ?_)
          refine lv_goto (tgt := 243) hx hb dX1_run_111 (by decide) ?_
          refine lv_iinc (v := nI (d + 1)) (lv' := [(5, .int (nI (d + 1))), (4, .int 0), (6, .int (if rcM am q1 d1 T = true then (1 : Int32) else 0)), (0, .ref h), (1, .int am), (2, .int q1), (3, .int d1)]) hx hb dX1_run_243 hl (k := 2) rfl (nI_1 d) (by decide) rfl (fun ls hl => ?_)
          refine lv_goto (tgt := 24) hx hb dX1_run_246 (by decide) ?_
          refine lv_iload hx hb dX1_run_24 (lv_at hl 0 rfl) ?_
          refine lv_sipush (v := 150) hx hb dX1_run_26 (by decide) ?_
          refine lv_icmp_gt (tgt := 249) hx hb dX1_run_29 (by decide) (fun c29 => ?_) (fun c29 => ?_)
          · refine lv_aload_n hx hb dX1_run_249 rfl (lv_at hl 3 rfl) ?_
            refine m_g12 F I (v := 6) rfl dX1_run_250 ?_
            exact m_ri F hr hlk I (fin hw d T 6 hgo (by omega) (look6 c102) (by decide)) dX1_run_253
          · refine lv_iload hx hb dX1_run_32 (lv_at hl 1 rfl) ?_
            refine lv_if_eq (tgt := 249) hx hb dX1_run_34 (by decide) (fun c34 => ?_) (fun c34 => ?_)
            · refine lv_aload_n hx hb dX1_run_249 rfl (lv_at hl 3 rfl) ?_
              refine m_g12 F I (v := 6) rfl dX1_run_250 ?_
              exact m_ri F hr hlk I (fin hw d T 6 hgo (by omega) (look6 c102) (by decide)) dX1_run_253
            · exact absurd c34 (by decide)
      refine lv_iload hx hb dX1_run_24 (lv_at hl 0 rfl) ?_
      refine lv_sipush (v := 150) hx hb dX1_run_26 (by decide) ?_
      refine lv_icmp_gt (tgt := 249) hx hb dX1_run_29 (by decide) (fun c29 => ?_) (fun c29 => ?_)
      · exact absurd c29 (by rw [i_lt, e_150, nI_toInt (by omega)]; omega)
      · refine lv_iload hx hb dX1_run_32 (lv_at hl 1 rfl) ?_
        refine lv_if_eq (tgt := 249) hx hb dX1_run_34 (by decide) (fun c34 => ?_) (fun c34 => ?_)
        · exact absurd c34 (by decide)
        · refine lv_iload_n hx hb dX1_run_37 rfl (lv_at hl 3 rfl) ?_
          refine lv_if_eq (tgt := 88) hx hb dX1_run_38 (by decide) (fun c38 => ?_) (fun c38 => ?_)
          · refine lv_iconst (v := 1) hx hb dX1_run_88 (by decide) ?_
            refine lv_goto (tgt := 93) hx hb dX1_run_89 (by decide) ?_
            exact join 1 ls (by simp [rcM, c29, c34, c38]) (lv_sub hl [0, 1, 2, 3, 4, 5] rfl)
          · refine lv_iload_n hx hb dX1_run_41 rfl (lv_at hl 3 rfl) ?_
            refine lv_iconst (v := 1) hx hb dX1_run_42 (by decide) ?_
            refine lv_icmp_ne (tgt := 54) hx hb dX1_run_43 (by decide) (fun c43 => ?_) (fun c43 => ?_)
            · refine lv_iload_n hx hb dX1_run_54 rfl (lv_at hl 3 rfl) ?_
              refine lv_iconst (v := 2) hx hb dX1_run_55 (by decide) ?_
              refine lv_icmp_ne (tgt := 67) hx hb dX1_run_56 (by decide) (fun c56 => ?_) (fun c56 => ?_)
              · refine lv_iload_n hx hb dX1_run_67 rfl (lv_at hl 3 rfl) ?_
                refine lv_iconst (v := 3) hx hb dX1_run_68 (by decide) ?_
                refine lv_icmp_ne (tgt := 92) hx hb dX1_run_69 (by decide) (fun c69 => ?_) (fun c69 => ?_)
                · refine lv_iconst (v := 0) hx hb dX1_run_92 (by decide) ?_
                  exact join 0 ls (by simp [rcM, c29, c34, c38, c43, c56, c69]) (lv_sub hl [0, 1, 2, 3, 4, 5] rfl)
                · refine lv_aload_n hx hb dX1_run_72 rfl (lv_at hl 2 rfl) ?_
                  refine m_g9 F I (v := sAt T) rfl dX1_run_73 ?_
                  refine lv_iload_n hx hb dX1_run_76 rfl (lv_at hl 4 rfl) ?_
                  refine lv_icmp_ne (tgt := 92) hx hb dX1_run_77 (by decide) (fun c77 => ?_) (fun c77 => ?_)
                  · refine lv_iconst (v := 0) hx hb dX1_run_92 (by decide) ?_
                    exact join 0 ls (by simp [rcM, c29, c34, c38, c43, c56, c69, c77]) (lv_sub hl [0, 1, 2, 3, 4, 5] rfl)
                  · refine lv_aload_n hx hb dX1_run_80 rfl (lv_at hl 2 rfl) ?_
                    refine m_g8 F I (v := sLv T) rfl dX1_run_81 ?_
                    refine lv_iload_n hx hb dX1_run_84 rfl (lv_at hl 5 rfl) ?_
                    refine lv_icmp_ne (tgt := 92) hx hb dX1_run_85 (by decide) (fun c85 => ?_) (fun c85 => ?_)
                    · refine lv_iconst (v := 0) hx hb dX1_run_92 (by decide) ?_
                      exact join 0 ls (by simp [rcM, c29, c34, c38, c43, c56, c69, c77, c85]) (lv_sub hl [0, 1, 2, 3, 4, 5] rfl)
                    · refine lv_iconst (v := 1) hx hb dX1_run_88 (by decide) ?_
                      refine lv_goto (tgt := 93) hx hb dX1_run_89 (by decide) ?_
                      exact join 1 ls (by simp [rcM, c29, c34, c38, c43, c56, c69, c77, c85]) (lv_sub hl [0, 1, 2, 3, 4, 5] rfl)
              · refine lv_aload_n hx hb dX1_run_59 rfl (lv_at hl 2 rfl) ?_
                refine m_g8 F I (v := sLv T) rfl dX1_run_60 ?_
                refine lv_iload_n hx hb dX1_run_63 rfl (lv_at hl 5 rfl) ?_
                refine lv_icmp_lt (tgt := 88) hx hb dX1_run_64 (by decide) (fun c64 => ?_) (fun c64 => ?_)
                · refine lv_iconst (v := 1) hx hb dX1_run_88 (by decide) ?_
                  refine lv_goto (tgt := 93) hx hb dX1_run_89 (by decide) ?_
                  exact join 1 ls (by simp [rcM, c29, c34, c38, c43, c56, c64]) (lv_sub hl [0, 1, 2, 3, 4, 5] rfl)
                · refine lv_iload_n hx hb dX1_run_67 rfl (lv_at hl 3 rfl) ?_
                  refine lv_iconst (v := 3) hx hb dX1_run_68 (by decide) ?_
                  refine lv_icmp_ne (tgt := 92) hx hb dX1_run_69 (by decide) (fun c69 => ?_) (fun c69 => ?_)
                  · refine lv_iconst (v := 0) hx hb dX1_run_92 (by decide) ?_
                    exact join 0 ls (by simp [rcM, c29, c34, c38, c43, c56, c64, c69]) (lv_sub hl [0, 1, 2, 3, 4, 5] rfl)
                  · exact absurd (c56.symm.trans c69) (by decide)
            · refine lv_aload_n hx hb dX1_run_46 rfl (lv_at hl 2 rfl) ?_
              refine m_g9 F I (v := sAt T) rfl dX1_run_47 ?_
              refine lv_iload_n hx hb dX1_run_50 rfl (lv_at hl 4 rfl) ?_
              refine lv_icmp_eq (tgt := 88) hx hb dX1_run_51 (by decide) (fun c51 => ?_) (fun c51 => ?_)
              · refine lv_iconst (v := 1) hx hb dX1_run_88 (by decide) ?_
                refine lv_goto (tgt := 93) hx hb dX1_run_89 (by decide) ?_
                exact join 1 ls (by simp [rcM, c29, c34, c38, c43, c51]) (lv_sub hl [0, 1, 2, 3, 4, 5] rfl)
              · refine lv_iload_n hx hb dX1_run_54 rfl (lv_at hl 3 rfl) ?_
                refine lv_iconst (v := 2) hx hb dX1_run_55 (by decide) ?_
                refine lv_icmp_ne (tgt := 67) hx hb dX1_run_56 (by decide) (fun c56 => ?_) (fun c56 => ?_)
                · refine lv_iload_n hx hb dX1_run_67 rfl (lv_at hl 3 rfl) ?_
                  refine lv_iconst (v := 3) hx hb dX1_run_68 (by decide) ?_
                  refine lv_icmp_ne (tgt := 92) hx hb dX1_run_69 (by decide) (fun c69 => ?_) (fun c69 => ?_)
                  · refine lv_iconst (v := 0) hx hb dX1_run_92 (by decide) ?_
                    exact join 0 ls (by simp [rcM, c29, c34, c38, c43, c51, c56, c69]) (lv_sub hl [0, 1, 2, 3, 4, 5] rfl)
                  · exact absurd (c43.symm.trans c69) (by decide)
                · exact absurd (c43.symm.trans c56) (by decide)
  refine lv_aload_n hx hb dX1_run_0 rfl (lv_at hl 0 rfl) ?_
  refine m_g12 F I (v := sWy S) rfl dX1_run_1 ?_
  refine lv_iconst (v := 4) hx hb dX1_run_4 (by decide) ?_
  refine lv_icmp_lt (tgt := 13) hx hb dX1_run_5 (by decide) (fun c5 => ?_) (fun c5 => ?_)
  · refine lv_aload_n hx hb dX1_run_13 rfl (lv_at hl 0 rfl) ?_
    refine lv_iconst (v := 3) hx hb dX1_run_14 (by decide) ?_
    refine m_p12 F I dX1_run_15 (fun H locs I => ?_)
    refine lv_iconst (v := 1) hx hb dX1_run_18 (by decide) ?_
    refine lv_istore (lv' := [(4, .int 1), (0, .ref h), (1, .int am), (2, .int q1), (3, .int d1)]) hx hb dX1_run_19 hl (by decide) rfl (fun ls hl => ?_)
    refine lv_iconst (v := 0) hx hb dX1_run_21 (by decide) ?_
    refine lv_istore (lv' := [(5, .int 0), (4, .int 1), (0, .ref h), (1, .int am), (2, .int q1), (3, .int d1)]) hx hb dX1_run_22 hl (by decide) rfl (fun ls hl => ?_)
    exact loop c5 151 0 (zWy S 3) _ _ _ (by omega) (by omega) hg hT rfl rfl I (lv_sub hl [0, 1, 2, 3, 4, 5] rfl)
  · refine lv_aload_n hx hb dX1_run_8 rfl (lv_at hl 0 rfl) ?_
    refine m_g12 F I (v := sWy S) rfl dX1_run_9 ?_
    exact m_ri F hr hlk I ⟨by rw [run_w c5], by rw [run_w c5]⟩ dX1_run_12
set_option maxHeartbeats 4000000 in
set_option maxRecDepth 100000 in
/-- step() -/
theorem met_m_step {l : Launch} {D : va_G} {h : Nat} {a : Nat → Nat} {ca : Nat → ClassId} {sz : Nat} {S : Sh} (hg : gd S) (hT : noT S) : Met l yX1_step (ws_ yX1_step cX1_step 1 (some .int)) (rmL 4) (mPc D h a ca [] sz S) (mQi D h a ca sz S (fun r u => r = (goTrue S).1 ∧ u = (goTrue S).2)) 0 0 (mA h a ca S sz) := by
  refine m_enter (by decide) (Nat.le_of_ble_eq_true rfl) rfl ?_
  intro p e s m below meth c F hr hlk I ls hl
  have hx := F.1
  have hb := F.2.1
  have hl : lv_has ls 1 [(0, .ref h)] := hl
  refine lv_aload_n hx hb dX1_step_0 rfl (lv_at hl 0 rfl) ?_
  refine lv_iconst (v := 0) hx hb dX1_step_1 (by decide) ?_
  refine lv_iconst (v := 0) hx hb dX1_step_2 (by decide) ?_
  refine lv_iconst (v := 0) hx hb dX1_step_3 (by decide) ?_
  have hrc : rcM 0 0 0 = (fun _ => true) := rcM_0 _ _
  refine m_cs F I (v := (runF (fun _ => true) S).1) (S1 := (runF (fun _ => true) S).2) (As := [.int 0, .int 0, .int 0]) (rest := []) (fun sz => by have q := met_m_run (l := l) (D := D) (h := h) (a := a) (ca := ca) (sz := sz) 0 0 0 hg hT; rw [hrc] at q; exact q) (cw_m_run F.2.2.2.2 ⟨by decide, by decide⟩) rfl rfl hl.1 (Nat.le_of_ble_eq_true rfl) dX1_step_4 ⟨Nat.zero_le _, Nat.zero_le _⟩ (fun H locs I => ?_)
  exact m_ri F hr hlk I ⟨rfl, rfl⟩ dX1_step_7
set_option maxHeartbeats 4000000 in
set_option maxRecDepth 100000 in
/-- stepOut() -/
theorem met_m_stepOut {l : Launch} {D : va_G} {h : Nat} {a : Nat → Nat} {ca : Nat → ClassId} {sz : Nat} {S : Sh} (hg : gd S) (hT : noT S) : Met l yX1_stepOut (ws_ yX1_stepOut cX1_stepOut 1 (some .int)) (rmL 4) (mPc D h a ca [] sz S) (mQi D h a ca sz S (fun r u => r = (goOut S).1 ∧ u = (goOut S).2)) 0 0 (mA h a ca S sz) := by
  refine m_enter (by decide) (Nat.le_of_ble_eq_true rfl) rfl ?_
  intro p e s m below meth c F hr hlk I ls hl
  have hx := F.1
  have hb := F.2.1
  have hl : lv_has ls 1 [(0, .ref h)] := hl
  refine lv_aload_n hx hb dX1_stepOut_0 rfl (lv_at hl 0 rfl) ?_
  refine lv_iconst (v := 2) hx hb dX1_stepOut_1 (by decide) ?_
  refine lv_iconst (v := 0) hx hb dX1_stepOut_2 (by decide) ?_
  refine lv_aload_n hx hb dX1_stepOut_3 rfl (lv_at hl 0 rfl) ?_
  refine m_g8 F I (v := sLv S) rfl dX1_stepOut_4 ?_
  have hrc : rcM 2 0 (sLv S) = (fun T => decide (sLv T < sLv S)) := rcM_2 _ _
  refine m_cs F I (v := (runF (fun T => decide (sLv T < sLv S)) S).1) (S1 := (runF (fun T => decide (sLv T < sLv S)) S).2) (As := [.int 2, .int 0, .int (sLv S)]) (rest := []) (fun sz => by have q := met_m_run (l := l) (D := D) (h := h) (a := a) (ca := ca) (sz := sz) 2 0 (sLv S) hg hT; rw [hrc] at q; exact q) (cw_m_run F.2.2.2.2 ⟨by decide, by decide⟩) rfl rfl hl.1 (Nat.le_of_ble_eq_true rfl) dX1_stepOut_7 ⟨Nat.zero_le _, Nat.zero_le _⟩ (fun H locs I => ?_)
  exact m_ri F hr hlk I ⟨rfl, rfl⟩ dX1_stepOut_10
set_option maxHeartbeats 4000000 in
set_option maxRecDepth 100000 in
/-- go() -/
theorem met_m_go {l : Launch} {D : va_G} {h : Nat} {a : Nat → Nat} {ca : Nat → ClassId} {sz : Nat} {S : Sh} (hg : gd S) (hT : noT S) : Met l yX1_go (ws_ yX1_go cX1_go 1 (some .int)) (rmL 4) (mPc D h a ca [] sz S) (mQi D h a ca sz S (fun r u => r = (goFalse S).1 ∧ u = (goFalse S).2)) 0 0 (mA h a ca S sz) := by
  refine m_enter (by decide) (Nat.le_of_ble_eq_true rfl) rfl ?_
  intro p e s m below meth c F hr hlk I ls hl
  have hx := F.1
  have hb := F.2.1
  have hl : lv_has ls 1 [(0, .ref h)] := hl
  refine lv_aload_n hx hb dX1_go_0 rfl (lv_at hl 0 rfl) ?_
  refine lv_iconst (v := 4) hx hb dX1_go_1 (by decide) ?_
  refine lv_iconst (v := 0) hx hb dX1_go_2 (by decide) ?_
  refine lv_iconst (v := 0) hx hb dX1_go_3 (by decide) ?_
  have hrc : rcM 4 0 0 = (fun _ => false) := rcM_4 _ _
  refine m_cs F I (v := (runF (fun _ => false) S).1) (S1 := (runF (fun _ => false) S).2) (As := [.int 4, .int 0, .int 0]) (rest := []) (fun sz => by have q := met_m_run (l := l) (D := D) (h := h) (a := a) (ca := ca) (sz := sz) 4 0 0 hg hT; rw [hrc] at q; exact q) (cw_m_run F.2.2.2.2 ⟨by decide, by decide⟩) rfl rfl hl.1 (Nat.le_of_ble_eq_true rfl) dX1_go_4 ⟨Nat.zero_le _, Nat.zero_le _⟩ (fun H locs I => ?_)
  exact m_ri F hr hlk I ⟨rfl, rfl⟩ dX1_go_7
set_option maxHeartbeats 4000000 in
set_option maxRecDepth 100000 in
/-- goTo() -/
theorem met_m_goTo {l : Launch} {D : va_G} {h : Nat} {a : Nat → Nat} {ca : Nat → ClassId} {sz : Nat} {S : Sh} (p0 : Int32) (hg : gd S) (hT : noT S) : Met l yX1_goTo (ws_ yX1_goTo cX1_goTo 2 (some .int)) (rmL 4) (mPc D h a ca [.int p0] sz S) (mQi D h a ca sz S (fun r u => r = (goPlace p0 S).1 ∧ u = (goPlace p0 S).2)) 0 0 (mA h a ca S sz) := by
  refine m_enter (by decide) (Nat.le_of_ble_eq_true rfl) rfl ?_
  intro p e s m below meth c F hr hlk I ls hl
  have hx := F.1
  have hb := F.2.1
  have hl : lv_has ls 2 [(0, .ref h), (1, .int p0)] := hl
  refine lv_aload_n hx hb dX1_goTo_0 rfl (lv_at hl 0 rfl) ?_
  refine lv_iconst (v := 1) hx hb dX1_goTo_1 (by decide) ?_
  refine lv_iload_n hx hb dX1_goTo_2 rfl (lv_at hl 1 rfl) ?_
  refine lv_iconst (v := 0) hx hb dX1_goTo_3 (by decide) ?_
  have hrc : rcM 1 p0 0 = (fun T => decide (sAt T = p0)) := rcM_1 _ _
  refine m_cs F I (v := (runF (fun T => decide (sAt T = p0)) S).1) (S1 := (runF (fun T => decide (sAt T = p0)) S).2) (As := [.int 1, .int p0, .int 0]) (rest := []) (fun sz => by have q := met_m_run (l := l) (D := D) (h := h) (a := a) (ca := ca) (sz := sz) 1 p0 0 hg hT; rw [hrc] at q; exact q) (cw_m_run F.2.2.2.2 ⟨by decide, by decide⟩) rfl rfl hl.1 (Nat.le_of_ble_eq_true rfl) dX1_goTo_4 ⟨Nat.zero_le _, Nat.zero_le _⟩ (fun H locs I => ?_)
  exact m_ri F hr hlk I ⟨rfl, rfl⟩ dX1_goTo_7
set_option maxHeartbeats 4000000 in
set_option maxRecDepth 100000 in
/-- stepOver() -/
theorem met_m_stepOver {l : Launch} {D : va_G} {h : Nat} {a : Nat → Nat} {ca : Nat → ClassId} {sz : Nat} {S : Sh} (hg : gd S) (hT : noT S) : Met l yX1_stepOver (ws_ yX1_stepOver cX1_stepOver 2 (some .int)) (rmL 4) (mPc D h a ca [] sz S) (mQi D h a ca sz S (fun r u => r = (goOver S).1 ∧ u = (goOver S).2)) 0 0 (mA h a ca S sz) := by
  refine m_enter (by decide) (Nat.le_of_ble_eq_true rfl) rfl ?_
  intro p e s m below meth c F hr hlk I ls hl
  have hx := F.1
  have hb := F.2.1
  have hl : lv_has ls 2 [(0, .ref h)] := hl
  refine lv_aload_n hx hb dX1_stepOver_0 rfl (lv_at hl 0 rfl) ?_
  refine m_cs F I (v := (if ins S (sAt S) then opA S else -1)) (S1 := S) (As := []) (rest := []) (fun sz => met_m_here hg) (cw_m_here F.2.2.2.2 ⟨by decide, by decide⟩) rfl rfl hl.1 (Nat.le_of_ble_eq_true rfl) dX1_stepOver_1 ⟨Nat.zero_le _, Nat.zero_le _⟩ (fun H locs I => ?_)
  refine lv_bipush (v := 7) hx hb dX1_stepOver_4 (by decide) ?_
  refine lv_icmp_ne (tgt := 22) hx hb dX1_stepOver_6 (by decide) (fun c6 => ?_) (fun c6 => ?_)
  · refine lv_iconst (v := 0) hx hb dX1_stepOver_22 (by decide) ?_
    refine lv_istore_n (lv' := [(1, .int 0), (0, .ref h)]) hx hb dX1_stepOver_23 rfl hl (by decide) rfl (fun ls hl => ?_)
    refine lv_iload_n hx hb dX1_stepOver_24 rfl (lv_at hl 0 rfl) ?_
    refine lv_if_eq (tgt := 46) hx hb dX1_stepOver_25 (by decide) (fun c25 => ?_) (fun c25 => ?_)
    · refine lv_aload_n hx hb dX1_stepOver_46 rfl (lv_at hl 1 rfl) ?_
      refine lv_iconst (v := 0) hx hb dX1_stepOver_47 (by decide) ?_
      refine lv_iconst (v := 0) hx hb dX1_stepOver_48 (by decide) ?_
      refine lv_iconst (v := 0) hx hb dX1_stepOver_49 (by decide) ?_
      have hrc : rcM 0 0 0 = (fun _ => true) := rcM_0 _ _
      refine m_cs F I (v := (runF (fun _ => true) S).1) (S1 := (runF (fun _ => true) S).2) (As := [.int 0, .int 0, .int 0]) (rest := []) (fun sz => by have q := met_m_run (l := l) (D := D) (h := h) (a := a) (ca := ca) (sz := sz) 0 0 0 hg hT; rw [hrc] at q; exact q) (cw_m_run F.2.2.2.2 ⟨by decide, by decide⟩) rfl rfl hl.1 (Nat.le_of_ble_eq_true rfl) dX1_stepOver_50 ⟨Nat.zero_le _, Nat.zero_le _⟩ (fun H locs I => ?_)
      exact m_ri F hr hlk I ⟨by rw [goOver, if_neg (fun q => c6 (by rw [if_pos q.1]; exact q.2.1))], by rw [goOver, if_neg (fun q => c6 (by rw [if_pos q.1]; exact q.2.1))]⟩ dX1_stepOver_53
    · exact absurd c25 (by decide)
  · refine lv_aload_n hx hb dX1_stepOver_9 rfl (lv_at hl 0 rfl) ?_
    refine m_g8 F I (v := sLv S) rfl dX1_stepOver_10 ?_
    refine lv_bipush (v := 6) hx hb dX1_stepOver_13 (by decide) ?_
    refine lv_icmp_ge (tgt := 22) hx hb dX1_stepOver_15 (by decide) (fun c15 => ?_) (fun c15 => ?_)
    · refine lv_iconst (v := 0) hx hb dX1_stepOver_22 (by decide) ?_
      refine lv_istore_n (lv' := [(1, .int 0), (0, .ref h)]) hx hb dX1_stepOver_23 rfl hl (by decide) rfl (fun ls hl => ?_)
      refine lv_iload_n hx hb dX1_stepOver_24 rfl (lv_at hl 0 rfl) ?_
      refine lv_if_eq (tgt := 46) hx hb dX1_stepOver_25 (by decide) (fun c25 => ?_) (fun c25 => ?_)
      · refine lv_aload_n hx hb dX1_stepOver_46 rfl (lv_at hl 1 rfl) ?_
        refine lv_iconst (v := 0) hx hb dX1_stepOver_47 (by decide) ?_
        refine lv_iconst (v := 0) hx hb dX1_stepOver_48 (by decide) ?_
        refine lv_iconst (v := 0) hx hb dX1_stepOver_49 (by decide) ?_
        have hrc : rcM 0 0 0 = (fun _ => true) := rcM_0 _ _
        refine m_cs F I (v := (runF (fun _ => true) S).1) (S1 := (runF (fun _ => true) S).2) (As := [.int 0, .int 0, .int 0]) (rest := []) (fun sz => by have q := met_m_run (l := l) (D := D) (h := h) (a := a) (ca := ca) (sz := sz) 0 0 0 hg hT; rw [hrc] at q; exact q) (cw_m_run F.2.2.2.2 ⟨by decide, by decide⟩) rfl rfl hl.1 (Nat.le_of_ble_eq_true rfl) dX1_stepOver_50 ⟨Nat.zero_le _, Nat.zero_le _⟩ (fun H locs I => ?_)
        exact m_ri F hr hlk I ⟨by rw [goOver, if_neg (fun q => q.2.2 c15)], by rw [goOver, if_neg (fun q => q.2.2 c15)]⟩ dX1_stepOver_53
      · exact absurd c25 (by decide)
    · refine lv_iconst (v := 1) hx hb dX1_stepOver_18 (by decide) ?_
      refine lv_goto (tgt := 23) hx hb dX1_stepOver_19 (by decide) ?_
      refine lv_istore_n (lv' := [(1, .int 1), (0, .ref h)]) hx hb dX1_stepOver_23 rfl hl (by decide) rfl (fun ls hl => ?_)
      refine lv_iload_n hx hb dX1_stepOver_24 rfl (lv_at hl 0 rfl) ?_
      refine lv_if_eq (tgt := 46) hx hb dX1_stepOver_25 (by decide) (fun c25 => ?_) (fun c25 => ?_)
      · exact absurd c25 (by decide)
      · refine lv_aload_n hx hb dX1_stepOver_28 rfl (lv_at hl 1 rfl) ?_
        refine lv_iconst (v := 3) hx hb dX1_stepOver_29 (by decide) ?_
        refine lv_aload_n hx hb dX1_stepOver_30 rfl (lv_at hl 1 rfl) ?_
        refine m_g9 F I (v := sAt S) rfl dX1_stepOver_31 ?_
        refine lv_iconst (v := 1) hx hb dX1_stepOver_34 (by decide) ?_
        refine lv_iadd hx hb dX1_stepOver_35 ?_
        refine lv_aload_n hx hb dX1_stepOver_36 rfl (lv_at hl 1 rfl) ?_
        refine m_g8 F I (v := sLv S) rfl dX1_stepOver_37 ?_
        have hrc : rcM 3 (sAt S + 1) (sLv S) = (fun T => decide (sAt T = sAt S + 1 ∧ sLv T = sLv S)) := rcM_3 _ _
        refine m_cs F I (v := (runF (fun T => decide (sAt T = sAt S + 1 ∧ sLv T = sLv S)) S).1) (S1 := (runF (fun T => decide (sAt T = sAt S + 1 ∧ sLv T = sLv S)) S).2) (As := [.int 3, .int ((sAt S) + 1), .int (sLv S)]) (rest := []) (fun sz => by have q := met_m_run (l := l) (D := D) (h := h) (a := a) (ca := ca) (sz := sz) 3 ((sAt S) + 1) (sLv S) hg hT; rw [hrc] at q; exact q) (cw_m_run F.2.2.2.2 ⟨by decide, by decide⟩) rfl rfl hl.1 (Nat.le_of_ble_eq_true rfl) dX1_stepOver_40 ⟨Nat.zero_le _, Nat.zero_le _⟩ (fun H locs I => ?_)
        refine lv_goto (tgt := 53) hx hb dX1_stepOver_43 (by decide) ?_
        exact m_ri F hr hlk I ⟨by rw [goOver, if_pos ⟨(here_7 c6).1, (here_7 c6).2, c15⟩], by rw [goOver, if_pos ⟨(here_7 c6).1, (here_7 c6).2, c15⟩]⟩ dX1_stepOver_53
end
section
/-! CONTRACTS of the constructors -/
set_option maxRecDepth 100000
def fz : Fn := fun _ => 0
def S00 : Sh := (fz, fz, fz, 0, fz, fz, fz, 0, 0, 0, 0, 0, 0)
def E00 : XE := (fz, 0, 0, 0, 0)
def xF0 : List Value := [.null, .null, .null, .null, .int 0, .int 0, .null, .null, .null, .int 0, .int 0, .int 0, .int 0, .int 0, .int 0, .int 0, .int 0, .int 0]
set_option maxHeartbeats 4000000 in
/-- StepDebugger(): all is zero; 7 arrays of 98 places come -/
theorem met_x_init {l : Launch} {D : va_G} {h : Nat} {sz : Nat} : Met l yX0_init (ws_ yX0_init cX0_init 1 none) ({ frames := 1, cells := 7, slots := 98, locals := 12 }) (va_Pc [.ref h] (fun U => U.heap.size = sz ∧ va_P D vwCl [(h, .inr (0, xF0))] U.heap ∧ va_K D vwCl [] U ∧ va_D (fun _ => True) [(h, .inr (0, xF0))])) (va_Qv (fun _ : (Nat → Nat) × (Nat → ClassId) => True) (fun u t => va_P D vwCl (xW h u.1 u.2 S00 E00) t.heap ∧ va_K D vwCl (xT u.2) t ∧ va_D (va_A [(h, .inr (0, xF0))] sz) (xW h u.1 u.2 S00 E00)) (va_A [(h, .inr (0, xF0))] sz)) 7 98 (va_A [(h, .inr (0, xF0))] sz) := by
  refine Met.ofW (cc := cX0_init) (maxL := 1) (ret := none) (by decide) rfl ?_
  intro p e s m args below meth c s₁ B hml hv
  obtain ⟨rfl, hsz, hP, hK, hD0⟩ := hv
  have hx := B.exec
  have hb := B.bytes
  have hr := B.returns
  have hts := atoms_spec (ws := ws_ yX0_init cX0_init 1 none) B.pre
  have hts : ∀ w ∈ lw_all, w.before _ s = true := fun w h => hts w (List.mem_cons_of_mem _ h)
  have hown : s.vm.findClass RX0 = some m.cls := findClass_of_methodNamed B.named
  have hlocks := B.notSynchronized
  have hin : meth.name = "<init>" := (name_of_methodNamed B.named B.method).1
  subst hsz
  have hD := hD0.self (sz := s.heap.size)
  generalize hAe : va_A [(h, .inr (0, xF0))] s.heap.size = A at hD ⊢
  have hA : ∀ q : Nat, s.heap.size ≤ q → A q := fun q h => by rw [← hAe]; exact Or.inr h
  have hS : va_S A s.heap s.heap [] := va_S.rf
  have hl := lv_entry ([.ref h]) (n := 1) (Nat.le_of_ble_eq_true rfl)
  rw [lg_entry_eq]
  generalize (lg_sl ([.ref h]) ++ List.replicate (1 - (lg_sl ([.ref h])).length) Slot.unset).toArray = ls at hl ⊢
  have hl : lv_has ls 1 [(0, .ref h)] := hl
  refine lv_aload_n hx hb dX0_init_0 rfl (lv_at hl 0 rfl) ?_
  refine W.objInit hx hb hown (hts _ q26) (hts _ q27) (hts _ q28) rfl (by rw [hml]; exact hl.1) rfl dX0_init_1 (Nat.le_of_ble_eq_true rfl) (Nat.le_of_ble_eq_true rfl) ?_
  refine W.eq (g2 := F0 m 4 ls []) rfl ?_
  refine lv_aload_n hx hb dX0_init_4 rfl (lv_at hl 0 rfl) ?_
  refine lv_bipush (v := 20) hx hb dX0_init_5 (by decide) ?_
  refine va_newa (atype := .byte) (ty := .byte) (a0 := (20, .inl fz)) (N' := 20) hx hb (hts _ q84) rfl hK hP hD hS hA (fun _ => rfl) (by decide) (by decide) (by decide) (Nat.le_of_ble_eq_true rfl) (Nat.le_of_ble_eq_true rfl) dX0_init_7 (fun b0 k0 H hK hP hD hS => ?_)
  refine W.widen (k := 1) (n := 20) (Nat.le_of_ble_eq_true rfl) (Nat.le_of_ble_eq_true rfl) ?_
  refine va_putF (D := D) (ci := 0) (v := .ref b0) (ty := .array .byte) (C := RX0) (T := TX0) (N := 18) hx hb hts in_X0 tyX0 tyX0_ok nmX0 hown hK hP hD hS 0 rfl rfl 0 (by decide) (hts _ q29) (fun _ h9 => h9) rfl hin rfl (by decide +kernel) rfl rfl (Nat.le_of_ble_eq_true rfl) dX0_init_9 (fun H locs hP hD hS => ?_)
  have hP : va_P D vwCl [(h, .inr (0, [.ref b0, .null, .null, .null, .int 0, .int 0, .null, .null, .null, .int 0, .int 0, .int 0, .int 0, .int 0, .int 0, .int 0, .int 0, .int 0])), (b0, .inl (k0, 20, .inl fz))] H := hP
  have hD : va_D A [(h, .inr (0, [.ref b0, .null, .null, .null, .int 0, .int 0, .null, .null, .null, .int 0, .int 0, .int 0, .int 0, .int 0, .int 0, .int 0, .int 0, .int 0])), (b0, .inl (k0, 20, .inl fz))] := hD
  have hK : va_K D vwCl [(k0, .byte)] s := hK
  refine lv_aload_n hx hb dX0_init_12 rfl (lv_at hl 0 rfl) ?_
  refine lv_bipush (v := 20) hx hb dX0_init_13 (by decide) ?_
  refine va_newa (atype := .byte) (ty := .byte) (a0 := (20, .inl fz)) (N' := 20) hx hb (hts _ q84) rfl hK hP hD hS hA (fun _ => rfl) (by decide) (by decide) (by decide) (Nat.le_of_ble_eq_true rfl) (Nat.le_of_ble_eq_true rfl) dX0_init_15 (fun b1 k1 H hK hP hD hS => ?_)
  refine W.widen (k := 2) (n := 40) (Nat.le_of_ble_eq_true rfl) (Nat.le_of_ble_eq_true rfl) ?_
  refine va_putF (D := D) (ci := 0) (v := .ref b1) (ty := .array .byte) (C := RX0) (T := TX0) (N := 18) hx hb hts in_X0 tyX0 tyX0_ok nmX0 hown hK hP hD hS 0 rfl rfl 1 (by decide) (hts _ q30) (fun _ h9 => h9) rfl hin rfl (by decide +kernel) rfl rfl (Nat.le_of_ble_eq_true rfl) dX0_init_17 (fun H locs hP hD hS => ?_)
  have hP : va_P D vwCl [(h, .inr (0, [.ref b0, .ref b1, .null, .null, .int 0, .int 0, .null, .null, .null, .int 0, .int 0, .int 0, .int 0, .int 0, .int 0, .int 0, .int 0, .int 0])), (b0, .inl (k0, 20, .inl fz)), (b1, .inl (k1, 20, .inl fz))] H := hP
  have hD : va_D A [(h, .inr (0, [.ref b0, .ref b1, .null, .null, .int 0, .int 0, .null, .null, .null, .int 0, .int 0, .int 0, .int 0, .int 0, .int 0, .int 0, .int 0, .int 0])), (b0, .inl (k0, 20, .inl fz)), (b1, .inl (k1, 20, .inl fz))] := hD
  have hK : va_K D vwCl [(k0, .byte), (k1, .byte)] s := hK
  refine lv_aload_n hx hb dX0_init_20 rfl (lv_at hl 0 rfl) ?_
  refine lv_bipush (v := 20) hx hb dX0_init_21 (by decide) ?_
  refine va_newa (atype := .int) (ty := .int) (a0 := (20, .inl fz)) (N' := 20) hx hb (hts _ q85) rfl hK hP hD hS hA (fun _ => rfl) (by decide) (by decide) (by decide) (Nat.le_of_ble_eq_true rfl) (Nat.le_of_ble_eq_true rfl) dX0_init_23 (fun b2 k2 H hK hP hD hS => ?_)
  refine W.widen (k := 3) (n := 60) (Nat.le_of_ble_eq_true rfl) (Nat.le_of_ble_eq_true rfl) ?_
  refine va_putF (D := D) (ci := 0) (v := .ref b2) (ty := .array .int) (C := RX0) (T := TX0) (N := 18) hx hb hts in_X0 tyX0 tyX0_ok nmX0 hown hK hP hD hS 0 rfl rfl 2 (by decide) (hts _ q31) (fun _ h9 => h9) rfl hin rfl (by decide +kernel) rfl rfl (Nat.le_of_ble_eq_true rfl) dX0_init_25 (fun H locs hP hD hS => ?_)
  have hP : va_P D vwCl [(h, .inr (0, [.ref b0, .ref b1, .ref b2, .null, .int 0, .int 0, .null, .null, .null, .int 0, .int 0, .int 0, .int 0, .int 0, .int 0, .int 0, .int 0, .int 0])), (b0, .inl (k0, 20, .inl fz)), (b1, .inl (k1, 20, .inl fz)), (b2, .inl (k2, 20, .inl fz))] H := hP
  have hD : va_D A [(h, .inr (0, [.ref b0, .ref b1, .ref b2, .null, .int 0, .int 0, .null, .null, .null, .int 0, .int 0, .int 0, .int 0, .int 0, .int 0, .int 0, .int 0, .int 0])), (b0, .inl (k0, 20, .inl fz)), (b1, .inl (k1, 20, .inl fz)), (b2, .inl (k2, 20, .inl fz))] := hD
  have hK : va_K D vwCl [(k0, .byte), (k1, .byte), (k2, .int)] s := hK
  refine lv_aload_n hx hb dX0_init_28 rfl (lv_at hl 0 rfl) ?_
  refine lv_bipush (v := 20) hx hb dX0_init_29 (by decide) ?_
  refine va_newa (atype := .byte) (ty := .byte) (a0 := (20, .inl fz)) (N' := 20) hx hb (hts _ q84) rfl hK hP hD hS hA (fun _ => rfl) (by decide) (by decide) (by decide) (Nat.le_of_ble_eq_true rfl) (Nat.le_of_ble_eq_true rfl) dX0_init_31 (fun b3 k3 H hK hP hD hS => ?_)
  refine W.widen (k := 4) (n := 80) (Nat.le_of_ble_eq_true rfl) (Nat.le_of_ble_eq_true rfl) ?_
  refine va_putF (D := D) (ci := 0) (v := .ref b3) (ty := .array .byte) (C := RX0) (T := TX0) (N := 18) hx hb hts in_X0 tyX0 tyX0_ok nmX0 hown hK hP hD hS 0 rfl rfl 3 (by decide) (hts _ q32) (fun _ h9 => h9) rfl hin rfl (by decide +kernel) rfl rfl (Nat.le_of_ble_eq_true rfl) dX0_init_33 (fun H locs hP hD hS => ?_)
  have hP : va_P D vwCl [(h, .inr (0, [.ref b0, .ref b1, .ref b2, .ref b3, .int 0, .int 0, .null, .null, .null, .int 0, .int 0, .int 0, .int 0, .int 0, .int 0, .int 0, .int 0, .int 0])), (b0, .inl (k0, 20, .inl fz)), (b1, .inl (k1, 20, .inl fz)), (b2, .inl (k2, 20, .inl fz)), (b3, .inl (k3, 20, .inl fz))] H := hP
  have hD : va_D A [(h, .inr (0, [.ref b0, .ref b1, .ref b2, .ref b3, .int 0, .int 0, .null, .null, .null, .int 0, .int 0, .int 0, .int 0, .int 0, .int 0, .int 0, .int 0, .int 0])), (b0, .inl (k0, 20, .inl fz)), (b1, .inl (k1, 20, .inl fz)), (b2, .inl (k2, 20, .inl fz)), (b3, .inl (k3, 20, .inl fz))] := hD
  have hK : va_K D vwCl [(k0, .byte), (k1, .byte), (k2, .int), (k3, .byte)] s := hK
  refine lv_aload_n hx hb dX0_init_36 rfl (lv_at hl 0 rfl) ?_
  refine lv_iconst (v := 4) hx hb dX0_init_37 (by decide) ?_
  refine va_newa (atype := .int) (ty := .int) (a0 := (4, .inl fz)) (N' := 4) hx hb (hts _ q85) rfl hK hP hD hS hA (fun _ => rfl) (by decide) (by decide) (by decide) (Nat.le_of_ble_eq_true rfl) (Nat.le_of_ble_eq_true rfl) dX0_init_38 (fun b6 k6 H hK hP hD hS => ?_)
  refine W.widen (k := 5) (n := 84) (Nat.le_of_ble_eq_true rfl) (Nat.le_of_ble_eq_true rfl) ?_
  refine va_putF (D := D) (ci := 0) (v := .ref b6) (ty := .array .int) (C := RX0) (T := TX0) (N := 18) hx hb hts in_X0 tyX0 tyX0_ok nmX0 hown hK hP hD hS 0 rfl rfl 6 (by decide) (hts _ q35) (fun _ h9 => h9) rfl hin rfl (by decide +kernel) rfl rfl (Nat.le_of_ble_eq_true rfl) dX0_init_40 (fun H locs hP hD hS => ?_)
  have hP : va_P D vwCl [(h, .inr (0, [.ref b0, .ref b1, .ref b2, .ref b3, .int 0, .int 0, .ref b6, .null, .null, .int 0, .int 0, .int 0, .int 0, .int 0, .int 0, .int 0, .int 0, .int 0])), (b0, .inl (k0, 20, .inl fz)), (b1, .inl (k1, 20, .inl fz)), (b2, .inl (k2, 20, .inl fz)), (b3, .inl (k3, 20, .inl fz)), (b6, .inl (k6, 4, .inl fz))] H := hP
  have hD : va_D A [(h, .inr (0, [.ref b0, .ref b1, .ref b2, .ref b3, .int 0, .int 0, .ref b6, .null, .null, .int 0, .int 0, .int 0, .int 0, .int 0, .int 0, .int 0, .int 0, .int 0])), (b0, .inl (k0, 20, .inl fz)), (b1, .inl (k1, 20, .inl fz)), (b2, .inl (k2, 20, .inl fz)), (b3, .inl (k3, 20, .inl fz)), (b6, .inl (k6, 4, .inl fz))] := hD
  have hK : va_K D vwCl [(k0, .byte), (k1, .byte), (k2, .int), (k3, .byte), (k6, .int)] s := hK
  refine lv_aload_n hx hb dX0_init_43 rfl (lv_at hl 0 rfl) ?_
  refine lv_bipush (v := 8) hx hb dX0_init_44 (by decide) ?_
  refine va_newa (atype := .int) (ty := .int) (a0 := (8, .inl fz)) (N' := 8) hx hb (hts _ q85) rfl hK hP hD hS hA (fun _ => rfl) (by decide) (by decide) (by decide) (Nat.le_of_ble_eq_true rfl) (Nat.le_of_ble_eq_true rfl) dX0_init_46 (fun b7 k7 H hK hP hD hS => ?_)
  refine W.widen (k := 6) (n := 92) (Nat.le_of_ble_eq_true rfl) (Nat.le_of_ble_eq_true rfl) ?_
  refine va_putF (D := D) (ci := 0) (v := .ref b7) (ty := .array .int) (C := RX0) (T := TX0) (N := 18) hx hb hts in_X0 tyX0 tyX0_ok nmX0 hown hK hP hD hS 0 rfl rfl 7 (by decide) (hts _ q36) (fun _ h9 => h9) rfl hin rfl (by decide +kernel) rfl rfl (Nat.le_of_ble_eq_true rfl) dX0_init_48 (fun H locs hP hD hS => ?_)
  have hP : va_P D vwCl [(h, .inr (0, [.ref b0, .ref b1, .ref b2, .ref b3, .int 0, .int 0, .ref b6, .ref b7, .null, .int 0, .int 0, .int 0, .int 0, .int 0, .int 0, .int 0, .int 0, .int 0])), (b0, .inl (k0, 20, .inl fz)), (b1, .inl (k1, 20, .inl fz)), (b2, .inl (k2, 20, .inl fz)), (b3, .inl (k3, 20, .inl fz)), (b6, .inl (k6, 4, .inl fz)), (b7, .inl (k7, 8, .inl fz))] H := hP
  have hD : va_D A [(h, .inr (0, [.ref b0, .ref b1, .ref b2, .ref b3, .int 0, .int 0, .ref b6, .ref b7, .null, .int 0, .int 0, .int 0, .int 0, .int 0, .int 0, .int 0, .int 0, .int 0])), (b0, .inl (k0, 20, .inl fz)), (b1, .inl (k1, 20, .inl fz)), (b2, .inl (k2, 20, .inl fz)), (b3, .inl (k3, 20, .inl fz)), (b6, .inl (k6, 4, .inl fz)), (b7, .inl (k7, 8, .inl fz))] := hD
  have hK : va_K D vwCl [(k0, .byte), (k1, .byte), (k2, .int), (k3, .byte), (k6, .int), (k7, .int)] s := hK
  refine lv_aload_n hx hb dX0_init_51 rfl (lv_at hl 0 rfl) ?_
  refine lv_bipush (v := 6) hx hb dX0_init_52 (by decide) ?_
  refine va_newa (atype := .int) (ty := .int) (a0 := (6, .inl fz)) (N' := 6) hx hb (hts _ q85) rfl hK hP hD hS hA (fun _ => rfl) (by decide) (by decide) (by decide) (Nat.le_of_ble_eq_true rfl) (Nat.le_of_ble_eq_true rfl) dX0_init_54 (fun b8 k8 H hK hP hD hS => ?_)
  refine W.widen (k := 7) (n := 98) (Nat.le_of_ble_eq_true rfl) (Nat.le_of_ble_eq_true rfl) ?_
  refine va_putF (D := D) (ci := 0) (v := .ref b8) (ty := .array .int) (C := RX0) (T := TX0) (N := 18) hx hb hts in_X0 tyX0 tyX0_ok nmX0 hown hK hP hD hS 0 rfl rfl 8 (by decide) (hts _ q37) (fun _ h9 => h9) rfl hin rfl (by decide +kernel) rfl rfl (Nat.le_of_ble_eq_true rfl) dX0_init_56 (fun H locs hP hD hS => ?_)
  have hP : va_P D vwCl [(h, .inr (0, [.ref b0, .ref b1, .ref b2, .ref b3, .int 0, .int 0, .ref b6, .ref b7, .ref b8, .int 0, .int 0, .int 0, .int 0, .int 0, .int 0, .int 0, .int 0, .int 0])), (b0, .inl (k0, 20, .inl fz)), (b1, .inl (k1, 20, .inl fz)), (b2, .inl (k2, 20, .inl fz)), (b3, .inl (k3, 20, .inl fz)), (b6, .inl (k6, 4, .inl fz)), (b7, .inl (k7, 8, .inl fz)), (b8, .inl (k8, 6, .inl fz))] H := hP
  have hD : va_D A [(h, .inr (0, [.ref b0, .ref b1, .ref b2, .ref b3, .int 0, .int 0, .ref b6, .ref b7, .ref b8, .int 0, .int 0, .int 0, .int 0, .int 0, .int 0, .int 0, .int 0, .int 0])), (b0, .inl (k0, 20, .inl fz)), (b1, .inl (k1, 20, .inl fz)), (b2, .inl (k2, 20, .inl fz)), (b3, .inl (k3, 20, .inl fz)), (b6, .inl (k6, 4, .inl fz)), (b7, .inl (k7, 8, .inl fz)), (b8, .inl (k8, 6, .inl fz))] := hD
  have hK : va_K D vwCl [(k0, .byte), (k1, .byte), (k2, .int), (k3, .byte), (k6, .int), (k7, .int), (k8, .int)] s := hK
  exact W.vret hx hb hr (fun t ht hW => ⟨⟨(fun k => if k = 0 then b0 else if k = 1 then b1 else if k = 2 then b2 else if k = 3 then b3 else if k = 6 then b6 else if k = 7 then b7 else b8, fun k => if k = 0 then k0 else if k = 1 then k1 else if k = 2 then k2 else if k = 3 then k3 else if k = 6 then k6 else if k = 7 then k7 else k8), rfl, trivial, by rw [ht]; exact hP, va_K.moved hW.alike hK, hD⟩, hS.F ht⟩) hS.2.2 dX0_init_59
def mF0 : List Value := [.int 0, .null, .null, .null, .int 0, .null, .null, .null, .int 0, .int 0, .int 0, .int 0, .int 0]
set_option maxHeartbeats 4000000 in
/-- StepDebuggerModel(): all is zero; 6 arrays of 78 places come -/
theorem met_m_init {l : Launch} {D : va_G} {h : Nat} {sz : Nat} : Met l yX1_init (ws_ yX1_init cX1_init 1 none) ({ frames := 1, cells := 6, slots := 78, locals := 12 }) (va_Pc [.ref h] (fun U => U.heap.size = sz ∧ va_P D vwCl [(h, .inr (1, mF0))] U.heap ∧ va_K D vwCl [] U ∧ va_D (fun _ => True) [(h, .inr (1, mF0))])) (va_Qv (fun _ : (Nat → Nat) × (Nat → ClassId) => True) (fun u t => va_P D vwCl (mW h u.1 u.2 S00) t.heap ∧ va_K D vwCl (mT u.2) t ∧ va_D (va_A [(h, .inr (1, mF0))] sz) (mW h u.1 u.2 S00)) (va_A [(h, .inr (1, mF0))] sz)) 6 78 (va_A [(h, .inr (1, mF0))] sz) := by
  refine Met.ofW (cc := cX1_init) (maxL := 1) (ret := none) (by decide) rfl ?_
  intro p e s m args below meth c s₁ B hml hv
  obtain ⟨rfl, hsz, hP, hK, hD0⟩ := hv
  have hx := B.exec
  have hb := B.bytes
  have hr := B.returns
  have hts := atoms_spec (ws := ws_ yX1_init cX1_init 1 none) B.pre
  have hts : ∀ w ∈ lw_all, w.before _ s = true := fun w h => hts w (List.mem_cons_of_mem _ h)
  have hown : s.vm.findClass RX1 = some m.cls := findClass_of_methodNamed B.named
  have hlocks := B.notSynchronized
  have hin : meth.name = "<init>" := (name_of_methodNamed B.named B.method).1
  subst hsz
  have hD := hD0.self (sz := s.heap.size)
  generalize hAe : va_A [(h, .inr (1, mF0))] s.heap.size = A at hD ⊢
  have hA : ∀ q : Nat, s.heap.size ≤ q → A q := fun q h => by rw [← hAe]; exact Or.inr h
  have hS : va_S A s.heap s.heap [] := va_S.rf
  have hl := lv_entry ([.ref h]) (n := 1) (Nat.le_of_ble_eq_true rfl)
  rw [lg_entry_eq]
  generalize (lg_sl ([.ref h]) ++ List.replicate (1 - (lg_sl ([.ref h])).length) Slot.unset).toArray = ls at hl ⊢
  have hl : lv_has ls 1 [(0, .ref h)] := hl
  refine lv_aload_n hx hb dX1_init_0 rfl (lv_at hl 0 rfl) ?_
  refine W.objInit hx hb hown (hts _ q207) (hts _ q27) (hts _ q28) rfl (by rw [hml]; exact hl.1) rfl dX1_init_1 (Nat.le_of_ble_eq_true rfl) (Nat.le_of_ble_eq_true rfl) ?_
  refine W.eq (g2 := F0 m 4 ls []) rfl ?_
  refine lv_aload_n hx hb dX1_init_4 rfl (lv_at hl 0 rfl) ?_
  refine lv_bipush (v := 20) hx hb dX1_init_5 (by decide) ?_
  refine va_newa (atype := .int) (ty := .int) (a0 := (20, .inl fz)) (N' := 20) hx hb (hts _ q85) rfl hK hP hD hS hA (fun _ => rfl) (by decide) (by decide) (by decide) (Nat.le_of_ble_eq_true rfl) (Nat.le_of_ble_eq_true rfl) dX1_init_7 (fun b1 k1 H hK hP hD hS => ?_)
  refine W.widen (k := 1) (n := 20) (Nat.le_of_ble_eq_true rfl) (Nat.le_of_ble_eq_true rfl) ?_
  refine va_put (D := D) (ci := 1) (v := .ref b1) (ty := .array .int) (C := RX1) (T := TX1) (N := 13) hx hb hts in_X1 tyX1 tyX1_ok nmX1 hown hK hP hD hS 0 rfl rfl 1 (by decide) (hts _ q209) (fun _ h9 => h9) rfl (by decide +kernel) rfl rfl (Nat.le_of_ble_eq_true rfl) dX1_init_9 (fun H locs hP hD hS => ?_)
  have hP : va_P D vwCl [(h, .inr (1, [.int 0, .ref b1, .null, .null, .int 0, .null, .null, .null, .int 0, .int 0, .int 0, .int 0, .int 0])), (b1, .inl (k1, 20, .inl fz))] H := hP
  have hD : va_D A [(h, .inr (1, [.int 0, .ref b1, .null, .null, .int 0, .null, .null, .null, .int 0, .int 0, .int 0, .int 0, .int 0])), (b1, .inl (k1, 20, .inl fz))] := hD
  have hK : va_K D vwCl [(k1, .int)] s := hK
  refine lv_aload_n hx hb dX1_init_12 rfl (lv_at hl 0 rfl) ?_
  refine lv_bipush (v := 20) hx hb dX1_init_13 (by decide) ?_
  refine va_newa (atype := .int) (ty := .int) (a0 := (20, .inl fz)) (N' := 20) hx hb (hts _ q85) rfl hK hP hD hS hA (fun _ => rfl) (by decide) (by decide) (by decide) (Nat.le_of_ble_eq_true rfl) (Nat.le_of_ble_eq_true rfl) dX1_init_15 (fun b2 k2 H hK hP hD hS => ?_)
  refine W.widen (k := 2) (n := 40) (Nat.le_of_ble_eq_true rfl) (Nat.le_of_ble_eq_true rfl) ?_
  refine va_put (D := D) (ci := 1) (v := .ref b2) (ty := .array .int) (C := RX1) (T := TX1) (N := 13) hx hb hts in_X1 tyX1 tyX1_ok nmX1 hown hK hP hD hS 0 rfl rfl 2 (by decide) (hts _ q210) (fun _ h9 => h9) rfl (by decide +kernel) rfl rfl (Nat.le_of_ble_eq_true rfl) dX1_init_17 (fun H locs hP hD hS => ?_)
  have hP : va_P D vwCl [(h, .inr (1, [.int 0, .ref b1, .ref b2, .null, .int 0, .null, .null, .null, .int 0, .int 0, .int 0, .int 0, .int 0])), (b1, .inl (k1, 20, .inl fz)), (b2, .inl (k2, 20, .inl fz))] H := hP
  have hD : va_D A [(h, .inr (1, [.int 0, .ref b1, .ref b2, .null, .int 0, .null, .null, .null, .int 0, .int 0, .int 0, .int 0, .int 0])), (b1, .inl (k1, 20, .inl fz)), (b2, .inl (k2, 20, .inl fz))] := hD
  have hK : va_K D vwCl [(k1, .int), (k2, .int)] s := hK
  refine lv_aload_n hx hb dX1_init_20 rfl (lv_at hl 0 rfl) ?_
  refine lv_bipush (v := 20) hx hb dX1_init_21 (by decide) ?_
  refine va_newa (atype := .int) (ty := .int) (a0 := (20, .inl fz)) (N' := 20) hx hb (hts _ q85) rfl hK hP hD hS hA (fun _ => rfl) (by decide) (by decide) (by decide) (Nat.le_of_ble_eq_true rfl) (Nat.le_of_ble_eq_true rfl) dX1_init_23 (fun b3 k3 H hK hP hD hS => ?_)
  refine W.widen (k := 3) (n := 60) (Nat.le_of_ble_eq_true rfl) (Nat.le_of_ble_eq_true rfl) ?_
  refine va_put (D := D) (ci := 1) (v := .ref b3) (ty := .array .int) (C := RX1) (T := TX1) (N := 13) hx hb hts in_X1 tyX1 tyX1_ok nmX1 hown hK hP hD hS 0 rfl rfl 3 (by decide) (hts _ q211) (fun _ h9 => h9) rfl (by decide +kernel) rfl rfl (Nat.le_of_ble_eq_true rfl) dX1_init_25 (fun H locs hP hD hS => ?_)
  have hP : va_P D vwCl [(h, .inr (1, [.int 0, .ref b1, .ref b2, .ref b3, .int 0, .null, .null, .null, .int 0, .int 0, .int 0, .int 0, .int 0])), (b1, .inl (k1, 20, .inl fz)), (b2, .inl (k2, 20, .inl fz)), (b3, .inl (k3, 20, .inl fz))] H := hP
  have hD : va_D A [(h, .inr (1, [.int 0, .ref b1, .ref b2, .ref b3, .int 0, .null, .null, .null, .int 0, .int 0, .int 0, .int 0, .int 0])), (b1, .inl (k1, 20, .inl fz)), (b2, .inl (k2, 20, .inl fz)), (b3, .inl (k3, 20, .inl fz))] := hD
  have hK : va_K D vwCl [(k1, .int), (k2, .int), (k3, .int)] s := hK
  refine lv_aload_n hx hb dX1_init_28 rfl (lv_at hl 0 rfl) ?_
  refine lv_iconst (v := 4) hx hb dX1_init_29 (by decide) ?_
  refine va_newa (atype := .int) (ty := .int) (a0 := (4, .inl fz)) (N' := 4) hx hb (hts _ q85) rfl hK hP hD hS hA (fun _ => rfl) (by decide) (by decide) (by decide) (Nat.le_of_ble_eq_true rfl) (Nat.le_of_ble_eq_true rfl) dX1_init_30 (fun b5 k5 H hK hP hD hS => ?_)
  refine W.widen (k := 4) (n := 64) (Nat.le_of_ble_eq_true rfl) (Nat.le_of_ble_eq_true rfl) ?_
  refine va_put (D := D) (ci := 1) (v := .ref b5) (ty := .array .int) (C := RX1) (T := TX1) (N := 13) hx hb hts in_X1 tyX1 tyX1_ok nmX1 hown hK hP hD hS 0 rfl rfl 5 (by decide) (hts _ q213) (fun _ h9 => h9) rfl (by decide +kernel) rfl rfl (Nat.le_of_ble_eq_true rfl) dX1_init_32 (fun H locs hP hD hS => ?_)
  have hP : va_P D vwCl [(h, .inr (1, [.int 0, .ref b1, .ref b2, .ref b3, .int 0, .ref b5, .null, .null, .int 0, .int 0, .int 0, .int 0, .int 0])), (b1, .inl (k1, 20, .inl fz)), (b2, .inl (k2, 20, .inl fz)), (b3, .inl (k3, 20, .inl fz)), (b5, .inl (k5, 4, .inl fz))] H := hP
  have hD : va_D A [(h, .inr (1, [.int 0, .ref b1, .ref b2, .ref b3, .int 0, .ref b5, .null, .null, .int 0, .int 0, .int 0, .int 0, .int 0])), (b1, .inl (k1, 20, .inl fz)), (b2, .inl (k2, 20, .inl fz)), (b3, .inl (k3, 20, .inl fz)), (b5, .inl (k5, 4, .inl fz))] := hD
  have hK : va_K D vwCl [(k1, .int), (k2, .int), (k3, .int), (k5, .int)] s := hK
  refine lv_aload_n hx hb dX1_init_35 rfl (lv_at hl 0 rfl) ?_
  refine lv_bipush (v := 8) hx hb dX1_init_36 (by decide) ?_
  refine va_newa (atype := .int) (ty := .int) (a0 := (8, .inl fz)) (N' := 8) hx hb (hts _ q85) rfl hK hP hD hS hA (fun _ => rfl) (by decide) (by decide) (by decide) (Nat.le_of_ble_eq_true rfl) (Nat.le_of_ble_eq_true rfl) dX1_init_38 (fun b6 k6 H hK hP hD hS => ?_)
  refine W.widen (k := 5) (n := 72) (Nat.le_of_ble_eq_true rfl) (Nat.le_of_ble_eq_true rfl) ?_
  refine va_put (D := D) (ci := 1) (v := .ref b6) (ty := .array .int) (C := RX1) (T := TX1) (N := 13) hx hb hts in_X1 tyX1 tyX1_ok nmX1 hown hK hP hD hS 0 rfl rfl 6 (by decide) (hts _ q214) (fun _ h9 => h9) rfl (by decide +kernel) rfl rfl (Nat.le_of_ble_eq_true rfl) dX1_init_40 (fun H locs hP hD hS => ?_)
  have hP : va_P D vwCl [(h, .inr (1, [.int 0, .ref b1, .ref b2, .ref b3, .int 0, .ref b5, .ref b6, .null, .int 0, .int 0, .int 0, .int 0, .int 0])), (b1, .inl (k1, 20, .inl fz)), (b2, .inl (k2, 20, .inl fz)), (b3, .inl (k3, 20, .inl fz)), (b5, .inl (k5, 4, .inl fz)), (b6, .inl (k6, 8, .inl fz))] H := hP
  have hD : va_D A [(h, .inr (1, [.int 0, .ref b1, .ref b2, .ref b3, .int 0, .ref b5, .ref b6, .null, .int 0, .int 0, .int 0, .int 0, .int 0])), (b1, .inl (k1, 20, .inl fz)), (b2, .inl (k2, 20, .inl fz)), (b3, .inl (k3, 20, .inl fz)), (b5, .inl (k5, 4, .inl fz)), (b6, .inl (k6, 8, .inl fz))] := hD
  have hK : va_K D vwCl [(k1, .int), (k2, .int), (k3, .int), (k5, .int), (k6, .int)] s := hK
  refine lv_aload_n hx hb dX1_init_43 rfl (lv_at hl 0 rfl) ?_
  refine lv_bipush (v := 6) hx hb dX1_init_44 (by decide) ?_
  refine va_newa (atype := .int) (ty := .int) (a0 := (6, .inl fz)) (N' := 6) hx hb (hts _ q85) rfl hK hP hD hS hA (fun _ => rfl) (by decide) (by decide) (by decide) (Nat.le_of_ble_eq_true rfl) (Nat.le_of_ble_eq_true rfl) dX1_init_46 (fun b7 k7 H hK hP hD hS => ?_)
  refine W.widen (k := 6) (n := 78) (Nat.le_of_ble_eq_true rfl) (Nat.le_of_ble_eq_true rfl) ?_
  refine va_put (D := D) (ci := 1) (v := .ref b7) (ty := .array .int) (C := RX1) (T := TX1) (N := 13) hx hb hts in_X1 tyX1 tyX1_ok nmX1 hown hK hP hD hS 0 rfl rfl 7 (by decide) (hts _ q215) (fun _ h9 => h9) rfl (by decide +kernel) rfl rfl (Nat.le_of_ble_eq_true rfl) dX1_init_48 (fun H locs hP hD hS => ?_)
  have hP : va_P D vwCl [(h, .inr (1, [.int 0, .ref b1, .ref b2, .ref b3, .int 0, .ref b5, .ref b6, .ref b7, .int 0, .int 0, .int 0, .int 0, .int 0])), (b1, .inl (k1, 20, .inl fz)), (b2, .inl (k2, 20, .inl fz)), (b3, .inl (k3, 20, .inl fz)), (b5, .inl (k5, 4, .inl fz)), (b6, .inl (k6, 8, .inl fz)), (b7, .inl (k7, 6, .inl fz))] H := hP
  have hD : va_D A [(h, .inr (1, [.int 0, .ref b1, .ref b2, .ref b3, .int 0, .ref b5, .ref b6, .ref b7, .int 0, .int 0, .int 0, .int 0, .int 0])), (b1, .inl (k1, 20, .inl fz)), (b2, .inl (k2, 20, .inl fz)), (b3, .inl (k3, 20, .inl fz)), (b5, .inl (k5, 4, .inl fz)), (b6, .inl (k6, 8, .inl fz)), (b7, .inl (k7, 6, .inl fz))] := hD
  have hK : va_K D vwCl [(k1, .int), (k2, .int), (k3, .int), (k5, .int), (k6, .int), (k7, .int)] s := hK
  exact W.vret hx hb hr (fun t ht hW => ⟨⟨(fun k => if k = 1 then b1 else if k = 2 then b2 else if k = 3 then b3 else if k = 5 then b5 else if k = 6 then b6 else b7, fun k => if k = 1 then k1 else if k = 2 then k2 else if k = 3 then k3 else if k = 5 then k5 else if k = 6 then k6 else k7), rfl, trivial, by rw [ht]; exact hP, va_K.moved hW.alike hK, hD⟩, hS.F ht⟩) hS.2.2 dX1_init_51
end
section
/-! THE CLAIM OUT OF ONE WALK OF THE LAW'S BODY. Your part is whole_start (and what it stands on); all else here is the same for every law, but numbers. -/
def R_law : String := "StepDebuggerLaw"
def lw_P (b : Addr) (xs : List Int32) (args : Array Value) (s : State) : Prop := args = #[.ref b] ∧ s.IntsAt b xs ∧ xs.length ≤ 256 ∧ (Jvm.Cond.and given_1 narrow_1).before args s = true
def lw_Q (_ : Array Value) (s : State) (o : Outcome) (t : State) : Prop := o = .returned (some (.int 1)) ∧ Framed s o t [] 600000 7290000
def lw_Z (below : List Frame) (a : Array Value) (s : State) : State → Prop := fun t => ∃ o, t.status = .running ∧ Ended t below o ∧ lw_Q a s o t
/-- the law's own end, with 1 on the stack, nothing written that was there before, its room as the claim has it -/
theorem lw_ret {p : Program} {l : Launch} {e : Env} {s : State} {m : MethodId} {below : List Frame} {meth : Method} {c : Code} {b : Nat} (hx : p.tables.exec = Jvm.exec) (hb : c.code = code) (hr : meth.sig.returnType = ret) (hlocks : meth.locks = false) {pc : Nat} {H : Heap} {ls : Array Slot} (hdg : decode code pc = .ok (.ireturn, 1)) : W p l e room_1 s m #[Value.ref b] below meth c H [] 600000 7290000 (lw_Z below #[Value.ref b] s) (F0 m pc ls [.int 1]) := by
  intro T hT X
  obtain ⟨fs, hret, hrun, hended, hW, hframe⟩ := X.leave (v := some (.int 1)) (hlocks := hlocks) (fun h => by rw [hr] at h; cases h)
  have hmeth' : T.vm.method? m = some meth := X.method'
  refine ⟨T.setFrames fs, ?_, .returned (some (.int 1)), hrun, hended, rfl, ⟨_, rfl⟩, hW, hframe⟩
  jvm_step X.here [X.here.top, hx, hb, hdg, hmeth', hr, ret, narrow_b1]
  (try refine ⟨rfl, ?_⟩); (try refine ⟨rfl, ?_⟩)
  first | (intro acts; rw [hret _ acts rfl rfl rfl]) | rw [hret _ _ rfl rfl rfl]
  exact Steps.refl _
/-- what holds at the law's entry: the machine, the code, the tables' words (any of lw_tbl by 'hts w (by decide +kernel)'), the script of L ints xs at the cell b, what the Statement gives of the start (any of its parts by flat_of_before) -/
def lw_At (p : Program) (s : State) (m : MethodId) (meth : Method) (c : Code) (b L : Nat) (xs : Nat → Int32) : Prop :=
  p.tables.exec = Jvm.exec ∧ c.code = code ∧ meth.sig.returnType = ret ∧ c.maxLocals = 4 ∧ s.vm.findClass R_law = some m.cls ∧ (∀ w ∈ lw_tbl, w.before #[Value.ref b] s = true) ∧ va_X b L xs s s.heap ∧ b < s.heap.size ∧ meth.locks = false ∧ (Jvm.Cond.and given_1 narrow_1).before #[Value.ref b] s = true
end
section
/-! PURE: every command keeps what holds between two commands -/
theorem gd_goF (rc : Sh → Bool) : ∀ (n d : Nat) (S : Sh), gd S → gd (goF rc n d S).2 := by
  intro n
  induction n with
  | zero => intro d S h; exact h
  | succ n ih =>
    intro d S h
    rw [goF]
    by_cases hl : look S (rc S) d = 0
    · rw [if_pos hl]; exact ih (d + 1) (stp S) (gd_stp h (look_0 hl).1)
    · rw [if_neg hl]; exact h
theorem noT_goF (rc : Sh → Bool) : ∀ (n d : Nat) (S : Sh), noT S → noT (goF rc n d S).2 := by
  intro n
  induction n with
  | zero => intro d S h; exact h
  | succ n ih =>
    intro d S h
    rw [goF]
    by_cases hl : look S (rc S) d = 0
    · rw [if_pos hl]; exact ih (d + 1) (stp S) (noT_stp h)
    · rw [if_neg hl]; exact h
theorem gd_zWy {S : Sh} {w : Int32} (h : gd S) : gd (zWy S w) := h
theorem noT_zWy {S : Sh} {w : Int32} (h : noT S) : noT (zWy S w) := h
theorem gd_run {rc : Sh → Bool} {S : Sh} (h : gd S) : gd (runF rc S).2 := by
  by_cases hw : sWy S < 4
  · rw [run_g hw rfl]; exact gd_zWy (gd_goF rc 151 0 S h)
  · rw [run_w hw]; exact h
theorem noT_run {rc : Sh → Bool} {S : Sh} (h : noT S) : noT (runF rc S).2 := by
  by_cases hw : sWy S < 4
  · rw [run_g hw rfl]; exact noT_zWy (noT_goF rc 151 0 S h)
  · rw [run_w hw]; exact h
theorem gd_over {S : Sh} (h : gd S) : gd (goOver S).2 := by
  unfold goOver
  split
  · exact gd_run h
  · exact gd_run h
theorem noT_over {S : Sh} (h : noT S) : noT (goOver S).2 := by
  unfold goOver
  split
  · exact noT_run h
  · exact noT_run h
theorem gd_rs {S : Sh} (h : gd S) : gd (rsS S) := ⟨h.1, h.2.1, (by decide : ¬ (0 : Int32) < 0), (by decide : ¬ (6 : Int32) < 0), Or.inl rfl⟩
theorem noT_rs {S : Sh} (h : noT S) : noT (rsS S) := h
theorem gd_bk {S : Sh} {q on : Int32} (h : gd S) : gd (bkS S q on) := by
  unfold bkS
  split
  · exact h
  · exact h
theorem noT_bk {S : Sh} {q on : Int32} (h : noT S) : noT (bkS S q on) := by
  unfold bkS
  split
  · exact h
  · exact h
theorem gd_em {S : Sh} {op a b : Int32} (h : gd S) : gd (emS S op a b) := by
  unfold emS
  by_cases h1 : ¬ sSz S < 20
  · rw [if_pos h1]; exact h
  rw [if_neg h1]
  by_cases h2 : op < 0 ∨ ¬ op ≤ 10
  · rw [if_pos h2]; exact h
  rw [if_neg h2]
  by_cases h3 : a < 0 ∨ 3 < a ∨ (¬ op < 1 ∧ ¬ 4 < op ∧ (b < 0 ∨ ¬ b ≤ 3))
  · rw [if_pos h3]; exact h
  rw [if_neg h3]
  obtain ⟨⟨n, hn, hz⟩, hc, h0, h6, ho⟩ := h
  have h1 : sSz S < 20 := Decidable.not_not.mp h1
  rw [hz, i_lt, nI_toInt (by omega), e_20] at h1
  have o0 : ¬ op < 0 := fun q => h2 (Or.inl q)
  have o1 : op ≤ 10 := Decidable.not_not.mp (fun q => h2 (Or.inr q))
  have a0 : ¬ a < 0 := fun q => h3 (Or.inl q)
  have a1 : ¬ 3 < a := fun q => h3 (Or.inr (Or.inl q))
  refine ⟨⟨n + 1, by omega, ?_⟩, ?_, h0, h6, ho⟩
  · show sSz S + 1 = nI (n + 1)
    rw [hz, nI_1]
  · intro j
    show vp_in (upd (sAs S) (sSz S).toNatClampNeg a j) 4 ∧ ¬ upd (sOp S) (sSz S).toNatClampNeg op j < 0 ∧ ¬ 11 < upd (sOp S) (sSz S).toNatClampNeg op j ∧ (¬ 4 < upd (sOp S) (sSz S).toNatClampNeg op j → ¬ upd (sOp S) (sSz S).toNatClampNeg op j = 0 → vp_in (upd (sBs S) (sSz S).toNatClampNeg b j) 4)
    by_cases hj : j = (sSz S).toNatClampNeg
    · rw [hj, pk_us, pk_us, pk_us]
      refine ⟨in4' a0 a1, o0, ?_, ?_⟩
      · rw [i_le, e_10] at o1; rw [i_lt, e_11]; omega
      · intro q4 q0
        have o2 : ¬ op < 1 := by
          rw [← Int32.toInt_inj, e_0] at q0
          rw [i_lt, e_0] at o0
          rw [i_lt, e_1]; omega
        have b0 : ¬ b < 0 := fun q => h3 (Or.inr (Or.inr ⟨o2, q4, Or.inl q⟩))
        have b1 : b ≤ 3 := Decidable.not_not.mp (fun q => h3 (Or.inr (Or.inr ⟨o2, q4, Or.inr q⟩)))
        exact in4' b0 (fun q => n_le.mpr q b1)
    · rw [pk_un hj, pk_un hj, pk_un hj]
      exact hc j
theorem noT_em {S : Sh} {op a b : Int32} (h : noT S) : noT (emS S op a b) := by
  unfold emS
  by_cases h1 : ¬ sSz S < 20
  · rw [if_pos h1]; exact h
  rw [if_neg h1]
  by_cases h2 : op < 0 ∨ ¬ op ≤ 10
  · rw [if_pos h2]; exact h
  rw [if_neg h2]
  by_cases h3 : a < 0 ∨ 3 < a ∨ (¬ op < 1 ∧ ¬ 4 < op ∧ (b < 0 ∨ ¬ b ≤ 3))
  · rw [if_pos h3]; exact h
  rw [if_neg h3]
  have o1 : op ≤ 10 := Decidable.not_not.mp (fun q => h2 (Or.inr q))
  intro j
  show ¬ 10 < upd (sOp S) (sSz S).toNatClampNeg op j
  by_cases hj : j = (sSz S).toNatClampNeg
  · rw [hj, pk_us]; exact fun q => n_le.mpr q o1
  · rw [pk_un hj]; exact h j
theorem gd_00 : gd S00 := ⟨⟨0, by omega, rfl⟩, fun j => ⟨vp_in_nI (n := 0) (by decide) (by decide), (by decide : ¬ (0 : Int32) < 0), (by decide : ¬ (11 : Int32) < 0), fun _ q => absurd rfl q⟩, (by decide : ¬ (0 : Int32) < 0), (by decide : ¬ (6 : Int32) < 0), Or.inl rfl⟩
theorem noT_00 : noT S00 := fun _ => (by decide : ¬ (10 : Int32) < 0)
theorem law_k {L k : Nat} (hL : L ≤ 256) (hk : k ≤ L + 3) (h : ¬ Int32.ofNat L - 4 < nI k) : k + 4 ≤ L := by
  have e : Int32.ofNat L = nI L := rfl
  rw [e, i_lt, i_sub (by rw [nI_toInt (by omega), e_4]; omega) (by rw [nI_toInt (by omega), e_4]; omega), nI_toInt (by omega), nI_toInt (by omega), e_4] at h
  omega
end
section
/-! THE LAW'S ROWS: both objects stand side by side; a call of one leaves the other -/
set_option maxRecDepth 100000
def lI (D : va_G) (h : Nat) (a : Nat → Nat) (ca : Nat → ClassId) (h2 : Nat) (a2 : Nat → Nat) (ca2 : Nat → ClassId) (s : State) (H : Heap) (locs : List Loc) (S : Sh) (E : XE) (M : Sh) : Prop := va_K D vwCl (xT ca ++ mT ca2) s ∧ va_P D vwCl (xW h a ca S E ++ mW h2 a2 ca2 M) H ∧ va_D (fun q : Nat => s.heap.size ≤ q) (xW h a ca S E ++ mW h2 a2 ca2 M) ∧ va_S (fun q : Nat => s.heap.size ≤ q) s.heap H locs
section
variable {p : Program} {l : Launch} {e : Env} {R : Room} {s : State} {m : MethodId} {args : Array Value} {below : List Frame} {meth : Method} {c : Code} {H : Heap} {locs : List Loc} {cells slots : Nat} {Q : State → Prop} {cc : ByteArray} {nL pc : Nat} {ls : Array Slot} {rest : List Value} {D : va_G} {h : Nat} {a : Nat → Nat} {ca : Nat → ClassId} {h2 : Nat} {a2 : Nat → Nat} {ca2 : Nat → ClassId} {S : Sh} {E : XE} {M : Sh}
theorem l_xi (F : CallFix p m c cc nL s args lw_all R_law) (I : lI D h a ca h2 a2 ca2 s H locs S E M) {y : MethodName} {bytes : ByteArray} {maxL index n : Nat} {ret : Option FieldType} {rm : Room} {As : List Value} {post : Int32 → Sh × XE → Prop} {st0 : List Value} (hM : ∀ sz : Nat, Met l y (ws_ y bytes maxL ret) rm (xPc D h a ca As sz S E) (xQi D h a ca sz S E post) 0 0 (xA h a ca S E sz)) (cw : CallW R s args R_law RX0 index y bytes maxL ret (ws_ y bytes maxL ret) rm 0 0 n) (hn : As.length = n) (hst : st0 = As.reverse ++ .ref h :: rest) (hsz : ls.size = nL) (hrest : (rest.map fun v => v.category).sum ≤ 8) (hd : decode cc pc = .ok (.invokevirtual index, 3)) (hroom : cells ≤ R.cells ∧ slots ≤ R.slots)
    (kk : ∀ (r : Int32) (u : Sh × XE) (H1 : Heap) (locs1 : List Loc), post r u → lI D h a ca h2 a2 ca2 s H1 locs1 u.1 u.2 M → W p l e R s m args below meth c H1 locs1 cells slots Q (F0 m (pc + 3) ls (.int r :: rest))) : W p l e R s m args below meth c H locs cells slots Q (F0 m pc ls st0) := by
  obtain ⟨hx, hb, hml, hown, hts⟩ := F
  obtain ⟨hK, hP, hD, hS⟩ := I
  have hA : ∀ q, s.heap.size ≤ q → (fun q : Nat => s.heap.size ≤ q) q := fun _ h => h
  have hPc := hP.sub (ws' := (xW h a ca S E)) [0, 1, 2, 3, 4, 5, 6, 7] rfl
  have hDc := hD.sub (ws' := (xW h a ca S E)) [0, 1, 2, 3, 4, 5, 6, 7] (by decide) rfl
  have hKc := hK.sub (tys' := (xT ca)) [0, 1, 2, 3, 4, 5, 6] rfl
  have hFc := va_free (wc := (xW h a ca S E)) hD hS hA [0, 1, 2, 3, 4, 5, 6, 7] rfl
  refine va_calli (va_runV (As := As) (rest := rest) ⟨hx, hb, hml, hown, hts⟩ (hM H.size) cw ⟨fun a U g mk q => by obtain ⟨q0, q1, qP, qK, qD⟩ := q; exact ⟨q0, q1, qP, va_K.moved (u := U) (U := U.calling g mk a) (Vm.Alike.refl U.vm) qK, qD⟩, va_recv hKc hPc (ci := 0) (q0 := 0) rfl rfl, fun U hU hW => ⟨rfl, by rw [hU], by rw [hU]; exact hPc, va_K.moved hW.alike hKc, hDc.weaken (fun _ _ _ _ => trivial)⟩⟩ rfl hn hsz hst (lv_room hrest) hd hroom) hS (fun q _ h => hFc q h) hFc (fun r u t H1 locs1 ht hvm hw1 hB hz1 hk1 hS => ?_)
  obtain ⟨hP1, hK1, hD1⟩ := hB
  rw [ht] at hP1
  obtain ⟨hP2, hD2⟩ := va_join (wr := (mW h2 a2 ca2 M)) (w1 := (xW h a ca u.1 u.2)) hP hD [0, 1, 2, 3, 4, 5, 6, 7] [8, 9, 10, 11, 12, 13, 14] rfl rfl (by decide) (by decide) hk1 hFc hP1 hD1
  exact kk r u H1 locs1 hw1 ⟨hK, hP2.sub [7, 8, 9, 10, 11, 12, 13, 14, 0, 1, 2, 3, 4, 5, 6] rfl, hD2.sub [7, 8, 9, 10, 11, 12, 13, 14, 0, 1, 2, 3, 4, 5, 6] (by decide) rfl, hS⟩
theorem l_xv (F : CallFix p m c cc nL s args lw_all R_law) (I : lI D h a ca h2 a2 ca2 s H locs S E M) {y : MethodName} {bytes : ByteArray} {maxL index n : Nat} {ret : Option FieldType} {rm : Room} {As : List Value} {post : Sh × XE → Prop} {st0 : List Value} (hM : ∀ sz : Nat, Met l y (ws_ y bytes maxL ret) rm (xPc D h a ca As sz S E) (xQv D h a ca sz S E post) 0 0 (xA h a ca S E sz)) (cw : CallW R s args R_law RX0 index y bytes maxL ret (ws_ y bytes maxL ret) rm 0 0 n) (hn : As.length = n) (hst : st0 = As.reverse ++ .ref h :: rest) (hsz : ls.size = nL) (hrest : (rest.map fun v => v.category).sum ≤ 8) (hd : decode cc pc = .ok (.invokevirtual index, 3)) (hroom : cells ≤ R.cells ∧ slots ≤ R.slots)
    (kk : ∀ (u : Sh × XE) (H1 : Heap) (locs1 : List Loc), post u → lI D h a ca h2 a2 ca2 s H1 locs1 u.1 u.2 M → W p l e R s m args below meth c H1 locs1 cells slots Q (F0 m (pc + 3) ls rest)) : W p l e R s m args below meth c H locs cells slots Q (F0 m pc ls st0) := by
  obtain ⟨hx, hb, hml, hown, hts⟩ := F
  obtain ⟨hK, hP, hD, hS⟩ := I
  have hA : ∀ q, s.heap.size ≤ q → (fun q : Nat => s.heap.size ≤ q) q := fun _ h => h
  have hPc := hP.sub (ws' := (xW h a ca S E)) [0, 1, 2, 3, 4, 5, 6, 7] rfl
  have hDc := hD.sub (ws' := (xW h a ca S E)) [0, 1, 2, 3, 4, 5, 6, 7] (by decide) rfl
  have hKc := hK.sub (tys' := (xT ca)) [0, 1, 2, 3, 4, 5, 6] rfl
  have hFc := va_free (wc := (xW h a ca S E)) hD hS hA [0, 1, 2, 3, 4, 5, 6, 7] rfl
  refine va_callv (va_runV (As := As) (rest := rest) ⟨hx, hb, hml, hown, hts⟩ (hM H.size) cw ⟨fun a U g mk q => by obtain ⟨q0, q1, qP, qK, qD⟩ := q; exact ⟨q0, q1, qP, va_K.moved (u := U) (U := U.calling g mk a) (Vm.Alike.refl U.vm) qK, qD⟩, va_recv hKc hPc (ci := 0) (q0 := 0) rfl rfl, fun U hU hW => ⟨rfl, by rw [hU], by rw [hU]; exact hPc, va_K.moved hW.alike hKc, hDc.weaken (fun _ _ _ _ => trivial)⟩⟩ rfl hn hsz hst (lv_room hrest) hd hroom) hS (fun q _ h => hFc q h) hFc (fun u t H1 locs1 ht hvm hw1 hB hz1 hk1 hS => ?_)
  obtain ⟨hP1, hK1, hD1⟩ := hB
  rw [ht] at hP1
  obtain ⟨hP2, hD2⟩ := va_join (wr := (mW h2 a2 ca2 M)) (w1 := (xW h a ca u.1 u.2)) hP hD [0, 1, 2, 3, 4, 5, 6, 7] [8, 9, 10, 11, 12, 13, 14] rfl rfl (by decide) (by decide) hk1 hFc hP1 hD1
  exact kk u H1 locs1 hw1 ⟨hK, hP2.sub [7, 8, 9, 10, 11, 12, 13, 14, 0, 1, 2, 3, 4, 5, 6] rfl, hD2.sub [7, 8, 9, 10, 11, 12, 13, 14, 0, 1, 2, 3, 4, 5, 6] (by decide) rfl, hS⟩
theorem l_mi (F : CallFix p m c cc nL s args lw_all R_law) (I : lI D h a ca h2 a2 ca2 s H locs S E M) {y : MethodName} {bytes : ByteArray} {maxL index n : Nat} {ret : Option FieldType} {rm : Room} {As : List Value} {post : Int32 → Sh → Prop} {st0 : List Value} (hM : ∀ sz : Nat, Met l y (ws_ y bytes maxL ret) rm (mPc D h2 a2 ca2 As sz M) (mQi D h2 a2 ca2 sz M post) 0 0 (mA h2 a2 ca2 M sz)) (cw : CallW R s args R_law RX1 index y bytes maxL ret (ws_ y bytes maxL ret) rm 0 0 n) (hn : As.length = n) (hst : st0 = As.reverse ++ .ref h2 :: rest) (hsz : ls.size = nL) (hrest : (rest.map fun v => v.category).sum ≤ 8) (hd : decode cc pc = .ok (.invokevirtual index, 3)) (hroom : cells ≤ R.cells ∧ slots ≤ R.slots)
    (kk : ∀ (r : Int32) (u : Sh) (H1 : Heap) (locs1 : List Loc), post r u → lI D h a ca h2 a2 ca2 s H1 locs1 S E u → W p l e R s m args below meth c H1 locs1 cells slots Q (F0 m (pc + 3) ls (.int r :: rest))) : W p l e R s m args below meth c H locs cells slots Q (F0 m pc ls st0) := by
  obtain ⟨hx, hb, hml, hown, hts⟩ := F
  obtain ⟨hK, hP, hD, hS⟩ := I
  have hA : ∀ q, s.heap.size ≤ q → (fun q : Nat => s.heap.size ≤ q) q := fun _ h => h
  have hPc := hP.sub (ws' := (mW h2 a2 ca2 M)) [8, 9, 10, 11, 12, 13, 14] rfl
  have hDc := hD.sub (ws' := (mW h2 a2 ca2 M)) [8, 9, 10, 11, 12, 13, 14] (by decide) rfl
  have hKc := hK.sub (tys' := (mT ca2)) [7, 8, 9, 10, 11, 12] rfl
  have hFc := va_free (wc := (mW h2 a2 ca2 M)) hD hS hA [8, 9, 10, 11, 12, 13, 14] rfl
  refine va_calli (va_runV (As := As) (rest := rest) ⟨hx, hb, hml, hown, hts⟩ (hM H.size) cw ⟨fun a U g mk q => by obtain ⟨q0, q1, qP, qK, qD⟩ := q; exact ⟨q0, q1, qP, va_K.moved (u := U) (U := U.calling g mk a) (Vm.Alike.refl U.vm) qK, qD⟩, va_recv hKc hPc (ci := 1) (q0 := 0) rfl rfl, fun U hU hW => ⟨rfl, by rw [hU], by rw [hU]; exact hPc, va_K.moved hW.alike hKc, hDc.weaken (fun _ _ _ _ => trivial)⟩⟩ rfl hn hsz hst (lv_room hrest) hd hroom) hS (fun q _ h => hFc q h) hFc (fun r u t H1 locs1 ht hvm hw1 hB hz1 hk1 hS => ?_)
  obtain ⟨hP1, hK1, hD1⟩ := hB
  rw [ht] at hP1
  obtain ⟨hP2, hD2⟩ := va_join (wr := (xW h a ca S E)) (w1 := (mW h2 a2 ca2 u)) hP hD [8, 9, 10, 11, 12, 13, 14] [0, 1, 2, 3, 4, 5, 6, 7] rfl rfl (by decide) (by decide) hk1 hFc hP1 hD1
  exact kk r u H1 locs1 hw1 ⟨hK, hP2, hD2, hS⟩
theorem l_mv (F : CallFix p m c cc nL s args lw_all R_law) (I : lI D h a ca h2 a2 ca2 s H locs S E M) {y : MethodName} {bytes : ByteArray} {maxL index n : Nat} {ret : Option FieldType} {rm : Room} {As : List Value} {post : Sh → Prop} {st0 : List Value} (hM : ∀ sz : Nat, Met l y (ws_ y bytes maxL ret) rm (mPc D h2 a2 ca2 As sz M) (mQv D h2 a2 ca2 sz M post) 0 0 (mA h2 a2 ca2 M sz)) (cw : CallW R s args R_law RX1 index y bytes maxL ret (ws_ y bytes maxL ret) rm 0 0 n) (hn : As.length = n) (hst : st0 = As.reverse ++ .ref h2 :: rest) (hsz : ls.size = nL) (hrest : (rest.map fun v => v.category).sum ≤ 8) (hd : decode cc pc = .ok (.invokevirtual index, 3)) (hroom : cells ≤ R.cells ∧ slots ≤ R.slots)
    (kk : ∀ (u : Sh) (H1 : Heap) (locs1 : List Loc), post u → lI D h a ca h2 a2 ca2 s H1 locs1 S E u → W p l e R s m args below meth c H1 locs1 cells slots Q (F0 m (pc + 3) ls rest)) : W p l e R s m args below meth c H locs cells slots Q (F0 m pc ls st0) := by
  obtain ⟨hx, hb, hml, hown, hts⟩ := F
  obtain ⟨hK, hP, hD, hS⟩ := I
  have hA : ∀ q, s.heap.size ≤ q → (fun q : Nat => s.heap.size ≤ q) q := fun _ h => h
  have hPc := hP.sub (ws' := (mW h2 a2 ca2 M)) [8, 9, 10, 11, 12, 13, 14] rfl
  have hDc := hD.sub (ws' := (mW h2 a2 ca2 M)) [8, 9, 10, 11, 12, 13, 14] (by decide) rfl
  have hKc := hK.sub (tys' := (mT ca2)) [7, 8, 9, 10, 11, 12] rfl
  have hFc := va_free (wc := (mW h2 a2 ca2 M)) hD hS hA [8, 9, 10, 11, 12, 13, 14] rfl
  refine va_callv (va_runV (As := As) (rest := rest) ⟨hx, hb, hml, hown, hts⟩ (hM H.size) cw ⟨fun a U g mk q => by obtain ⟨q0, q1, qP, qK, qD⟩ := q; exact ⟨q0, q1, qP, va_K.moved (u := U) (U := U.calling g mk a) (Vm.Alike.refl U.vm) qK, qD⟩, va_recv hKc hPc (ci := 1) (q0 := 0) rfl rfl, fun U hU hW => ⟨rfl, by rw [hU], by rw [hU]; exact hPc, va_K.moved hW.alike hKc, hDc.weaken (fun _ _ _ _ => trivial)⟩⟩ rfl hn hsz hst (lv_room hrest) hd hroom) hS (fun q _ h => hFc q h) hFc (fun u t H1 locs1 ht hvm hw1 hB hz1 hk1 hS => ?_)
  obtain ⟨hP1, hK1, hD1⟩ := hB
  rw [ht] at hP1
  obtain ⟨hP2, hD2⟩ := va_join (wr := (xW h a ca S E)) (w1 := (mW h2 a2 ca2 u)) hP hD [8, 9, 10, 11, 12, 13, 14] [0, 1, 2, 3, 4, 5, 6, 7] rfl rfl (by decide) (by decide) hk1 hFc hP1 hD1
  exact kk u H1 locs1 hw1 ⟨hK, hP2, hD2, hS⟩
end
theorem cwl_x_emit {R : Room} {s : State} {args : Array Value} (hts : ∀ w ∈ lw_all, w.before args s = true) (hR : (rmL 0).frames + 1 ≤ R.frames ∧ 8 + (5 + 11) + (rmL 0).locals ≤ R.locals) : CallW R s args R_law RX0 13 yX0_emit cX0_emit 5 (some .int) (ws_ yX0_emit cX0_emit 5 (some .int)) (rmL 0) 0 0 3 := cwV 3 hts (lw_V q86 q87 q88 q19 q89) rfl rfl rfl (by decide +kernel) hR
theorem cwl_x_length {R : Room} {s : State} {args : Array Value} (hts : ∀ w ∈ lw_all, w.before args s = true) (hR : (rmL 0).frames + 1 ≤ R.frames ∧ 8 + (1 + 11) + (rmL 0).locals ≤ R.locals) : CallW R s args R_law RX0 18 yX0_length cX0_length 1 (some .int) (ws_ yX0_length cX0_length 1 (some .int)) (rmL 0) 0 0 0 := cwV 0 hts (lw_V q90 q91 q92 q19 q93) rfl rfl rfl (by decide +kernel) hR
theorem cwl_x_codeAt {R : Room} {s : State} {args : Array Value} (hts : ∀ w ∈ lw_all, w.before args s = true) (hR : (rmL 1).frames + 1 ≤ R.frames ∧ 8 + (2 + 11) + (rmL 1).locals ≤ R.locals) : CallW R s args R_law RX0 23 yX0_codeAt cX0_codeAt 2 (some .int) (ws_ yX0_codeAt cX0_codeAt 2 (some .int)) (rmL 1) 0 0 1 := cwV 1 hts (lw_V q94 q95 q96 q19 q97) rfl rfl rfl (by decide +kernel) hR
theorem cwl_x_reset {R : Room} {s : State} {args : Array Value} (hts : ∀ w ∈ lw_all, w.before args s = true) (hR : (rmL 0).frames + 1 ≤ R.frames ∧ 8 + (2 + 11) + (rmL 0).locals ≤ R.locals) : CallW R s args R_law RX0 28 yX0_reset cX0_reset 2 none (ws_ yX0_reset cX0_reset 2 none) (rmL 0) 0 0 0 := cwV 0 hts (lw_V q102 q103 q104 q19 q105) rfl rfl rfl (by decide +kernel) hR
theorem cwl_x_breakAt {R : Room} {s : State} {args : Array Value} (hts : ∀ w ∈ lw_all, w.before args s = true) (hR : (rmL 0).frames + 1 ≤ R.frames ∧ 8 + (3 + 11) + (rmL 0).locals ≤ R.locals) : CallW R s args R_law RX0 32 yX0_breakAt cX0_breakAt 3 (some .boolean) (ws_ yX0_breakAt cX0_breakAt 3 (some .boolean)) (rmL 0) 0 0 2 := cwV 2 hts (lw_V q106 q107 q108 q19 q109) rfl rfl rfl (by decide +kernel) hR
theorem cwl_x_breakpoints {R : Room} {s : State} {args : Array Value} (hts : ∀ w ∈ lw_all, w.before args s = true) (hR : (rmL 0).frames + 1 ≤ R.frames ∧ 8 + (1 + 11) + (rmL 0).locals ≤ R.locals) : CallW R s args R_law RX0 37 yX0_breakpoints cX0_breakpoints 1 (some .int) (ws_ yX0_breakpoints cX0_breakpoints 1 (some .int)) (rmL 0) 0 0 0 := cwV 0 hts (lw_V q110 q111 q112 q19 q113) rfl rfl rfl (by decide +kernel) hR
theorem cwl_x_step {R : Room} {s : State} {args : Array Value} (hts : ∀ w ∈ lw_all, w.before args s = true) (hR : (rmL 5).frames + 1 ≤ R.frames ∧ 8 + (1 + 11) + (rmL 5).locals ≤ R.locals) : CallW R s args R_law RX0 41 yX0_step cX0_step 1 (some .int) (ws_ yX0_step cX0_step 1 (some .int)) (rmL 5) 0 0 0 := cwV 0 hts (lw_V q114 q115 q116 q19 q117) rfl rfl rfl (by decide +kernel) hR
theorem cwl_x_stepOver {R : Room} {s : State} {args : Array Value} (hts : ∀ w ∈ lw_all, w.before args s = true) (hR : (rmL 5).frames + 1 ≤ R.frames ∧ 8 + (3 + 11) + (rmL 5).locals ≤ R.locals) : CallW R s args R_law RX0 45 yX0_stepOver cX0_stepOver 3 (some .int) (ws_ yX0_stepOver cX0_stepOver 3 (some .int)) (rmL 5) 0 0 0 := cwV 0 hts (lw_V q166 q167 q168 q19 q169) rfl rfl rfl (by decide +kernel) hR
theorem cwl_x_stepOut {R : Room} {s : State} {args : Array Value} (hts : ∀ w ∈ lw_all, w.before args s = true) (hR : (rmL 5).frames + 1 ≤ R.frames ∧ 8 + (2 + 11) + (rmL 5).locals ≤ R.locals) : CallW R s args R_law RX0 49 yX0_stepOut cX0_stepOut 2 (some .int) (ws_ yX0_stepOut cX0_stepOut 2 (some .int)) (rmL 5) 0 0 0 := cwV 0 hts (lw_V q170 q171 q172 q19 q173) rfl rfl rfl (by decide +kernel) hR
theorem cwl_x_go {R : Room} {s : State} {args : Array Value} (hts : ∀ w ∈ lw_all, w.before args s = true) (hR : (rmL 5).frames + 1 ≤ R.frames ∧ 8 + (1 + 11) + (rmL 5).locals ≤ R.locals) : CallW R s args R_law RX0 53 yX0_go cX0_go 1 (some .int) (ws_ yX0_go cX0_go 1 (some .int)) (rmL 5) 0 0 0 := cwV 0 hts (lw_V q174 q175 q176 q19 q177) rfl rfl rfl (by decide +kernel) hR
theorem cwl_x_goTo {R : Room} {s : State} {args : Array Value} (hts : ∀ w ∈ lw_all, w.before args s = true) (hR : (rmL 5).frames + 1 ≤ R.frames ∧ 8 + (3 + 11) + (rmL 5).locals ≤ R.locals) : CallW R s args R_law RX0 57 yX0_goTo cX0_goTo 3 (some .int) (ws_ yX0_goTo cX0_goTo 3 (some .int)) (rmL 5) 0 0 1 := cwV 1 hts (lw_V q178 q179 q180 q19 q181) rfl rfl rfl (by decide +kernel) hR
theorem cwl_x_reason {R : Room} {s : State} {args : Array Value} (hts : ∀ w ∈ lw_all, w.before args s = true) (hR : (rmL 0).frames + 1 ≤ R.frames ∧ 8 + (1 + 11) + (rmL 0).locals ≤ R.locals) : CallW R s args R_law RX0 61 yX0_reason cX0_reason 1 (some .int) (ws_ yX0_reason cX0_reason 1 (some .int)) (rmL 0) 0 0 0 := cwV 0 hts (lw_V q182 q183 q184 q19 q185) rfl rfl rfl (by decide +kernel) hR
theorem cwl_x_position {R : Room} {s : State} {args : Array Value} (hts : ∀ w ∈ lw_all, w.before args s = true) (hR : (rmL 0).frames + 1 ≤ R.frames ∧ 8 + (1 + 11) + (rmL 0).locals ≤ R.locals) : CallW R s args R_law RX0 65 yX0_position cX0_position 1 (some .int) (ws_ yX0_position cX0_position 1 (some .int)) (rmL 0) 0 0 0 := cwV 0 hts (lw_V q186 q187 q188 q19 q189) rfl rfl rfl (by decide +kernel) hR
theorem cwl_x_peek {R : Room} {s : State} {args : Array Value} (hts : ∀ w ∈ lw_all, w.before args s = true) (hR : (rmL 0).frames + 1 ≤ R.frames ∧ 8 + (2 + 11) + (rmL 0).locals ≤ R.locals) : CallW R s args R_law RX0 69 yX0_peek cX0_peek 2 (some .int) (ws_ yX0_peek cX0_peek 2 (some .int)) (rmL 0) 0 0 1 := cwV 1 hts (lw_V q190 q191 q192 q19 q193) rfl rfl rfl (by decide +kernel) hR
theorem cwl_x_depth {R : Room} {s : State} {args : Array Value} (hts : ∀ w ∈ lw_all, w.before args s = true) (hR : (rmL 0).frames + 1 ≤ R.frames ∧ 8 + (1 + 11) + (rmL 0).locals ≤ R.locals) : CallW R s args R_law RX0 73 yX0_depth cX0_depth 1 (some .int) (ws_ yX0_depth cX0_depth 1 (some .int)) (rmL 0) 0 0 0 := cwV 0 hts (lw_V q194 q195 q196 q19 q197) rfl rfl rfl (by decide +kernel) hR
theorem cwl_x_steps {R : Room} {s : State} {args : Array Value} (hts : ∀ w ∈ lw_all, w.before args s = true) (hR : (rmL 0).frames + 1 ≤ R.frames ∧ 8 + (1 + 11) + (rmL 0).locals ≤ R.locals) : CallW R s args R_law RX0 77 yX0_steps cX0_steps 1 (some .int) (ws_ yX0_steps cX0_steps 1 (some .int)) (rmL 0) 0 0 0 := cwV 0 hts (lw_V q198 q199 q200 q19 q201) rfl rfl rfl (by decide +kernel) hR
theorem cwl_m_emit {R : Room} {s : State} {args : Array Value} (hts : ∀ w ∈ lw_all, w.before args s = true) (hR : (rmL 0).frames + 1 ≤ R.frames ∧ 8 + (4 + 11) + (rmL 0).locals ≤ R.locals) : CallW R s args R_law RX1 17 yX1_emit cX1_emit 4 (some .int) (ws_ yX1_emit cX1_emit 4 (some .int)) (rmL 0) 0 0 3 := cwV 3 hts (lw_V q248 q249 q250 q20 q251) rfl rfl rfl (by decide +kernel) hR
theorem cwl_m_length {R : Room} {s : State} {args : Array Value} (hts : ∀ w ∈ lw_all, w.before args s = true) (hR : (rmL 0).frames + 1 ≤ R.frames ∧ 8 + (1 + 11) + (rmL 0).locals ≤ R.locals) : CallW R s args R_law RX1 22 yX1_length cX1_length 1 (some .int) (ws_ yX1_length cX1_length 1 (some .int)) (rmL 0) 0 0 0 := cwV 0 hts (lw_V q252 q253 q254 q20 q255) rfl rfl rfl (by decide +kernel) hR
theorem cwl_m_codeAt {R : Room} {s : State} {args : Array Value} (hts : ∀ w ∈ lw_all, w.before args s = true) (hR : (rmL 0).frames + 1 ≤ R.frames ∧ 8 + (2 + 11) + (rmL 0).locals ≤ R.locals) : CallW R s args R_law RX1 27 yX1_codeAt cX1_codeAt 2 (some .int) (ws_ yX1_codeAt cX1_codeAt 2 (some .int)) (rmL 0) 0 0 1 := cwV 1 hts (lw_V q256 q257 q258 q20 q259) rfl rfl rfl (by decide +kernel) hR
theorem cwl_m_reset {R : Room} {s : State} {args : Array Value} (hts : ∀ w ∈ lw_all, w.before args s = true) (hR : (rmL 0).frames + 1 ≤ R.frames ∧ 8 + (2 + 11) + (rmL 0).locals ≤ R.locals) : CallW R s args R_law RX1 31 yX1_reset cX1_reset 2 none (ws_ yX1_reset cX1_reset 2 none) (rmL 0) 0 0 0 := cwV 0 hts (lw_V q260 q261 q262 q20 q263) rfl rfl rfl (by decide +kernel) hR
theorem cwl_m_breakAt {R : Room} {s : State} {args : Array Value} (hts : ∀ w ∈ lw_all, w.before args s = true) (hR : (rmL 0).frames + 1 ≤ R.frames ∧ 8 + (3 + 11) + (rmL 0).locals ≤ R.locals) : CallW R s args R_law RX1 36 yX1_breakAt cX1_breakAt 3 (some .boolean) (ws_ yX1_breakAt cX1_breakAt 3 (some .boolean)) (rmL 0) 0 0 2 := cwV 2 hts (lw_V q264 q265 q266 q20 q267) rfl rfl rfl (by decide +kernel) hR
theorem cwl_m_breakpoints {R : Room} {s : State} {args : Array Value} (hts : ∀ w ∈ lw_all, w.before args s = true) (hR : (rmL 0).frames + 1 ≤ R.frames ∧ 8 + (1 + 11) + (rmL 0).locals ≤ R.locals) : CallW R s args R_law RX1 40 yX1_breakpoints cX1_breakpoints 1 (some .int) (ws_ yX1_breakpoints cX1_breakpoints 1 (some .int)) (rmL 0) 0 0 0 := cwV 0 hts (lw_V q268 q269 q270 q20 q271) rfl rfl rfl (by decide +kernel) hR
theorem cwl_m_step {R : Room} {s : State} {args : Array Value} (hts : ∀ w ∈ lw_all, w.before args s = true) (hR : (rmL 4).frames + 1 ≤ R.frames ∧ 8 + (1 + 11) + (rmL 4).locals ≤ R.locals) : CallW R s args R_law RX1 44 yX1_step cX1_step 1 (some .int) (ws_ yX1_step cX1_step 1 (some .int)) (rmL 4) 0 0 0 := cwV 0 hts (lw_V q272 q273 q274 q20 q275) rfl rfl rfl (by decide +kernel) hR
theorem cwl_m_stepOver {R : Room} {s : State} {args : Array Value} (hts : ∀ w ∈ lw_all, w.before args s = true) (hR : (rmL 4).frames + 1 ≤ R.frames ∧ 8 + (2 + 11) + (rmL 4).locals ≤ R.locals) : CallW R s args R_law RX1 48 yX1_stepOver cX1_stepOver 2 (some .int) (ws_ yX1_stepOver cX1_stepOver 2 (some .int)) (rmL 4) 0 0 0 := cwV 0 hts (lw_V q296 q297 q298 q20 q299) rfl rfl rfl (by decide +kernel) hR
theorem cwl_m_stepOut {R : Room} {s : State} {args : Array Value} (hts : ∀ w ∈ lw_all, w.before args s = true) (hR : (rmL 4).frames + 1 ≤ R.frames ∧ 8 + (1 + 11) + (rmL 4).locals ≤ R.locals) : CallW R s args R_law RX1 52 yX1_stepOut cX1_stepOut 1 (some .int) (ws_ yX1_stepOut cX1_stepOut 1 (some .int)) (rmL 4) 0 0 0 := cwV 0 hts (lw_V q300 q301 q302 q20 q303) rfl rfl rfl (by decide +kernel) hR
theorem cwl_m_go {R : Room} {s : State} {args : Array Value} (hts : ∀ w ∈ lw_all, w.before args s = true) (hR : (rmL 4).frames + 1 ≤ R.frames ∧ 8 + (1 + 11) + (rmL 4).locals ≤ R.locals) : CallW R s args R_law RX1 56 yX1_go cX1_go 1 (some .int) (ws_ yX1_go cX1_go 1 (some .int)) (rmL 4) 0 0 0 := cwV 0 hts (lw_V q304 q305 q306 q20 q307) rfl rfl rfl (by decide +kernel) hR
theorem cwl_m_goTo {R : Room} {s : State} {args : Array Value} (hts : ∀ w ∈ lw_all, w.before args s = true) (hR : (rmL 4).frames + 1 ≤ R.frames ∧ 8 + (2 + 11) + (rmL 4).locals ≤ R.locals) : CallW R s args R_law RX1 60 yX1_goTo cX1_goTo 2 (some .int) (ws_ yX1_goTo cX1_goTo 2 (some .int)) (rmL 4) 0 0 1 := cwV 1 hts (lw_V q308 q309 q310 q20 q311) rfl rfl rfl (by decide +kernel) hR
theorem cwl_m_reason {R : Room} {s : State} {args : Array Value} (hts : ∀ w ∈ lw_all, w.before args s = true) (hR : (rmL 0).frames + 1 ≤ R.frames ∧ 8 + (1 + 11) + (rmL 0).locals ≤ R.locals) : CallW R s args R_law RX1 64 yX1_reason cX1_reason 1 (some .int) (ws_ yX1_reason cX1_reason 1 (some .int)) (rmL 0) 0 0 0 := cwV 0 hts (lw_V q312 q313 q314 q20 q315) rfl rfl rfl (by decide +kernel) hR
theorem cwl_m_position {R : Room} {s : State} {args : Array Value} (hts : ∀ w ∈ lw_all, w.before args s = true) (hR : (rmL 0).frames + 1 ≤ R.frames ∧ 8 + (1 + 11) + (rmL 0).locals ≤ R.locals) : CallW R s args R_law RX1 68 yX1_position cX1_position 1 (some .int) (ws_ yX1_position cX1_position 1 (some .int)) (rmL 0) 0 0 0 := cwV 0 hts (lw_V q316 q317 q318 q20 q319) rfl rfl rfl (by decide +kernel) hR
theorem cwl_m_peek {R : Room} {s : State} {args : Array Value} (hts : ∀ w ∈ lw_all, w.before args s = true) (hR : (rmL 0).frames + 1 ≤ R.frames ∧ 8 + (2 + 11) + (rmL 0).locals ≤ R.locals) : CallW R s args R_law RX1 72 yX1_peek cX1_peek 2 (some .int) (ws_ yX1_peek cX1_peek 2 (some .int)) (rmL 0) 0 0 1 := cwV 1 hts (lw_V q320 q321 q322 q20 q323) rfl rfl rfl (by decide +kernel) hR
theorem cwl_m_depth {R : Room} {s : State} {args : Array Value} (hts : ∀ w ∈ lw_all, w.before args s = true) (hR : (rmL 0).frames + 1 ≤ R.frames ∧ 8 + (1 + 11) + (rmL 0).locals ≤ R.locals) : CallW R s args R_law RX1 76 yX1_depth cX1_depth 1 (some .int) (ws_ yX1_depth cX1_depth 1 (some .int)) (rmL 0) 0 0 0 := cwV 0 hts (lw_V q324 q325 q326 q20 q327) rfl rfl rfl (by decide +kernel) hR
theorem cwl_m_steps {R : Room} {s : State} {args : Array Value} (hts : ∀ w ∈ lw_all, w.before args s = true) (hR : (rmL 0).frames + 1 ≤ R.frames ∧ 8 + (1 + 11) + (rmL 0).locals ≤ R.locals) : CallW R s args R_law RX1 80 yX1_steps cX1_steps 1 (some .int) (ws_ yX1_steps cX1_steps 1 (some .int)) (rmL 0) 0 0 0 := cwV 0 hts (lw_V q328 q329 q330 q20 q331) rfl rfl rfl (by decide +kernel) hR
end
section
/-! THE LAW: its loop, and its start -/
set_option maxHeartbeats 4000000 in
set_option maxRecDepth 100000 in
/-- the law's loop at its head: k ints read, both objects hold the same -/
theorem law_loop {p : Program} {e : Env} {s : State} {m : MethodId} {below : List Frame} {meth : Method} {c : Code} (l : Launch) {b L : Nat} {xs : Nat → Int32} (hL : L ≤ 256) (C0 : lw_At p s m meth c b L xs) {D : va_G} {h : Nat} {a : Nat → Nat} {ca : Nat → ClassId} {h2 : Nat} {a2 : Nat → Nat} {ca2 : Nat → ClassId} :
    ∀ (n k : Nat) (S : Sh) (E : XE) (H : Heap) (locs : List Loc) (ls : Array Slot), k ≤ L + 3 → L + 4 ≤ k + n → gd S → noT S → eP E = 0 → lI D h a ca h2 a2 ca2 s H locs S E S → lv_has ls 4 [(3, .int (nI k)), (2, .ref h2), (1, .ref h), (0, .ref b)] → W p l e room_1 s m #[Value.ref b] below meth c H locs 15 207 (lw_Z below #[Value.ref b] s) (F0 m 18 ls []) := by
  obtain ⟨hx, hb, hr, hml, hown, hts0, hX, hbl, hlocks, hgv⟩ := C0
  have hts : ∀ w ∈ lw_all, w.before #[Value.ref b] s = true := fun w h => hts0 w (lw_all_tbl h)
  have hbA : ¬ (fun q : Nat => s.heap.size ≤ q) b := Nat.not_le.mpr hbl
  have F : CallFix p m c code 4 s #[Value.ref b] lw_all R_law := ⟨hx, hb, hml, hown, hts⟩
  intro n
  induction n with
  | zero => intro k S E H locs ls h1 h2; exact absurd h2 (by omega)
  | succ n ih =>
    intro k S E H locs ls hk hkn hg hT hp I hl
    obtain ⟨nz, hnz, hz⟩ := id hg.1
    refine lv_iload_n hx hb dL_law_18 rfl (lv_at hl 0 rfl) ?_
    refine lv_aload_n hx hb dL_law_19 rfl (lv_at hl 3 rfl) ?_
    refine va_slen hx hb hX hbl hbA I.2.2.2 dL_law_20 ?_
    refine lv_iconst (v := 4) hx hb dL_law_21 (by decide) ?_
    refine lv_isub hx hb dL_law_22 ?_
    refine lv_icmp_gt (tgt := 420) hx hb dL_law_23 (by decide) (fun c23 => ?_) (fun c23 => ?_)
    · refine lv_iconst (v := 1) hx hb dL_law_420 (by decide) ?_
      refine va_forget (fun q hq => I.2.2.2.2.2 q hq) ?_
      refine W.widen (k := 600000) (n := 7290000) (Nat.le_of_ble_eq_true rfl) (Nat.le_of_ble_eq_true rfl) ?_
      exact lw_ret hx hb hr hlocks dL_law_421
    · have hk4 : k + 4 ≤ L := law_k hL hk c23
      refine lv_aload_n hx hb dL_law_26 rfl (lv_at hl 3 rfl) ?_
      refine lv_iload_n hx hb dL_law_27 rfl (lv_at hl 0 rfl) ?_
      refine va_sld hx hb hX hbl hbA I.2.2.2 (vp_in_nI (by omega) (by omega)) dL_law_28 ?_
      refine lv_bipush (v := 15) hx hb dL_law_29 (by decide) ?_
      refine lv_iand hx hb dL_law_31 ?_
      obtain ⟨j, hj, ej⟩ := pk_andE (xs (nI k).toNatClampNeg) (m := 15) 4 rfl
      refine lv_topi (fun y9 e9 => ?_)
      rw [ej] at e9
      subst e9
      have hc : j = 0 ∨ j = 1 ∨ j = 2 ∨ j = 3 ∨ j = 4 ∨ j = 5 ∨ j = 6 ∨ j = 7 ∨ j = 8 ∨ j = 9 ∨ j = 10 ∨ j = 11 ∨ j = 12 ∨ j = 13 ∨ j = 14 ∨ j = 15 := by omega
      clear ej hj
      rcases hc with rfl | rfl | rfl | rfl | rfl | rfl | rfl | rfl | rfl | rfl | rfl | rfl | rfl | rfl | rfl | rfl
      · refine lv_tableIn (off := 80) (tgt := 112) hx hb dL_law_32 (by decide) (by decide) (by decide) (by decide) ?_
        refine lv_aload_n hx hb dL_law_112 rfl (lv_at hl 2 rfl) ?_
        refine lv_aload_n hx hb dL_law_113 rfl (lv_at hl 3 rfl) ?_
        refine lv_iload_n hx hb dL_law_114 rfl (lv_at hl 0 rfl) ?_
        refine lv_iconst (v := 1) hx hb dL_law_115 (by decide) ?_
        refine lv_iadd hx hb dL_law_116 ?_
        refine lv_topi (fun y9 e9 => ?_)
        rw [show (1 : Int32) = nI 1 from rfl, nI_add] at e9
        subst e9
        refine va_sld hx hb hX hbl hbA I.2.2.2 (vp_in_nI (by omega) (by omega)) dL_law_117 ?_
        refine lv_aload_n hx hb dL_law_118 rfl (lv_at hl 3 rfl) ?_
        refine lv_iload_n hx hb dL_law_119 rfl (lv_at hl 0 rfl) ?_
        refine lv_iconst (v := 2) hx hb dL_law_120 (by decide) ?_
        refine lv_iadd hx hb dL_law_121 ?_
        refine lv_topi (fun y9 e9 => ?_)
        rw [show (2 : Int32) = nI 2 from rfl, nI_add] at e9
        subst e9
        refine va_sld hx hb hX hbl hbA I.2.2.2 (vp_in_nI (by omega) (by omega)) dL_law_122 ?_
        refine lv_aload_n hx hb dL_law_123 rfl (lv_at hl 3 rfl) ?_
        refine lv_iload_n hx hb dL_law_124 rfl (lv_at hl 0 rfl) ?_
        refine lv_iconst (v := 3) hx hb dL_law_125 (by decide) ?_
        refine lv_iadd hx hb dL_law_126 ?_
        refine lv_topi (fun y9 e9 => ?_)
        rw [show (3 : Int32) = nI 3 from rfl, nI_add] at e9
        subst e9
        refine va_sld hx hb hX hbl hbA I.2.2.2 (vp_in_nI (by omega) (by omega)) dL_law_127 ?_
        refine l_xi F I (As := [.int (xs (nI (k + 1)).toNatClampNeg), .int (xs (nI (k + 2)).toNatClampNeg), .int (xs (nI (k + 3)).toNatClampNeg)]) (rest := []) (fun sz => met_x_emit (xs (nI (k + 1)).toNatClampNeg) (xs (nI (k + 2)).toNatClampNeg) (xs (nI (k + 3)).toNatClampNeg) hg) (cwl_x_emit hts ⟨Nat.le_of_ble_eq_true rfl, Nat.le_of_ble_eq_true rfl⟩) rfl rfl hl.1 (Nat.le_of_ble_eq_true rfl) dL_law_128 ⟨Nat.le_of_ble_eq_true rfl, Nat.le_of_ble_eq_true rfl⟩ (fun r1 u1 H locs q1 I => ?_)
        obtain ⟨rfl, rfl⟩ := q1
        have I : lI D h a ca h2 a2 ca2 s H locs (emS S (xs (nI (k + 1)).toNatClampNeg) (xs (nI (k + 2)).toNatClampNeg) (xs (nI (k + 3)).toNatClampNeg)) E S := I
        refine lv_aload_n hx hb dL_law_131 rfl (lv_at hl 1 rfl) ?_
        refine lv_aload_n hx hb dL_law_132 rfl (lv_at hl 3 rfl) ?_
        refine lv_iload_n hx hb dL_law_133 rfl (lv_at hl 0 rfl) ?_
        refine lv_iconst (v := 1) hx hb dL_law_134 (by decide) ?_
        refine lv_iadd hx hb dL_law_135 ?_
        refine lv_topi (fun y9 e9 => ?_)
        rw [show (1 : Int32) = nI 1 from rfl, nI_add] at e9
        subst e9
        refine va_sld hx hb hX hbl hbA I.2.2.2 (vp_in_nI (by omega) (by omega)) dL_law_136 ?_
        refine lv_aload_n hx hb dL_law_137 rfl (lv_at hl 3 rfl) ?_
        refine lv_iload_n hx hb dL_law_138 rfl (lv_at hl 0 rfl) ?_
        refine lv_iconst (v := 2) hx hb dL_law_139 (by decide) ?_
        refine lv_iadd hx hb dL_law_140 ?_
        refine lv_topi (fun y9 e9 => ?_)
        rw [show (2 : Int32) = nI 2 from rfl, nI_add] at e9
        subst e9
        refine va_sld hx hb hX hbl hbA I.2.2.2 (vp_in_nI (by omega) (by omega)) dL_law_141 ?_
        refine lv_aload_n hx hb dL_law_142 rfl (lv_at hl 3 rfl) ?_
        refine lv_iload_n hx hb dL_law_143 rfl (lv_at hl 0 rfl) ?_
        refine lv_iconst (v := 3) hx hb dL_law_144 (by decide) ?_
        refine lv_iadd hx hb dL_law_145 ?_
        refine lv_topi (fun y9 e9 => ?_)
        rw [show (3 : Int32) = nI 3 from rfl, nI_add] at e9
        subst e9
        refine va_sld hx hb hX hbl hbA I.2.2.2 (vp_in_nI (by omega) (by omega)) dL_law_146 ?_
        refine l_mi F I (As := [.int (xs (nI (k + 1)).toNatClampNeg), .int (xs (nI (k + 2)).toNatClampNeg), .int (xs (nI (k + 3)).toNatClampNeg)]) (rest := [.int (emR S (xs (nI (k + 1)).toNatClampNeg) (xs (nI (k + 2)).toNatClampNeg) (xs (nI (k + 3)).toNatClampNeg))]) (fun sz => met_m_emit (xs (nI (k + 1)).toNatClampNeg) (xs (nI (k + 2)).toNatClampNeg) (xs (nI (k + 3)).toNatClampNeg) hg) (cwl_m_emit hts ⟨Nat.le_of_ble_eq_true rfl, Nat.le_of_ble_eq_true rfl⟩) rfl rfl hl.1 (Nat.le_of_ble_eq_true rfl) dL_law_147 ⟨Nat.le_of_ble_eq_true rfl, Nat.le_of_ble_eq_true rfl⟩ (fun r1 u1 H locs q1 I => ?_)
        obtain ⟨rfl, e9⟩ := q1
        rw [e9] at I
        have I : lI D h a ca h2 a2 ca2 s H locs (emS S (xs (nI (k + 1)).toNatClampNeg) (xs (nI (k + 2)).toNatClampNeg) (xs (nI (k + 3)).toNatClampNeg)) E (emS S (xs (nI (k + 1)).toNatClampNeg) (xs (nI (k + 2)).toNatClampNeg) (xs (nI (k + 3)).toNatClampNeg)) := I
        refine lv_icmp_eq (tgt := 414) hx hb dL_law_150 (by decide) (fun c150 => ?_) (fun c150 => ?_)
        · refine lv_iinc (v := nI (k + 4)) (lv' := [(3, .int (nI (k + 4))), (2, .ref h2), (1, .ref h), (0, .ref b)]) hx hb dL_law_414 hl (k := 0) rfl (nI_add k 4) (by decide) rfl (fun ls hl => ?_)
          refine lv_goto (tgt := 18) hx hb dL_law_417 (by decide) ?_
          exact ih (k + 4) (emS S (xs (nI (k + 1)).toNatClampNeg) (xs (nI (k + 2)).toNatClampNeg) (xs (nI (k + 3)).toNatClampNeg)) E _ _ _ (by omega) (by omega) (gd_em hg) (noT_em hT) hp I (lv_sub hl [0, 1, 2, 3] rfl)
        · exact absurd rfl c150
      · refine lv_tableIn (off := 123) (tgt := 155) hx hb dL_law_32 (by decide) (by decide) (by decide) (by decide) ?_
        refine lv_aload_n hx hb dL_law_155 rfl (lv_at hl 2 rfl) ?_
        refine l_xi F I (As := []) (rest := []) (fun sz => met_x_length) (cwl_x_length hts ⟨Nat.le_of_ble_eq_true rfl, Nat.le_of_ble_eq_true rfl⟩) rfl rfl hl.1 (Nat.le_of_ble_eq_true rfl) dL_law_156 ⟨Nat.le_of_ble_eq_true rfl, Nat.le_of_ble_eq_true rfl⟩ (fun r1 u1 H locs q1 I => ?_)
        obtain ⟨rfl, rfl⟩ := q1
        have I : lI D h a ca h2 a2 ca2 s H locs S E S := I
        refine lv_aload_n hx hb dL_law_159 rfl (lv_at hl 1 rfl) ?_
        refine l_mi F I (As := []) (rest := [.int (sSz S)]) (fun sz => met_m_length) (cwl_m_length hts ⟨Nat.le_of_ble_eq_true rfl, Nat.le_of_ble_eq_true rfl⟩) rfl rfl hl.1 (Nat.le_of_ble_eq_true rfl) dL_law_160 ⟨Nat.le_of_ble_eq_true rfl, Nat.le_of_ble_eq_true rfl⟩ (fun r1 u1 H locs q1 I => ?_)
        obtain ⟨rfl, e9⟩ := q1
        rw [e9] at I
        have I : lI D h a ca h2 a2 ca2 s H locs S E S := I
        refine lv_icmp_eq (tgt := 414) hx hb dL_law_163 (by decide) (fun c163 => ?_) (fun c163 => ?_)
        · refine lv_iinc (v := nI (k + 4)) (lv' := [(3, .int (nI (k + 4))), (2, .ref h2), (1, .ref h), (0, .ref b)]) hx hb dL_law_414 hl (k := 0) rfl (nI_add k 4) (by decide) rfl (fun ls hl => ?_)
          refine lv_goto (tgt := 18) hx hb dL_law_417 (by decide) ?_
          exact ih (k + 4) S E _ _ _ (by omega) (by omega) hg hT hp I (lv_sub hl [0, 1, 2, 3] rfl)
        · exact absurd rfl c163
      · refine lv_tableIn (off := 136) (tgt := 168) hx hb dL_law_32 (by decide) (by decide) (by decide) (by decide) ?_
        refine lv_aload_n hx hb dL_law_168 rfl (lv_at hl 2 rfl) ?_
        refine lv_aload_n hx hb dL_law_169 rfl (lv_at hl 3 rfl) ?_
        refine lv_iload_n hx hb dL_law_170 rfl (lv_at hl 0 rfl) ?_
        refine lv_iconst (v := 1) hx hb dL_law_171 (by decide) ?_
        refine lv_iadd hx hb dL_law_172 ?_
        refine lv_topi (fun y9 e9 => ?_)
        rw [show (1 : Int32) = nI 1 from rfl, nI_add] at e9
        subst e9
        refine va_sld hx hb hX hbl hbA I.2.2.2 (vp_in_nI (by omega) (by omega)) dL_law_173 ?_
        refine l_xi F I (As := [.int (xs (nI (k + 1)).toNatClampNeg)]) (rest := []) (fun sz => met_x_codeAt (xs (nI (k + 1)).toNatClampNeg) hg) (cwl_x_codeAt hts ⟨Nat.le_of_ble_eq_true rfl, Nat.le_of_ble_eq_true rfl⟩) rfl rfl hl.1 (Nat.le_of_ble_eq_true rfl) dL_law_174 ⟨Nat.le_of_ble_eq_true rfl, Nat.le_of_ble_eq_true rfl⟩ (fun r1 u1 H locs q1 I => ?_)
        obtain ⟨rfl, rfl⟩ := q1
        have I : lI D h a ca h2 a2 ca2 s H locs S E S := I
        refine lv_aload_n hx hb dL_law_177 rfl (lv_at hl 1 rfl) ?_
        refine lv_aload_n hx hb dL_law_178 rfl (lv_at hl 3 rfl) ?_
        refine lv_iload_n hx hb dL_law_179 rfl (lv_at hl 0 rfl) ?_
        refine lv_iconst (v := 1) hx hb dL_law_180 (by decide) ?_
        refine lv_iadd hx hb dL_law_181 ?_
        refine lv_topi (fun y9 e9 => ?_)
        rw [show (1 : Int32) = nI 1 from rfl, nI_add] at e9
        subst e9
        refine va_sld hx hb hX hbl hbA I.2.2.2 (vp_in_nI (by omega) (by omega)) dL_law_182 ?_
        refine l_mi F I (As := [.int (xs (nI (k + 1)).toNatClampNeg)]) (rest := [.int (cdR S (xs (nI (k + 1)).toNatClampNeg))]) (fun sz => met_m_codeAt (xs (nI (k + 1)).toNatClampNeg) hg) (cwl_m_codeAt hts ⟨Nat.le_of_ble_eq_true rfl, Nat.le_of_ble_eq_true rfl⟩) rfl rfl hl.1 (Nat.le_of_ble_eq_true rfl) dL_law_183 ⟨Nat.le_of_ble_eq_true rfl, Nat.le_of_ble_eq_true rfl⟩ (fun r1 u1 H locs q1 I => ?_)
        obtain ⟨rfl, e9⟩ := q1
        rw [e9] at I
        have I : lI D h a ca h2 a2 ca2 s H locs S E S := I
        refine lv_icmp_eq (tgt := 414) hx hb dL_law_186 (by decide) (fun c186 => ?_) (fun c186 => ?_)
        · refine lv_iinc (v := nI (k + 4)) (lv' := [(3, .int (nI (k + 4))), (2, .ref h2), (1, .ref h), (0, .ref b)]) hx hb dL_law_414 hl (k := 0) rfl (nI_add k 4) (by decide) rfl (fun ls hl => ?_)
          refine lv_goto (tgt := 18) hx hb dL_law_417 (by decide) ?_
          exact ih (k + 4) S E _ _ _ (by omega) (by omega) hg hT hp I (lv_sub hl [0, 1, 2, 3] rfl)
        · exact absurd rfl c186
      · refine lv_tableIn (off := 159) (tgt := 191) hx hb dL_law_32 (by decide) (by decide) (by decide) (by decide) ?_
        refine lv_aload_n hx hb dL_law_191 rfl (lv_at hl 2 rfl) ?_
        refine l_xv F I (As := []) (rest := []) (fun sz => met_x_reset) (cwl_x_reset hts ⟨Nat.le_of_ble_eq_true rfl, Nat.le_of_ble_eq_true rfl⟩) rfl rfl hl.1 (Nat.le_of_ble_eq_true rfl) dL_law_192 ⟨Nat.le_of_ble_eq_true rfl, Nat.le_of_ble_eq_true rfl⟩ (fun u1 H locs q1 I => ?_)
        subst q1
        have I : lI D h a ca h2 a2 ca2 s H locs (rsS S) E S := I
        refine lv_aload_n hx hb dL_law_195 rfl (lv_at hl 1 rfl) ?_
        refine l_mv F I (As := []) (rest := []) (fun sz => met_m_reset) (cwl_m_reset hts ⟨Nat.le_of_ble_eq_true rfl, Nat.le_of_ble_eq_true rfl⟩) rfl rfl hl.1 (Nat.le_of_ble_eq_true rfl) dL_law_196 ⟨Nat.le_of_ble_eq_true rfl, Nat.le_of_ble_eq_true rfl⟩ (fun u1 H locs q1 I => ?_)
        rw [q1] at I
        have I : lI D h a ca h2 a2 ca2 s H locs (rsS S) E (rsS S) := I
        refine lv_goto (tgt := 414) hx hb dL_law_199 (by decide) ?_
        refine lv_iinc (v := nI (k + 4)) (lv' := [(3, .int (nI (k + 4))), (2, .ref h2), (1, .ref h), (0, .ref b)]) hx hb dL_law_414 hl (k := 0) rfl (nI_add k 4) (by decide) rfl (fun ls hl => ?_)
        refine lv_goto (tgt := 18) hx hb dL_law_417 (by decide) ?_
        exact ih (k + 4) (rsS S) E _ _ _ (by omega) (by omega) (gd_rs hg) (noT_rs hT) hp I (lv_sub hl [0, 1, 2, 3] rfl)
      · refine lv_tableIn (off := 170) (tgt := 202) hx hb dL_law_32 (by decide) (by decide) (by decide) (by decide) ?_
        refine lv_aload_n hx hb dL_law_202 rfl (lv_at hl 2 rfl) ?_
        refine lv_aload_n hx hb dL_law_203 rfl (lv_at hl 3 rfl) ?_
        refine lv_iload_n hx hb dL_law_204 rfl (lv_at hl 0 rfl) ?_
        refine lv_iconst (v := 1) hx hb dL_law_205 (by decide) ?_
        refine lv_iadd hx hb dL_law_206 ?_
        refine lv_topi (fun y9 e9 => ?_)
        rw [show (1 : Int32) = nI 1 from rfl, nI_add] at e9
        subst e9
        refine va_sld hx hb hX hbl hbA I.2.2.2 (vp_in_nI (by omega) (by omega)) dL_law_207 ?_
        refine lv_aload_n hx hb dL_law_208 rfl (lv_at hl 3 rfl) ?_
        refine lv_iload_n hx hb dL_law_209 rfl (lv_at hl 0 rfl) ?_
        refine lv_iconst (v := 2) hx hb dL_law_210 (by decide) ?_
        refine lv_iadd hx hb dL_law_211 ?_
        refine lv_topi (fun y9 e9 => ?_)
        rw [show (2 : Int32) = nI 2 from rfl, nI_add] at e9
        subst e9
        refine va_sld hx hb hX hbl hbA I.2.2.2 (vp_in_nI (by omega) (by omega)) dL_law_212 ?_
        refine lv_if_eq (tgt := 220) hx hb dL_law_213 (by decide) (fun c213 => ?_) (fun c213 => ?_)
        · refine lv_iconst (v := 0) hx hb dL_law_220 (by decide) ?_
          refine l_xi F I (As := [.int (xs (nI (k + 1)).toNatClampNeg), .int 0]) (rest := []) (fun sz => met_x_breakAt (xs (nI (k + 1)).toNatClampNeg) 0) (cwl_x_breakAt hts ⟨Nat.le_of_ble_eq_true rfl, Nat.le_of_ble_eq_true rfl⟩) rfl rfl hl.1 (Nat.le_of_ble_eq_true rfl) dL_law_221 ⟨Nat.le_of_ble_eq_true rfl, Nat.le_of_ble_eq_true rfl⟩ (fun r1 u1 H locs q1 I => ?_)
          obtain ⟨rfl, rfl⟩ := q1
          have I : lI D h a ca h2 a2 ca2 s H locs (bkS S (xs (nI (k + 1)).toNatClampNeg) 0) E S := I
          refine lv_aload_n hx hb dL_law_224 rfl (lv_at hl 1 rfl) ?_
          refine lv_aload_n hx hb dL_law_225 rfl (lv_at hl 3 rfl) ?_
          refine lv_iload_n hx hb dL_law_226 rfl (lv_at hl 0 rfl) ?_
          refine lv_iconst (v := 1) hx hb dL_law_227 (by decide) ?_
          refine lv_iadd hx hb dL_law_228 ?_
          refine lv_topi (fun y9 e9 => ?_)
          rw [show (1 : Int32) = nI 1 from rfl, nI_add] at e9
          subst e9
          refine va_sld hx hb hX hbl hbA I.2.2.2 (vp_in_nI (by omega) (by omega)) dL_law_229 ?_
          refine lv_aload_n hx hb dL_law_230 rfl (lv_at hl 3 rfl) ?_
          refine lv_iload_n hx hb dL_law_231 rfl (lv_at hl 0 rfl) ?_
          refine lv_iconst (v := 2) hx hb dL_law_232 (by decide) ?_
          refine lv_iadd hx hb dL_law_233 ?_
          refine lv_topi (fun y9 e9 => ?_)
          rw [show (2 : Int32) = nI 2 from rfl, nI_add] at e9
          subst e9
          refine va_sld hx hb hX hbl hbA I.2.2.2 (vp_in_nI (by omega) (by omega)) dL_law_234 ?_
          refine lv_if_eq (tgt := 242) hx hb dL_law_235 (by decide) (fun c235 => ?_) (fun c235 => ?_)
          · refine lv_iconst (v := 0) hx hb dL_law_242 (by decide) ?_
            refine l_mi F I (As := [.int (xs (nI (k + 1)).toNatClampNeg), .int 0]) (rest := [.int (bkR (xs (nI (k + 1)).toNatClampNeg))]) (fun sz => met_m_breakAt (xs (nI (k + 1)).toNatClampNeg) 0) (cwl_m_breakAt hts ⟨Nat.le_of_ble_eq_true rfl, Nat.le_of_ble_eq_true rfl⟩) rfl rfl hl.1 (Nat.le_of_ble_eq_true rfl) dL_law_243 ⟨Nat.le_of_ble_eq_true rfl, Nat.le_of_ble_eq_true rfl⟩ (fun r1 u1 H locs q1 I => ?_)
            obtain ⟨rfl, e9⟩ := q1
            rw [e9] at I
            have I : lI D h a ca h2 a2 ca2 s H locs (bkS S (xs (nI (k + 1)).toNatClampNeg) 0) E (bkS S (xs (nI (k + 1)).toNatClampNeg) 0) := I
            refine lv_icmp_eq (tgt := 414) hx hb dL_law_246 (by decide) (fun c246 => ?_) (fun c246 => ?_)
            · refine lv_iinc (v := nI (k + 4)) (lv' := [(3, .int (nI (k + 4))), (2, .ref h2), (1, .ref h), (0, .ref b)]) hx hb dL_law_414 hl (k := 0) rfl (nI_add k 4) (by decide) rfl (fun ls hl => ?_)
              refine lv_goto (tgt := 18) hx hb dL_law_417 (by decide) ?_
              exact ih (k + 4) (bkS S (xs (nI (k + 1)).toNatClampNeg) 0) E _ _ _ (by omega) (by omega) (gd_bk hg) (noT_bk hT) hp I (lv_sub hl [0, 1, 2, 3] rfl)
            · exact absurd rfl c246
          · exact absurd c213 c235
        · refine lv_iconst (v := 1) hx hb dL_law_216 (by decide) ?_
          refine lv_goto (tgt := 221) hx hb dL_law_217 (by decide) ?_
          refine l_xi F I (As := [.int (xs (nI (k + 1)).toNatClampNeg), .int 1]) (rest := []) (fun sz => met_x_breakAt (xs (nI (k + 1)).toNatClampNeg) 1) (cwl_x_breakAt hts ⟨Nat.le_of_ble_eq_true rfl, Nat.le_of_ble_eq_true rfl⟩) rfl rfl hl.1 (Nat.le_of_ble_eq_true rfl) dL_law_221 ⟨Nat.le_of_ble_eq_true rfl, Nat.le_of_ble_eq_true rfl⟩ (fun r1 u1 H locs q1 I => ?_)
          obtain ⟨rfl, rfl⟩ := q1
          have I : lI D h a ca h2 a2 ca2 s H locs (bkS S (xs (nI (k + 1)).toNatClampNeg) 1) E S := I
          refine lv_aload_n hx hb dL_law_224 rfl (lv_at hl 1 rfl) ?_
          refine lv_aload_n hx hb dL_law_225 rfl (lv_at hl 3 rfl) ?_
          refine lv_iload_n hx hb dL_law_226 rfl (lv_at hl 0 rfl) ?_
          refine lv_iconst (v := 1) hx hb dL_law_227 (by decide) ?_
          refine lv_iadd hx hb dL_law_228 ?_
          refine lv_topi (fun y9 e9 => ?_)
          rw [show (1 : Int32) = nI 1 from rfl, nI_add] at e9
          subst e9
          refine va_sld hx hb hX hbl hbA I.2.2.2 (vp_in_nI (by omega) (by omega)) dL_law_229 ?_
          refine lv_aload_n hx hb dL_law_230 rfl (lv_at hl 3 rfl) ?_
          refine lv_iload_n hx hb dL_law_231 rfl (lv_at hl 0 rfl) ?_
          refine lv_iconst (v := 2) hx hb dL_law_232 (by decide) ?_
          refine lv_iadd hx hb dL_law_233 ?_
          refine lv_topi (fun y9 e9 => ?_)
          rw [show (2 : Int32) = nI 2 from rfl, nI_add] at e9
          subst e9
          refine va_sld hx hb hX hbl hbA I.2.2.2 (vp_in_nI (by omega) (by omega)) dL_law_234 ?_
          refine lv_if_eq (tgt := 242) hx hb dL_law_235 (by decide) (fun c235 => ?_) (fun c235 => ?_)
          · exact absurd c235 c213
          · refine lv_iconst (v := 1) hx hb dL_law_238 (by decide) ?_
            refine lv_goto (tgt := 243) hx hb dL_law_239 (by decide) ?_
            refine l_mi F I (As := [.int (xs (nI (k + 1)).toNatClampNeg), .int 1]) (rest := [.int (bkR (xs (nI (k + 1)).toNatClampNeg))]) (fun sz => met_m_breakAt (xs (nI (k + 1)).toNatClampNeg) 1) (cwl_m_breakAt hts ⟨Nat.le_of_ble_eq_true rfl, Nat.le_of_ble_eq_true rfl⟩) rfl rfl hl.1 (Nat.le_of_ble_eq_true rfl) dL_law_243 ⟨Nat.le_of_ble_eq_true rfl, Nat.le_of_ble_eq_true rfl⟩ (fun r1 u1 H locs q1 I => ?_)
            obtain ⟨rfl, e9⟩ := q1
            rw [e9] at I
            have I : lI D h a ca h2 a2 ca2 s H locs (bkS S (xs (nI (k + 1)).toNatClampNeg) 1) E (bkS S (xs (nI (k + 1)).toNatClampNeg) 1) := I
            refine lv_icmp_eq (tgt := 414) hx hb dL_law_246 (by decide) (fun c246 => ?_) (fun c246 => ?_)
            · refine lv_iinc (v := nI (k + 4)) (lv' := [(3, .int (nI (k + 4))), (2, .ref h2), (1, .ref h), (0, .ref b)]) hx hb dL_law_414 hl (k := 0) rfl (nI_add k 4) (by decide) rfl (fun ls hl => ?_)
              refine lv_goto (tgt := 18) hx hb dL_law_417 (by decide) ?_
              exact ih (k + 4) (bkS S (xs (nI (k + 1)).toNatClampNeg) 1) E _ _ _ (by omega) (by omega) (gd_bk hg) (noT_bk hT) hp I (lv_sub hl [0, 1, 2, 3] rfl)
            · exact absurd rfl c246
      · refine lv_tableIn (off := 219) (tgt := 251) hx hb dL_law_32 (by decide) (by decide) (by decide) (by decide) ?_
        refine lv_aload_n hx hb dL_law_251 rfl (lv_at hl 2 rfl) ?_
        refine l_xi F I (As := []) (rest := []) (fun sz => met_x_breakpoints) (cwl_x_breakpoints hts ⟨Nat.le_of_ble_eq_true rfl, Nat.le_of_ble_eq_true rfl⟩) rfl rfl hl.1 (Nat.le_of_ble_eq_true rfl) dL_law_252 ⟨Nat.le_of_ble_eq_true rfl, Nat.le_of_ble_eq_true rfl⟩ (fun r1 u1 H locs q1 I => ?_)
        obtain ⟨rfl, rfl⟩ := q1
        have I : lI D h a ca h2 a2 ca2 s H locs S E S := I
        refine lv_aload_n hx hb dL_law_255 rfl (lv_at hl 1 rfl) ?_
        refine l_mi F I (As := []) (rest := [.int (sBk S)]) (fun sz => met_m_breakpoints) (cwl_m_breakpoints hts ⟨Nat.le_of_ble_eq_true rfl, Nat.le_of_ble_eq_true rfl⟩) rfl rfl hl.1 (Nat.le_of_ble_eq_true rfl) dL_law_256 ⟨Nat.le_of_ble_eq_true rfl, Nat.le_of_ble_eq_true rfl⟩ (fun r1 u1 H locs q1 I => ?_)
        obtain ⟨rfl, e9⟩ := q1
        rw [e9] at I
        have I : lI D h a ca h2 a2 ca2 s H locs S E S := I
        refine lv_icmp_eq (tgt := 414) hx hb dL_law_259 (by decide) (fun c259 => ?_) (fun c259 => ?_)
        · refine lv_iinc (v := nI (k + 4)) (lv' := [(3, .int (nI (k + 4))), (2, .ref h2), (1, .ref h), (0, .ref b)]) hx hb dL_law_414 hl (k := 0) rfl (nI_add k 4) (by decide) rfl (fun ls hl => ?_)
          refine lv_goto (tgt := 18) hx hb dL_law_417 (by decide) ?_
          exact ih (k + 4) S E _ _ _ (by omega) (by omega) hg hT hp I (lv_sub hl [0, 1, 2, 3] rfl)
        · exact absurd rfl c259
      · refine lv_tableIn (off := 232) (tgt := 264) hx hb dL_law_32 (by decide) (by decide) (by decide) (by decide) ?_
        refine lv_aload_n hx hb dL_law_264 rfl (lv_at hl 2 rfl) ?_
        refine l_xi F I (As := []) (rest := []) (fun sz => met_x_step hnz hz hg hT hp) (cwl_x_step hts ⟨Nat.le_of_ble_eq_true rfl, Nat.le_of_ble_eq_true rfl⟩) rfl rfl hl.1 (Nat.le_of_ble_eq_true rfl) dL_law_265 ⟨Nat.le_of_ble_eq_true rfl, Nat.le_of_ble_eq_true rfl⟩ (fun r1 u1 H locs q1 I => ?_)
        obtain ⟨ua, E1⟩ := u1
        obtain ⟨rfl, hu, hp1⟩ := q1
        have hu : ua = (goTrue S).2 := hu
        have hp1 : eP E1 = 0 := hp1
        subst hu
        have I : lI D h a ca h2 a2 ca2 s H locs (goTrue S).2 E1 S := I
        refine lv_aload_n hx hb dL_law_268 rfl (lv_at hl 1 rfl) ?_
        refine l_mi F I (As := []) (rest := [.int ((goTrue S).1)]) (fun sz => met_m_step hg hT) (cwl_m_step hts ⟨Nat.le_of_ble_eq_true rfl, Nat.le_of_ble_eq_true rfl⟩) rfl rfl hl.1 (Nat.le_of_ble_eq_true rfl) dL_law_269 ⟨Nat.le_of_ble_eq_true rfl, Nat.le_of_ble_eq_true rfl⟩ (fun r1 u1 H locs q1 I => ?_)
        obtain ⟨rfl, e9⟩ := q1
        rw [e9] at I
        have I : lI D h a ca h2 a2 ca2 s H locs (goTrue S).2 E1 (goTrue S).2 := I
        refine lv_icmp_eq (tgt := 414) hx hb dL_law_272 (by decide) (fun c272 => ?_) (fun c272 => ?_)
        · refine lv_iinc (v := nI (k + 4)) (lv' := [(3, .int (nI (k + 4))), (2, .ref h2), (1, .ref h), (0, .ref b)]) hx hb dL_law_414 hl (k := 0) rfl (nI_add k 4) (by decide) rfl (fun ls hl => ?_)
          refine lv_goto (tgt := 18) hx hb dL_law_417 (by decide) ?_
          exact ih (k + 4) (goTrue S).2 E1 _ _ _ (by omega) (by omega) (gd_run hg) (noT_run hT) hp1 I (lv_sub hl [0, 1, 2, 3] rfl)
        · exact absurd rfl c272
      · refine lv_tableIn (off := 245) (tgt := 277) hx hb dL_law_32 (by decide) (by decide) (by decide) (by decide) ?_
        refine lv_aload_n hx hb dL_law_277 rfl (lv_at hl 2 rfl) ?_
        refine l_xi F I (As := []) (rest := []) (fun sz => met_x_stepOver hnz hz hg hT hp) (cwl_x_stepOver hts ⟨Nat.le_of_ble_eq_true rfl, Nat.le_of_ble_eq_true rfl⟩) rfl rfl hl.1 (Nat.le_of_ble_eq_true rfl) dL_law_278 ⟨Nat.le_of_ble_eq_true rfl, Nat.le_of_ble_eq_true rfl⟩ (fun r1 u1 H locs q1 I => ?_)
        obtain ⟨ua, E1⟩ := u1
        obtain ⟨rfl, hu, hp1⟩ := q1
        have hu : ua = (goOver S).2 := hu
        have hp1 : eP E1 = 0 := hp1
        subst hu
        have I : lI D h a ca h2 a2 ca2 s H locs (goOver S).2 E1 S := I
        refine lv_aload_n hx hb dL_law_281 rfl (lv_at hl 1 rfl) ?_
        refine l_mi F I (As := []) (rest := [.int ((goOver S).1)]) (fun sz => met_m_stepOver hg hT) (cwl_m_stepOver hts ⟨Nat.le_of_ble_eq_true rfl, Nat.le_of_ble_eq_true rfl⟩) rfl rfl hl.1 (Nat.le_of_ble_eq_true rfl) dL_law_282 ⟨Nat.le_of_ble_eq_true rfl, Nat.le_of_ble_eq_true rfl⟩ (fun r1 u1 H locs q1 I => ?_)
        obtain ⟨rfl, e9⟩ := q1
        rw [e9] at I
        have I : lI D h a ca h2 a2 ca2 s H locs (goOver S).2 E1 (goOver S).2 := I
        refine lv_icmp_eq (tgt := 414) hx hb dL_law_285 (by decide) (fun c285 => ?_) (fun c285 => ?_)
        · refine lv_iinc (v := nI (k + 4)) (lv' := [(3, .int (nI (k + 4))), (2, .ref h2), (1, .ref h), (0, .ref b)]) hx hb dL_law_414 hl (k := 0) rfl (nI_add k 4) (by decide) rfl (fun ls hl => ?_)
          refine lv_goto (tgt := 18) hx hb dL_law_417 (by decide) ?_
          exact ih (k + 4) (goOver S).2 E1 _ _ _ (by omega) (by omega) (gd_over hg) (noT_over hT) hp1 I (lv_sub hl [0, 1, 2, 3] rfl)
        · exact absurd rfl c285
      · refine lv_tableIn (off := 258) (tgt := 290) hx hb dL_law_32 (by decide) (by decide) (by decide) (by decide) ?_
        refine lv_aload_n hx hb dL_law_290 rfl (lv_at hl 2 rfl) ?_
        refine l_xi F I (As := []) (rest := []) (fun sz => met_x_stepOut hnz hz hg hT hp) (cwl_x_stepOut hts ⟨Nat.le_of_ble_eq_true rfl, Nat.le_of_ble_eq_true rfl⟩) rfl rfl hl.1 (Nat.le_of_ble_eq_true rfl) dL_law_291 ⟨Nat.le_of_ble_eq_true rfl, Nat.le_of_ble_eq_true rfl⟩ (fun r1 u1 H locs q1 I => ?_)
        obtain ⟨ua, E1⟩ := u1
        obtain ⟨rfl, hu, hp1⟩ := q1
        have hu : ua = (goOut S).2 := hu
        have hp1 : eP E1 = 0 := hp1
        subst hu
        have I : lI D h a ca h2 a2 ca2 s H locs (goOut S).2 E1 S := I
        refine lv_aload_n hx hb dL_law_294 rfl (lv_at hl 1 rfl) ?_
        refine l_mi F I (As := []) (rest := [.int ((goOut S).1)]) (fun sz => met_m_stepOut hg hT) (cwl_m_stepOut hts ⟨Nat.le_of_ble_eq_true rfl, Nat.le_of_ble_eq_true rfl⟩) rfl rfl hl.1 (Nat.le_of_ble_eq_true rfl) dL_law_295 ⟨Nat.le_of_ble_eq_true rfl, Nat.le_of_ble_eq_true rfl⟩ (fun r1 u1 H locs q1 I => ?_)
        obtain ⟨rfl, e9⟩ := q1
        rw [e9] at I
        have I : lI D h a ca h2 a2 ca2 s H locs (goOut S).2 E1 (goOut S).2 := I
        refine lv_icmp_eq (tgt := 414) hx hb dL_law_298 (by decide) (fun c298 => ?_) (fun c298 => ?_)
        · refine lv_iinc (v := nI (k + 4)) (lv' := [(3, .int (nI (k + 4))), (2, .ref h2), (1, .ref h), (0, .ref b)]) hx hb dL_law_414 hl (k := 0) rfl (nI_add k 4) (by decide) rfl (fun ls hl => ?_)
          refine lv_goto (tgt := 18) hx hb dL_law_417 (by decide) ?_
          exact ih (k + 4) (goOut S).2 E1 _ _ _ (by omega) (by omega) (gd_run hg) (noT_run hT) hp1 I (lv_sub hl [0, 1, 2, 3] rfl)
        · exact absurd rfl c298
      · refine lv_tableIn (off := 271) (tgt := 303) hx hb dL_law_32 (by decide) (by decide) (by decide) (by decide) ?_
        refine lv_aload_n hx hb dL_law_303 rfl (lv_at hl 2 rfl) ?_
        refine l_xi F I (As := []) (rest := []) (fun sz => met_x_go hnz hz hg hT hp) (cwl_x_go hts ⟨Nat.le_of_ble_eq_true rfl, Nat.le_of_ble_eq_true rfl⟩) rfl rfl hl.1 (Nat.le_of_ble_eq_true rfl) dL_law_304 ⟨Nat.le_of_ble_eq_true rfl, Nat.le_of_ble_eq_true rfl⟩ (fun r1 u1 H locs q1 I => ?_)
        obtain ⟨ua, E1⟩ := u1
        obtain ⟨rfl, hu, hp1⟩ := q1
        have hu : ua = (goFalse S).2 := hu
        have hp1 : eP E1 = 0 := hp1
        subst hu
        have I : lI D h a ca h2 a2 ca2 s H locs (goFalse S).2 E1 S := I
        refine lv_aload_n hx hb dL_law_307 rfl (lv_at hl 1 rfl) ?_
        refine l_mi F I (As := []) (rest := [.int ((goFalse S).1)]) (fun sz => met_m_go hg hT) (cwl_m_go hts ⟨Nat.le_of_ble_eq_true rfl, Nat.le_of_ble_eq_true rfl⟩) rfl rfl hl.1 (Nat.le_of_ble_eq_true rfl) dL_law_308 ⟨Nat.le_of_ble_eq_true rfl, Nat.le_of_ble_eq_true rfl⟩ (fun r1 u1 H locs q1 I => ?_)
        obtain ⟨rfl, e9⟩ := q1
        rw [e9] at I
        have I : lI D h a ca h2 a2 ca2 s H locs (goFalse S).2 E1 (goFalse S).2 := I
        refine lv_icmp_eq (tgt := 414) hx hb dL_law_311 (by decide) (fun c311 => ?_) (fun c311 => ?_)
        · refine lv_iinc (v := nI (k + 4)) (lv' := [(3, .int (nI (k + 4))), (2, .ref h2), (1, .ref h), (0, .ref b)]) hx hb dL_law_414 hl (k := 0) rfl (nI_add k 4) (by decide) rfl (fun ls hl => ?_)
          refine lv_goto (tgt := 18) hx hb dL_law_417 (by decide) ?_
          exact ih (k + 4) (goFalse S).2 E1 _ _ _ (by omega) (by omega) (gd_run hg) (noT_run hT) hp1 I (lv_sub hl [0, 1, 2, 3] rfl)
        · exact absurd rfl c311
      · refine lv_tableIn (off := 284) (tgt := 316) hx hb dL_law_32 (by decide) (by decide) (by decide) (by decide) ?_
        refine lv_aload_n hx hb dL_law_316 rfl (lv_at hl 2 rfl) ?_
        refine lv_aload_n hx hb dL_law_317 rfl (lv_at hl 3 rfl) ?_
        refine lv_iload_n hx hb dL_law_318 rfl (lv_at hl 0 rfl) ?_
        refine lv_iconst (v := 1) hx hb dL_law_319 (by decide) ?_
        refine lv_iadd hx hb dL_law_320 ?_
        refine lv_topi (fun y9 e9 => ?_)
        rw [show (1 : Int32) = nI 1 from rfl, nI_add] at e9
        subst e9
        refine va_sld hx hb hX hbl hbA I.2.2.2 (vp_in_nI (by omega) (by omega)) dL_law_321 ?_
        refine l_xi F I (As := [.int (xs (nI (k + 1)).toNatClampNeg)]) (rest := []) (fun sz => met_x_goTo (xs (nI (k + 1)).toNatClampNeg) hnz hz hg hT hp) (cwl_x_goTo hts ⟨Nat.le_of_ble_eq_true rfl, Nat.le_of_ble_eq_true rfl⟩) rfl rfl hl.1 (Nat.le_of_ble_eq_true rfl) dL_law_322 ⟨Nat.le_of_ble_eq_true rfl, Nat.le_of_ble_eq_true rfl⟩ (fun r1 u1 H locs q1 I => ?_)
        obtain ⟨ua, E1⟩ := u1
        obtain ⟨rfl, hu, hp1⟩ := q1
        have hu : ua = (goPlace (xs (nI (k + 1)).toNatClampNeg) S).2 := hu
        have hp1 : eP E1 = 0 := hp1
        subst hu
        have I : lI D h a ca h2 a2 ca2 s H locs (goPlace (xs (nI (k + 1)).toNatClampNeg) S).2 E1 S := I
        refine lv_aload_n hx hb dL_law_325 rfl (lv_at hl 1 rfl) ?_
        refine lv_aload_n hx hb dL_law_326 rfl (lv_at hl 3 rfl) ?_
        refine lv_iload_n hx hb dL_law_327 rfl (lv_at hl 0 rfl) ?_
        refine lv_iconst (v := 1) hx hb dL_law_328 (by decide) ?_
        refine lv_iadd hx hb dL_law_329 ?_
        refine lv_topi (fun y9 e9 => ?_)
        rw [show (1 : Int32) = nI 1 from rfl, nI_add] at e9
        subst e9
        refine va_sld hx hb hX hbl hbA I.2.2.2 (vp_in_nI (by omega) (by omega)) dL_law_330 ?_
        refine l_mi F I (As := [.int (xs (nI (k + 1)).toNatClampNeg)]) (rest := [.int ((goPlace (xs (nI (k + 1)).toNatClampNeg) S).1)]) (fun sz => met_m_goTo (xs (nI (k + 1)).toNatClampNeg) hg hT) (cwl_m_goTo hts ⟨Nat.le_of_ble_eq_true rfl, Nat.le_of_ble_eq_true rfl⟩) rfl rfl hl.1 (Nat.le_of_ble_eq_true rfl) dL_law_331 ⟨Nat.le_of_ble_eq_true rfl, Nat.le_of_ble_eq_true rfl⟩ (fun r1 u1 H locs q1 I => ?_)
        obtain ⟨rfl, e9⟩ := q1
        rw [e9] at I
        have I : lI D h a ca h2 a2 ca2 s H locs (goPlace (xs (nI (k + 1)).toNatClampNeg) S).2 E1 (goPlace (xs (nI (k + 1)).toNatClampNeg) S).2 := I
        refine lv_icmp_eq (tgt := 414) hx hb dL_law_334 (by decide) (fun c334 => ?_) (fun c334 => ?_)
        · refine lv_iinc (v := nI (k + 4)) (lv' := [(3, .int (nI (k + 4))), (2, .ref h2), (1, .ref h), (0, .ref b)]) hx hb dL_law_414 hl (k := 0) rfl (nI_add k 4) (by decide) rfl (fun ls hl => ?_)
          refine lv_goto (tgt := 18) hx hb dL_law_417 (by decide) ?_
          exact ih (k + 4) (goPlace (xs (nI (k + 1)).toNatClampNeg) S).2 E1 _ _ _ (by omega) (by omega) (gd_run hg) (noT_run hT) hp1 I (lv_sub hl [0, 1, 2, 3] rfl)
        · exact absurd rfl c334
      · refine lv_tableIn (off := 307) (tgt := 339) hx hb dL_law_32 (by decide) (by decide) (by decide) (by decide) ?_
        refine lv_aload_n hx hb dL_law_339 rfl (lv_at hl 2 rfl) ?_
        refine l_xi F I (As := []) (rest := []) (fun sz => met_x_reason) (cwl_x_reason hts ⟨Nat.le_of_ble_eq_true rfl, Nat.le_of_ble_eq_true rfl⟩) rfl rfl hl.1 (Nat.le_of_ble_eq_true rfl) dL_law_340 ⟨Nat.le_of_ble_eq_true rfl, Nat.le_of_ble_eq_true rfl⟩ (fun r1 u1 H locs q1 I => ?_)
        obtain ⟨rfl, rfl⟩ := q1
        have I : lI D h a ca h2 a2 ca2 s H locs S E S := I
        refine lv_aload_n hx hb dL_law_343 rfl (lv_at hl 1 rfl) ?_
        refine l_mi F I (As := []) (rest := [.int (sWy S)]) (fun sz => met_m_reason) (cwl_m_reason hts ⟨Nat.le_of_ble_eq_true rfl, Nat.le_of_ble_eq_true rfl⟩) rfl rfl hl.1 (Nat.le_of_ble_eq_true rfl) dL_law_344 ⟨Nat.le_of_ble_eq_true rfl, Nat.le_of_ble_eq_true rfl⟩ (fun r1 u1 H locs q1 I => ?_)
        obtain ⟨rfl, e9⟩ := q1
        rw [e9] at I
        have I : lI D h a ca h2 a2 ca2 s H locs S E S := I
        refine lv_icmp_eq (tgt := 414) hx hb dL_law_347 (by decide) (fun c347 => ?_) (fun c347 => ?_)
        · refine lv_iinc (v := nI (k + 4)) (lv' := [(3, .int (nI (k + 4))), (2, .ref h2), (1, .ref h), (0, .ref b)]) hx hb dL_law_414 hl (k := 0) rfl (nI_add k 4) (by decide) rfl (fun ls hl => ?_)
          refine lv_goto (tgt := 18) hx hb dL_law_417 (by decide) ?_
          exact ih (k + 4) S E _ _ _ (by omega) (by omega) hg hT hp I (lv_sub hl [0, 1, 2, 3] rfl)
        · exact absurd rfl c347
      · refine lv_tableIn (off := 320) (tgt := 352) hx hb dL_law_32 (by decide) (by decide) (by decide) (by decide) ?_
        refine lv_aload_n hx hb dL_law_352 rfl (lv_at hl 2 rfl) ?_
        refine l_xi F I (As := []) (rest := []) (fun sz => met_x_position) (cwl_x_position hts ⟨Nat.le_of_ble_eq_true rfl, Nat.le_of_ble_eq_true rfl⟩) rfl rfl hl.1 (Nat.le_of_ble_eq_true rfl) dL_law_353 ⟨Nat.le_of_ble_eq_true rfl, Nat.le_of_ble_eq_true rfl⟩ (fun r1 u1 H locs q1 I => ?_)
        obtain ⟨rfl, rfl⟩ := q1
        have I : lI D h a ca h2 a2 ca2 s H locs S E S := I
        refine lv_aload_n hx hb dL_law_356 rfl (lv_at hl 1 rfl) ?_
        refine l_mi F I (As := []) (rest := [.int (sAt S)]) (fun sz => met_m_position) (cwl_m_position hts ⟨Nat.le_of_ble_eq_true rfl, Nat.le_of_ble_eq_true rfl⟩) rfl rfl hl.1 (Nat.le_of_ble_eq_true rfl) dL_law_357 ⟨Nat.le_of_ble_eq_true rfl, Nat.le_of_ble_eq_true rfl⟩ (fun r1 u1 H locs q1 I => ?_)
        obtain ⟨rfl, e9⟩ := q1
        rw [e9] at I
        have I : lI D h a ca h2 a2 ca2 s H locs S E S := I
        refine lv_icmp_eq (tgt := 414) hx hb dL_law_360 (by decide) (fun c360 => ?_) (fun c360 => ?_)
        · refine lv_iinc (v := nI (k + 4)) (lv' := [(3, .int (nI (k + 4))), (2, .ref h2), (1, .ref h), (0, .ref b)]) hx hb dL_law_414 hl (k := 0) rfl (nI_add k 4) (by decide) rfl (fun ls hl => ?_)
          refine lv_goto (tgt := 18) hx hb dL_law_417 (by decide) ?_
          exact ih (k + 4) S E _ _ _ (by omega) (by omega) hg hT hp I (lv_sub hl [0, 1, 2, 3] rfl)
        · exact absurd rfl c360
      · refine lv_tableIn (off := 333) (tgt := 365) hx hb dL_law_32 (by decide) (by decide) (by decide) (by decide) ?_
        refine lv_aload_n hx hb dL_law_365 rfl (lv_at hl 2 rfl) ?_
        refine lv_aload_n hx hb dL_law_366 rfl (lv_at hl 3 rfl) ?_
        refine lv_iload_n hx hb dL_law_367 rfl (lv_at hl 0 rfl) ?_
        refine lv_iconst (v := 1) hx hb dL_law_368 (by decide) ?_
        refine lv_iadd hx hb dL_law_369 ?_
        refine lv_topi (fun y9 e9 => ?_)
        rw [show (1 : Int32) = nI 1 from rfl, nI_add] at e9
        subst e9
        refine va_sld hx hb hX hbl hbA I.2.2.2 (vp_in_nI (by omega) (by omega)) dL_law_370 ?_
        refine l_xi F I (As := [.int (xs (nI (k + 1)).toNatClampNeg)]) (rest := []) (fun sz => met_x_peek (xs (nI (k + 1)).toNatClampNeg) hg) (cwl_x_peek hts ⟨Nat.le_of_ble_eq_true rfl, Nat.le_of_ble_eq_true rfl⟩) rfl rfl hl.1 (Nat.le_of_ble_eq_true rfl) dL_law_371 ⟨Nat.le_of_ble_eq_true rfl, Nat.le_of_ble_eq_true rfl⟩ (fun r1 u1 H locs q1 I => ?_)
        obtain ⟨rfl, rfl⟩ := q1
        have I : lI D h a ca h2 a2 ca2 s H locs S E S := I
        refine lv_aload_n hx hb dL_law_374 rfl (lv_at hl 1 rfl) ?_
        refine lv_aload_n hx hb dL_law_375 rfl (lv_at hl 3 rfl) ?_
        refine lv_iload_n hx hb dL_law_376 rfl (lv_at hl 0 rfl) ?_
        refine lv_iconst (v := 1) hx hb dL_law_377 (by decide) ?_
        refine lv_iadd hx hb dL_law_378 ?_
        refine lv_topi (fun y9 e9 => ?_)
        rw [show (1 : Int32) = nI 1 from rfl, nI_add] at e9
        subst e9
        refine va_sld hx hb hX hbl hbA I.2.2.2 (vp_in_nI (by omega) (by omega)) dL_law_379 ?_
        refine l_mi F I (As := [.int (xs (nI (k + 1)).toNatClampNeg)]) (rest := [.int (pkR S (xs (nI (k + 1)).toNatClampNeg))]) (fun sz => met_m_peek (xs (nI (k + 1)).toNatClampNeg) hg) (cwl_m_peek hts ⟨Nat.le_of_ble_eq_true rfl, Nat.le_of_ble_eq_true rfl⟩) rfl rfl hl.1 (Nat.le_of_ble_eq_true rfl) dL_law_380 ⟨Nat.le_of_ble_eq_true rfl, Nat.le_of_ble_eq_true rfl⟩ (fun r1 u1 H locs q1 I => ?_)
        obtain ⟨rfl, e9⟩ := q1
        rw [e9] at I
        have I : lI D h a ca h2 a2 ca2 s H locs S E S := I
        refine lv_icmp_eq (tgt := 414) hx hb dL_law_383 (by decide) (fun c383 => ?_) (fun c383 => ?_)
        · refine lv_iinc (v := nI (k + 4)) (lv' := [(3, .int (nI (k + 4))), (2, .ref h2), (1, .ref h), (0, .ref b)]) hx hb dL_law_414 hl (k := 0) rfl (nI_add k 4) (by decide) rfl (fun ls hl => ?_)
          refine lv_goto (tgt := 18) hx hb dL_law_417 (by decide) ?_
          exact ih (k + 4) S E _ _ _ (by omega) (by omega) hg hT hp I (lv_sub hl [0, 1, 2, 3] rfl)
        · exact absurd rfl c383
      · refine lv_tableIn (off := 356) (tgt := 388) hx hb dL_law_32 (by decide) (by decide) (by decide) (by decide) ?_
        refine lv_aload_n hx hb dL_law_388 rfl (lv_at hl 2 rfl) ?_
        refine l_xi F I (As := []) (rest := []) (fun sz => met_x_depth) (cwl_x_depth hts ⟨Nat.le_of_ble_eq_true rfl, Nat.le_of_ble_eq_true rfl⟩) rfl rfl hl.1 (Nat.le_of_ble_eq_true rfl) dL_law_389 ⟨Nat.le_of_ble_eq_true rfl, Nat.le_of_ble_eq_true rfl⟩ (fun r1 u1 H locs q1 I => ?_)
        obtain ⟨rfl, rfl⟩ := q1
        have I : lI D h a ca h2 a2 ca2 s H locs S E S := I
        refine lv_aload_n hx hb dL_law_392 rfl (lv_at hl 1 rfl) ?_
        refine l_mi F I (As := []) (rest := [.int (sLv S)]) (fun sz => met_m_depth) (cwl_m_depth hts ⟨Nat.le_of_ble_eq_true rfl, Nat.le_of_ble_eq_true rfl⟩) rfl rfl hl.1 (Nat.le_of_ble_eq_true rfl) dL_law_393 ⟨Nat.le_of_ble_eq_true rfl, Nat.le_of_ble_eq_true rfl⟩ (fun r1 u1 H locs q1 I => ?_)
        obtain ⟨rfl, e9⟩ := q1
        rw [e9] at I
        have I : lI D h a ca h2 a2 ca2 s H locs S E S := I
        refine lv_icmp_eq (tgt := 414) hx hb dL_law_396 (by decide) (fun c396 => ?_) (fun c396 => ?_)
        · refine lv_iinc (v := nI (k + 4)) (lv' := [(3, .int (nI (k + 4))), (2, .ref h2), (1, .ref h), (0, .ref b)]) hx hb dL_law_414 hl (k := 0) rfl (nI_add k 4) (by decide) rfl (fun ls hl => ?_)
          refine lv_goto (tgt := 18) hx hb dL_law_417 (by decide) ?_
          exact ih (k + 4) S E _ _ _ (by omega) (by omega) hg hT hp I (lv_sub hl [0, 1, 2, 3] rfl)
        · exact absurd rfl c396
      · refine lv_tableIn (off := 369) (tgt := 401) hx hb dL_law_32 (by decide) (by decide) (by decide) (by decide) ?_
        refine lv_aload_n hx hb dL_law_401 rfl (lv_at hl 2 rfl) ?_
        refine l_xi F I (As := []) (rest := []) (fun sz => met_x_steps) (cwl_x_steps hts ⟨Nat.le_of_ble_eq_true rfl, Nat.le_of_ble_eq_true rfl⟩) rfl rfl hl.1 (Nat.le_of_ble_eq_true rfl) dL_law_402 ⟨Nat.le_of_ble_eq_true rfl, Nat.le_of_ble_eq_true rfl⟩ (fun r1 u1 H locs q1 I => ?_)
        obtain ⟨rfl, rfl⟩ := q1
        have I : lI D h a ca h2 a2 ca2 s H locs S E S := I
        refine lv_aload_n hx hb dL_law_405 rfl (lv_at hl 1 rfl) ?_
        refine l_mi F I (As := []) (rest := [.int (sCt S)]) (fun sz => met_m_steps) (cwl_m_steps hts ⟨Nat.le_of_ble_eq_true rfl, Nat.le_of_ble_eq_true rfl⟩) rfl rfl hl.1 (Nat.le_of_ble_eq_true rfl) dL_law_406 ⟨Nat.le_of_ble_eq_true rfl, Nat.le_of_ble_eq_true rfl⟩ (fun r1 u1 H locs q1 I => ?_)
        obtain ⟨rfl, e9⟩ := q1
        rw [e9] at I
        have I : lI D h a ca h2 a2 ca2 s H locs S E S := I
        refine lv_icmp_eq (tgt := 414) hx hb dL_law_409 (by decide) (fun c409 => ?_) (fun c409 => ?_)
        · refine lv_iinc (v := nI (k + 4)) (lv' := [(3, .int (nI (k + 4))), (2, .ref h2), (1, .ref h), (0, .ref b)]) hx hb dL_law_414 hl (k := 0) rfl (nI_add k 4) (by decide) rfl (fun ls hl => ?_)
          refine lv_goto (tgt := 18) hx hb dL_law_417 (by decide) ?_
          exact ih (k + 4) S E _ _ _ (by omega) (by omega) hg hT hp I (lv_sub hl [0, 1, 2, 3] rfl)
        · exact absurd rfl c409
set_option maxHeartbeats 4000000 in
set_option maxRecDepth 100000 in
/-- THE LAW, from its entry -/
theorem whole_start {p : Program} {e : Env} {s : State} {m : MethodId} {below : List Frame} {meth : Method} {c : Code} (l : Launch) {b L : Nat} {xs : Nat → Int32} (hL : L ≤ 256) (C0 : lw_At p s m meth c b L xs) : W p l e room_1 s m #[Value.ref b] below meth c s.heap [] 0 0 (lw_Z below #[Value.ref b] s) (entryFrame m ([Value.ref b] : List Value).toArray 4) := by
  obtain ⟨hx, hb, hr, hml, hown, hts0, hX, hbl, hlocks, hgv⟩ := id C0
  have hts : ∀ w ∈ lw_all, w.before #[Value.ref b] s = true := fun w h => hts0 w (lw_all_tbl h)
  have hA : ∀ q : Nat, s.heap.size ≤ q → (fun q : Nat => s.heap.size ≤ q) q := fun _ h => h
  obtain ⟨c0, iS0, hKn0⟩ := u_known (C := RX0) (T := TX0) (N := 18) (n := 18) hts0 (fun w h => lw_all_tbl (in_X0 w h)) (hts _ q22)
  obtain ⟨c1, iS1, hKn1⟩ := u_known (C := RX1) (T := TX1) (N := 13) (n := 13) hts0 (fun w h => lw_all_tbl (in_X1 w h)) (hts _ q203)
  obtain ⟨dC, dI, hKc0⟩ : ∃ (dC : Nat → ClassId) (dI : Nat → Nat → Nat), ∀ (k : Nat) (q : vw_C), vwCl[k]? = some q → u_Kn s q.1 q.2.1 q.2.2 (dC k) (dI k) := by
    refine ⟨fun k => if k = 0 then c0 else c1, fun k => if k = 0 then iS0 else iS1, ?_⟩
    intro k q hq
    match k, hq with
    | 0, hq => cases hq; exact hKn0
    | 1, hq => cases hq; exact hKn1
    | k + 2, hq => simp [vwCl] at hq
  generalize hDe : ((dC, dI) : va_G) = D
  have hS : va_S (fun q : Nat => s.heap.size ≤ q) s.heap s.heap [] := va_S.rf
  have hK : va_K D vwCl [] s := ⟨by rw [← hDe]; exact hKc0, fun k q h => by simp at h⟩
  have hP : va_P D vwCl [] s.heap := fun k q h => by simp at h
  have hD : va_D (fun q : Nat => s.heap.size ≤ q) [] := ⟨fun i j p q h => by simp at h, fun k q h => by simp at h⟩
  have hl := lv_entry ([.ref b]) (n := 4) (Nat.le_of_ble_eq_true rfl)
  rw [lg_entry_eq]
  generalize (lg_sl ([.ref b]) ++ List.replicate (4 - (lg_sl ([.ref b])).length) Slot.unset).toArray = ls at hl ⊢
  have hl : lv_has ls 4 [(0, .ref b)] := hl
  refine va_new (ci := 0) (fs := xF0) (C := RX0) (T := TX0) (N := 18) hx hb hts in_X0 tyX0 tyX0_ok hown (hts _ q21) (hts _ q22) (hts _ q19) hK hP hD hS hA rfl (fun j hj => by rcases (show j = 0 ∨ j = 1 ∨ j = 2 ∨ j = 3 ∨ j = 4 ∨ j = 5 ∨ j = 6 ∨ j = 7 ∨ j = 8 ∨ j = 9 ∨ j = 10 ∨ j = 11 ∨ j = 12 ∨ j = 13 ∨ j = 14 ∨ j = 15 ∨ j = 16 ∨ j = 17 by omega) with rfl | rfl | rfl | rfl | rfl | rfl | rfl | rfl | rfl | rfl | rfl | rfl | rfl | rfl | rfl | rfl | rfl | rfl <;> rfl) (Nat.le_of_ble_eq_true rfl) (Nat.le_of_ble_eq_true rfl) dL_law_0 (fun qx H hP hD hS => ?_)
  have hP : va_P D vwCl [(qx, .inr (0, xF0))] H := hP
  have hD : va_D (fun q : Nat => s.heap.size ≤ q) [(qx, .inr (0, xF0))] := hD
  refine W.widen (k := 1) (n := 18) (Nat.le_of_ble_eq_true rfl) (Nat.le_of_ble_eq_true rfl) ?_
  refine lv_dup hx hb dL_law_3 rfl ?_
  have hPc := hP.sub (ws' := [(qx, .inr (0, xF0))]) [0] rfl
  have hDc := hD.sub (ws' := [(qx, .inr (0, xF0))]) [0] (by decide) rfl
  have hKc := hK.sub (tys' := []) [] rfl
  have hFc := va_free (wc := [(qx, .inr (0, xF0))]) hD hS hA [0] rfl
  refine va_callv (va_runI (As := []) (rest := [.ref qx]) ⟨hx, hb, hml, hown, hts⟩ (met_x_init (l := l) (D := D) (h := qx) (sz := H.size)) (cwI 0 hts (lw_meth q25) rfl rfl rfl (hts _ q19) (hts _ q23) (hts _ q24) rfl (by decide +kernel) ⟨Nat.le_of_ble_eq_true rfl, Nat.le_of_ble_eq_true rfl⟩) ⟨fun a U g mk q => by obtain ⟨q0, q1, qP, qK, qD⟩ := q; exact ⟨q0, q1, qP, va_K.moved (u := U) (U := U.calling g mk a) (Vm.Alike.refl U.vm) qK, qD⟩, fun U hU hW => ⟨rfl, by rw [hU], by rw [hU]; exact hPc, va_K.moved hW.alike hKc, hDc.weaken (fun _ _ _ _ => trivial)⟩⟩ rfl rfl hl.1 rfl (lv_room (Nat.le_of_ble_eq_true rfl)) dL_law_4 ⟨Nat.le_of_ble_eq_true rfl, Nat.le_of_ble_eq_true rfl⟩) hS (fun q _ h => hFc q h) hFc (fun ua t H1 locs ht hvm hw1 hB hz1 hk1 hS => ?_)
  obtain ⟨hP1, hK1, hD1⟩ := hB
  rw [ht] at hP1
  have hK1 := va_K.moved hvm.symm hK1
  obtain ⟨hP, hD⟩ := va_join (wr := []) (w1 := xW qx ua.1 ua.2 S00 E00) hP hD [0] [] rfl rfl (by decide) (by decide) hk1 hFc hP1 hD1
  have hK := hK.app hK1
  generalize H1 = H at hP hS ⊢
  refine W.widen (k := 8) (n := 116) (Nat.le_of_ble_eq_true rfl) (Nat.le_of_ble_eq_true rfl) ?_
  refine lv_astore_n (lv' := [(1, .ref qx), (0, .ref b)]) hx hb dL_law_7 rfl hl (by decide) rfl (fun ls hl => ?_)
  have hP : va_P D vwCl (xW qx ua.1 ua.2 S00 E00) H := hP
  have hD : va_D (fun q : Nat => s.heap.size ≤ q) (xW qx ua.1 ua.2 S00 E00) := hD
  have hK : va_K D vwCl (xT ua.2) s := hK
  refine va_new (ci := 1) (fs := mF0) (C := RX1) (T := TX1) (N := 13) hx hb hts in_X1 tyX1 tyX1_ok hown (hts _ q202) (hts _ q203) (hts _ q20) hK hP hD hS hA rfl (fun j hj => by rcases (show j = 0 ∨ j = 1 ∨ j = 2 ∨ j = 3 ∨ j = 4 ∨ j = 5 ∨ j = 6 ∨ j = 7 ∨ j = 8 ∨ j = 9 ∨ j = 10 ∨ j = 11 ∨ j = 12 by omega) with rfl | rfl | rfl | rfl | rfl | rfl | rfl | rfl | rfl | rfl | rfl | rfl | rfl <;> rfl) (Nat.le_of_ble_eq_true rfl) (Nat.le_of_ble_eq_true rfl) dL_law_8 (fun qm H hP hD hS => ?_)
  have hP : va_P D vwCl ((xW qx ua.1 ua.2 S00 E00) ++ [(qm, .inr (1, mF0))]) H := hP
  have hD : va_D (fun q : Nat => s.heap.size ≤ q) ((xW qx ua.1 ua.2 S00 E00) ++ [(qm, .inr (1, mF0))]) := hD
  refine W.widen (k := 9) (n := 129) (Nat.le_of_ble_eq_true rfl) (Nat.le_of_ble_eq_true rfl) ?_
  refine lv_dup hx hb dL_law_11 rfl ?_
  have hPc := hP.sub (ws' := [(qm, .inr (1, mF0))]) [8] rfl
  have hDc := hD.sub (ws' := [(qm, .inr (1, mF0))]) [8] (by decide) rfl
  have hKc := hK.sub (tys' := []) [] rfl
  have hFc := va_free (wc := [(qm, .inr (1, mF0))]) hD hS hA [8] rfl
  refine va_callv (va_runI (As := []) (rest := [.ref qm]) ⟨hx, hb, hml, hown, hts⟩ (met_m_init (l := l) (D := D) (h := qm) (sz := H.size)) (cwI 0 hts (lw_meth q206) rfl rfl rfl (hts _ q20) (hts _ q204) (hts _ q205) rfl (by decide +kernel) ⟨Nat.le_of_ble_eq_true rfl, Nat.le_of_ble_eq_true rfl⟩) ⟨fun a U g mk q => by obtain ⟨q0, q1, qP, qK, qD⟩ := q; exact ⟨q0, q1, qP, va_K.moved (u := U) (U := U.calling g mk a) (Vm.Alike.refl U.vm) qK, qD⟩, fun U hU hW => ⟨rfl, by rw [hU], by rw [hU]; exact hPc, va_K.moved hW.alike hKc, hDc.weaken (fun _ _ _ _ => trivial)⟩⟩ rfl rfl hl.1 rfl (lv_room (Nat.le_of_ble_eq_true rfl)) dL_law_12 ⟨Nat.le_of_ble_eq_true rfl, Nat.le_of_ble_eq_true rfl⟩) hS (fun q _ h => hFc q h) hFc (fun ub t H1 locs ht hvm hw1 hB hz1 hk1 hS => ?_)
  obtain ⟨hP1, hK1, hD1⟩ := hB
  rw [ht] at hP1
  have hK1 := va_K.moved hvm.symm hK1
  obtain ⟨hP, hD⟩ := va_join (wr := (xW qx ua.1 ua.2 S00 E00)) (w1 := mW qm ub.1 ub.2 S00) hP hD [8] [0, 1, 2, 3, 4, 5, 6, 7] rfl rfl (by decide) (by decide) hk1 hFc hP1 hD1
  have hK := hK.app hK1
  generalize H1 = H at hP hS ⊢
  refine W.widen (k := 15) (n := 207) (Nat.le_of_ble_eq_true rfl) (Nat.le_of_ble_eq_true rfl) ?_
  refine lv_astore_n (lv' := [(2, .ref qm), (1, .ref qx), (0, .ref b)]) hx hb dL_law_15 rfl hl (by decide) rfl (fun ls hl => ?_)
  refine lv_iconst (v := 0) hx hb dL_law_16 (by decide) ?_
  refine lv_istore_n (lv' := [(3, .int 0), (2, .ref qm), (1, .ref qx), (0, .ref b)]) hx hb dL_law_17 rfl hl (by decide) rfl (fun ls hl => ?_)
  exact law_loop l hL C0 (L + 4) 0 S00 E00 _ _ _ (by omega) (by omega) gd_00 noT_00 rfl ⟨hK, hP, hD, hS⟩ hl
end
section
set_option maxHeartbeats 4000000 in
theorem lw_walk (l : Launch) (b : Addr) (xs : List Int32) : MetFree l x (headSpec (Jvm.Cond.code x code maxLocals ret :: tables_1) room_1) (lw_P b xs) (fun _ _ _ _ _ => True) lw_Q := by
  refine MetFree.of_bodyS (code := code) (maxLocals := maxLocals) (ret := ret) (by decide) ?_ ?_
  · intro args s m h hn
    obtain ⟨meth, c, h1, h2, h3, h4, h5, h6, -, -⟩ := Cond.code_spec hn (atoms_spec (ws := Jvm.Cond.code x code maxLocals ret :: tables_1) h _ List.mem_cons_self)
    exact ⟨meth, c, h1, h2, h3, h4, h5, h6⟩
  · intro p e s m args below meth c s₁ B hml0 hP _
    obtain ⟨rfl, hx, hbd, hgv⟩ := hP
    obtain ⟨scr, harrAt, hlist, hof, hsmall⟩ := hx
    obtain ⟨hcb, hkn, -, -⟩ := State.arrayAt?_spec harrAt
    have hown : s.vm.findClass R_law = some m.cls := findClass_of_methodNamed B.named
    have hts0 : ∀ c ∈ (Jvm.Cond.code x code maxLocals ret :: tables_1), c.before #[Value.ref b] s = true := atoms_spec (ws := Jvm.Cond.code x code maxLocals ret :: tables_1) B.pre
    have hts : ∀ w ∈ lw_tbl, w.before #[Value.ref b] s = true := k2_hts_sels lw_privs (fun w hw => hts0 w (List.mem_cons_of_mem _ hw)) lw_privs_ok
    have hml : c.maxLocals = 4 := B.maxLocals_eq (hts0 _ List.mem_cons_self)
    have X₀ : Stand p l e room_1 s m #[Value.ref b] below meth c s₁ [] 0 0 := Stand.of_body B
    have hh0 : s₁.heap = s.heap := by rw [B.state]; rfl
    have hsz : scr.slots.size = xs.length := by rw [← Array.length_toList, hlist, List.length_map]
    have hval : ∀ j : Nat, j < xs.length → scr.slots[j]? = some (.int (xs.getD j 0)) := fun j hj => by
      rw [← Array.getElem?_toList, hlist]
      simp [hj]
    have hbl : b < s.heap.size := (Array.getElem?_eq_some_iff.mp hcb).1
    have hX : va_X b xs.length (fun j => xs.getD j 0) s s.heap := ⟨scr, hcb, hof, hkn, hsz, hval⟩
    have K : W p l e room_1 s m #[Value.ref b] below meth c s₁.heap [] 0 0 (lw_Z below #[Value.ref b] s) (entryFrame m ([Value.ref b] : List Value).toArray 4) := by
      rw [hh0]
      exact whole_start l hbd ⟨B.exec, B.bytes, B.returns, hml, hown, hts, hX, hbl, B.notSynchronized, hgv⟩
    obtain ⟨t, a1, o, b1, b2, b3⟩ := K s₁ rfl X₀
    exact ⟨t, o, a1, b1, b2, b3⟩
theorem lw_pre_spec {args : Array Value} {s : State} (h : (Jvm.Cond.and given_1 narrow_1).before args s = true) (hr : rest_1_c.before args s = true) : ∃ (b : Addr) (xs : List Int32), lw_P b xs args s := by
  have hs := flat_of_before _ h
  have hq := flat_of_before _ hr
  have hc : (Cond.count 1).before args s = true := hs _ (by decide +kernel)
  have harr : (Cond.arrayOf (.arg 0) .int).before args s = true := hs _ (by decide +kernel)
  have hle : (Cond.le (.length (.arg 0)) (.int 256)).before args s = true := hs _ (by decide +kernel)
  have hlen : (Cond.isInt (.length (.arg 0))).before args s = true := hq _ (by decide +kernel)
  have hall : (Cond.all (.arg 0) (.isInt (.elem (.arg 0) (.index 0)))).before args s = true := hq _ (by decide +kernel)
  obtain ⟨b, xs, hb, hx⟩ := State.ints_of_pre rfl harr hlen hall
  have hsm : xs.length < 2 ^ 31 := hx.choose_spec.2.2.2
  have hev : (Term.length (.arg 0)).eval args s none [] s = some (.int xs.length.toInt32) := hx.length_eval hb
  have hv := Cond.le_ints hev (show (Term.int 256).eval args s none [] s = some (.int 256) from rfl)
  have hd : xs.length.toInt32 ≤ 256 := by
    simpa [Cond.before, Cond.holds, hv] using hle
  have hN : xs.length ≤ 256 := (Int32.ofNat_le_ofNat hsm (by decide)).mp (show Int32.ofNat xs.length ≤ Int32.ofNat 256 from hd)
  exact ⟨b, xs, Cond.one_arg hc (show args[0]? = some (.ref b) from hb), hx, hN, h⟩
theorem lw_comes (l : Launch) : Comes l x (Jvm.Cond.code x code maxLocals ret :: tables_1) room_1 (fun tb e args s => Calls_1 tb e args s ∧ rest_1 tb e args s ∧ Pre_1 tb e args s)
    (fun _ _ args s o t => lw_Q args s o t) := by
  intro p e ha hc hk s m args below hf hfit hheap happ hpre
  obtain ⟨b, xs, hP⟩ := lw_pre_spec hpre.2.2 hpre.2.1
  obtain ⟨k, o, h1, h2, h3, hQ⟩ := lw_walk l b xs p e ha hc hk s m args below hf ((Spec.applies_iff_loose hf).mp happ).1 hP trivial
  exact ⟨k, o, h1, h2, h3, hQ⟩
theorem lw_frame {s t : State} {o : Outcome} {args : Array Value} (h : Framed s o t [] 600000 7290000) :
    Framed s o t (fieldLocs frame_1_writes args s ++ arrayLocs frame_1_arrays args s ++ staticLocs frame_1_statics s) 600000 7290000 := h
theorem lw_limb (L : Cond) (hL : ∀ (args : Array Value) (s t : State), L.after args s (.returned (some (.int 1))) t = true) :
    ArmFor flags0 classFile x code maxLocals ret World_1 tables_1 room_1 Calls_1 rest_1 Pre_1
      (fun tb e a s o t => postC L tb e a s o t ∧ Framed s o t (fieldLocs frame_1_writes a s ++ arrayLocs frame_1_arrays a s ++ staticLocs frame_1_statics s) 600000 7290000) := by
  intro l _ _ _ p e ha hc hk s m args below hf hfit hheap happ hpre
  obtain ⟨k, o, h1, h2, h3, rfl, hF⟩ := lw_comes l p e ha hc hk s m args below hf hfit hheap happ hpre
  exact ⟨k, _, h1, h2, h3, hL args s _, lw_frame hF⟩
theorem i_vc : Claimed_1_1 ∧ Claimed_1_2 := ⟨lw_limb limb_1_1 (fun args s t => by simp [limb_1_1, Cond.after, Cond.holds, Cond.value]), lw_limb limb_1_2 (fun args s t => Cond.after_iff.mpr (by
  first | (rw [show limb_1_2 = Cond.eq .result (.int 1) from rfl, Cond.eq_ints (x := 1) (y := 1) rfl rfl]; simp; done) | (simp [limb_1_2, Cond.value, Term.eval]; done)))⟩
end
