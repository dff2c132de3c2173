section
-- ===== PART A: goes FIRST, ahead of the names: the tables' words, and 'selects' of the private methods out of them =====
/-- a private method of a class that the tables say can be made, by its rows of tables_1 -/
def lw_okq (q : MethodName × Nat) : Prop := (q.1.cls ≠ "java/lang/invoke/MethodHandle" ∧ q.1.cls ≠ "java/lang/invoke/VarHandle") ∧ Cond.instantiable q.1.cls q.2 ∈ tables_1 ∧ Cond.privateMethod q.1 ∈ tables_1 ∧ Cond.instanceMethod q.1 ∈ tables_1
set_option maxRecDepth 100000
theorem lw_p0 : lw_okq (⟨"ModSolver", "noEquation", "(I)Z"⟩, 7) := ⟨⟨by decide +kernel, by decide +kernel⟩, List.mem_of_getElem? (i := 4) rfl, List.mem_of_getElem? (i := 45) rfl, List.mem_of_getElem? (i := 46) rfl⟩
theorem lw_p1 : lw_okq (⟨"ModSolver", "solve", "()V"⟩, 7) := ⟨⟨by decide +kernel, by decide +kernel⟩, List.mem_of_getElem? (i := 4) rfl, List.mem_of_getElem? (i := 64) rfl, List.mem_of_getElem? (i := 65) rfl⟩
theorem lw_p2 : lw_okq (⟨"ModSolver", "onSet", "()I"⟩, 7) := ⟨⟨by decide +kernel, by decide +kernel⟩, List.mem_of_getElem? (i := 4) rfl, List.mem_of_getElem? (i := 68) rfl, List.mem_of_getElem? (i := 69) rfl⟩
theorem lw_p3 : lw_okq (⟨"ModSolver", "solveSet", "(I)V"⟩, 7) := ⟨⟨by decide +kernel, by decide +kernel⟩, List.mem_of_getElem? (i := 4) rfl, List.mem_of_getElem? (i := 72) rfl, List.mem_of_getElem? (i := 73) rfl⟩
theorem lw_p4 : lw_okq (⟨"ModSolver", "load", "(I)V"⟩, 7) := ⟨⟨by decide +kernel, by decide +kernel⟩, List.mem_of_getElem? (i := 4) rfl, List.mem_of_getElem? (i := 76) rfl, List.mem_of_getElem? (i := 77) rfl⟩
theorem lw_p5 : lw_okq (⟨"ModSolver", "reduce", "()I"⟩, 7) := ⟨⟨by decide +kernel, by decide +kernel⟩, List.mem_of_getElem? (i := 4) rfl, List.mem_of_getElem? (i := 80) rfl, List.mem_of_getElem? (i := 81) rfl⟩
theorem lw_p6 : lw_okq (⟨"ModSolver", "keep", "(I)V"⟩, 7) := ⟨⟨by decide +kernel, by decide +kernel⟩, List.mem_of_getElem? (i := 4) rfl, List.mem_of_getElem? (i := 84) rfl, List.mem_of_getElem? (i := 85) rfl⟩
theorem lw_p7 : lw_okq (⟨"ModSolver", "waysFrom", "(I)I"⟩, 7) := ⟨⟨by decide +kernel, by decide +kernel⟩, List.mem_of_getElem? (i := 4) rfl, List.mem_of_getElem? (i := 91) rfl, List.mem_of_getElem? (i := 92) rfl⟩
theorem lw_p8 : lw_okq (⟨"ModSolver", "solutionAt", "(I)I"⟩, 7) := ⟨⟨by decide +kernel, by decide +kernel⟩, List.mem_of_getElem? (i := 4) rfl, List.mem_of_getElem? (i := 99) rfl, List.mem_of_getElem? (i := 100) rfl⟩
theorem lw_p9 : lw_okq (⟨"ModSolver", "resultOf", "(II)I"⟩, 7) := ⟨⟨by decide +kernel, by decide +kernel⟩, List.mem_of_getElem? (i := 4) rfl, List.mem_of_getElem? (i := 103) rfl, List.mem_of_getElem? (i := 104) rfl⟩
theorem lw_p10 : lw_okq (⟨"ModSolver", "varies", "(I)Z"⟩, 7) := ⟨⟨by decide +kernel, by decide +kernel⟩, List.mem_of_getElem? (i := 4) rfl, List.mem_of_getElem? (i := 111) rfl, List.mem_of_getElem? (i := 112) rfl⟩
theorem lw_p11 : lw_okq (⟨"ModSolverModel", "positive", "(I)I"⟩, 6) := ⟨⟨by decide +kernel, by decide +kernel⟩, List.mem_of_getElem? (i := 137) rfl, List.mem_of_getElem? (i := 166) rfl, List.mem_of_getElem? (i := 167) rfl⟩
theorem lw_p12 : lw_okq (⟨"ModSolverModel", "bad", "(I)Z"⟩, 6) := ⟨⟨by decide +kernel, by decide +kernel⟩, List.mem_of_getElem? (i := 137) rfl, List.mem_of_getElem? (i := 175) rfl, List.mem_of_getElem? (i := 176) rfl⟩
theorem lw_p13 : lw_okq (⟨"ModSolverModel", "before", "(I)I"⟩, 6) := ⟨⟨by decide +kernel, by decide +kernel⟩, List.mem_of_getElem? (i := 137) rfl, List.mem_of_getElem? (i := 191) rfl, List.mem_of_getElem? (i := 192) rfl⟩
theorem lw_p14 : lw_okq (⟨"ModSolverModel", "workOut", "()V"⟩, 6) := ⟨⟨by decide +kernel, by decide +kernel⟩, List.mem_of_getElem? (i := 137) rfl, List.mem_of_getElem? (i := 195) rfl, List.mem_of_getElem? (i := 196) rfl⟩
theorem lw_p15 : lw_okq (⟨"ModSolverModel", "brokenBy", "(IIII)I"⟩, 6) := ⟨⟨by decide +kernel, by decide +kernel⟩, List.mem_of_getElem? (i := 137) rfl, List.mem_of_getElem? (i := 199) rfl, List.mem_of_getElem? (i := 200) rfl⟩
def lw_privs_1 : List (MethodName × Nat) := [(⟨"ModSolver", "noEquation", "(I)Z"⟩, 7), (⟨"ModSolver", "solve", "()V"⟩, 7), (⟨"ModSolver", "onSet", "()I"⟩, 7), (⟨"ModSolver", "solveSet", "(I)V"⟩, 7), (⟨"ModSolver", "load", "(I)V"⟩, 7), (⟨"ModSolver", "reduce", "()I"⟩, 7), (⟨"ModSolver", "keep", "(I)V"⟩, 7), (⟨"ModSolver", "waysFrom", "(I)I"⟩, 7), (⟨"ModSolver", "solutionAt", "(I)I"⟩, 7), (⟨"ModSolver", "resultOf", "(II)I"⟩, 7), (⟨"ModSolver", "varies", "(I)Z"⟩, 7), (⟨"ModSolverModel", "positive", "(I)I"⟩, 6), (⟨"ModSolverModel", "bad", "(I)Z"⟩, 6), (⟨"ModSolverModel", "before", "(I)I"⟩, 6), (⟨"ModSolverModel", "workOut", "()V"⟩, 6), (⟨"ModSolverModel", "brokenBy", "(IIII)I"⟩, 6)]
theorem lw_r1 : ∀ q ∈ lw_privs_1, lw_okq q := List.forall_mem_cons.mpr ⟨lw_p0, List.forall_mem_cons.mpr ⟨lw_p1, List.forall_mem_cons.mpr ⟨lw_p2, List.forall_mem_cons.mpr ⟨lw_p3, List.forall_mem_cons.mpr ⟨lw_p4, List.forall_mem_cons.mpr ⟨lw_p5, List.forall_mem_cons.mpr ⟨lw_p6, List.forall_mem_cons.mpr ⟨lw_p7, List.forall_mem_cons.mpr ⟨lw_p8, List.forall_mem_cons.mpr ⟨lw_p9, List.forall_mem_cons.mpr ⟨lw_p10, List.forall_mem_cons.mpr ⟨lw_p11, List.forall_mem_cons.mpr ⟨lw_p12, List.forall_mem_cons.mpr ⟨lw_p13, List.forall_mem_cons.mpr ⟨lw_p14, List.forall_mem_cons.mpr ⟨lw_p15, fun _ h => absurd h List.not_mem_nil⟩⟩⟩⟩⟩⟩⟩⟩⟩⟩⟩⟩⟩⟩⟩⟩
theorem lw_p16 : lw_okq (⟨"ModSolverModel", "ons", "()I"⟩, 6) := ⟨⟨by decide +kernel, by decide +kernel⟩, List.mem_of_getElem? (i := 137) rfl, List.mem_of_getElem? (i := 203) rfl, List.mem_of_getElem? (i := 204) rfl⟩
theorem lw_p17 : lw_okq (⟨"ModSolverModel", "digit", "(II)I"⟩, 6) := ⟨⟨by decide +kernel, by decide +kernel⟩, List.mem_of_getElem? (i := 137) rfl, List.mem_of_getElem? (i := 211) rfl, List.mem_of_getElem? (i := 212) rfl⟩
theorem lw_p18 : lw_okq (⟨"ModSolverModel", "meeting", "(I)I"⟩, 6) := ⟨⟨by decide +kernel, by decide +kernel⟩, List.mem_of_getElem? (i := 137) rfl, List.mem_of_getElem? (i := 236) rfl, List.mem_of_getElem? (i := 237) rfl⟩
def lw_privs_2 : List (MethodName × Nat) := [(⟨"ModSolverModel", "ons", "()I"⟩, 6), (⟨"ModSolverModel", "digit", "(II)I"⟩, 6), (⟨"ModSolverModel", "meeting", "(I)I"⟩, 6)]
theorem lw_r2 : ∀ q ∈ lw_privs_2, lw_okq q := List.forall_mem_cons.mpr ⟨lw_p16, List.forall_mem_cons.mpr ⟨lw_p17, List.forall_mem_cons.mpr ⟨lw_p18, fun _ h => absurd h List.not_mem_nil⟩⟩⟩
def lw_privs : List (MethodName × Nat) := lw_privs_1 ++ (lw_privs_2)
def lw_tbl : List Cond := k2_sels lw_privs ++ tables_1
theorem lw_privs_ok : ∀ q ∈ lw_privs, lw_okq q := by
  show ∀ q ∈ lw_privs_1 ++ (lw_privs_2), lw_okq q
  exact List.forall_mem_append.mpr ⟨lw_r1, lw_r2⟩
-- ===== ONE list of words for every method: the tables' words that hold all through a run =====
def lw_all : List Cond := lw_tbl.filter goodWord
/-- a word of the tables by its place: claim/WORDS.tsv -/
theorem lw_w {w : Cond} (i : Nat) (h : lw_tbl[i]? = some w) (g : goodWord w = true) : w ∈ lw_all := List.mem_filter.mpr ⟨List.mem_of_getElem? h, g⟩
theorem lw_all_tbl {w : Cond} (h : w ∈ lw_all) : w ∈ lw_tbl := (List.mem_filter.mp h).1
theorem lw_self : GoodIn lw_all lw_all := fun w h => ⟨h, good_of_word (List.mem_filter.mp h).2⟩
/-- a class's field words, by their places -/
theorem lw_in (ws : List Cond) (ps : List Nat) (hp : ws = ps.filterMap (fun i => lw_tbl[i]?)) (hg : ws.all goodWord = true) : ∀ w ∈ ws, w ∈ lw_all := by
  intro w h
  have h1 := List.all_eq_true.mp hg w h
  rw [hp] at h
  obtain ⟨i, -, hi⟩ := List.mem_filterMap.mp h
  exact lw_w i hi h1
/-- the words of a contract for the method y with code b, L locals, answer r -/
abbrev ws_ (y : MethodName) (b : ByteArray) (L : Nat) (r : Option FieldType) : List Cond := Cond.code y b L r :: lw_all
theorem lw_meth {y : MethodName} {b : ByteArray} {L : Nat} {r : Option FieldType} (h : Cond.code y b L r ∈ lw_all) : GoodIn lw_all (ws_ y b L r) := by
  intro w hw
  rcases List.mem_cons.mp hw with e | e
  · rw [e]
    exact lw_self _ h
  · exact lw_self _ e
theorem lw_app {a c : List Cond} (ha : ∀ w ∈ a, w ∈ lw_all) (hc : GoodIn lw_all c) : GoodIn lw_all (a ++ c) := by
  intro w hw
  rcases List.mem_append.mp hw with e | e
  · exact lw_self w (ha w e)
  · exact hc w e
/-- what a call through an object asks: cwV n hts (lw_V ..) -/
theorem lw_V {own : String} {idx : Nat} {C : String} {y : MethodName} {b : ByteArray} {L : Nat} {r : Option FieldType} (h1 : Cond.methodLink own idx y ∈ lw_all) (h2 : Cond.instanceMethod y ∈ lw_all) (h3 : Cond.selects C y y ∈ lw_all) (h4 : Cond.initialized C ∈ lw_all) (h5 : Cond.code y b L r ∈ lw_all) : GoodIn lw_all (wsV own idx C y (ws_ y b L r)) := by
  refine lw_app ?_ (lw_meth h5)
  intro w hw
  simp only [List.mem_cons, List.not_mem_nil, or_false] at hw
  rcases hw with e | e | e | e
  · rw [e]; exact h1
  · rw [e]; exact h2
  · rw [e]; exact h3
  · rw [e]; exact h4
/-- what a static call asks: va_cwS n hts (lw_S ..) -/
theorem lw_S {own : String} {idx : Nat} {y : MethodName} {b : ByteArray} {L : Nat} {r : Option FieldType} (h1 : Cond.methodLink own idx y ∈ lw_all) (h2 : Cond.static y ∈ lw_all) (h3 : Cond.initialized y.cls ∈ lw_all) (h4 : Cond.code y b L r ∈ lw_all) : GoodIn lw_all (va_wsS own idx y (ws_ y b L r)) := by
  refine lw_app ?_ (lw_meth h4)
  intro w hw
  simp only [List.mem_cons, List.not_mem_nil, or_false] at hw
  rcases hw with e | e | e
  · rw [e]; exact h1
  · rw [e]; exact h2
  · rw [e]; exact h3
/-- the words of a contract for a method WITH HANDLERS (hh: its table) -/
abbrev wsW_ (y : MethodName) (b : ByteArray) (L : Nat) (r : Option FieldType) (hh : List (Nat × Nat × Nat × Nat)) : List Cond := Cond.codeWith y b L r hh :: lw_all
theorem lw_methW {y : MethodName} {b : ByteArray} {L : Nat} {r : Option FieldType} {hh : List (Nat × Nat × Nat × Nat)} (h : Cond.codeWith y b L r hh ∈ lw_all) : GoodIn lw_all (wsW_ y b L r hh) := by
  intro w hw
  rcases List.mem_cons.mp hw with e | e
  · rw [e]
    exact lw_self _ h
  · exact lw_self _ e
/-- any list of words by their places (lw_in), good -/
theorem lw_good {ws : List Cond} (h : ∀ w ∈ ws, w ∈ lw_all) : GoodIn lw_all ws := fun w hw => lw_self w (h w hw)
/-- what a call of a method with handlers asks: vx_cwVW n hts (lw_VW ..), vx_cwSW n hts (lw_SW ..) -/
theorem lw_VW {own : String} {idx : Nat} {C : String} {y : MethodName} {b : ByteArray} {L : Nat} {r : Option FieldType} {hh : List (Nat × Nat × Nat × Nat)} (h1 : Cond.methodLink own idx y ∈ lw_all) (h2 : Cond.instanceMethod y ∈ lw_all) (h3 : Cond.selects C y y ∈ lw_all) (h4 : Cond.initialized C ∈ lw_all) (h5 : Cond.codeWith y b L r hh ∈ lw_all) : GoodIn lw_all (wsV own idx C y (wsW_ y b L r hh)) := by
  refine lw_app ?_ (lw_methW h5)
  intro w hw
  simp only [List.mem_cons, List.not_mem_nil, or_false] at hw
  rcases hw with e | e | e | e
  · rw [e]; exact h1
  · rw [e]; exact h2
  · rw [e]; exact h3
  · rw [e]; exact h4
theorem lw_SW {own : String} {idx : Nat} {y : MethodName} {b : ByteArray} {L : Nat} {r : Option FieldType} {hh : List (Nat × Nat × Nat × Nat)} (h1 : Cond.methodLink own idx y ∈ lw_all) (h2 : Cond.static y ∈ lw_all) (h3 : Cond.initialized y.cls ∈ lw_all) (h4 : Cond.codeWith y b L r hh ∈ lw_all) : GoodIn lw_all (va_wsS own idx y (wsW_ y b L r hh)) := by
  refine lw_app ?_ (lw_methW h4)
  intro w hw
  simp only [List.mem_cons, List.not_mem_nil, or_false] at hw
  rcases hw with e | e | e
  · rw [e]; exact h1
  · rw [e]; exact h2
  · rw [e]; exact h3
/-- a word by its place in its run of the tables -/
theorem lw_at {r : List Cond} (hr : ∀ w ∈ r, w ∈ lw_tbl) {w : Cond} (i : Nat) (h : r[i]? = some w) : w ∈ lw_tbl := hr w (List.mem_of_getElem? h)
theorem lw_g {w : Cond} (h : w ∈ lw_tbl) (g : goodWord w = true) : w ∈ lw_all := List.mem_filter.mpr ⟨h, g⟩
theorem lw_ms : ∀ w ∈ k2_sels lw_privs, w ∈ lw_tbl := fun w h => show w ∈ k2_sels lw_privs ++ tables_1 from List.mem_append_left _ h
theorem lw_m0 : ∀ w ∈ tables_1, w ∈ lw_tbl := fun w h => show w ∈ k2_sels lw_privs ++ tables_1 from List.mem_append_right (k2_sels lw_privs) h
theorem qs0 : (Cond.selects "ModSolver" ⟨"ModSolver", "noEquation", "(I)Z"⟩ ⟨"ModSolver", "noEquation", "(I)Z"⟩) ∈ lw_all := lw_g (lw_at lw_ms 0 rfl) rfl
theorem qs1 : (Cond.selects "ModSolver" ⟨"ModSolver", "solve", "()V"⟩ ⟨"ModSolver", "solve", "()V"⟩) ∈ lw_all := lw_g (lw_at lw_ms 1 rfl) rfl
theorem qs2 : (Cond.selects "ModSolver" ⟨"ModSolver", "onSet", "()I"⟩ ⟨"ModSolver", "onSet", "()I"⟩) ∈ lw_all := lw_g (lw_at lw_ms 2 rfl) rfl
theorem qs3 : (Cond.selects "ModSolver" ⟨"ModSolver", "solveSet", "(I)V"⟩ ⟨"ModSolver", "solveSet", "(I)V"⟩) ∈ lw_all := lw_g (lw_at lw_ms 3 rfl) rfl
theorem qs4 : (Cond.selects "ModSolver" ⟨"ModSolver", "load", "(I)V"⟩ ⟨"ModSolver", "load", "(I)V"⟩) ∈ lw_all := lw_g (lw_at lw_ms 4 rfl) rfl
theorem qs5 : (Cond.selects "ModSolver" ⟨"ModSolver", "reduce", "()I"⟩ ⟨"ModSolver", "reduce", "()I"⟩) ∈ lw_all := lw_g (lw_at lw_ms 5 rfl) rfl
theorem qs6 : (Cond.selects "ModSolver" ⟨"ModSolver", "keep", "(I)V"⟩ ⟨"ModSolver", "keep", "(I)V"⟩) ∈ lw_all := lw_g (lw_at lw_ms 6 rfl) rfl
theorem qs7 : (Cond.selects "ModSolver" ⟨"ModSolver", "waysFrom", "(I)I"⟩ ⟨"ModSolver", "waysFrom", "(I)I"⟩) ∈ lw_all := lw_g (lw_at lw_ms 7 rfl) rfl
theorem qs8 : (Cond.selects "ModSolver" ⟨"ModSolver", "solutionAt", "(I)I"⟩ ⟨"ModSolver", "solutionAt", "(I)I"⟩) ∈ lw_all := lw_g (lw_at lw_ms 8 rfl) rfl
theorem qs9 : (Cond.selects "ModSolver" ⟨"ModSolver", "resultOf", "(II)I"⟩ ⟨"ModSolver", "resultOf", "(II)I"⟩) ∈ lw_all := lw_g (lw_at lw_ms 9 rfl) rfl
theorem qs10 : (Cond.selects "ModSolver" ⟨"ModSolver", "varies", "(I)Z"⟩ ⟨"ModSolver", "varies", "(I)Z"⟩) ∈ lw_all := lw_g (lw_at lw_ms 10 rfl) rfl
theorem qs11 : (Cond.selects "ModSolverModel" ⟨"ModSolverModel", "positive", "(I)I"⟩ ⟨"ModSolverModel", "positive", "(I)I"⟩) ∈ lw_all := lw_g (lw_at lw_ms 11 rfl) rfl
theorem qs12 : (Cond.selects "ModSolverModel" ⟨"ModSolverModel", "bad", "(I)Z"⟩ ⟨"ModSolverModel", "bad", "(I)Z"⟩) ∈ lw_all := lw_g (lw_at lw_ms 12 rfl) rfl
theorem qs13 : (Cond.selects "ModSolverModel" ⟨"ModSolverModel", "before", "(I)I"⟩ ⟨"ModSolverModel", "before", "(I)I"⟩) ∈ lw_all := lw_g (lw_at lw_ms 13 rfl) rfl
theorem qs14 : (Cond.selects "ModSolverModel" ⟨"ModSolverModel", "workOut", "()V"⟩ ⟨"ModSolverModel", "workOut", "()V"⟩) ∈ lw_all := lw_g (lw_at lw_ms 14 rfl) rfl
theorem qs15 : (Cond.selects "ModSolverModel" ⟨"ModSolverModel", "brokenBy", "(IIII)I"⟩ ⟨"ModSolverModel", "brokenBy", "(IIII)I"⟩) ∈ lw_all := lw_g (lw_at lw_ms 15 rfl) rfl
theorem qs16 : (Cond.selects "ModSolverModel" ⟨"ModSolverModel", "ons", "()I"⟩ ⟨"ModSolverModel", "ons", "()I"⟩) ∈ lw_all := lw_g (lw_at lw_ms 16 rfl) rfl
theorem qs17 : (Cond.selects "ModSolverModel" ⟨"ModSolverModel", "digit", "(II)I"⟩ ⟨"ModSolverModel", "digit", "(II)I"⟩) ∈ lw_all := lw_g (lw_at lw_ms 17 rfl) rfl
theorem qs18 : (Cond.selects "ModSolverModel" ⟨"ModSolverModel", "meeting", "(I)I"⟩ ⟨"ModSolverModel", "meeting", "(I)I"⟩) ∈ lw_all := lw_g (lw_at lw_ms 18 rfl) rfl
end
section
/-! ModSolver -/
set_option maxRecDepth 100000
def RX0 : String := "ModSolver"
def TX0 : u_T := fun k => match k with
  | 0 => ("ModSolver", "equations", "I", false)
  | 1 => ("ModSolver", "number", "[I", true)
  | 2 => ("ModSolver", "on", "[Z", true)
  | 3 => ("ModSolver", "determined", "[Z", true)
  | 4 => ("ModSolver", "row", "[I", true)
  | 5 => ("ModSolver", "contradiction", "Z", false)
  | _ => ("ModSolver", "work", "[I", true)
def tyX0 : Nat → FieldType := fun k => match k with
  | 0 => .int
  | 1 => .array .int
  | 2 => .array .boolean
  | 3 => .array .boolean
  | 4 => .array .int
  | 5 => .boolean
  | _ => .array .int
abbrev wsX00 : List Cond := u_ws RX0 TX0 7
theorem nmX0 : ∀ a, a < 7 → ∀ b, b < 7 → a ≠ b → (TX0 a).2.1 ≠ (TX0 b).2.1 := by decide +kernel
theorem tyX0_ok : ∀ k, k < 7 → parseFieldDescriptor (TX0 k).2.2.1 = some (tyX0 k) := by decide +kernel
abbrev cX0_init : ByteArray := prog_1_method_1_code
def yX0_init : MethodName := ⟨RX0, "<init>", "()V"⟩
abbrev cX0_add : ByteArray := prog_1_method_4_code
def yX0_add : MethodName := ⟨RX0, "add", "(I)I"⟩
abbrev cX0_set : ByteArray := prog_1_method_6_code
def yX0_set : MethodName := ⟨RX0, "set", "(III)I"⟩
abbrev cX0_noEquation : ByteArray := prog_1_method_5_code
def yX0_noEquation : MethodName := ⟨RX0, "noEquation", "(I)Z"⟩
abbrev cX0_mod : ByteArray := prog_1_method_2_code
def yX0_mod : MethodName := ⟨RX0, "mod", "(I)I"⟩
abbrev cX0_turn : ByteArray := prog_1_method_7_code
def yX0_turn : MethodName := ⟨RX0, "turn", "(IZ)I"⟩
abbrev cX0_drop : ByteArray := prog_1_method_8_code
def yX0_drop : MethodName := ⟨RX0, "drop", "()I"⟩
abbrev cX0_solutions : ByteArray := prog_1_method_19_code
def yX0_solutions : MethodName := ⟨RX0, "solutions", "()I"⟩
abbrev cX0_solve : ByteArray := prog_1_method_14_code
def yX0_solve : MethodName := ⟨RX0, "solve", "()V"⟩
abbrev cX0_onSet : ByteArray := prog_1_method_13_code
def yX0_onSet : MethodName := ⟨RX0, "onSet", "()I"⟩
abbrev cX0_solveSet : ByteArray := prog_1_method_12_code
def yX0_solveSet : MethodName := ⟨RX0, "solveSet", "(I)V"⟩
abbrev cX0_load : ByteArray := prog_1_method_9_code
def yX0_load : MethodName := ⟨RX0, "load", "(I)V"⟩
abbrev cX0_reduce : ByteArray := prog_1_method_10_code
def yX0_reduce : MethodName := ⟨RX0, "reduce", "()I"⟩
abbrev cX0_keep : ByteArray := prog_1_method_11_code
def yX0_keep : MethodName := ⟨RX0, "keep", "(I)V"⟩
abbrev cX0_inverse : ByteArray := prog_1_method_3_code
def yX0_inverse : MethodName := ⟨RX0, "inverse", "(I)I"⟩
abbrev cX0_waysFrom : ByteArray := prog_1_method_15_code
def yX0_waysFrom : MethodName := ⟨RX0, "waysFrom", "(I)I"⟩
abbrev cX0_value : ByteArray := prog_1_method_20_code
def yX0_value : MethodName := ⟨RX0, "value", "(II)I"⟩
abbrev cX0_solutionAt : ByteArray := prog_1_method_18_code
def yX0_solutionAt : MethodName := ⟨RX0, "solutionAt", "(I)I"⟩
abbrev cX0_resultOf : ByteArray := prog_1_method_16_code
def yX0_resultOf : MethodName := ⟨RX0, "resultOf", "(II)I"⟩
abbrev cX0_possible : ByteArray := prog_1_method_22_code
def yX0_possible : MethodName := ⟨RX0, "possible", "(I)I"⟩
abbrev cX0_varies : ByteArray := prog_1_method_21_code
def yX0_varies : MethodName := ⟨RX0, "varies", "(I)Z"⟩
abbrev cX0_fixed : ByteArray := prog_1_method_23_code
def yX0_fixed : MethodName := ⟨RX0, "fixed", "(I)Z"⟩
abbrev cX0_rank : ByteArray := prog_1_method_24_code
def yX0_rank : MethodName := ⟨RX0, "rank", "(I)I"⟩
abbrev cX0_power : ByteArray := prog_1_method_17_code
def yX0_power : MethodName := ⟨RX0, "power", "(I)I"⟩
abbrev cX0_follows : ByteArray := prog_1_method_25_code
def yX0_follows : MethodName := ⟨RX0, "follows", "(I)Z"⟩
abbrev cX0_needed : ByteArray := prog_1_method_27_code
def yX0_needed : MethodName := ⟨RX0, "needed", "()I"⟩
abbrev cX0_ones : ByteArray := prog_1_method_26_code
def yX0_ones : MethodName := ⟨RX0, "ones", "(I)I"⟩
theorem q20 : (Jvm.Cond.initialized "ModSolver") ∈ lw_all := lw_g (lw_at lw_m0 1 rfl) rfl
theorem q23 : (Jvm.Cond.instantiable "ModSolver" (7 : Nat)) ∈ lw_all := lw_g (lw_at lw_m0 4 rfl) rfl
theorem q25 : (Jvm.Cond.instanceMethod ({ cls := "ModSolver", name := "<init>", desc := "()V" } : Jvm.MethodName)) ∈ lw_all := lw_g (lw_at lw_m0 6 rfl) rfl
theorem q26 : (Jvm.Cond.code ({ cls := "ModSolver", name := "<init>", desc := "()V" } : Jvm.MethodName) prog_1_method_1_code (1 : Nat) (Option.none : Option Jvm.ClassFile.FieldType)) ∈ lw_all := lw_g (lw_at lw_m0 7 rfl) rfl
theorem q27 : (Jvm.Cond.methodLink "ModSolver" (1 : Nat) ({ cls := "java/lang/Object", name := "<init>", desc := "()V" } : Jvm.MethodName)) ∈ lw_all := lw_g (lw_at lw_m0 8 rfl) rfl
theorem q30 : (Jvm.Cond.fieldLink "ModSolver" (26 : Nat) "ModSolver" "equations" "I") ∈ lw_all := lw_g (lw_at lw_m0 11 rfl) rfl
theorem q31 : (Jvm.Cond.fieldLink "ModSolver" (7 : Nat) "ModSolver" "number" "[I") ∈ lw_all := lw_g (lw_at lw_m0 12 rfl) rfl
theorem q32 : (Jvm.Cond.fieldLink "ModSolver" (13 : Nat) "ModSolver" "on" "[Z") ∈ lw_all := lw_g (lw_at lw_m0 13 rfl) rfl
theorem q33 : (Jvm.Cond.fieldLink "ModSolver" (17 : Nat) "ModSolver" "determined" "[Z") ∈ lw_all := lw_g (lw_at lw_m0 14 rfl) rfl
theorem q34 : (Jvm.Cond.fieldLink "ModSolver" (20 : Nat) "ModSolver" "row" "[I") ∈ lw_all := lw_g (lw_at lw_m0 15 rfl) rfl
theorem q35 : (Jvm.Cond.fieldLink "ModSolver" (42 : Nat) "ModSolver" "contradiction" "Z") ∈ lw_all := lw_g (lw_at lw_m0 16 rfl) rfl
theorem q36 : (Jvm.Cond.fieldLink "ModSolver" (23 : Nat) "ModSolver" "work" "[I") ∈ lw_all := lw_g (lw_at lw_m0 17 rfl) rfl
theorem q37 : (Jvm.Cond.lays "ModSolver" "ModSolver" "equations" "I") ∈ lw_all := lw_g (lw_at lw_m0 18 rfl) rfl
theorem q38 : (Jvm.Cond.soleField "ModSolver" "equations") ∈ lw_all := lw_g (lw_at lw_m0 19 rfl) rfl
theorem q39 : (Jvm.Cond.laysFinal "ModSolver" "ModSolver" "number" "[I") ∈ lw_all := lw_g (lw_at lw_m0 20 rfl) rfl
theorem q40 : (Jvm.Cond.soleField "ModSolver" "number") ∈ lw_all := lw_g (lw_at lw_m0 21 rfl) rfl
theorem q41 : (Jvm.Cond.laysFinal "ModSolver" "ModSolver" "on" "[Z") ∈ lw_all := lw_g (lw_at lw_m0 22 rfl) rfl
theorem q42 : (Jvm.Cond.soleField "ModSolver" "on") ∈ lw_all := lw_g (lw_at lw_m0 23 rfl) rfl
theorem q43 : (Jvm.Cond.laysFinal "ModSolver" "ModSolver" "determined" "[Z") ∈ lw_all := lw_g (lw_at lw_m0 24 rfl) rfl
theorem q44 : (Jvm.Cond.soleField "ModSolver" "determined") ∈ lw_all := lw_g (lw_at lw_m0 25 rfl) rfl
theorem q45 : (Jvm.Cond.laysFinal "ModSolver" "ModSolver" "row" "[I") ∈ lw_all := lw_g (lw_at lw_m0 26 rfl) rfl
theorem q46 : (Jvm.Cond.soleField "ModSolver" "row") ∈ lw_all := lw_g (lw_at lw_m0 27 rfl) rfl
theorem q47 : (Jvm.Cond.lays "ModSolver" "ModSolver" "contradiction" "Z") ∈ lw_all := lw_g (lw_at lw_m0 28 rfl) rfl
theorem q48 : (Jvm.Cond.soleField "ModSolver" "contradiction") ∈ lw_all := lw_g (lw_at lw_m0 29 rfl) rfl
theorem q49 : (Jvm.Cond.laysFinal "ModSolver" "ModSolver" "work" "[I") ∈ lw_all := lw_g (lw_at lw_m0 30 rfl) rfl
theorem q50 : (Jvm.Cond.soleField "ModSolver" "work") ∈ lw_all := lw_g (lw_at lw_m0 31 rfl) rfl
theorem q51 : (Jvm.Cond.superclass "ModSolver" "java/lang/Object") ∈ lw_all := lw_g (lw_at lw_m0 32 rfl) rfl
theorem q55 : (Jvm.Cond.instanceMethod ({ cls := "ModSolver", name := "add", desc := "(I)I" } : Jvm.MethodName)) ∈ lw_all := lw_g (lw_at lw_m0 36 rfl) rfl
theorem q56 : (Jvm.Cond.selects "ModSolver" ({ cls := "ModSolver", name := "add", desc := "(I)I" } : Jvm.MethodName) ({ cls := "ModSolver", name := "add", desc := "(I)I" } : Jvm.MethodName)) ∈ lw_all := lw_g (lw_at lw_m0 37 rfl) rfl
theorem q57 : (Jvm.Cond.code ({ cls := "ModSolver", name := "add", desc := "(I)I" } : Jvm.MethodName) prog_1_method_4_code (4 : Nat) (Option.some Jvm.ClassFile.FieldType.int)) ∈ lw_all := lw_g (lw_at lw_m0 38 rfl) rfl
theorem q58 : (Jvm.Cond.constant "ModSolver" (30 : Nat) (2147483647 : Int32)) ∈ lw_all := lw_g (lw_at lw_m0 39 rfl) rfl
theorem q60 : (Jvm.Cond.instanceMethod ({ cls := "ModSolver", name := "set", desc := "(III)I" } : Jvm.MethodName)) ∈ lw_all := lw_g (lw_at lw_m0 41 rfl) rfl
theorem q61 : (Jvm.Cond.selects "ModSolver" ({ cls := "ModSolver", name := "set", desc := "(III)I" } : Jvm.MethodName) ({ cls := "ModSolver", name := "set", desc := "(III)I" } : Jvm.MethodName)) ∈ lw_all := lw_g (lw_at lw_m0 42 rfl) rfl
theorem q62 : (Jvm.Cond.code ({ cls := "ModSolver", name := "set", desc := "(III)I" } : Jvm.MethodName) prog_1_method_6_code (5 : Nat) (Option.some Jvm.ClassFile.FieldType.int)) ∈ lw_all := lw_g (lw_at lw_m0 43 rfl) rfl
theorem q63 : (Jvm.Cond.methodLink "ModSolver" (31 : Nat) ({ cls := "ModSolver", name := "noEquation", desc := "(I)Z" } : Jvm.MethodName)) ∈ lw_all := lw_g (lw_at lw_m0 44 rfl) rfl
theorem q64 : (Jvm.Cond.privateMethod ({ cls := "ModSolver", name := "noEquation", desc := "(I)Z" } : Jvm.MethodName)) ∈ lw_tbl := lw_at lw_m0 45 rfl
theorem q65 : (Jvm.Cond.instanceMethod ({ cls := "ModSolver", name := "noEquation", desc := "(I)Z" } : Jvm.MethodName)) ∈ lw_all := lw_g (lw_at lw_m0 46 rfl) rfl
theorem q66 : (Jvm.Cond.code ({ cls := "ModSolver", name := "noEquation", desc := "(I)Z" } : Jvm.MethodName) prog_1_method_5_code (2 : Nat) (Option.some Jvm.ClassFile.FieldType.boolean)) ∈ lw_all := lw_g (lw_at lw_m0 47 rfl) rfl
theorem q67 : (Jvm.Cond.methodLink "ModSolver" (35 : Nat) ({ cls := "ModSolver", name := "mod", desc := "(I)I" } : Jvm.MethodName)) ∈ lw_all := lw_g (lw_at lw_m0 48 rfl) rfl
theorem q68 : (Jvm.Cond.static ({ cls := "ModSolver", name := "mod", desc := "(I)I" } : Jvm.MethodName)) ∈ lw_all := lw_g (lw_at lw_m0 49 rfl) rfl
theorem q69 : (Jvm.Cond.code ({ cls := "ModSolver", name := "mod", desc := "(I)I" } : Jvm.MethodName) prog_1_method_2_code (2 : Nat) (Option.some Jvm.ClassFile.FieldType.int)) ∈ lw_all := lw_g (lw_at lw_m0 50 rfl) rfl
theorem q71 : (Jvm.Cond.instanceMethod ({ cls := "ModSolver", name := "turn", desc := "(IZ)I" } : Jvm.MethodName)) ∈ lw_all := lw_g (lw_at lw_m0 52 rfl) rfl
theorem q72 : (Jvm.Cond.selects "ModSolver" ({ cls := "ModSolver", name := "turn", desc := "(IZ)I" } : Jvm.MethodName) ({ cls := "ModSolver", name := "turn", desc := "(IZ)I" } : Jvm.MethodName)) ∈ lw_all := lw_g (lw_at lw_m0 53 rfl) rfl
theorem q73 : (Jvm.Cond.code ({ cls := "ModSolver", name := "turn", desc := "(IZ)I" } : Jvm.MethodName) prog_1_method_7_code (4 : Nat) (Option.some Jvm.ClassFile.FieldType.int)) ∈ lw_all := lw_g (lw_at lw_m0 54 rfl) rfl
theorem q75 : (Jvm.Cond.instanceMethod ({ cls := "ModSolver", name := "drop", desc := "()I" } : Jvm.MethodName)) ∈ lw_all := lw_g (lw_at lw_m0 56 rfl) rfl
theorem q76 : (Jvm.Cond.selects "ModSolver" ({ cls := "ModSolver", name := "drop", desc := "()I" } : Jvm.MethodName) ({ cls := "ModSolver", name := "drop", desc := "()I" } : Jvm.MethodName)) ∈ lw_all := lw_g (lw_at lw_m0 57 rfl) rfl
theorem q77 : (Jvm.Cond.code ({ cls := "ModSolver", name := "drop", desc := "()I" } : Jvm.MethodName) prog_1_method_8_code (1 : Nat) (Option.some Jvm.ClassFile.FieldType.int)) ∈ lw_all := lw_g (lw_at lw_m0 58 rfl) rfl
theorem q79 : (Jvm.Cond.instanceMethod ({ cls := "ModSolver", name := "solutions", desc := "()I" } : Jvm.MethodName)) ∈ lw_all := lw_g (lw_at lw_m0 60 rfl) rfl
theorem q80 : (Jvm.Cond.selects "ModSolver" ({ cls := "ModSolver", name := "solutions", desc := "()I" } : Jvm.MethodName) ({ cls := "ModSolver", name := "solutions", desc := "()I" } : Jvm.MethodName)) ∈ lw_all := lw_g (lw_at lw_m0 61 rfl) rfl
theorem q81 : (Jvm.Cond.code ({ cls := "ModSolver", name := "solutions", desc := "()I" } : Jvm.MethodName) prog_1_method_19_code (1 : Nat) (Option.some Jvm.ClassFile.FieldType.int)) ∈ lw_all := lw_g (lw_at lw_m0 62 rfl) rfl
theorem q82 : (Jvm.Cond.methodLink "ModSolver" (70 : Nat) ({ cls := "ModSolver", name := "solve", desc := "()V" } : Jvm.MethodName)) ∈ lw_all := lw_g (lw_at lw_m0 63 rfl) rfl
theorem q83 : (Jvm.Cond.privateMethod ({ cls := "ModSolver", name := "solve", desc := "()V" } : Jvm.MethodName)) ∈ lw_tbl := lw_at lw_m0 64 rfl
theorem q84 : (Jvm.Cond.instanceMethod ({ cls := "ModSolver", name := "solve", desc := "()V" } : Jvm.MethodName)) ∈ lw_all := lw_g (lw_at lw_m0 65 rfl) rfl
theorem q85 : (Jvm.Cond.code ({ cls := "ModSolver", name := "solve", desc := "()V" } : Jvm.MethodName) prog_1_method_14_code (2 : Nat) (Option.none : Option Jvm.ClassFile.FieldType)) ∈ lw_all := lw_g (lw_at lw_m0 66 rfl) rfl
theorem q86 : (Jvm.Cond.methodLink "ModSolver" (57 : Nat) ({ cls := "ModSolver", name := "onSet", desc := "()I" } : Jvm.MethodName)) ∈ lw_all := lw_g (lw_at lw_m0 67 rfl) rfl
theorem q87 : (Jvm.Cond.privateMethod ({ cls := "ModSolver", name := "onSet", desc := "()I" } : Jvm.MethodName)) ∈ lw_tbl := lw_at lw_m0 68 rfl
theorem q88 : (Jvm.Cond.instanceMethod ({ cls := "ModSolver", name := "onSet", desc := "()I" } : Jvm.MethodName)) ∈ lw_all := lw_g (lw_at lw_m0 69 rfl) rfl
theorem q89 : (Jvm.Cond.code ({ cls := "ModSolver", name := "onSet", desc := "()I" } : Jvm.MethodName) prog_1_method_13_code (3 : Nat) (Option.some Jvm.ClassFile.FieldType.int)) ∈ lw_all := lw_g (lw_at lw_m0 70 rfl) rfl
theorem q90 : (Jvm.Cond.methodLink "ModSolver" (60 : Nat) ({ cls := "ModSolver", name := "solveSet", desc := "(I)V" } : Jvm.MethodName)) ∈ lw_all := lw_g (lw_at lw_m0 71 rfl) rfl
theorem q91 : (Jvm.Cond.privateMethod ({ cls := "ModSolver", name := "solveSet", desc := "(I)V" } : Jvm.MethodName)) ∈ lw_tbl := lw_at lw_m0 72 rfl
theorem q92 : (Jvm.Cond.instanceMethod ({ cls := "ModSolver", name := "solveSet", desc := "(I)V" } : Jvm.MethodName)) ∈ lw_all := lw_g (lw_at lw_m0 73 rfl) rfl
theorem q93 : (Jvm.Cond.code ({ cls := "ModSolver", name := "solveSet", desc := "(I)V" } : Jvm.MethodName) prog_1_method_12_code (4 : Nat) (Option.none : Option Jvm.ClassFile.FieldType)) ∈ lw_all := lw_g (lw_at lw_m0 74 rfl) rfl
theorem q94 : (Jvm.Cond.methodLink "ModSolver" (46 : Nat) ({ cls := "ModSolver", name := "load", desc := "(I)V" } : Jvm.MethodName)) ∈ lw_all := lw_g (lw_at lw_m0 75 rfl) rfl
theorem q95 : (Jvm.Cond.privateMethod ({ cls := "ModSolver", name := "load", desc := "(I)V" } : Jvm.MethodName)) ∈ lw_tbl := lw_at lw_m0 76 rfl
theorem q96 : (Jvm.Cond.instanceMethod ({ cls := "ModSolver", name := "load", desc := "(I)V" } : Jvm.MethodName)) ∈ lw_all := lw_g (lw_at lw_m0 77 rfl) rfl
theorem q97 : (Jvm.Cond.code ({ cls := "ModSolver", name := "load", desc := "(I)V" } : Jvm.MethodName) prog_1_method_9_code (3 : Nat) (Option.none : Option Jvm.ClassFile.FieldType)) ∈ lw_all := lw_g (lw_at lw_m0 78 rfl) rfl
theorem q98 : (Jvm.Cond.methodLink "ModSolver" (50 : Nat) ({ cls := "ModSolver", name := "reduce", desc := "()I" } : Jvm.MethodName)) ∈ lw_all := lw_g (lw_at lw_m0 79 rfl) rfl
theorem q99 : (Jvm.Cond.privateMethod ({ cls := "ModSolver", name := "reduce", desc := "()I" } : Jvm.MethodName)) ∈ lw_tbl := lw_at lw_m0 80 rfl
theorem q100 : (Jvm.Cond.instanceMethod ({ cls := "ModSolver", name := "reduce", desc := "()I" } : Jvm.MethodName)) ∈ lw_all := lw_g (lw_at lw_m0 81 rfl) rfl
theorem q101 : (Jvm.Cond.code ({ cls := "ModSolver", name := "reduce", desc := "()I" } : Jvm.MethodName) prog_1_method_10_code (5 : Nat) (Option.some Jvm.ClassFile.FieldType.int)) ∈ lw_all := lw_g (lw_at lw_m0 82 rfl) rfl
theorem q102 : (Jvm.Cond.methodLink "ModSolver" (54 : Nat) ({ cls := "ModSolver", name := "keep", desc := "(I)V" } : Jvm.MethodName)) ∈ lw_all := lw_g (lw_at lw_m0 83 rfl) rfl
theorem q103 : (Jvm.Cond.privateMethod ({ cls := "ModSolver", name := "keep", desc := "(I)V" } : Jvm.MethodName)) ∈ lw_tbl := lw_at lw_m0 84 rfl
theorem q104 : (Jvm.Cond.instanceMethod ({ cls := "ModSolver", name := "keep", desc := "(I)V" } : Jvm.MethodName)) ∈ lw_all := lw_g (lw_at lw_m0 85 rfl) rfl
theorem q105 : (Jvm.Cond.code ({ cls := "ModSolver", name := "keep", desc := "(I)V" } : Jvm.MethodName) prog_1_method_11_code (6 : Nat) (Option.none : Option Jvm.ClassFile.FieldType)) ∈ lw_all := lw_g (lw_at lw_m0 86 rfl) rfl
theorem q106 : (Jvm.Cond.methodLink "ModSolver" (39 : Nat) ({ cls := "ModSolver", name := "inverse", desc := "(I)I" } : Jvm.MethodName)) ∈ lw_all := lw_g (lw_at lw_m0 87 rfl) rfl
theorem q107 : (Jvm.Cond.static ({ cls := "ModSolver", name := "inverse", desc := "(I)I" } : Jvm.MethodName)) ∈ lw_all := lw_g (lw_at lw_m0 88 rfl) rfl
theorem q108 : (Jvm.Cond.code ({ cls := "ModSolver", name := "inverse", desc := "(I)I" } : Jvm.MethodName) prog_1_method_3_code (2 : Nat) (Option.some Jvm.ClassFile.FieldType.int)) ∈ lw_all := lw_g (lw_at lw_m0 89 rfl) rfl
theorem q109 : (Jvm.Cond.methodLink "ModSolver" (67 : Nat) ({ cls := "ModSolver", name := "waysFrom", desc := "(I)I" } : Jvm.MethodName)) ∈ lw_all := lw_g (lw_at lw_m0 90 rfl) rfl
theorem q110 : (Jvm.Cond.privateMethod ({ cls := "ModSolver", name := "waysFrom", desc := "(I)I" } : Jvm.MethodName)) ∈ lw_tbl := lw_at lw_m0 91 rfl
theorem q111 : (Jvm.Cond.instanceMethod ({ cls := "ModSolver", name := "waysFrom", desc := "(I)I" } : Jvm.MethodName)) ∈ lw_all := lw_g (lw_at lw_m0 92 rfl) rfl
theorem q112 : (Jvm.Cond.code ({ cls := "ModSolver", name := "waysFrom", desc := "(I)I" } : Jvm.MethodName) prog_1_method_15_code (4 : Nat) (Option.some Jvm.ClassFile.FieldType.int)) ∈ lw_all := lw_g (lw_at lw_m0 93 rfl) rfl
theorem q114 : (Jvm.Cond.instanceMethod ({ cls := "ModSolver", name := "value", desc := "(II)I" } : Jvm.MethodName)) ∈ lw_all := lw_g (lw_at lw_m0 95 rfl) rfl
theorem q115 : (Jvm.Cond.selects "ModSolver" ({ cls := "ModSolver", name := "value", desc := "(II)I" } : Jvm.MethodName) ({ cls := "ModSolver", name := "value", desc := "(II)I" } : Jvm.MethodName)) ∈ lw_all := lw_g (lw_at lw_m0 96 rfl) rfl
theorem q116 : (Jvm.Cond.code ({ cls := "ModSolver", name := "value", desc := "(II)I" } : Jvm.MethodName) prog_1_method_20_code (5 : Nat) (Option.some Jvm.ClassFile.FieldType.int)) ∈ lw_all := lw_g (lw_at lw_m0 97 rfl) rfl
theorem q117 : (Jvm.Cond.methodLink "ModSolver" (73 : Nat) ({ cls := "ModSolver", name := "solutionAt", desc := "(I)I" } : Jvm.MethodName)) ∈ lw_all := lw_g (lw_at lw_m0 98 rfl) rfl
theorem q118 : (Jvm.Cond.privateMethod ({ cls := "ModSolver", name := "solutionAt", desc := "(I)I" } : Jvm.MethodName)) ∈ lw_tbl := lw_at lw_m0 99 rfl
theorem q119 : (Jvm.Cond.instanceMethod ({ cls := "ModSolver", name := "solutionAt", desc := "(I)I" } : Jvm.MethodName)) ∈ lw_all := lw_g (lw_at lw_m0 100 rfl) rfl
theorem q120 : (Jvm.Cond.code ({ cls := "ModSolver", name := "solutionAt", desc := "(I)I" } : Jvm.MethodName) prog_1_method_18_code (8 : Nat) (Option.some Jvm.ClassFile.FieldType.int)) ∈ lw_all := lw_g (lw_at lw_m0 101 rfl) rfl
theorem q121 : (Jvm.Cond.methodLink "ModSolver" (63 : Nat) ({ cls := "ModSolver", name := "resultOf", desc := "(II)I" } : Jvm.MethodName)) ∈ lw_all := lw_g (lw_at lw_m0 102 rfl) rfl
theorem q122 : (Jvm.Cond.privateMethod ({ cls := "ModSolver", name := "resultOf", desc := "(II)I" } : Jvm.MethodName)) ∈ lw_tbl := lw_at lw_m0 103 rfl
theorem q123 : (Jvm.Cond.instanceMethod ({ cls := "ModSolver", name := "resultOf", desc := "(II)I" } : Jvm.MethodName)) ∈ lw_all := lw_g (lw_at lw_m0 104 rfl) rfl
theorem q124 : (Jvm.Cond.code ({ cls := "ModSolver", name := "resultOf", desc := "(II)I" } : Jvm.MethodName) prog_1_method_16_code (6 : Nat) (Option.some Jvm.ClassFile.FieldType.int)) ∈ lw_all := lw_g (lw_at lw_m0 105 rfl) rfl
theorem q126 : (Jvm.Cond.instanceMethod ({ cls := "ModSolver", name := "possible", desc := "(I)I" } : Jvm.MethodName)) ∈ lw_all := lw_g (lw_at lw_m0 107 rfl) rfl
theorem q127 : (Jvm.Cond.selects "ModSolver" ({ cls := "ModSolver", name := "possible", desc := "(I)I" } : Jvm.MethodName) ({ cls := "ModSolver", name := "possible", desc := "(I)I" } : Jvm.MethodName)) ∈ lw_all := lw_g (lw_at lw_m0 108 rfl) rfl
theorem q128 : (Jvm.Cond.code ({ cls := "ModSolver", name := "possible", desc := "(I)I" } : Jvm.MethodName) prog_1_method_22_code (3 : Nat) (Option.some Jvm.ClassFile.FieldType.int)) ∈ lw_all := lw_g (lw_at lw_m0 109 rfl) rfl
theorem q129 : (Jvm.Cond.methodLink "ModSolver" (76 : Nat) ({ cls := "ModSolver", name := "varies", desc := "(I)Z" } : Jvm.MethodName)) ∈ lw_all := lw_g (lw_at lw_m0 110 rfl) rfl
theorem q130 : (Jvm.Cond.privateMethod ({ cls := "ModSolver", name := "varies", desc := "(I)Z" } : Jvm.MethodName)) ∈ lw_tbl := lw_at lw_m0 111 rfl
theorem q131 : (Jvm.Cond.instanceMethod ({ cls := "ModSolver", name := "varies", desc := "(I)Z" } : Jvm.MethodName)) ∈ lw_all := lw_g (lw_at lw_m0 112 rfl) rfl
theorem q132 : (Jvm.Cond.code ({ cls := "ModSolver", name := "varies", desc := "(I)Z" } : Jvm.MethodName) prog_1_method_21_code (3 : Nat) (Option.some Jvm.ClassFile.FieldType.boolean)) ∈ lw_all := lw_g (lw_at lw_m0 113 rfl) rfl
theorem q134 : (Jvm.Cond.instanceMethod ({ cls := "ModSolver", name := "fixed", desc := "(I)Z" } : Jvm.MethodName)) ∈ lw_all := lw_g (lw_at lw_m0 115 rfl) rfl
theorem q135 : (Jvm.Cond.selects "ModSolver" ({ cls := "ModSolver", name := "fixed", desc := "(I)Z" } : Jvm.MethodName) ({ cls := "ModSolver", name := "fixed", desc := "(I)Z" } : Jvm.MethodName)) ∈ lw_all := lw_g (lw_at lw_m0 116 rfl) rfl
theorem q136 : (Jvm.Cond.code ({ cls := "ModSolver", name := "fixed", desc := "(I)Z" } : Jvm.MethodName) prog_1_method_23_code (3 : Nat) (Option.some Jvm.ClassFile.FieldType.boolean)) ∈ lw_all := lw_g (lw_at lw_m0 117 rfl) rfl
theorem q138 : (Jvm.Cond.instanceMethod ({ cls := "ModSolver", name := "rank", desc := "(I)I" } : Jvm.MethodName)) ∈ lw_all := lw_g (lw_at lw_m0 119 rfl) rfl
theorem q139 : (Jvm.Cond.selects "ModSolver" ({ cls := "ModSolver", name := "rank", desc := "(I)I" } : Jvm.MethodName) ({ cls := "ModSolver", name := "rank", desc := "(I)I" } : Jvm.MethodName)) ∈ lw_all := lw_g (lw_at lw_m0 120 rfl) rfl
theorem q140 : (Jvm.Cond.code ({ cls := "ModSolver", name := "rank", desc := "(I)I" } : Jvm.MethodName) prog_1_method_24_code (9 : Nat) (Option.some Jvm.ClassFile.FieldType.int)) ∈ lw_all := lw_g (lw_at lw_m0 121 rfl) rfl
theorem q141 : (Jvm.Cond.methodLink "ModSolver" (79 : Nat) ({ cls := "ModSolver", name := "power", desc := "(I)I" } : Jvm.MethodName)) ∈ lw_all := lw_g (lw_at lw_m0 122 rfl) rfl
theorem q142 : (Jvm.Cond.static ({ cls := "ModSolver", name := "power", desc := "(I)I" } : Jvm.MethodName)) ∈ lw_all := lw_g (lw_at lw_m0 123 rfl) rfl
theorem q143 : (Jvm.Cond.code ({ cls := "ModSolver", name := "power", desc := "(I)I" } : Jvm.MethodName) prog_1_method_17_code (3 : Nat) (Option.some Jvm.ClassFile.FieldType.int)) ∈ lw_all := lw_g (lw_at lw_m0 124 rfl) rfl
theorem q145 : (Jvm.Cond.instanceMethod ({ cls := "ModSolver", name := "follows", desc := "(I)Z" } : Jvm.MethodName)) ∈ lw_all := lw_g (lw_at lw_m0 126 rfl) rfl
theorem q146 : (Jvm.Cond.selects "ModSolver" ({ cls := "ModSolver", name := "follows", desc := "(I)Z" } : Jvm.MethodName) ({ cls := "ModSolver", name := "follows", desc := "(I)Z" } : Jvm.MethodName)) ∈ lw_all := lw_g (lw_at lw_m0 127 rfl) rfl
theorem q147 : (Jvm.Cond.code ({ cls := "ModSolver", name := "follows", desc := "(I)Z" } : Jvm.MethodName) prog_1_method_25_code (3 : Nat) (Option.some Jvm.ClassFile.FieldType.boolean)) ∈ lw_all := lw_g (lw_at lw_m0 128 rfl) rfl
theorem q149 : (Jvm.Cond.instanceMethod ({ cls := "ModSolver", name := "needed", desc := "()I" } : Jvm.MethodName)) ∈ lw_all := lw_g (lw_at lw_m0 130 rfl) rfl
theorem q150 : (Jvm.Cond.selects "ModSolver" ({ cls := "ModSolver", name := "needed", desc := "()I" } : Jvm.MethodName) ({ cls := "ModSolver", name := "needed", desc := "()I" } : Jvm.MethodName)) ∈ lw_all := lw_g (lw_at lw_m0 131 rfl) rfl
theorem q151 : (Jvm.Cond.code ({ cls := "ModSolver", name := "needed", desc := "()I" } : Jvm.MethodName) prog_1_method_27_code (5 : Nat) (Option.some Jvm.ClassFile.FieldType.int)) ∈ lw_all := lw_g (lw_at lw_m0 132 rfl) rfl
theorem q152 : (Jvm.Cond.methodLink "ModSolver" (82 : Nat) ({ cls := "ModSolver", name := "ones", desc := "(I)I" } : Jvm.MethodName)) ∈ lw_all := lw_g (lw_at lw_m0 133 rfl) rfl
theorem q153 : (Jvm.Cond.static ({ cls := "ModSolver", name := "ones", desc := "(I)I" } : Jvm.MethodName)) ∈ lw_all := lw_g (lw_at lw_m0 134 rfl) rfl
theorem q154 : (Jvm.Cond.code ({ cls := "ModSolver", name := "ones", desc := "(I)I" } : Jvm.MethodName) prog_1_method_26_code (3 : Nat) (Option.some Jvm.ClassFile.FieldType.int)) ∈ lw_all := lw_g (lw_at lw_m0 135 rfl) rfl
theorem in_X0 : ∀ w ∈ wsX00, w ∈ lw_all := lw_in wsX00 [37, 39, 41, 43, 45, 47, 49] (by decide +kernel) (by decide +kernel)
/-! ModSolverModel -/
def RX1 : String := "ModSolverModel"
def TX1 : u_T := fun k => match k with
  | 0 => ("ModSolverModel", "count", "I", false)
  | 1 => ("ModSolverModel", "numbers", "[I", true)
  | 2 => ("ModSolverModel", "on", "[Z", true)
  | 3 => ("ModSolverModel", "known", "Z", false)
  | 4 => ("ModSolverModel", "broken", "[I", true)
  | _ => ("ModSolverModel", "counts", "[I", true)
def tyX1 : Nat → FieldType := fun k => match k with
  | 0 => .int
  | 1 => .array .int
  | 2 => .array .boolean
  | 3 => .boolean
  | 4 => .array .int
  | _ => .array .int
abbrev wsX10 : List Cond := u_ws RX1 TX1 6
theorem nmX1 : ∀ a, a < 6 → ∀ b, b < 6 → a ≠ b → (TX1 a).2.1 ≠ (TX1 b).2.1 := by decide +kernel
theorem tyX1_ok : ∀ k, k < 6 → parseFieldDescriptor (TX1 k).2.2.1 = some (tyX1 k) := by decide +kernel
abbrev cX1_init : ByteArray := prog_3_method_1_code
def yX1_init : MethodName := ⟨RX1, "<init>", "()V"⟩
abbrev cX1_add : ByteArray := prog_3_method_3_code
def yX1_add : MethodName := ⟨RX1, "add", "(I)I"⟩
abbrev cX1_positive : ByteArray := prog_3_method_2_code
def yX1_positive : MethodName := ⟨RX1, "positive", "(I)I"⟩
abbrev cX1_set : ByteArray := prog_3_method_5_code
def yX1_set : MethodName := ⟨RX1, "set", "(III)I"⟩
abbrev cX1_bad : ByteArray := prog_3_method_4_code
def yX1_bad : MethodName := ⟨RX1, "bad", "(I)Z"⟩
abbrev cX1_turn : ByteArray := prog_3_method_6_code
def yX1_turn : MethodName := ⟨RX1, "turn", "(IZ)I"⟩
abbrev cX1_drop : ByteArray := prog_3_method_7_code
def yX1_drop : MethodName := ⟨RX1, "drop", "()I"⟩
abbrev cX1_solutions : ByteArray := prog_3_method_12_code
def yX1_solutions : MethodName := ⟨RX1, "solutions", "()I"⟩
abbrev cX1_before : ByteArray := prog_3_method_11_code
def yX1_before : MethodName := ⟨RX1, "before", "(I)I"⟩
abbrev cX1_workOut : ByteArray := prog_3_method_9_code
def yX1_workOut : MethodName := ⟨RX1, "workOut", "()V"⟩
abbrev cX1_brokenBy : ByteArray := prog_3_method_8_code
def yX1_brokenBy : MethodName := ⟨RX1, "brokenBy", "(IIII)I"⟩
abbrev cX1_ons : ByteArray := prog_3_method_10_code
def yX1_ons : MethodName := ⟨RX1, "ons", "()I"⟩
abbrev cX1_value : ByteArray := prog_3_method_14_code
def yX1_value : MethodName := ⟨RX1, "value", "(II)I"⟩
abbrev cX1_digit : ByteArray := prog_3_method_13_code
def yX1_digit : MethodName := ⟨RX1, "digit", "(II)I"⟩
abbrev cX1_possible : ByteArray := prog_3_method_15_code
def yX1_possible : MethodName := ⟨RX1, "possible", "(I)I"⟩
abbrev cX1_fixed : ByteArray := prog_3_method_16_code
def yX1_fixed : MethodName := ⟨RX1, "fixed", "(I)Z"⟩
abbrev cX1_rank : ByteArray := prog_3_method_17_code
def yX1_rank : MethodName := ⟨RX1, "rank", "(I)I"⟩
abbrev cX1_follows : ByteArray := prog_3_method_18_code
def yX1_follows : MethodName := ⟨RX1, "follows", "(I)Z"⟩
abbrev cX1_needed : ByteArray := prog_3_method_20_code
def yX1_needed : MethodName := ⟨RX1, "needed", "()I"⟩
abbrev cX1_meeting : ByteArray := prog_3_method_19_code
def yX1_meeting : MethodName := ⟨RX1, "meeting", "(I)I"⟩
theorem q21 : (Jvm.Cond.initialized "ModSolverModel") ∈ lw_all := lw_g (lw_at lw_m0 2 rfl) rfl
theorem q156 : (Jvm.Cond.instantiable "ModSolverModel" (6 : Nat)) ∈ lw_all := lw_g (lw_at lw_m0 137 rfl) rfl
theorem q158 : (Jvm.Cond.instanceMethod ({ cls := "ModSolverModel", name := "<init>", desc := "()V" } : Jvm.MethodName)) ∈ lw_all := lw_g (lw_at lw_m0 139 rfl) rfl
theorem q159 : (Jvm.Cond.code ({ cls := "ModSolverModel", name := "<init>", desc := "()V" } : Jvm.MethodName) prog_3_method_1_code (1 : Nat) (Option.none : Option Jvm.ClassFile.FieldType)) ∈ lw_all := lw_g (lw_at lw_m0 140 rfl) rfl
theorem q160 : (Jvm.Cond.methodLink "ModSolverModel" (1 : Nat) ({ cls := "java/lang/Object", name := "<init>", desc := "()V" } : Jvm.MethodName)) ∈ lw_all := lw_g (lw_at lw_m0 141 rfl) rfl
theorem q161 : (Jvm.Cond.fieldLink "ModSolverModel" (24 : Nat) "ModSolverModel" "count" "I") ∈ lw_all := lw_g (lw_at lw_m0 142 rfl) rfl
theorem q162 : (Jvm.Cond.fieldLink "ModSolverModel" (7 : Nat) "ModSolverModel" "numbers" "[I") ∈ lw_all := lw_g (lw_at lw_m0 143 rfl) rfl
theorem q163 : (Jvm.Cond.fieldLink "ModSolverModel" (13 : Nat) "ModSolverModel" "on" "[Z") ∈ lw_all := lw_g (lw_at lw_m0 144 rfl) rfl
theorem q164 : (Jvm.Cond.fieldLink "ModSolverModel" (32 : Nat) "ModSolverModel" "known" "Z") ∈ lw_all := lw_g (lw_at lw_m0 145 rfl) rfl
theorem q165 : (Jvm.Cond.fieldLink "ModSolverModel" (17 : Nat) "ModSolverModel" "broken" "[I") ∈ lw_all := lw_g (lw_at lw_m0 146 rfl) rfl
theorem q166 : (Jvm.Cond.fieldLink "ModSolverModel" (20 : Nat) "ModSolverModel" "counts" "[I") ∈ lw_all := lw_g (lw_at lw_m0 147 rfl) rfl
theorem q167 : (Jvm.Cond.lays "ModSolverModel" "ModSolverModel" "count" "I") ∈ lw_all := lw_g (lw_at lw_m0 148 rfl) rfl
theorem q168 : (Jvm.Cond.soleField "ModSolverModel" "count") ∈ lw_all := lw_g (lw_at lw_m0 149 rfl) rfl
theorem q169 : (Jvm.Cond.laysFinal "ModSolverModel" "ModSolverModel" "numbers" "[I") ∈ lw_all := lw_g (lw_at lw_m0 150 rfl) rfl
theorem q170 : (Jvm.Cond.soleField "ModSolverModel" "numbers") ∈ lw_all := lw_g (lw_at lw_m0 151 rfl) rfl
theorem q171 : (Jvm.Cond.laysFinal "ModSolverModel" "ModSolverModel" "on" "[Z") ∈ lw_all := lw_g (lw_at lw_m0 152 rfl) rfl
theorem q172 : (Jvm.Cond.soleField "ModSolverModel" "on") ∈ lw_all := lw_g (lw_at lw_m0 153 rfl) rfl
theorem q173 : (Jvm.Cond.lays "ModSolverModel" "ModSolverModel" "known" "Z") ∈ lw_all := lw_g (lw_at lw_m0 154 rfl) rfl
theorem q174 : (Jvm.Cond.soleField "ModSolverModel" "known") ∈ lw_all := lw_g (lw_at lw_m0 155 rfl) rfl
theorem q175 : (Jvm.Cond.laysFinal "ModSolverModel" "ModSolverModel" "broken" "[I") ∈ lw_all := lw_g (lw_at lw_m0 156 rfl) rfl
theorem q176 : (Jvm.Cond.soleField "ModSolverModel" "broken") ∈ lw_all := lw_g (lw_at lw_m0 157 rfl) rfl
theorem q177 : (Jvm.Cond.laysFinal "ModSolverModel" "ModSolverModel" "counts" "[I") ∈ lw_all := lw_g (lw_at lw_m0 158 rfl) rfl
theorem q178 : (Jvm.Cond.soleField "ModSolverModel" "counts") ∈ lw_all := lw_g (lw_at lw_m0 159 rfl) rfl
theorem q179 : (Jvm.Cond.superclass "ModSolverModel" "java/lang/Object") ∈ lw_all := lw_g (lw_at lw_m0 160 rfl) rfl
theorem q181 : (Jvm.Cond.instanceMethod ({ cls := "ModSolverModel", name := "add", desc := "(I)I" } : Jvm.MethodName)) ∈ lw_all := lw_g (lw_at lw_m0 162 rfl) rfl
theorem q182 : (Jvm.Cond.selects "ModSolverModel" ({ cls := "ModSolverModel", name := "add", desc := "(I)I" } : Jvm.MethodName) ({ cls := "ModSolverModel", name := "add", desc := "(I)I" } : Jvm.MethodName)) ∈ lw_all := lw_g (lw_at lw_m0 163 rfl) rfl
theorem q183 : (Jvm.Cond.code ({ cls := "ModSolverModel", name := "add", desc := "(I)I" } : Jvm.MethodName) prog_3_method_3_code (4 : Nat) (Option.some Jvm.ClassFile.FieldType.int)) ∈ lw_all := lw_g (lw_at lw_m0 164 rfl) rfl
theorem q184 : (Jvm.Cond.methodLink "ModSolverModel" (28 : Nat) ({ cls := "ModSolverModel", name := "positive", desc := "(I)I" } : Jvm.MethodName)) ∈ lw_all := lw_g (lw_at lw_m0 165 rfl) rfl
theorem q185 : (Jvm.Cond.privateMethod ({ cls := "ModSolverModel", name := "positive", desc := "(I)I" } : Jvm.MethodName)) ∈ lw_tbl := lw_at lw_m0 166 rfl
theorem q186 : (Jvm.Cond.instanceMethod ({ cls := "ModSolverModel", name := "positive", desc := "(I)I" } : Jvm.MethodName)) ∈ lw_all := lw_g (lw_at lw_m0 167 rfl) rfl
theorem q187 : (Jvm.Cond.code ({ cls := "ModSolverModel", name := "positive", desc := "(I)I" } : Jvm.MethodName) prog_3_method_2_code (2 : Nat) (Option.some Jvm.ClassFile.FieldType.int)) ∈ lw_all := lw_g (lw_at lw_m0 168 rfl) rfl
theorem q188 : (Jvm.Cond.constant "ModSolverModel" (23 : Nat) (2147483647 : Int32)) ∈ lw_all := lw_g (lw_at lw_m0 169 rfl) rfl
theorem q190 : (Jvm.Cond.instanceMethod ({ cls := "ModSolverModel", name := "set", desc := "(III)I" } : Jvm.MethodName)) ∈ lw_all := lw_g (lw_at lw_m0 171 rfl) rfl
theorem q191 : (Jvm.Cond.selects "ModSolverModel" ({ cls := "ModSolverModel", name := "set", desc := "(III)I" } : Jvm.MethodName) ({ cls := "ModSolverModel", name := "set", desc := "(III)I" } : Jvm.MethodName)) ∈ lw_all := lw_g (lw_at lw_m0 172 rfl) rfl
theorem q192 : (Jvm.Cond.code ({ cls := "ModSolverModel", name := "set", desc := "(III)I" } : Jvm.MethodName) prog_3_method_5_code (5 : Nat) (Option.some Jvm.ClassFile.FieldType.int)) ∈ lw_all := lw_g (lw_at lw_m0 173 rfl) rfl
theorem q193 : (Jvm.Cond.methodLink "ModSolverModel" (36 : Nat) ({ cls := "ModSolverModel", name := "bad", desc := "(I)Z" } : Jvm.MethodName)) ∈ lw_all := lw_g (lw_at lw_m0 174 rfl) rfl
theorem q194 : (Jvm.Cond.privateMethod ({ cls := "ModSolverModel", name := "bad", desc := "(I)Z" } : Jvm.MethodName)) ∈ lw_tbl := lw_at lw_m0 175 rfl
theorem q195 : (Jvm.Cond.instanceMethod ({ cls := "ModSolverModel", name := "bad", desc := "(I)Z" } : Jvm.MethodName)) ∈ lw_all := lw_g (lw_at lw_m0 176 rfl) rfl
theorem q196 : (Jvm.Cond.code ({ cls := "ModSolverModel", name := "bad", desc := "(I)Z" } : Jvm.MethodName) prog_3_method_4_code (2 : Nat) (Option.some Jvm.ClassFile.FieldType.boolean)) ∈ lw_all := lw_g (lw_at lw_m0 177 rfl) rfl
theorem q198 : (Jvm.Cond.instanceMethod ({ cls := "ModSolverModel", name := "turn", desc := "(IZ)I" } : Jvm.MethodName)) ∈ lw_all := lw_g (lw_at lw_m0 179 rfl) rfl
theorem q199 : (Jvm.Cond.selects "ModSolverModel" ({ cls := "ModSolverModel", name := "turn", desc := "(IZ)I" } : Jvm.MethodName) ({ cls := "ModSolverModel", name := "turn", desc := "(IZ)I" } : Jvm.MethodName)) ∈ lw_all := lw_g (lw_at lw_m0 180 rfl) rfl
theorem q200 : (Jvm.Cond.code ({ cls := "ModSolverModel", name := "turn", desc := "(IZ)I" } : Jvm.MethodName) prog_3_method_6_code (4 : Nat) (Option.some Jvm.ClassFile.FieldType.int)) ∈ lw_all := lw_g (lw_at lw_m0 181 rfl) rfl
theorem q202 : (Jvm.Cond.instanceMethod ({ cls := "ModSolverModel", name := "drop", desc := "()I" } : Jvm.MethodName)) ∈ lw_all := lw_g (lw_at lw_m0 183 rfl) rfl
theorem q203 : (Jvm.Cond.selects "ModSolverModel" ({ cls := "ModSolverModel", name := "drop", desc := "()I" } : Jvm.MethodName) ({ cls := "ModSolverModel", name := "drop", desc := "()I" } : Jvm.MethodName)) ∈ lw_all := lw_g (lw_at lw_m0 184 rfl) rfl
theorem q204 : (Jvm.Cond.code ({ cls := "ModSolverModel", name := "drop", desc := "()I" } : Jvm.MethodName) prog_3_method_7_code (1 : Nat) (Option.some Jvm.ClassFile.FieldType.int)) ∈ lw_all := lw_g (lw_at lw_m0 185 rfl) rfl
theorem q206 : (Jvm.Cond.instanceMethod ({ cls := "ModSolverModel", name := "solutions", desc := "()I" } : Jvm.MethodName)) ∈ lw_all := lw_g (lw_at lw_m0 187 rfl) rfl
theorem q207 : (Jvm.Cond.selects "ModSolverModel" ({ cls := "ModSolverModel", name := "solutions", desc := "()I" } : Jvm.MethodName) ({ cls := "ModSolverModel", name := "solutions", desc := "()I" } : Jvm.MethodName)) ∈ lw_all := lw_g (lw_at lw_m0 188 rfl) rfl
theorem q208 : (Jvm.Cond.code ({ cls := "ModSolverModel", name := "solutions", desc := "()I" } : Jvm.MethodName) prog_3_method_12_code (1 : Nat) (Option.some Jvm.ClassFile.FieldType.int)) ∈ lw_all := lw_g (lw_at lw_m0 189 rfl) rfl
theorem q209 : (Jvm.Cond.methodLink "ModSolverModel" (51 : Nat) ({ cls := "ModSolverModel", name := "before", desc := "(I)I" } : Jvm.MethodName)) ∈ lw_all := lw_g (lw_at lw_m0 190 rfl) rfl
theorem q210 : (Jvm.Cond.privateMethod ({ cls := "ModSolverModel", name := "before", desc := "(I)I" } : Jvm.MethodName)) ∈ lw_tbl := lw_at lw_m0 191 rfl
theorem q211 : (Jvm.Cond.instanceMethod ({ cls := "ModSolverModel", name := "before", desc := "(I)I" } : Jvm.MethodName)) ∈ lw_all := lw_g (lw_at lw_m0 192 rfl) rfl
theorem q212 : (Jvm.Cond.code ({ cls := "ModSolverModel", name := "before", desc := "(I)I" } : Jvm.MethodName) prog_3_method_11_code (5 : Nat) (Option.some Jvm.ClassFile.FieldType.int)) ∈ lw_all := lw_g (lw_at lw_m0 193 rfl) rfl
theorem q213 : (Jvm.Cond.methodLink "ModSolverModel" (44 : Nat) ({ cls := "ModSolverModel", name := "workOut", desc := "()V" } : Jvm.MethodName)) ∈ lw_all := lw_g (lw_at lw_m0 194 rfl) rfl
theorem q214 : (Jvm.Cond.privateMethod ({ cls := "ModSolverModel", name := "workOut", desc := "()V" } : Jvm.MethodName)) ∈ lw_tbl := lw_at lw_m0 195 rfl
theorem q215 : (Jvm.Cond.instanceMethod ({ cls := "ModSolverModel", name := "workOut", desc := "()V" } : Jvm.MethodName)) ∈ lw_all := lw_g (lw_at lw_m0 196 rfl) rfl
theorem q216 : (Jvm.Cond.code ({ cls := "ModSolverModel", name := "workOut", desc := "()V" } : Jvm.MethodName) prog_3_method_9_code (2 : Nat) (Option.none : Option Jvm.ClassFile.FieldType)) ∈ lw_all := lw_g (lw_at lw_m0 197 rfl) rfl
theorem q217 : (Jvm.Cond.methodLink "ModSolverModel" (40 : Nat) ({ cls := "ModSolverModel", name := "brokenBy", desc := "(IIII)I" } : Jvm.MethodName)) ∈ lw_all := lw_g (lw_at lw_m0 198 rfl) rfl
theorem q218 : (Jvm.Cond.privateMethod ({ cls := "ModSolverModel", name := "brokenBy", desc := "(IIII)I" } : Jvm.MethodName)) ∈ lw_tbl := lw_at lw_m0 199 rfl
theorem q219 : (Jvm.Cond.instanceMethod ({ cls := "ModSolverModel", name := "brokenBy", desc := "(IIII)I" } : Jvm.MethodName)) ∈ lw_all := lw_g (lw_at lw_m0 200 rfl) rfl
theorem q220 : (Jvm.Cond.code ({ cls := "ModSolverModel", name := "brokenBy", desc := "(IIII)I" } : Jvm.MethodName) prog_3_method_8_code (9 : Nat) (Option.some Jvm.ClassFile.FieldType.int)) ∈ lw_all := lw_g (lw_at lw_m0 201 rfl) rfl
theorem q221 : (Jvm.Cond.methodLink "ModSolverModel" (47 : Nat) ({ cls := "ModSolverModel", name := "ons", desc := "()I" } : Jvm.MethodName)) ∈ lw_all := lw_g (lw_at lw_m0 202 rfl) rfl
theorem q222 : (Jvm.Cond.privateMethod ({ cls := "ModSolverModel", name := "ons", desc := "()I" } : Jvm.MethodName)) ∈ lw_tbl := lw_at lw_m0 203 rfl
theorem q223 : (Jvm.Cond.instanceMethod ({ cls := "ModSolverModel", name := "ons", desc := "()I" } : Jvm.MethodName)) ∈ lw_all := lw_g (lw_at lw_m0 204 rfl) rfl
theorem q224 : (Jvm.Cond.code ({ cls := "ModSolverModel", name := "ons", desc := "()I" } : Jvm.MethodName) prog_3_method_10_code (3 : Nat) (Option.some Jvm.ClassFile.FieldType.int)) ∈ lw_all := lw_g (lw_at lw_m0 205 rfl) rfl
theorem q226 : (Jvm.Cond.instanceMethod ({ cls := "ModSolverModel", name := "value", desc := "(II)I" } : Jvm.MethodName)) ∈ lw_all := lw_g (lw_at lw_m0 207 rfl) rfl
theorem q227 : (Jvm.Cond.selects "ModSolverModel" ({ cls := "ModSolverModel", name := "value", desc := "(II)I" } : Jvm.MethodName) ({ cls := "ModSolverModel", name := "value", desc := "(II)I" } : Jvm.MethodName)) ∈ lw_all := lw_g (lw_at lw_m0 208 rfl) rfl
theorem q228 : (Jvm.Cond.code ({ cls := "ModSolverModel", name := "value", desc := "(II)I" } : Jvm.MethodName) prog_3_method_14_code (6 : Nat) (Option.some Jvm.ClassFile.FieldType.int)) ∈ lw_all := lw_g (lw_at lw_m0 209 rfl) rfl
theorem q229 : (Jvm.Cond.methodLink "ModSolverModel" (54 : Nat) ({ cls := "ModSolverModel", name := "digit", desc := "(II)I" } : Jvm.MethodName)) ∈ lw_all := lw_g (lw_at lw_m0 210 rfl) rfl
theorem q230 : (Jvm.Cond.privateMethod ({ cls := "ModSolverModel", name := "digit", desc := "(II)I" } : Jvm.MethodName)) ∈ lw_tbl := lw_at lw_m0 211 rfl
theorem q231 : (Jvm.Cond.instanceMethod ({ cls := "ModSolverModel", name := "digit", desc := "(II)I" } : Jvm.MethodName)) ∈ lw_all := lw_g (lw_at lw_m0 212 rfl) rfl
theorem q232 : (Jvm.Cond.code ({ cls := "ModSolverModel", name := "digit", desc := "(II)I" } : Jvm.MethodName) prog_3_method_13_code (3 : Nat) (Option.some Jvm.ClassFile.FieldType.int)) ∈ lw_all := lw_g (lw_at lw_m0 213 rfl) rfl
theorem q234 : (Jvm.Cond.instanceMethod ({ cls := "ModSolverModel", name := "possible", desc := "(I)I" } : Jvm.MethodName)) ∈ lw_all := lw_g (lw_at lw_m0 215 rfl) rfl
theorem q235 : (Jvm.Cond.selects "ModSolverModel" ({ cls := "ModSolverModel", name := "possible", desc := "(I)I" } : Jvm.MethodName) ({ cls := "ModSolverModel", name := "possible", desc := "(I)I" } : Jvm.MethodName)) ∈ lw_all := lw_g (lw_at lw_m0 216 rfl) rfl
theorem q236 : (Jvm.Cond.code ({ cls := "ModSolverModel", name := "possible", desc := "(I)I" } : Jvm.MethodName) prog_3_method_15_code (5 : Nat) (Option.some Jvm.ClassFile.FieldType.int)) ∈ lw_all := lw_g (lw_at lw_m0 217 rfl) rfl
theorem q238 : (Jvm.Cond.instanceMethod ({ cls := "ModSolverModel", name := "fixed", desc := "(I)Z" } : Jvm.MethodName)) ∈ lw_all := lw_g (lw_at lw_m0 219 rfl) rfl
theorem q239 : (Jvm.Cond.selects "ModSolverModel" ({ cls := "ModSolverModel", name := "fixed", desc := "(I)Z" } : Jvm.MethodName) ({ cls := "ModSolverModel", name := "fixed", desc := "(I)Z" } : Jvm.MethodName)) ∈ lw_all := lw_g (lw_at lw_m0 220 rfl) rfl
theorem q240 : (Jvm.Cond.code ({ cls := "ModSolverModel", name := "fixed", desc := "(I)Z" } : Jvm.MethodName) prog_3_method_16_code (4 : Nat) (Option.some Jvm.ClassFile.FieldType.boolean)) ∈ lw_all := lw_g (lw_at lw_m0 221 rfl) rfl
theorem q241 : (Jvm.Cond.methodLink "ModSolverModel" (58 : Nat) ({ cls := "ModSolverModel", name := "possible", desc := "(I)I" } : Jvm.MethodName)) ∈ lw_all := lw_g (lw_at lw_m0 222 rfl) rfl
theorem q243 : (Jvm.Cond.instanceMethod ({ cls := "ModSolverModel", name := "rank", desc := "(I)I" } : Jvm.MethodName)) ∈ lw_all := lw_g (lw_at lw_m0 224 rfl) rfl
theorem q244 : (Jvm.Cond.selects "ModSolverModel" ({ cls := "ModSolverModel", name := "rank", desc := "(I)I" } : Jvm.MethodName) ({ cls := "ModSolverModel", name := "rank", desc := "(I)I" } : Jvm.MethodName)) ∈ lw_all := lw_g (lw_at lw_m0 225 rfl) rfl
theorem q245 : (Jvm.Cond.code ({ cls := "ModSolverModel", name := "rank", desc := "(I)I" } : Jvm.MethodName) prog_3_method_17_code (5 : Nat) (Option.some Jvm.ClassFile.FieldType.int)) ∈ lw_all := lw_g (lw_at lw_m0 226 rfl) rfl
theorem q247 : (Jvm.Cond.instanceMethod ({ cls := "ModSolverModel", name := "follows", desc := "(I)Z" } : Jvm.MethodName)) ∈ lw_all := lw_g (lw_at lw_m0 228 rfl) rfl
theorem q248 : (Jvm.Cond.selects "ModSolverModel" ({ cls := "ModSolverModel", name := "follows", desc := "(I)Z" } : Jvm.MethodName) ({ cls := "ModSolverModel", name := "follows", desc := "(I)Z" } : Jvm.MethodName)) ∈ lw_all := lw_g (lw_at lw_m0 229 rfl) rfl
theorem q249 : (Jvm.Cond.code ({ cls := "ModSolverModel", name := "follows", desc := "(I)Z" } : Jvm.MethodName) prog_3_method_18_code (4 : Nat) (Option.some Jvm.ClassFile.FieldType.boolean)) ∈ lw_all := lw_g (lw_at lw_m0 230 rfl) rfl
theorem q251 : (Jvm.Cond.instanceMethod ({ cls := "ModSolverModel", name := "needed", desc := "()I" } : Jvm.MethodName)) ∈ lw_all := lw_g (lw_at lw_m0 232 rfl) rfl
theorem q252 : (Jvm.Cond.selects "ModSolverModel" ({ cls := "ModSolverModel", name := "needed", desc := "()I" } : Jvm.MethodName) ({ cls := "ModSolverModel", name := "needed", desc := "()I" } : Jvm.MethodName)) ∈ lw_all := lw_g (lw_at lw_m0 233 rfl) rfl
theorem q253 : (Jvm.Cond.code ({ cls := "ModSolverModel", name := "needed", desc := "()I" } : Jvm.MethodName) prog_3_method_20_code (7 : Nat) (Option.some Jvm.ClassFile.FieldType.int)) ∈ lw_all := lw_g (lw_at lw_m0 234 rfl) rfl
theorem q254 : (Jvm.Cond.methodLink "ModSolverModel" (61 : Nat) ({ cls := "ModSolverModel", name := "meeting", desc := "(I)I" } : Jvm.MethodName)) ∈ lw_all := lw_g (lw_at lw_m0 235 rfl) rfl
theorem q255 : (Jvm.Cond.privateMethod ({ cls := "ModSolverModel", name := "meeting", desc := "(I)I" } : Jvm.MethodName)) ∈ lw_tbl := lw_at lw_m0 236 rfl
theorem q256 : (Jvm.Cond.instanceMethod ({ cls := "ModSolverModel", name := "meeting", desc := "(I)I" } : Jvm.MethodName)) ∈ lw_all := lw_g (lw_at lw_m0 237 rfl) rfl
theorem q257 : (Jvm.Cond.code ({ cls := "ModSolverModel", name := "meeting", desc := "(I)I" } : Jvm.MethodName) prog_3_method_19_code (4 : Nat) (Option.some Jvm.ClassFile.FieldType.int)) ∈ lw_all := lw_g (lw_at lw_m0 238 rfl) rfl
theorem in_X1 : ∀ w ∈ wsX10, w ∈ lw_all := lw_in wsX10 [167, 169, 171, 173, 175, 177] (by decide +kernel) (by decide +kernel)
/-! java/lang/Object -/
def RJ0 : String := "java/lang/Object"
abbrev cJ0_init : ByteArray := object_method_1_code
def yJ0_init : MethodName := ⟨RJ0, "<init>", "()V"⟩
theorem dJ0_init_0 : decode cJ0_init 0 = .ok (.return_, 1) := by decide +kernel
theorem q28 : (Jvm.Cond.instanceMethod ({ cls := "java/lang/Object", name := "<init>", desc := "()V" } : Jvm.MethodName)) ∈ lw_all := lw_g (lw_at lw_m0 9 rfl) rfl
theorem q29 : (Jvm.Cond.code ({ cls := "java/lang/Object", name := "<init>", desc := "()V" } : Jvm.MethodName) object_method_1_code (1 : Nat) (Option.none : Option Jvm.ClassFile.FieldType)) ∈ lw_all := lw_g (lw_at lw_m0 10 rfl) rfl
theorem q19 : (Jvm.Cond.initialized "ModSolverLaw") ∈ lw_all := lw_g (lw_at lw_m0 0 rfl) rfl
theorem q22 : (Jvm.Cond.classLink "ModSolverLaw" (7 : Nat) "ModSolver") ∈ lw_all := lw_g (lw_at lw_m0 3 rfl) rfl
theorem q24 : (Jvm.Cond.methodLink "ModSolverLaw" (9 : Nat) ({ cls := "ModSolver", name := "<init>", desc := "()V" } : Jvm.MethodName)) ∈ lw_all := lw_g (lw_at lw_m0 5 rfl) rfl
theorem q54 : (Jvm.Cond.methodLink "ModSolverLaw" (13 : Nat) ({ cls := "ModSolver", name := "add", desc := "(I)I" } : Jvm.MethodName)) ∈ lw_all := lw_g (lw_at lw_m0 35 rfl) rfl
theorem q59 : (Jvm.Cond.methodLink "ModSolverLaw" (18 : Nat) ({ cls := "ModSolver", name := "set", desc := "(III)I" } : Jvm.MethodName)) ∈ lw_all := lw_g (lw_at lw_m0 40 rfl) rfl
theorem q70 : (Jvm.Cond.methodLink "ModSolverLaw" (23 : Nat) ({ cls := "ModSolver", name := "turn", desc := "(IZ)I" } : Jvm.MethodName)) ∈ lw_all := lw_g (lw_at lw_m0 51 rfl) rfl
theorem q74 : (Jvm.Cond.methodLink "ModSolverLaw" (28 : Nat) ({ cls := "ModSolver", name := "drop", desc := "()I" } : Jvm.MethodName)) ∈ lw_all := lw_g (lw_at lw_m0 55 rfl) rfl
theorem q78 : (Jvm.Cond.methodLink "ModSolverLaw" (33 : Nat) ({ cls := "ModSolver", name := "solutions", desc := "()I" } : Jvm.MethodName)) ∈ lw_all := lw_g (lw_at lw_m0 59 rfl) rfl
theorem q113 : (Jvm.Cond.methodLink "ModSolverLaw" (37 : Nat) ({ cls := "ModSolver", name := "value", desc := "(II)I" } : Jvm.MethodName)) ∈ lw_all := lw_g (lw_at lw_m0 94 rfl) rfl
theorem q125 : (Jvm.Cond.methodLink "ModSolverLaw" (42 : Nat) ({ cls := "ModSolver", name := "possible", desc := "(I)I" } : Jvm.MethodName)) ∈ lw_all := lw_g (lw_at lw_m0 106 rfl) rfl
theorem q133 : (Jvm.Cond.methodLink "ModSolverLaw" (46 : Nat) ({ cls := "ModSolver", name := "fixed", desc := "(I)Z" } : Jvm.MethodName)) ∈ lw_all := lw_g (lw_at lw_m0 114 rfl) rfl
theorem q137 : (Jvm.Cond.methodLink "ModSolverLaw" (51 : Nat) ({ cls := "ModSolver", name := "rank", desc := "(I)I" } : Jvm.MethodName)) ∈ lw_all := lw_g (lw_at lw_m0 118 rfl) rfl
theorem q144 : (Jvm.Cond.methodLink "ModSolverLaw" (55 : Nat) ({ cls := "ModSolver", name := "follows", desc := "(I)Z" } : Jvm.MethodName)) ∈ lw_all := lw_g (lw_at lw_m0 125 rfl) rfl
theorem q148 : (Jvm.Cond.methodLink "ModSolverLaw" (59 : Nat) ({ cls := "ModSolver", name := "needed", desc := "()I" } : Jvm.MethodName)) ∈ lw_all := lw_g (lw_at lw_m0 129 rfl) rfl
theorem q155 : (Jvm.Cond.classLink "ModSolverLaw" (10 : Nat) "ModSolverModel") ∈ lw_all := lw_g (lw_at lw_m0 136 rfl) rfl
theorem q157 : (Jvm.Cond.methodLink "ModSolverLaw" (12 : Nat) ({ cls := "ModSolverModel", name := "<init>", desc := "()V" } : Jvm.MethodName)) ∈ lw_all := lw_g (lw_at lw_m0 138 rfl) rfl
theorem q180 : (Jvm.Cond.methodLink "ModSolverLaw" (17 : Nat) ({ cls := "ModSolverModel", name := "add", desc := "(I)I" } : Jvm.MethodName)) ∈ lw_all := lw_g (lw_at lw_m0 161 rfl) rfl
theorem q189 : (Jvm.Cond.methodLink "ModSolverLaw" (22 : Nat) ({ cls := "ModSolverModel", name := "set", desc := "(III)I" } : Jvm.MethodName)) ∈ lw_all := lw_g (lw_at lw_m0 170 rfl) rfl
theorem q197 : (Jvm.Cond.methodLink "ModSolverLaw" (27 : Nat) ({ cls := "ModSolverModel", name := "turn", desc := "(IZ)I" } : Jvm.MethodName)) ∈ lw_all := lw_g (lw_at lw_m0 178 rfl) rfl
theorem q201 : (Jvm.Cond.methodLink "ModSolverLaw" (32 : Nat) ({ cls := "ModSolverModel", name := "drop", desc := "()I" } : Jvm.MethodName)) ∈ lw_all := lw_g (lw_at lw_m0 182 rfl) rfl
theorem q205 : (Jvm.Cond.methodLink "ModSolverLaw" (36 : Nat) ({ cls := "ModSolverModel", name := "solutions", desc := "()I" } : Jvm.MethodName)) ∈ lw_all := lw_g (lw_at lw_m0 186 rfl) rfl
theorem q225 : (Jvm.Cond.methodLink "ModSolverLaw" (41 : Nat) ({ cls := "ModSolverModel", name := "value", desc := "(II)I" } : Jvm.MethodName)) ∈ lw_all := lw_g (lw_at lw_m0 206 rfl) rfl
theorem q233 : (Jvm.Cond.methodLink "ModSolverLaw" (45 : Nat) ({ cls := "ModSolverModel", name := "possible", desc := "(I)I" } : Jvm.MethodName)) ∈ lw_all := lw_g (lw_at lw_m0 214 rfl) rfl
theorem q237 : (Jvm.Cond.methodLink "ModSolverLaw" (50 : Nat) ({ cls := "ModSolverModel", name := "fixed", desc := "(I)Z" } : Jvm.MethodName)) ∈ lw_all := lw_g (lw_at lw_m0 218 rfl) rfl
theorem q242 : (Jvm.Cond.methodLink "ModSolverLaw" (54 : Nat) ({ cls := "ModSolverModel", name := "rank", desc := "(I)I" } : Jvm.MethodName)) ∈ lw_all := lw_g (lw_at lw_m0 223 rfl) rfl
theorem q246 : (Jvm.Cond.methodLink "ModSolverLaw" (58 : Nat) ({ cls := "ModSolverModel", name := "follows", desc := "(I)Z" } : Jvm.MethodName)) ∈ lw_all := lw_g (lw_at lw_m0 227 rfl) rfl
theorem q250 : (Jvm.Cond.methodLink "ModSolverLaw" (62 : Nat) ({ cls := "ModSolverModel", name := "needed", desc := "()I" } : Jvm.MethodName)) ∈ lw_all := lw_g (lw_at lw_m0 231 rfl) rfl
theorem q52 : (Jvm.Cond.arrayClass Jvm.ClassFile.FieldType.int) ∈ lw_all := lw_g (lw_at lw_m0 33 rfl) rfl
theorem q53 : (Jvm.Cond.arrayClass Jvm.ClassFile.FieldType.boolean) ∈ lw_all := lw_g (lw_at lw_m0 34 rfl) rfl
/-! the law's own entry -/
abbrev cL_law : ByteArray := code
end
section
set_option maxRecDepth 100000
theorem dX0_init_0 : decode cX0_init 0 = .ok (.aload_n 0, 1) := by decide +kernel
theorem dX0_init_1 : decode cX0_init 1 = .ok (.invokespecial 1, 3) := by decide +kernel
theorem dX0_init_4 : decode cX0_init 4 = .ok (.aload_n 0, 1) := by decide +kernel
theorem dX0_init_5 : decode cX0_init 5 = .ok (.bipush 30, 2) := by decide +kernel
theorem dX0_init_7 : decode cX0_init 7 = .ok (.newarray .int, 2) := by decide +kernel
theorem dX0_init_9 : decode cX0_init 9 = .ok (.putfield 7, 3) := by decide +kernel
theorem dX0_init_12 : decode cX0_init 12 = .ok (.aload_n 0, 1) := by decide +kernel
theorem dX0_init_13 : decode cX0_init 13 = .ok (.bipush 6, 2) := by decide +kernel
theorem dX0_init_15 : decode cX0_init 15 = .ok (.newarray .boolean, 2) := by decide +kernel
theorem dX0_init_17 : decode cX0_init 17 = .ok (.putfield 13, 3) := by decide +kernel
theorem dX0_init_20 : decode cX0_init 20 = .ok (.aload_n 0, 1) := by decide +kernel
theorem dX0_init_21 : decode cX0_init 21 = .ok (.iconst 4, 1) := by decide +kernel
theorem dX0_init_22 : decode cX0_init 22 = .ok (.newarray .boolean, 2) := by decide +kernel
theorem dX0_init_24 : decode cX0_init 24 = .ok (.putfield 17, 3) := by decide +kernel
theorem dX0_init_27 : decode cX0_init 27 = .ok (.aload_n 0, 1) := by decide +kernel
theorem dX0_init_28 : decode cX0_init 28 = .ok (.bipush 20, 2) := by decide +kernel
theorem dX0_init_30 : decode cX0_init 30 = .ok (.newarray .int, 2) := by decide +kernel
theorem dX0_init_32 : decode cX0_init 32 = .ok (.putfield 20, 3) := by decide +kernel
theorem dX0_init_35 : decode cX0_init 35 = .ok (.aload_n 0, 1) := by decide +kernel
theorem dX0_init_36 : decode cX0_init 36 = .ok (.iconst 5, 1) := by decide +kernel
theorem dX0_init_37 : decode cX0_init 37 = .ok (.newarray .int, 2) := by decide +kernel
theorem dX0_init_39 : decode cX0_init 39 = .ok (.putfield 23, 3) := by decide +kernel
theorem dX0_init_42 : decode cX0_init 42 = .ok (.aload_n 0, 1) := by decide +kernel
theorem dX0_init_43 : decode cX0_init 43 = .ok (.iconst 0, 1) := by decide +kernel
theorem dX0_init_44 : decode cX0_init 44 = .ok (.putfield 26, 3) := by decide +kernel
theorem dX0_init_47 : decode cX0_init 47 = .ok (.return_, 1) := by decide +kernel
theorem dX0_add_0 : decode cX0_add 0 = .ok (.aload_n 0, 1) := by decide +kernel
theorem dX0_add_1 : decode cX0_add 1 = .ok (.getfield 26, 3) := by decide +kernel
theorem dX0_add_4 : decode cX0_add 4 = .ok (.bipush 6, 2) := by decide +kernel
theorem dX0_add_6 : decode cX0_add 6 = .ok (.if_icmp .lt 6, 3) := by decide +kernel
theorem dX0_add_9 : decode cX0_add 9 = .ok (.bipush (-3), 2) := by decide +kernel
theorem dX0_add_11 : decode cX0_add 11 = .ok (.ireturn, 1) := by decide +kernel
theorem dX0_add_12 : decode cX0_add 12 = .ok (.iload_n 1, 1) := by decide +kernel
theorem dX0_add_13 : decode cX0_add 13 = .ok (.ldc 30, 2) := by decide +kernel
theorem dX0_add_15 : decode cX0_add 15 = .ok (.iand, 1) := by decide +kernel
theorem dX0_add_16 : decode cX0_add 16 = .ok (.istore_n 2, 1) := by decide +kernel
theorem dX0_add_17 : decode cX0_add 17 = .ok (.iconst 0, 1) := by decide +kernel
theorem dX0_add_18 : decode cX0_add 18 = .ok (.istore_n 3, 1) := by decide +kernel
theorem dX0_add_19 : decode cX0_add 19 = .ok (.iload_n 3, 1) := by decide +kernel
theorem dX0_add_20 : decode cX0_add 20 = .ok (.iconst 5, 1) := by decide +kernel
theorem dX0_add_21 : decode cX0_add 21 = .ok (.if_icmp .ge 31, 3) := by decide +kernel
theorem dX0_add_24 : decode cX0_add 24 = .ok (.aload_n 0, 1) := by decide +kernel
theorem dX0_add_25 : decode cX0_add 25 = .ok (.getfield 7, 3) := by decide +kernel
theorem dX0_add_28 : decode cX0_add 28 = .ok (.aload_n 0, 1) := by decide +kernel
theorem dX0_add_29 : decode cX0_add 29 = .ok (.getfield 26, 3) := by decide +kernel
theorem dX0_add_32 : decode cX0_add 32 = .ok (.iconst 5, 1) := by decide +kernel
theorem dX0_add_33 : decode cX0_add 33 = .ok (.imul, 1) := by decide +kernel
theorem dX0_add_34 : decode cX0_add 34 = .ok (.iload_n 3, 1) := by decide +kernel
theorem dX0_add_35 : decode cX0_add 35 = .ok (.iadd, 1) := by decide +kernel
theorem dX0_add_36 : decode cX0_add 36 = .ok (.iload_n 2, 1) := by decide +kernel
theorem dX0_add_37 : decode cX0_add 37 = .ok (.bipush 7, 2) := by decide +kernel
theorem dX0_add_39 : decode cX0_add 39 = .ok (.irem, 1) := by decide +kernel
theorem dX0_add_40 : decode cX0_add 40 = .ok (.iastore, 1) := by decide +kernel
theorem dX0_add_41 : decode cX0_add 41 = .ok (.iload_n 2, 1) := by decide +kernel
theorem dX0_add_42 : decode cX0_add 42 = .ok (.bipush 7, 2) := by decide +kernel
theorem dX0_add_44 : decode cX0_add 44 = .ok (.idiv, 1) := by decide +kernel
theorem dX0_add_45 : decode cX0_add 45 = .ok (.istore_n 2, 1) := by decide +kernel
theorem dX0_add_46 : decode cX0_add 46 = .ok (.iinc 3 1, 3) := by decide +kernel
theorem dX0_add_49 : decode cX0_add 49 = .ok (.goto (-30), 3) := by decide +kernel
theorem dX0_add_52 : decode cX0_add 52 = .ok (.aload_n 0, 1) := by decide +kernel
theorem dX0_add_53 : decode cX0_add 53 = .ok (.getfield 13, 3) := by decide +kernel
theorem dX0_add_56 : decode cX0_add 56 = .ok (.aload_n 0, 1) := by decide +kernel
theorem dX0_add_57 : decode cX0_add 57 = .ok (.getfield 26, 3) := by decide +kernel
theorem dX0_add_60 : decode cX0_add 60 = .ok (.iconst 1, 1) := by decide +kernel
theorem dX0_add_61 : decode cX0_add 61 = .ok (.bastore, 1) := by decide +kernel
theorem dX0_add_62 : decode cX0_add 62 = .ok (.aload_n 0, 1) := by decide +kernel
theorem dX0_add_63 : decode cX0_add 63 = .ok (.dup, 1) := by decide +kernel
theorem dX0_add_64 : decode cX0_add 64 = .ok (.getfield 26, 3) := by decide +kernel
theorem dX0_add_67 : decode cX0_add 67 = .ok (.iconst 1, 1) := by decide +kernel
theorem dX0_add_68 : decode cX0_add 68 = .ok (.iadd, 1) := by decide +kernel
theorem dX0_add_69 : decode cX0_add 69 = .ok (.putfield 26, 3) := by decide +kernel
theorem dX0_add_72 : decode cX0_add 72 = .ok (.aload_n 0, 1) := by decide +kernel
theorem dX0_add_73 : decode cX0_add 73 = .ok (.getfield 26, 3) := by decide +kernel
theorem dX0_add_76 : decode cX0_add 76 = .ok (.iconst 1, 1) := by decide +kernel
theorem dX0_add_77 : decode cX0_add 77 = .ok (.isub, 1) := by decide +kernel
theorem dX0_add_78 : decode cX0_add 78 = .ok (.ireturn, 1) := by decide +kernel
theorem dX0_set_0 : decode cX0_set 0 = .ok (.aload_n 0, 1) := by decide +kernel
theorem dX0_set_1 : decode cX0_set 1 = .ok (.iload_n 1, 1) := by decide +kernel
theorem dX0_set_2 : decode cX0_set 2 = .ok (.invokevirtual 31, 3) := by decide +kernel
theorem dX0_set_5 : decode cX0_set 5 = .ok (.ifCond .eq 5, 3) := by decide +kernel
theorem dX0_set_8 : decode cX0_set 8 = .ok (.iconst (-1), 1) := by decide +kernel
theorem dX0_set_9 : decode cX0_set 9 = .ok (.ireturn, 1) := by decide +kernel
theorem dX0_set_10 : decode cX0_set 10 = .ok (.iload_n 2, 1) := by decide +kernel
theorem dX0_set_11 : decode cX0_set 11 = .ok (.ifCond .lt 8, 3) := by decide +kernel
theorem dX0_set_14 : decode cX0_set 14 = .ok (.iload_n 2, 1) := by decide +kernel
theorem dX0_set_15 : decode cX0_set 15 = .ok (.iconst 4, 1) := by decide +kernel
theorem dX0_set_16 : decode cX0_set 16 = .ok (.if_icmp .le 6, 3) := by decide +kernel
theorem dX0_set_19 : decode cX0_set 19 = .ok (.bipush (-2), 2) := by decide +kernel
theorem dX0_set_21 : decode cX0_set 21 = .ok (.ireturn, 1) := by decide +kernel
theorem dX0_set_22 : decode cX0_set 22 = .ok (.aload_n 0, 1) := by decide +kernel
theorem dX0_set_23 : decode cX0_set 23 = .ok (.getfield 7, 3) := by decide +kernel
theorem dX0_set_26 : decode cX0_set 26 = .ok (.iload_n 1, 1) := by decide +kernel
theorem dX0_set_27 : decode cX0_set 27 = .ok (.iconst 5, 1) := by decide +kernel
theorem dX0_set_28 : decode cX0_set 28 = .ok (.imul, 1) := by decide +kernel
theorem dX0_set_29 : decode cX0_set 29 = .ok (.iload_n 2, 1) := by decide +kernel
theorem dX0_set_30 : decode cX0_set 30 = .ok (.iadd, 1) := by decide +kernel
theorem dX0_set_31 : decode cX0_set 31 = .ok (.iaload, 1) := by decide +kernel
theorem dX0_set_32 : decode cX0_set 32 = .ok (.istore 4, 2) := by decide +kernel
theorem dX0_set_34 : decode cX0_set 34 = .ok (.aload_n 0, 1) := by decide +kernel
theorem dX0_set_35 : decode cX0_set 35 = .ok (.getfield 7, 3) := by decide +kernel
theorem dX0_set_38 : decode cX0_set 38 = .ok (.iload_n 1, 1) := by decide +kernel
theorem dX0_set_39 : decode cX0_set 39 = .ok (.iconst 5, 1) := by decide +kernel
theorem dX0_set_40 : decode cX0_set 40 = .ok (.imul, 1) := by decide +kernel
theorem dX0_set_41 : decode cX0_set 41 = .ok (.iload_n 2, 1) := by decide +kernel
theorem dX0_set_42 : decode cX0_set 42 = .ok (.iadd, 1) := by decide +kernel
theorem dX0_set_43 : decode cX0_set 43 = .ok (.iload_n 3, 1) := by decide +kernel
theorem dX0_set_44 : decode cX0_set 44 = .ok (.invokestatic 35, 3) := by decide +kernel
theorem dX0_set_47 : decode cX0_set 47 = .ok (.iastore, 1) := by decide +kernel
theorem dX0_set_48 : decode cX0_set 48 = .ok (.iload 4, 2) := by decide +kernel
theorem dX0_set_50 : decode cX0_set 50 = .ok (.ireturn, 1) := by decide +kernel
theorem dX0_noEquation_0 : decode cX0_noEquation 0 = .ok (.iload_n 1, 1) := by decide +kernel
theorem dX0_noEquation_1 : decode cX0_noEquation 1 = .ok (.ifCond .lt 11, 3) := by decide +kernel
theorem dX0_noEquation_4 : decode cX0_noEquation 4 = .ok (.iload_n 1, 1) := by decide +kernel
theorem dX0_noEquation_5 : decode cX0_noEquation 5 = .ok (.aload_n 0, 1) := by decide +kernel
theorem dX0_noEquation_6 : decode cX0_noEquation 6 = .ok (.getfield 26, 3) := by decide +kernel
theorem dX0_noEquation_9 : decode cX0_noEquation 9 = .ok (.if_icmp .lt 7, 3) := by decide +kernel
theorem dX0_noEquation_12 : decode cX0_noEquation 12 = .ok (.iconst 1, 1) := by decide +kernel
theorem dX0_noEquation_13 : decode cX0_noEquation 13 = .ok (.goto 4, 3) := by decide +kernel
theorem dX0_noEquation_16 : decode cX0_noEquation 16 = .ok (.iconst 0, 1) := by decide +kernel
theorem dX0_noEquation_17 : decode cX0_noEquation 17 = .ok (.ireturn, 1) := by decide +kernel
theorem dX0_mod_0 : decode cX0_mod 0 = .ok (.iload_n 0, 1) := by decide +kernel
theorem dX0_mod_1 : decode cX0_mod 1 = .ok (.bipush 7, 2) := by decide +kernel
theorem dX0_mod_3 : decode cX0_mod 3 = .ok (.irem, 1) := by decide +kernel
theorem dX0_mod_4 : decode cX0_mod 4 = .ok (.istore_n 1, 1) := by decide +kernel
theorem dX0_mod_5 : decode cX0_mod 5 = .ok (.iload_n 1, 1) := by decide +kernel
theorem dX0_mod_6 : decode cX0_mod 6 = .ok (.ifCond .ge 10, 3) := by decide +kernel
theorem dX0_mod_9 : decode cX0_mod 9 = .ok (.iload_n 1, 1) := by decide +kernel
theorem dX0_mod_10 : decode cX0_mod 10 = .ok (.bipush 7, 2) := by decide +kernel
theorem dX0_mod_12 : decode cX0_mod 12 = .ok (.iadd, 1) := by decide +kernel
theorem dX0_mod_13 : decode cX0_mod 13 = .ok (.goto 4, 3) := by decide +kernel
theorem dX0_mod_16 : decode cX0_mod 16 = .ok (.iload_n 1, 1) := by decide +kernel
theorem dX0_mod_17 : decode cX0_mod 17 = .ok (.ireturn, 1) := by decide +kernel
theorem dX0_turn_0 : decode cX0_turn 0 = .ok (.aload_n 0, 1) := by decide +kernel
theorem dX0_turn_1 : decode cX0_turn 1 = .ok (.iload_n 1, 1) := by decide +kernel
theorem dX0_turn_2 : decode cX0_turn 2 = .ok (.invokevirtual 31, 3) := by decide +kernel
theorem dX0_turn_5 : decode cX0_turn 5 = .ok (.ifCond .eq 5, 3) := by decide +kernel
theorem dX0_turn_8 : decode cX0_turn 8 = .ok (.iconst (-1), 1) := by decide +kernel
theorem dX0_turn_9 : decode cX0_turn 9 = .ok (.ireturn, 1) := by decide +kernel
theorem dX0_turn_10 : decode cX0_turn 10 = .ok (.aload_n 0, 1) := by decide +kernel
theorem dX0_turn_11 : decode cX0_turn 11 = .ok (.getfield 13, 3) := by decide +kernel
theorem dX0_turn_14 : decode cX0_turn 14 = .ok (.iload_n 1, 1) := by decide +kernel
theorem dX0_turn_15 : decode cX0_turn 15 = .ok (.baload, 1) := by decide +kernel
theorem dX0_turn_16 : decode cX0_turn 16 = .ok (.ifCond .eq 7, 3) := by decide +kernel
theorem dX0_turn_19 : decode cX0_turn 19 = .ok (.iconst 1, 1) := by decide +kernel
theorem dX0_turn_20 : decode cX0_turn 20 = .ok (.goto 4, 3) := by decide +kernel
theorem dX0_turn_23 : decode cX0_turn 23 = .ok (.iconst 0, 1) := by decide +kernel
theorem dX0_turn_24 : decode cX0_turn 24 = .ok (.istore_n 3, 1) := by decide +kernel
theorem dX0_turn_25 : decode cX0_turn 25 = .ok (.aload_n 0, 1) := by decide +kernel
theorem dX0_turn_26 : decode cX0_turn 26 = .ok (.getfield 13, 3) := by decide +kernel
theorem dX0_turn_29 : decode cX0_turn 29 = .ok (.iload_n 1, 1) := by decide +kernel
theorem dX0_turn_30 : decode cX0_turn 30 = .ok (.iload_n 2, 1) := by decide +kernel
theorem dX0_turn_31 : decode cX0_turn 31 = .ok (.bastore, 1) := by decide +kernel
theorem dX0_turn_32 : decode cX0_turn 32 = .ok (.iload_n 3, 1) := by decide +kernel
theorem dX0_turn_33 : decode cX0_turn 33 = .ok (.ireturn, 1) := by decide +kernel
theorem dX0_drop_0 : decode cX0_drop 0 = .ok (.aload_n 0, 1) := by decide +kernel
theorem dX0_drop_1 : decode cX0_drop 1 = .ok (.getfield 26, 3) := by decide +kernel
theorem dX0_drop_4 : decode cX0_drop 4 = .ok (.ifCond .ne 5, 3) := by decide +kernel
theorem dX0_drop_7 : decode cX0_drop 7 = .ok (.iconst (-1), 1) := by decide +kernel
theorem dX0_drop_8 : decode cX0_drop 8 = .ok (.ireturn, 1) := by decide +kernel
theorem dX0_drop_9 : decode cX0_drop 9 = .ok (.aload_n 0, 1) := by decide +kernel
theorem dX0_drop_10 : decode cX0_drop 10 = .ok (.dup, 1) := by decide +kernel
theorem dX0_drop_11 : decode cX0_drop 11 = .ok (.getfield 26, 3) := by decide +kernel
theorem dX0_drop_14 : decode cX0_drop 14 = .ok (.iconst 1, 1) := by decide +kernel
theorem dX0_drop_15 : decode cX0_drop 15 = .ok (.isub, 1) := by decide +kernel
theorem dX0_drop_16 : decode cX0_drop 16 = .ok (.putfield 26, 3) := by decide +kernel
theorem dX0_drop_19 : decode cX0_drop 19 = .ok (.aload_n 0, 1) := by decide +kernel
theorem dX0_drop_20 : decode cX0_drop 20 = .ok (.getfield 26, 3) := by decide +kernel
theorem dX0_drop_23 : decode cX0_drop 23 = .ok (.ireturn, 1) := by decide +kernel
theorem dX0_solutions_0 : decode cX0_solutions 0 = .ok (.aload_n 0, 1) := by decide +kernel
theorem dX0_solutions_1 : decode cX0_solutions 1 = .ok (.invokevirtual 70, 3) := by decide +kernel
theorem dX0_solutions_4 : decode cX0_solutions 4 = .ok (.aload_n 0, 1) := by decide +kernel
theorem dX0_solutions_5 : decode cX0_solutions 5 = .ok (.getfield 42, 3) := by decide +kernel
theorem dX0_solutions_8 : decode cX0_solutions 8 = .ok (.ifCond .eq 7, 3) := by decide +kernel
theorem dX0_solutions_11 : decode cX0_solutions 11 = .ok (.iconst 0, 1) := by decide +kernel
theorem dX0_solutions_12 : decode cX0_solutions 12 = .ok (.goto 8, 3) := by decide +kernel
theorem dX0_solutions_15 : decode cX0_solutions 15 = .ok (.aload_n 0, 1) := by decide +kernel
theorem dX0_solutions_16 : decode cX0_solutions 16 = .ok (.iconst 0, 1) := by decide +kernel
theorem dX0_solutions_17 : decode cX0_solutions 17 = .ok (.invokevirtual 67, 3) := by decide +kernel
theorem dX0_solutions_20 : decode cX0_solutions 20 = .ok (.ireturn, 1) := by decide +kernel
theorem dX0_solve_0 : decode cX0_solve 0 = .ok (.aload_n 0, 1) := by decide +kernel
theorem dX0_solve_1 : decode cX0_solve 1 = .ok (.invokevirtual 57, 3) := by decide +kernel
theorem dX0_solve_4 : decode cX0_solve 4 = .ok (.istore_n 1, 1) := by decide +kernel
theorem dX0_solve_5 : decode cX0_solve 5 = .ok (.aload_n 0, 1) := by decide +kernel
theorem dX0_solve_6 : decode cX0_solve 6 = .ok (.iload_n 1, 1) := by decide +kernel
theorem dX0_solve_7 : decode cX0_solve 7 = .ok (.invokevirtual 60, 3) := by decide +kernel
theorem dX0_solve_10 : decode cX0_solve 10 = .ok (.return_, 1) := by decide +kernel
theorem dX0_onSet_0 : decode cX0_onSet 0 = .ok (.iconst 0, 1) := by decide +kernel
theorem dX0_onSet_1 : decode cX0_onSet 1 = .ok (.istore_n 1, 1) := by decide +kernel
theorem dX0_onSet_2 : decode cX0_onSet 2 = .ok (.iconst 0, 1) := by decide +kernel
theorem dX0_onSet_3 : decode cX0_onSet 3 = .ok (.istore_n 2, 1) := by decide +kernel
theorem dX0_onSet_4 : decode cX0_onSet 4 = .ok (.iload_n 2, 1) := by decide +kernel
theorem dX0_onSet_5 : decode cX0_onSet 5 = .ok (.aload_n 0, 1) := by decide +kernel
theorem dX0_onSet_6 : decode cX0_onSet 6 = .ok (.getfield 26, 3) := by decide +kernel
theorem dX0_onSet_9 : decode cX0_onSet 9 = .ok (.if_icmp .ge 24, 3) := by decide +kernel
theorem dX0_onSet_12 : decode cX0_onSet 12 = .ok (.aload_n 0, 1) := by decide +kernel
theorem dX0_onSet_13 : decode cX0_onSet 13 = .ok (.getfield 13, 3) := by decide +kernel
theorem dX0_onSet_16 : decode cX0_onSet 16 = .ok (.iload_n 2, 1) := by decide +kernel
theorem dX0_onSet_17 : decode cX0_onSet 17 = .ok (.baload, 1) := by decide +kernel
theorem dX0_onSet_18 : decode cX0_onSet 18 = .ok (.ifCond .eq 9, 3) := by decide +kernel
theorem dX0_onSet_21 : decode cX0_onSet 21 = .ok (.iload_n 1, 1) := by decide +kernel
theorem dX0_onSet_22 : decode cX0_onSet 22 = .ok (.iconst 1, 1) := by decide +kernel
theorem dX0_onSet_23 : decode cX0_onSet 23 = .ok (.iload_n 2, 1) := by decide +kernel
theorem dX0_onSet_24 : decode cX0_onSet 24 = .ok (.ishl, 1) := by decide +kernel
theorem dX0_onSet_25 : decode cX0_onSet 25 = .ok (.ior, 1) := by decide +kernel
theorem dX0_onSet_26 : decode cX0_onSet 26 = .ok (.istore_n 1, 1) := by decide +kernel
theorem dX0_onSet_27 : decode cX0_onSet 27 = .ok (.iinc 2 1, 3) := by decide +kernel
theorem dX0_onSet_30 : decode cX0_onSet 30 = .ok (.goto (-26), 3) := by decide +kernel
theorem dX0_onSet_33 : decode cX0_onSet 33 = .ok (.iload_n 1, 1) := by decide +kernel
theorem dX0_onSet_34 : decode cX0_onSet 34 = .ok (.ireturn, 1) := by decide +kernel
theorem dX0_solveSet_0 : decode cX0_solveSet 0 = .ok (.aload_n 0, 1) := by decide +kernel
theorem dX0_solveSet_1 : decode cX0_solveSet 1 = .ok (.iconst 0, 1) := by decide +kernel
theorem dX0_solveSet_2 : decode cX0_solveSet 2 = .ok (.putfield 42, 3) := by decide +kernel
theorem dX0_solveSet_5 : decode cX0_solveSet 5 = .ok (.iconst 0, 1) := by decide +kernel
theorem dX0_solveSet_6 : decode cX0_solveSet 6 = .ok (.istore_n 2, 1) := by decide +kernel
theorem dX0_solveSet_7 : decode cX0_solveSet 7 = .ok (.iload_n 2, 1) := by decide +kernel
theorem dX0_solveSet_8 : decode cX0_solveSet 8 = .ok (.iconst 4, 1) := by decide +kernel
theorem dX0_solveSet_9 : decode cX0_solveSet 9 = .ok (.if_icmp .ge 16, 3) := by decide +kernel
theorem dX0_solveSet_12 : decode cX0_solveSet 12 = .ok (.aload_n 0, 1) := by decide +kernel
theorem dX0_solveSet_13 : decode cX0_solveSet 13 = .ok (.getfield 17, 3) := by decide +kernel
theorem dX0_solveSet_16 : decode cX0_solveSet 16 = .ok (.iload_n 2, 1) := by decide +kernel
theorem dX0_solveSet_17 : decode cX0_solveSet 17 = .ok (.iconst 0, 1) := by decide +kernel
theorem dX0_solveSet_18 : decode cX0_solveSet 18 = .ok (.bastore, 1) := by decide +kernel
theorem dX0_solveSet_19 : decode cX0_solveSet 19 = .ok (.iinc 2 1, 3) := by decide +kernel
theorem dX0_solveSet_22 : decode cX0_solveSet 22 = .ok (.goto (-15), 3) := by decide +kernel
theorem dX0_solveSet_25 : decode cX0_solveSet 25 = .ok (.iconst 0, 1) := by decide +kernel
theorem dX0_solveSet_26 : decode cX0_solveSet 26 = .ok (.istore_n 2, 1) := by decide +kernel
theorem dX0_solveSet_27 : decode cX0_solveSet 27 = .ok (.iload_n 2, 1) := by decide +kernel
theorem dX0_solveSet_28 : decode cX0_solveSet 28 = .ok (.aload_n 0, 1) := by decide +kernel
theorem dX0_solveSet_29 : decode cX0_solveSet 29 = .ok (.getfield 26, 3) := by decide +kernel
theorem dX0_solveSet_32 : decode cX0_solveSet 32 = .ok (.if_icmp .ge 54, 3) := by decide +kernel
theorem dX0_solveSet_35 : decode cX0_solveSet 35 = .ok (.iload_n 1, 1) := by decide +kernel
theorem dX0_solveSet_36 : decode cX0_solveSet 36 = .ok (.iload_n 2, 1) := by decide +kernel
theorem dX0_solveSet_37 : decode cX0_solveSet 37 = .ok (.ishr, 1) := by decide +kernel
theorem dX0_solveSet_38 : decode cX0_solveSet 38 = .ok (.iconst 1, 1) := by decide +kernel
theorem dX0_solveSet_39 : decode cX0_solveSet 39 = .ok (.iand, 1) := by decide +kernel
theorem dX0_solveSet_40 : decode cX0_solveSet 40 = .ok (.iconst 1, 1) := by decide +kernel
theorem dX0_solveSet_41 : decode cX0_solveSet 41 = .ok (.if_icmp .ne 39, 3) := by decide +kernel
theorem dX0_solveSet_44 : decode cX0_solveSet 44 = .ok (.aload_n 0, 1) := by decide +kernel
theorem dX0_solveSet_45 : decode cX0_solveSet 45 = .ok (.iload_n 2, 1) := by decide +kernel
theorem dX0_solveSet_46 : decode cX0_solveSet 46 = .ok (.invokevirtual 46, 3) := by decide +kernel
theorem dX0_solveSet_49 : decode cX0_solveSet 49 = .ok (.aload_n 0, 1) := by decide +kernel
theorem dX0_solveSet_50 : decode cX0_solveSet 50 = .ok (.invokevirtual 50, 3) := by decide +kernel
theorem dX0_solveSet_53 : decode cX0_solveSet 53 = .ok (.istore_n 3, 1) := by decide +kernel
theorem dX0_solveSet_54 : decode cX0_solveSet 54 = .ok (.iload_n 3, 1) := by decide +kernel
theorem dX0_solveSet_55 : decode cX0_solveSet 55 = .ok (.ifCond .lt 11, 3) := by decide +kernel
theorem dX0_solveSet_58 : decode cX0_solveSet 58 = .ok (.aload_n 0, 1) := by decide +kernel
theorem dX0_solveSet_59 : decode cX0_solveSet 59 = .ok (.iload_n 3, 1) := by decide +kernel
theorem dX0_solveSet_60 : decode cX0_solveSet 60 = .ok (.invokevirtual 54, 3) := by decide +kernel
theorem dX0_solveSet_63 : decode cX0_solveSet 63 = .ok (.goto 17, 3) := by decide +kernel
theorem dX0_solveSet_66 : decode cX0_solveSet 66 = .ok (.aload_n 0, 1) := by decide +kernel
theorem dX0_solveSet_67 : decode cX0_solveSet 67 = .ok (.getfield 23, 3) := by decide +kernel
theorem dX0_solveSet_70 : decode cX0_solveSet 70 = .ok (.iconst 4, 1) := by decide +kernel
theorem dX0_solveSet_71 : decode cX0_solveSet 71 = .ok (.iaload, 1) := by decide +kernel
theorem dX0_solveSet_72 : decode cX0_solveSet 72 = .ok (.ifCond .eq 8, 3) := by decide +kernel
theorem dX0_solveSet_75 : decode cX0_solveSet 75 = .ok (.aload_n 0, 1) := by decide +kernel
theorem dX0_solveSet_76 : decode cX0_solveSet 76 = .ok (.iconst 1, 1) := by decide +kernel
theorem dX0_solveSet_77 : decode cX0_solveSet 77 = .ok (.putfield 42, 3) := by decide +kernel
theorem dX0_solveSet_80 : decode cX0_solveSet 80 = .ok (.iinc 2 1, 3) := by decide +kernel
theorem dX0_solveSet_83 : decode cX0_solveSet 83 = .ok (.goto (-56), 3) := by decide +kernel
theorem dX0_solveSet_86 : decode cX0_solveSet 86 = .ok (.return_, 1) := by decide +kernel
theorem dX0_load_0 : decode cX0_load 0 = .ok (.iconst 0, 1) := by decide +kernel
theorem dX0_load_1 : decode cX0_load 1 = .ok (.istore_n 2, 1) := by decide +kernel
theorem dX0_load_2 : decode cX0_load 2 = .ok (.iload_n 2, 1) := by decide +kernel
theorem dX0_load_3 : decode cX0_load 3 = .ok (.iconst 5, 1) := by decide +kernel
theorem dX0_load_4 : decode cX0_load 4 = .ok (.if_icmp .ge 25, 3) := by decide +kernel
theorem dX0_load_7 : decode cX0_load 7 = .ok (.aload_n 0, 1) := by decide +kernel
theorem dX0_load_8 : decode cX0_load 8 = .ok (.getfield 23, 3) := by decide +kernel
theorem dX0_load_11 : decode cX0_load 11 = .ok (.iload_n 2, 1) := by decide +kernel
theorem dX0_load_12 : decode cX0_load 12 = .ok (.aload_n 0, 1) := by decide +kernel
theorem dX0_load_13 : decode cX0_load 13 = .ok (.getfield 7, 3) := by decide +kernel
theorem dX0_load_16 : decode cX0_load 16 = .ok (.iload_n 1, 1) := by decide +kernel
theorem dX0_load_17 : decode cX0_load 17 = .ok (.iconst 5, 1) := by decide +kernel
theorem dX0_load_18 : decode cX0_load 18 = .ok (.imul, 1) := by decide +kernel
theorem dX0_load_19 : decode cX0_load 19 = .ok (.iload_n 2, 1) := by decide +kernel
theorem dX0_load_20 : decode cX0_load 20 = .ok (.iadd, 1) := by decide +kernel
theorem dX0_load_21 : decode cX0_load 21 = .ok (.iaload, 1) := by decide +kernel
theorem dX0_load_22 : decode cX0_load 22 = .ok (.iastore, 1) := by decide +kernel
theorem dX0_load_23 : decode cX0_load 23 = .ok (.iinc 2 1, 3) := by decide +kernel
theorem dX0_load_26 : decode cX0_load 26 = .ok (.goto (-24), 3) := by decide +kernel
theorem dX0_load_29 : decode cX0_load 29 = .ok (.return_, 1) := by decide +kernel
theorem dX0_reduce_0 : decode cX0_reduce 0 = .ok (.iconst (-1), 1) := by decide +kernel
theorem dX0_reduce_1 : decode cX0_reduce 1 = .ok (.istore_n 1, 1) := by decide +kernel
theorem dX0_reduce_2 : decode cX0_reduce 2 = .ok (.iconst 3, 1) := by decide +kernel
theorem dX0_reduce_3 : decode cX0_reduce 3 = .ok (.istore_n 2, 1) := by decide +kernel
theorem dX0_reduce_4 : decode cX0_reduce 4 = .ok (.iload_n 2, 1) := by decide +kernel
theorem dX0_reduce_5 : decode cX0_reduce 5 = .ok (.ifCond .lt 88, 3) := by decide +kernel
theorem dX0_reduce_8 : decode cX0_reduce 8 = .ok (.aload_n 0, 1) := by decide +kernel
theorem dX0_reduce_9 : decode cX0_reduce 9 = .ok (.getfield 23, 3) := by decide +kernel
theorem dX0_reduce_12 : decode cX0_reduce 12 = .ok (.iload_n 2, 1) := by decide +kernel
theorem dX0_reduce_13 : decode cX0_reduce 13 = .ok (.iaload, 1) := by decide +kernel
theorem dX0_reduce_14 : decode cX0_reduce 14 = .ok (.istore_n 3, 1) := by decide +kernel
theorem dX0_reduce_15 : decode cX0_reduce 15 = .ok (.iload_n 3, 1) := by decide +kernel
theorem dX0_reduce_16 : decode cX0_reduce 16 = .ok (.ifCond .eq 61, 3) := by decide +kernel
theorem dX0_reduce_19 : decode cX0_reduce 19 = .ok (.aload_n 0, 1) := by decide +kernel
theorem dX0_reduce_20 : decode cX0_reduce 20 = .ok (.getfield 17, 3) := by decide +kernel
theorem dX0_reduce_23 : decode cX0_reduce 23 = .ok (.iload_n 2, 1) := by decide +kernel
theorem dX0_reduce_24 : decode cX0_reduce 24 = .ok (.baload, 1) := by decide +kernel
theorem dX0_reduce_25 : decode cX0_reduce 25 = .ok (.ifCond .eq 52, 3) := by decide +kernel
theorem dX0_reduce_28 : decode cX0_reduce 28 = .ok (.iconst 0, 1) := by decide +kernel
theorem dX0_reduce_29 : decode cX0_reduce 29 = .ok (.istore 4, 2) := by decide +kernel
end
section
set_option maxRecDepth 100000
theorem dX0_reduce_31 : decode cX0_reduce 31 = .ok (.iload 4, 2) := by decide +kernel
theorem dX0_reduce_33 : decode cX0_reduce 33 = .ok (.iconst 5, 1) := by decide +kernel
theorem dX0_reduce_34 : decode cX0_reduce 34 = .ok (.if_icmp .ge 40, 3) := by decide +kernel
theorem dX0_reduce_37 : decode cX0_reduce 37 = .ok (.aload_n 0, 1) := by decide +kernel
theorem dX0_reduce_38 : decode cX0_reduce 38 = .ok (.getfield 23, 3) := by decide +kernel
theorem dX0_reduce_41 : decode cX0_reduce 41 = .ok (.iload 4, 2) := by decide +kernel
theorem dX0_reduce_43 : decode cX0_reduce 43 = .ok (.aload_n 0, 1) := by decide +kernel
theorem dX0_reduce_44 : decode cX0_reduce 44 = .ok (.getfield 23, 3) := by decide +kernel
theorem dX0_reduce_47 : decode cX0_reduce 47 = .ok (.iload 4, 2) := by decide +kernel
theorem dX0_reduce_49 : decode cX0_reduce 49 = .ok (.iaload, 1) := by decide +kernel
theorem dX0_reduce_50 : decode cX0_reduce 50 = .ok (.iload_n 3, 1) := by decide +kernel
theorem dX0_reduce_51 : decode cX0_reduce 51 = .ok (.aload_n 0, 1) := by decide +kernel
theorem dX0_reduce_52 : decode cX0_reduce 52 = .ok (.getfield 20, 3) := by decide +kernel
theorem dX0_reduce_55 : decode cX0_reduce 55 = .ok (.iload_n 2, 1) := by decide +kernel
theorem dX0_reduce_56 : decode cX0_reduce 56 = .ok (.iconst 5, 1) := by decide +kernel
theorem dX0_reduce_57 : decode cX0_reduce 57 = .ok (.imul, 1) := by decide +kernel
theorem dX0_reduce_58 : decode cX0_reduce 58 = .ok (.iload 4, 2) := by decide +kernel
theorem dX0_reduce_60 : decode cX0_reduce 60 = .ok (.iadd, 1) := by decide +kernel
theorem dX0_reduce_61 : decode cX0_reduce 61 = .ok (.iaload, 1) := by decide +kernel
theorem dX0_reduce_62 : decode cX0_reduce 62 = .ok (.imul, 1) := by decide +kernel
theorem dX0_reduce_63 : decode cX0_reduce 63 = .ok (.isub, 1) := by decide +kernel
theorem dX0_reduce_64 : decode cX0_reduce 64 = .ok (.invokestatic 35, 3) := by decide +kernel
theorem dX0_reduce_67 : decode cX0_reduce 67 = .ok (.iastore, 1) := by decide +kernel
theorem dX0_reduce_68 : decode cX0_reduce 68 = .ok (.iinc 4 1, 3) := by decide +kernel
theorem dX0_reduce_71 : decode cX0_reduce 71 = .ok (.goto (-40), 3) := by decide +kernel
theorem dX0_reduce_74 : decode cX0_reduce 74 = .ok (.goto 13, 3) := by decide +kernel
theorem dX0_reduce_77 : decode cX0_reduce 77 = .ok (.iload_n 3, 1) := by decide +kernel
theorem dX0_reduce_78 : decode cX0_reduce 78 = .ok (.ifCond .eq 9, 3) := by decide +kernel
theorem dX0_reduce_81 : decode cX0_reduce 81 = .ok (.iload_n 1, 1) := by decide +kernel
theorem dX0_reduce_82 : decode cX0_reduce 82 = .ok (.ifCond .ge 5, 3) := by decide +kernel
theorem dX0_reduce_85 : decode cX0_reduce 85 = .ok (.iload_n 2, 1) := by decide +kernel
theorem dX0_reduce_86 : decode cX0_reduce 86 = .ok (.istore_n 1, 1) := by decide +kernel
theorem dX0_reduce_87 : decode cX0_reduce 87 = .ok (.iinc 2 (-1), 3) := by decide +kernel
theorem dX0_reduce_90 : decode cX0_reduce 90 = .ok (.goto (-86), 3) := by decide +kernel
theorem dX0_reduce_93 : decode cX0_reduce 93 = .ok (.iload_n 1, 1) := by decide +kernel
theorem dX0_reduce_94 : decode cX0_reduce 94 = .ok (.ireturn, 1) := by decide +kernel
theorem dX0_keep_0 : decode cX0_keep 0 = .ok (.aload_n 0, 1) := by decide +kernel
theorem dX0_keep_1 : decode cX0_keep 1 = .ok (.getfield 23, 3) := by decide +kernel
theorem dX0_keep_4 : decode cX0_keep 4 = .ok (.iload_n 1, 1) := by decide +kernel
theorem dX0_keep_5 : decode cX0_keep 5 = .ok (.iaload, 1) := by decide +kernel
theorem dX0_keep_6 : decode cX0_keep 6 = .ok (.invokestatic 39, 3) := by decide +kernel
theorem dX0_keep_9 : decode cX0_keep 9 = .ok (.istore_n 2, 1) := by decide +kernel
theorem dX0_keep_10 : decode cX0_keep 10 = .ok (.aload_n 0, 1) := by decide +kernel
theorem dX0_keep_11 : decode cX0_keep 11 = .ok (.getfield 17, 3) := by decide +kernel
theorem dX0_keep_14 : decode cX0_keep 14 = .ok (.iload_n 1, 1) := by decide +kernel
theorem dX0_keep_15 : decode cX0_keep 15 = .ok (.iconst 1, 1) := by decide +kernel
theorem dX0_keep_16 : decode cX0_keep 16 = .ok (.bastore, 1) := by decide +kernel
theorem dX0_keep_17 : decode cX0_keep 17 = .ok (.iconst 0, 1) := by decide +kernel
theorem dX0_keep_18 : decode cX0_keep 18 = .ok (.istore_n 3, 1) := by decide +kernel
theorem dX0_keep_19 : decode cX0_keep 19 = .ok (.iload_n 3, 1) := by decide +kernel
theorem dX0_keep_20 : decode cX0_keep 20 = .ok (.iconst 5, 1) := by decide +kernel
theorem dX0_keep_21 : decode cX0_keep 21 = .ok (.if_icmp .ge 30, 3) := by decide +kernel
theorem dX0_keep_24 : decode cX0_keep 24 = .ok (.aload_n 0, 1) := by decide +kernel
theorem dX0_keep_25 : decode cX0_keep 25 = .ok (.getfield 20, 3) := by decide +kernel
theorem dX0_keep_28 : decode cX0_keep 28 = .ok (.iload_n 1, 1) := by decide +kernel
theorem dX0_keep_29 : decode cX0_keep 29 = .ok (.iconst 5, 1) := by decide +kernel
theorem dX0_keep_30 : decode cX0_keep 30 = .ok (.imul, 1) := by decide +kernel
theorem dX0_keep_31 : decode cX0_keep 31 = .ok (.iload_n 3, 1) := by decide +kernel
theorem dX0_keep_32 : decode cX0_keep 32 = .ok (.iadd, 1) := by decide +kernel
theorem dX0_keep_33 : decode cX0_keep 33 = .ok (.aload_n 0, 1) := by decide +kernel
theorem dX0_keep_34 : decode cX0_keep 34 = .ok (.getfield 23, 3) := by decide +kernel
theorem dX0_keep_37 : decode cX0_keep 37 = .ok (.iload_n 3, 1) := by decide +kernel
theorem dX0_keep_38 : decode cX0_keep 38 = .ok (.iaload, 1) := by decide +kernel
theorem dX0_keep_39 : decode cX0_keep 39 = .ok (.iload_n 2, 1) := by decide +kernel
theorem dX0_keep_40 : decode cX0_keep 40 = .ok (.imul, 1) := by decide +kernel
theorem dX0_keep_41 : decode cX0_keep 41 = .ok (.bipush 7, 2) := by decide +kernel
theorem dX0_keep_43 : decode cX0_keep 43 = .ok (.irem, 1) := by decide +kernel
theorem dX0_keep_44 : decode cX0_keep 44 = .ok (.iastore, 1) := by decide +kernel
theorem dX0_keep_45 : decode cX0_keep 45 = .ok (.iinc 3 1, 3) := by decide +kernel
theorem dX0_keep_48 : decode cX0_keep 48 = .ok (.goto (-29), 3) := by decide +kernel
theorem dX0_keep_51 : decode cX0_keep 51 = .ok (.iload_n 1, 1) := by decide +kernel
theorem dX0_keep_52 : decode cX0_keep 52 = .ok (.iconst 1, 1) := by decide +kernel
theorem dX0_keep_53 : decode cX0_keep 53 = .ok (.iadd, 1) := by decide +kernel
theorem dX0_keep_54 : decode cX0_keep 54 = .ok (.istore_n 3, 1) := by decide +kernel
theorem dX0_keep_55 : decode cX0_keep 55 = .ok (.iload_n 3, 1) := by decide +kernel
theorem dX0_keep_56 : decode cX0_keep 56 = .ok (.iconst 4, 1) := by decide +kernel
theorem dX0_keep_57 : decode cX0_keep 57 = .ok (.if_icmp .ge 90, 3) := by decide +kernel
theorem dX0_keep_60 : decode cX0_keep 60 = .ok (.aload_n 0, 1) := by decide +kernel
theorem dX0_keep_61 : decode cX0_keep 61 = .ok (.getfield 20, 3) := by decide +kernel
theorem dX0_keep_64 : decode cX0_keep 64 = .ok (.iload_n 3, 1) := by decide +kernel
theorem dX0_keep_65 : decode cX0_keep 65 = .ok (.iconst 5, 1) := by decide +kernel
theorem dX0_keep_66 : decode cX0_keep 66 = .ok (.imul, 1) := by decide +kernel
theorem dX0_keep_67 : decode cX0_keep 67 = .ok (.iload_n 1, 1) := by decide +kernel
theorem dX0_keep_68 : decode cX0_keep 68 = .ok (.iadd, 1) := by decide +kernel
theorem dX0_keep_69 : decode cX0_keep 69 = .ok (.iaload, 1) := by decide +kernel
theorem dX0_keep_70 : decode cX0_keep 70 = .ok (.istore 4, 2) := by decide +kernel
theorem dX0_keep_72 : decode cX0_keep 72 = .ok (.iconst 0, 1) := by decide +kernel
theorem dX0_keep_73 : decode cX0_keep 73 = .ok (.istore 5, 2) := by decide +kernel
theorem dX0_keep_75 : decode cX0_keep 75 = .ok (.iload 5, 2) := by decide +kernel
theorem dX0_keep_77 : decode cX0_keep 77 = .ok (.iconst 5, 1) := by decide +kernel
theorem dX0_keep_78 : decode cX0_keep 78 = .ok (.if_icmp .ge 63, 3) := by decide +kernel
theorem dX0_keep_81 : decode cX0_keep 81 = .ok (.aload_n 0, 1) := by decide +kernel
theorem dX0_keep_82 : decode cX0_keep 82 = .ok (.getfield 17, 3) := by decide +kernel
theorem dX0_keep_85 : decode cX0_keep 85 = .ok (.iload_n 3, 1) := by decide +kernel
theorem dX0_keep_86 : decode cX0_keep 86 = .ok (.baload, 1) := by decide +kernel
theorem dX0_keep_87 : decode cX0_keep 87 = .ok (.ifCond .eq 54, 3) := by decide +kernel
theorem dX0_keep_90 : decode cX0_keep 90 = .ok (.iload 4, 2) := by decide +kernel
theorem dX0_keep_92 : decode cX0_keep 92 = .ok (.ifCond .eq 49, 3) := by decide +kernel
theorem dX0_keep_95 : decode cX0_keep 95 = .ok (.aload_n 0, 1) := by decide +kernel
theorem dX0_keep_96 : decode cX0_keep 96 = .ok (.getfield 20, 3) := by decide +kernel
theorem dX0_keep_99 : decode cX0_keep 99 = .ok (.iload_n 3, 1) := by decide +kernel
theorem dX0_keep_100 : decode cX0_keep 100 = .ok (.iconst 5, 1) := by decide +kernel
theorem dX0_keep_101 : decode cX0_keep 101 = .ok (.imul, 1) := by decide +kernel
theorem dX0_keep_102 : decode cX0_keep 102 = .ok (.iload 5, 2) := by decide +kernel
theorem dX0_keep_104 : decode cX0_keep 104 = .ok (.iadd, 1) := by decide +kernel
theorem dX0_keep_105 : decode cX0_keep 105 = .ok (.aload_n 0, 1) := by decide +kernel
theorem dX0_keep_106 : decode cX0_keep 106 = .ok (.getfield 20, 3) := by decide +kernel
theorem dX0_keep_109 : decode cX0_keep 109 = .ok (.iload_n 3, 1) := by decide +kernel
theorem dX0_keep_110 : decode cX0_keep 110 = .ok (.iconst 5, 1) := by decide +kernel
theorem dX0_keep_111 : decode cX0_keep 111 = .ok (.imul, 1) := by decide +kernel
theorem dX0_keep_112 : decode cX0_keep 112 = .ok (.iload 5, 2) := by decide +kernel
theorem dX0_keep_114 : decode cX0_keep 114 = .ok (.iadd, 1) := by decide +kernel
theorem dX0_keep_115 : decode cX0_keep 115 = .ok (.iaload, 1) := by decide +kernel
theorem dX0_keep_116 : decode cX0_keep 116 = .ok (.iload 4, 2) := by decide +kernel
theorem dX0_keep_118 : decode cX0_keep 118 = .ok (.aload_n 0, 1) := by decide +kernel
theorem dX0_keep_119 : decode cX0_keep 119 = .ok (.getfield 20, 3) := by decide +kernel
theorem dX0_keep_122 : decode cX0_keep 122 = .ok (.iload_n 1, 1) := by decide +kernel
theorem dX0_keep_123 : decode cX0_keep 123 = .ok (.iconst 5, 1) := by decide +kernel
theorem dX0_keep_124 : decode cX0_keep 124 = .ok (.imul, 1) := by decide +kernel
theorem dX0_keep_125 : decode cX0_keep 125 = .ok (.iload 5, 2) := by decide +kernel
theorem dX0_keep_127 : decode cX0_keep 127 = .ok (.iadd, 1) := by decide +kernel
theorem dX0_keep_128 : decode cX0_keep 128 = .ok (.iaload, 1) := by decide +kernel
theorem dX0_keep_129 : decode cX0_keep 129 = .ok (.imul, 1) := by decide +kernel
theorem dX0_keep_130 : decode cX0_keep 130 = .ok (.isub, 1) := by decide +kernel
theorem dX0_keep_131 : decode cX0_keep 131 = .ok (.invokestatic 35, 3) := by decide +kernel
theorem dX0_keep_134 : decode cX0_keep 134 = .ok (.iastore, 1) := by decide +kernel
theorem dX0_keep_135 : decode cX0_keep 135 = .ok (.iinc 5 1, 3) := by decide +kernel
theorem dX0_keep_138 : decode cX0_keep 138 = .ok (.goto (-63), 3) := by decide +kernel
theorem dX0_keep_141 : decode cX0_keep 141 = .ok (.iinc 3 1, 3) := by decide +kernel
theorem dX0_keep_144 : decode cX0_keep 144 = .ok (.goto (-89), 3) := by decide +kernel
theorem dX0_keep_147 : decode cX0_keep 147 = .ok (.return_, 1) := by decide +kernel
theorem dX0_inverse_0 : decode cX0_inverse 0 = .ok (.iconst 1, 1) := by decide +kernel
theorem dX0_inverse_1 : decode cX0_inverse 1 = .ok (.istore_n 1, 1) := by decide +kernel
theorem dX0_inverse_2 : decode cX0_inverse 2 = .ok (.iload_n 1, 1) := by decide +kernel
theorem dX0_inverse_3 : decode cX0_inverse 3 = .ok (.bipush 7, 2) := by decide +kernel
theorem dX0_inverse_5 : decode cX0_inverse 5 = .ok (.if_icmp .ge 21, 3) := by decide +kernel
theorem dX0_inverse_8 : decode cX0_inverse 8 = .ok (.iload_n 0, 1) := by decide +kernel
theorem dX0_inverse_9 : decode cX0_inverse 9 = .ok (.iload_n 1, 1) := by decide +kernel
theorem dX0_inverse_10 : decode cX0_inverse 10 = .ok (.imul, 1) := by decide +kernel
theorem dX0_inverse_11 : decode cX0_inverse 11 = .ok (.bipush 7, 2) := by decide +kernel
theorem dX0_inverse_13 : decode cX0_inverse 13 = .ok (.irem, 1) := by decide +kernel
theorem dX0_inverse_14 : decode cX0_inverse 14 = .ok (.iconst 1, 1) := by decide +kernel
theorem dX0_inverse_15 : decode cX0_inverse 15 = .ok (.if_icmp .ne 5, 3) := by decide +kernel
theorem dX0_inverse_18 : decode cX0_inverse 18 = .ok (.iload_n 1, 1) := by decide +kernel
theorem dX0_inverse_19 : decode cX0_inverse 19 = .ok (.ireturn, 1) := by decide +kernel
theorem dX0_inverse_20 : decode cX0_inverse 20 = .ok (.iinc 1 1, 3) := by decide +kernel
theorem dX0_inverse_23 : decode cX0_inverse 23 = .ok (.goto (-21), 3) := by decide +kernel
theorem dX0_inverse_26 : decode cX0_inverse 26 = .ok (.iconst 0, 1) := by decide +kernel
theorem dX0_inverse_27 : decode cX0_inverse 27 = .ok (.ireturn, 1) := by decide +kernel
theorem dX0_waysFrom_0 : decode cX0_waysFrom 0 = .ok (.iconst 1, 1) := by decide +kernel
theorem dX0_waysFrom_1 : decode cX0_waysFrom 1 = .ok (.istore_n 2, 1) := by decide +kernel
theorem dX0_waysFrom_2 : decode cX0_waysFrom 2 = .ok (.iload_n 1, 1) := by decide +kernel
theorem dX0_waysFrom_3 : decode cX0_waysFrom 3 = .ok (.istore_n 3, 1) := by decide +kernel
theorem dX0_waysFrom_4 : decode cX0_waysFrom 4 = .ok (.iload_n 3, 1) := by decide +kernel
theorem dX0_waysFrom_5 : decode cX0_waysFrom 5 = .ok (.iconst 4, 1) := by decide +kernel
theorem dX0_waysFrom_6 : decode cX0_waysFrom 6 = .ok (.if_icmp .ge 23, 3) := by decide +kernel
theorem dX0_waysFrom_9 : decode cX0_waysFrom 9 = .ok (.aload_n 0, 1) := by decide +kernel
theorem dX0_waysFrom_10 : decode cX0_waysFrom 10 = .ok (.getfield 17, 3) := by decide +kernel
theorem dX0_waysFrom_13 : decode cX0_waysFrom 13 = .ok (.iload_n 3, 1) := by decide +kernel
theorem dX0_waysFrom_14 : decode cX0_waysFrom 14 = .ok (.baload, 1) := by decide +kernel
theorem dX0_waysFrom_15 : decode cX0_waysFrom 15 = .ok (.ifCond .ne 8, 3) := by decide +kernel
theorem dX0_waysFrom_18 : decode cX0_waysFrom 18 = .ok (.iload_n 2, 1) := by decide +kernel
theorem dX0_waysFrom_19 : decode cX0_waysFrom 19 = .ok (.bipush 7, 2) := by decide +kernel
theorem dX0_waysFrom_21 : decode cX0_waysFrom 21 = .ok (.imul, 1) := by decide +kernel
theorem dX0_waysFrom_22 : decode cX0_waysFrom 22 = .ok (.istore_n 2, 1) := by decide +kernel
theorem dX0_waysFrom_23 : decode cX0_waysFrom 23 = .ok (.iinc 3 1, 3) := by decide +kernel
theorem dX0_waysFrom_26 : decode cX0_waysFrom 26 = .ok (.goto (-22), 3) := by decide +kernel
theorem dX0_waysFrom_29 : decode cX0_waysFrom 29 = .ok (.iload_n 2, 1) := by decide +kernel
theorem dX0_waysFrom_30 : decode cX0_waysFrom 30 = .ok (.ireturn, 1) := by decide +kernel
theorem dX0_value_0 : decode cX0_value 0 = .ok (.iload_n 2, 1) := by decide +kernel
theorem dX0_value_1 : decode cX0_value 1 = .ok (.ifCond .lt 8, 3) := by decide +kernel
theorem dX0_value_4 : decode cX0_value 4 = .ok (.iload_n 2, 1) := by decide +kernel
theorem dX0_value_5 : decode cX0_value 5 = .ok (.iconst 4, 1) := by decide +kernel
theorem dX0_value_6 : decode cX0_value 6 = .ok (.if_icmp .lt 6, 3) := by decide +kernel
theorem dX0_value_9 : decode cX0_value 9 = .ok (.bipush (-4), 2) := by decide +kernel
theorem dX0_value_11 : decode cX0_value 11 = .ok (.ireturn, 1) := by decide +kernel
theorem dX0_value_12 : decode cX0_value 12 = .ok (.aload_n 0, 1) := by decide +kernel
theorem dX0_value_13 : decode cX0_value 13 = .ok (.invokevirtual 70, 3) := by decide +kernel
theorem dX0_value_16 : decode cX0_value 16 = .ok (.aload_n 0, 1) := by decide +kernel
theorem dX0_value_17 : decode cX0_value 17 = .ok (.getfield 42, 3) := by decide +kernel
theorem dX0_value_20 : decode cX0_value 20 = .ok (.ifCond .ne 16, 3) := by decide +kernel
theorem dX0_value_23 : decode cX0_value 23 = .ok (.iload_n 1, 1) := by decide +kernel
theorem dX0_value_24 : decode cX0_value 24 = .ok (.ifCond .lt 12, 3) := by decide +kernel
theorem dX0_value_27 : decode cX0_value 27 = .ok (.iload_n 1, 1) := by decide +kernel
theorem dX0_value_28 : decode cX0_value 28 = .ok (.aload_n 0, 1) := by decide +kernel
theorem dX0_value_29 : decode cX0_value 29 = .ok (.iconst 0, 1) := by decide +kernel
theorem dX0_value_30 : decode cX0_value 30 = .ok (.invokevirtual 67, 3) := by decide +kernel
theorem dX0_value_33 : decode cX0_value 33 = .ok (.if_icmp .lt 6, 3) := by decide +kernel
theorem dX0_value_36 : decode cX0_value 36 = .ok (.bipush (-4), 2) := by decide +kernel
theorem dX0_value_38 : decode cX0_value 38 = .ok (.ireturn, 1) := by decide +kernel
theorem dX0_value_39 : decode cX0_value 39 = .ok (.aload_n 0, 1) := by decide +kernel
theorem dX0_value_40 : decode cX0_value 40 = .ok (.iload_n 1, 1) := by decide +kernel
theorem dX0_value_41 : decode cX0_value 41 = .ok (.invokevirtual 73, 3) := by decide +kernel
theorem dX0_value_44 : decode cX0_value 44 = .ok (.istore_n 3, 1) := by decide +kernel
theorem dX0_value_45 : decode cX0_value 45 = .ok (.iconst 0, 1) := by decide +kernel
theorem dX0_value_46 : decode cX0_value 46 = .ok (.istore 4, 2) := by decide +kernel
theorem dX0_value_48 : decode cX0_value 48 = .ok (.iload 4, 2) := by decide +kernel
theorem dX0_value_50 : decode cX0_value 50 = .ok (.iload_n 2, 1) := by decide +kernel
theorem dX0_value_51 : decode cX0_value 51 = .ok (.if_icmp .ge 14, 3) := by decide +kernel
theorem dX0_value_54 : decode cX0_value 54 = .ok (.iload_n 3, 1) := by decide +kernel
theorem dX0_value_55 : decode cX0_value 55 = .ok (.bipush 7, 2) := by decide +kernel
theorem dX0_value_57 : decode cX0_value 57 = .ok (.idiv, 1) := by decide +kernel
theorem dX0_value_58 : decode cX0_value 58 = .ok (.istore_n 3, 1) := by decide +kernel
theorem dX0_value_59 : decode cX0_value 59 = .ok (.iinc 4 1, 3) := by decide +kernel
theorem dX0_value_62 : decode cX0_value 62 = .ok (.goto (-14), 3) := by decide +kernel
theorem dX0_value_65 : decode cX0_value 65 = .ok (.iload_n 3, 1) := by decide +kernel
theorem dX0_value_66 : decode cX0_value 66 = .ok (.bipush 7, 2) := by decide +kernel
theorem dX0_value_68 : decode cX0_value 68 = .ok (.irem, 1) := by decide +kernel
theorem dX0_value_69 : decode cX0_value 69 = .ok (.ireturn, 1) := by decide +kernel
theorem dX0_solutionAt_0 : decode cX0_solutionAt 0 = .ok (.iload_n 1, 1) := by decide +kernel
theorem dX0_solutionAt_1 : decode cX0_solutionAt 1 = .ok (.istore_n 2, 1) := by decide +kernel
theorem dX0_solutionAt_2 : decode cX0_solutionAt 2 = .ok (.iconst 0, 1) := by decide +kernel
theorem dX0_solutionAt_3 : decode cX0_solutionAt 3 = .ok (.istore_n 3, 1) := by decide +kernel
theorem dX0_solutionAt_4 : decode cX0_solutionAt 4 = .ok (.iconst 1, 1) := by decide +kernel
theorem dX0_solutionAt_5 : decode cX0_solutionAt 5 = .ok (.istore 4, 2) := by decide +kernel
theorem dX0_solutionAt_7 : decode cX0_solutionAt 7 = .ok (.iconst 0, 1) := by decide +kernel
theorem dX0_solutionAt_8 : decode cX0_solutionAt 8 = .ok (.istore 5, 2) := by decide +kernel
theorem dX0_solutionAt_10 : decode cX0_solutionAt 10 = .ok (.iload 5, 2) := by decide +kernel
theorem dX0_solutionAt_12 : decode cX0_solutionAt 12 = .ok (.iconst 4, 1) := by decide +kernel
theorem dX0_solutionAt_13 : decode cX0_solutionAt 13 = .ok (.if_icmp .ge 75, 3) := by decide +kernel
theorem dX0_solutionAt_16 : decode cX0_solutionAt 16 = .ok (.iconst 0, 1) := by decide +kernel
theorem dX0_solutionAt_17 : decode cX0_solutionAt 17 = .ok (.istore 6, 2) := by decide +kernel
theorem dX0_solutionAt_19 : decode cX0_solutionAt 19 = .ok (.aload_n 0, 1) := by decide +kernel
theorem dX0_solutionAt_20 : decode cX0_solutionAt 20 = .ok (.getfield 17, 3) := by decide +kernel
theorem dX0_solutionAt_23 : decode cX0_solutionAt 23 = .ok (.iload 5, 2) := by decide +kernel
theorem dX0_solutionAt_25 : decode cX0_solutionAt 25 = .ok (.baload, 1) := by decide +kernel
theorem dX0_solutionAt_26 : decode cX0_solutionAt 26 = .ok (.ifCond .eq 15, 3) := by decide +kernel
theorem dX0_solutionAt_29 : decode cX0_solutionAt 29 = .ok (.aload_n 0, 1) := by decide +kernel
theorem dX0_solutionAt_30 : decode cX0_solutionAt 30 = .ok (.iload 5, 2) := by decide +kernel
theorem dX0_solutionAt_32 : decode cX0_solutionAt 32 = .ok (.iload_n 3, 1) := by decide +kernel
theorem dX0_solutionAt_33 : decode cX0_solutionAt 33 = .ok (.invokevirtual 63, 3) := by decide +kernel
theorem dX0_solutionAt_36 : decode cX0_solutionAt 36 = .ok (.istore 6, 2) := by decide +kernel
theorem dX0_solutionAt_38 : decode cX0_solutionAt 38 = .ok (.goto 29, 3) := by decide +kernel
theorem dX0_solutionAt_41 : decode cX0_solutionAt 41 = .ok (.aload_n 0, 1) := by decide +kernel
theorem dX0_solutionAt_42 : decode cX0_solutionAt 42 = .ok (.iload 5, 2) := by decide +kernel
theorem dX0_solutionAt_44 : decode cX0_solutionAt 44 = .ok (.iconst 1, 1) := by decide +kernel
theorem dX0_solutionAt_45 : decode cX0_solutionAt 45 = .ok (.iadd, 1) := by decide +kernel
theorem dX0_solutionAt_46 : decode cX0_solutionAt 46 = .ok (.invokevirtual 67, 3) := by decide +kernel
theorem dX0_solutionAt_49 : decode cX0_solutionAt 49 = .ok (.istore 7, 2) := by decide +kernel
theorem dX0_solutionAt_51 : decode cX0_solutionAt 51 = .ok (.iload 7, 2) := by decide +kernel
theorem dX0_solutionAt_53 : decode cX0_solutionAt 53 = .ok (.ifCond .le 14, 3) := by decide +kernel
theorem dX0_solutionAt_56 : decode cX0_solutionAt 56 = .ok (.iload_n 2, 1) := by decide +kernel
theorem dX0_solutionAt_57 : decode cX0_solutionAt 57 = .ok (.iload 7, 2) := by decide +kernel
theorem dX0_solutionAt_59 : decode cX0_solutionAt 59 = .ok (.idiv, 1) := by decide +kernel
theorem dX0_solutionAt_60 : decode cX0_solutionAt 60 = .ok (.istore 6, 2) := by decide +kernel
theorem dX0_solutionAt_62 : decode cX0_solutionAt 62 = .ok (.iload_n 2, 1) := by decide +kernel
theorem dX0_solutionAt_63 : decode cX0_solutionAt 63 = .ok (.iload 7, 2) := by decide +kernel
theorem dX0_solutionAt_65 : decode cX0_solutionAt 65 = .ok (.irem, 1) := by decide +kernel
theorem dX0_solutionAt_66 : decode cX0_solutionAt 66 = .ok (.istore_n 2, 1) := by decide +kernel
theorem dX0_solutionAt_67 : decode cX0_solutionAt 67 = .ok (.iload_n 3, 1) := by decide +kernel
theorem dX0_solutionAt_68 : decode cX0_solutionAt 68 = .ok (.iload 6, 2) := by decide +kernel
theorem dX0_solutionAt_70 : decode cX0_solutionAt 70 = .ok (.iload 4, 2) := by decide +kernel
theorem dX0_solutionAt_72 : decode cX0_solutionAt 72 = .ok (.imul, 1) := by decide +kernel
theorem dX0_solutionAt_73 : decode cX0_solutionAt 73 = .ok (.iadd, 1) := by decide +kernel
theorem dX0_solutionAt_74 : decode cX0_solutionAt 74 = .ok (.istore_n 3, 1) := by decide +kernel
theorem dX0_solutionAt_75 : decode cX0_solutionAt 75 = .ok (.iload 4, 2) := by decide +kernel
theorem dX0_solutionAt_77 : decode cX0_solutionAt 77 = .ok (.bipush 7, 2) := by decide +kernel
theorem dX0_solutionAt_79 : decode cX0_solutionAt 79 = .ok (.imul, 1) := by decide +kernel
theorem dX0_solutionAt_80 : decode cX0_solutionAt 80 = .ok (.istore 4, 2) := by decide +kernel
theorem dX0_solutionAt_82 : decode cX0_solutionAt 82 = .ok (.iinc 5 1, 3) := by decide +kernel
theorem dX0_solutionAt_85 : decode cX0_solutionAt 85 = .ok (.goto (-75), 3) := by decide +kernel
theorem dX0_solutionAt_88 : decode cX0_solutionAt 88 = .ok (.iload_n 3, 1) := by decide +kernel
theorem dX0_solutionAt_89 : decode cX0_solutionAt 89 = .ok (.ireturn, 1) := by decide +kernel
theorem dX0_resultOf_0 : decode cX0_resultOf 0 = .ok (.aload_n 0, 1) := by decide +kernel
theorem dX0_resultOf_1 : decode cX0_resultOf 1 = .ok (.getfield 20, 3) := by decide +kernel
theorem dX0_resultOf_4 : decode cX0_resultOf 4 = .ok (.iload_n 1, 1) := by decide +kernel
theorem dX0_resultOf_5 : decode cX0_resultOf 5 = .ok (.iconst 5, 1) := by decide +kernel
theorem dX0_resultOf_6 : decode cX0_resultOf 6 = .ok (.imul, 1) := by decide +kernel
theorem dX0_resultOf_7 : decode cX0_resultOf 7 = .ok (.iconst 4, 1) := by decide +kernel
theorem dX0_resultOf_8 : decode cX0_resultOf 8 = .ok (.iadd, 1) := by decide +kernel
theorem dX0_resultOf_9 : decode cX0_resultOf 9 = .ok (.iaload, 1) := by decide +kernel
theorem dX0_resultOf_10 : decode cX0_resultOf 10 = .ok (.istore_n 3, 1) := by decide +kernel
theorem dX0_resultOf_11 : decode cX0_resultOf 11 = .ok (.iload_n 2, 1) := by decide +kernel
theorem dX0_resultOf_12 : decode cX0_resultOf 12 = .ok (.istore 4, 2) := by decide +kernel
theorem dX0_resultOf_14 : decode cX0_resultOf 14 = .ok (.iconst 0, 1) := by decide +kernel
theorem dX0_resultOf_15 : decode cX0_resultOf 15 = .ok (.istore 5, 2) := by decide +kernel
theorem dX0_resultOf_17 : decode cX0_resultOf 17 = .ok (.iload 5, 2) := by decide +kernel
theorem dX0_resultOf_19 : decode cX0_resultOf 19 = .ok (.iload_n 1, 1) := by decide +kernel
theorem dX0_resultOf_20 : decode cX0_resultOf 20 = .ok (.if_icmp .ge 36, 3) := by decide +kernel
theorem dX0_resultOf_23 : decode cX0_resultOf 23 = .ok (.iload_n 3, 1) := by decide +kernel
theorem dX0_resultOf_24 : decode cX0_resultOf 24 = .ok (.aload_n 0, 1) := by decide +kernel
theorem dX0_resultOf_25 : decode cX0_resultOf 25 = .ok (.getfield 20, 3) := by decide +kernel
theorem dX0_resultOf_28 : decode cX0_resultOf 28 = .ok (.iload_n 1, 1) := by decide +kernel
theorem dX0_resultOf_29 : decode cX0_resultOf 29 = .ok (.iconst 5, 1) := by decide +kernel
theorem dX0_resultOf_30 : decode cX0_resultOf 30 = .ok (.imul, 1) := by decide +kernel
theorem dX0_resultOf_31 : decode cX0_resultOf 31 = .ok (.iload 5, 2) := by decide +kernel
theorem dX0_resultOf_33 : decode cX0_resultOf 33 = .ok (.iadd, 1) := by decide +kernel
theorem dX0_resultOf_34 : decode cX0_resultOf 34 = .ok (.iaload, 1) := by decide +kernel
theorem dX0_resultOf_35 : decode cX0_resultOf 35 = .ok (.iload 4, 2) := by decide +kernel
theorem dX0_resultOf_37 : decode cX0_resultOf 37 = .ok (.bipush 7, 2) := by decide +kernel
theorem dX0_resultOf_39 : decode cX0_resultOf 39 = .ok (.irem, 1) := by decide +kernel
theorem dX0_resultOf_40 : decode cX0_resultOf 40 = .ok (.imul, 1) := by decide +kernel
theorem dX0_resultOf_41 : decode cX0_resultOf 41 = .ok (.isub, 1) := by decide +kernel
theorem dX0_resultOf_42 : decode cX0_resultOf 42 = .ok (.istore_n 3, 1) := by decide +kernel
theorem dX0_resultOf_43 : decode cX0_resultOf 43 = .ok (.iload 4, 2) := by decide +kernel
theorem dX0_resultOf_45 : decode cX0_resultOf 45 = .ok (.bipush 7, 2) := by decide +kernel
theorem dX0_resultOf_47 : decode cX0_resultOf 47 = .ok (.idiv, 1) := by decide +kernel
theorem dX0_resultOf_48 : decode cX0_resultOf 48 = .ok (.istore 4, 2) := by decide +kernel
theorem dX0_resultOf_50 : decode cX0_resultOf 50 = .ok (.iinc 5 1, 3) := by decide +kernel
theorem dX0_resultOf_53 : decode cX0_resultOf 53 = .ok (.goto (-36), 3) := by decide +kernel
end
section
set_option maxRecDepth 100000
theorem dX0_resultOf_56 : decode cX0_resultOf 56 = .ok (.iload_n 3, 1) := by decide +kernel
theorem dX0_resultOf_57 : decode cX0_resultOf 57 = .ok (.invokestatic 35, 3) := by decide +kernel
theorem dX0_resultOf_60 : decode cX0_resultOf 60 = .ok (.ireturn, 1) := by decide +kernel
theorem dX0_possible_0 : decode cX0_possible 0 = .ok (.iload_n 1, 1) := by decide +kernel
theorem dX0_possible_1 : decode cX0_possible 1 = .ok (.ifCond .lt 8, 3) := by decide +kernel
theorem dX0_possible_4 : decode cX0_possible 4 = .ok (.iload_n 1, 1) := by decide +kernel
theorem dX0_possible_5 : decode cX0_possible 5 = .ok (.iconst 4, 1) := by decide +kernel
theorem dX0_possible_6 : decode cX0_possible 6 = .ok (.if_icmp .lt 5, 3) := by decide +kernel
theorem dX0_possible_9 : decode cX0_possible 9 = .ok (.iconst 0, 1) := by decide +kernel
theorem dX0_possible_10 : decode cX0_possible 10 = .ok (.ireturn, 1) := by decide +kernel
theorem dX0_possible_11 : decode cX0_possible 11 = .ok (.aload_n 0, 1) := by decide +kernel
theorem dX0_possible_12 : decode cX0_possible 12 = .ok (.invokevirtual 70, 3) := by decide +kernel
theorem dX0_possible_15 : decode cX0_possible 15 = .ok (.aload_n 0, 1) := by decide +kernel
theorem dX0_possible_16 : decode cX0_possible 16 = .ok (.getfield 42, 3) := by decide +kernel
theorem dX0_possible_19 : decode cX0_possible 19 = .ok (.ifCond .eq 5, 3) := by decide +kernel
theorem dX0_possible_22 : decode cX0_possible 22 = .ok (.iconst 0, 1) := by decide +kernel
theorem dX0_possible_23 : decode cX0_possible 23 = .ok (.ireturn, 1) := by decide +kernel
theorem dX0_possible_24 : decode cX0_possible 24 = .ok (.aload_n 0, 1) := by decide +kernel
theorem dX0_possible_25 : decode cX0_possible 25 = .ok (.iload_n 1, 1) := by decide +kernel
theorem dX0_possible_26 : decode cX0_possible 26 = .ok (.invokevirtual 76, 3) := by decide +kernel
theorem dX0_possible_29 : decode cX0_possible 29 = .ok (.istore_n 2, 1) := by decide +kernel
theorem dX0_possible_30 : decode cX0_possible 30 = .ok (.iload_n 2, 1) := by decide +kernel
theorem dX0_possible_31 : decode cX0_possible 31 = .ok (.ifCond .eq 8, 3) := by decide +kernel
theorem dX0_possible_34 : decode cX0_possible 34 = .ok (.bipush 127, 2) := by decide +kernel
theorem dX0_possible_36 : decode cX0_possible 36 = .ok (.goto 15, 3) := by decide +kernel
theorem dX0_possible_39 : decode cX0_possible 39 = .ok (.iconst 1, 1) := by decide +kernel
theorem dX0_possible_40 : decode cX0_possible 40 = .ok (.aload_n 0, 1) := by decide +kernel
theorem dX0_possible_41 : decode cX0_possible 41 = .ok (.getfield 20, 3) := by decide +kernel
theorem dX0_possible_44 : decode cX0_possible 44 = .ok (.iload_n 1, 1) := by decide +kernel
theorem dX0_possible_45 : decode cX0_possible 45 = .ok (.iconst 5, 1) := by decide +kernel
theorem dX0_possible_46 : decode cX0_possible 46 = .ok (.imul, 1) := by decide +kernel
theorem dX0_possible_47 : decode cX0_possible 47 = .ok (.iconst 4, 1) := by decide +kernel
theorem dX0_possible_48 : decode cX0_possible 48 = .ok (.iadd, 1) := by decide +kernel
theorem dX0_possible_49 : decode cX0_possible 49 = .ok (.iaload, 1) := by decide +kernel
theorem dX0_possible_50 : decode cX0_possible 50 = .ok (.ishl, 1) := by decide +kernel
theorem dX0_possible_51 : decode cX0_possible 51 = .ok (.ireturn, 1) := by decide +kernel
theorem dX0_varies_0 : decode cX0_varies 0 = .ok (.aload_n 0, 1) := by decide +kernel
theorem dX0_varies_1 : decode cX0_varies 1 = .ok (.getfield 17, 3) := by decide +kernel
theorem dX0_varies_4 : decode cX0_varies 4 = .ok (.iload_n 1, 1) := by decide +kernel
theorem dX0_varies_5 : decode cX0_varies 5 = .ok (.baload, 1) := by decide +kernel
theorem dX0_varies_6 : decode cX0_varies 6 = .ok (.ifCond .ne 5, 3) := by decide +kernel
theorem dX0_varies_9 : decode cX0_varies 9 = .ok (.iconst 1, 1) := by decide +kernel
theorem dX0_varies_10 : decode cX0_varies 10 = .ok (.ireturn, 1) := by decide +kernel
theorem dX0_varies_11 : decode cX0_varies 11 = .ok (.iconst 0, 1) := by decide +kernel
theorem dX0_varies_12 : decode cX0_varies 12 = .ok (.istore_n 2, 1) := by decide +kernel
theorem dX0_varies_13 : decode cX0_varies 13 = .ok (.iload_n 2, 1) := by decide +kernel
theorem dX0_varies_14 : decode cX0_varies 14 = .ok (.iload_n 1, 1) := by decide +kernel
theorem dX0_varies_15 : decode cX0_varies 15 = .ok (.if_icmp .ge 24, 3) := by decide +kernel
theorem dX0_varies_18 : decode cX0_varies 18 = .ok (.aload_n 0, 1) := by decide +kernel
theorem dX0_varies_19 : decode cX0_varies 19 = .ok (.getfield 20, 3) := by decide +kernel
theorem dX0_varies_22 : decode cX0_varies 22 = .ok (.iload_n 1, 1) := by decide +kernel
theorem dX0_varies_23 : decode cX0_varies 23 = .ok (.iconst 5, 1) := by decide +kernel
theorem dX0_varies_24 : decode cX0_varies 24 = .ok (.imul, 1) := by decide +kernel
theorem dX0_varies_25 : decode cX0_varies 25 = .ok (.iload_n 2, 1) := by decide +kernel
theorem dX0_varies_26 : decode cX0_varies 26 = .ok (.iadd, 1) := by decide +kernel
theorem dX0_varies_27 : decode cX0_varies 27 = .ok (.iaload, 1) := by decide +kernel
theorem dX0_varies_28 : decode cX0_varies 28 = .ok (.ifCond .eq 5, 3) := by decide +kernel
theorem dX0_varies_31 : decode cX0_varies 31 = .ok (.iconst 1, 1) := by decide +kernel
theorem dX0_varies_32 : decode cX0_varies 32 = .ok (.ireturn, 1) := by decide +kernel
theorem dX0_varies_33 : decode cX0_varies 33 = .ok (.iinc 2 1, 3) := by decide +kernel
theorem dX0_varies_36 : decode cX0_varies 36 = .ok (.goto (-23), 3) := by decide +kernel
theorem dX0_varies_39 : decode cX0_varies 39 = .ok (.iconst 0, 1) := by decide +kernel
theorem dX0_varies_40 : decode cX0_varies 40 = .ok (.ireturn, 1) := by decide +kernel
theorem dX0_fixed_0 : decode cX0_fixed 0 = .ok (.iload_n 1, 1) := by decide +kernel
theorem dX0_fixed_1 : decode cX0_fixed 1 = .ok (.ifCond .lt 8, 3) := by decide +kernel
theorem dX0_fixed_4 : decode cX0_fixed 4 = .ok (.iload_n 1, 1) := by decide +kernel
theorem dX0_fixed_5 : decode cX0_fixed 5 = .ok (.iconst 4, 1) := by decide +kernel
theorem dX0_fixed_6 : decode cX0_fixed 6 = .ok (.if_icmp .lt 5, 3) := by decide +kernel
theorem dX0_fixed_9 : decode cX0_fixed 9 = .ok (.iconst 0, 1) := by decide +kernel
theorem dX0_fixed_10 : decode cX0_fixed 10 = .ok (.ireturn, 1) := by decide +kernel
theorem dX0_fixed_11 : decode cX0_fixed 11 = .ok (.aload_n 0, 1) := by decide +kernel
theorem dX0_fixed_12 : decode cX0_fixed 12 = .ok (.invokevirtual 70, 3) := by decide +kernel
theorem dX0_fixed_15 : decode cX0_fixed 15 = .ok (.aload_n 0, 1) := by decide +kernel
theorem dX0_fixed_16 : decode cX0_fixed 16 = .ok (.getfield 42, 3) := by decide +kernel
theorem dX0_fixed_19 : decode cX0_fixed 19 = .ok (.ifCond .eq 5, 3) := by decide +kernel
theorem dX0_fixed_22 : decode cX0_fixed 22 = .ok (.iconst 0, 1) := by decide +kernel
theorem dX0_fixed_23 : decode cX0_fixed 23 = .ok (.ireturn, 1) := by decide +kernel
theorem dX0_fixed_24 : decode cX0_fixed 24 = .ok (.aload_n 0, 1) := by decide +kernel
theorem dX0_fixed_25 : decode cX0_fixed 25 = .ok (.iload_n 1, 1) := by decide +kernel
theorem dX0_fixed_26 : decode cX0_fixed 26 = .ok (.invokevirtual 76, 3) := by decide +kernel
theorem dX0_fixed_29 : decode cX0_fixed 29 = .ok (.istore_n 2, 1) := by decide +kernel
theorem dX0_fixed_30 : decode cX0_fixed 30 = .ok (.iload_n 2, 1) := by decide +kernel
theorem dX0_fixed_31 : decode cX0_fixed 31 = .ok (.ifCond .ne 7, 3) := by decide +kernel
theorem dX0_fixed_34 : decode cX0_fixed 34 = .ok (.iconst 1, 1) := by decide +kernel
theorem dX0_fixed_35 : decode cX0_fixed 35 = .ok (.goto 4, 3) := by decide +kernel
theorem dX0_fixed_38 : decode cX0_fixed 38 = .ok (.iconst 0, 1) := by decide +kernel
theorem dX0_fixed_39 : decode cX0_fixed 39 = .ok (.ireturn, 1) := by decide +kernel
theorem dX0_rank_0 : decode cX0_rank 0 = .ok (.aload_n 0, 1) := by decide +kernel
theorem dX0_rank_1 : decode cX0_rank 1 = .ok (.invokevirtual 70, 3) := by decide +kernel
theorem dX0_rank_4 : decode cX0_rank 4 = .ok (.aload_n 0, 1) := by decide +kernel
theorem dX0_rank_5 : decode cX0_rank 5 = .ok (.getfield 42, 3) := by decide +kernel
theorem dX0_rank_8 : decode cX0_rank 8 = .ok (.ifCond .eq 5, 3) := by decide +kernel
theorem dX0_rank_11 : decode cX0_rank 11 = .ok (.iconst 0, 1) := by decide +kernel
theorem dX0_rank_12 : decode cX0_rank 12 = .ok (.ireturn, 1) := by decide +kernel
theorem dX0_rank_13 : decode cX0_rank 13 = .ok (.iload_n 1, 1) := by decide +kernel
theorem dX0_rank_14 : decode cX0_rank 14 = .ok (.ldc 30, 2) := by decide +kernel
theorem dX0_rank_16 : decode cX0_rank 16 = .ok (.iand, 1) := by decide +kernel
theorem dX0_rank_17 : decode cX0_rank 17 = .ok (.istore_n 2, 1) := by decide +kernel
theorem dX0_rank_18 : decode cX0_rank 18 = .ok (.iconst 0, 1) := by decide +kernel
theorem dX0_rank_19 : decode cX0_rank 19 = .ok (.istore_n 3, 1) := by decide +kernel
theorem dX0_rank_20 : decode cX0_rank 20 = .ok (.iconst 0, 1) := by decide +kernel
theorem dX0_rank_21 : decode cX0_rank 21 = .ok (.istore 4, 2) := by decide +kernel
theorem dX0_rank_23 : decode cX0_rank 23 = .ok (.iconst 0, 1) := by decide +kernel
theorem dX0_rank_24 : decode cX0_rank 24 = .ok (.istore 5, 2) := by decide +kernel
theorem dX0_rank_26 : decode cX0_rank 26 = .ok (.iload 5, 2) := by decide +kernel
theorem dX0_rank_28 : decode cX0_rank 28 = .ok (.iconst 4, 1) := by decide +kernel
theorem dX0_rank_29 : decode cX0_rank 29 = .ok (.if_icmp .ge 96, 3) := by decide +kernel
theorem dX0_rank_32 : decode cX0_rank 32 = .ok (.iload_n 2, 1) := by decide +kernel
theorem dX0_rank_33 : decode cX0_rank 33 = .ok (.bipush 7, 2) := by decide +kernel
theorem dX0_rank_35 : decode cX0_rank 35 = .ok (.irem, 1) := by decide +kernel
theorem dX0_rank_36 : decode cX0_rank 36 = .ok (.istore 6, 2) := by decide +kernel
theorem dX0_rank_38 : decode cX0_rank 38 = .ok (.iload_n 2, 1) := by decide +kernel
theorem dX0_rank_39 : decode cX0_rank 39 = .ok (.bipush 7, 2) := by decide +kernel
theorem dX0_rank_41 : decode cX0_rank 41 = .ok (.idiv, 1) := by decide +kernel
theorem dX0_rank_42 : decode cX0_rank 42 = .ok (.istore_n 2, 1) := by decide +kernel
theorem dX0_rank_43 : decode cX0_rank 43 = .ok (.aload_n 0, 1) := by decide +kernel
theorem dX0_rank_44 : decode cX0_rank 44 = .ok (.iload 5, 2) := by decide +kernel
theorem dX0_rank_46 : decode cX0_rank 46 = .ok (.iconst 1, 1) := by decide +kernel
theorem dX0_rank_47 : decode cX0_rank 47 = .ok (.iadd, 1) := by decide +kernel
theorem dX0_rank_48 : decode cX0_rank 48 = .ok (.invokevirtual 67, 3) := by decide +kernel
theorem dX0_rank_51 : decode cX0_rank 51 = .ok (.istore 7, 2) := by decide +kernel
theorem dX0_rank_53 : decode cX0_rank 53 = .ok (.aload_n 0, 1) := by decide +kernel
theorem dX0_rank_54 : decode cX0_rank 54 = .ok (.getfield 17, 3) := by decide +kernel
theorem dX0_rank_57 : decode cX0_rank 57 = .ok (.iload 5, 2) := by decide +kernel
theorem dX0_rank_59 : decode cX0_rank 59 = .ok (.baload, 1) := by decide +kernel
theorem dX0_rank_60 : decode cX0_rank 60 = .ok (.ifCond .ne 16, 3) := by decide +kernel
theorem dX0_rank_63 : decode cX0_rank 63 = .ok (.iload 4, 2) := by decide +kernel
theorem dX0_rank_65 : decode cX0_rank 65 = .ok (.iload 6, 2) := by decide +kernel
theorem dX0_rank_67 : decode cX0_rank 67 = .ok (.iload 7, 2) := by decide +kernel
theorem dX0_rank_69 : decode cX0_rank 69 = .ok (.imul, 1) := by decide +kernel
theorem dX0_rank_70 : decode cX0_rank 70 = .ok (.iadd, 1) := by decide +kernel
theorem dX0_rank_71 : decode cX0_rank 71 = .ok (.istore 4, 2) := by decide +kernel
theorem dX0_rank_73 : decode cX0_rank 73 = .ok (.goto 35, 3) := by decide +kernel
theorem dX0_rank_76 : decode cX0_rank 76 = .ok (.aload_n 0, 1) := by decide +kernel
theorem dX0_rank_77 : decode cX0_rank 77 = .ok (.iload 5, 2) := by decide +kernel
theorem dX0_rank_79 : decode cX0_rank 79 = .ok (.iload_n 3, 1) := by decide +kernel
theorem dX0_rank_80 : decode cX0_rank 80 = .ok (.invokevirtual 63, 3) := by decide +kernel
theorem dX0_rank_83 : decode cX0_rank 83 = .ok (.istore 8, 2) := by decide +kernel
theorem dX0_rank_85 : decode cX0_rank 85 = .ok (.iload 8, 2) := by decide +kernel
theorem dX0_rank_87 : decode cX0_rank 87 = .ok (.iload 6, 2) := by decide +kernel
theorem dX0_rank_89 : decode cX0_rank 89 = .ok (.if_icmp .ge 9, 3) := by decide +kernel
theorem dX0_rank_92 : decode cX0_rank 92 = .ok (.iload 4, 2) := by decide +kernel
theorem dX0_rank_94 : decode cX0_rank 94 = .ok (.iload 7, 2) := by decide +kernel
theorem dX0_rank_96 : decode cX0_rank 96 = .ok (.iadd, 1) := by decide +kernel
theorem dX0_rank_97 : decode cX0_rank 97 = .ok (.ireturn, 1) := by decide +kernel
theorem dX0_rank_98 : decode cX0_rank 98 = .ok (.iload 8, 2) := by decide +kernel
theorem dX0_rank_100 : decode cX0_rank 100 = .ok (.iload 6, 2) := by decide +kernel
theorem dX0_rank_102 : decode cX0_rank 102 = .ok (.if_icmp .le 6, 3) := by decide +kernel
theorem dX0_rank_105 : decode cX0_rank 105 = .ok (.iload 4, 2) := by decide +kernel
theorem dX0_rank_107 : decode cX0_rank 107 = .ok (.ireturn, 1) := by decide +kernel
theorem dX0_rank_108 : decode cX0_rank 108 = .ok (.iload_n 3, 1) := by decide +kernel
theorem dX0_rank_109 : decode cX0_rank 109 = .ok (.iload 6, 2) := by decide +kernel
theorem dX0_rank_111 : decode cX0_rank 111 = .ok (.iload 5, 2) := by decide +kernel
theorem dX0_rank_113 : decode cX0_rank 113 = .ok (.invokestatic 79, 3) := by decide +kernel
theorem dX0_rank_116 : decode cX0_rank 116 = .ok (.imul, 1) := by decide +kernel
theorem dX0_rank_117 : decode cX0_rank 117 = .ok (.iadd, 1) := by decide +kernel
theorem dX0_rank_118 : decode cX0_rank 118 = .ok (.istore_n 3, 1) := by decide +kernel
theorem dX0_rank_119 : decode cX0_rank 119 = .ok (.iinc 5 1, 3) := by decide +kernel
theorem dX0_rank_122 : decode cX0_rank 122 = .ok (.goto (-96), 3) := by decide +kernel
theorem dX0_rank_125 : decode cX0_rank 125 = .ok (.iload 4, 2) := by decide +kernel
theorem dX0_rank_127 : decode cX0_rank 127 = .ok (.ireturn, 1) := by decide +kernel
theorem dX0_power_0 : decode cX0_power 0 = .ok (.iconst 1, 1) := by decide +kernel
theorem dX0_power_1 : decode cX0_power 1 = .ok (.istore_n 1, 1) := by decide +kernel
theorem dX0_power_2 : decode cX0_power 2 = .ok (.iconst 0, 1) := by decide +kernel
theorem dX0_power_3 : decode cX0_power 3 = .ok (.istore_n 2, 1) := by decide +kernel
theorem dX0_power_4 : decode cX0_power 4 = .ok (.iload_n 2, 1) := by decide +kernel
theorem dX0_power_5 : decode cX0_power 5 = .ok (.iload_n 0, 1) := by decide +kernel
theorem dX0_power_6 : decode cX0_power 6 = .ok (.if_icmp .ge 14, 3) := by decide +kernel
theorem dX0_power_9 : decode cX0_power 9 = .ok (.iload_n 1, 1) := by decide +kernel
theorem dX0_power_10 : decode cX0_power 10 = .ok (.bipush 7, 2) := by decide +kernel
theorem dX0_power_12 : decode cX0_power 12 = .ok (.imul, 1) := by decide +kernel
theorem dX0_power_13 : decode cX0_power 13 = .ok (.istore_n 1, 1) := by decide +kernel
theorem dX0_power_14 : decode cX0_power 14 = .ok (.iinc 2 1, 3) := by decide +kernel
theorem dX0_power_17 : decode cX0_power 17 = .ok (.goto (-13), 3) := by decide +kernel
theorem dX0_power_20 : decode cX0_power 20 = .ok (.iload_n 1, 1) := by decide +kernel
theorem dX0_power_21 : decode cX0_power 21 = .ok (.ireturn, 1) := by decide +kernel
theorem dX0_follows_0 : decode cX0_follows 0 = .ok (.aload_n 0, 1) := by decide +kernel
theorem dX0_follows_1 : decode cX0_follows 1 = .ok (.iload_n 1, 1) := by decide +kernel
theorem dX0_follows_2 : decode cX0_follows 2 = .ok (.invokevirtual 31, 3) := by decide +kernel
theorem dX0_follows_5 : decode cX0_follows 5 = .ok (.ifCond .eq 5, 3) := by decide +kernel
theorem dX0_follows_8 : decode cX0_follows 8 = .ok (.iconst 0, 1) := by decide +kernel
theorem dX0_follows_9 : decode cX0_follows 9 = .ok (.ireturn, 1) := by decide +kernel
theorem dX0_follows_10 : decode cX0_follows 10 = .ok (.aload_n 0, 1) := by decide +kernel
theorem dX0_follows_11 : decode cX0_follows 11 = .ok (.invokevirtual 70, 3) := by decide +kernel
theorem dX0_follows_14 : decode cX0_follows 14 = .ok (.aload_n 0, 1) := by decide +kernel
theorem dX0_follows_15 : decode cX0_follows 15 = .ok (.getfield 42, 3) := by decide +kernel
theorem dX0_follows_18 : decode cX0_follows 18 = .ok (.ifCond .eq 5, 3) := by decide +kernel
theorem dX0_follows_21 : decode cX0_follows 21 = .ok (.iconst 1, 1) := by decide +kernel
theorem dX0_follows_22 : decode cX0_follows 22 = .ok (.ireturn, 1) := by decide +kernel
theorem dX0_follows_23 : decode cX0_follows 23 = .ok (.aload_n 0, 1) := by decide +kernel
theorem dX0_follows_24 : decode cX0_follows 24 = .ok (.iload_n 1, 1) := by decide +kernel
theorem dX0_follows_25 : decode cX0_follows 25 = .ok (.invokevirtual 46, 3) := by decide +kernel
theorem dX0_follows_28 : decode cX0_follows 28 = .ok (.aload_n 0, 1) := by decide +kernel
theorem dX0_follows_29 : decode cX0_follows 29 = .ok (.invokevirtual 50, 3) := by decide +kernel
theorem dX0_follows_32 : decode cX0_follows 32 = .ok (.istore_n 2, 1) := by decide +kernel
theorem dX0_follows_33 : decode cX0_follows 33 = .ok (.iload_n 2, 1) := by decide +kernel
theorem dX0_follows_34 : decode cX0_follows 34 = .ok (.ifCond .ge 16, 3) := by decide +kernel
theorem dX0_follows_37 : decode cX0_follows 37 = .ok (.aload_n 0, 1) := by decide +kernel
theorem dX0_follows_38 : decode cX0_follows 38 = .ok (.getfield 23, 3) := by decide +kernel
theorem dX0_follows_41 : decode cX0_follows 41 = .ok (.iconst 4, 1) := by decide +kernel
theorem dX0_follows_42 : decode cX0_follows 42 = .ok (.iaload, 1) := by decide +kernel
theorem dX0_follows_43 : decode cX0_follows 43 = .ok (.ifCond .ne 7, 3) := by decide +kernel
theorem dX0_follows_46 : decode cX0_follows 46 = .ok (.iconst 1, 1) := by decide +kernel
theorem dX0_follows_47 : decode cX0_follows 47 = .ok (.goto 4, 3) := by decide +kernel
theorem dX0_follows_50 : decode cX0_follows 50 = .ok (.iconst 0, 1) := by decide +kernel
theorem dX0_follows_51 : decode cX0_follows 51 = .ok (.ireturn, 1) := by decide +kernel
theorem dX0_needed_0 : decode cX0_needed 0 = .ok (.aload_n 0, 1) := by decide +kernel
theorem dX0_needed_1 : decode cX0_needed 1 = .ok (.invokevirtual 70, 3) := by decide +kernel
theorem dX0_needed_4 : decode cX0_needed 4 = .ok (.aload_n 0, 1) := by decide +kernel
theorem dX0_needed_5 : decode cX0_needed 5 = .ok (.getfield 42, 3) := by decide +kernel
theorem dX0_needed_8 : decode cX0_needed 8 = .ok (.ifCond .ne 32, 3) := by decide +kernel
theorem dX0_needed_11 : decode cX0_needed 11 = .ok (.iconst 0, 1) := by decide +kernel
theorem dX0_needed_12 : decode cX0_needed 12 = .ok (.istore_n 1, 1) := by decide +kernel
theorem dX0_needed_13 : decode cX0_needed 13 = .ok (.iconst 0, 1) := by decide +kernel
theorem dX0_needed_14 : decode cX0_needed 14 = .ok (.istore_n 2, 1) := by decide +kernel
theorem dX0_needed_15 : decode cX0_needed 15 = .ok (.iload_n 2, 1) := by decide +kernel
theorem dX0_needed_16 : decode cX0_needed 16 = .ok (.iconst 4, 1) := by decide +kernel
theorem dX0_needed_17 : decode cX0_needed 17 = .ok (.if_icmp .ge 21, 3) := by decide +kernel
theorem dX0_needed_20 : decode cX0_needed 20 = .ok (.aload_n 0, 1) := by decide +kernel
theorem dX0_needed_21 : decode cX0_needed 21 = .ok (.getfield 17, 3) := by decide +kernel
theorem dX0_needed_24 : decode cX0_needed 24 = .ok (.iload_n 2, 1) := by decide +kernel
theorem dX0_needed_25 : decode cX0_needed 25 = .ok (.baload, 1) := by decide +kernel
theorem dX0_needed_26 : decode cX0_needed 26 = .ok (.ifCond .eq 6, 3) := by decide +kernel
theorem dX0_needed_29 : decode cX0_needed 29 = .ok (.iinc 1 1, 3) := by decide +kernel
theorem dX0_needed_32 : decode cX0_needed 32 = .ok (.iinc 2 1, 3) := by decide +kernel
theorem dX0_needed_35 : decode cX0_needed 35 = .ok (.goto (-20), 3) := by decide +kernel
theorem dX0_needed_38 : decode cX0_needed 38 = .ok (.iload_n 1, 1) := by decide +kernel
theorem dX0_needed_39 : decode cX0_needed 39 = .ok (.ireturn, 1) := by decide +kernel
theorem dX0_needed_40 : decode cX0_needed 40 = .ok (.aload_n 0, 1) := by decide +kernel
theorem dX0_needed_41 : decode cX0_needed 41 = .ok (.invokevirtual 57, 3) := by decide +kernel
theorem dX0_needed_44 : decode cX0_needed 44 = .ok (.istore_n 1, 1) := by decide +kernel
theorem dX0_needed_45 : decode cX0_needed 45 = .ok (.bipush 6, 2) := by decide +kernel
theorem dX0_needed_47 : decode cX0_needed 47 = .ok (.istore_n 2, 1) := by decide +kernel
theorem dX0_needed_48 : decode cX0_needed 48 = .ok (.iconst 0, 1) := by decide +kernel
theorem dX0_needed_49 : decode cX0_needed 49 = .ok (.istore_n 3, 1) := by decide +kernel
theorem dX0_needed_50 : decode cX0_needed 50 = .ok (.iload_n 3, 1) := by decide +kernel
theorem dX0_needed_51 : decode cX0_needed 51 = .ok (.bipush 64, 2) := by decide +kernel
theorem dX0_needed_53 : decode cX0_needed 53 = .ok (.if_icmp .ge 44, 3) := by decide +kernel
theorem dX0_needed_56 : decode cX0_needed 56 = .ok (.iload_n 3, 1) := by decide +kernel
theorem dX0_needed_57 : decode cX0_needed 57 = .ok (.invokestatic 82, 3) := by decide +kernel
theorem dX0_needed_60 : decode cX0_needed 60 = .ok (.istore 4, 2) := by decide +kernel
theorem dX0_needed_62 : decode cX0_needed 62 = .ok (.iload_n 3, 1) := by decide +kernel
theorem dX0_needed_63 : decode cX0_needed 63 = .ok (.iload_n 1, 1) := by decide +kernel
theorem dX0_needed_64 : decode cX0_needed 64 = .ok (.iconst (-1), 1) := by decide +kernel
theorem dX0_needed_65 : decode cX0_needed 65 = .ok (.ixor, 1) := by decide +kernel
theorem dX0_needed_66 : decode cX0_needed 66 = .ok (.iand, 1) := by decide +kernel
theorem dX0_needed_67 : decode cX0_needed 67 = .ok (.ifCond .ne 24, 3) := by decide +kernel
theorem dX0_needed_70 : decode cX0_needed 70 = .ok (.iload 4, 2) := by decide +kernel
theorem dX0_needed_72 : decode cX0_needed 72 = .ok (.iload_n 2, 1) := by decide +kernel
theorem dX0_needed_73 : decode cX0_needed 73 = .ok (.if_icmp .ge 18, 3) := by decide +kernel
theorem dX0_needed_76 : decode cX0_needed 76 = .ok (.aload_n 0, 1) := by decide +kernel
theorem dX0_needed_77 : decode cX0_needed 77 = .ok (.iload_n 3, 1) := by decide +kernel
theorem dX0_needed_78 : decode cX0_needed 78 = .ok (.invokevirtual 60, 3) := by decide +kernel
theorem dX0_needed_81 : decode cX0_needed 81 = .ok (.aload_n 0, 1) := by decide +kernel
theorem dX0_needed_82 : decode cX0_needed 82 = .ok (.getfield 42, 3) := by decide +kernel
theorem dX0_needed_85 : decode cX0_needed 85 = .ok (.ifCond .eq 6, 3) := by decide +kernel
theorem dX0_needed_88 : decode cX0_needed 88 = .ok (.iload 4, 2) := by decide +kernel
theorem dX0_needed_90 : decode cX0_needed 90 = .ok (.istore_n 2, 1) := by decide +kernel
theorem dX0_needed_91 : decode cX0_needed 91 = .ok (.iinc 3 1, 3) := by decide +kernel
theorem dX0_needed_94 : decode cX0_needed 94 = .ok (.goto (-44), 3) := by decide +kernel
theorem dX0_needed_97 : decode cX0_needed 97 = .ok (.iload_n 2, 1) := by decide +kernel
theorem dX0_needed_98 : decode cX0_needed 98 = .ok (.ireturn, 1) := by decide +kernel
theorem dX0_ones_0 : decode cX0_ones 0 = .ok (.iconst 0, 1) := by decide +kernel
theorem dX0_ones_1 : decode cX0_ones 1 = .ok (.istore_n 1, 1) := by decide +kernel
theorem dX0_ones_2 : decode cX0_ones 2 = .ok (.iconst 0, 1) := by decide +kernel
theorem dX0_ones_3 : decode cX0_ones 3 = .ok (.istore_n 2, 1) := by decide +kernel
theorem dX0_ones_4 : decode cX0_ones 4 = .ok (.iload_n 2, 1) := by decide +kernel
theorem dX0_ones_5 : decode cX0_ones 5 = .ok (.bipush 6, 2) := by decide +kernel
theorem dX0_ones_7 : decode cX0_ones 7 = .ok (.if_icmp .ge 17, 3) := by decide +kernel
theorem dX0_ones_10 : decode cX0_ones 10 = .ok (.iload_n 1, 1) := by decide +kernel
theorem dX0_ones_11 : decode cX0_ones 11 = .ok (.iload_n 0, 1) := by decide +kernel
theorem dX0_ones_12 : decode cX0_ones 12 = .ok (.iload_n 2, 1) := by decide +kernel
theorem dX0_ones_13 : decode cX0_ones 13 = .ok (.ishr, 1) := by decide +kernel
theorem dX0_ones_14 : decode cX0_ones 14 = .ok (.iconst 1, 1) := by decide +kernel
theorem dX0_ones_15 : decode cX0_ones 15 = .ok (.iand, 1) := by decide +kernel
theorem dX0_ones_16 : decode cX0_ones 16 = .ok (.iadd, 1) := by decide +kernel
theorem dX0_ones_17 : decode cX0_ones 17 = .ok (.istore_n 1, 1) := by decide +kernel
theorem dX0_ones_18 : decode cX0_ones 18 = .ok (.iinc 2 1, 3) := by decide +kernel
theorem dX0_ones_21 : decode cX0_ones 21 = .ok (.goto (-17), 3) := by decide +kernel
theorem dX0_ones_24 : decode cX0_ones 24 = .ok (.iload_n 1, 1) := by decide +kernel
theorem dX0_ones_25 : decode cX0_ones 25 = .ok (.ireturn, 1) := by decide +kernel
end
section
set_option maxRecDepth 100000
theorem dX1_init_0 : decode cX1_init 0 = .ok (.aload_n 0, 1) := by decide +kernel
theorem dX1_init_1 : decode cX1_init 1 = .ok (.invokespecial 1, 3) := by decide +kernel
theorem dX1_init_4 : decode cX1_init 4 = .ok (.aload_n 0, 1) := by decide +kernel
theorem dX1_init_5 : decode cX1_init 5 = .ok (.bipush 30, 2) := by decide +kernel
theorem dX1_init_7 : decode cX1_init 7 = .ok (.newarray .int, 2) := by decide +kernel
theorem dX1_init_9 : decode cX1_init 9 = .ok (.putfield 7, 3) := by decide +kernel
theorem dX1_init_12 : decode cX1_init 12 = .ok (.aload_n 0, 1) := by decide +kernel
theorem dX1_init_13 : decode cX1_init 13 = .ok (.bipush 6, 2) := by decide +kernel
theorem dX1_init_15 : decode cX1_init 15 = .ok (.newarray .boolean, 2) := by decide +kernel
theorem dX1_init_17 : decode cX1_init 17 = .ok (.putfield 13, 3) := by decide +kernel
theorem dX1_init_20 : decode cX1_init 20 = .ok (.aload_n 0, 1) := by decide +kernel
theorem dX1_init_21 : decode cX1_init 21 = .ok (.sipush 2401, 3) := by decide +kernel
theorem dX1_init_24 : decode cX1_init 24 = .ok (.newarray .int, 2) := by decide +kernel
theorem dX1_init_26 : decode cX1_init 26 = .ok (.putfield 17, 3) := by decide +kernel
theorem dX1_init_29 : decode cX1_init 29 = .ok (.aload_n 0, 1) := by decide +kernel
theorem dX1_init_30 : decode cX1_init 30 = .ok (.bipush 64, 2) := by decide +kernel
theorem dX1_init_32 : decode cX1_init 32 = .ok (.newarray .int, 2) := by decide +kernel
theorem dX1_init_34 : decode cX1_init 34 = .ok (.putfield 20, 3) := by decide +kernel
theorem dX1_init_37 : decode cX1_init 37 = .ok (.return_, 1) := by decide +kernel
theorem dX1_add_0 : decode cX1_add 0 = .ok (.aload_n 0, 1) := by decide +kernel
theorem dX1_add_1 : decode cX1_add 1 = .ok (.getfield 24, 3) := by decide +kernel
theorem dX1_add_4 : decode cX1_add 4 = .ok (.bipush 6, 2) := by decide +kernel
theorem dX1_add_6 : decode cX1_add 6 = .ok (.if_icmp .ne 6, 3) := by decide +kernel
theorem dX1_add_9 : decode cX1_add 9 = .ok (.bipush (-3), 2) := by decide +kernel
theorem dX1_add_11 : decode cX1_add 11 = .ok (.ireturn, 1) := by decide +kernel
theorem dX1_add_12 : decode cX1_add 12 = .ok (.aload_n 0, 1) := by decide +kernel
theorem dX1_add_13 : decode cX1_add 13 = .ok (.iload_n 1, 1) := by decide +kernel
theorem dX1_add_14 : decode cX1_add 14 = .ok (.invokevirtual 28, 3) := by decide +kernel
theorem dX1_add_17 : decode cX1_add 17 = .ok (.istore_n 2, 1) := by decide +kernel
theorem dX1_add_18 : decode cX1_add 18 = .ok (.iconst 0, 1) := by decide +kernel
theorem dX1_add_19 : decode cX1_add 19 = .ok (.istore_n 3, 1) := by decide +kernel
theorem dX1_add_20 : decode cX1_add 20 = .ok (.iload_n 3, 1) := by decide +kernel
theorem dX1_add_21 : decode cX1_add 21 = .ok (.iconst 5, 1) := by decide +kernel
theorem dX1_add_22 : decode cX1_add 22 = .ok (.if_icmp .ge 31, 3) := by decide +kernel
theorem dX1_add_25 : decode cX1_add 25 = .ok (.aload_n 0, 1) := by decide +kernel
theorem dX1_add_26 : decode cX1_add 26 = .ok (.getfield 7, 3) := by decide +kernel
theorem dX1_add_29 : decode cX1_add 29 = .ok (.aload_n 0, 1) := by decide +kernel
theorem dX1_add_30 : decode cX1_add 30 = .ok (.getfield 24, 3) := by decide +kernel
theorem dX1_add_33 : decode cX1_add 33 = .ok (.iconst 5, 1) := by decide +kernel
theorem dX1_add_34 : decode cX1_add 34 = .ok (.imul, 1) := by decide +kernel
theorem dX1_add_35 : decode cX1_add 35 = .ok (.iload_n 3, 1) := by decide +kernel
theorem dX1_add_36 : decode cX1_add 36 = .ok (.iadd, 1) := by decide +kernel
theorem dX1_add_37 : decode cX1_add 37 = .ok (.iload_n 2, 1) := by decide +kernel
theorem dX1_add_38 : decode cX1_add 38 = .ok (.bipush 7, 2) := by decide +kernel
theorem dX1_add_40 : decode cX1_add 40 = .ok (.irem, 1) := by decide +kernel
theorem dX1_add_41 : decode cX1_add 41 = .ok (.iastore, 1) := by decide +kernel
theorem dX1_add_42 : decode cX1_add 42 = .ok (.iload_n 2, 1) := by decide +kernel
theorem dX1_add_43 : decode cX1_add 43 = .ok (.bipush 7, 2) := by decide +kernel
theorem dX1_add_45 : decode cX1_add 45 = .ok (.idiv, 1) := by decide +kernel
theorem dX1_add_46 : decode cX1_add 46 = .ok (.istore_n 2, 1) := by decide +kernel
theorem dX1_add_47 : decode cX1_add 47 = .ok (.iinc 3 1, 3) := by decide +kernel
theorem dX1_add_50 : decode cX1_add 50 = .ok (.goto (-30), 3) := by decide +kernel
theorem dX1_add_53 : decode cX1_add 53 = .ok (.aload_n 0, 1) := by decide +kernel
theorem dX1_add_54 : decode cX1_add 54 = .ok (.getfield 13, 3) := by decide +kernel
theorem dX1_add_57 : decode cX1_add 57 = .ok (.aload_n 0, 1) := by decide +kernel
theorem dX1_add_58 : decode cX1_add 58 = .ok (.getfield 24, 3) := by decide +kernel
theorem dX1_add_61 : decode cX1_add 61 = .ok (.iconst 1, 1) := by decide +kernel
theorem dX1_add_62 : decode cX1_add 62 = .ok (.bastore, 1) := by decide +kernel
theorem dX1_add_63 : decode cX1_add 63 = .ok (.aload_n 0, 1) := by decide +kernel
theorem dX1_add_64 : decode cX1_add 64 = .ok (.aload_n 0, 1) := by decide +kernel
theorem dX1_add_65 : decode cX1_add 65 = .ok (.getfield 24, 3) := by decide +kernel
theorem dX1_add_68 : decode cX1_add 68 = .ok (.iconst 1, 1) := by decide +kernel
theorem dX1_add_69 : decode cX1_add 69 = .ok (.iadd, 1) := by decide +kernel
theorem dX1_add_70 : decode cX1_add 70 = .ok (.putfield 24, 3) := by decide +kernel
theorem dX1_add_73 : decode cX1_add 73 = .ok (.aload_n 0, 1) := by decide +kernel
theorem dX1_add_74 : decode cX1_add 74 = .ok (.iconst 0, 1) := by decide +kernel
theorem dX1_add_75 : decode cX1_add 75 = .ok (.putfield 32, 3) := by decide +kernel
theorem dX1_add_78 : decode cX1_add 78 = .ok (.aload_n 0, 1) := by decide +kernel
theorem dX1_add_79 : decode cX1_add 79 = .ok (.getfield 24, 3) := by decide +kernel
theorem dX1_add_82 : decode cX1_add 82 = .ok (.iconst 1, 1) := by decide +kernel
theorem dX1_add_83 : decode cX1_add 83 = .ok (.isub, 1) := by decide +kernel
theorem dX1_add_84 : decode cX1_add 84 = .ok (.ireturn, 1) := by decide +kernel
theorem dX1_positive_0 : decode cX1_positive 0 = .ok (.iload_n 1, 1) := by decide +kernel
theorem dX1_positive_1 : decode cX1_positive 1 = .ok (.ldc 23, 2) := by decide +kernel
theorem dX1_positive_3 : decode cX1_positive 3 = .ok (.iand, 1) := by decide +kernel
theorem dX1_positive_4 : decode cX1_positive 4 = .ok (.ireturn, 1) := by decide +kernel
theorem dX1_set_0 : decode cX1_set 0 = .ok (.aload_n 0, 1) := by decide +kernel
theorem dX1_set_1 : decode cX1_set 1 = .ok (.iload_n 1, 1) := by decide +kernel
theorem dX1_set_2 : decode cX1_set 2 = .ok (.invokevirtual 36, 3) := by decide +kernel
theorem dX1_set_5 : decode cX1_set 5 = .ok (.ifCond .eq 5, 3) := by decide +kernel
theorem dX1_set_8 : decode cX1_set 8 = .ok (.iconst (-1), 1) := by decide +kernel
theorem dX1_set_9 : decode cX1_set 9 = .ok (.ireturn, 1) := by decide +kernel
theorem dX1_set_10 : decode cX1_set 10 = .ok (.iload_n 2, 1) := by decide +kernel
theorem dX1_set_11 : decode cX1_set 11 = .ok (.ifCond .lt 8, 3) := by decide +kernel
theorem dX1_set_14 : decode cX1_set 14 = .ok (.iload_n 2, 1) := by decide +kernel
theorem dX1_set_15 : decode cX1_set 15 = .ok (.iconst 4, 1) := by decide +kernel
theorem dX1_set_16 : decode cX1_set 16 = .ok (.if_icmp .le 6, 3) := by decide +kernel
theorem dX1_set_19 : decode cX1_set 19 = .ok (.bipush (-2), 2) := by decide +kernel
theorem dX1_set_21 : decode cX1_set 21 = .ok (.ireturn, 1) := by decide +kernel
theorem dX1_set_22 : decode cX1_set 22 = .ok (.aload_n 0, 1) := by decide +kernel
theorem dX1_set_23 : decode cX1_set 23 = .ok (.getfield 7, 3) := by decide +kernel
theorem dX1_set_26 : decode cX1_set 26 = .ok (.iload_n 1, 1) := by decide +kernel
theorem dX1_set_27 : decode cX1_set 27 = .ok (.iconst 5, 1) := by decide +kernel
theorem dX1_set_28 : decode cX1_set 28 = .ok (.imul, 1) := by decide +kernel
theorem dX1_set_29 : decode cX1_set 29 = .ok (.iload_n 2, 1) := by decide +kernel
theorem dX1_set_30 : decode cX1_set 30 = .ok (.iadd, 1) := by decide +kernel
theorem dX1_set_31 : decode cX1_set 31 = .ok (.iaload, 1) := by decide +kernel
theorem dX1_set_32 : decode cX1_set 32 = .ok (.istore 4, 2) := by decide +kernel
theorem dX1_set_34 : decode cX1_set 34 = .ok (.aload_n 0, 1) := by decide +kernel
theorem dX1_set_35 : decode cX1_set 35 = .ok (.getfield 7, 3) := by decide +kernel
theorem dX1_set_38 : decode cX1_set 38 = .ok (.iload_n 1, 1) := by decide +kernel
theorem dX1_set_39 : decode cX1_set 39 = .ok (.iconst 5, 1) := by decide +kernel
theorem dX1_set_40 : decode cX1_set 40 = .ok (.imul, 1) := by decide +kernel
theorem dX1_set_41 : decode cX1_set 41 = .ok (.iload_n 2, 1) := by decide +kernel
theorem dX1_set_42 : decode cX1_set 42 = .ok (.iadd, 1) := by decide +kernel
theorem dX1_set_43 : decode cX1_set 43 = .ok (.iload_n 3, 1) := by decide +kernel
theorem dX1_set_44 : decode cX1_set 44 = .ok (.bipush 7, 2) := by decide +kernel
theorem dX1_set_46 : decode cX1_set 46 = .ok (.irem, 1) := by decide +kernel
theorem dX1_set_47 : decode cX1_set 47 = .ok (.bipush 7, 2) := by decide +kernel
theorem dX1_set_49 : decode cX1_set 49 = .ok (.iadd, 1) := by decide +kernel
theorem dX1_set_50 : decode cX1_set 50 = .ok (.bipush 7, 2) := by decide +kernel
theorem dX1_set_52 : decode cX1_set 52 = .ok (.irem, 1) := by decide +kernel
theorem dX1_set_53 : decode cX1_set 53 = .ok (.iastore, 1) := by decide +kernel
theorem dX1_set_54 : decode cX1_set 54 = .ok (.aload_n 0, 1) := by decide +kernel
theorem dX1_set_55 : decode cX1_set 55 = .ok (.iconst 0, 1) := by decide +kernel
theorem dX1_set_56 : decode cX1_set 56 = .ok (.putfield 32, 3) := by decide +kernel
theorem dX1_set_59 : decode cX1_set 59 = .ok (.iload 4, 2) := by decide +kernel
theorem dX1_set_61 : decode cX1_set 61 = .ok (.ireturn, 1) := by decide +kernel
theorem dX1_bad_0 : decode cX1_bad 0 = .ok (.iload_n 1, 1) := by decide +kernel
theorem dX1_bad_1 : decode cX1_bad 1 = .ok (.ifCond .lt 11, 3) := by decide +kernel
theorem dX1_bad_4 : decode cX1_bad 4 = .ok (.iload_n 1, 1) := by decide +kernel
theorem dX1_bad_5 : decode cX1_bad 5 = .ok (.aload_n 0, 1) := by decide +kernel
theorem dX1_bad_6 : decode cX1_bad 6 = .ok (.getfield 24, 3) := by decide +kernel
theorem dX1_bad_9 : decode cX1_bad 9 = .ok (.if_icmp .lt 7, 3) := by decide +kernel
theorem dX1_bad_12 : decode cX1_bad 12 = .ok (.iconst 1, 1) := by decide +kernel
theorem dX1_bad_13 : decode cX1_bad 13 = .ok (.goto 4, 3) := by decide +kernel
theorem dX1_bad_16 : decode cX1_bad 16 = .ok (.iconst 0, 1) := by decide +kernel
theorem dX1_bad_17 : decode cX1_bad 17 = .ok (.ireturn, 1) := by decide +kernel
theorem dX1_turn_0 : decode cX1_turn 0 = .ok (.aload_n 0, 1) := by decide +kernel
theorem dX1_turn_1 : decode cX1_turn 1 = .ok (.iload_n 1, 1) := by decide +kernel
theorem dX1_turn_2 : decode cX1_turn 2 = .ok (.invokevirtual 36, 3) := by decide +kernel
theorem dX1_turn_5 : decode cX1_turn 5 = .ok (.ifCond .eq 5, 3) := by decide +kernel
theorem dX1_turn_8 : decode cX1_turn 8 = .ok (.iconst (-1), 1) := by decide +kernel
theorem dX1_turn_9 : decode cX1_turn 9 = .ok (.ireturn, 1) := by decide +kernel
theorem dX1_turn_10 : decode cX1_turn 10 = .ok (.aload_n 0, 1) := by decide +kernel
theorem dX1_turn_11 : decode cX1_turn 11 = .ok (.getfield 13, 3) := by decide +kernel
theorem dX1_turn_14 : decode cX1_turn 14 = .ok (.iload_n 1, 1) := by decide +kernel
theorem dX1_turn_15 : decode cX1_turn 15 = .ok (.baload, 1) := by decide +kernel
theorem dX1_turn_16 : decode cX1_turn 16 = .ok (.ifCond .eq 7, 3) := by decide +kernel
theorem dX1_turn_19 : decode cX1_turn 19 = .ok (.iconst 1, 1) := by decide +kernel
theorem dX1_turn_20 : decode cX1_turn 20 = .ok (.goto 4, 3) := by decide +kernel
theorem dX1_turn_23 : decode cX1_turn 23 = .ok (.iconst 0, 1) := by decide +kernel
theorem dX1_turn_24 : decode cX1_turn 24 = .ok (.istore_n 3, 1) := by decide +kernel
theorem dX1_turn_25 : decode cX1_turn 25 = .ok (.aload_n 0, 1) := by decide +kernel
theorem dX1_turn_26 : decode cX1_turn 26 = .ok (.getfield 13, 3) := by decide +kernel
theorem dX1_turn_29 : decode cX1_turn 29 = .ok (.iload_n 1, 1) := by decide +kernel
theorem dX1_turn_30 : decode cX1_turn 30 = .ok (.iload_n 2, 1) := by decide +kernel
theorem dX1_turn_31 : decode cX1_turn 31 = .ok (.bastore, 1) := by decide +kernel
theorem dX1_turn_32 : decode cX1_turn 32 = .ok (.iload_n 3, 1) := by decide +kernel
theorem dX1_turn_33 : decode cX1_turn 33 = .ok (.ireturn, 1) := by decide +kernel
theorem dX1_drop_0 : decode cX1_drop 0 = .ok (.aload_n 0, 1) := by decide +kernel
theorem dX1_drop_1 : decode cX1_drop 1 = .ok (.getfield 24, 3) := by decide +kernel
theorem dX1_drop_4 : decode cX1_drop 4 = .ok (.ifCond .ne 5, 3) := by decide +kernel
theorem dX1_drop_7 : decode cX1_drop 7 = .ok (.iconst (-1), 1) := by decide +kernel
theorem dX1_drop_8 : decode cX1_drop 8 = .ok (.ireturn, 1) := by decide +kernel
theorem dX1_drop_9 : decode cX1_drop 9 = .ok (.aload_n 0, 1) := by decide +kernel
theorem dX1_drop_10 : decode cX1_drop 10 = .ok (.aload_n 0, 1) := by decide +kernel
theorem dX1_drop_11 : decode cX1_drop 11 = .ok (.getfield 24, 3) := by decide +kernel
theorem dX1_drop_14 : decode cX1_drop 14 = .ok (.iconst 1, 1) := by decide +kernel
theorem dX1_drop_15 : decode cX1_drop 15 = .ok (.isub, 1) := by decide +kernel
theorem dX1_drop_16 : decode cX1_drop 16 = .ok (.putfield 24, 3) := by decide +kernel
theorem dX1_drop_19 : decode cX1_drop 19 = .ok (.aload_n 0, 1) := by decide +kernel
theorem dX1_drop_20 : decode cX1_drop 20 = .ok (.iconst 0, 1) := by decide +kernel
theorem dX1_drop_21 : decode cX1_drop 21 = .ok (.putfield 32, 3) := by decide +kernel
theorem dX1_drop_24 : decode cX1_drop 24 = .ok (.aload_n 0, 1) := by decide +kernel
theorem dX1_drop_25 : decode cX1_drop 25 = .ok (.getfield 24, 3) := by decide +kernel
theorem dX1_drop_28 : decode cX1_drop 28 = .ok (.ireturn, 1) := by decide +kernel
theorem dX1_solutions_0 : decode cX1_solutions 0 = .ok (.aload_n 0, 1) := by decide +kernel
theorem dX1_solutions_1 : decode cX1_solutions 1 = .ok (.sipush 2401, 3) := by decide +kernel
theorem dX1_solutions_4 : decode cX1_solutions 4 = .ok (.invokevirtual 51, 3) := by decide +kernel
theorem dX1_solutions_7 : decode cX1_solutions 7 = .ok (.ireturn, 1) := by decide +kernel
theorem dX1_before_0 : decode cX1_before 0 = .ok (.aload_n 0, 1) := by decide +kernel
theorem dX1_before_1 : decode cX1_before 1 = .ok (.invokevirtual 44, 3) := by decide +kernel
theorem dX1_before_4 : decode cX1_before 4 = .ok (.aload_n 0, 1) := by decide +kernel
theorem dX1_before_5 : decode cX1_before 5 = .ok (.invokevirtual 47, 3) := by decide +kernel
theorem dX1_before_8 : decode cX1_before 8 = .ok (.istore_n 2, 1) := by decide +kernel
theorem dX1_before_9 : decode cX1_before 9 = .ok (.iconst 0, 1) := by decide +kernel
theorem dX1_before_10 : decode cX1_before 10 = .ok (.istore_n 3, 1) := by decide +kernel
theorem dX1_before_11 : decode cX1_before 11 = .ok (.iconst 0, 1) := by decide +kernel
theorem dX1_before_12 : decode cX1_before 12 = .ok (.istore 4, 2) := by decide +kernel
theorem dX1_before_14 : decode cX1_before 14 = .ok (.iload 4, 2) := by decide +kernel
theorem dX1_before_16 : decode cX1_before 16 = .ok (.iload_n 1, 1) := by decide +kernel
theorem dX1_before_17 : decode cX1_before 17 = .ok (.if_icmp .ge 24, 3) := by decide +kernel
theorem dX1_before_20 : decode cX1_before 20 = .ok (.aload_n 0, 1) := by decide +kernel
theorem dX1_before_21 : decode cX1_before 21 = .ok (.getfield 17, 3) := by decide +kernel
theorem dX1_before_24 : decode cX1_before 24 = .ok (.iload 4, 2) := by decide +kernel
theorem dX1_before_26 : decode cX1_before 26 = .ok (.iaload, 1) := by decide +kernel
theorem dX1_before_27 : decode cX1_before 27 = .ok (.iload_n 2, 1) := by decide +kernel
theorem dX1_before_28 : decode cX1_before 28 = .ok (.iand, 1) := by decide +kernel
theorem dX1_before_29 : decode cX1_before 29 = .ok (.ifCond .ne 6, 3) := by decide +kernel
theorem dX1_before_32 : decode cX1_before 32 = .ok (.iinc 3 1, 3) := by decide +kernel
theorem dX1_before_35 : decode cX1_before 35 = .ok (.iinc 4 1, 3) := by decide +kernel
theorem dX1_before_38 : decode cX1_before 38 = .ok (.goto (-24), 3) := by decide +kernel
theorem dX1_before_41 : decode cX1_before 41 = .ok (.iload_n 3, 1) := by decide +kernel
theorem dX1_before_42 : decode cX1_before 42 = .ok (.ireturn, 1) := by decide +kernel
theorem dX1_workOut_0 : decode cX1_workOut 0 = .ok (.aload_n 0, 1) := by decide +kernel
theorem dX1_workOut_1 : decode cX1_workOut 1 = .ok (.getfield 32, 3) := by decide +kernel
theorem dX1_workOut_4 : decode cX1_workOut 4 = .ok (.ifCond .eq 4, 3) := by decide +kernel
theorem dX1_workOut_7 : decode cX1_workOut 7 = .ok (.return_, 1) := by decide +kernel
theorem dX1_workOut_8 : decode cX1_workOut 8 = .ok (.aload_n 0, 1) := by decide +kernel
theorem dX1_workOut_9 : decode cX1_workOut 9 = .ok (.iconst 1, 1) := by decide +kernel
theorem dX1_workOut_10 : decode cX1_workOut 10 = .ok (.putfield 32, 3) := by decide +kernel
theorem dX1_workOut_13 : decode cX1_workOut 13 = .ok (.iconst 0, 1) := by decide +kernel
theorem dX1_workOut_14 : decode cX1_workOut 14 = .ok (.istore_n 1, 1) := by decide +kernel
theorem dX1_workOut_15 : decode cX1_workOut 15 = .ok (.iload_n 1, 1) := by decide +kernel
theorem dX1_workOut_16 : decode cX1_workOut 16 = .ok (.sipush 2401, 3) := by decide +kernel
theorem dX1_workOut_19 : decode cX1_workOut 19 = .ok (.if_icmp .ge 42, 3) := by decide +kernel
theorem dX1_workOut_22 : decode cX1_workOut 22 = .ok (.aload_n 0, 1) := by decide +kernel
theorem dX1_workOut_23 : decode cX1_workOut 23 = .ok (.getfield 17, 3) := by decide +kernel
theorem dX1_workOut_26 : decode cX1_workOut 26 = .ok (.iload_n 1, 1) := by decide +kernel
theorem dX1_workOut_27 : decode cX1_workOut 27 = .ok (.aload_n 0, 1) := by decide +kernel
theorem dX1_workOut_28 : decode cX1_workOut 28 = .ok (.iload_n 1, 1) := by decide +kernel
theorem dX1_workOut_29 : decode cX1_workOut 29 = .ok (.sipush 343, 3) := by decide +kernel
theorem dX1_workOut_32 : decode cX1_workOut 32 = .ok (.idiv, 1) := by decide +kernel
theorem dX1_workOut_33 : decode cX1_workOut 33 = .ok (.iload_n 1, 1) := by decide +kernel
theorem dX1_workOut_34 : decode cX1_workOut 34 = .ok (.bipush 49, 2) := by decide +kernel
theorem dX1_workOut_36 : decode cX1_workOut 36 = .ok (.idiv, 1) := by decide +kernel
theorem dX1_workOut_37 : decode cX1_workOut 37 = .ok (.bipush 7, 2) := by decide +kernel
theorem dX1_workOut_39 : decode cX1_workOut 39 = .ok (.irem, 1) := by decide +kernel
theorem dX1_workOut_40 : decode cX1_workOut 40 = .ok (.iload_n 1, 1) := by decide +kernel
theorem dX1_workOut_41 : decode cX1_workOut 41 = .ok (.bipush 7, 2) := by decide +kernel
theorem dX1_workOut_43 : decode cX1_workOut 43 = .ok (.idiv, 1) := by decide +kernel
theorem dX1_workOut_44 : decode cX1_workOut 44 = .ok (.bipush 7, 2) := by decide +kernel
theorem dX1_workOut_46 : decode cX1_workOut 46 = .ok (.irem, 1) := by decide +kernel
theorem dX1_workOut_47 : decode cX1_workOut 47 = .ok (.iload_n 1, 1) := by decide +kernel
theorem dX1_workOut_48 : decode cX1_workOut 48 = .ok (.bipush 7, 2) := by decide +kernel
theorem dX1_workOut_50 : decode cX1_workOut 50 = .ok (.irem, 1) := by decide +kernel
theorem dX1_workOut_51 : decode cX1_workOut 51 = .ok (.invokevirtual 40, 3) := by decide +kernel
theorem dX1_workOut_54 : decode cX1_workOut 54 = .ok (.iastore, 1) := by decide +kernel
theorem dX1_workOut_55 : decode cX1_workOut 55 = .ok (.iinc 1 1, 3) := by decide +kernel
theorem dX1_workOut_58 : decode cX1_workOut 58 = .ok (.goto (-43), 3) := by decide +kernel
theorem dX1_workOut_61 : decode cX1_workOut 61 = .ok (.return_, 1) := by decide +kernel
theorem dX1_brokenBy_0 : decode cX1_brokenBy 0 = .ok (.iconst 0, 1) := by decide +kernel
theorem dX1_brokenBy_1 : decode cX1_brokenBy 1 = .ok (.istore 5, 2) := by decide +kernel
theorem dX1_brokenBy_3 : decode cX1_brokenBy 3 = .ok (.iconst 0, 1) := by decide +kernel
theorem dX1_brokenBy_4 : decode cX1_brokenBy 4 = .ok (.istore 6, 2) := by decide +kernel
theorem dX1_brokenBy_6 : decode cX1_brokenBy 6 = .ok (.iload 6, 2) := by decide +kernel
theorem dX1_brokenBy_8 : decode cX1_brokenBy 8 = .ok (.aload_n 0, 1) := by decide +kernel
theorem dX1_brokenBy_9 : decode cX1_brokenBy 9 = .ok (.getfield 24, 3) := by decide +kernel
theorem dX1_brokenBy_12 : decode cX1_brokenBy 12 = .ok (.if_icmp .ge 89, 3) := by decide +kernel
theorem dX1_brokenBy_15 : decode cX1_brokenBy 15 = .ok (.iload 6, 2) := by decide +kernel
theorem dX1_brokenBy_17 : decode cX1_brokenBy 17 = .ok (.iconst 5, 1) := by decide +kernel
theorem dX1_brokenBy_18 : decode cX1_brokenBy 18 = .ok (.imul, 1) := by decide +kernel
theorem dX1_brokenBy_19 : decode cX1_brokenBy 19 = .ok (.istore 7, 2) := by decide +kernel
theorem dX1_brokenBy_21 : decode cX1_brokenBy 21 = .ok (.aload_n 0, 1) := by decide +kernel
theorem dX1_brokenBy_22 : decode cX1_brokenBy 22 = .ok (.getfield 7, 3) := by decide +kernel
theorem dX1_brokenBy_25 : decode cX1_brokenBy 25 = .ok (.iload 7, 2) := by decide +kernel
theorem dX1_brokenBy_27 : decode cX1_brokenBy 27 = .ok (.iaload, 1) := by decide +kernel
theorem dX1_brokenBy_28 : decode cX1_brokenBy 28 = .ok (.iload_n 1, 1) := by decide +kernel
theorem dX1_brokenBy_29 : decode cX1_brokenBy 29 = .ok (.imul, 1) := by decide +kernel
theorem dX1_brokenBy_30 : decode cX1_brokenBy 30 = .ok (.aload_n 0, 1) := by decide +kernel
theorem dX1_brokenBy_31 : decode cX1_brokenBy 31 = .ok (.getfield 7, 3) := by decide +kernel
theorem dX1_brokenBy_34 : decode cX1_brokenBy 34 = .ok (.iload 7, 2) := by decide +kernel
theorem dX1_brokenBy_36 : decode cX1_brokenBy 36 = .ok (.iconst 1, 1) := by decide +kernel
theorem dX1_brokenBy_37 : decode cX1_brokenBy 37 = .ok (.iadd, 1) := by decide +kernel
theorem dX1_brokenBy_38 : decode cX1_brokenBy 38 = .ok (.iaload, 1) := by decide +kernel
theorem dX1_brokenBy_39 : decode cX1_brokenBy 39 = .ok (.iload_n 2, 1) := by decide +kernel
theorem dX1_brokenBy_40 : decode cX1_brokenBy 40 = .ok (.imul, 1) := by decide +kernel
theorem dX1_brokenBy_41 : decode cX1_brokenBy 41 = .ok (.iadd, 1) := by decide +kernel
theorem dX1_brokenBy_42 : decode cX1_brokenBy 42 = .ok (.aload_n 0, 1) := by decide +kernel
theorem dX1_brokenBy_43 : decode cX1_brokenBy 43 = .ok (.getfield 7, 3) := by decide +kernel
theorem dX1_brokenBy_46 : decode cX1_brokenBy 46 = .ok (.iload 7, 2) := by decide +kernel
theorem dX1_brokenBy_48 : decode cX1_brokenBy 48 = .ok (.iconst 2, 1) := by decide +kernel
theorem dX1_brokenBy_49 : decode cX1_brokenBy 49 = .ok (.iadd, 1) := by decide +kernel
theorem dX1_brokenBy_50 : decode cX1_brokenBy 50 = .ok (.iaload, 1) := by decide +kernel
theorem dX1_brokenBy_51 : decode cX1_brokenBy 51 = .ok (.iload_n 3, 1) := by decide +kernel
theorem dX1_brokenBy_52 : decode cX1_brokenBy 52 = .ok (.imul, 1) := by decide +kernel
theorem dX1_brokenBy_53 : decode cX1_brokenBy 53 = .ok (.iadd, 1) := by decide +kernel
theorem dX1_brokenBy_54 : decode cX1_brokenBy 54 = .ok (.aload_n 0, 1) := by decide +kernel
theorem dX1_brokenBy_55 : decode cX1_brokenBy 55 = .ok (.getfield 7, 3) := by decide +kernel
theorem dX1_brokenBy_58 : decode cX1_brokenBy 58 = .ok (.iload 7, 2) := by decide +kernel
theorem dX1_brokenBy_60 : decode cX1_brokenBy 60 = .ok (.iconst 3, 1) := by decide +kernel
theorem dX1_brokenBy_61 : decode cX1_brokenBy 61 = .ok (.iadd, 1) := by decide +kernel
theorem dX1_brokenBy_62 : decode cX1_brokenBy 62 = .ok (.iaload, 1) := by decide +kernel
theorem dX1_brokenBy_63 : decode cX1_brokenBy 63 = .ok (.iload 4, 2) := by decide +kernel
theorem dX1_brokenBy_65 : decode cX1_brokenBy 65 = .ok (.imul, 1) := by decide +kernel
theorem dX1_brokenBy_66 : decode cX1_brokenBy 66 = .ok (.iadd, 1) := by decide +kernel
theorem dX1_brokenBy_67 : decode cX1_brokenBy 67 = .ok (.istore 8, 2) := by decide +kernel
theorem dX1_brokenBy_69 : decode cX1_brokenBy 69 = .ok (.iload 8, 2) := by decide +kernel
theorem dX1_brokenBy_71 : decode cX1_brokenBy 71 = .ok (.bipush 7, 2) := by decide +kernel
theorem dX1_brokenBy_73 : decode cX1_brokenBy 73 = .ok (.irem, 1) := by decide +kernel
theorem dX1_brokenBy_74 : decode cX1_brokenBy 74 = .ok (.aload_n 0, 1) := by decide +kernel
theorem dX1_brokenBy_75 : decode cX1_brokenBy 75 = .ok (.getfield 7, 3) := by decide +kernel
theorem dX1_brokenBy_78 : decode cX1_brokenBy 78 = .ok (.iload 7, 2) := by decide +kernel
theorem dX1_brokenBy_80 : decode cX1_brokenBy 80 = .ok (.iconst 4, 1) := by decide +kernel
theorem dX1_brokenBy_81 : decode cX1_brokenBy 81 = .ok (.iadd, 1) := by decide +kernel
theorem dX1_brokenBy_82 : decode cX1_brokenBy 82 = .ok (.iaload, 1) := by decide +kernel
theorem dX1_brokenBy_83 : decode cX1_brokenBy 83 = .ok (.if_icmp .eq 12, 3) := by decide +kernel
theorem dX1_brokenBy_86 : decode cX1_brokenBy 86 = .ok (.iload 5, 2) := by decide +kernel
theorem dX1_brokenBy_88 : decode cX1_brokenBy 88 = .ok (.iconst 1, 1) := by decide +kernel
theorem dX1_brokenBy_89 : decode cX1_brokenBy 89 = .ok (.iload 6, 2) := by decide +kernel
theorem dX1_brokenBy_91 : decode cX1_brokenBy 91 = .ok (.ishl, 1) := by decide +kernel
theorem dX1_brokenBy_92 : decode cX1_brokenBy 92 = .ok (.ior, 1) := by decide +kernel
theorem dX1_brokenBy_93 : decode cX1_brokenBy 93 = .ok (.istore 5, 2) := by decide +kernel
theorem dX1_brokenBy_95 : decode cX1_brokenBy 95 = .ok (.iinc 6 1, 3) := by decide +kernel
theorem dX1_brokenBy_98 : decode cX1_brokenBy 98 = .ok (.goto (-92), 3) := by decide +kernel
theorem dX1_brokenBy_101 : decode cX1_brokenBy 101 = .ok (.iload 5, 2) := by decide +kernel
theorem dX1_brokenBy_103 : decode cX1_brokenBy 103 = .ok (.ireturn, 1) := by decide +kernel
theorem dX1_ons_0 : decode cX1_ons 0 = .ok (.iconst 0, 1) := by decide +kernel
theorem dX1_ons_1 : decode cX1_ons 1 = .ok (.istore_n 1, 1) := by decide +kernel
end
section
set_option maxRecDepth 100000
theorem dX1_ons_2 : decode cX1_ons 2 = .ok (.iconst 0, 1) := by decide +kernel
theorem dX1_ons_3 : decode cX1_ons 3 = .ok (.istore_n 2, 1) := by decide +kernel
theorem dX1_ons_4 : decode cX1_ons 4 = .ok (.iload_n 2, 1) := by decide +kernel
theorem dX1_ons_5 : decode cX1_ons 5 = .ok (.aload_n 0, 1) := by decide +kernel
theorem dX1_ons_6 : decode cX1_ons 6 = .ok (.getfield 24, 3) := by decide +kernel
theorem dX1_ons_9 : decode cX1_ons 9 = .ok (.if_icmp .ge 24, 3) := by decide +kernel
theorem dX1_ons_12 : decode cX1_ons 12 = .ok (.aload_n 0, 1) := by decide +kernel
theorem dX1_ons_13 : decode cX1_ons 13 = .ok (.getfield 13, 3) := by decide +kernel
theorem dX1_ons_16 : decode cX1_ons 16 = .ok (.iload_n 2, 1) := by decide +kernel
theorem dX1_ons_17 : decode cX1_ons 17 = .ok (.baload, 1) := by decide +kernel
theorem dX1_ons_18 : decode cX1_ons 18 = .ok (.ifCond .eq 9, 3) := by decide +kernel
theorem dX1_ons_21 : decode cX1_ons 21 = .ok (.iload_n 1, 1) := by decide +kernel
theorem dX1_ons_22 : decode cX1_ons 22 = .ok (.iconst 1, 1) := by decide +kernel
theorem dX1_ons_23 : decode cX1_ons 23 = .ok (.iload_n 2, 1) := by decide +kernel
theorem dX1_ons_24 : decode cX1_ons 24 = .ok (.ishl, 1) := by decide +kernel
theorem dX1_ons_25 : decode cX1_ons 25 = .ok (.ior, 1) := by decide +kernel
theorem dX1_ons_26 : decode cX1_ons 26 = .ok (.istore_n 1, 1) := by decide +kernel
theorem dX1_ons_27 : decode cX1_ons 27 = .ok (.iinc 2 1, 3) := by decide +kernel
theorem dX1_ons_30 : decode cX1_ons 30 = .ok (.goto (-26), 3) := by decide +kernel
theorem dX1_ons_33 : decode cX1_ons 33 = .ok (.iload_n 1, 1) := by decide +kernel
theorem dX1_ons_34 : decode cX1_ons 34 = .ok (.ireturn, 1) := by decide +kernel
theorem dX1_value_0 : decode cX1_value 0 = .ok (.iload_n 2, 1) := by decide +kernel
theorem dX1_value_1 : decode cX1_value 1 = .ok (.ifCond .lt 8, 3) := by decide +kernel
theorem dX1_value_4 : decode cX1_value 4 = .ok (.iload_n 2, 1) := by decide +kernel
theorem dX1_value_5 : decode cX1_value 5 = .ok (.iconst 3, 1) := by decide +kernel
theorem dX1_value_6 : decode cX1_value 6 = .ok (.if_icmp .le 6, 3) := by decide +kernel
theorem dX1_value_9 : decode cX1_value 9 = .ok (.bipush (-4), 2) := by decide +kernel
theorem dX1_value_11 : decode cX1_value 11 = .ok (.ireturn, 1) := by decide +kernel
theorem dX1_value_12 : decode cX1_value 12 = .ok (.aload_n 0, 1) := by decide +kernel
theorem dX1_value_13 : decode cX1_value 13 = .ok (.invokevirtual 44, 3) := by decide +kernel
theorem dX1_value_16 : decode cX1_value 16 = .ok (.aload_n 0, 1) := by decide +kernel
theorem dX1_value_17 : decode cX1_value 17 = .ok (.invokevirtual 47, 3) := by decide +kernel
theorem dX1_value_20 : decode cX1_value 20 = .ok (.istore_n 3, 1) := by decide +kernel
theorem dX1_value_21 : decode cX1_value 21 = .ok (.iconst 0, 1) := by decide +kernel
theorem dX1_value_22 : decode cX1_value 22 = .ok (.istore 4, 2) := by decide +kernel
theorem dX1_value_24 : decode cX1_value 24 = .ok (.iconst 0, 1) := by decide +kernel
theorem dX1_value_25 : decode cX1_value 25 = .ok (.istore 5, 2) := by decide +kernel
theorem dX1_value_27 : decode cX1_value 27 = .ok (.iload 5, 2) := by decide +kernel
theorem dX1_value_29 : decode cX1_value 29 = .ok (.sipush 2401, 3) := by decide +kernel
theorem dX1_value_32 : decode cX1_value 32 = .ok (.if_icmp .ge 38, 3) := by decide +kernel
theorem dX1_value_35 : decode cX1_value 35 = .ok (.aload_n 0, 1) := by decide +kernel
theorem dX1_value_36 : decode cX1_value 36 = .ok (.getfield 17, 3) := by decide +kernel
theorem dX1_value_39 : decode cX1_value 39 = .ok (.iload 5, 2) := by decide +kernel
theorem dX1_value_41 : decode cX1_value 41 = .ok (.iaload, 1) := by decide +kernel
theorem dX1_value_42 : decode cX1_value 42 = .ok (.iload_n 3, 1) := by decide +kernel
theorem dX1_value_43 : decode cX1_value 43 = .ok (.iand, 1) := by decide +kernel
theorem dX1_value_44 : decode cX1_value 44 = .ok (.ifCond .ne 20, 3) := by decide +kernel
theorem dX1_value_47 : decode cX1_value 47 = .ok (.iload 4, 2) := by decide +kernel
theorem dX1_value_49 : decode cX1_value 49 = .ok (.iload_n 1, 1) := by decide +kernel
theorem dX1_value_50 : decode cX1_value 50 = .ok (.if_icmp .ne 11, 3) := by decide +kernel
theorem dX1_value_53 : decode cX1_value 53 = .ok (.aload_n 0, 1) := by decide +kernel
theorem dX1_value_54 : decode cX1_value 54 = .ok (.iload 5, 2) := by decide +kernel
theorem dX1_value_56 : decode cX1_value 56 = .ok (.iload_n 2, 1) := by decide +kernel
theorem dX1_value_57 : decode cX1_value 57 = .ok (.invokevirtual 54, 3) := by decide +kernel
theorem dX1_value_60 : decode cX1_value 60 = .ok (.ireturn, 1) := by decide +kernel
theorem dX1_value_61 : decode cX1_value 61 = .ok (.iinc 4 1, 3) := by decide +kernel
theorem dX1_value_64 : decode cX1_value 64 = .ok (.iinc 5 1, 3) := by decide +kernel
theorem dX1_value_67 : decode cX1_value 67 = .ok (.goto (-40), 3) := by decide +kernel
theorem dX1_value_70 : decode cX1_value 70 = .ok (.bipush (-4), 2) := by decide +kernel
theorem dX1_value_72 : decode cX1_value 72 = .ok (.ireturn, 1) := by decide +kernel
theorem dX1_digit_0 : decode cX1_digit 0 = .ok (.iload_n 2, 1) := by decide +kernel
theorem dX1_digit_1 : decode cX1_digit 1 = .ok (.ifCond .ne 11, 3) := by decide +kernel
theorem dX1_digit_4 : decode cX1_digit 4 = .ok (.iload_n 1, 1) := by decide +kernel
theorem dX1_digit_5 : decode cX1_digit 5 = .ok (.sipush 343, 3) := by decide +kernel
theorem dX1_digit_8 : decode cX1_digit 8 = .ok (.idiv, 1) := by decide +kernel
theorem dX1_digit_9 : decode cX1_digit 9 = .ok (.goto 37, 3) := by decide +kernel
theorem dX1_digit_12 : decode cX1_digit 12 = .ok (.iload_n 2, 1) := by decide +kernel
theorem dX1_digit_13 : decode cX1_digit 13 = .ok (.iconst 1, 1) := by decide +kernel
theorem dX1_digit_14 : decode cX1_digit 14 = .ok (.if_icmp .ne 13, 3) := by decide +kernel
theorem dX1_digit_17 : decode cX1_digit 17 = .ok (.iload_n 1, 1) := by decide +kernel
theorem dX1_digit_18 : decode cX1_digit 18 = .ok (.bipush 49, 2) := by decide +kernel
theorem dX1_digit_20 : decode cX1_digit 20 = .ok (.idiv, 1) := by decide +kernel
theorem dX1_digit_21 : decode cX1_digit 21 = .ok (.bipush 7, 2) := by decide +kernel
theorem dX1_digit_23 : decode cX1_digit 23 = .ok (.irem, 1) := by decide +kernel
theorem dX1_digit_24 : decode cX1_digit 24 = .ok (.goto 22, 3) := by decide +kernel
theorem dX1_digit_27 : decode cX1_digit 27 = .ok (.iload_n 2, 1) := by decide +kernel
theorem dX1_digit_28 : decode cX1_digit 28 = .ok (.iconst 2, 1) := by decide +kernel
theorem dX1_digit_29 : decode cX1_digit 29 = .ok (.if_icmp .ne 13, 3) := by decide +kernel
theorem dX1_digit_32 : decode cX1_digit 32 = .ok (.iload_n 1, 1) := by decide +kernel
theorem dX1_digit_33 : decode cX1_digit 33 = .ok (.bipush 7, 2) := by decide +kernel
theorem dX1_digit_35 : decode cX1_digit 35 = .ok (.idiv, 1) := by decide +kernel
theorem dX1_digit_36 : decode cX1_digit 36 = .ok (.bipush 7, 2) := by decide +kernel
theorem dX1_digit_38 : decode cX1_digit 38 = .ok (.irem, 1) := by decide +kernel
theorem dX1_digit_39 : decode cX1_digit 39 = .ok (.goto 7, 3) := by decide +kernel
theorem dX1_digit_42 : decode cX1_digit 42 = .ok (.iload_n 1, 1) := by decide +kernel
theorem dX1_digit_43 : decode cX1_digit 43 = .ok (.bipush 7, 2) := by decide +kernel
theorem dX1_digit_45 : decode cX1_digit 45 = .ok (.irem, 1) := by decide +kernel
theorem dX1_digit_46 : decode cX1_digit 46 = .ok (.ireturn, 1) := by decide +kernel
theorem dX1_possible_0 : decode cX1_possible 0 = .ok (.iload_n 1, 1) := by decide +kernel
theorem dX1_possible_1 : decode cX1_possible 1 = .ok (.ifCond .lt 8, 3) := by decide +kernel
theorem dX1_possible_4 : decode cX1_possible 4 = .ok (.iload_n 1, 1) := by decide +kernel
theorem dX1_possible_5 : decode cX1_possible 5 = .ok (.iconst 3, 1) := by decide +kernel
theorem dX1_possible_6 : decode cX1_possible 6 = .ok (.if_icmp .le 5, 3) := by decide +kernel
theorem dX1_possible_9 : decode cX1_possible 9 = .ok (.iconst 0, 1) := by decide +kernel
theorem dX1_possible_10 : decode cX1_possible 10 = .ok (.ireturn, 1) := by decide +kernel
theorem dX1_possible_11 : decode cX1_possible 11 = .ok (.aload_n 0, 1) := by decide +kernel
theorem dX1_possible_12 : decode cX1_possible 12 = .ok (.invokevirtual 44, 3) := by decide +kernel
theorem dX1_possible_15 : decode cX1_possible 15 = .ok (.aload_n 0, 1) := by decide +kernel
theorem dX1_possible_16 : decode cX1_possible 16 = .ok (.invokevirtual 47, 3) := by decide +kernel
theorem dX1_possible_19 : decode cX1_possible 19 = .ok (.istore_n 2, 1) := by decide +kernel
theorem dX1_possible_20 : decode cX1_possible 20 = .ok (.iconst 0, 1) := by decide +kernel
theorem dX1_possible_21 : decode cX1_possible 21 = .ok (.istore_n 3, 1) := by decide +kernel
theorem dX1_possible_22 : decode cX1_possible 22 = .ok (.iconst 0, 1) := by decide +kernel
theorem dX1_possible_23 : decode cX1_possible 23 = .ok (.istore 4, 2) := by decide +kernel
theorem dX1_possible_25 : decode cX1_possible 25 = .ok (.iload 4, 2) := by decide +kernel
theorem dX1_possible_27 : decode cX1_possible 27 = .ok (.sipush 2401, 3) := by decide +kernel
theorem dX1_possible_30 : decode cX1_possible 30 = .ok (.if_icmp .ge 33, 3) := by decide +kernel
theorem dX1_possible_33 : decode cX1_possible 33 = .ok (.aload_n 0, 1) := by decide +kernel
theorem dX1_possible_34 : decode cX1_possible 34 = .ok (.getfield 17, 3) := by decide +kernel
theorem dX1_possible_37 : decode cX1_possible 37 = .ok (.iload 4, 2) := by decide +kernel
theorem dX1_possible_39 : decode cX1_possible 39 = .ok (.iaload, 1) := by decide +kernel
theorem dX1_possible_40 : decode cX1_possible 40 = .ok (.iload_n 2, 1) := by decide +kernel
theorem dX1_possible_41 : decode cX1_possible 41 = .ok (.iand, 1) := by decide +kernel
theorem dX1_possible_42 : decode cX1_possible 42 = .ok (.ifCond .ne 15, 3) := by decide +kernel
theorem dX1_possible_45 : decode cX1_possible 45 = .ok (.iload_n 3, 1) := by decide +kernel
theorem dX1_possible_46 : decode cX1_possible 46 = .ok (.iconst 1, 1) := by decide +kernel
theorem dX1_possible_47 : decode cX1_possible 47 = .ok (.aload_n 0, 1) := by decide +kernel
theorem dX1_possible_48 : decode cX1_possible 48 = .ok (.iload 4, 2) := by decide +kernel
theorem dX1_possible_50 : decode cX1_possible 50 = .ok (.iload_n 1, 1) := by decide +kernel
theorem dX1_possible_51 : decode cX1_possible 51 = .ok (.invokevirtual 54, 3) := by decide +kernel
theorem dX1_possible_54 : decode cX1_possible 54 = .ok (.ishl, 1) := by decide +kernel
theorem dX1_possible_55 : decode cX1_possible 55 = .ok (.ior, 1) := by decide +kernel
theorem dX1_possible_56 : decode cX1_possible 56 = .ok (.istore_n 3, 1) := by decide +kernel
theorem dX1_possible_57 : decode cX1_possible 57 = .ok (.iinc 4 1, 3) := by decide +kernel
theorem dX1_possible_60 : decode cX1_possible 60 = .ok (.goto (-35), 3) := by decide +kernel
theorem dX1_possible_63 : decode cX1_possible 63 = .ok (.iload_n 3, 1) := by decide +kernel
theorem dX1_possible_64 : decode cX1_possible 64 = .ok (.ireturn, 1) := by decide +kernel
theorem dX1_fixed_0 : decode cX1_fixed 0 = .ok (.aload_n 0, 1) := by decide +kernel
theorem dX1_fixed_1 : decode cX1_fixed 1 = .ok (.iload_n 1, 1) := by decide +kernel
theorem dX1_fixed_2 : decode cX1_fixed 2 = .ok (.invokevirtual 58, 3) := by decide +kernel
theorem dX1_fixed_5 : decode cX1_fixed 5 = .ok (.istore_n 2, 1) := by decide +kernel
theorem dX1_fixed_6 : decode cX1_fixed 6 = .ok (.iconst 0, 1) := by decide +kernel
theorem dX1_fixed_7 : decode cX1_fixed 7 = .ok (.istore_n 3, 1) := by decide +kernel
theorem dX1_fixed_8 : decode cX1_fixed 8 = .ok (.iload_n 3, 1) := by decide +kernel
theorem dX1_fixed_9 : decode cX1_fixed 9 = .ok (.bipush 7, 2) := by decide +kernel
theorem dX1_fixed_11 : decode cX1_fixed 11 = .ok (.if_icmp .ge 18, 3) := by decide +kernel
theorem dX1_fixed_14 : decode cX1_fixed 14 = .ok (.iload_n 2, 1) := by decide +kernel
theorem dX1_fixed_15 : decode cX1_fixed 15 = .ok (.iconst 1, 1) := by decide +kernel
theorem dX1_fixed_16 : decode cX1_fixed 16 = .ok (.iload_n 3, 1) := by decide +kernel
theorem dX1_fixed_17 : decode cX1_fixed 17 = .ok (.ishl, 1) := by decide +kernel
theorem dX1_fixed_18 : decode cX1_fixed 18 = .ok (.if_icmp .ne 5, 3) := by decide +kernel
theorem dX1_fixed_21 : decode cX1_fixed 21 = .ok (.iconst 1, 1) := by decide +kernel
theorem dX1_fixed_22 : decode cX1_fixed 22 = .ok (.ireturn, 1) := by decide +kernel
theorem dX1_fixed_23 : decode cX1_fixed 23 = .ok (.iinc 3 1, 3) := by decide +kernel
theorem dX1_fixed_26 : decode cX1_fixed 26 = .ok (.goto (-18), 3) := by decide +kernel
theorem dX1_fixed_29 : decode cX1_fixed 29 = .ok (.iconst 0, 1) := by decide +kernel
theorem dX1_fixed_30 : decode cX1_fixed 30 = .ok (.ireturn, 1) := by decide +kernel
theorem dX1_rank_0 : decode cX1_rank 0 = .ok (.aload_n 0, 1) := by decide +kernel
theorem dX1_rank_1 : decode cX1_rank 1 = .ok (.iload_n 1, 1) := by decide +kernel
theorem dX1_rank_2 : decode cX1_rank 2 = .ok (.invokevirtual 28, 3) := by decide +kernel
theorem dX1_rank_5 : decode cX1_rank 5 = .ok (.istore_n 2, 1) := by decide +kernel
theorem dX1_rank_6 : decode cX1_rank 6 = .ok (.iconst 0, 1) := by decide +kernel
theorem dX1_rank_7 : decode cX1_rank 7 = .ok (.istore_n 3, 1) := by decide +kernel
theorem dX1_rank_8 : decode cX1_rank 8 = .ok (.iconst 0, 1) := by decide +kernel
theorem dX1_rank_9 : decode cX1_rank 9 = .ok (.istore 4, 2) := by decide +kernel
theorem dX1_rank_11 : decode cX1_rank 11 = .ok (.iload 4, 2) := by decide +kernel
theorem dX1_rank_13 : decode cX1_rank 13 = .ok (.iconst 4, 1) := by decide +kernel
theorem dX1_rank_14 : decode cX1_rank 14 = .ok (.if_icmp .ge 24, 3) := by decide +kernel
theorem dX1_rank_17 : decode cX1_rank 17 = .ok (.iload_n 3, 1) := by decide +kernel
theorem dX1_rank_18 : decode cX1_rank 18 = .ok (.bipush 7, 2) := by decide +kernel
theorem dX1_rank_20 : decode cX1_rank 20 = .ok (.imul, 1) := by decide +kernel
theorem dX1_rank_21 : decode cX1_rank 21 = .ok (.iload_n 2, 1) := by decide +kernel
theorem dX1_rank_22 : decode cX1_rank 22 = .ok (.bipush 7, 2) := by decide +kernel
theorem dX1_rank_24 : decode cX1_rank 24 = .ok (.irem, 1) := by decide +kernel
theorem dX1_rank_25 : decode cX1_rank 25 = .ok (.iadd, 1) := by decide +kernel
theorem dX1_rank_26 : decode cX1_rank 26 = .ok (.istore_n 3, 1) := by decide +kernel
theorem dX1_rank_27 : decode cX1_rank 27 = .ok (.iload_n 2, 1) := by decide +kernel
theorem dX1_rank_28 : decode cX1_rank 28 = .ok (.bipush 7, 2) := by decide +kernel
theorem dX1_rank_30 : decode cX1_rank 30 = .ok (.idiv, 1) := by decide +kernel
theorem dX1_rank_31 : decode cX1_rank 31 = .ok (.istore_n 2, 1) := by decide +kernel
theorem dX1_rank_32 : decode cX1_rank 32 = .ok (.iinc 4 1, 3) := by decide +kernel
theorem dX1_rank_35 : decode cX1_rank 35 = .ok (.goto (-24), 3) := by decide +kernel
theorem dX1_rank_38 : decode cX1_rank 38 = .ok (.aload_n 0, 1) := by decide +kernel
theorem dX1_rank_39 : decode cX1_rank 39 = .ok (.iload_n 3, 1) := by decide +kernel
theorem dX1_rank_40 : decode cX1_rank 40 = .ok (.invokevirtual 51, 3) := by decide +kernel
theorem dX1_rank_43 : decode cX1_rank 43 = .ok (.ireturn, 1) := by decide +kernel
theorem dX1_follows_0 : decode cX1_follows 0 = .ok (.aload_n 0, 1) := by decide +kernel
theorem dX1_follows_1 : decode cX1_follows 1 = .ok (.iload_n 1, 1) := by decide +kernel
theorem dX1_follows_2 : decode cX1_follows 2 = .ok (.invokevirtual 36, 3) := by decide +kernel
theorem dX1_follows_5 : decode cX1_follows 5 = .ok (.ifCond .eq 5, 3) := by decide +kernel
theorem dX1_follows_8 : decode cX1_follows 8 = .ok (.iconst 0, 1) := by decide +kernel
theorem dX1_follows_9 : decode cX1_follows 9 = .ok (.ireturn, 1) := by decide +kernel
theorem dX1_follows_10 : decode cX1_follows 10 = .ok (.aload_n 0, 1) := by decide +kernel
theorem dX1_follows_11 : decode cX1_follows 11 = .ok (.invokevirtual 44, 3) := by decide +kernel
theorem dX1_follows_14 : decode cX1_follows 14 = .ok (.aload_n 0, 1) := by decide +kernel
theorem dX1_follows_15 : decode cX1_follows 15 = .ok (.invokevirtual 47, 3) := by decide +kernel
theorem dX1_follows_18 : decode cX1_follows 18 = .ok (.istore_n 2, 1) := by decide +kernel
theorem dX1_follows_19 : decode cX1_follows 19 = .ok (.iconst 0, 1) := by decide +kernel
theorem dX1_follows_20 : decode cX1_follows 20 = .ok (.istore_n 3, 1) := by decide +kernel
theorem dX1_follows_21 : decode cX1_follows 21 = .ok (.iload_n 3, 1) := by decide +kernel
theorem dX1_follows_22 : decode cX1_follows 22 = .ok (.sipush 2401, 3) := by decide +kernel
theorem dX1_follows_25 : decode cX1_follows 25 = .ok (.if_icmp .ge 36, 3) := by decide +kernel
theorem dX1_follows_28 : decode cX1_follows 28 = .ok (.aload_n 0, 1) := by decide +kernel
theorem dX1_follows_29 : decode cX1_follows 29 = .ok (.getfield 17, 3) := by decide +kernel
theorem dX1_follows_32 : decode cX1_follows 32 = .ok (.iload_n 3, 1) := by decide +kernel
theorem dX1_follows_33 : decode cX1_follows 33 = .ok (.iaload, 1) := by decide +kernel
theorem dX1_follows_34 : decode cX1_follows 34 = .ok (.iload_n 2, 1) := by decide +kernel
theorem dX1_follows_35 : decode cX1_follows 35 = .ok (.iand, 1) := by decide +kernel
theorem dX1_follows_36 : decode cX1_follows 36 = .ok (.ifCond .ne 19, 3) := by decide +kernel
theorem dX1_follows_39 : decode cX1_follows 39 = .ok (.aload_n 0, 1) := by decide +kernel
theorem dX1_follows_40 : decode cX1_follows 40 = .ok (.getfield 17, 3) := by decide +kernel
theorem dX1_follows_43 : decode cX1_follows 43 = .ok (.iload_n 3, 1) := by decide +kernel
theorem dX1_follows_44 : decode cX1_follows 44 = .ok (.iaload, 1) := by decide +kernel
theorem dX1_follows_45 : decode cX1_follows 45 = .ok (.iload_n 1, 1) := by decide +kernel
theorem dX1_follows_46 : decode cX1_follows 46 = .ok (.ishr, 1) := by decide +kernel
theorem dX1_follows_47 : decode cX1_follows 47 = .ok (.iconst 1, 1) := by decide +kernel
theorem dX1_follows_48 : decode cX1_follows 48 = .ok (.iand, 1) := by decide +kernel
theorem dX1_follows_49 : decode cX1_follows 49 = .ok (.iconst 1, 1) := by decide +kernel
theorem dX1_follows_50 : decode cX1_follows 50 = .ok (.if_icmp .ne 5, 3) := by decide +kernel
theorem dX1_follows_53 : decode cX1_follows 53 = .ok (.iconst 0, 1) := by decide +kernel
theorem dX1_follows_54 : decode cX1_follows 54 = .ok (.ireturn, 1) := by decide +kernel
theorem dX1_follows_55 : decode cX1_follows 55 = .ok (.iinc 3 1, 3) := by decide +kernel
theorem dX1_follows_58 : decode cX1_follows 58 = .ok (.goto (-37), 3) := by decide +kernel
theorem dX1_follows_61 : decode cX1_follows 61 = .ok (.iconst 1, 1) := by decide +kernel
theorem dX1_follows_62 : decode cX1_follows 62 = .ok (.ireturn, 1) := by decide +kernel
theorem dX1_needed_0 : decode cX1_needed 0 = .ok (.aload_n 0, 1) := by decide +kernel
theorem dX1_needed_1 : decode cX1_needed 1 = .ok (.invokevirtual 44, 3) := by decide +kernel
theorem dX1_needed_4 : decode cX1_needed 4 = .ok (.iconst 0, 1) := by decide +kernel
theorem dX1_needed_5 : decode cX1_needed 5 = .ok (.istore_n 1, 1) := by decide +kernel
theorem dX1_needed_6 : decode cX1_needed 6 = .ok (.iload_n 1, 1) := by decide +kernel
theorem dX1_needed_7 : decode cX1_needed 7 = .ok (.bipush 64, 2) := by decide +kernel
theorem dX1_needed_9 : decode cX1_needed 9 = .ok (.if_icmp .ge 16, 3) := by decide +kernel
theorem dX1_needed_12 : decode cX1_needed 12 = .ok (.aload_n 0, 1) := by decide +kernel
theorem dX1_needed_13 : decode cX1_needed 13 = .ok (.getfield 20, 3) := by decide +kernel
theorem dX1_needed_16 : decode cX1_needed 16 = .ok (.iload_n 1, 1) := by decide +kernel
theorem dX1_needed_17 : decode cX1_needed 17 = .ok (.iconst 0, 1) := by decide +kernel
theorem dX1_needed_18 : decode cX1_needed 18 = .ok (.iastore, 1) := by decide +kernel
theorem dX1_needed_19 : decode cX1_needed 19 = .ok (.iinc 1 1, 3) := by decide +kernel
theorem dX1_needed_22 : decode cX1_needed 22 = .ok (.goto (-16), 3) := by decide +kernel
theorem dX1_needed_25 : decode cX1_needed 25 = .ok (.iconst 0, 1) := by decide +kernel
theorem dX1_needed_26 : decode cX1_needed 26 = .ok (.istore_n 1, 1) := by decide +kernel
theorem dX1_needed_27 : decode cX1_needed 27 = .ok (.iload_n 1, 1) := by decide +kernel
theorem dX1_needed_28 : decode cX1_needed 28 = .ok (.sipush 2401, 3) := by decide +kernel
theorem dX1_needed_31 : decode cX1_needed 31 = .ok (.if_icmp .ge 39, 3) := by decide +kernel
theorem dX1_needed_34 : decode cX1_needed 34 = .ok (.aload_n 0, 1) := by decide +kernel
theorem dX1_needed_35 : decode cX1_needed 35 = .ok (.getfield 20, 3) := by decide +kernel
theorem dX1_needed_38 : decode cX1_needed 38 = .ok (.aload_n 0, 1) := by decide +kernel
theorem dX1_needed_39 : decode cX1_needed 39 = .ok (.getfield 17, 3) := by decide +kernel
theorem dX1_needed_42 : decode cX1_needed 42 = .ok (.iload_n 1, 1) := by decide +kernel
theorem dX1_needed_43 : decode cX1_needed 43 = .ok (.iaload, 1) := by decide +kernel
theorem dX1_needed_44 : decode cX1_needed 44 = .ok (.bipush 63, 2) := by decide +kernel
theorem dX1_needed_46 : decode cX1_needed 46 = .ok (.iand, 1) := by decide +kernel
theorem dX1_needed_47 : decode cX1_needed 47 = .ok (.aload_n 0, 1) := by decide +kernel
theorem dX1_needed_48 : decode cX1_needed 48 = .ok (.getfield 20, 3) := by decide +kernel
theorem dX1_needed_51 : decode cX1_needed 51 = .ok (.aload_n 0, 1) := by decide +kernel
theorem dX1_needed_52 : decode cX1_needed 52 = .ok (.getfield 17, 3) := by decide +kernel
theorem dX1_needed_55 : decode cX1_needed 55 = .ok (.iload_n 1, 1) := by decide +kernel
theorem dX1_needed_56 : decode cX1_needed 56 = .ok (.iaload, 1) := by decide +kernel
theorem dX1_needed_57 : decode cX1_needed 57 = .ok (.bipush 63, 2) := by decide +kernel
theorem dX1_needed_59 : decode cX1_needed 59 = .ok (.iand, 1) := by decide +kernel
theorem dX1_needed_60 : decode cX1_needed 60 = .ok (.iaload, 1) := by decide +kernel
theorem dX1_needed_61 : decode cX1_needed 61 = .ok (.iconst 1, 1) := by decide +kernel
theorem dX1_needed_62 : decode cX1_needed 62 = .ok (.iadd, 1) := by decide +kernel
theorem dX1_needed_63 : decode cX1_needed 63 = .ok (.iastore, 1) := by decide +kernel
theorem dX1_needed_64 : decode cX1_needed 64 = .ok (.iinc 1 1, 3) := by decide +kernel
theorem dX1_needed_67 : decode cX1_needed 67 = .ok (.goto (-40), 3) := by decide +kernel
theorem dX1_needed_70 : decode cX1_needed 70 = .ok (.aload_n 0, 1) := by decide +kernel
theorem dX1_needed_71 : decode cX1_needed 71 = .ok (.invokevirtual 47, 3) := by decide +kernel
theorem dX1_needed_74 : decode cX1_needed 74 = .ok (.istore_n 1, 1) := by decide +kernel
theorem dX1_needed_75 : decode cX1_needed 75 = .ok (.aload_n 0, 1) := by decide +kernel
theorem dX1_needed_76 : decode cX1_needed 76 = .ok (.iload_n 1, 1) := by decide +kernel
theorem dX1_needed_77 : decode cX1_needed 77 = .ok (.invokevirtual 61, 3) := by decide +kernel
theorem dX1_needed_80 : decode cX1_needed 80 = .ok (.istore_n 2, 1) := by decide +kernel
theorem dX1_needed_81 : decode cX1_needed 81 = .ok (.bipush 6, 2) := by decide +kernel
theorem dX1_needed_83 : decode cX1_needed 83 = .ok (.istore_n 3, 1) := by decide +kernel
theorem dX1_needed_84 : decode cX1_needed 84 = .ok (.iconst 0, 1) := by decide +kernel
theorem dX1_needed_85 : decode cX1_needed 85 = .ok (.istore 4, 2) := by decide +kernel
theorem dX1_needed_87 : decode cX1_needed 87 = .ok (.iload 4, 2) := by decide +kernel
theorem dX1_needed_89 : decode cX1_needed 89 = .ok (.bipush 64, 2) := by decide +kernel
theorem dX1_needed_91 : decode cX1_needed 91 = .ok (.if_icmp .ge 68, 3) := by decide +kernel
theorem dX1_needed_94 : decode cX1_needed 94 = .ok (.iconst 0, 1) := by decide +kernel
theorem dX1_needed_95 : decode cX1_needed 95 = .ok (.istore 5, 2) := by decide +kernel
theorem dX1_needed_97 : decode cX1_needed 97 = .ok (.iconst 0, 1) := by decide +kernel
theorem dX1_needed_98 : decode cX1_needed 98 = .ok (.istore 6, 2) := by decide +kernel
theorem dX1_needed_100 : decode cX1_needed 100 = .ok (.iload 6, 2) := by decide +kernel
theorem dX1_needed_102 : decode cX1_needed 102 = .ok (.bipush 6, 2) := by decide +kernel
theorem dX1_needed_104 : decode cX1_needed 104 = .ok (.if_icmp .ge 21, 3) := by decide +kernel
theorem dX1_needed_107 : decode cX1_needed 107 = .ok (.iload 5, 2) := by decide +kernel
theorem dX1_needed_109 : decode cX1_needed 109 = .ok (.iload 4, 2) := by decide +kernel
theorem dX1_needed_111 : decode cX1_needed 111 = .ok (.iload 6, 2) := by decide +kernel
theorem dX1_needed_113 : decode cX1_needed 113 = .ok (.ishr, 1) := by decide +kernel
theorem dX1_needed_114 : decode cX1_needed 114 = .ok (.iconst 1, 1) := by decide +kernel
theorem dX1_needed_115 : decode cX1_needed 115 = .ok (.iand, 1) := by decide +kernel
theorem dX1_needed_116 : decode cX1_needed 116 = .ok (.iadd, 1) := by decide +kernel
theorem dX1_needed_117 : decode cX1_needed 117 = .ok (.istore 5, 2) := by decide +kernel
theorem dX1_needed_119 : decode cX1_needed 119 = .ok (.iinc 6 1, 3) := by decide +kernel
theorem dX1_needed_122 : decode cX1_needed 122 = .ok (.goto (-22), 3) := by decide +kernel
theorem dX1_needed_125 : decode cX1_needed 125 = .ok (.iload 4, 2) := by decide +kernel
theorem dX1_needed_127 : decode cX1_needed 127 = .ok (.iload_n 1, 1) := by decide +kernel
theorem dX1_needed_128 : decode cX1_needed 128 = .ok (.iconst (-1), 1) := by decide +kernel
theorem dX1_needed_129 : decode cX1_needed 129 = .ok (.ixor, 1) := by decide +kernel
theorem dX1_needed_130 : decode cX1_needed 130 = .ok (.iand, 1) := by decide +kernel
theorem dX1_needed_131 : decode cX1_needed 131 = .ok (.ifCond .ne 22, 3) := by decide +kernel
theorem dX1_needed_134 : decode cX1_needed 134 = .ok (.iload 5, 2) := by decide +kernel
theorem dX1_needed_136 : decode cX1_needed 136 = .ok (.iload_n 3, 1) := by decide +kernel
theorem dX1_needed_137 : decode cX1_needed 137 = .ok (.if_icmp .ge 16, 3) := by decide +kernel
theorem dX1_needed_140 : decode cX1_needed 140 = .ok (.aload_n 0, 1) := by decide +kernel
theorem dX1_needed_141 : decode cX1_needed 141 = .ok (.iload 4, 2) := by decide +kernel
theorem dX1_needed_143 : decode cX1_needed 143 = .ok (.invokevirtual 61, 3) := by decide +kernel
theorem dX1_needed_146 : decode cX1_needed 146 = .ok (.iload_n 2, 1) := by decide +kernel
end
section
set_option maxRecDepth 100000
theorem dX1_needed_147 : decode cX1_needed 147 = .ok (.if_icmp .ne 6, 3) := by decide +kernel
theorem dX1_needed_150 : decode cX1_needed 150 = .ok (.iload 5, 2) := by decide +kernel
theorem dX1_needed_152 : decode cX1_needed 152 = .ok (.istore_n 3, 1) := by decide +kernel
theorem dX1_needed_153 : decode cX1_needed 153 = .ok (.iinc 4 1, 3) := by decide +kernel
theorem dX1_needed_156 : decode cX1_needed 156 = .ok (.goto (-69), 3) := by decide +kernel
theorem dX1_needed_159 : decode cX1_needed 159 = .ok (.iload_n 3, 1) := by decide +kernel
theorem dX1_needed_160 : decode cX1_needed 160 = .ok (.ireturn, 1) := by decide +kernel
theorem dX1_meeting_0 : decode cX1_meeting 0 = .ok (.iconst 0, 1) := by decide +kernel
theorem dX1_meeting_1 : decode cX1_meeting 1 = .ok (.istore_n 2, 1) := by decide +kernel
theorem dX1_meeting_2 : decode cX1_meeting 2 = .ok (.iconst 0, 1) := by decide +kernel
theorem dX1_meeting_3 : decode cX1_meeting 3 = .ok (.istore_n 3, 1) := by decide +kernel
theorem dX1_meeting_4 : decode cX1_meeting 4 = .ok (.iload_n 3, 1) := by decide +kernel
theorem dX1_meeting_5 : decode cX1_meeting 5 = .ok (.bipush 64, 2) := by decide +kernel
theorem dX1_meeting_7 : decode cX1_meeting 7 = .ok (.if_icmp .ge 24, 3) := by decide +kernel
theorem dX1_meeting_10 : decode cX1_meeting 10 = .ok (.iload_n 3, 1) := by decide +kernel
theorem dX1_meeting_11 : decode cX1_meeting 11 = .ok (.iload_n 1, 1) := by decide +kernel
theorem dX1_meeting_12 : decode cX1_meeting 12 = .ok (.iand, 1) := by decide +kernel
theorem dX1_meeting_13 : decode cX1_meeting 13 = .ok (.ifCond .ne 12, 3) := by decide +kernel
theorem dX1_meeting_16 : decode cX1_meeting 16 = .ok (.iload_n 2, 1) := by decide +kernel
theorem dX1_meeting_17 : decode cX1_meeting 17 = .ok (.aload_n 0, 1) := by decide +kernel
theorem dX1_meeting_18 : decode cX1_meeting 18 = .ok (.getfield 20, 3) := by decide +kernel
theorem dX1_meeting_21 : decode cX1_meeting 21 = .ok (.iload_n 3, 1) := by decide +kernel
theorem dX1_meeting_22 : decode cX1_meeting 22 = .ok (.iaload, 1) := by decide +kernel
theorem dX1_meeting_23 : decode cX1_meeting 23 = .ok (.iadd, 1) := by decide +kernel
theorem dX1_meeting_24 : decode cX1_meeting 24 = .ok (.istore_n 2, 1) := by decide +kernel
theorem dX1_meeting_25 : decode cX1_meeting 25 = .ok (.iinc 3 1, 3) := by decide +kernel
theorem dX1_meeting_28 : decode cX1_meeting 28 = .ok (.goto (-24), 3) := by decide +kernel
theorem dX1_meeting_31 : decode cX1_meeting 31 = .ok (.iload_n 2, 1) := by decide +kernel
theorem dX1_meeting_32 : decode cX1_meeting 32 = .ok (.ireturn, 1) := by decide +kernel
end
section
set_option maxRecDepth 100000
theorem dL_law_0 : decode cL_law 0 = .ok (.new 7, 3) := by decide +kernel
theorem dL_law_3 : decode cL_law 3 = .ok (.dup, 1) := by decide +kernel
theorem dL_law_4 : decode cL_law 4 = .ok (.invokespecial 9, 3) := by decide +kernel
theorem dL_law_7 : decode cL_law 7 = .ok (.astore_n 1, 1) := by decide +kernel
theorem dL_law_8 : decode cL_law 8 = .ok (.new 10, 3) := by decide +kernel
theorem dL_law_11 : decode cL_law 11 = .ok (.dup, 1) := by decide +kernel
theorem dL_law_12 : decode cL_law 12 = .ok (.invokespecial 12, 3) := by decide +kernel
theorem dL_law_15 : decode cL_law 15 = .ok (.astore_n 2, 1) := by decide +kernel
theorem dL_law_16 : decode cL_law 16 = .ok (.iconst 0, 1) := by decide +kernel
theorem dL_law_17 : decode cL_law 17 = .ok (.istore_n 3, 1) := by decide +kernel
theorem dL_law_18 : decode cL_law 18 = .ok (.iload_n 3, 1) := by decide +kernel
theorem dL_law_19 : decode cL_law 19 = .ok (.aload_n 0, 1) := by decide +kernel
theorem dL_law_20 : decode cL_law 20 = .ok (.arraylength, 1) := by decide +kernel
theorem dL_law_21 : decode cL_law 21 = .ok (.iconst 4, 1) := by decide +kernel
theorem dL_law_22 : decode cL_law 22 = .ok (.isub, 1) := by decide +kernel
theorem dL_law_23 : decode cL_law 23 = .ok (.if_icmp .gt 354, 3) := by decide +kernel
theorem dL_law_26 : decode cL_law 26 = .ok (.aload_n 0, 1) := by decide +kernel
theorem dL_law_27 : decode cL_law 27 = .ok (.iload_n 3, 1) := by decide +kernel
theorem dL_law_28 : decode cL_law 28 = .ok (.iaload, 1) := by decide +kernel
theorem dL_law_29 : decode cL_law 29 = .ok (.bipush 15, 2) := by decide +kernel
theorem dL_law_31 : decode cL_law 31 = .ok (.iand, 1) := by decide +kernel
theorem dL_law_32 : decode cL_law 32 = .ok (.tableswitch 339 0 10 #[60, 83, 126, 175, 188, 201, 234, 257, 280, 303, 326], 60) := by decide +kernel
theorem dL_law_92 : decode cL_law 92 = .ok (.aload_n 1, 1) := by decide +kernel
theorem dL_law_93 : decode cL_law 93 = .ok (.aload_n 0, 1) := by decide +kernel
theorem dL_law_94 : decode cL_law 94 = .ok (.iload_n 3, 1) := by decide +kernel
theorem dL_law_95 : decode cL_law 95 = .ok (.iconst 1, 1) := by decide +kernel
theorem dL_law_96 : decode cL_law 96 = .ok (.iadd, 1) := by decide +kernel
theorem dL_law_97 : decode cL_law 97 = .ok (.iaload, 1) := by decide +kernel
theorem dL_law_98 : decode cL_law 98 = .ok (.invokevirtual 13, 3) := by decide +kernel
theorem dL_law_101 : decode cL_law 101 = .ok (.aload_n 2, 1) := by decide +kernel
theorem dL_law_102 : decode cL_law 102 = .ok (.aload_n 0, 1) := by decide +kernel
theorem dL_law_103 : decode cL_law 103 = .ok (.iload_n 3, 1) := by decide +kernel
theorem dL_law_104 : decode cL_law 104 = .ok (.iconst 1, 1) := by decide +kernel
theorem dL_law_105 : decode cL_law 105 = .ok (.iadd, 1) := by decide +kernel
theorem dL_law_106 : decode cL_law 106 = .ok (.iaload, 1) := by decide +kernel
theorem dL_law_107 : decode cL_law 107 = .ok (.invokevirtual 17, 3) := by decide +kernel
theorem dL_law_110 : decode cL_law 110 = .ok (.if_icmp .eq 261, 3) := by decide +kernel
theorem dL_law_113 : decode cL_law 113 = .ok (.iconst 0, 1) := by decide +kernel
theorem dL_law_114 : decode cL_law 114 = .ok (.ireturn, 1) := by decide +kernel
theorem dL_law_115 : decode cL_law 115 = .ok (.aload_n 1, 1) := by decide +kernel
theorem dL_law_116 : decode cL_law 116 = .ok (.aload_n 0, 1) := by decide +kernel
theorem dL_law_117 : decode cL_law 117 = .ok (.iload_n 3, 1) := by decide +kernel
theorem dL_law_118 : decode cL_law 118 = .ok (.iconst 1, 1) := by decide +kernel
theorem dL_law_119 : decode cL_law 119 = .ok (.iadd, 1) := by decide +kernel
theorem dL_law_120 : decode cL_law 120 = .ok (.iaload, 1) := by decide +kernel
theorem dL_law_121 : decode cL_law 121 = .ok (.aload_n 0, 1) := by decide +kernel
theorem dL_law_122 : decode cL_law 122 = .ok (.iload_n 3, 1) := by decide +kernel
theorem dL_law_123 : decode cL_law 123 = .ok (.iconst 2, 1) := by decide +kernel
theorem dL_law_124 : decode cL_law 124 = .ok (.iadd, 1) := by decide +kernel
theorem dL_law_125 : decode cL_law 125 = .ok (.iaload, 1) := by decide +kernel
theorem dL_law_126 : decode cL_law 126 = .ok (.aload_n 0, 1) := by decide +kernel
theorem dL_law_127 : decode cL_law 127 = .ok (.iload_n 3, 1) := by decide +kernel
theorem dL_law_128 : decode cL_law 128 = .ok (.iconst 3, 1) := by decide +kernel
theorem dL_law_129 : decode cL_law 129 = .ok (.iadd, 1) := by decide +kernel
theorem dL_law_130 : decode cL_law 130 = .ok (.iaload, 1) := by decide +kernel
theorem dL_law_131 : decode cL_law 131 = .ok (.invokevirtual 18, 3) := by decide +kernel
theorem dL_law_134 : decode cL_law 134 = .ok (.aload_n 2, 1) := by decide +kernel
theorem dL_law_135 : decode cL_law 135 = .ok (.aload_n 0, 1) := by decide +kernel
theorem dL_law_136 : decode cL_law 136 = .ok (.iload_n 3, 1) := by decide +kernel
theorem dL_law_137 : decode cL_law 137 = .ok (.iconst 1, 1) := by decide +kernel
theorem dL_law_138 : decode cL_law 138 = .ok (.iadd, 1) := by decide +kernel
theorem dL_law_139 : decode cL_law 139 = .ok (.iaload, 1) := by decide +kernel
theorem dL_law_140 : decode cL_law 140 = .ok (.aload_n 0, 1) := by decide +kernel
theorem dL_law_141 : decode cL_law 141 = .ok (.iload_n 3, 1) := by decide +kernel
theorem dL_law_142 : decode cL_law 142 = .ok (.iconst 2, 1) := by decide +kernel
theorem dL_law_143 : decode cL_law 143 = .ok (.iadd, 1) := by decide +kernel
theorem dL_law_144 : decode cL_law 144 = .ok (.iaload, 1) := by decide +kernel
theorem dL_law_145 : decode cL_law 145 = .ok (.aload_n 0, 1) := by decide +kernel
theorem dL_law_146 : decode cL_law 146 = .ok (.iload_n 3, 1) := by decide +kernel
theorem dL_law_147 : decode cL_law 147 = .ok (.iconst 3, 1) := by decide +kernel
theorem dL_law_148 : decode cL_law 148 = .ok (.iadd, 1) := by decide +kernel
theorem dL_law_149 : decode cL_law 149 = .ok (.iaload, 1) := by decide +kernel
theorem dL_law_150 : decode cL_law 150 = .ok (.invokevirtual 22, 3) := by decide +kernel
theorem dL_law_153 : decode cL_law 153 = .ok (.if_icmp .eq 218, 3) := by decide +kernel
theorem dL_law_156 : decode cL_law 156 = .ok (.iconst 0, 1) := by decide +kernel
theorem dL_law_157 : decode cL_law 157 = .ok (.ireturn, 1) := by decide +kernel
theorem dL_law_158 : decode cL_law 158 = .ok (.aload_n 1, 1) := by decide +kernel
theorem dL_law_159 : decode cL_law 159 = .ok (.aload_n 0, 1) := by decide +kernel
theorem dL_law_160 : decode cL_law 160 = .ok (.iload_n 3, 1) := by decide +kernel
theorem dL_law_161 : decode cL_law 161 = .ok (.iconst 1, 1) := by decide +kernel
theorem dL_law_162 : decode cL_law 162 = .ok (.iadd, 1) := by decide +kernel
theorem dL_law_163 : decode cL_law 163 = .ok (.iaload, 1) := by decide +kernel
theorem dL_law_164 : decode cL_law 164 = .ok (.aload_n 0, 1) := by decide +kernel
theorem dL_law_165 : decode cL_law 165 = .ok (.iload_n 3, 1) := by decide +kernel
theorem dL_law_166 : decode cL_law 166 = .ok (.iconst 2, 1) := by decide +kernel
theorem dL_law_167 : decode cL_law 167 = .ok (.iadd, 1) := by decide +kernel
theorem dL_law_168 : decode cL_law 168 = .ok (.iaload, 1) := by decide +kernel
theorem dL_law_169 : decode cL_law 169 = .ok (.ifCond .eq 7, 3) := by decide +kernel
theorem dL_law_172 : decode cL_law 172 = .ok (.iconst 1, 1) := by decide +kernel
theorem dL_law_173 : decode cL_law 173 = .ok (.goto 4, 3) := by decide +kernel
theorem dL_law_176 : decode cL_law 176 = .ok (.iconst 0, 1) := by decide +kernel
theorem dL_law_177 : decode cL_law 177 = .ok (.invokevirtual 23, 3) := by decide +kernel
theorem dL_law_180 : decode cL_law 180 = .ok (.aload_n 2, 1) := by decide +kernel
theorem dL_law_181 : decode cL_law 181 = .ok (.aload_n 0, 1) := by decide +kernel
theorem dL_law_182 : decode cL_law 182 = .ok (.iload_n 3, 1) := by decide +kernel
theorem dL_law_183 : decode cL_law 183 = .ok (.iconst 1, 1) := by decide +kernel
theorem dL_law_184 : decode cL_law 184 = .ok (.iadd, 1) := by decide +kernel
theorem dL_law_185 : decode cL_law 185 = .ok (.iaload, 1) := by decide +kernel
theorem dL_law_186 : decode cL_law 186 = .ok (.aload_n 0, 1) := by decide +kernel
theorem dL_law_187 : decode cL_law 187 = .ok (.iload_n 3, 1) := by decide +kernel
theorem dL_law_188 : decode cL_law 188 = .ok (.iconst 2, 1) := by decide +kernel
theorem dL_law_189 : decode cL_law 189 = .ok (.iadd, 1) := by decide +kernel
theorem dL_law_190 : decode cL_law 190 = .ok (.iaload, 1) := by decide +kernel
theorem dL_law_191 : decode cL_law 191 = .ok (.ifCond .eq 7, 3) := by decide +kernel
theorem dL_law_194 : decode cL_law 194 = .ok (.iconst 1, 1) := by decide +kernel
theorem dL_law_195 : decode cL_law 195 = .ok (.goto 4, 3) := by decide +kernel
theorem dL_law_198 : decode cL_law 198 = .ok (.iconst 0, 1) := by decide +kernel
theorem dL_law_199 : decode cL_law 199 = .ok (.invokevirtual 27, 3) := by decide +kernel
theorem dL_law_202 : decode cL_law 202 = .ok (.if_icmp .eq 169, 3) := by decide +kernel
theorem dL_law_205 : decode cL_law 205 = .ok (.iconst 0, 1) := by decide +kernel
theorem dL_law_206 : decode cL_law 206 = .ok (.ireturn, 1) := by decide +kernel
theorem dL_law_207 : decode cL_law 207 = .ok (.aload_n 1, 1) := by decide +kernel
theorem dL_law_208 : decode cL_law 208 = .ok (.invokevirtual 28, 3) := by decide +kernel
theorem dL_law_211 : decode cL_law 211 = .ok (.aload_n 2, 1) := by decide +kernel
theorem dL_law_212 : decode cL_law 212 = .ok (.invokevirtual 32, 3) := by decide +kernel
theorem dL_law_215 : decode cL_law 215 = .ok (.if_icmp .eq 156, 3) := by decide +kernel
theorem dL_law_218 : decode cL_law 218 = .ok (.iconst 0, 1) := by decide +kernel
theorem dL_law_219 : decode cL_law 219 = .ok (.ireturn, 1) := by decide +kernel
theorem dL_law_220 : decode cL_law 220 = .ok (.aload_n 1, 1) := by decide +kernel
theorem dL_law_221 : decode cL_law 221 = .ok (.invokevirtual 33, 3) := by decide +kernel
theorem dL_law_224 : decode cL_law 224 = .ok (.aload_n 2, 1) := by decide +kernel
theorem dL_law_225 : decode cL_law 225 = .ok (.invokevirtual 36, 3) := by decide +kernel
theorem dL_law_228 : decode cL_law 228 = .ok (.if_icmp .eq 143, 3) := by decide +kernel
theorem dL_law_231 : decode cL_law 231 = .ok (.iconst 0, 1) := by decide +kernel
theorem dL_law_232 : decode cL_law 232 = .ok (.ireturn, 1) := by decide +kernel
theorem dL_law_233 : decode cL_law 233 = .ok (.aload_n 1, 1) := by decide +kernel
theorem dL_law_234 : decode cL_law 234 = .ok (.aload_n 0, 1) := by decide +kernel
theorem dL_law_235 : decode cL_law 235 = .ok (.iload_n 3, 1) := by decide +kernel
theorem dL_law_236 : decode cL_law 236 = .ok (.iconst 1, 1) := by decide +kernel
theorem dL_law_237 : decode cL_law 237 = .ok (.iadd, 1) := by decide +kernel
theorem dL_law_238 : decode cL_law 238 = .ok (.iaload, 1) := by decide +kernel
theorem dL_law_239 : decode cL_law 239 = .ok (.aload_n 0, 1) := by decide +kernel
theorem dL_law_240 : decode cL_law 240 = .ok (.iload_n 3, 1) := by decide +kernel
theorem dL_law_241 : decode cL_law 241 = .ok (.iconst 2, 1) := by decide +kernel
theorem dL_law_242 : decode cL_law 242 = .ok (.iadd, 1) := by decide +kernel
theorem dL_law_243 : decode cL_law 243 = .ok (.iaload, 1) := by decide +kernel
theorem dL_law_244 : decode cL_law 244 = .ok (.invokevirtual 37, 3) := by decide +kernel
theorem dL_law_247 : decode cL_law 247 = .ok (.aload_n 2, 1) := by decide +kernel
theorem dL_law_248 : decode cL_law 248 = .ok (.aload_n 0, 1) := by decide +kernel
theorem dL_law_249 : decode cL_law 249 = .ok (.iload_n 3, 1) := by decide +kernel
theorem dL_law_250 : decode cL_law 250 = .ok (.iconst 1, 1) := by decide +kernel
theorem dL_law_251 : decode cL_law 251 = .ok (.iadd, 1) := by decide +kernel
theorem dL_law_252 : decode cL_law 252 = .ok (.iaload, 1) := by decide +kernel
theorem dL_law_253 : decode cL_law 253 = .ok (.aload_n 0, 1) := by decide +kernel
theorem dL_law_254 : decode cL_law 254 = .ok (.iload_n 3, 1) := by decide +kernel
theorem dL_law_255 : decode cL_law 255 = .ok (.iconst 2, 1) := by decide +kernel
theorem dL_law_256 : decode cL_law 256 = .ok (.iadd, 1) := by decide +kernel
theorem dL_law_257 : decode cL_law 257 = .ok (.iaload, 1) := by decide +kernel
theorem dL_law_258 : decode cL_law 258 = .ok (.invokevirtual 41, 3) := by decide +kernel
theorem dL_law_261 : decode cL_law 261 = .ok (.if_icmp .eq 110, 3) := by decide +kernel
theorem dL_law_264 : decode cL_law 264 = .ok (.iconst 0, 1) := by decide +kernel
theorem dL_law_265 : decode cL_law 265 = .ok (.ireturn, 1) := by decide +kernel
theorem dL_law_266 : decode cL_law 266 = .ok (.aload_n 1, 1) := by decide +kernel
theorem dL_law_267 : decode cL_law 267 = .ok (.aload_n 0, 1) := by decide +kernel
theorem dL_law_268 : decode cL_law 268 = .ok (.iload_n 3, 1) := by decide +kernel
theorem dL_law_269 : decode cL_law 269 = .ok (.iconst 1, 1) := by decide +kernel
theorem dL_law_270 : decode cL_law 270 = .ok (.iadd, 1) := by decide +kernel
theorem dL_law_271 : decode cL_law 271 = .ok (.iaload, 1) := by decide +kernel
theorem dL_law_272 : decode cL_law 272 = .ok (.invokevirtual 42, 3) := by decide +kernel
theorem dL_law_275 : decode cL_law 275 = .ok (.aload_n 2, 1) := by decide +kernel
theorem dL_law_276 : decode cL_law 276 = .ok (.aload_n 0, 1) := by decide +kernel
theorem dL_law_277 : decode cL_law 277 = .ok (.iload_n 3, 1) := by decide +kernel
theorem dL_law_278 : decode cL_law 278 = .ok (.iconst 1, 1) := by decide +kernel
theorem dL_law_279 : decode cL_law 279 = .ok (.iadd, 1) := by decide +kernel
theorem dL_law_280 : decode cL_law 280 = .ok (.iaload, 1) := by decide +kernel
theorem dL_law_281 : decode cL_law 281 = .ok (.invokevirtual 45, 3) := by decide +kernel
theorem dL_law_284 : decode cL_law 284 = .ok (.if_icmp .eq 87, 3) := by decide +kernel
theorem dL_law_287 : decode cL_law 287 = .ok (.iconst 0, 1) := by decide +kernel
theorem dL_law_288 : decode cL_law 288 = .ok (.ireturn, 1) := by decide +kernel
theorem dL_law_289 : decode cL_law 289 = .ok (.aload_n 1, 1) := by decide +kernel
theorem dL_law_290 : decode cL_law 290 = .ok (.aload_n 0, 1) := by decide +kernel
theorem dL_law_291 : decode cL_law 291 = .ok (.iload_n 3, 1) := by decide +kernel
theorem dL_law_292 : decode cL_law 292 = .ok (.iconst 1, 1) := by decide +kernel
theorem dL_law_293 : decode cL_law 293 = .ok (.iadd, 1) := by decide +kernel
theorem dL_law_294 : decode cL_law 294 = .ok (.iaload, 1) := by decide +kernel
theorem dL_law_295 : decode cL_law 295 = .ok (.invokevirtual 46, 3) := by decide +kernel
theorem dL_law_298 : decode cL_law 298 = .ok (.aload_n 2, 1) := by decide +kernel
theorem dL_law_299 : decode cL_law 299 = .ok (.aload_n 0, 1) := by decide +kernel
theorem dL_law_300 : decode cL_law 300 = .ok (.iload_n 3, 1) := by decide +kernel
theorem dL_law_301 : decode cL_law 301 = .ok (.iconst 1, 1) := by decide +kernel
theorem dL_law_302 : decode cL_law 302 = .ok (.iadd, 1) := by decide +kernel
theorem dL_law_303 : decode cL_law 303 = .ok (.iaload, 1) := by decide +kernel
theorem dL_law_304 : decode cL_law 304 = .ok (.invokevirtual 50, 3) := by decide +kernel
theorem dL_law_307 : decode cL_law 307 = .ok (.if_icmp .eq 64, 3) := by decide +kernel
theorem dL_law_310 : decode cL_law 310 = .ok (.iconst 0, 1) := by decide +kernel
theorem dL_law_311 : decode cL_law 311 = .ok (.ireturn, 1) := by decide +kernel
theorem dL_law_312 : decode cL_law 312 = .ok (.aload_n 1, 1) := by decide +kernel
theorem dL_law_313 : decode cL_law 313 = .ok (.aload_n 0, 1) := by decide +kernel
theorem dL_law_314 : decode cL_law 314 = .ok (.iload_n 3, 1) := by decide +kernel
theorem dL_law_315 : decode cL_law 315 = .ok (.iconst 1, 1) := by decide +kernel
theorem dL_law_316 : decode cL_law 316 = .ok (.iadd, 1) := by decide +kernel
theorem dL_law_317 : decode cL_law 317 = .ok (.iaload, 1) := by decide +kernel
theorem dL_law_318 : decode cL_law 318 = .ok (.invokevirtual 51, 3) := by decide +kernel
theorem dL_law_321 : decode cL_law 321 = .ok (.aload_n 2, 1) := by decide +kernel
theorem dL_law_322 : decode cL_law 322 = .ok (.aload_n 0, 1) := by decide +kernel
theorem dL_law_323 : decode cL_law 323 = .ok (.iload_n 3, 1) := by decide +kernel
theorem dL_law_324 : decode cL_law 324 = .ok (.iconst 1, 1) := by decide +kernel
theorem dL_law_325 : decode cL_law 325 = .ok (.iadd, 1) := by decide +kernel
theorem dL_law_326 : decode cL_law 326 = .ok (.iaload, 1) := by decide +kernel
theorem dL_law_327 : decode cL_law 327 = .ok (.invokevirtual 54, 3) := by decide +kernel
theorem dL_law_330 : decode cL_law 330 = .ok (.if_icmp .eq 41, 3) := by decide +kernel
theorem dL_law_333 : decode cL_law 333 = .ok (.iconst 0, 1) := by decide +kernel
theorem dL_law_334 : decode cL_law 334 = .ok (.ireturn, 1) := by decide +kernel
theorem dL_law_335 : decode cL_law 335 = .ok (.aload_n 1, 1) := by decide +kernel
theorem dL_law_336 : decode cL_law 336 = .ok (.aload_n 0, 1) := by decide +kernel
theorem dL_law_337 : decode cL_law 337 = .ok (.iload_n 3, 1) := by decide +kernel
theorem dL_law_338 : decode cL_law 338 = .ok (.iconst 1, 1) := by decide +kernel
theorem dL_law_339 : decode cL_law 339 = .ok (.iadd, 1) := by decide +kernel
theorem dL_law_340 : decode cL_law 340 = .ok (.iaload, 1) := by decide +kernel
theorem dL_law_341 : decode cL_law 341 = .ok (.invokevirtual 55, 3) := by decide +kernel
theorem dL_law_344 : decode cL_law 344 = .ok (.aload_n 2, 1) := by decide +kernel
theorem dL_law_345 : decode cL_law 345 = .ok (.aload_n 0, 1) := by decide +kernel
theorem dL_law_346 : decode cL_law 346 = .ok (.iload_n 3, 1) := by decide +kernel
theorem dL_law_347 : decode cL_law 347 = .ok (.iconst 1, 1) := by decide +kernel
theorem dL_law_348 : decode cL_law 348 = .ok (.iadd, 1) := by decide +kernel
theorem dL_law_349 : decode cL_law 349 = .ok (.iaload, 1) := by decide +kernel
theorem dL_law_350 : decode cL_law 350 = .ok (.invokevirtual 58, 3) := by decide +kernel
theorem dL_law_353 : decode cL_law 353 = .ok (.if_icmp .eq 18, 3) := by decide +kernel
theorem dL_law_356 : decode cL_law 356 = .ok (.iconst 0, 1) := by decide +kernel
theorem dL_law_357 : decode cL_law 357 = .ok (.ireturn, 1) := by decide +kernel
theorem dL_law_358 : decode cL_law 358 = .ok (.aload_n 1, 1) := by decide +kernel
theorem dL_law_359 : decode cL_law 359 = .ok (.invokevirtual 59, 3) := by decide +kernel
theorem dL_law_362 : decode cL_law 362 = .ok (.aload_n 2, 1) := by decide +kernel
theorem dL_law_363 : decode cL_law 363 = .ok (.invokevirtual 62, 3) := by decide +kernel
theorem dL_law_366 : decode cL_law 366 = .ok (.if_icmp .eq 5, 3) := by decide +kernel
theorem dL_law_369 : decode cL_law 369 = .ok (.iconst 0, 1) := by decide +kernel
theorem dL_law_370 : decode cL_law 370 = .ok (.ireturn, 1) := by decide +kernel
theorem dL_law_371 : decode cL_law 371 = .ok (.iinc 3 4, 3) := by decide +kernel
theorem dL_law_374 : decode cL_law 374 = .ok (.goto (-356), 3) := by decide +kernel
theorem dL_law_377 : decode cL_law 377 = .ok (.iconst 1, 1) := by decide +kernel
theorem dL_law_378 : decode cL_law 378 = .ok (.ireturn, 1) := by decide +kernel
end
section
set_option maxRecDepth 100000
/-! ===== the pictures: numbers mod 7, booleans, counts ===== -/
def bI (b : Bool) : Int32 := if b = true then 1 else 0
def fI (N : Nat → Fin 7) : Nat → Int32 := fun j => nI (N j).val
def fB (O : Nat → Bool) : Nat → Int32 := fun j => bI (O j)
def fN (B : Nat → Nat) : Nat → Int32 := fun j => nI (B j)
abbrev vwCl : List vw_C := [(RX0, TX0, 7), (RX1, TX1, 6)]
abbrev gT (g : Nat → Nat) : List (ClassId × FieldType) := [(g 6, .int), (g 7, .boolean)]
theorem upd_fI {K : Nat → Fin 7} {i : Nat} {v : Fin 7} (j : Nat) : upd (fI K) i (nI v.val) j = fI (va_up K i v) j := by
  unfold upd fI va_up
  split <;> rfl
theorem upd_fB {K : Nat → Bool} {i : Nat} {v : Bool} (j : Nat) : upd (fB K) i (bI v) j = fB (va_up K i v) j := by
  unfold upd fB va_up
  split <;> rfl
theorem upd_fN {K : Nat → Nat} {i : Nat} {v : Nat} (j : Nat) : upd (fN K) i (nI v) j = fN (va_up K i v) j := by
  unfold upd fN va_up
  split <;> rfl
theorem nar_bI (b : Bool) : vp_nar .boolean (bI b) = bI b := by cases b <;> rfl
theorem narrow_bI (b : Bool) : narrow .boolean (.int (bI b)) = .int (bI b) := by cases b <;> rfl
theorem fits_bI (b : Bool) : fits .boolean (.int (bI b)) = true := by cases b <;> rfl
theorem cell_congr {cA : ClassId} {n : Nat} {f f' : Nat → Int32} (h : ∀ j, j < n → f j = f' j) : vp_cell cA (n, .inl f) = vp_cell cA (n, .inl f') := by
  have e : (fun j : Fin n => Value.int (f j.val)) = (fun j : Fin n => Value.int (f' j.val)) := funext fun j => by rw [h j.val j.isLt]
  show arrV cA n (fun j => .int (f j)) = arrV cA n (fun j => .int (f' j))
  unfold arrV
  rw [e]
theorem vP_arr {D : va_G} {cl : List vw_C} {ws : va_W} {H : Heap} {a cA n : Nat} {f f' : Nat → Int32} (p : Nat) (h : va_P D cl ws H) (hp : ws[p]? = some (a, .inl (cA, n, .inl f))) (he : ∀ j, j < n → f j = f' j) : va_P D cl (ws.set p (a, .inl (cA, n, .inl f'))) H := by
  have hl := (List.getElem?_eq_some_iff.mp hp).1
  intro k q hk
  by_cases hkp : k = p
  · subst hkp
    rw [List.getElem?_set_self hl] at hk
    cases hk
    have h1 := h k _ hp
    show H[a]? = some (vp_cell cA (n, .inl f'))
    rw [← cell_congr he]
    exact h1
  · rw [List.getElem?_set_ne (Ne.symm hkp)] at hk
    exact h k q hk
theorem vD_map {A : Nat → Prop} {ws ws' : va_W} (he : ws.map Prod.fst = ws'.map Prod.fst) (h : va_D A ws) : va_D A ws' := by
  have key : ∀ (k : Nat) (q : Nat × va_E), ws'[k]? = some q → ∃ q0, ws[k]? = some q0 ∧ q0.1 = q.1 := by
    intro k q hk
    have h1 : (ws'.map Prod.fst)[k]? = some q.1 := by rw [List.getElem?_map, hk]; rfl
    rw [← he, List.getElem?_map] at h1
    cases hq : ws[k]? with
    | none => rw [hq] at h1; cases h1
    | some q0 => rw [hq] at h1; exact ⟨q0, rfl, Option.some.inj h1⟩
  refine ⟨fun i j x y hi hj hxy => ?_, fun k q hk => ?_⟩
  · obtain ⟨x0, h1, h2⟩ := key i x hi
    obtain ⟨y0, h3, h4⟩ := key j y hj
    exact h.1 i j x0 y0 h1 h3 (h2.trans (hxy.trans h4.symm))
  · obtain ⟨q0, h1, h2⟩ := key k q hk
    rw [← h2]
    exact h.2 k q0 h1
/-! ===== the two worlds ===== -/
def xW (g : Nat → Nat) (n : Nat) (N : Nat → Fin 7) (O D : Nat → Bool) (R : Nat → Fin 7) (k : Bool) (K : Nat → Fin 7) : va_W :=
  [(g 0, .inr (0, [.int (nI n), .ref (g 1), .ref (g 2), .ref (g 3), .ref (g 4), .int (bI k), .ref (g 5)])), (g 1, .inl (g 6, 30, .inl (fI N))), (g 2, .inl (g 7, 6, .inl (fB O))), (g 3, .inl (g 7, 4, .inl (fB D))), (g 4, .inl (g 6, 20, .inl (fI R))), (g 5, .inl (g 6, 5, .inl (fI K)))]
def xA (g : Nat → Nat) : Nat → Prop := fun q => q = g 0 ∨ q = g 1 ∨ q = g 2 ∨ q = g 3 ∨ q = g 4 ∨ q = g 5
def xD (g : Nat → Nat) : Prop := va_D (xA g) (xW g 0 (fun _ => 0) (fun _ => false) (fun _ => false) (fun _ => 0) false (fun _ => 0))
def XI (E : va_G) (g : Nat → Nat) (n : Nat) (N : Nat → Fin 7) (O D : Nat → Bool) (R : Nat → Fin 7) (k : Bool) (K : Nat → Fin 7) (U : State) : Prop := va_P E vwCl (xW g n N O D R k K) U.heap ∧ va_K E vwCl (gT g) U ∧ xD g
def XH (E : va_G) (g : Nat → Nat) (H0 : Heap) (n : Nat) (N : Nat → Fin 7) (O D : Nat → Bool) (R : Nat → Fin 7) (k : Bool) (K : Nat → Fin 7) (H : Heap) (locs : List Loc) : Prop := va_P E vwCl (xW g n N O D R k K) H ∧ va_S (xA g) H0 H locs
def XC (p : Program) (m : MethodId) (c : Code) (cc : ByteArray) (nL : Nat) (s : State) (args : Array Value) (E : va_G) (g : Nat → Nat) : Prop := CallFix p m c cc nL s args lw_all RX0 ∧ va_K E vwCl (gT g) s ∧ xD g
def mW (g : Nat → Nat) (n : Nat) (N : Nat → Fin 7) (O : Nat → Bool) (k : Bool) (B C : Nat → Nat) : va_W :=
  [(g 0, .inr (1, [.int (nI n), .ref (g 1), .ref (g 2), .int (bI k), .ref (g 3), .ref (g 4)])), (g 1, .inl (g 6, 30, .inl (fI N))), (g 2, .inl (g 7, 6, .inl (fB O))), (g 3, .inl (g 6, 2401, .inl (fN B))), (g 4, .inl (g 6, 64, .inl (fN C)))]
def mA (g : Nat → Nat) : Nat → Prop := fun q => q = g 0 ∨ q = g 1 ∨ q = g 2 ∨ q = g 3 ∨ q = g 4
def mD (g : Nat → Nat) : Prop := va_D (mA g) (mW g 0 (fun _ => 0) (fun _ => false) false (fun _ => 0) (fun _ => 0))
def MI (E : va_G) (g : Nat → Nat) (n : Nat) (N : Nat → Fin 7) (O : Nat → Bool) (k : Bool) (B C : Nat → Nat) (U : State) : Prop := va_P E vwCl (mW g n N O k B C) U.heap ∧ va_K E vwCl (gT g) U ∧ mD g
def MH (E : va_G) (g : Nat → Nat) (H0 : Heap) (n : Nat) (N : Nat → Fin 7) (O : Nat → Bool) (k : Bool) (B C : Nat → Nat) (H : Heap) (locs : List Loc) : Prop := va_P E vwCl (mW g n N O k B C) H ∧ va_S (mA g) H0 H locs
def MC (p : Program) (m : MethodId) (c : Code) (cc : ByteArray) (nL : Nat) (s : State) (args : Array Value) (E : va_G) (g : Nat → Nat) : Prop := CallFix p m c cc nL s args lw_all RX1 ∧ va_K E vwCl (gT g) s ∧ mD g
theorem xD.of {g : Nat → Nat} (h : xD g) (n : Nat) (N : Nat → Fin 7) (O D : Nat → Bool) (R : Nat → Fin 7) (k : Bool) (K : Nat → Fin 7) : va_D (xA g) (xW g n N O D R k K) := vD_map (ws := xW g 0 (fun _ => 0) (fun _ => false) (fun _ => false) (fun _ => 0) false (fun _ => 0)) rfl h
theorem mD.of {g : Nat → Nat} (h : mD g) (n : Nat) (N : Nat → Fin 7) (O : Nat → Bool) (k : Bool) (B C : Nat → Nat) : va_D (mA g) (mW g n N O k B C) := vD_map (ws := mW g 0 (fun _ => 0) (fun _ => false) false (fun _ => 0) (fun _ => 0)) rfl h
/-! ===== ends: a method that only reads; a method that changes its own cells ===== -/
def qR (v : Value) : Array Value → State → Outcome → State → Prop := fun _ st o t => o = .returned (some v) ∧ t.heap = st.heap
def qM (v : Option Value) (P : State → Prop) (A : Nat → Prop) : Array Value → State → Outcome → State → Prop := fun _ st o t => o = .returned v ∧ P t ∧ va_F A st t
/-! ===== loops ===== -/
theorem lp_ls {J : Array Slot → Prop} {I : Nat → Array Slot → Prop} {V : Array Slot → Prop} (b : Nat) (step : ∀ i, i < b → (∀ ls, I (i + 1) ls → V ls) → ∀ ls, I i ls → V ls) (done : ∀ ls, I b ls → V ls) (i : Nat) (hi : i ≤ b) (h0 : ∀ ls, J ls → I i ls) : ∀ ls, J ls → V ls := by
  have key : ∀ d i, i + d = b → ∀ ls, I i ls → V ls := by
    intro d
    induction d with
    | zero => intro i e ls h; obtain rfl : i = b := e; exact done ls h
    | succ d ih => intro i e ls h; exact step i (by omega) (fun ls h => ih (i + 1) (by omega) ls h) ls h
  exact fun ls h => key (b - i) i (by omega) ls (h0 ls h)
theorem lp_H {J : Heap → List Loc → Prop} {J2 : Array Slot → Prop} {I : Nat → Heap → List Loc → Array Slot → Prop} {V : Heap → List Loc → Array Slot → Prop} (b : Nat) (step : ∀ i, i < b → (∀ H L ls, I (i + 1) H L ls → V H L ls) → ∀ H L ls, I i H L ls → V H L ls) (done : ∀ H L ls, I b H L ls → V H L ls) (i : Nat) (hi : i ≤ b) (h0 : ∀ H L ls, J H L → J2 ls → I i H L ls) : ∀ H L, J H L → ∀ ls, J2 ls → V H L ls := by
  have key : ∀ d i, i + d = b → ∀ H L ls, I i H L ls → V H L ls := by
    intro d
    induction d with
    | zero => intro i e H L ls h; obtain rfl : i = b := e; exact done H L ls h
    | succ d ih => intro i e H L ls h; exact step i (by omega) (fun H L ls h => ih (i + 1) (by omega) H L ls h) H L ls h
  exact fun H L h ls h2 => key (b - i) i (by omega) H L ls (h0 H L ls h h2)
/-- a loop that counts down: I (i + 1) stands at the head with i next; I 0 is its end -/
theorem lp_dn {J : Heap → List Loc → Prop} {J2 : Array Slot → Prop} {I : Nat → Heap → List Loc → Array Slot → Prop} {V : Heap → List Loc → Array Slot → Prop} (b : Nat) (step : ∀ i, i < b → (∀ H L ls, I i H L ls → V H L ls) → ∀ H L ls, I (i + 1) H L ls → V H L ls) (done : ∀ H L ls, I 0 H L ls → V H L ls) (h0 : ∀ H L ls, J H L → J2 ls → I b H L ls) : ∀ H L, J H L → ∀ ls, J2 ls → V H L ls := by
  have key : ∀ i, i ≤ b → ∀ H L ls, I i H L ls → V H L ls := by
    intro i
    induction i with
    | zero => exact fun _ => done
    | succ i ih => exact fun hi => step i (by omega) (ih (by omega))
  exact fun H L h ls h2 => key b (Nat.le_refl b) H L ls (h0 H L ls h h2)
/-! ===== a method's entry ===== -/
theorem m_of (l : Launch) {y : MethodName} {cc : ByteArray} {nL : Nat} {ret : Option FieldType} {rm : Room} {Qc : Array Value → State → Outcome → State → Prop} {mc ms : Nat} {free : Addr → Prop} {As : List Value} {B : State → Prop} (hy : plainName y.cls = true) (hn : (lg_sl As).length ≤ nL)
    (body : ∀ (p : Program) (e : Env) (s : State) (m : MethodId) (below : List Frame) (meth : Method) (c : Code) (ls : Array Slot), CallFix p m c cc nL s As.toArray lw_all y.cls → meth.sig.returnType = ret → meth.locks = false → (y.name = "<init>" → meth.name = "<init>") → B s → lv_has ls nL (lv_args 0 As) → W p l e rm s m As.toArray below meth c s.heap [] 0 0 (MQ below Qc As.toArray s mc ms free) (F0 m 0 ls [])) :
    Met l y (ws_ y cc nL ret) rm (va_Pc As B) Qc mc ms free := by
  refine Met.ofW (cc := cc) (maxL := nL) (ret := ret) hy rfl ?_
  intro p e s m args below meth c s₁ X hml hv
  obtain ⟨rfl, hB⟩ := hv
  have hts := atoms_spec (ws := ws_ y cc nL ret) X.pre
  have hts : ∀ w ∈ lw_all, w.before _ s = true := fun w h => hts w (List.mem_cons_of_mem _ h)
  have hown : s.vm.findClass y.cls = some m.cls := findClass_of_methodNamed X.named
  have hl := lv_entry As hn
  rw [lg_entry_eq]
  exact body p e s m below meth c _ ⟨X.exec, X.bytes, hml, hown, hts⟩ X.returns X.notSynchronized (fun h => ((name_of_methodNamed X.named X.method).1).trans h) hB hl
section Rows
variable {p : Program} {l : Launch} {e : Env} {R : Room} {s : State} {m : MethodId} {args : Array Value} {below : List Frame} {meth : Method} {c : Code} {H : Heap} {locs : List Loc} {cells slots : Nat} {Q : State → Prop}
variable {cc : ByteArray} {nL pc : Nat} {ls : Array Slot} {rest st : List Value} {E : va_G} {g : Nat → Nat}
theorem lv_topE {x y : Int32} (h : x = y) (kk : W p l e R s m args below meth c H locs cells slots Q (F0 m pc ls (.int y :: rest))) : W p l e R s m args below meth c H locs cells slots Q (F0 m pc ls (.int x :: rest)) := by
  subst h
  exact kk
/-! branches over counted numbers, residues and booleans -/
theorem n_ge {a b : Nat} (ha2 : a < 2 ^ 31) (hb2 : b < 2 ^ 31) (hx : p.tables.exec = Jvm.exec) (hb : c.code = cc) {off : Int} {tgt : Nat} (hdg : decode cc pc = .ok (.if_icmp .ge off, 3)) (ht : (pc : Int) + off = (tgt : Int))
    (kt : b ≤ a → W p l e R s m args below meth c H locs cells slots Q (F0 m tgt ls rest)) (kf : a < b → W p l e R s m args below meth c H locs cells slots Q (F0 m (pc + 3) ls rest)) : W p l e R s m args below meth c H locs cells slots Q (F0 m pc ls (.int (nI b) :: .int (nI a) :: rest)) :=
  lv_icmp_ge hx hb hdg ht (fun h => kt ((nI_leI hb2 ha2).mp h)) (fun h => kf (by have h2 : ¬ (b ≤ a) := fun z => h ((nI_leI hb2 ha2).mpr z); omega))
theorem n_gt {a b : Nat} (ha2 : a < 2 ^ 31) (hb2 : b < 2 ^ 31) (hx : p.tables.exec = Jvm.exec) (hb : c.code = cc) {off : Int} {tgt : Nat} (hdg : decode cc pc = .ok (.if_icmp .gt off, 3)) (ht : (pc : Int) + off = (tgt : Int))
    (kt : b < a → W p l e R s m args below meth c H locs cells slots Q (F0 m tgt ls rest)) (kf : a ≤ b → W p l e R s m args below meth c H locs cells slots Q (F0 m (pc + 3) ls rest)) : W p l e R s m args below meth c H locs cells slots Q (F0 m pc ls (.int (nI b) :: .int (nI a) :: rest)) :=
  lv_icmp_gt hx hb hdg ht (fun h => kt ((nI_ltI hb2 ha2).mp h)) (fun h => kf (by have h2 : ¬ (b < a) := fun z => h ((nI_ltI hb2 ha2).mpr z); omega))
theorem n_lt {a b : Nat} (ha2 : a < 2 ^ 31) (hb2 : b < 2 ^ 31) (hx : p.tables.exec = Jvm.exec) (hb : c.code = cc) {off : Int} {tgt : Nat} (hdg : decode cc pc = .ok (.if_icmp .lt off, 3)) (ht : (pc : Int) + off = (tgt : Int))
    (kt : a < b → W p l e R s m args below meth c H locs cells slots Q (F0 m tgt ls rest)) (kf : b ≤ a → W p l e R s m args below meth c H locs cells slots Q (F0 m (pc + 3) ls rest)) : W p l e R s m args below meth c H locs cells slots Q (F0 m pc ls (.int (nI b) :: .int (nI a) :: rest)) :=
  lv_icmp_lt hx hb hdg ht (fun h => kt ((nI_ltI ha2 hb2).mp h)) (fun h => kf (by have h2 : ¬ (a < b) := fun z => h ((nI_ltI ha2 hb2).mpr z); omega))
theorem n_le {a b : Nat} (ha2 : a < 2 ^ 31) (hb2 : b < 2 ^ 31) (hx : p.tables.exec = Jvm.exec) (hb : c.code = cc) {off : Int} {tgt : Nat} (hdg : decode cc pc = .ok (.if_icmp .le off, 3)) (ht : (pc : Int) + off = (tgt : Int))
    (kt : a ≤ b → W p l e R s m args below meth c H locs cells slots Q (F0 m tgt ls rest)) (kf : b < a → W p l e R s m args below meth c H locs cells slots Q (F0 m (pc + 3) ls rest)) : W p l e R s m args below meth c H locs cells slots Q (F0 m pc ls (.int (nI b) :: .int (nI a) :: rest)) :=
  lv_icmp_le hx hb hdg ht (fun h => kt ((nI_leI ha2 hb2).mp h)) (fun h => kf (by have h2 : ¬ (a ≤ b) := fun z => h ((nI_leI ha2 hb2).mpr z); omega))
theorem n_eq {a b : Nat} (ha2 : a < 2 ^ 31) (hb2 : b < 2 ^ 31) (hx : p.tables.exec = Jvm.exec) (hb : c.code = cc) {off : Int} {tgt : Nat} (hdg : decode cc pc = .ok (.if_icmp .eq off, 3)) (ht : (pc : Int) + off = (tgt : Int))
    (kt : a = b → W p l e R s m args below meth c H locs cells slots Q (F0 m tgt ls rest)) (kf : a ≠ b → W p l e R s m args below meth c H locs cells slots Q (F0 m (pc + 3) ls rest)) : W p l e R s m args below meth c H locs cells slots Q (F0 m pc ls (.int (nI b) :: .int (nI a) :: rest)) :=
  lv_icmp_eq hx hb hdg ht (fun h => kt ((nI_eq ha2 hb2).mp h)) (fun h => kf (by have h2 : ¬ (a = b) := fun z => h ((nI_eq ha2 hb2).mpr z); omega))
theorem n_ne {a b : Nat} (ha2 : a < 2 ^ 31) (hb2 : b < 2 ^ 31) (hx : p.tables.exec = Jvm.exec) (hb : c.code = cc) {off : Int} {tgt : Nat} (hdg : decode cc pc = .ok (.if_icmp .ne off, 3)) (ht : (pc : Int) + off = (tgt : Int))
    (kt : a ≠ b → W p l e R s m args below meth c H locs cells slots Q (F0 m tgt ls rest)) (kf : a = b → W p l e R s m args below meth c H locs cells slots Q (F0 m (pc + 3) ls rest)) : W p l e R s m args below meth c H locs cells slots Q (F0 m pc ls (.int (nI b) :: .int (nI a) :: rest)) :=
  lv_icmp_ne hx hb hdg ht (fun h => kt (fun z => h ((nI_eq ha2 hb2).mpr z))) (fun h => kf ((nI_eq ha2 hb2).mp h))
theorem z_eq0 (v : Fin 7) : nI v.val = 0 ↔ v = 0 := by
  have h : ∀ v : Fin 7, nI v.val = 0 ↔ v = 0 := by decide +kernel
  exact h v
theorem b_eq0 (b : Bool) : bI b = 0 ↔ b = false := by cases b <;> decide
theorem z_if_eq {v : Fin 7} (hx : p.tables.exec = Jvm.exec) (hb : c.code = cc) {off : Int} {tgt : Nat} (hdg : decode cc pc = .ok (.ifCond .eq off, 3)) (ht : (pc : Int) + off = (tgt : Int))
    (kt : v = 0 → W p l e R s m args below meth c H locs cells slots Q (F0 m tgt ls rest)) (kf : v ≠ 0 → W p l e R s m args below meth c H locs cells slots Q (F0 m (pc + 3) ls rest)) : W p l e R s m args below meth c H locs cells slots Q (F0 m pc ls (.int (nI v.val) :: rest)) :=
  lv_if_eq hx hb hdg ht (fun h => kt ((z_eq0 v).mp h)) (fun h => kf (fun z => h ((z_eq0 v).mpr z)))
theorem z_if_ne {v : Fin 7} (hx : p.tables.exec = Jvm.exec) (hb : c.code = cc) {off : Int} {tgt : Nat} (hdg : decode cc pc = .ok (.ifCond .ne off, 3)) (ht : (pc : Int) + off = (tgt : Int))
    (kt : v ≠ 0 → W p l e R s m args below meth c H locs cells slots Q (F0 m tgt ls rest)) (kf : v = 0 → W p l e R s m args below meth c H locs cells slots Q (F0 m (pc + 3) ls rest)) : W p l e R s m args below meth c H locs cells slots Q (F0 m pc ls (.int (nI v.val) :: rest)) :=
  lv_if_ne hx hb hdg ht (fun h => kt (fun z => h ((z_eq0 v).mpr z))) (fun h => kf ((z_eq0 v).mp h))
theorem b_if_eq {v : Bool} (hx : p.tables.exec = Jvm.exec) (hb : c.code = cc) {off : Int} {tgt : Nat} (hdg : decode cc pc = .ok (.ifCond .eq off, 3)) (ht : (pc : Int) + off = (tgt : Int))
    (kt : v = false → W p l e R s m args below meth c H locs cells slots Q (F0 m tgt ls rest)) (kf : v = true → W p l e R s m args below meth c H locs cells slots Q (F0 m (pc + 3) ls rest)) : W p l e R s m args below meth c H locs cells slots Q (F0 m pc ls (.int (bI v) :: rest)) :=
  lv_if_eq hx hb hdg ht (fun h => kt ((b_eq0 v).mp h)) (fun h => kf (by cases v with | false => exact absurd rfl h | true => rfl))
theorem b_if_ne {v : Bool} (hx : p.tables.exec = Jvm.exec) (hb : c.code = cc) {off : Int} {tgt : Nat} (hdg : decode cc pc = .ok (.ifCond .ne off, 3)) (ht : (pc : Int) + off = (tgt : Int))
    (kt : v = true → W p l e R s m args below meth c H locs cells slots Q (F0 m tgt ls rest)) (kf : v = false → W p l e R s m args below meth c H locs cells slots Q (F0 m (pc + 3) ls rest)) : W p l e R s m args below meth c H locs cells slots Q (F0 m pc ls (.int (bI v) :: rest)) :=
  lv_if_ne hx hb hdg ht (fun h => kt (by cases v with | false => exact absurd rfl h | true => rfl)) (fun h => kf ((b_eq0 v).mp h))
theorem n_if_eq {a : Nat} (ha2 : a < 2 ^ 31) (hx : p.tables.exec = Jvm.exec) (hb : c.code = cc) {off : Int} {tgt : Nat} (hdg : decode cc pc = .ok (.ifCond .eq off, 3)) (ht : (pc : Int) + off = (tgt : Int))
    (kt : a = 0 → W p l e R s m args below meth c H locs cells slots Q (F0 m tgt ls rest)) (kf : a ≠ 0 → W p l e R s m args below meth c H locs cells slots Q (F0 m (pc + 3) ls rest)) : W p l e R s m args below meth c H locs cells slots Q (F0 m pc ls (.int (nI a) :: rest)) :=
  lv_if_eq hx hb hdg ht (fun h => kt ((nI_eq ha2 (by decide : (0 : Nat) < 2 ^ 31)).mp h)) (fun h => kf (fun z => h ((nI_eq ha2 (by decide : (0 : Nat) < 2 ^ 31)).mpr z)))
theorem n_if_ne {a : Nat} (ha2 : a < 2 ^ 31) (hx : p.tables.exec = Jvm.exec) (hb : c.code = cc) {off : Int} {tgt : Nat} (hdg : decode cc pc = .ok (.ifCond .ne off, 3)) (ht : (pc : Int) + off = (tgt : Int))
    (kt : a ≠ 0 → W p l e R s m args below meth c H locs cells slots Q (F0 m tgt ls rest)) (kf : a = 0 → W p l e R s m args below meth c H locs cells slots Q (F0 m (pc + 3) ls rest)) : W p l e R s m args below meth c H locs cells slots Q (F0 m pc ls (.int (nI a) :: rest)) :=
  lv_if_ne hx hb hdg ht (fun h => kt (fun z => h ((nI_eq ha2 (by decide : (0 : Nat) < 2 ^ 31)).mpr z))) (fun h => kf ((nI_eq ha2 (by decide : (0 : Nat) < 2 ^ 31)).mp h))
section XR
variable {n : Nat} {N : Nat → Fin 7} {O D : Nat → Bool} {Rw : Nat → Fin 7} {k : Bool} {K : Nat → Fin 7}
theorem x_get0 (S : XC p m c cc nL s args E g) (hP : va_P E vwCl (xW g n N O D Rw k K) H) (hdg : decode cc pc = .ok (.getfield 26, 3)) (kk : W p l e R s m args below meth c H locs cells slots Q (F0 m (pc + 3) ls (.int (nI n) :: rest))) : W p l e R s m args below meth c H locs cells slots Q (F0 m pc ls (.ref (g 0) :: rest)) :=
  va_get (D := E) (ci := 0) (v := .int (nI n)) (C := RX0) (T := TX0) (N := 7) S.1.1 S.1.2.1 S.1.2.2.2.2 in_X0 S.1.2.2.2.1 S.2.1 hP 0 rfl rfl 0 (by decide) (S.1.2.2.2.2 _ q30) (fun _ h => h) rfl hdg kk
theorem x_get1 (S : XC p m c cc nL s args E g) (hP : va_P E vwCl (xW g n N O D Rw k K) H) (hdg : decode cc pc = .ok (.getfield 7, 3)) (kk : W p l e R s m args below meth c H locs cells slots Q (F0 m (pc + 3) ls (.ref (g 1) :: rest))) : W p l e R s m args below meth c H locs cells slots Q (F0 m pc ls (.ref (g 0) :: rest)) :=
  va_get (D := E) (ci := 0) (v := .ref (g 1)) (C := RX0) (T := TX0) (N := 7) S.1.1 S.1.2.1 S.1.2.2.2.2 in_X0 S.1.2.2.2.1 S.2.1 hP 0 rfl rfl 1 (by decide) (S.1.2.2.2.2 _ q31) (fun _ h => h) rfl hdg kk
theorem x_get2 (S : XC p m c cc nL s args E g) (hP : va_P E vwCl (xW g n N O D Rw k K) H) (hdg : decode cc pc = .ok (.getfield 13, 3)) (kk : W p l e R s m args below meth c H locs cells slots Q (F0 m (pc + 3) ls (.ref (g 2) :: rest))) : W p l e R s m args below meth c H locs cells slots Q (F0 m pc ls (.ref (g 0) :: rest)) :=
  va_get (D := E) (ci := 0) (v := .ref (g 2)) (C := RX0) (T := TX0) (N := 7) S.1.1 S.1.2.1 S.1.2.2.2.2 in_X0 S.1.2.2.2.1 S.2.1 hP 0 rfl rfl 2 (by decide) (S.1.2.2.2.2 _ q32) (fun _ h => h) rfl hdg kk
theorem x_get3 (S : XC p m c cc nL s args E g) (hP : va_P E vwCl (xW g n N O D Rw k K) H) (hdg : decode cc pc = .ok (.getfield 17, 3)) (kk : W p l e R s m args below meth c H locs cells slots Q (F0 m (pc + 3) ls (.ref (g 3) :: rest))) : W p l e R s m args below meth c H locs cells slots Q (F0 m pc ls (.ref (g 0) :: rest)) :=
  va_get (D := E) (ci := 0) (v := .ref (g 3)) (C := RX0) (T := TX0) (N := 7) S.1.1 S.1.2.1 S.1.2.2.2.2 in_X0 S.1.2.2.2.1 S.2.1 hP 0 rfl rfl 3 (by decide) (S.1.2.2.2.2 _ q33) (fun _ h => h) rfl hdg kk
theorem x_get4 (S : XC p m c cc nL s args E g) (hP : va_P E vwCl (xW g n N O D Rw k K) H) (hdg : decode cc pc = .ok (.getfield 20, 3)) (kk : W p l e R s m args below meth c H locs cells slots Q (F0 m (pc + 3) ls (.ref (g 4) :: rest))) : W p l e R s m args below meth c H locs cells slots Q (F0 m pc ls (.ref (g 0) :: rest)) :=
  va_get (D := E) (ci := 0) (v := .ref (g 4)) (C := RX0) (T := TX0) (N := 7) S.1.1 S.1.2.1 S.1.2.2.2.2 in_X0 S.1.2.2.2.1 S.2.1 hP 0 rfl rfl 4 (by decide) (S.1.2.2.2.2 _ q34) (fun _ h => h) rfl hdg kk
theorem x_get5 (S : XC p m c cc nL s args E g) (hP : va_P E vwCl (xW g n N O D Rw k K) H) (hdg : decode cc pc = .ok (.getfield 42, 3)) (kk : W p l e R s m args below meth c H locs cells slots Q (F0 m (pc + 3) ls (.int (bI k) :: rest))) : W p l e R s m args below meth c H locs cells slots Q (F0 m pc ls (.ref (g 0) :: rest)) :=
  va_get (D := E) (ci := 0) (v := .int (bI k)) (C := RX0) (T := TX0) (N := 7) S.1.1 S.1.2.1 S.1.2.2.2.2 in_X0 S.1.2.2.2.1 S.2.1 hP 0 rfl rfl 5 (by decide) (S.1.2.2.2.2 _ q35) (fun _ h => h) rfl hdg kk
theorem x_get6 (S : XC p m c cc nL s args E g) (hP : va_P E vwCl (xW g n N O D Rw k K) H) (hdg : decode cc pc = .ok (.getfield 23, 3)) (kk : W p l e R s m args below meth c H locs cells slots Q (F0 m (pc + 3) ls (.ref (g 5) :: rest))) : W p l e R s m args below meth c H locs cells slots Q (F0 m pc ls (.ref (g 0) :: rest)) :=
  va_get (D := E) (ci := 0) (v := .ref (g 5)) (C := RX0) (T := TX0) (N := 7) S.1.1 S.1.2.1 S.1.2.2.2.2 in_X0 S.1.2.2.2.1 S.2.1 hP 0 rfl rfl 6 (by decide) (S.1.2.2.2.2 _ q36) (fun _ h => h) rfl hdg kk
theorem x_ldN (i : Nat) (hi : i < 30) (S : XC p m c cc nL s args E g) (hP : va_P E vwCl (xW g n N O D Rw k K) H) (hdg : decode cc pc = .ok (.iaload, 1)) (kk : W p l e R s m args below meth c H locs cells slots Q (F0 m (pc + 1) ls (.int (nI (N i).val) :: rest))) : W p l e R s m args below meth c H locs cells slots Q (F0 m pc ls (.int (nI i) :: .ref (g 1) :: rest)) := by
  refine va_iald (f := fI N) S.1.1 S.1.2.1 S.2.1 hP 1 0 rfl rfl (vp_in_nI hi (by omega)) hdg ?_
  rw [nI_clamp (by omega)]
  exact kk
theorem x_stN (i : Nat) (hi : i < 30) (v : Fin 7) (N' : Nat → Fin 7) (he : ∀ j, j < 30 → va_up N i v j = N' j) (S : XC p m c cc nL s args E g) (hX : XH E g s.heap n N O D Rw k K H locs) (hdg : decode cc pc = .ok (.iastore, 1)) (kk : ∀ (H : Heap) (locs : List Loc), XH E g s.heap n N' O D Rw k K H locs → W p l e R s m args below meth c H locs cells slots Q (F0 m (pc + 1) ls rest)) : W p l e R s m args below meth c H locs cells slots Q (F0 m pc ls (.int (nI v.val) :: .int (nI i) :: .ref (g 1) :: rest)) := by
  refine va_iast (f := fI N) S.1.1 S.1.2.1 S.2.1 hX.1 (xD.of S.2.2 _ _ _ _ _ _ _) hX.2 1 0 rfl rfl (vp_in_nI hi (by omega)) hdg (fun H1 locs1 hP hD hS => kk H1 locs1 ⟨?_, hS⟩)
  rw [nI_clamp (by omega)] at hP
  exact vP_arr (f' := fI N') 1 hP rfl (fun j hj => (upd_fI j).trans (by unfold fI; rw [he j hj]))
theorem x_ldO (i : Nat) (hi : i < 6) (S : XC p m c cc nL s args E g) (hP : va_P E vwCl (xW g n N O D Rw k K) H) (hdg : decode cc pc = .ok (.baload, 1)) (kk : W p l e R s m args below meth c H locs cells slots Q (F0 m (pc + 1) ls (.int (bI (O i)) :: rest))) : W p l e R s m args below meth c H locs cells slots Q (F0 m pc ls (.int (nI i) :: .ref (g 2) :: rest)) := by
  refine va_zald (f := fB O) S.1.1 S.1.2.1 S.2.1 hP 2 1 rfl rfl (vp_in_nI hi (by omega)) hdg ?_
  rw [nI_clamp (by omega)]
  exact kk
theorem x_stO (i : Nat) (hi : i < 6) (v : Bool) (O' : Nat → Bool) (he : ∀ j, j < 6 → va_up O i v j = O' j) (S : XC p m c cc nL s args E g) (hX : XH E g s.heap n N O D Rw k K H locs) (hdg : decode cc pc = .ok (.bastore, 1)) (kk : ∀ (H : Heap) (locs : List Loc), XH E g s.heap n N O' D Rw k K H locs → W p l e R s m args below meth c H locs cells slots Q (F0 m (pc + 1) ls rest)) : W p l e R s m args below meth c H locs cells slots Q (F0 m pc ls (.int (bI v) :: .int (nI i) :: .ref (g 2) :: rest)) := by
  refine va_zast (f := fB O) S.1.1 S.1.2.1 S.2.1 hX.1 (xD.of S.2.2 _ _ _ _ _ _ _) hX.2 2 1 rfl rfl (vp_in_nI hi (by omega)) hdg (fun H1 locs1 hP hD hS => kk H1 locs1 ⟨?_, hS⟩)
  rw [nI_clamp (by omega), nar_bI] at hP
  exact vP_arr (f' := fB O') 2 hP rfl (fun j hj => (upd_fB j).trans (by unfold fB; rw [he j hj]))
theorem x_ldD (i : Nat) (hi : i < 4) (S : XC p m c cc nL s args E g) (hP : va_P E vwCl (xW g n N O D Rw k K) H) (hdg : decode cc pc = .ok (.baload, 1)) (kk : W p l e R s m args below meth c H locs cells slots Q (F0 m (pc + 1) ls (.int (bI (D i)) :: rest))) : W p l e R s m args below meth c H locs cells slots Q (F0 m pc ls (.int (nI i) :: .ref (g 3) :: rest)) := by
  refine va_zald (f := fB D) S.1.1 S.1.2.1 S.2.1 hP 3 1 rfl rfl (vp_in_nI hi (by omega)) hdg ?_
  rw [nI_clamp (by omega)]
  exact kk
theorem x_stD (i : Nat) (hi : i < 4) (v : Bool) (D' : Nat → Bool) (he : ∀ j, j < 4 → va_up D i v j = D' j) (S : XC p m c cc nL s args E g) (hX : XH E g s.heap n N O D Rw k K H locs) (hdg : decode cc pc = .ok (.bastore, 1)) (kk : ∀ (H : Heap) (locs : List Loc), XH E g s.heap n N O D' Rw k K H locs → W p l e R s m args below meth c H locs cells slots Q (F0 m (pc + 1) ls rest)) : W p l e R s m args below meth c H locs cells slots Q (F0 m pc ls (.int (bI v) :: .int (nI i) :: .ref (g 3) :: rest)) := by
  refine va_zast (f := fB D) S.1.1 S.1.2.1 S.2.1 hX.1 (xD.of S.2.2 _ _ _ _ _ _ _) hX.2 3 1 rfl rfl (vp_in_nI hi (by omega)) hdg (fun H1 locs1 hP hD hS => kk H1 locs1 ⟨?_, hS⟩)
  rw [nI_clamp (by omega), nar_bI] at hP
  exact vP_arr (f' := fB D') 3 hP rfl (fun j hj => (upd_fB j).trans (by unfold fB; rw [he j hj]))
theorem x_ldRw (i : Nat) (hi : i < 20) (S : XC p m c cc nL s args E g) (hP : va_P E vwCl (xW g n N O D Rw k K) H) (hdg : decode cc pc = .ok (.iaload, 1)) (kk : W p l e R s m args below meth c H locs cells slots Q (F0 m (pc + 1) ls (.int (nI (Rw i).val) :: rest))) : W p l e R s m args below meth c H locs cells slots Q (F0 m pc ls (.int (nI i) :: .ref (g 4) :: rest)) := by
  refine va_iald (f := fI Rw) S.1.1 S.1.2.1 S.2.1 hP 4 0 rfl rfl (vp_in_nI hi (by omega)) hdg ?_
  rw [nI_clamp (by omega)]
  exact kk
theorem x_stRw (i : Nat) (hi : i < 20) (v : Fin 7) (Rw' : Nat → Fin 7) (he : ∀ j, j < 20 → va_up Rw i v j = Rw' j) (S : XC p m c cc nL s args E g) (hX : XH E g s.heap n N O D Rw k K H locs) (hdg : decode cc pc = .ok (.iastore, 1)) (kk : ∀ (H : Heap) (locs : List Loc), XH E g s.heap n N O D Rw' k K H locs → W p l e R s m args below meth c H locs cells slots Q (F0 m (pc + 1) ls rest)) : W p l e R s m args below meth c H locs cells slots Q (F0 m pc ls (.int (nI v.val) :: .int (nI i) :: .ref (g 4) :: rest)) := by
  refine va_iast (f := fI Rw) S.1.1 S.1.2.1 S.2.1 hX.1 (xD.of S.2.2 _ _ _ _ _ _ _) hX.2 4 0 rfl rfl (vp_in_nI hi (by omega)) hdg (fun H1 locs1 hP hD hS => kk H1 locs1 ⟨?_, hS⟩)
  rw [nI_clamp (by omega)] at hP
  exact vP_arr (f' := fI Rw') 4 hP rfl (fun j hj => (upd_fI j).trans (by unfold fI; rw [he j hj]))
theorem x_ldK (i : Nat) (hi : i < 5) (S : XC p m c cc nL s args E g) (hP : va_P E vwCl (xW g n N O D Rw k K) H) (hdg : decode cc pc = .ok (.iaload, 1)) (kk : W p l e R s m args below meth c H locs cells slots Q (F0 m (pc + 1) ls (.int (nI (K i).val) :: rest))) : W p l e R s m args below meth c H locs cells slots Q (F0 m pc ls (.int (nI i) :: .ref (g 5) :: rest)) := by
  refine va_iald (f := fI K) S.1.1 S.1.2.1 S.2.1 hP 5 0 rfl rfl (vp_in_nI hi (by omega)) hdg ?_
  rw [nI_clamp (by omega)]
  exact kk
theorem x_stK (i : Nat) (hi : i < 5) (v : Fin 7) (K' : Nat → Fin 7) (he : ∀ j, j < 5 → va_up K i v j = K' j) (S : XC p m c cc nL s args E g) (hX : XH E g s.heap n N O D Rw k K H locs) (hdg : decode cc pc = .ok (.iastore, 1)) (kk : ∀ (H : Heap) (locs : List Loc), XH E g s.heap n N O D Rw k K' H locs → W p l e R s m args below meth c H locs cells slots Q (F0 m (pc + 1) ls rest)) : W p l e R s m args below meth c H locs cells slots Q (F0 m pc ls (.int (nI v.val) :: .int (nI i) :: .ref (g 5) :: rest)) := by
  refine va_iast (f := fI K) S.1.1 S.1.2.1 S.2.1 hX.1 (xD.of S.2.2 _ _ _ _ _ _ _) hX.2 5 0 rfl rfl (vp_in_nI hi (by omega)) hdg (fun H1 locs1 hP hD hS => kk H1 locs1 ⟨?_, hS⟩)
  rw [nI_clamp (by omega)] at hP
  exact vP_arr (f' := fI K') 5 hP rfl (fun j hj => (upd_fI j).trans (by unfold fI; rw [he j hj]))
end XR
section MR
variable {n : Nat} {N : Nat → Fin 7} {O : Nat → Bool} {k : Bool} {B C : Nat → Nat}
theorem m_get0 (S : MC p m c cc nL s args E g) (hP : va_P E vwCl (mW g n N O k B C) H) (hdg : decode cc pc = .ok (.getfield 24, 3)) (kk : W p l e R s m args below meth c H locs cells slots Q (F0 m (pc + 3) ls (.int (nI n) :: rest))) : W p l e R s m args below meth c H locs cells slots Q (F0 m pc ls (.ref (g 0) :: rest)) :=
  va_get (D := E) (ci := 1) (v := .int (nI n)) (C := RX1) (T := TX1) (N := 6) S.1.1 S.1.2.1 S.1.2.2.2.2 in_X1 S.1.2.2.2.1 S.2.1 hP 0 rfl rfl 0 (by decide) (S.1.2.2.2.2 _ q161) (fun _ h => h) rfl hdg kk
theorem m_get1 (S : MC p m c cc nL s args E g) (hP : va_P E vwCl (mW g n N O k B C) H) (hdg : decode cc pc = .ok (.getfield 7, 3)) (kk : W p l e R s m args below meth c H locs cells slots Q (F0 m (pc + 3) ls (.ref (g 1) :: rest))) : W p l e R s m args below meth c H locs cells slots Q (F0 m pc ls (.ref (g 0) :: rest)) :=
  va_get (D := E) (ci := 1) (v := .ref (g 1)) (C := RX1) (T := TX1) (N := 6) S.1.1 S.1.2.1 S.1.2.2.2.2 in_X1 S.1.2.2.2.1 S.2.1 hP 0 rfl rfl 1 (by decide) (S.1.2.2.2.2 _ q162) (fun _ h => h) rfl hdg kk
theorem m_get2 (S : MC p m c cc nL s args E g) (hP : va_P E vwCl (mW g n N O k B C) H) (hdg : decode cc pc = .ok (.getfield 13, 3)) (kk : W p l e R s m args below meth c H locs cells slots Q (F0 m (pc + 3) ls (.ref (g 2) :: rest))) : W p l e R s m args below meth c H locs cells slots Q (F0 m pc ls (.ref (g 0) :: rest)) :=
  va_get (D := E) (ci := 1) (v := .ref (g 2)) (C := RX1) (T := TX1) (N := 6) S.1.1 S.1.2.1 S.1.2.2.2.2 in_X1 S.1.2.2.2.1 S.2.1 hP 0 rfl rfl 2 (by decide) (S.1.2.2.2.2 _ q163) (fun _ h => h) rfl hdg kk
theorem m_get3 (S : MC p m c cc nL s args E g) (hP : va_P E vwCl (mW g n N O k B C) H) (hdg : decode cc pc = .ok (.getfield 32, 3)) (kk : W p l e R s m args below meth c H locs cells slots Q (F0 m (pc + 3) ls (.int (bI k) :: rest))) : W p l e R s m args below meth c H locs cells slots Q (F0 m pc ls (.ref (g 0) :: rest)) :=
  va_get (D := E) (ci := 1) (v := .int (bI k)) (C := RX1) (T := TX1) (N := 6) S.1.1 S.1.2.1 S.1.2.2.2.2 in_X1 S.1.2.2.2.1 S.2.1 hP 0 rfl rfl 3 (by decide) (S.1.2.2.2.2 _ q164) (fun _ h => h) rfl hdg kk
theorem m_get4 (S : MC p m c cc nL s args E g) (hP : va_P E vwCl (mW g n N O k B C) H) (hdg : decode cc pc = .ok (.getfield 17, 3)) (kk : W p l e R s m args below meth c H locs cells slots Q (F0 m (pc + 3) ls (.ref (g 3) :: rest))) : W p l e R s m args below meth c H locs cells slots Q (F0 m pc ls (.ref (g 0) :: rest)) :=
  va_get (D := E) (ci := 1) (v := .ref (g 3)) (C := RX1) (T := TX1) (N := 6) S.1.1 S.1.2.1 S.1.2.2.2.2 in_X1 S.1.2.2.2.1 S.2.1 hP 0 rfl rfl 4 (by decide) (S.1.2.2.2.2 _ q165) (fun _ h => h) rfl hdg kk
theorem m_get5 (S : MC p m c cc nL s args E g) (hP : va_P E vwCl (mW g n N O k B C) H) (hdg : decode cc pc = .ok (.getfield 20, 3)) (kk : W p l e R s m args below meth c H locs cells slots Q (F0 m (pc + 3) ls (.ref (g 4) :: rest))) : W p l e R s m args below meth c H locs cells slots Q (F0 m pc ls (.ref (g 0) :: rest)) :=
  va_get (D := E) (ci := 1) (v := .ref (g 4)) (C := RX1) (T := TX1) (N := 6) S.1.1 S.1.2.1 S.1.2.2.2.2 in_X1 S.1.2.2.2.1 S.2.1 hP 0 rfl rfl 5 (by decide) (S.1.2.2.2.2 _ q166) (fun _ h => h) rfl hdg kk
theorem m_ldN (i : Nat) (hi : i < 30) (S : MC p m c cc nL s args E g) (hP : va_P E vwCl (mW g n N O k B C) H) (hdg : decode cc pc = .ok (.iaload, 1)) (kk : W p l e R s m args below meth c H locs cells slots Q (F0 m (pc + 1) ls (.int (nI (N i).val) :: rest))) : W p l e R s m args below meth c H locs cells slots Q (F0 m pc ls (.int (nI i) :: .ref (g 1) :: rest)) := by
  refine va_iald (f := fI N) S.1.1 S.1.2.1 S.2.1 hP 1 0 rfl rfl (vp_in_nI hi (by omega)) hdg ?_
  rw [nI_clamp (by omega)]
  exact kk
theorem m_stN (i : Nat) (hi : i < 30) (v : Fin 7) (N' : Nat → Fin 7) (he : ∀ j, j < 30 → va_up N i v j = N' j) (S : MC p m c cc nL s args E g) (hX : MH E g s.heap n N O k B C H locs) (hdg : decode cc pc = .ok (.iastore, 1)) (kk : ∀ (H : Heap) (locs : List Loc), MH E g s.heap n N' O k B C H locs → W p l e R s m args below meth c H locs cells slots Q (F0 m (pc + 1) ls rest)) : W p l e R s m args below meth c H locs cells slots Q (F0 m pc ls (.int (nI v.val) :: .int (nI i) :: .ref (g 1) :: rest)) := by
  refine va_iast (f := fI N) S.1.1 S.1.2.1 S.2.1 hX.1 (mD.of S.2.2 _ _ _ _ _ _) hX.2 1 0 rfl rfl (vp_in_nI hi (by omega)) hdg (fun H1 locs1 hP hD hS => kk H1 locs1 ⟨?_, hS⟩)
  rw [nI_clamp (by omega)] at hP
  exact vP_arr (f' := fI N') 1 hP rfl (fun j hj => (upd_fI j).trans (by unfold fI; rw [he j hj]))
theorem m_ldO (i : Nat) (hi : i < 6) (S : MC p m c cc nL s args E g) (hP : va_P E vwCl (mW g n N O k B C) H) (hdg : decode cc pc = .ok (.baload, 1)) (kk : W p l e R s m args below meth c H locs cells slots Q (F0 m (pc + 1) ls (.int (bI (O i)) :: rest))) : W p l e R s m args below meth c H locs cells slots Q (F0 m pc ls (.int (nI i) :: .ref (g 2) :: rest)) := by
  refine va_zald (f := fB O) S.1.1 S.1.2.1 S.2.1 hP 2 1 rfl rfl (vp_in_nI hi (by omega)) hdg ?_
  rw [nI_clamp (by omega)]
  exact kk
theorem m_stO (i : Nat) (hi : i < 6) (v : Bool) (O' : Nat → Bool) (he : ∀ j, j < 6 → va_up O i v j = O' j) (S : MC p m c cc nL s args E g) (hX : MH E g s.heap n N O k B C H locs) (hdg : decode cc pc = .ok (.bastore, 1)) (kk : ∀ (H : Heap) (locs : List Loc), MH E g s.heap n N O' k B C H locs → W p l e R s m args below meth c H locs cells slots Q (F0 m (pc + 1) ls rest)) : W p l e R s m args below meth c H locs cells slots Q (F0 m pc ls (.int (bI v) :: .int (nI i) :: .ref (g 2) :: rest)) := by
  refine va_zast (f := fB O) S.1.1 S.1.2.1 S.2.1 hX.1 (mD.of S.2.2 _ _ _ _ _ _) hX.2 2 1 rfl rfl (vp_in_nI hi (by omega)) hdg (fun H1 locs1 hP hD hS => kk H1 locs1 ⟨?_, hS⟩)
  rw [nI_clamp (by omega), nar_bI] at hP
  exact vP_arr (f' := fB O') 2 hP rfl (fun j hj => (upd_fB j).trans (by unfold fB; rw [he j hj]))
theorem m_ldB (i : Nat) (hi : i < 2401) (S : MC p m c cc nL s args E g) (hP : va_P E vwCl (mW g n N O k B C) H) (hdg : decode cc pc = .ok (.iaload, 1)) (kk : W p l e R s m args below meth c H locs cells slots Q (F0 m (pc + 1) ls (.int (nI (B i)) :: rest))) : W p l e R s m args below meth c H locs cells slots Q (F0 m pc ls (.int (nI i) :: .ref (g 3) :: rest)) := by
  refine va_iald (f := fN B) S.1.1 S.1.2.1 S.2.1 hP 3 0 rfl rfl (vp_in_nI hi (by omega)) hdg ?_
  rw [nI_clamp (by omega)]
  exact kk
theorem m_stB (i : Nat) (hi : i < 2401) (v : Nat) (B' : Nat → Nat) (he : ∀ j, j < 2401 → va_up B i v j = B' j) (S : MC p m c cc nL s args E g) (hX : MH E g s.heap n N O k B C H locs) (hdg : decode cc pc = .ok (.iastore, 1)) (kk : ∀ (H : Heap) (locs : List Loc), MH E g s.heap n N O k B' C H locs → W p l e R s m args below meth c H locs cells slots Q (F0 m (pc + 1) ls rest)) : W p l e R s m args below meth c H locs cells slots Q (F0 m pc ls (.int (nI v) :: .int (nI i) :: .ref (g 3) :: rest)) := by
  refine va_iast (f := fN B) S.1.1 S.1.2.1 S.2.1 hX.1 (mD.of S.2.2 _ _ _ _ _ _) hX.2 3 0 rfl rfl (vp_in_nI hi (by omega)) hdg (fun H1 locs1 hP hD hS => kk H1 locs1 ⟨?_, hS⟩)
  rw [nI_clamp (by omega)] at hP
  exact vP_arr (f' := fN B') 3 hP rfl (fun j hj => (upd_fN j).trans (by unfold fN; rw [he j hj]))
theorem m_ldC (i : Nat) (hi : i < 64) (S : MC p m c cc nL s args E g) (hP : va_P E vwCl (mW g n N O k B C) H) (hdg : decode cc pc = .ok (.iaload, 1)) (kk : W p l e R s m args below meth c H locs cells slots Q (F0 m (pc + 1) ls (.int (nI (C i)) :: rest))) : W p l e R s m args below meth c H locs cells slots Q (F0 m pc ls (.int (nI i) :: .ref (g 4) :: rest)) := by
  refine va_iald (f := fN C) S.1.1 S.1.2.1 S.2.1 hP 4 0 rfl rfl (vp_in_nI hi (by omega)) hdg ?_
  rw [nI_clamp (by omega)]
  exact kk
theorem m_stC (i : Nat) (hi : i < 64) (v : Nat) (C' : Nat → Nat) (he : ∀ j, j < 64 → va_up C i v j = C' j) (S : MC p m c cc nL s args E g) (hX : MH E g s.heap n N O k B C H locs) (hdg : decode cc pc = .ok (.iastore, 1)) (kk : ∀ (H : Heap) (locs : List Loc), MH E g s.heap n N O k B C' H locs → W p l e R s m args below meth c H locs cells slots Q (F0 m (pc + 1) ls rest)) : W p l e R s m args below meth c H locs cells slots Q (F0 m pc ls (.int (nI v) :: .int (nI i) :: .ref (g 4) :: rest)) := by
  refine va_iast (f := fN C) S.1.1 S.1.2.1 S.2.1 hX.1 (mD.of S.2.2 _ _ _ _ _ _) hX.2 4 0 rfl rfl (vp_in_nI hi (by omega)) hdg (fun H1 locs1 hP hD hS => kk H1 locs1 ⟨?_, hS⟩)
  rw [nI_clamp (by omega)] at hP
  exact vP_arr (f' := fN C') 4 hP rfl (fun j hj => (upd_fN j).trans (by unfold fN; rw [he j hj]))
end MR
end Rows
end
section
set_option maxRecDepth 100000
theorem m_ofH (l : Launch) {y : MethodName} {cc : ByteArray} {nL : Nat} {ret : Option FieldType} {rm : Room} {Qc : Array Value → State → Outcome → State → Prop} {mc ms : Nat} {free : Addr → Prop} {As : List Value} {B : State → Prop} (hy : plainName y.cls = true) (hn : (lg_sl As).length ≤ nL)
    (body : ∀ (p : Program) (e : Env) (s : State) (m : MethodId) (below : List Frame) (meth : Method) (c : Code) (ls : Array Slot) (H : Heap) (locs : List Loc), H = s.heap → (∀ A : Nat → Prop, va_S A s.heap H locs) → CallFix p m c cc nL s As.toArray lw_all y.cls → meth.sig.returnType = ret → meth.locks = false → (y.name = "<init>" → meth.name = "<init>") → B s → lv_has ls nL (lv_args 0 As) → W p l e rm s m As.toArray below meth c H locs 0 0 (MQ below Qc As.toArray s mc ms free) (F0 m 0 ls [])) :
    Met l y (ws_ y cc nL ret) rm (va_Pc As B) Qc mc ms free :=
  m_of l hy hn (fun p e s m below meth c ls S hr hk hi hB hl => body p e s m below meth c ls s.heap [] rfl (fun _ => va_S.rf) S hr hk hi hB hl)
section Rows
variable {p : Program} {l : Launch} {e : Env} {R : Room} {s : State} {m : MethodId} {args : Array Value} {below : List Frame} {meth : Method} {c : Code} {H : Heap} {locs : List Loc} {cells slots : Nat} {Q : State → Prop}
variable {cc : ByteArray} {nL pc : Nat} {ls : Array Slot} {rest st : List Value} {E : va_G} {g : Nat → Nat}
theorem pk_blind {As : List Value} {B : State → Prop} (h : ∀ (U : State) (g : JFrame) (mk : MethodId) (a : Array Value), B U → B (U.calling g mk a)) : FrameBlind (va_Pc As B) := fun a U g mk q => ⟨q.1, h U g mk a q.2⟩
/-- the end of a method that only reads -/
theorem e_retI {r v : Int32} (he : r = v) (hx : p.tables.exec = Jvm.exec) (hb : c.code = cc) (hr : meth.sig.returnType = some .int) (hk : meth.locks = false) (hdg : decode cc pc = .ok (.ireturn, 1)) : W p l e R s m args below meth c s.heap [] 0 0 (MQ below (qR (.int v)) args s 0 0 (fun _ => False)) (F0 m pc ls [.int r]) := by
  subst he
  exact W.iret hx hb hr (fun t ht _ => ⟨rfl, ht⟩) (fun q h => by cases h) hdg
theorem e_retZ {r v : Bool} (he : r = v) (hx : p.tables.exec = Jvm.exec) (hb : c.code = cc) (hr : meth.sig.returnType = some .boolean) (hk : meth.locks = false) (hdg : decode cc pc = .ok (.ireturn, 1)) : W p l e R s m args below meth c s.heap [] 0 0 (MQ below (qR (.int (bI v))) args s 0 0 (fun _ => False)) (F0 m pc ls [.int (bI r)]) := by
  subst he
  exact W.zret hx hb hr (narrow_bI r) (fun t ht _ => ⟨rfl, ht⟩) (fun q h => by cases h) hdg
/-- the end of a method that writes into its own cells -/
theorem f_retI {A : Nat → Prop} {P : State → Prop} {r v : Int32} (he : r = v) (hP : ∀ t : State, t.heap = H → s.WarmedH t.vm → P t) (hS : va_S A s.heap H locs) (hx : p.tables.exec = Jvm.exec) (hb : c.code = cc) (hr : meth.sig.returnType = some .int) (hk : meth.locks = false) (hdg : decode cc pc = .ok (.ireturn, 1)) : W p l e R s m args below meth c H locs cells slots (MQ below (qM (some (.int v)) P A) args s cells slots A) (F0 m pc ls [.int r]) := by
  subst he
  exact W.iret hx hb hr (fun t ht hW => ⟨rfl, hP t ht hW, hS.F ht⟩) hS.2.2 hdg
theorem f_retZ {A : Nat → Prop} {P : State → Prop} {r v : Bool} (he : r = v) (hP : ∀ t : State, t.heap = H → s.WarmedH t.vm → P t) (hS : va_S A s.heap H locs) (hx : p.tables.exec = Jvm.exec) (hb : c.code = cc) (hr : meth.sig.returnType = some .boolean) (hk : meth.locks = false) (hdg : decode cc pc = .ok (.ireturn, 1)) : W p l e R s m args below meth c H locs cells slots (MQ below (qM (some (.int (bI v))) P A) args s cells slots A) (F0 m pc ls [.int (bI r)]) := by
  subst he
  exact W.zret hx hb hr (narrow_bI r) (fun t ht hW => ⟨rfl, hP t ht hW, hS.F ht⟩) hS.2.2 hdg
theorem f_ret {A : Nat → Prop} {P : State → Prop} (hP : ∀ t : State, t.heap = H → s.WarmedH t.vm → P t) (hS : va_S A s.heap H locs) (hx : p.tables.exec = Jvm.exec) (hb : c.code = cc) (hr : meth.sig.returnType = none) (hk : meth.locks = false) (hdg : decode cc pc = .ok (.return_, 1)) : W p l e R s m args below meth c H locs cells slots (MQ below (qM none P A) args s cells slots A) (F0 m pc ls []) :=
  W.vret hx hb hr (fun t ht hW => ⟨rfl, hP t ht hW, hS.F ht⟩) hS.2.2 hdg
/-- a static method that only computes -/
theorem s_call (na : Nat) {own : String} {index : Nat} {y : MethodName} {bytes : ByteArray} {maxL : Nat} {ret : Option FieldType} {rm : Room} {As : List Value} {v : Value} (hM : Met l y (ws_ y bytes maxL ret) rm (va_Pc As (fun _ => True)) (qR v) 0 0 (fun _ => False)) (S : CallFix p m c cc nL s args lw_all own) (hV : GoodIn lw_all (va_wsS own index y (ws_ y bytes maxL ret)))
    (hrc : rm.cells = 0) (hrs : rm.slots = 0) (hd : y.cls ≠ "java/lang/invoke/MethodHandle" ∧ y.cls ≠ "java/lang/invoke/VarHandle" ∧ (parseMethodDescriptor y.desc).map (fun d => d.parameters.length) = some na) (hR : rm.frames + 1 ≤ R.frames ∧ 8 + (maxL + 11) + rm.locals ≤ R.locals)
    (hna : As.length = na) (hsz : ls.size = nL) (hst : st = As.reverse ++ rest) (hW : (rest.map fun v => v.category).sum ≤ 8) (hf : cells ≤ R.cells ∧ slots ≤ R.slots) (hdg : decode cc pc = .ok (.invokestatic index, 3)) (kk : W p l e R s m args below meth c H locs cells slots Q (F0 m (pc + 3) ls (v :: rest))) : W p l e R s m args below meth c H locs cells slots Q (F0 m pc ls st) := by
  intro T hT X
  obtain ⟨v', st₀, t, T', L, h0, X', hL, e1, ⟨hv, hh⟩, go⟩ := W.runS (As := As) (rest := rest) (g := F0 m pc ls st) S hM (va_cwS na S.2.2.2.2 hV rfl hrc hrs hd hR) ⟨pk_blind (fun _ _ _ _ _ => trivial), fun U _ _ => ⟨rfl, trivial⟩⟩ rfl hna hsz hst (lv_room (m := m) (pc := pc) (ls := ls) (rest := st) hW) hdg hf T hT X
  cases hv
  obtain ⟨t2, a1, b1⟩ := kk T' (by rw [e1, hh, h0]) (Stand.forget X' (fun q h => (hL q h).elim))
  exact ⟨t2, go t2 a1, b1⟩
/-- a call through an object, the callee only reads -/
theorem v_callR (na : Nat) {own C : String} {b index : Nat} {y : MethodName} {bytes : ByteArray} {maxL : Nat} {ret : Option FieldType} {rm : Room} {As : List Value} {B : State → Prop} {v : Value} (hM : Met l y (ws_ y bytes maxL ret) rm (va_Pc (.ref b :: As) B) (qR v) 0 0 (fun _ => False)) (S : CallFix p m c cc nL s args lw_all own) (hV : GoodIn lw_all (wsV own index C y (ws_ y bytes maxL ret)))
    (hbl : ∀ (U : State) (g : JFrame) (mk : MethodId) (a : Array Value), B U → B (U.calling g mk a)) (hcell : ∃ cell : Cell, H[b]? = some cell ∧ cell.vm.isStatics = false ∧ s.vm.findClass C = some cell.cls) (hB : ∀ U : State, U.heap = H → s.WarmedH U.vm → B U)
    (hrc : rm.cells = 0) (hrs : rm.slots = 0) (hd : y.cls = C ∧ y.cls ≠ "java/lang/invoke/MethodHandle" ∧ y.cls ≠ "java/lang/invoke/VarHandle" ∧ (parseMethodDescriptor y.desc).map (fun d => d.parameters.length) = some na) (hR : rm.frames + 1 ≤ R.frames ∧ 8 + (maxL + 11) + rm.locals ≤ R.locals)
    (hna : As.length = na) (hsz : ls.size = nL) (hst : st = As.reverse ++ .ref b :: rest) (hW : (rest.map fun v => v.category).sum ≤ 8) (hf : cells ≤ R.cells ∧ slots ≤ R.slots) (hdg : decode cc pc = .ok (.invokevirtual index, 3)) (kk : W p l e R s m args below meth c H locs cells slots Q (F0 m (pc + 3) ls (v :: rest))) : W p l e R s m args below meth c H locs cells slots Q (F0 m pc ls st) := by
  intro T hT X
  obtain ⟨v', st₀, t, T', L, h0, X', hL, e1, ⟨hv, hh⟩, go⟩ := W.runV (As := As) (rest := rest) (g := F0 m pc ls st) S hM (cwV na S.2.2.2.2 hV rfl hrc hrs hd hR) ⟨pk_blind hbl, hcell, fun U hU hW => ⟨rfl, hB U hU hW⟩⟩ rfl hna hsz hst (lv_room (m := m) (pc := pc) (ls := ls) (rest := st) hW) hdg hf T hT X
  cases hv
  obtain ⟨t2, a1, b1⟩ := kk T' (by rw [e1, hh, h0]) (Stand.forget X' (fun q h => (hL q h).elim))
  exact ⟨t2, go t2 a1, b1⟩
/-- a call through an object, the callee writes into its own cells -/
theorem v_callM (na : Nat) {own C : String} {b index : Nat} {y : MethodName} {bytes : ByteArray} {maxL : Nat} {ret : Option FieldType} {rm : Room} {As : List Value} {B P : State → Prop} {A A0 : Nat → Prop} {H0 : Heap} {v : Option Value} (hM : Met l y (ws_ y bytes maxL ret) rm (va_Pc (.ref b :: As) B) (qM v P A) 0 0 A) (S : CallFix p m c cc nL s args lw_all own) (hV : GoodIn lw_all (wsV own index C y (ws_ y bytes maxL ret)))
    (hbl : ∀ (U : State) (g : JFrame) (mk : MethodId) (a : Array Value), B U → B (U.calling g mk a)) (hcell : ∃ cell : Cell, H[b]? = some cell ∧ cell.vm.isStatics = false ∧ s.vm.findClass C = some cell.cls) (hB : ∀ U : State, U.heap = H → s.WarmedH U.vm → B U)
    (hS : va_S A0 H0 H locs) (hA : ∀ q, A q → A0 q)
    (hrc : rm.cells = 0) (hrs : rm.slots = 0) (hd : y.cls = C ∧ y.cls ≠ "java/lang/invoke/MethodHandle" ∧ y.cls ≠ "java/lang/invoke/VarHandle" ∧ (parseMethodDescriptor y.desc).map (fun d => d.parameters.length) = some na) (hR : rm.frames + 1 ≤ R.frames ∧ 8 + (maxL + 11) + rm.locals ≤ R.locals)
    (hna : As.length = na) (hsz : ls.size = nL) (hst : st = As.reverse ++ .ref b :: rest) (hW : (rest.map fun v => v.category).sum ≤ 8) (hf : cells ≤ R.cells ∧ slots ≤ R.slots) (hdg : decode cc pc = .ok (.invokevirtual index, 3))
    (kk : ∀ (t : State) (H1 : Heap) (locs1 : List Loc), t.heap = H1 → s.vm.Alike t.vm → P t → (∀ q : Nat, q < H.size → ¬ A q → H1[q]? = H[q]?) → va_S A0 H0 H1 locs1 → W p l e R s m args below meth c H1 locs1 cells slots Q (F0 m (pc + 3) ls (v.toList ++ rest))) : W p l e R s m args below meth c H locs cells slots Q (F0 m pc ls st) := by
  intro T hT X
  obtain ⟨v', st₀, t, T', L, h0, X', hL, e1, e2, ⟨hv, hp, hz, hk⟩, go⟩ := va_runV (As := As) (rest := rest) (g := F0 m pc ls st) S hM (cwV na S.2.2.2.2 hV rfl hrc hrs hd hR) ⟨pk_blind hbl, hcell, fun U hU hW => ⟨rfl, hB U hU hW⟩⟩ rfl hna hsz hst (lv_room (m := m) (pc := pc) (ls := ls) (rest := st) hW) hdg hf T hT X
  cases hv
  rw [h0] at hz hk
  obtain ⟨t2, a1, b1⟩ := kk t T'.heap (locs ++ L) e1.symm (by rw [← e2]; exact X'.warmed.alike) hp (fun q h1 h2 => by rw [e1]; exact hk q h1 h2)
    ⟨Nat.le_trans hS.1 (by rw [e1]; exact hz), fun q h1 h2 => by rw [e1, hk q (Nat.lt_of_lt_of_le h1 hS.1) (fun z => h2 (hA q z))]; exact hS.2.1 q h1 h2, fun q hq => by
      rcases List.mem_append.mp hq with h | h
      · exact hS.2.2 q h
      · exact hA _ (hL q h)⟩ T' rfl X'
  exact ⟨t2, go t2 a1, b1⟩
section XR
variable {n : Nat} {N : Nat → Fin 7} {O D : Nat → Bool} {Rw : Nat → Fin 7} {k : Bool} {K : Nat → Fin 7}
theorem XI.bl {E : va_G} {g : Nat → Nat} (U : State) (f : JFrame) (mk : MethodId) (a : Array Value) (h : XI E g n N O D Rw k K U) : XI E g n N O D Rw k K (U.calling f mk a) := ⟨h.1, va_K.moved (u := U) (U := U.calling f mk a) (Vm.Alike.refl U.vm) h.2.1, h.2.2⟩
theorem XH.to {t : State} (S : XC p m c cc nL s args E g) (hP : va_P E vwCl (xW g n N O D Rw k K) H) (ht : t.heap = H) (hW : s.WarmedH t.vm) : XI E g n N O D Rw k K t := ⟨by rw [ht]; exact hP, va_K.moved hW.alike S.2.1, S.2.2⟩
theorem x_recv (S : XC p m c cc nL s args E g) (hP : va_P E vwCl (xW g n N O D Rw k K) H) : ∃ cell : Cell, H[g 0]? = some cell ∧ cell.vm.isStatics = false ∧ s.vm.findClass RX0 = some cell.cls := va_recv S.2.1 hP (ci := 0) (q0 := 0) rfl rfl
theorem x_put0 (n' : Nat) (S : XC p m c cc nL s args E g) (hX : XH E g s.heap n N O D Rw k K H locs) (hdg : decode cc pc = .ok (.putfield 26, 3)) (kk : ∀ (H : Heap) (locs : List Loc), XH E g s.heap n' N O D Rw k K H locs → W p l e R s m args below meth c H locs cells slots Q (F0 m (pc + 3) ls rest)) : W p l e R s m args below meth c H locs cells slots Q (F0 m pc ls (.int (nI n') :: .ref (g 0) :: rest)) :=
  va_put (D := E) (ci := 0) (v := .int (nI n')) (ty := .int) (C := RX0) (T := TX0) (N := 7) S.1.1 S.1.2.1 S.1.2.2.2.2 in_X0 tyX0 tyX0_ok nmX0 S.1.2.2.2.1 S.2.1 hX.1 (xD.of S.2.2 _ _ _ _ _ _ _) hX.2 0 rfl rfl 0 (by decide) (S.1.2.2.2.2 _ q30) (fun _ h => h) rfl (by decide +kernel) rfl rfl (Nat.le_of_ble_eq_true rfl) hdg (fun H1 locs1 hP hD hS => kk H1 locs1 ⟨hP, hS⟩)
theorem x_put5 (k' : Bool) (S : XC p m c cc nL s args E g) (hX : XH E g s.heap n N O D Rw k K H locs) (hdg : decode cc pc = .ok (.putfield 42, 3)) (kk : ∀ (H : Heap) (locs : List Loc), XH E g s.heap n N O D Rw k' K H locs → W p l e R s m args below meth c H locs cells slots Q (F0 m (pc + 3) ls rest)) : W p l e R s m args below meth c H locs cells slots Q (F0 m pc ls (.int (bI k') :: .ref (g 0) :: rest)) :=
  va_put (D := E) (ci := 0) (v := .int (bI k')) (ty := .boolean) (C := RX0) (T := TX0) (N := 7) S.1.1 S.1.2.1 S.1.2.2.2.2 in_X0 tyX0 tyX0_ok nmX0 S.1.2.2.2.1 S.2.1 hX.1 (xD.of S.2.2 _ _ _ _ _ _ _) hX.2 0 rfl rfl 5 (by decide) (S.1.2.2.2.2 _ q35) (fun _ h => h) rfl (by decide +kernel) (narrow_bI _) (fits_bI _) (Nat.le_of_ble_eq_true rfl) hdg (fun H1 locs1 hP hD hS => kk H1 locs1 ⟨hP, hS⟩)
theorem XH.eqN {H0 : Heap} {N' : Nat → Fin 7} (h : XH E g H0 n N O D Rw k K H locs) (he : ∀ j, j < 30 → N j = N' j) : XH E g H0 n N' O D Rw k K H locs := ⟨vP_arr (f' := fI N') 1 h.1 rfl (fun j hj => by unfold fI; rw [he j hj]), h.2⟩
theorem XH.eqO {H0 : Heap} {O' : Nat → Bool} (h : XH E g H0 n N O D Rw k K H locs) (he : ∀ j, j < 6 → O j = O' j) : XH E g H0 n N O' D Rw k K H locs := ⟨vP_arr (f' := fB O') 2 h.1 rfl (fun j hj => by unfold fB; rw [he j hj]), h.2⟩
theorem XH.eqD {H0 : Heap} {D' : Nat → Bool} (h : XH E g H0 n N O D Rw k K H locs) (he : ∀ j, j < 4 → D j = D' j) : XH E g H0 n N O D' Rw k K H locs := ⟨vP_arr (f' := fB D') 3 h.1 rfl (fun j hj => by unfold fB; rw [he j hj]), h.2⟩
theorem XH.eqRw {H0 : Heap} {Rw' : Nat → Fin 7} (h : XH E g H0 n N O D Rw k K H locs) (he : ∀ j, j < 20 → Rw j = Rw' j) : XH E g H0 n N O D Rw' k K H locs := ⟨vP_arr (f' := fI Rw') 4 h.1 rfl (fun j hj => by unfold fI; rw [he j hj]), h.2⟩
theorem XH.eqK {H0 : Heap} {K' : Nat → Fin 7} (h : XH E g H0 n N O D Rw k K H locs) (he : ∀ j, j < 5 → K j = K' j) : XH E g H0 n N O D Rw k K' H locs := ⟨vP_arr (f' := fI K') 5 h.1 rfl (fun j hj => by unfold fI; rw [he j hj]), h.2⟩
theorem x_callR (na : Nat) {y : MethodName} {bytes : ByteArray} {index maxL : Nat} {ret : Option FieldType} {rm : Room} {As : List Value} {v : Value} (hM : Met l y (ws_ y bytes maxL ret) rm (va_Pc (.ref (g 0) :: As) (XI E g n N O D Rw k K)) (qR v) 0 0 (fun _ => False)) (S : XC p m c cc nL s args E g) (hP : va_P E vwCl (xW g n N O D Rw k K) H) (hV : GoodIn lw_all (wsV RX0 index RX0 y (ws_ y bytes maxL ret)))
    (hrc : rm.cells = 0) (hrs : rm.slots = 0) (hd : y.cls = RX0 ∧ y.cls ≠ "java/lang/invoke/MethodHandle" ∧ y.cls ≠ "java/lang/invoke/VarHandle" ∧ (parseMethodDescriptor y.desc).map (fun d => d.parameters.length) = some na) (hR : rm.frames + 1 ≤ R.frames ∧ 8 + (maxL + 11) + rm.locals ≤ R.locals)
    (hna : As.length = na) (hsz : ls.size = nL) (hst : st = As.reverse ++ .ref (g 0) :: rest) (hW : (rest.map fun v => v.category).sum ≤ 8) (hf : cells ≤ R.cells ∧ slots ≤ R.slots) (hdg : decode cc pc = .ok (.invokevirtual index, 3)) (kk : W p l e R s m args below meth c H locs cells slots Q (F0 m (pc + 3) ls (v :: rest))) : W p l e R s m args below meth c H locs cells slots Q (F0 m pc ls st) :=
  v_callR na hM S.1 hV XI.bl (x_recv S hP) (fun U hU hW => XH.to S hP hU hW) hrc hrs hd hR hna hsz hst hW hf hdg kk
theorem x_callM (na : Nat) {y : MethodName} {bytes : ByteArray} {index maxL : Nat} {ret : Option FieldType} {rm : Room} {As : List Value} {v : Option Value} {n' : Nat} {N' : Nat → Fin 7} {O' D' : Nat → Bool} {Rw' : Nat → Fin 7} {k' : Bool} {K' : Nat → Fin 7} (hM : Met l y (ws_ y bytes maxL ret) rm (va_Pc (.ref (g 0) :: As) (XI E g n N O D Rw k K)) (qM v (XI E g n' N' O' D' Rw' k' K') (xA g)) 0 0 (xA g)) (S : XC p m c cc nL s args E g) (hX : XH E g s.heap n N O D Rw k K H locs) (hV : GoodIn lw_all (wsV RX0 index RX0 y (ws_ y bytes maxL ret)))
    (hrc : rm.cells = 0) (hrs : rm.slots = 0) (hd : y.cls = RX0 ∧ y.cls ≠ "java/lang/invoke/MethodHandle" ∧ y.cls ≠ "java/lang/invoke/VarHandle" ∧ (parseMethodDescriptor y.desc).map (fun d => d.parameters.length) = some na) (hR : rm.frames + 1 ≤ R.frames ∧ 8 + (maxL + 11) + rm.locals ≤ R.locals)
    (hna : As.length = na) (hsz : ls.size = nL) (hst : st = As.reverse ++ .ref (g 0) :: rest) (hW : (rest.map fun v => v.category).sum ≤ 8) (hf : cells ≤ R.cells ∧ slots ≤ R.slots) (hdg : decode cc pc = .ok (.invokevirtual index, 3)) (kk : ∀ (H : Heap) (locs : List Loc), XH E g s.heap n' N' O' D' Rw' k' K' H locs → W p l e R s m args below meth c H locs cells slots Q (F0 m (pc + 3) ls (v.toList ++ rest))) : W p l e R s m args below meth c H locs cells slots Q (F0 m pc ls st) :=
  v_callM na hM S.1 hV XI.bl (x_recv S hX.1) (fun U hU hW => XH.to S hX.1 hU hW) hX.2 (fun _ h => h) hrc hrs hd hR hna hsz hst hW hf hdg (fun t H1 locs1 ht _ hp _ hS => kk H1 locs1 ⟨by have h1 := hp.1; rw [ht] at h1; exact h1, hS⟩)
end XR
section MR
variable {n : Nat} {N : Nat → Fin 7} {O : Nat → Bool} {k : Bool} {B C : Nat → Nat}
theorem MI.bl {E : va_G} {g : Nat → Nat} (U : State) (f : JFrame) (mk : MethodId) (a : Array Value) (h : MI E g n N O k B C U) : MI E g n N O k B C (U.calling f mk a) := ⟨h.1, va_K.moved (u := U) (U := U.calling f mk a) (Vm.Alike.refl U.vm) h.2.1, h.2.2⟩
theorem MH.to {t : State} (S : MC p m c cc nL s args E g) (hP : va_P E vwCl (mW g n N O k B C) H) (ht : t.heap = H) (hW : s.WarmedH t.vm) : MI E g n N O k B C t := ⟨by rw [ht]; exact hP, va_K.moved hW.alike S.2.1, S.2.2⟩
theorem m_recv (S : MC p m c cc nL s args E g) (hP : va_P E vwCl (mW g n N O k B C) H) : ∃ cell : Cell, H[g 0]? = some cell ∧ cell.vm.isStatics = false ∧ s.vm.findClass RX1 = some cell.cls := va_recv S.2.1 hP (ci := 1) (q0 := 0) rfl rfl
theorem m_put0 (n' : Nat) (S : MC p m c cc nL s args E g) (hX : MH E g s.heap n N O k B C H locs) (hdg : decode cc pc = .ok (.putfield 24, 3)) (kk : ∀ (H : Heap) (locs : List Loc), MH E g s.heap n' N O k B C H locs → W p l e R s m args below meth c H locs cells slots Q (F0 m (pc + 3) ls rest)) : W p l e R s m args below meth c H locs cells slots Q (F0 m pc ls (.int (nI n') :: .ref (g 0) :: rest)) :=
  va_put (D := E) (ci := 1) (v := .int (nI n')) (ty := .int) (C := RX1) (T := TX1) (N := 6) S.1.1 S.1.2.1 S.1.2.2.2.2 in_X1 tyX1 tyX1_ok nmX1 S.1.2.2.2.1 S.2.1 hX.1 (mD.of S.2.2 _ _ _ _ _ _) hX.2 0 rfl rfl 0 (by decide) (S.1.2.2.2.2 _ q161) (fun _ h => h) rfl (by decide +kernel) rfl rfl (Nat.le_of_ble_eq_true rfl) hdg (fun H1 locs1 hP hD hS => kk H1 locs1 ⟨hP, hS⟩)
theorem m_put3 (k' : Bool) (S : MC p m c cc nL s args E g) (hX : MH E g s.heap n N O k B C H locs) (hdg : decode cc pc = .ok (.putfield 32, 3)) (kk : ∀ (H : Heap) (locs : List Loc), MH E g s.heap n N O k' B C H locs → W p l e R s m args below meth c H locs cells slots Q (F0 m (pc + 3) ls rest)) : W p l e R s m args below meth c H locs cells slots Q (F0 m pc ls (.int (bI k') :: .ref (g 0) :: rest)) :=
  va_put (D := E) (ci := 1) (v := .int (bI k')) (ty := .boolean) (C := RX1) (T := TX1) (N := 6) S.1.1 S.1.2.1 S.1.2.2.2.2 in_X1 tyX1 tyX1_ok nmX1 S.1.2.2.2.1 S.2.1 hX.1 (mD.of S.2.2 _ _ _ _ _ _) hX.2 0 rfl rfl 3 (by decide) (S.1.2.2.2.2 _ q164) (fun _ h => h) rfl (by decide +kernel) (narrow_bI _) (fits_bI _) (Nat.le_of_ble_eq_true rfl) hdg (fun H1 locs1 hP hD hS => kk H1 locs1 ⟨hP, hS⟩)
theorem MH.eqN {H0 : Heap} {N' : Nat → Fin 7} (h : MH E g H0 n N O k B C H locs) (he : ∀ j, j < 30 → N j = N' j) : MH E g H0 n N' O k B C H locs := ⟨vP_arr (f' := fI N') 1 h.1 rfl (fun j hj => by unfold fI; rw [he j hj]), h.2⟩
theorem MH.eqO {H0 : Heap} {O' : Nat → Bool} (h : MH E g H0 n N O k B C H locs) (he : ∀ j, j < 6 → O j = O' j) : MH E g H0 n N O' k B C H locs := ⟨vP_arr (f' := fB O') 2 h.1 rfl (fun j hj => by unfold fB; rw [he j hj]), h.2⟩
theorem MH.eqB {H0 : Heap} {B' : Nat → Nat} (h : MH E g H0 n N O k B C H locs) (he : ∀ j, j < 2401 → B j = B' j) : MH E g H0 n N O k B' C H locs := ⟨vP_arr (f' := fN B') 3 h.1 rfl (fun j hj => by unfold fN; rw [he j hj]), h.2⟩
theorem MH.eqC {H0 : Heap} {C' : Nat → Nat} (h : MH E g H0 n N O k B C H locs) (he : ∀ j, j < 64 → C j = C' j) : MH E g H0 n N O k B C' H locs := ⟨vP_arr (f' := fN C') 4 h.1 rfl (fun j hj => by unfold fN; rw [he j hj]), h.2⟩
theorem m_callR (na : Nat) {y : MethodName} {bytes : ByteArray} {index maxL : Nat} {ret : Option FieldType} {rm : Room} {As : List Value} {v : Value} (hM : Met l y (ws_ y bytes maxL ret) rm (va_Pc (.ref (g 0) :: As) (MI E g n N O k B C)) (qR v) 0 0 (fun _ => False)) (S : MC p m c cc nL s args E g) (hP : va_P E vwCl (mW g n N O k B C) H) (hV : GoodIn lw_all (wsV RX1 index RX1 y (ws_ y bytes maxL ret)))
    (hrc : rm.cells = 0) (hrs : rm.slots = 0) (hd : y.cls = RX1 ∧ y.cls ≠ "java/lang/invoke/MethodHandle" ∧ y.cls ≠ "java/lang/invoke/VarHandle" ∧ (parseMethodDescriptor y.desc).map (fun d => d.parameters.length) = some na) (hR : rm.frames + 1 ≤ R.frames ∧ 8 + (maxL + 11) + rm.locals ≤ R.locals)
    (hna : As.length = na) (hsz : ls.size = nL) (hst : st = As.reverse ++ .ref (g 0) :: rest) (hW : (rest.map fun v => v.category).sum ≤ 8) (hf : cells ≤ R.cells ∧ slots ≤ R.slots) (hdg : decode cc pc = .ok (.invokevirtual index, 3)) (kk : W p l e R s m args below meth c H locs cells slots Q (F0 m (pc + 3) ls (v :: rest))) : W p l e R s m args below meth c H locs cells slots Q (F0 m pc ls st) :=
  v_callR na hM S.1 hV MI.bl (m_recv S hP) (fun U hU hW => MH.to S hP hU hW) hrc hrs hd hR hna hsz hst hW hf hdg kk
theorem m_callM (na : Nat) {y : MethodName} {bytes : ByteArray} {index maxL : Nat} {ret : Option FieldType} {rm : Room} {As : List Value} {v : Option Value} {n' : Nat} {N' : Nat → Fin 7} {O' : Nat → Bool} {k' : Bool} {B' C' : Nat → Nat} (hM : Met l y (ws_ y bytes maxL ret) rm (va_Pc (.ref (g 0) :: As) (MI E g n N O k B C)) (qM v (MI E g n' N' O' k' B' C') (mA g)) 0 0 (mA g)) (S : MC p m c cc nL s args E g) (hX : MH E g s.heap n N O k B C H locs) (hV : GoodIn lw_all (wsV RX1 index RX1 y (ws_ y bytes maxL ret)))
    (hrc : rm.cells = 0) (hrs : rm.slots = 0) (hd : y.cls = RX1 ∧ y.cls ≠ "java/lang/invoke/MethodHandle" ∧ y.cls ≠ "java/lang/invoke/VarHandle" ∧ (parseMethodDescriptor y.desc).map (fun d => d.parameters.length) = some na) (hR : rm.frames + 1 ≤ R.frames ∧ 8 + (maxL + 11) + rm.locals ≤ R.locals)
    (hna : As.length = na) (hsz : ls.size = nL) (hst : st = As.reverse ++ .ref (g 0) :: rest) (hW : (rest.map fun v => v.category).sum ≤ 8) (hf : cells ≤ R.cells ∧ slots ≤ R.slots) (hdg : decode cc pc = .ok (.invokevirtual index, 3)) (kk : ∀ (H : Heap) (locs : List Loc), MH E g s.heap n' N' O' k' B' C' H locs → W p l e R s m args below meth c H locs cells slots Q (F0 m (pc + 3) ls (v.toList ++ rest))) : W p l e R s m args below meth c H locs cells slots Q (F0 m pc ls st) :=
  v_callM na hM S.1 hV MI.bl (m_recv S hX.1) (fun U hU hW => MH.to S hX.1 hU hW) hX.2 (fun _ h => h) hrc hrs hd hR hna hsz hst hW hf hdg (fun t H1 locs1 ht _ hp _ hS => kk H1 locs1 ⟨by have h1 := hp.1; rw [ht] at h1; exact h1, hS⟩)
end MR
end Rows
end
section
set_option maxRecDepth 100000
/-! ===== what the solver computes, as plain functions ===== -/
/-- an integer as a residue mod 7 -/
def z7 (z : Int) : Fin 7 := ⟨(z % 7).toNat, by omega⟩
def d7 (n : Nat) : Fin 7 := ⟨n % 7, by omega⟩
def iI (z : Int) : Int32 := Int32.ofInt z
def tI (t : Option Nat) : Int32 := match t with
  | none => -1
  | some u => nI u
/-- the inverse mod 7 -/
def iv (x : Fin 7) : Fin 7 := x * x * x * x * x
def ldK (N K : Nat → Fin 7) (e i : Nat) : Nat → Fin 7 := fun j => if j < i then N (e * 5 + j) else K j
/-- K minus f times row u, at the places below i -/
def el (R : Nat → Fin 7) (u : Nat) (f : Fin 7) (K : Nat → Fin 7) (i : Nat) : Nat → Fin 7 := fun j => if j < i then K j - f * R (u * 5 + j) else K j
def rStep (D : Nat → Bool) (R : Nat → Fin 7) (u : Nat) (s : (Nat → Fin 7) × Option Nat) : (Nat → Fin 7) × Option Nat :=
  if s.1 u ≠ 0 ∧ D u = true then (el R u (s.1 u) s.1 5, s.2) else if s.1 u ≠ 0 ∧ s.2 = none then (s.1, some u) else s
def rN (D : Nat → Bool) (R : Nat → Fin 7) : Nat → (Nat → Fin 7) × Option Nat → (Nat → Fin 7) × Option Nat
  | 0, s => s
  | u + 1, s => rN D R u (rStep D R u s)
def red (D : Nat → Bool) (R : Nat → Fin 7) (K : Nat → Fin 7) : (Nat → Fin 7) × Option Nat := rN D R 4 (K, none)
def kRow (R : Nat → Fin 7) (u : Nat) (K : Nat → Fin 7) (b : Fin 7) (i : Nat) : Nat → Fin 7 := fun j => if u * 5 ≤ j ∧ j < u * 5 + i then K (j - u * 5) * b else R j
def kSub (R : Nat → Fin 7) (w u : Nat) (f : Fin 7) (i : Nat) : Nat → Fin 7 := fun j => if w * 5 ≤ j ∧ j < w * 5 + i then R j - f * R (u * 5 + (j - w * 5)) else R j
def kStep (D : Nat → Bool) (u w : Nat) (R : Nat → Fin 7) : Nat → Fin 7 := if D w = true ∧ R (w * 5 + u) ≠ 0 then kSub R w u (R (w * 5 + u)) 5 else R
def kUp (D : Nat → Bool) (u : Nat) (R : Nat → Fin 7) : Nat → Nat → Fin 7
  | 0 => R
  | t + 1 => kStep D u (u + 1 + t) (kUp D u R t)
def keepR (D : Nat → Bool) (R K : Nat → Fin 7) (u : Nat) : Nat → Fin 7 := kUp (va_up D u true) u (kRow R u K (iv (K u)) 5) (3 - u)
abbrev SV : Type := (Nat → Bool) × (Nat → Fin 7) × Bool × (Nat → Fin 7)
def svStep (N : Nat → Fin 7) (b : Nat) (e : Nat) (s : SV) : SV :=
  if b.testBit e = true then
    (match red s.1 s.2.1 (fun j => N (e * 5 + j)) with
      | (K, some u) => (va_up s.1 u true, keepR s.1 s.2.1 K u, s.2.2.1, K)
      | (K, none) => (s.1, s.2.1, s.2.2.1 || decide (K 4 ≠ 0), K))
  else s
def sv (N : Nat → Fin 7) (b : Nat) (R K : Nat → Fin 7) : Nat → SV
  | 0 => (fun _ => false, R, false, K)
  | e + 1 => svStep N b e (sv N b R K e)
/-- the mask of the equations that are on -/
def onM (O : Nat → Bool) : Nat → Nat
  | 0 => 0
  | e + 1 => if O e = true then onM O e ||| 2 ^ e else onM O e
def wyN (D : Nat → Bool) (u : Nat) : Nat → Nat
  | 0 => 1
  | t + 1 => if D (u + t) = true then wyN D u t else wyN D u t * 7
/-- seven to the number of free unknowns from u on -/
def wy (D : Nat → Bool) (u : Nat) : Nat := wyN D u (4 - u)
/-- the sum that resultOf makes -/
def rsN (R : Nat → Fin 7) (u b : Nat) : Nat → Int
  | 0 => ((R (u * 5 + 4)).val : Int)
  | w + 1 => rsN R u b w - ((R (u * 5 + w)).val : Int) * ((b / 7 ^ w % 7 : Nat) : Int)
def rs (R : Nat → Fin 7) (u b : Nat) : Fin 7 := z7 (rsN R u b u)
/-- solution number n: what is left, and the digits, behind u unknowns -/
def saN (D : Nat → Bool) (R : Nat → Fin 7) (n : Nat) : Nat → Nat × Nat
  | 0 => (n, 0)
  | u + 1 => if D u = true then ((saN D R n u).1, (saN D R n u).2 + (rs R u (saN D R n u).2).val * 7 ^ u) else ((saN D R n u).1 % wy D (u + 1), (saN D R n u).2 + (saN D R n u).1 / wy D (u + 1) * 7 ^ u)
/-- does row u have a factor at a place below w -/
def vaN (R : Nat → Fin 7) (u : Nat) : Nat → Bool
  | 0 => false
  | w + 1 => vaN R u w || decide (R (u * 5 + w) ≠ 0)
def vary (D : Nat → Bool) (R : Nat → Fin 7) (u : Nat) : Bool := !D u || vaN R u u
/-- how many of the first u unknowns are determined -/
def ctD (D : Nat → Bool) : Nat → Nat
  | 0 => 0
  | u + 1 => if D u = true then ctD D u + 1 else ctD D u
def on1 (b : Nat) : Nat → Nat
  | 0 => 0
  | e + 1 => on1 b e + (b / 2 ^ e) % 2
/-! ===== numbers ===== -/
theorem z7_val (z : Int) : ((z7 z).val : Int) = z % 7 := by
  unfold z7
  show (((z % 7).toNat : Nat) : Int) = z % 7
  omega
theorem z7_ext {a : Fin 7} {z : Int} (h : (a.val : Int) = z % 7) : a = z7 z := by
  apply Fin.ext
  have := z7_val z
  omega
theorem iI_sub (a b : Int) : iI a - iI b = iI (a - b) := (Int32.ofInt_sub a b).symm
theorem iI_mul (a b : Int) : iI a * iI b = iI (a * b) := (Int32.ofInt_mul a b).symm
theorem iI_nI (n : Nat) : nI n = iI (n : Int) := rfl
theorem iI_toInt {z : Int} (h1 : -2147483648 ≤ z) (h2 : z < 2147483648) : (iI z).toInt = z := by
  unfold iI
  exact Int32.toInt_ofInt_of_le h1 h2
theorem iI_toInt' (x : Int32) : iI x.toInt = x := Int32.ofInt_toInt x
end
section
set_option maxRecDepth 100000
/-! ===== machine numbers of this claim ===== -/
theorem nb_sl : ∀ n, n < 32 → ((nI n &&& 31).toBitVec.smod 32).toNat = n := by decide +kernel
theorem nb_or (a b : Nat) : nI a ||| nI b = nI (a ||| b) := by
  apply Int32.toBitVec_inj.1
  show BitVec.ofNat 32 a ||| BitVec.ofNat 32 b = BitVec.ofNat 32 (a ||| b)
  apply BitVec.eq_of_getLsbD_eq
  intro i hi
  simp [hi]
theorem nb_and (a b : Nat) : nI a &&& nI b = nI (a &&& b) := by
  apply Int32.toBitVec_inj.1
  show BitVec.ofNat 32 a &&& BitVec.ofNat 32 b = BitVec.ofNat 32 (a &&& b)
  apply BitVec.eq_of_getLsbD_eq
  intro i hi
  simp [hi]
/-- the bit e of b -/
theorem nb_bit {b e : Nat} (hb : b < 2 ^ 31) (he : e < 31) : (nI b >>> (nI e &&& 31)) &&& nI 1 = nI (b / 2 ^ e % 2) := by
  rw [pk_shrN hb _ e (nb_sl e (by omega))]
  have h2 : b / 2 ^ e < 2 ^ 32 := Nat.lt_of_le_of_lt (Nat.div_le_self _ _) (by omega)
  rw [pk_andN h2 (m := nI 1) 1 (by decide)]
/-- 'or' of a mask and one bit -/
theorem nb_set {a e : Nat} (he : e < 31) : nI a ||| (nI 1 <<< (nI e &&& 31)) = nI (a ||| 2 ^ e) := by
  have h1 : 1 * 2 ^ e < 2 ^ 32 := by
    rw [Nat.one_mul]
    exact Nat.pow_lt_pow_right (by decide) (by omega)
  rw [pk_shlN _ e (nb_sl e (by omega)) h1, nb_or, Nat.one_mul]
theorem nb_shl {e : Nat} (he : e < 31) : nI 1 <<< (nI e &&& 31) = nI (2 ^ e) := by
  have h1 : 1 * 2 ^ e < 2 ^ 32 := by
    rw [Nat.one_mul]
    exact Nat.pow_lt_pow_right (by decide) (by omega)
  rw [pk_shlN _ e (nb_sl e (by omega)) h1, Nat.one_mul]
theorem nb_andNot : ∀ a, a < 64 → ∀ b, b < 64 → (nI a &&& (nI b ^^^ (-1))) = nI (a - (a &&& b)) := by
  have h : ∀ a : Fin 64, ∀ b : Fin 64, (nI a.val &&& (nI b.val ^^^ (-1))) = nI (a.val - (a.val &&& b.val)) := by decide +kernel
  exact fun a ha b hb => h ⟨a, ha⟩ ⟨b, hb⟩
/-- a number without its sign bit -/
theorem nb_pos (x : Int32) : x &&& 2147483647 = nI (x.toBitVec.toNat % 2147483648) := pk_and x 31 (by decide)
theorem rem7 (x : Int32) : ∃ t q : Int, x - x / nI 7 * nI 7 = iI t ∧ -7 < t ∧ t < 7 ∧ x.toInt = 7 * q + t := by
  have h7 : (nI 7).toInt = 7 := by decide
  have hd : (x / nI 7).toInt = x.toInt.tdiv 7 := by
    rw [Int32.toInt_div_of_ne_right x (nI 7) (by decide), h7]
  have e1 : x - x / nI 7 * nI 7 = iI (x.toInt - x.toInt.tdiv 7 * 7) := by
    rw [← iI_sub, ← iI_mul, iI_toInt', ← hd, iI_toInt']
    rfl
  refine ⟨x.toInt - x.toInt.tdiv 7 * 7, x.toInt.tdiv 7, e1, ?_, ?_, by omega⟩
  · have := Int.lt_tmod_of_pos x.toInt (show (0 : Int) < 7 by decide)
    have h2 := Int.mul_tdiv_add_tmod x.toInt 7
    omega
  · have := Int.tmod_lt_of_pos x.toInt (show (0 : Int) < 7 by decide)
    have h2 := Int.mul_tdiv_add_tmod x.toInt 7
    omega
theorem mod_neg {x : Int32} (h : x - x / nI 7 * nI 7 < 0) : x - x / nI 7 * nI 7 + nI 7 = nI (z7 x.toInt).val := by
  obtain ⟨t, q, e, h1, h2, h3⟩ := rem7 x
  rw [e] at h ⊢
  have ht : (iI t).toInt = t := iI_toInt (by omega) (by omega)
  have h4 := Int32.lt_iff_toInt_lt.mp h
  rw [ht] at h4
  have h5 : t < 0 := h4
  have h6 : t + 7 = ((z7 x.toInt).val : Int) := by rw [z7_val]; omega
  rw [iI_nI (z7 x.toInt).val, ← h6]
  exact (Int32.ofInt_add t 7).symm
theorem mod_pos {x : Int32} (h : ¬ x - x / nI 7 * nI 7 < 0) : x - x / nI 7 * nI 7 = nI (z7 x.toInt).val := by
  obtain ⟨t, q, e, h1, h2, h3⟩ := rem7 x
  rw [e] at h ⊢
  have ht : (iI t).toInt = t := iI_toInt (by omega) (by omega)
  have h5 : ¬ t < 0 := by
    intro z
    apply h
    rw [Int32.lt_iff_toInt_lt, ht]
    exact z
  have h6 : t = ((z7 x.toInt).val : Int) := by rw [z7_val]; omega
  rw [iI_nI (z7 x.toInt).val, ← h6]
/-- the model's way to the same residue -/
theorem mod_two (x : Int32) : (x - x / nI 7 * nI 7 + nI 7) - (x - x / nI 7 * nI 7 + nI 7) / nI 7 * nI 7 = nI (z7 x.toInt).val := by
  obtain ⟨t, q, e, h1, h2, h3⟩ := rem7 x
  rw [e]
  have e2 : iI t + nI 7 = nI (t + 7).toNat := by
    rw [iI_nI (t + 7).toNat, show (((t + 7).toNat : Nat) : Int) = t + 7 by omega]
    exact (Int32.ofInt_add t 7).symm
  rw [e2, pk_rem (by omega) (by decide) (by decide)]
  congr 1
  have := z7_val x.toInt
  omega
theorem inv_hit : ∀ x : Fin 7, ∀ y, y < 7 → x.val * y % 7 = 1 → y = (iv x).val := by decide +kernel
theorem inv_no (x : Fin 7) (h : ∀ z, 1 ≤ z → z < 7 → x.val * z % 7 ≠ 1) : (iv x).val = 0 := by
  have k : ∀ x : Fin 7, (iv x).val ≠ 0 → 1 ≤ (iv x).val ∧ (iv x).val < 7 ∧ x.val * (iv x).val % 7 = 1 := by decide +kernel
  by_cases hz : (iv x).val = 0
  · exact hz
  · exact absurd (k x hz).2.2 (h _ (k x hz).1 (k x hz).2.1)
theorem iv_mul : ∀ x : Fin 7, x ≠ 0 → x * iv x = 1 := by decide +kernel
theorem m7_mul (a b : Fin 7) : a.val * b.val % 7 = (a * b).val := (Fin.val_mul a b).symm
/-- the step of an elimination, as mod is called -/
theorem m7_sub (a f b : Fin 7) : z7 (nI a.val - nI (f.val * b.val)).toInt = a - f * b := by
  have h : ∀ a f b : Fin 7, z7 (nI a.val - nI (f.val * b.val)).toInt = a - f * b := by decide +kernel
  exact h a f b
/-! ===== steps of the plain functions ===== -/
theorem ldK_up (N K : Nat → Fin 7) (e i : Nat) : ∀ j, j < 5 → va_up (ldK N K e i) i (N (e * 5 + i)) j = ldK N K e (i + 1) j := by
  intro j _
  unfold va_up ldK
  by_cases h1 : j = i
  · subst h1; simp
  · by_cases h2 : j < i
    · simp [h1, h2, show j < i + 1 by omega]
    · simp [h1, h2, show ¬ j < i + 1 by omega]
theorem el_up (R : Nat → Fin 7) (u : Nat) (f : Fin 7) (K : Nat → Fin 7) (i : Nat) : ∀ j, j < 5 → va_up (el R u f K i) i (K i - f * R (u * 5 + i)) j = el R u f K (i + 1) j := by
  intro j _
  unfold va_up el
  by_cases h1 : j = i
  · subst h1; simp
  · by_cases h2 : j < i
    · simp [h1, h2, show j < i + 1 by omega]
    · simp [h1, h2, show ¬ j < i + 1 by omega]
theorem el_at (R : Nat → Fin 7) (u : Nat) (f : Fin 7) (K : Nat → Fin 7) (i : Nat) : el R u f K i i = K i := by simp [el]
theorem kRow_up (R : Nat → Fin 7) (u : Nat) (K : Nat → Fin 7) (b : Fin 7) (i : Nat) : ∀ j, j < 20 → va_up (kRow R u K b i) (u * 5 + i) (K i * b) j = kRow R u K b (i + 1) j := by
  intro j _
  unfold va_up kRow
  by_cases h1 : j = u * 5 + i
  · subst h1; simp
  · by_cases h2 : u * 5 ≤ j ∧ j < u * 5 + i
    · simp [h1, h2, show j < u * 5 + (i + 1) by omega]
    · have h3 : ¬ (u * 5 ≤ j ∧ j < u * 5 + (i + 1)) := by omega
      simp only [h1, h2, h3, if_false]
theorem kSub_up (R : Nat → Fin 7) (w u : Nat) (f : Fin 7) (i : Nat) : ∀ j, j < 20 → va_up (kSub R w u f i) (w * 5 + i) (R (w * 5 + i) - f * R (u * 5 + i)) j = kSub R w u f (i + 1) j := by
  intro j _
  unfold va_up kSub
  by_cases h1 : j = w * 5 + i
  · subst h1; simp
  · by_cases h2 : w * 5 ≤ j ∧ j < w * 5 + i
    · simp [h1, h2, show j < w * 5 + (i + 1) by omega]
    · have h3 : ¬ (w * 5 ≤ j ∧ j < w * 5 + (i + 1)) := by omega
      simp only [h1, h2, h3, if_false]
theorem kSub_at (R : Nat → Fin 7) (w u : Nat) (f : Fin 7) (i : Nat) : kSub R w u f i (w * 5 + i) = R (w * 5 + i) := by simp [kSub]
theorem kSub_row (R : Nat → Fin 7) {w u : Nat} (f : Fin 7) (i : Nat) (h : u < w) {j : Nat} (hj : j < 5) : kSub R w u f i (u * 5 + j) = R (u * 5 + j) := by
  have h3 : ¬ (w * 5 ≤ u * 5 + j ∧ u * 5 + j < w * 5 + i) := by omega
  simp only [kSub, h3, if_false]
theorem wyN_up (D : Nat → Bool) {u i : Nat} (h : u ≤ i) : wyN D u (i + 1 - u) = if D i = true then wyN D u (i - u) else wyN D u (i - u) * 7 := by
  rw [show i + 1 - u = (i - u) + 1 by omega]
  show (if D (u + (i - u)) = true then _ else _) = _
  rw [show u + (i - u) = i by omega]
theorem rsN_in (R : Nat → Fin 7) (u b : Nat) : ∀ w : Nat, -(36 * (w : Int)) ≤ rsN R u b w ∧ rsN R u b w ≤ 6 := by
  intro w
  induction w with
  | zero => have := (R (u * 5 + 4)).isLt; simp only [rsN]; omega
  | succ w ih =>
    have h1 := (R (u * 5 + w)).isLt
    have h2 : b / 7 ^ w % 7 < 7 := Nat.mod_lt _ (by decide)
    have h3 : ((R (u * 5 + w)).val : Int) * ((b / 7 ^ w % 7 : Nat) : Int) ≤ 6 * 6 := Int.mul_le_mul (by omega) (by omega) (by omega) (by omega)
    have h4 : 0 ≤ ((R (u * 5 + w)).val : Int) * ((b / 7 ^ w % 7 : Nat) : Int) := Int.mul_nonneg (by omega) (by omega)
    simp only [rsN]
    generalize ((R (u * 5 + w)).val : Int) * ((b / 7 ^ w % 7 : Nat) : Int) = z at h3 h4 ⊢
    omega
theorem rs_end (R : Nat → Fin 7) {u : Nat} (b : Nat) (hu : u ≤ 4) : nI (z7 (iI (rsN R u b u)).toInt).val = nI (rs R u b).val := by
  have := rsN_in R u b u
  rw [iI_toInt (by omega) (by omega)]
  rfl
theorem rs_step (R : Nat → Fin 7) (u b w : Nat) : iI (rsN R u b w) - nI ((R (u * 5 + w)).val * (b / 7 ^ w % 7)) = iI (rsN R u b (w + 1)) := by
  rw [iI_nI, iI_sub, Int.natCast_mul]
  rfl
theorem dv_up (b w : Nat) : b / 7 ^ w / 7 = b / 7 ^ (w + 1) := by rw [Nat.div_div_eq_div_mul, Nat.pow_succ]
theorem tI_neg {t : Option Nat} (ht : ∀ u, t = some u → u < 4) : tI t < 0 ↔ t = none := by
  cases t with
  | none => exact ⟨fun _ => rfl, fun _ => by decide⟩
  | some u => exact ⟨fun h => absurd h (nI_pos (Nat.lt_trans (ht u rfl) (by decide))), fun h => by cases h⟩
theorem tb_iff (b e : Nat) : b / 2 ^ e % 2 = 1 ↔ b.testBit e = true := by
  rw [Nat.testBit_eq_decide_div_mod_eq]
  simp
/-- the row rStep leaves its top in range -/
theorem rStep_top {D : Nat → Bool} {R : Nat → Fin 7} {u : Nat} (hu : u < 4) {s : (Nat → Fin 7) × Option Nat} (h : ∀ x, s.2 = some x → x < 4) : ∀ x, (rStep D R u s).2 = some x → x < 4 := by
  intro x
  unfold rStep
  split
  · exact h x
  · split
    · intro e; cases e; exact hu
    · exact h x
theorem rN_top {D : Nat → Bool} {R : Nat → Fin 7} : ∀ (u : Nat), u ≤ 4 → ∀ {s : (Nat → Fin 7) × Option Nat}, (∀ x, s.2 = some x → x < 4) → ∀ x, (rN D R u s).2 = some x → x < 4
  | 0, _, _, h => h
  | u + 1, hu, _, h => rN_top u (by omega) (rStep_top (by omega) h)
theorem red_top (D : Nat → Bool) (R K : Nat → Fin 7) : ∀ x, (red D R K).2 = some x → x < 4 := rN_top 4 (Nat.le_refl 4) (fun x h => by cases h)
theorem onM_lt (O : Nat → Bool) : ∀ n, onM O n < 2 ^ n
  | 0 => by simp [onM]
  | n + 1 => by
    have ih := onM_lt O n
    unfold onM
    split
    · exact Nat.or_lt_two_pow (Nat.lt_trans ih (Nat.pow_lt_pow_right (by decide) (by omega))) (Nat.pow_lt_pow_right (by decide) (by omega))
    · exact Nat.lt_trans ih (Nat.pow_lt_pow_right (by decide) (by omega))
theorem onM_64 (O : Nat → Bool) {n : Nat} (hn : n ≤ 6) : onM O n < 64 := Nat.lt_of_lt_of_le (onM_lt O n) (Nat.pow_le_pow_right (by decide) hn)
theorem wyN_in (D : Nat → Bool) (u : Nat) : ∀ t, 0 < wyN D u t ∧ wyN D u t ≤ 7 ^ t
  | 0 => by simp [wyN]
  | t + 1 => by
    have ih := wyN_in D u t
    unfold wyN
    rw [Nat.pow_succ]
    split <;> omega
theorem wy_pos (D : Nat → Bool) (u : Nat) : 0 < wy D u := (wyN_in D u _).1
theorem wy_le (D : Nat → Bool) (u : Nat) : wy D u ≤ 2401 := Nat.le_trans (wyN_in D u _).2 (Nat.le_trans (Nat.pow_le_pow_right (by decide) (show 4 - u ≤ 4 by omega)) (by decide))
theorem saN_free {D : Nat → Bool} (R : Nat → Fin 7) (j : Nat) {u : Nat} (h : D u = false) : saN D R j (u + 1) = ((saN D R j u).1 % wy D (u + 1), (saN D R j u).2 + (saN D R j u).1 / wy D (u + 1) * 7 ^ u) := by
  rw [saN, if_neg (by rw [h]; decide)]
theorem saN_det {D : Nat → Bool} (R : Nat → Fin 7) (j : Nat) {u : Nat} (h : D u = true) : saN D R j (u + 1) = ((saN D R j u).1, (saN D R j u).2 + (rs R u (saN D R j u).2).val * 7 ^ u) := by
  rw [saN, if_pos h]
theorem wyN_front (D : Nat → Bool) (u : Nat) : ∀ t, wyN D u (t + 1) = (if D u = true then wyN D (u + 1) t else wyN D (u + 1) t * 7)
  | 0 => by simp [wyN]
  | t + 1 => by
    have ih := wyN_front D u t
    rw [wyN, ih]
    show _ = if D u = true then wyN D (u + 1) (t + 1) else wyN D (u + 1) (t + 1) * 7
    rw [wyN, show u + 1 + t = u + (t + 1) by omega]
    split <;> split <;> rfl
theorem wy_free {D : Nat → Bool} {u : Nat} (h : D u = false) (hu : u < 4) : wy D u = wy D (u + 1) * 7 := by
  unfold wy
  rw [show 4 - u = (4 - (u + 1)) + 1 by omega, wyN_front, if_neg (by rw [h]; decide)]
theorem wy_det {D : Nat → Bool} {u : Nat} (h : D u = true) (hu : u < 4) : wy D u = wy D (u + 1) := by
  unfold wy
  rw [show 4 - u = (4 - (u + 1)) + 1 by omega, wyN_front, if_pos h]
theorem dig_lt {a p v : Nat} (h : a < p) (hv : v < 7) : a + v * p < p * 7 := by
  have h1 : v * p ≤ 6 * p := Nat.mul_le_mul_right p (by omega)
  omega
end
section
set_option maxRecDepth 100000
set_option maxHeartbeats 4000000 in
/-- mod(x): the residue -/
theorem metX0_mod (l : Launch) (x : Int32) : Met l yX0_mod (ws_ yX0_mod cX0_mod 2 (some .int)) ({ frames := 0, cells := 0, slots := 0, locals := 0 }) (va_Pc [.int x] (fun _ => True)) (qR (.int (nI (z7 x.toInt).val))) 0 0 (fun _ => False) := by
  refine m_of l (by decide) (Nat.le_of_ble_eq_true rfl) (fun p e s m below meth c ls S0 hr hk _ _ hl => ?_)
  have S : CallFix p m c cX0_mod 2 s _ lw_all RX0 ∧ True := ⟨S0, trivial⟩
  have hx := S0.1
  have hb := S0.2.1
  replace hl : lv_has ls 2 [(0, .int x)] := hl
  refine lv_iload_n hx hb dX0_mod_0 rfl (lv_at hl 0 rfl) ?_
  refine lv_bipush (v := nI 7) hx hb dX0_mod_1 (by decide) ?_
  refine lv_irem hx hb dX0_mod_3 (by decide) ?_
  refine lv_istore_n (lv' := [(1, .int (x - x / nI 7 * nI 7)), (0, .int x)]) hx hb dX0_mod_4 rfl hl (by decide) rfl (fun ls hl => ?_)
  refine lv_iload_n hx hb dX0_mod_5 rfl (lv_at hl 0 rfl) ?_
  refine lv_if_ge hx hb (tgt := 16) dX0_mod_6 (by decide) (fun c1 => ?_) (fun c2 => ?_)
  · refine lv_iload_n hx hb dX0_mod_16 rfl (lv_at hl 0 rfl) ?_
    exact e_retI (mod_pos (Int32.not_lt.mpr c1)) hx hb hr hk dX0_mod_17
  · refine lv_iload_n hx hb dX0_mod_9 rfl (lv_at hl 0 rfl) ?_
    refine lv_bipush (v := nI 7) hx hb dX0_mod_10 (by decide) ?_
    refine lv_iadd hx hb dX0_mod_12 ?_
    refine lv_goto (tgt := 17) hx hb dX0_mod_13 (by decide) ?_
    exact e_retI (mod_neg (Int32.not_le.mp c2)) hx hb hr hk dX0_mod_17
set_option maxHeartbeats 4000000 in
/-- inverse(x): the inverse mod 7, 0 of 0 -/
theorem metX0_inverse (l : Launch) (x : Fin 7) : Met l yX0_inverse (ws_ yX0_inverse cX0_inverse 2 (some .int)) ({ frames := 0, cells := 0, slots := 0, locals := 0 }) (va_Pc [.int (nI x.val)] (fun _ => True)) (qR (.int (nI (iv x).val))) 0 0 (fun _ => False) := by
  refine m_of l (by decide) (Nat.le_of_ble_eq_true rfl) (fun p e s m below meth c ls S0 hr hk _ _ hl => ?_)
  have S : CallFix p m c cX0_inverse 2 s _ lw_all RX0 ∧ True := ⟨S0, trivial⟩
  have hx := S0.1
  have hb := S0.2.1
  replace hl : lv_has ls 2 [(0, .int (nI x.val))] := hl
  refine lv_iconst (v := nI 1) hx hb dX0_inverse_0 (by decide) ?_
  refine lv_istore_n (lv' := [(1, .int (nI 1)), (0, .int (nI x.val))]) hx hb dX0_inverse_1 rfl hl (by decide) rfl (fun ls hl => ?_)
  revert ls
  refine lp_ls (I := fun y ls => lv_has ls 2 [(0, .int (nI x.val)), (1, .int (nI y))] ∧ (1 ≤ y ∧ ∀ z, 1 ≤ z → z < y → x.val * z % 7 ≠ 1)) 7 (fun y hi ih ls hI => ?_) (fun ls hI => ?_) 1 (by omega) (fun ls hl => ⟨lv_sub hl [1, 0] rfl, ⟨Nat.le_refl 1, fun z h1 h2 => absurd h2 (by omega)⟩⟩)
  · obtain ⟨hl, hE0⟩ := hI
    obtain ⟨h1, h2⟩ := hE0
    have hxy : x.val * y < 49 := Nat.mul_lt_mul_of_lt_of_lt x.isLt hi
    refine lv_iload_n hx hb dX0_inverse_2 rfl (lv_at hl 1 rfl) ?_
    refine lv_bipush (v := nI 7) hx hb dX0_inverse_3 (by decide) ?_
    refine n_ge (a := y) (b := 7) (by omega) (by omega) hx hb (tgt := 26) dX0_inverse_5 (by decide) (fun d1 => absurd d1 (by omega)) (fun d2 => ?_)
    refine lv_iload_n hx hb dX0_inverse_8 rfl (lv_at hl 0 rfl) ?_
    refine lv_iload_n hx hb dX0_inverse_9 rfl (lv_at hl 1 rfl) ?_
    refine lv_imul hx hb dX0_inverse_10 ?_
    refine lv_topE (y := nI (x.val * y)) (pk_mul x.val y) ?_
    refine lv_bipush (v := nI 7) hx hb dX0_inverse_11 (by decide) ?_
    refine lv_irem hx hb dX0_inverse_13 (by decide) ?_
    refine lv_topE (y := nI ((x.val * y) % 7)) (pk_rem (by omega) (by decide) (by omega)) ?_
    refine lv_iconst (v := nI 1) hx hb dX0_inverse_14 (by decide) ?_
    refine n_ne (a := ((x.val * y) % 7)) (b := 1) (by omega) (by omega) hx hb (tgt := 20) dX0_inverse_15 (by decide) (fun c1 => ?_) (fun c2 => ?_)
    · refine lv_iinc (v := nI (y + 1)) (lv' := [(1, .int (nI (y + 1))), (0, .int (nI x.val))]) hx hb dX0_inverse_20 hl (k := 1) rfl (nI_add y 1) (by decide) rfl (fun ls hl => ?_)
      refine lv_goto (tgt := 2) hx hb dX0_inverse_23 (by decide) ?_
      exact ih ls ⟨lv_sub hl [1, 0] rfl, ⟨by omega, fun z h3 h4 => (Nat.lt_or_ge z y).elim (h2 z h3) (fun h5 => by obtain rfl : z = y := by omega
                                                                                                                   exact c1)⟩⟩
    · refine lv_iload_n hx hb dX0_inverse_18 rfl (lv_at hl 1 rfl) ?_
      exact e_retI (congrArg nI (inv_hit x y hi c2)) hx hb hr hk dX0_inverse_19
  · obtain ⟨hl, hE0⟩ := hI
    refine lv_iload_n hx hb dX0_inverse_2 rfl (lv_at hl 1 rfl) ?_
    refine lv_bipush (v := nI 7) hx hb dX0_inverse_3 (by decide) ?_
    refine n_ge (a := 7) (b := 7) (by omega) (by omega) hx hb (tgt := 26) dX0_inverse_5 (by decide) (fun d1 => ?_) (fun d2 => absurd d2 (by omega))
    refine lv_iconst (v := nI 0) hx hb dX0_inverse_26 (by decide) ?_
    exact e_retI (congrArg nI (inv_no x hE0.2).symm) hx hb hr hk dX0_inverse_27
set_option maxHeartbeats 4000000 in
/-- power(u): 7 to the u -/
theorem metX0_power (l : Launch) (u : Nat) (hu : u < 4) : Met l yX0_power (ws_ yX0_power cX0_power 3 (some .int)) ({ frames := 0, cells := 0, slots := 0, locals := 0 }) (va_Pc [.int (nI u)] (fun _ => True)) (qR (.int (nI (7 ^ u)))) 0 0 (fun _ => False) := by
  refine m_of l (by decide) (Nat.le_of_ble_eq_true rfl) (fun p e s m below meth c ls S0 hr hk _ _ hl => ?_)
  have S : CallFix p m c cX0_power 3 s _ lw_all RX0 ∧ True := ⟨S0, trivial⟩
  have hx := S0.1
  have hb := S0.2.1
  replace hl : lv_has ls 3 [(0, .int (nI u))] := hl
  refine lv_iconst (v := nI 1) hx hb dX0_power_0 (by decide) ?_
  refine lv_istore_n (lv' := [(1, .int (nI 1)), (0, .int (nI u))]) hx hb dX0_power_1 rfl hl (by decide) rfl (fun ls hl => ?_)
  refine lv_iconst (v := nI 0) hx hb dX0_power_2 (by decide) ?_
  refine lv_istore_n (lv' := [(2, .int (nI 0)), (1, .int (nI 1)), (0, .int (nI u))]) hx hb dX0_power_3 rfl hl (by decide) rfl (fun ls hl => ?_)
  revert ls
  refine lp_ls (I := fun i ls => lv_has ls 3 [(0, .int (nI u)), (1, .int (nI (7 ^ i))), (2, .int (nI i))]) u (fun i hi ih ls hl => ?_) (fun ls hl => ?_) 0 (by omega) (fun ls hl => lv_sub hl [2, 1, 0] rfl)
  · refine lv_iload_n hx hb dX0_power_4 rfl (lv_at hl 2 rfl) ?_
    refine lv_iload_n hx hb dX0_power_5 rfl (lv_at hl 0 rfl) ?_
    refine n_ge (a := i) (b := u) (by omega) (by omega) hx hb (tgt := 20) dX0_power_6 (by decide) (fun d1 => absurd d1 (by omega)) (fun d2 => ?_)
    refine lv_iload_n hx hb dX0_power_9 rfl (lv_at hl 1 rfl) ?_
    refine lv_bipush (v := nI 7) hx hb dX0_power_10 (by decide) ?_
    refine lv_imul hx hb dX0_power_12 ?_
    refine lv_topE (y := nI ((7 ^ i) * 7)) (pk_mul (7 ^ i) 7) ?_
    refine lv_istore_n (lv' := [(1, .int (nI ((7 ^ i) * 7))), (0, .int (nI u)), (2, .int (nI i))]) hx hb dX0_power_13 rfl hl (by decide) rfl (fun ls hl => ?_)
    refine lv_iinc (v := nI (i + 1)) (lv' := [(2, .int (nI (i + 1))), (1, .int (nI ((7 ^ i) * 7))), (0, .int (nI u))]) hx hb dX0_power_14 hl (k := 2) rfl (nI_add i 1) (by decide) rfl (fun ls hl => ?_)
    refine lv_goto (tgt := 4) hx hb dX0_power_17 (by decide) ?_
    exact ih ls (lv_sub hl [2, 1, 0] rfl)
  · refine lv_iload_n hx hb dX0_power_4 rfl (lv_at hl 2 rfl) ?_
    refine lv_iload_n hx hb dX0_power_5 rfl (lv_at hl 0 rfl) ?_
    refine n_ge (a := u) (b := u) (by omega) (by omega) hx hb (tgt := 20) dX0_power_6 (by decide) (fun d1 => ?_) (fun d2 => absurd d2 (by omega))
    refine lv_iload_n hx hb dX0_power_20 rfl (lv_at hl 1 rfl) ?_
    exact e_retI rfl hx hb hr hk dX0_power_21
set_option maxHeartbeats 4000000 in
/-- ones(b): how many bits -/
theorem metX0_ones (l : Launch) (b : Nat) (hb6 : b < 64) : Met l yX0_ones (ws_ yX0_ones cX0_ones 3 (some .int)) ({ frames := 0, cells := 0, slots := 0, locals := 0 }) (va_Pc [.int (nI b)] (fun _ => True)) (qR (.int (nI (on1 b 6)))) 0 0 (fun _ => False) := by
  refine m_of l (by decide) (Nat.le_of_ble_eq_true rfl) (fun p e s m below meth c ls S0 hr hk _ _ hl => ?_)
  have S : CallFix p m c cX0_ones 3 s _ lw_all RX0 ∧ True := ⟨S0, trivial⟩
  have hx := S0.1
  have hb := S0.2.1
  replace hl : lv_has ls 3 [(0, .int (nI b))] := hl
  refine lv_iconst (v := nI 0) hx hb dX0_ones_0 (by decide) ?_
  refine lv_istore_n (lv' := [(1, .int (nI 0)), (0, .int (nI b))]) hx hb dX0_ones_1 rfl hl (by decide) rfl (fun ls hl => ?_)
  refine lv_iconst (v := nI 0) hx hb dX0_ones_2 (by decide) ?_
  refine lv_istore_n (lv' := [(2, .int (nI 0)), (1, .int (nI 0)), (0, .int (nI b))]) hx hb dX0_ones_3 rfl hl (by decide) rfl (fun ls hl => ?_)
  revert ls
  refine lp_ls (I := fun e ls => lv_has ls 3 [(0, .int (nI b)), (1, .int (nI (on1 b e))), (2, .int (nI e))]) 6 (fun e hi ih ls hl => ?_) (fun ls hl => ?_) 0 (by omega) (fun ls hl => lv_sub hl [2, 1, 0] rfl)
  · refine lv_iload_n hx hb dX0_ones_4 rfl (lv_at hl 2 rfl) ?_
    refine lv_bipush (v := nI 6) hx hb dX0_ones_5 (by decide) ?_
    refine n_ge (a := e) (b := 6) (by omega) (by omega) hx hb (tgt := 24) dX0_ones_7 (by decide) (fun d1 => absurd d1 (by omega)) (fun d2 => ?_)
    refine lv_iload_n hx hb dX0_ones_10 rfl (lv_at hl 1 rfl) ?_
    refine lv_iload_n hx hb dX0_ones_11 rfl (lv_at hl 0 rfl) ?_
    refine lv_iload_n hx hb dX0_ones_12 rfl (lv_at hl 2 rfl) ?_
    refine lv_ishr hx hb dX0_ones_13 ?_
    refine lv_iconst (v := nI 1) hx hb dX0_ones_14 (by decide) ?_
    refine lv_iand hx hb dX0_ones_15 ?_
    refine lv_topE (y := nI (b / 2 ^ e % 2)) (nb_bit (by omega) (by omega)) ?_
    refine lv_iadd hx hb dX0_ones_16 ?_
    refine lv_topE (y := nI ((on1 b e) + (b / 2 ^ e % 2))) (nI_add (on1 b e) (b / 2 ^ e % 2)) ?_
    refine lv_istore_n (lv' := [(1, .int (nI ((on1 b e) + (b / 2 ^ e % 2)))), (0, .int (nI b)), (2, .int (nI e))]) hx hb dX0_ones_17 rfl hl (by decide) rfl (fun ls hl => ?_)
    refine lv_iinc (v := nI (e + 1)) (lv' := [(2, .int (nI (e + 1))), (1, .int (nI ((on1 b e) + (b / 2 ^ e % 2)))), (0, .int (nI b))]) hx hb dX0_ones_18 hl (k := 2) rfl (nI_add e 1) (by decide) rfl (fun ls hl => ?_)
    refine lv_goto (tgt := 4) hx hb dX0_ones_21 (by decide) ?_
    exact ih ls (lv_sub hl [2, 1, 0] rfl)
  · refine lv_iload_n hx hb dX0_ones_4 rfl (lv_at hl 2 rfl) ?_
    refine lv_bipush (v := nI 6) hx hb dX0_ones_5 (by decide) ?_
    refine n_ge (a := 6) (b := 6) (by omega) (by omega) hx hb (tgt := 24) dX0_ones_7 (by decide) (fun d1 => ?_) (fun d2 => absurd d2 (by omega))
    refine lv_iload_n hx hb dX0_ones_24 rfl (lv_at hl 1 rfl) ?_
    exact e_retI rfl hx hb hr hk dX0_ones_25
end
section
set_option maxRecDepth 100000
/-- e is no equation -/
def noE (n : Nat) (x : Int32) : Bool := decide (x < 0) || decide (nI n ≤ x)
set_option maxHeartbeats 4000000 in
/-- noEquation(x) -/
theorem metX0_noEquation (l : Launch) (E : va_G) (g : Nat → Nat) (n : Nat) (N : Nat → Fin 7) (O D : Nat → Bool) (Rw : Nat → Fin 7) (k : Bool) (K : Nat → Fin 7) (x : Int32) : Met l yX0_noEquation (ws_ yX0_noEquation cX0_noEquation 2 (some .boolean)) ({ frames := 0, cells := 0, slots := 0, locals := 0 }) (va_Pc [.ref (g 0), .int x] (XI E g n N O D Rw k K)) (qR (.int (bI (noE n x)))) 0 0 (fun _ => False) := by
  refine m_of l (by decide) (Nat.le_of_ble_eq_true rfl) (fun p e s m below meth c ls S0 hr hk _ hI0 hl => ?_)
  have S : XC p m c cX0_noEquation 2 s _ E g := ⟨S0, hI0.2.1, hI0.2.2⟩
  have hx := S0.1
  have hb := S0.2.1
  have hX := hI0.1
  replace hl : lv_has ls 2 [(0, .ref (g 0)), (1, .int x)] := hl
  refine lv_iload_n hx hb dX0_noEquation_0 rfl (lv_at hl 1 rfl) ?_
  refine lv_if_lt hx hb (tgt := 12) dX0_noEquation_1 (by decide) (fun c1 => ?_) (fun c2 => ?_)
  · refine lv_iconst (v := nI 1) hx hb dX0_noEquation_12 (by decide) ?_
    refine lv_topE (y := bI true) (by decide) ?_
    refine lv_goto (tgt := 17) hx hb dX0_noEquation_13 (by decide) ?_
    exact e_retZ (by simp [noE, c1]) hx hb hr hk dX0_noEquation_17
  · refine lv_iload_n hx hb dX0_noEquation_4 rfl (lv_at hl 1 rfl) ?_
    refine lv_aload_n hx hb dX0_noEquation_5 rfl (lv_at hl 0 rfl) ?_
    refine x_get0 S hX dX0_noEquation_6 ?_
    refine lv_icmp_lt hx hb (tgt := 16) dX0_noEquation_9 (by decide) (fun c3 => ?_) (fun c4 => ?_)
    · refine lv_iconst (v := nI 0) hx hb dX0_noEquation_16 (by decide) ?_
      refine lv_topE (y := bI false) (by decide) ?_
      exact e_retZ (by simp [noE, c2, Int32.not_le.mpr c3]) hx hb hr hk dX0_noEquation_17
    · refine lv_iconst (v := nI 1) hx hb dX0_noEquation_12 (by decide) ?_
      refine lv_topE (y := bI true) (by decide) ?_
      refine lv_goto (tgt := 17) hx hb dX0_noEquation_13 (by decide) ?_
      exact e_retZ (by simp [noE, c2, Int32.not_lt.mp c4]) hx hb hr hk dX0_noEquation_17
set_option maxHeartbeats 4000000 in
/-- onSet(): the mask of the equations that are on -/
theorem metX0_onSet (l : Launch) (E : va_G) (g : Nat → Nat) (n : Nat) (N : Nat → Fin 7) (O D : Nat → Bool) (Rw : Nat → Fin 7) (k : Bool) (K : Nat → Fin 7) (hn : n ≤ 6) : Met l yX0_onSet (ws_ yX0_onSet cX0_onSet 3 (some .int)) ({ frames := 0, cells := 0, slots := 0, locals := 0 }) (va_Pc [.ref (g 0)] (XI E g n N O D Rw k K)) (qR (.int (nI (onM O n)))) 0 0 (fun _ => False) := by
  refine m_of l (by decide) (Nat.le_of_ble_eq_true rfl) (fun p e s m below meth c ls S0 hr hk _ hI0 hl => ?_)
  have S : XC p m c cX0_onSet 3 s _ E g := ⟨S0, hI0.2.1, hI0.2.2⟩
  have hx := S0.1
  have hb := S0.2.1
  have hX := hI0.1
  replace hl : lv_has ls 3 [(0, .ref (g 0))] := hl
  refine lv_iconst (v := nI 0) hx hb dX0_onSet_0 (by decide) ?_
  refine lv_istore_n (lv' := [(1, .int (nI 0)), (0, .ref (g 0))]) hx hb dX0_onSet_1 rfl hl (by decide) rfl (fun ls hl => ?_)
  refine lv_iconst (v := nI 0) hx hb dX0_onSet_2 (by decide) ?_
  refine lv_istore_n (lv' := [(2, .int (nI 0)), (1, .int (nI 0)), (0, .ref (g 0))]) hx hb dX0_onSet_3 rfl hl (by decide) rfl (fun ls hl => ?_)
  revert ls
  refine lp_ls (I := fun q ls => lv_has ls 3 [(0, .ref (g 0)), (1, .int (nI (onM O q))), (2, .int (nI q))]) n (fun q hi ih ls hl => ?_) (fun ls hl => ?_) 0 (by omega) (fun ls hl => lv_sub hl [2, 1, 0] rfl)
  · refine lv_iload_n hx hb dX0_onSet_4 rfl (lv_at hl 2 rfl) ?_
    refine lv_aload_n hx hb dX0_onSet_5 rfl (lv_at hl 0 rfl) ?_
    refine x_get0 S hX dX0_onSet_6 ?_
    refine n_ge (a := q) (b := n) (by omega) (by omega) hx hb (tgt := 33) dX0_onSet_9 (by decide) (fun d1 => absurd d1 (by omega)) (fun d2 => ?_)
    refine lv_aload_n hx hb dX0_onSet_12 rfl (lv_at hl 0 rfl) ?_
    refine x_get2 S hX dX0_onSet_13 ?_
    refine lv_iload_n hx hb dX0_onSet_16 rfl (lv_at hl 2 rfl) ?_
    refine x_ldO q (by omega) S hX dX0_onSet_17 ?_
    refine b_if_eq (v := (O q)) hx hb (tgt := 27) dX0_onSet_18 (by decide) (fun c1 => ?_) (fun c2 => ?_)
    · replace hl : lv_has ls 3 [(0, .ref (g 0)), (1, .int (nI (onM O (q + 1)))), (2, .int (nI q))] := by rw [show nI (onM O (q + 1)) = nI (onM O q) from by simp [onM, c1]]; exact hl
      refine lv_iinc (v := nI (q + 1)) (lv' := [(2, .int (nI (q + 1))), (0, .ref (g 0)), (1, .int (nI (onM O (q + 1))))]) hx hb dX0_onSet_27 hl (k := 2) rfl (nI_add q 1) (by decide) rfl (fun ls hl => ?_)
      refine lv_goto (tgt := 4) hx hb dX0_onSet_30 (by decide) ?_
      exact ih ls (lv_sub hl [1, 2, 0] rfl)
    · refine lv_iload_n hx hb dX0_onSet_21 rfl (lv_at hl 1 rfl) ?_
      refine lv_iconst (v := nI 1) hx hb dX0_onSet_22 (by decide) ?_
      refine lv_iload_n hx hb dX0_onSet_23 rfl (lv_at hl 2 rfl) ?_
      refine lv_ishl hx hb dX0_onSet_24 ?_
      refine lv_ior hx hb dX0_onSet_25 ?_
      refine lv_topE (y := nI (onM O (q + 1))) (by rw [nb_set (by omega)]; simp [onM, c2]) ?_
      refine lv_istore_n (lv' := [(1, .int (nI (onM O (q + 1)))), (0, .ref (g 0)), (2, .int (nI q))]) hx hb dX0_onSet_26 rfl hl (by decide) rfl (fun ls hl => ?_)
      refine lv_iinc (v := nI (q + 1)) (lv' := [(2, .int (nI (q + 1))), (1, .int (nI (onM O (q + 1)))), (0, .ref (g 0))]) hx hb dX0_onSet_27 hl (k := 2) rfl (nI_add q 1) (by decide) rfl (fun ls hl => ?_)
      refine lv_goto (tgt := 4) hx hb dX0_onSet_30 (by decide) ?_
      exact ih ls (lv_sub hl [2, 1, 0] rfl)
  · refine lv_iload_n hx hb dX0_onSet_4 rfl (lv_at hl 2 rfl) ?_
    refine lv_aload_n hx hb dX0_onSet_5 rfl (lv_at hl 0 rfl) ?_
    refine x_get0 S hX dX0_onSet_6 ?_
    refine n_ge (a := n) (b := n) (by omega) (by omega) hx hb (tgt := 33) dX0_onSet_9 (by decide) (fun d1 => ?_) (fun d2 => absurd d2 (by omega))
    refine lv_iload_n hx hb dX0_onSet_33 rfl (lv_at hl 1 rfl) ?_
    exact e_retI rfl hx hb hr hk dX0_onSet_34
set_option maxHeartbeats 4000000 in
/-- waysFrom(u) -/
theorem metX0_waysFrom (l : Launch) (E : va_G) (g : Nat → Nat) (n : Nat) (N : Nat → Fin 7) (O D : Nat → Bool) (Rw : Nat → Fin 7) (k : Bool) (K : Nat → Fin 7) (u : Nat) (hu : u ≤ 4) : Met l yX0_waysFrom (ws_ yX0_waysFrom cX0_waysFrom 4 (some .int)) ({ frames := 0, cells := 0, slots := 0, locals := 0 }) (va_Pc [.ref (g 0), .int (nI u)] (XI E g n N O D Rw k K)) (qR (.int (nI (wy D u)))) 0 0 (fun _ => False) := by
  refine m_of l (by decide) (Nat.le_of_ble_eq_true rfl) (fun p e s m below meth c ls S0 hr hk _ hI0 hl => ?_)
  have S : XC p m c cX0_waysFrom 4 s _ E g := ⟨S0, hI0.2.1, hI0.2.2⟩
  have hx := S0.1
  have hb := S0.2.1
  have hX := hI0.1
  replace hl : lv_has ls 4 [(0, .ref (g 0)), (1, .int (nI u))] := hl
  refine lv_iconst (v := nI 1) hx hb dX0_waysFrom_0 (by decide) ?_
  refine lv_istore_n (lv' := [(2, .int (nI 1)), (0, .ref (g 0)), (1, .int (nI u))]) hx hb dX0_waysFrom_1 rfl hl (by decide) rfl (fun ls hl => ?_)
  refine lv_iload_n hx hb dX0_waysFrom_2 rfl (lv_at hl 2 rfl) ?_
  refine lv_istore_n (lv' := [(3, .int (nI u)), (2, .int (nI 1)), (0, .ref (g 0)), (1, .int (nI u))]) hx hb dX0_waysFrom_3 rfl hl (by decide) rfl (fun ls hl => ?_)
  replace hl : lv_has ls 4 [(3, .int (nI u)), (2, .int (nI (wyN D u (u - u)))), (0, .ref (g 0)), (1, .int (nI u))] := by rw [show nI (wyN D u (u - u)) = nI 1 from by rw [Nat.sub_self]; rfl]; exact hl
  revert ls
  refine lp_ls (I := fun i ls => lv_has ls 4 [(0, .ref (g 0)), (1, .int (nI u)), (2, .int (nI (wyN D u (i - u)))), (3, .int (nI i))] ∧ u ≤ i) 4 (fun i hi ih ls hI => ?_) (fun ls hI => ?_) u (by omega) (fun ls hl => ⟨lv_sub hl [2, 3, 1, 0] rfl, Nat.le_refl u⟩)
  · obtain ⟨hl, hE0⟩ := hI
    refine lv_iload_n hx hb dX0_waysFrom_4 rfl (lv_at hl 3 rfl) ?_
    refine lv_iconst (v := nI 4) hx hb dX0_waysFrom_5 (by decide) ?_
    refine n_ge (a := i) (b := 4) (by omega) (by omega) hx hb (tgt := 29) dX0_waysFrom_6 (by decide) (fun d1 => absurd d1 (by omega)) (fun d2 => ?_)
    refine lv_aload_n hx hb dX0_waysFrom_9 rfl (lv_at hl 0 rfl) ?_
    refine x_get3 S hX dX0_waysFrom_10 ?_
    refine lv_iload_n hx hb dX0_waysFrom_13 rfl (lv_at hl 3 rfl) ?_
    refine x_ldD i (by omega) S hX dX0_waysFrom_14 ?_
    refine b_if_ne (v := (D i)) hx hb (tgt := 23) dX0_waysFrom_15 (by decide) (fun c1 => ?_) (fun c2 => ?_)
    · replace hl : lv_has ls 4 [(0, .ref (g 0)), (1, .int (nI u)), (2, .int (nI (wyN D u (i + 1 - u)))), (3, .int (nI i))] := by rw [show nI (wyN D u (i + 1 - u)) = nI (wyN D u (i - u)) from by rw [wyN_up D hE0, if_pos c1]]; exact hl
      refine lv_iinc (v := nI (i + 1)) (lv' := [(3, .int (nI (i + 1))), (0, .ref (g 0)), (1, .int (nI u)), (2, .int (nI (wyN D u (i + 1 - u))))]) hx hb dX0_waysFrom_23 hl (k := 3) rfl (nI_add i 1) (by decide) rfl (fun ls hl => ?_)
      refine lv_goto (tgt := 4) hx hb dX0_waysFrom_26 (by decide) ?_
      exact ih ls ⟨lv_sub hl [1, 2, 3, 0] rfl, by omega⟩
    · refine lv_iload_n hx hb dX0_waysFrom_18 rfl (lv_at hl 2 rfl) ?_
      refine lv_bipush (v := nI 7) hx hb dX0_waysFrom_19 (by decide) ?_
      refine lv_imul hx hb dX0_waysFrom_21 ?_
      refine lv_topE (y := nI ((wyN D u (i - u)) * 7)) (pk_mul (wyN D u (i - u)) 7) ?_
      refine lv_topE (y := nI (wyN D u (i + 1 - u))) (by rw [wyN_up D hE0, if_neg (by rw [c2]; decide)]) ?_
      refine lv_istore_n (lv' := [(2, .int (nI (wyN D u (i + 1 - u)))), (0, .ref (g 0)), (1, .int (nI u)), (3, .int (nI i))]) hx hb dX0_waysFrom_22 rfl hl (by decide) rfl (fun ls hl => ?_)
      refine lv_iinc (v := nI (i + 1)) (lv' := [(3, .int (nI (i + 1))), (2, .int (nI (wyN D u (i + 1 - u)))), (0, .ref (g 0)), (1, .int (nI u))]) hx hb dX0_waysFrom_23 hl (k := 3) rfl (nI_add i 1) (by decide) rfl (fun ls hl => ?_)
      refine lv_goto (tgt := 4) hx hb dX0_waysFrom_26 (by decide) ?_
      exact ih ls ⟨lv_sub hl [2, 3, 1, 0] rfl, by omega⟩
  · obtain ⟨hl, hE0⟩ := hI
    refine lv_iload_n hx hb dX0_waysFrom_4 rfl (lv_at hl 3 rfl) ?_
    refine lv_iconst (v := nI 4) hx hb dX0_waysFrom_5 (by decide) ?_
    refine n_ge (a := 4) (b := 4) (by omega) (by omega) hx hb (tgt := 29) dX0_waysFrom_6 (by decide) (fun d1 => ?_) (fun d2 => absurd d2 (by omega))
    refine lv_iload_n hx hb dX0_waysFrom_29 rfl (lv_at hl 2 rfl) ?_
    exact e_retI rfl hx hb hr hk dX0_waysFrom_30
set_option maxHeartbeats 4000000 in
/-- resultOf(u, b) -/
theorem metX0_resultOf (l : Launch) (E : va_G) (g : Nat → Nat) (n : Nat) (N : Nat → Fin 7) (O D : Nat → Bool) (Rw : Nat → Fin 7) (k : Bool) (K : Nat → Fin 7) (u b : Nat) (hu : u < 4) (hb31 : b < 2147483648) : Met l yX0_resultOf (ws_ yX0_resultOf cX0_resultOf 6 (some .int)) ({ frames := 1, cells := 0, slots := 0, locals := 40 }) (va_Pc [.ref (g 0), .int (nI u), .int (nI b)] (XI E g n N O D Rw k K)) (qR (.int (nI (rs Rw u b).val))) 0 0 (fun _ => False) := by
  refine m_of l (by decide) (Nat.le_of_ble_eq_true rfl) (fun p e s m below meth c ls S0 hr hk _ hI0 hl => ?_)
  have S : XC p m c cX0_resultOf 6 s _ E g := ⟨S0, hI0.2.1, hI0.2.2⟩
  have hx := S0.1
  have hb := S0.2.1
  have hX := hI0.1
  replace hl : lv_has ls 6 [(0, .ref (g 0)), (1, .int (nI u)), (2, .int (nI b))] := hl
  refine lv_aload_n hx hb dX0_resultOf_0 rfl (lv_at hl 0 rfl) ?_
  refine x_get4 S hX dX0_resultOf_1 ?_
  refine lv_iload_n hx hb dX0_resultOf_4 rfl (lv_at hl 1 rfl) ?_
  refine lv_iconst (v := nI 5) hx hb dX0_resultOf_5 (by decide) ?_
  refine lv_imul hx hb dX0_resultOf_6 ?_
  refine lv_topE (y := nI (u * 5)) (pk_mul u 5) ?_
  refine lv_iconst (v := nI 4) hx hb dX0_resultOf_7 (by decide) ?_
  refine lv_iadd hx hb dX0_resultOf_8 ?_
  refine lv_topE (y := nI ((u * 5) + 4)) (nI_add (u * 5) 4) ?_
  refine x_ldRw ((u * 5) + 4) (by omega) S hX dX0_resultOf_9 ?_
  refine lv_topE (y := iI (rsN Rw u b 0)) rfl ?_
  refine lv_istore_n (lv' := [(3, .int (iI (rsN Rw u b 0))), (0, .ref (g 0)), (1, .int (nI u)), (2, .int (nI b))]) hx hb dX0_resultOf_10 rfl hl (by decide) rfl (fun ls hl => ?_)
  refine lv_iload_n hx hb dX0_resultOf_11 rfl (lv_at hl 3 rfl) ?_
  refine lv_istore (lv' := [(4, .int (nI b)), (3, .int (iI (rsN Rw u b 0))), (0, .ref (g 0)), (1, .int (nI u)), (2, .int (nI b))]) hx hb dX0_resultOf_12 hl (by decide) rfl (fun ls hl => ?_)
  refine lv_iconst (v := nI 0) hx hb dX0_resultOf_14 (by decide) ?_
  refine lv_istore (lv' := [(5, .int (nI 0)), (4, .int (nI b)), (3, .int (iI (rsN Rw u b 0))), (0, .ref (g 0)), (1, .int (nI u)), (2, .int (nI b))]) hx hb dX0_resultOf_15 hl (by decide) rfl (fun ls hl => ?_)
  replace hl : lv_has ls 6 [(5, .int (nI 0)), (4, .int (nI (b / 7 ^ 0))), (3, .int (iI (rsN Rw u b 0))), (0, .ref (g 0)), (1, .int (nI u)), (2, .int (nI b))] := by rw [show nI (b / 7 ^ 0) = nI b from by rw [Nat.pow_zero, Nat.div_one]]; exact hl
  revert ls
  refine lp_ls (I := fun i ls => lv_has ls 6 [(0, .ref (g 0)), (1, .int (nI u)), (2, .int (nI b)), (3, .int (iI (rsN Rw u b i))), (4, .int (nI (b / 7 ^ i))), (5, .int (nI i))]) u (fun i hi ih ls hl => ?_) (fun ls hl => ?_) 0 (by omega) (fun ls hl => lv_sub hl [3, 4, 5, 2, 1, 0] rfl)
  · have hbi : b / 7 ^ i ≤ b := Nat.div_le_self _ _
    refine lv_iload hx hb dX0_resultOf_17 (lv_at hl 5 rfl) ?_
    refine lv_iload_n hx hb dX0_resultOf_19 rfl (lv_at hl 1 rfl) ?_
    refine n_ge (a := i) (b := u) (by omega) (by omega) hx hb (tgt := 56) dX0_resultOf_20 (by decide) (fun d1 => absurd d1 (by omega)) (fun d2 => ?_)
    refine lv_iload_n hx hb dX0_resultOf_23 rfl (lv_at hl 3 rfl) ?_
    refine lv_aload_n hx hb dX0_resultOf_24 rfl (lv_at hl 0 rfl) ?_
    refine x_get4 S hX dX0_resultOf_25 ?_
    refine lv_iload_n hx hb dX0_resultOf_28 rfl (lv_at hl 1 rfl) ?_
    refine lv_iconst (v := nI 5) hx hb dX0_resultOf_29 (by decide) ?_
    refine lv_imul hx hb dX0_resultOf_30 ?_
    refine lv_topE (y := nI (u * 5)) (pk_mul u 5) ?_
    refine lv_iload hx hb dX0_resultOf_31 (lv_at hl 5 rfl) ?_
    refine lv_iadd hx hb dX0_resultOf_33 ?_
    refine lv_topE (y := nI ((u * 5) + i)) (nI_add (u * 5) i) ?_
    refine x_ldRw ((u * 5) + i) (by omega) S hX dX0_resultOf_34 ?_
    refine lv_iload hx hb dX0_resultOf_35 (lv_at hl 4 rfl) ?_
    refine lv_bipush (v := nI 7) hx hb dX0_resultOf_37 (by decide) ?_
    refine lv_irem hx hb dX0_resultOf_39 (by decide) ?_
    refine lv_topE (y := nI ((b / 7 ^ i) % 7)) (pk_rem (by omega) (by decide) (by omega)) ?_
    refine lv_imul hx hb dX0_resultOf_40 ?_
    refine lv_topE (y := nI (((Rw ((u * 5) + i)).val) * ((b / 7 ^ i) % 7))) (pk_mul ((Rw ((u * 5) + i)).val) ((b / 7 ^ i) % 7)) ?_
    refine lv_isub hx hb dX0_resultOf_41 ?_
    refine lv_topE (y := iI (rsN Rw u b (i + 1))) (rs_step Rw u b i) ?_
    refine lv_istore_n (lv' := [(3, .int (iI (rsN Rw u b (i + 1)))), (0, .ref (g 0)), (1, .int (nI u)), (2, .int (nI b)), (4, .int (nI (b / 7 ^ i))), (5, .int (nI i))]) hx hb dX0_resultOf_42 rfl hl (by decide) rfl (fun ls hl => ?_)
    refine lv_iload hx hb dX0_resultOf_43 (lv_at hl 4 rfl) ?_
    refine lv_bipush (v := nI 7) hx hb dX0_resultOf_45 (by decide) ?_
    refine lv_idiv hx hb dX0_resultOf_47 (by decide) ?_
    refine lv_topE (y := nI ((b / 7 ^ i) / 7)) (pk_div (by omega) (by decide) (by omega)) ?_
    refine lv_topE (y := nI (b / 7 ^ (i + 1))) (congrArg nI (dv_up b i)) ?_
    refine lv_istore (lv' := [(4, .int (nI (b / 7 ^ (i + 1)))), (3, .int (iI (rsN Rw u b (i + 1)))), (0, .ref (g 0)), (1, .int (nI u)), (2, .int (nI b)), (5, .int (nI i))]) hx hb dX0_resultOf_48 hl (by decide) rfl (fun ls hl => ?_)
    refine lv_iinc (v := nI (i + 1)) (lv' := [(5, .int (nI (i + 1))), (4, .int (nI (b / 7 ^ (i + 1)))), (3, .int (iI (rsN Rw u b (i + 1)))), (0, .ref (g 0)), (1, .int (nI u)), (2, .int (nI b))]) hx hb dX0_resultOf_50 hl (k := 5) rfl (nI_add i 1) (by decide) rfl (fun ls hl => ?_)
    refine lv_goto (tgt := 17) hx hb dX0_resultOf_53 (by decide) ?_
    exact ih ls (lv_sub hl [3, 4, 5, 2, 1, 0] rfl)
  · refine lv_iload hx hb dX0_resultOf_17 (lv_at hl 5 rfl) ?_
    refine lv_iload_n hx hb dX0_resultOf_19 rfl (lv_at hl 1 rfl) ?_
    refine n_ge (a := u) (b := u) (by omega) (by omega) hx hb (tgt := 56) dX0_resultOf_20 (by decide) (fun d1 => ?_) (fun d2 => absurd d2 (by omega))
    refine lv_iload_n hx hb dX0_resultOf_56 rfl (lv_at hl 3 rfl) ?_
    refine s_call 1 (rest := []) (metX0_mod l (iI (rsN Rw u b u))) S.1 (lw_S q67 q68 q20 q69) rfl rfl (by decide +kernel) ⟨Nat.le_of_ble_eq_true rfl, Nat.le_of_ble_eq_true rfl⟩ rfl hl.1 rfl (Nat.le_of_ble_eq_true rfl) ⟨Nat.zero_le _, Nat.zero_le _⟩ dX0_resultOf_57 ?_
    exact e_retI (rs_end Rw b (by omega)) hx hb hr hk dX0_resultOf_60
set_option maxHeartbeats 4000000 in
/-- varies(u) -/
theorem metX0_varies (l : Launch) (E : va_G) (g : Nat → Nat) (n : Nat) (N : Nat → Fin 7) (O D : Nat → Bool) (Rw : Nat → Fin 7) (k : Bool) (K : Nat → Fin 7) (u : Nat) (hu : u < 4) : Met l yX0_varies (ws_ yX0_varies cX0_varies 3 (some .boolean)) ({ frames := 0, cells := 0, slots := 0, locals := 0 }) (va_Pc [.ref (g 0), .int (nI u)] (XI E g n N O D Rw k K)) (qR (.int (bI (vary D Rw u)))) 0 0 (fun _ => False) := by
  refine m_of l (by decide) (Nat.le_of_ble_eq_true rfl) (fun p e s m below meth c ls S0 hr hk _ hI0 hl => ?_)
  have S : XC p m c cX0_varies 3 s _ E g := ⟨S0, hI0.2.1, hI0.2.2⟩
  have hx := S0.1
  have hb := S0.2.1
  have hX := hI0.1
  replace hl : lv_has ls 3 [(0, .ref (g 0)), (1, .int (nI u))] := hl
  refine lv_aload_n hx hb dX0_varies_0 rfl (lv_at hl 0 rfl) ?_
  refine x_get3 S hX dX0_varies_1 ?_
  refine lv_iload_n hx hb dX0_varies_4 rfl (lv_at hl 1 rfl) ?_
  refine x_ldD u (by omega) S hX dX0_varies_5 ?_
  refine b_if_ne (v := (D u)) hx hb (tgt := 11) dX0_varies_6 (by decide) (fun c1 => ?_) (fun c2 => ?_)
  · refine lv_iconst (v := nI 0) hx hb dX0_varies_11 (by decide) ?_
    refine lv_istore_n (lv' := [(2, .int (nI 0)), (0, .ref (g 0)), (1, .int (nI u))]) hx hb dX0_varies_12 rfl hl (by decide) rfl (fun ls hl => ?_)
    revert ls
    refine lp_ls (I := fun i ls => lv_has ls 3 [(0, .ref (g 0)), (1, .int (nI u)), (2, .int (nI i))] ∧ vaN Rw u i = false) u (fun i hi ih ls hI => ?_) (fun ls hI => ?_) 0 (by omega) (fun ls hl => ⟨lv_sub hl [1, 2, 0] rfl, rfl⟩)
    · obtain ⟨hl, hE0⟩ := hI
      refine lv_iload_n hx hb dX0_varies_13 rfl (lv_at hl 2 rfl) ?_
      refine lv_iload_n hx hb dX0_varies_14 rfl (lv_at hl 1 rfl) ?_
      refine n_ge (a := i) (b := u) (by omega) (by omega) hx hb (tgt := 39) dX0_varies_15 (by decide) (fun d1 => absurd d1 (by omega)) (fun d2 => ?_)
      refine lv_aload_n hx hb dX0_varies_18 rfl (lv_at hl 0 rfl) ?_
      refine x_get4 S hX dX0_varies_19 ?_
      refine lv_iload_n hx hb dX0_varies_22 rfl (lv_at hl 1 rfl) ?_
      refine lv_iconst (v := nI 5) hx hb dX0_varies_23 (by decide) ?_
      refine lv_imul hx hb dX0_varies_24 ?_
      refine lv_topE (y := nI (u * 5)) (pk_mul u 5) ?_
      refine lv_iload_n hx hb dX0_varies_25 rfl (lv_at hl 2 rfl) ?_
      refine lv_iadd hx hb dX0_varies_26 ?_
      refine lv_topE (y := nI ((u * 5) + i)) (nI_add (u * 5) i) ?_
      refine x_ldRw ((u * 5) + i) (by omega) S hX dX0_varies_27 ?_
      refine z_if_eq (v := (Rw ((u * 5) + i))) hx hb (tgt := 33) dX0_varies_28 (by decide) (fun c3 => ?_) (fun c4 => ?_)
      · refine lv_iinc (v := nI (i + 1)) (lv' := [(2, .int (nI (i + 1))), (0, .ref (g 0)), (1, .int (nI u))]) hx hb dX0_varies_33 hl (k := 2) rfl (nI_add i 1) (by decide) rfl (fun ls hl => ?_)
        refine lv_goto (tgt := 13) hx hb dX0_varies_36 (by decide) ?_
        exact ih ls ⟨lv_sub hl [1, 2, 0] rfl, by simp [vaN, hE0, c3]⟩
      · have hv : ∀ j, vaN Rw u (i + 1 + j) = true := fun j => by induction j with
          | zero => simp [vaN, c4]
          | succ j ih2 => rw [show i + 1 + (j + 1) = (i + 1 + j) + 1 by omega]; simp [vaN, ih2]
        refine lv_iconst (v := nI 1) hx hb dX0_varies_31 (by decide) ?_
        refine lv_topE (y := bI true) (by decide) ?_
        exact e_retZ (by have h9 := hv (u - (i + 1)); rw [show i + 1 + (u - (i + 1)) = u by omega] at h9; simp [vary, h9]) hx hb hr hk dX0_varies_32
    · obtain ⟨hl, hE0⟩ := hI
      refine lv_iload_n hx hb dX0_varies_13 rfl (lv_at hl 2 rfl) ?_
      refine lv_iload_n hx hb dX0_varies_14 rfl (lv_at hl 1 rfl) ?_
      refine n_ge (a := u) (b := u) (by omega) (by omega) hx hb (tgt := 39) dX0_varies_15 (by decide) (fun d1 => ?_) (fun d2 => absurd d2 (by omega))
      refine lv_iconst (v := nI 0) hx hb dX0_varies_39 (by decide) ?_
      refine lv_topE (y := bI false) (by decide) ?_
      exact e_retZ (by simp [vary, c1, hE0]) hx hb hr hk dX0_varies_40
  · refine lv_iconst (v := nI 1) hx hb dX0_varies_9 (by decide) ?_
    refine lv_topE (y := bI true) (by decide) ?_
    exact e_retZ (by simp [vary, c2]) hx hb hr hk dX0_varies_10
end
section
set_option maxRecDepth 100000
set_option maxHeartbeats 4000000 in
/-- load(q) -/
theorem metX0_load (l : Launch) (E : va_G) (g : Nat → Nat) (n : Nat) (N : Nat → Fin 7) (O D : Nat → Bool) (Rw : Nat → Fin 7) (k : Bool) (K : Nat → Fin 7) (q : Nat) (hq : q < 6) : Met l yX0_load (ws_ yX0_load cX0_load 3 none) ({ frames := 0, cells := 0, slots := 0, locals := 0 }) (va_Pc [.ref (g 0), .int (nI q)] (XI E g n N O D Rw k K)) (qM none (XI E g n N O D Rw k (fun j => N (q * 5 + j))) (xA g)) 0 0 (xA g) := by
  refine m_ofH l (by decide) (Nat.le_of_ble_eq_true rfl) (fun p e s m below meth c ls H locs hHe hS0 S0 hr hk _ hI0 hl => ?_)
  have S : XC p m c cX0_load 3 s _ E g := ⟨S0, hI0.2.1, hI0.2.2⟩
  have hx := S0.1
  have hb := S0.2.1
  have hX : XH E g s.heap n N O D Rw k K H locs := ⟨by rw [hHe]; exact hI0.1, hS0 _⟩
  clear hHe hS0
  replace hl : lv_has ls 3 [(0, .ref (g 0)), (1, .int (nI q))] := hl
  refine lv_iconst (v := nI 0) hx hb dX0_load_0 (by decide) ?_
  refine lv_istore_n (lv' := [(2, .int (nI 0)), (0, .ref (g 0)), (1, .int (nI q))]) hx hb dX0_load_1 rfl hl (by decide) rfl (fun ls hl => ?_)
  revert ls
  revert H locs
  refine lp_H (I := fun i H locs ls => XH E g s.heap n N O D Rw k (ldK N K q i) H locs ∧ lv_has ls 3 [(0, .ref (g 0)), (1, .int (nI q)), (2, .int (nI i))]) 5 (fun i hi ih H locs ls hI => ?_) (fun H locs ls hI => ?_) 0 (by omega) (fun H locs ls hX hl => ⟨hX.eqK (fun j _ => by simp [ldK]), lv_sub hl [1, 2, 0] rfl⟩)
  · obtain ⟨hX, hl⟩ := hI
    refine lv_iload_n hx hb dX0_load_2 rfl (lv_at hl 2 rfl) ?_
    refine lv_iconst (v := nI 5) hx hb dX0_load_3 (by decide) ?_
    refine n_ge (a := i) (b := 5) (by omega) (by omega) hx hb (tgt := 29) dX0_load_4 (by decide) (fun d1 => absurd d1 (by omega)) (fun d2 => ?_)
    refine lv_aload_n hx hb dX0_load_7 rfl (lv_at hl 0 rfl) ?_
    refine x_get6 S hX.1 dX0_load_8 ?_
    refine lv_iload_n hx hb dX0_load_11 rfl (lv_at hl 2 rfl) ?_
    refine lv_aload_n hx hb dX0_load_12 rfl (lv_at hl 0 rfl) ?_
    refine x_get1 S hX.1 dX0_load_13 ?_
    refine lv_iload_n hx hb dX0_load_16 rfl (lv_at hl 1 rfl) ?_
    refine lv_iconst (v := nI 5) hx hb dX0_load_17 (by decide) ?_
    refine lv_imul hx hb dX0_load_18 ?_
    refine lv_topE (y := nI (q * 5)) (pk_mul q 5) ?_
    refine lv_iload_n hx hb dX0_load_19 rfl (lv_at hl 2 rfl) ?_
    refine lv_iadd hx hb dX0_load_20 ?_
    refine lv_topE (y := nI ((q * 5) + i)) (nI_add (q * 5) i) ?_
    refine x_ldN ((q * 5) + i) (by omega) S hX.1 dX0_load_21 ?_
    refine x_stK i (by omega) (N ((q * 5) + i)) (ldK N K q (i + 1)) (ldK_up N K q i) S hX dX0_load_22 (fun H locs hX => ?_)
    refine lv_iinc (v := nI (i + 1)) (lv' := [(2, .int (nI (i + 1))), (0, .ref (g 0)), (1, .int (nI q))]) hx hb dX0_load_23 hl (k := 2) rfl (nI_add i 1) (by decide) rfl (fun ls hl => ?_)
    refine lv_goto (tgt := 2) hx hb dX0_load_26 (by decide) ?_
    exact ih H locs ls ⟨hX, lv_sub hl [1, 2, 0] rfl⟩
  · obtain ⟨hX, hl⟩ := hI
    refine lv_iload_n hx hb dX0_load_2 rfl (lv_at hl 2 rfl) ?_
    refine lv_iconst (v := nI 5) hx hb dX0_load_3 (by decide) ?_
    refine n_ge (a := 5) (b := 5) (by omega) (by omega) hx hb (tgt := 29) dX0_load_4 (by decide) (fun d1 => ?_) (fun d2 => absurd d2 (by omega))
    replace hX := hX.eqK (K' := fun j => N (q * 5 + j)) (fun j hj => by simp [ldK, hj])
    exact f_ret (fun t ht hW => XH.to S hX.1 ht hW) hX.2 hx hb hr hk dX0_load_29
set_option maxHeartbeats 4000000 in
/-- reduce() -/
theorem metX0_reduce (l : Launch) (E : va_G) (g : Nat → Nat) (n : Nat) (N : Nat → Fin 7) (O D : Nat → Bool) (Rw : Nat → Fin 7) (k : Bool) (K : Nat → Fin 7)  : Met l yX0_reduce (ws_ yX0_reduce cX0_reduce 5 (some .int)) ({ frames := 1, cells := 0, slots := 0, locals := 40 }) (va_Pc [.ref (g 0)] (XI E g n N O D Rw k K)) (qM (some (.int (tI (red D Rw K).2))) (XI E g n N O D Rw k ((red D Rw K).1)) (xA g)) 0 0 (xA g) := by
  refine m_ofH l (by decide) (Nat.le_of_ble_eq_true rfl) (fun p e s m below meth c ls H locs hHe hS0 S0 hr hk _ hI0 hl => ?_)
  have S : XC p m c cX0_reduce 5 s _ E g := ⟨S0, hI0.2.1, hI0.2.2⟩
  have hx := S0.1
  have hb := S0.2.1
  have hX : XH E g s.heap n N O D Rw k K H locs := ⟨by rw [hHe]; exact hI0.1, hS0 _⟩
  clear hHe hS0
  replace hl : lv_has ls 5 [(0, .ref (g 0))] := hl
  refine lv_iconst (v := (-1)) hx hb dX0_reduce_0 (by decide) ?_
  refine lv_topE (y := tI none) rfl ?_
  refine lv_istore_n (lv' := [(1, .int (tI none)), (0, .ref (g 0))]) hx hb dX0_reduce_1 rfl hl (by decide) rfl (fun ls hl => ?_)
  refine lv_iconst (v := nI 3) hx hb dX0_reduce_2 (by decide) ?_
  refine lv_istore_n (lv' := [(2, .int (nI 3)), (1, .int (tI none)), (0, .ref (g 0))]) hx hb dX0_reduce_3 rfl hl (by decide) rfl (fun ls hl => ?_)
  revert ls
  revert H locs
  refine lp_dn (I := fun (i : Nat) H locs ls => ∃ z : (Nat → Fin 7) × Option Nat, XH E g s.heap n N O D Rw k z.1 H locs ∧ lv_has ls 5 [(0, .ref (g 0)), (1, .int (tI z.2)), (2, .int (iI ((i : Int) - 1)))] ∧ rN D Rw i z = red D Rw K ∧ ∀ x, z.2 = some x → x < 4) 4 (fun u hu ih H locs ls hI => ?_) (fun H locs ls hI => ?_) (fun H locs ls hX hl => ⟨(K, none), hX, lv_sub hl [2, 1, 0] rfl, rfl, fun x h => by cases h⟩)
  · obtain ⟨z, hX, hl, hz, hz4⟩ := hI
    replace hl : lv_has ls 5 [(0, .ref (g 0)), (1, .int (tI z.2)), (2, .int (nI u))] := by rw [show nI u = iI (((u + 1 : Nat) : Int) - 1) by rw [iI_nI]; congr 1; omega]; exact hl
    refine lv_iload_n hx hb dX0_reduce_4 rfl (lv_at hl 2 rfl) ?_
    refine lv_if_lt hx hb (tgt := 93) dX0_reduce_5 (by decide) (fun d1 => absurd d1 (nI_pos (by omega))) (fun d2 => ?_)
    refine lv_aload_n hx hb dX0_reduce_8 rfl (lv_at hl 0 rfl) ?_
    refine x_get6 S hX.1 dX0_reduce_9 ?_
    refine lv_iload_n hx hb dX0_reduce_12 rfl (lv_at hl 2 rfl) ?_
    refine x_ldK u (by omega) S hX.1 dX0_reduce_13 ?_
    refine lv_istore_n (lv' := [(3, .int (nI (z.1 u).val)), (0, .ref (g 0)), (1, .int (tI z.2)), (2, .int (nI u))]) hx hb dX0_reduce_14 rfl hl (by decide) rfl (fun ls hl => ?_)
    refine lv_iload_n hx hb dX0_reduce_15 rfl (lv_at hl 0 rfl) ?_
    refine z_if_eq (v := (z.1 u)) hx hb (tgt := 77) dX0_reduce_16 (by decide) (fun c1 => ?_) (fun c2 => ?_)
    · refine lv_iload_n hx hb dX0_reduce_77 rfl (lv_at hl 0 rfl) ?_
      refine z_if_eq (v := (z.1 u)) hx hb (tgt := 87) dX0_reduce_78 (by decide) (fun c3 => ?_) (fun c4 => ?_)
      · refine lv_iinc (v := iI ((u : Int) - 1)) (lv' := [(2, .int (iI ((u : Int) - 1))), (3, .int (nI (z.1 u).val)), (0, .ref (g 0)), (1, .int (tI z.2))]) hx hb dX0_reduce_87 hl (k := 3) rfl (by rw [iI_nI]; exact (Int32.ofInt_add _ _).symm) (by decide) rfl (fun ls hl => ?_)
        refine lv_goto (tgt := 4) hx hb dX0_reduce_90 (by decide) ?_
        exact ih H locs ls ⟨z, hX, lv_sub hl [2, 3, 0] rfl, by rw [← hz]; show _ = rN D Rw u (rStep D Rw u z); rw [show rStep D Rw u z = z by simp [rStep, c1]], hz4⟩
      · exact absurd c1 c4
    · refine lv_aload_n hx hb dX0_reduce_19 rfl (lv_at hl 1 rfl) ?_
      refine x_get3 S hX.1 dX0_reduce_20 ?_
      refine lv_iload_n hx hb dX0_reduce_23 rfl (lv_at hl 3 rfl) ?_
      refine x_ldD u (by omega) S hX.1 dX0_reduce_24 ?_
      refine b_if_eq (v := (D u)) hx hb (tgt := 77) dX0_reduce_25 (by decide) (fun c3 => ?_) (fun c4 => ?_)
      · refine lv_iload_n hx hb dX0_reduce_77 rfl (lv_at hl 0 rfl) ?_
        refine z_if_eq (v := (z.1 u)) hx hb (tgt := 87) dX0_reduce_78 (by decide) (fun c5 => ?_) (fun c6 => ?_)
        · exact absurd c5 c2
        · refine lv_iload_n hx hb dX0_reduce_81 rfl (lv_at hl 2 rfl) ?_
          refine lv_if_ge hx hb (tgt := 87) dX0_reduce_82 (by decide) (fun c7 => ?_) (fun c8 => ?_)
          · refine lv_iinc (v := iI ((u : Int) - 1)) (lv' := [(2, .int (iI ((u : Int) - 1))), (3, .int (nI (z.1 u).val)), (0, .ref (g 0)), (1, .int (tI z.2))]) hx hb dX0_reduce_87 hl (k := 3) rfl (by rw [iI_nI]; exact (Int32.ofInt_add _ _).symm) (by decide) rfl (fun ls hl => ?_)
            refine lv_goto (tgt := 4) hx hb dX0_reduce_90 (by decide) ?_
            exact ih H locs ls ⟨z, hX, lv_sub hl [2, 3, 0] rfl, by rw [← hz]; show _ = rN D Rw u (rStep D Rw u z); rw [show rStep D Rw u z = z by have h9 : ¬ z.2 = none := fun h9 => absurd ((tI_neg hz4).mpr h9) (Int32.not_lt.mpr c7); simp [rStep, c3, h9]], hz4⟩
          · have h9 : z.2 = none := (tI_neg hz4).mp (Int32.not_le.mp c8)
            refine lv_iload_n hx hb dX0_reduce_85 rfl (lv_at hl 3 rfl) ?_
            refine lv_topE (y := tI (some u)) rfl ?_
            refine lv_istore_n (lv' := [(1, .int (tI (some u))), (3, .int (nI (z.1 u).val)), (0, .ref (g 0)), (2, .int (nI u))]) hx hb dX0_reduce_86 rfl hl (by decide) rfl (fun ls hl => ?_)
            refine lv_iinc (v := iI ((u : Int) - 1)) (lv' := [(2, .int (iI ((u : Int) - 1))), (1, .int (tI (some u))), (3, .int (nI (z.1 u).val)), (0, .ref (g 0))]) hx hb dX0_reduce_87 hl (k := 3) rfl (by rw [iI_nI]; exact (Int32.ofInt_add _ _).symm) (by decide) rfl (fun ls hl => ?_)
            refine lv_goto (tgt := 4) hx hb dX0_reduce_90 (by decide) ?_
            exact ih H locs ls ⟨(z.1, some u), hX, lv_sub hl [3, 1, 0] rfl, by rw [← hz]; show _ = rN D Rw u (rStep D Rw u z); rw [show rStep D Rw u z = (z.1, some u) by simp [rStep, c2, c3, h9]], fun x h => by cases h; exact hu⟩
      · refine lv_iconst (v := nI 0) hx hb dX0_reduce_28 (by decide) ?_
        refine lv_istore (lv' := [(4, .int (nI 0)), (3, .int (nI (z.1 u).val)), (0, .ref (g 0)), (1, .int (tI z.2)), (2, .int (nI u))]) hx hb dX0_reduce_29 hl (by decide) rfl (fun ls hl => ?_)
        revert ls
        revert H locs
        refine lp_H (I := fun i H locs ls => XH E g s.heap n N O D Rw k (el Rw u (z.1 u) z.1 i) H locs ∧ lv_has ls 5 [(0, .ref (g 0)), (1, .int (tI z.2)), (2, .int (nI u)), (3, .int (nI (z.1 u).val)), (4, .int (nI i))]) 5 (fun i hi ih2 H locs ls hI => ?_) (fun H locs ls hI => ?_) 0 (by omega) (fun H locs ls hX hl => ⟨hX.eqK (fun j _ => by simp [el]), lv_sub hl [2, 3, 4, 1, 0] rfl⟩)
        · obtain ⟨hX, hl⟩ := hI
          refine lv_iload hx hb dX0_reduce_31 (lv_at hl 4 rfl) ?_
          refine lv_iconst (v := nI 5) hx hb dX0_reduce_33 (by decide) ?_
          refine n_ge (a := i) (b := 5) (by omega) (by omega) hx hb (tgt := 74) dX0_reduce_34 (by decide) (fun d1 => absurd d1 (by omega)) (fun d2 => ?_)
          refine lv_aload_n hx hb dX0_reduce_37 rfl (lv_at hl 0 rfl) ?_
          refine x_get6 S hX.1 dX0_reduce_38 ?_
          refine lv_iload hx hb dX0_reduce_41 (lv_at hl 4 rfl) ?_
          refine lv_aload_n hx hb dX0_reduce_43 rfl (lv_at hl 0 rfl) ?_
          refine x_get6 S hX.1 dX0_reduce_44 ?_
          refine lv_iload hx hb dX0_reduce_47 (lv_at hl 4 rfl) ?_
          refine x_ldK i (by omega) S hX.1 dX0_reduce_49 ?_
          rw [el_at]
          refine lv_iload_n hx hb dX0_reduce_50 rfl (lv_at hl 3 rfl) ?_
          refine lv_aload_n hx hb dX0_reduce_51 rfl (lv_at hl 0 rfl) ?_
          refine x_get4 S hX.1 dX0_reduce_52 ?_
          refine lv_iload_n hx hb dX0_reduce_55 rfl (lv_at hl 2 rfl) ?_
          refine lv_iconst (v := nI 5) hx hb dX0_reduce_56 (by decide) ?_
          refine lv_imul hx hb dX0_reduce_57 ?_
          refine lv_topE (y := nI (u * 5)) (pk_mul u 5) ?_
          refine lv_iload hx hb dX0_reduce_58 (lv_at hl 4 rfl) ?_
          refine lv_iadd hx hb dX0_reduce_60 ?_
          refine lv_topE (y := nI ((u * 5) + i)) (nI_add (u * 5) i) ?_
          refine x_ldRw ((u * 5) + i) (by omega) S hX.1 dX0_reduce_61 ?_
          refine lv_imul hx hb dX0_reduce_62 ?_
          refine lv_topE (y := nI (((z.1 u).val) * ((Rw ((u * 5) + i)).val))) (pk_mul ((z.1 u).val) ((Rw ((u * 5) + i)).val)) ?_
          refine lv_isub hx hb dX0_reduce_63 ?_
          refine s_call 1 (rest := [.int (nI i), .ref (g 5)]) (metX0_mod l (nI (z.1 i).val - nI ((z.1 u).val * (Rw (u * 5 + i)).val))) S.1 (lw_S q67 q68 q20 q69) rfl rfl (by decide +kernel) ⟨Nat.le_of_ble_eq_true rfl, Nat.le_of_ble_eq_true rfl⟩ rfl hl.1 rfl (Nat.le_of_ble_eq_true rfl) ⟨Nat.zero_le _, Nat.zero_le _⟩ dX0_reduce_64 ?_
          refine lv_topE (y := nI (z.1 i - z.1 u * Rw (u * 5 + i)).val) (by rw [m7_sub]) ?_
          refine x_stK i (by omega) (z.1 i - z.1 u * Rw (u * 5 + i)) (el Rw u (z.1 u) z.1 (i + 1)) (el_up Rw u (z.1 u) z.1 i) S hX dX0_reduce_67 (fun H locs hX => ?_)
          refine lv_iinc (v := nI (i + 1)) (lv' := [(4, .int (nI (i + 1))), (0, .ref (g 0)), (1, .int (tI z.2)), (2, .int (nI u)), (3, .int (nI (z.1 u).val))]) hx hb dX0_reduce_68 hl (k := 4) rfl (nI_add i 1) (by decide) rfl (fun ls hl => ?_)
          refine lv_goto (tgt := 31) hx hb dX0_reduce_71 (by decide) ?_
          exact ih2 H locs ls ⟨hX, lv_sub hl [1, 2, 3, 4, 0] rfl⟩
        · obtain ⟨hX, hl⟩ := hI
          refine lv_iload hx hb dX0_reduce_31 (lv_at hl 4 rfl) ?_
          refine lv_iconst (v := nI 5) hx hb dX0_reduce_33 (by decide) ?_
          refine n_ge (a := 5) (b := 5) (by omega) (by omega) hx hb (tgt := 74) dX0_reduce_34 (by decide) (fun d1 => ?_) (fun d2 => absurd d2 (by omega))
          refine lv_goto (tgt := 87) hx hb dX0_reduce_74 (by decide) ?_
          refine lv_iinc (v := iI ((u : Int) - 1)) (lv' := [(2, .int (iI ((u : Int) - 1))), (0, .ref (g 0)), (1, .int (tI z.2)), (3, .int (nI (z.1 u).val)), (4, .int (nI 5))]) hx hb dX0_reduce_87 hl (k := 2) rfl (by rw [iI_nI]; exact (Int32.ofInt_add _ _).symm) (by decide) rfl (fun ls hl => ?_)
          refine lv_goto (tgt := 4) hx hb dX0_reduce_90 (by decide) ?_
          exact ih H locs ls ⟨(el Rw u (z.1 u) z.1 5, z.2), hX, lv_sub hl [1, 2, 0] rfl, by rw [← hz]; show _ = rN D Rw u (rStep D Rw u z); rw [show rStep D Rw u z = (el Rw u (z.1 u) z.1 5, z.2) by simp [rStep, c2, c4]], hz4⟩
  · obtain ⟨z, hX, hl, hz, hz4⟩ := hI
    replace hl : lv_has ls 5 [(0, .ref (g 0)), (1, .int (tI z.2)), (2, .int (-1))] := hl
    refine lv_iload_n hx hb dX0_reduce_4 rfl (lv_at hl 2 rfl) ?_
    refine lv_if_lt hx hb (tgt := 93) dX0_reduce_5 (by decide) (fun d1 => ?_) (fun d2 => absurd d2 (by decide))
    have hz : z = red D Rw K := hz
    subst hz
    refine lv_iload_n hx hb dX0_reduce_93 rfl (lv_at hl 1 rfl) ?_
    exact f_retI rfl (fun t ht hW => XH.to S hX.1 ht hW) hX.2 hx hb hr hk dX0_reduce_94
end
section
set_option maxRecDepth 100000
set_option maxHeartbeats 4000000 in
/-- keep(u) -/
theorem metX0_keep (l : Launch) (E : va_G) (g : Nat → Nat) (n : Nat) (N : Nat → Fin 7) (O D : Nat → Bool) (Rw : Nat → Fin 7) (k : Bool) (K : Nat → Fin 7) (u : Nat) (hu : u < 4) : Met l yX0_keep (ws_ yX0_keep cX0_keep 6 none) ({ frames := 1, cells := 0, slots := 0, locals := 40 }) (va_Pc [.ref (g 0), .int (nI u)] (XI E g n N O D Rw k K)) (qM none (XI E g n N O (va_up D u true) (keepR D Rw K u) k K) (xA g)) 0 0 (xA g) := by
  refine m_ofH l (by decide) (Nat.le_of_ble_eq_true rfl) (fun p e s m below meth c ls H locs hHe hS0 S0 hr hk _ hI0 hl => ?_)
  have S : XC p m c cX0_keep 6 s _ E g := ⟨S0, hI0.2.1, hI0.2.2⟩
  have hx := S0.1
  have hb := S0.2.1
  have hX : XH E g s.heap n N O D Rw k K H locs := ⟨by rw [hHe]; exact hI0.1, hS0 _⟩
  clear hHe hS0
  replace hl : lv_has ls 6 [(0, .ref (g 0)), (1, .int (nI u))] := hl
  refine lv_aload_n hx hb dX0_keep_0 rfl (lv_at hl 0 rfl) ?_
  refine x_get6 S hX.1 dX0_keep_1 ?_
  refine lv_iload_n hx hb dX0_keep_4 rfl (lv_at hl 1 rfl) ?_
  refine x_ldK u (by omega) S hX.1 dX0_keep_5 ?_
  refine s_call 1 (rest := []) (metX0_inverse l (K u)) S.1 (lw_S q106 q107 q20 q108) rfl rfl (by decide +kernel) ⟨Nat.le_of_ble_eq_true rfl, Nat.le_of_ble_eq_true rfl⟩ rfl hl.1 rfl (Nat.le_of_ble_eq_true rfl) ⟨Nat.zero_le _, Nat.zero_le _⟩ dX0_keep_6 ?_
  refine lv_istore_n (lv' := [(2, .int (nI (iv (K u)).val)), (0, .ref (g 0)), (1, .int (nI u))]) hx hb dX0_keep_9 rfl hl (by decide) rfl (fun ls hl => ?_)
  refine lv_aload_n hx hb dX0_keep_10 rfl (lv_at hl 1 rfl) ?_
  refine x_get3 S hX.1 dX0_keep_11 ?_
  refine lv_iload_n hx hb dX0_keep_14 rfl (lv_at hl 2 rfl) ?_
  refine lv_iconst (v := nI 1) hx hb dX0_keep_15 (by decide) ?_
  refine lv_topE (y := bI true) (by decide) ?_
  refine x_stD u (by omega) true (va_up D u true) (fun _ _ => rfl) S hX dX0_keep_16 (fun H locs hX => ?_)
  refine lv_iconst (v := nI 0) hx hb dX0_keep_17 (by decide) ?_
  refine lv_istore_n (lv' := [(3, .int (nI 0)), (2, .int (nI (iv (K u)).val)), (0, .ref (g 0)), (1, .int (nI u))]) hx hb dX0_keep_18 rfl hl (by decide) rfl (fun ls hl => ?_)
  revert ls
  revert H locs
  refine lp_H (I := fun i H locs ls => XH E g s.heap n N O (va_up D u true) (kRow Rw u K (iv (K u)) i) k K H locs ∧ lv_has ls 6 [(0, .ref (g 0)), (1, .int (nI u)), (2, .int (nI (iv (K u)).val)), (3, .int (nI i))]) 5 (fun i hi ih H locs ls hI => ?_) (fun H locs ls hI => ?_) 0 (by omega) (fun H locs ls hX hl => ⟨hX.eqRw (fun j _ => by simp only [kRow, show ¬ (u * 5 ≤ j ∧ j < u * 5 + 0) by omega, if_false]), lv_sub hl [2, 3, 1, 0] rfl⟩)
  · obtain ⟨hX, hl⟩ := hI
    refine lv_iload_n hx hb dX0_keep_19 rfl (lv_at hl 3 rfl) ?_
    refine lv_iconst (v := nI 5) hx hb dX0_keep_20 (by decide) ?_
    refine n_ge (a := i) (b := 5) (by omega) (by omega) hx hb (tgt := 51) dX0_keep_21 (by decide) (fun d1 => absurd d1 (by omega)) (fun d2 => ?_)
    have hm : (K i).val * (iv (K u)).val < 49 := Nat.mul_lt_mul_of_lt_of_lt (K i).isLt (iv (K u)).isLt
    refine lv_aload_n hx hb dX0_keep_24 rfl (lv_at hl 0 rfl) ?_
    refine x_get4 S hX.1 dX0_keep_25 ?_
    refine lv_iload_n hx hb dX0_keep_28 rfl (lv_at hl 1 rfl) ?_
    refine lv_iconst (v := nI 5) hx hb dX0_keep_29 (by decide) ?_
    refine lv_imul hx hb dX0_keep_30 ?_
    refine lv_topE (y := nI (u * 5)) (pk_mul u 5) ?_
    refine lv_iload_n hx hb dX0_keep_31 rfl (lv_at hl 3 rfl) ?_
    refine lv_iadd hx hb dX0_keep_32 ?_
    refine lv_topE (y := nI ((u * 5) + i)) (nI_add (u * 5) i) ?_
    refine lv_aload_n hx hb dX0_keep_33 rfl (lv_at hl 0 rfl) ?_
    refine x_get6 S hX.1 dX0_keep_34 ?_
    refine lv_iload_n hx hb dX0_keep_37 rfl (lv_at hl 3 rfl) ?_
    refine x_ldK i (by omega) S hX.1 dX0_keep_38 ?_
    refine lv_iload_n hx hb dX0_keep_39 rfl (lv_at hl 2 rfl) ?_
    refine lv_imul hx hb dX0_keep_40 ?_
    refine lv_topE (y := nI (((K i).val) * ((iv (K u)).val))) (pk_mul ((K i).val) ((iv (K u)).val)) ?_
    refine lv_bipush (v := nI 7) hx hb dX0_keep_41 (by decide) ?_
    refine lv_irem hx hb dX0_keep_43 (by decide) ?_
    refine lv_topE (y := nI ((((K i).val) * ((iv (K u)).val)) % 7)) (pk_rem (by omega) (by decide) (by omega)) ?_
    refine lv_topE (y := nI (K i * iv (K u)).val) (congrArg nI (m7_mul _ _)) ?_
    refine x_stRw ((u * 5) + i) (by omega) (K i * iv (K u)) (kRow Rw u K (iv (K u)) (i + 1)) (kRow_up Rw u K (iv (K u)) i) S hX dX0_keep_44 (fun H locs hX => ?_)
    refine lv_iinc (v := nI (i + 1)) (lv' := [(3, .int (nI (i + 1))), (0, .ref (g 0)), (1, .int (nI u)), (2, .int (nI (iv (K u)).val))]) hx hb dX0_keep_45 hl (k := 3) rfl (nI_add i 1) (by decide) rfl (fun ls hl => ?_)
    refine lv_goto (tgt := 19) hx hb dX0_keep_48 (by decide) ?_
    exact ih H locs ls ⟨hX, lv_sub hl [1, 2, 3, 0] rfl⟩
  · obtain ⟨hX, hl⟩ := hI
    refine lv_iload_n hx hb dX0_keep_19 rfl (lv_at hl 3 rfl) ?_
    refine lv_iconst (v := nI 5) hx hb dX0_keep_20 (by decide) ?_
    refine n_ge (a := 5) (b := 5) (by omega) (by omega) hx hb (tgt := 51) dX0_keep_21 (by decide) (fun d1 => ?_) (fun d2 => absurd d2 (by omega))
    refine lv_iload_n hx hb dX0_keep_51 rfl (lv_at hl 1 rfl) ?_
    refine lv_iconst (v := nI 1) hx hb dX0_keep_52 (by decide) ?_
    refine lv_iadd hx hb dX0_keep_53 ?_
    refine lv_topE (y := nI (u + 1)) (nI_add u 1) ?_
    refine lv_istore_n (lv' := [(3, .int (nI (u + 1))), (0, .ref (g 0)), (1, .int (nI u)), (2, .int (nI (iv (K u)).val))]) hx hb dX0_keep_54 rfl hl (by decide) rfl (fun ls hl => ?_)
    revert ls
    revert H locs
    refine lp_H (I := fun w H locs ls => XH E g s.heap n N O (va_up D u true) (kUp (va_up D u true) u (kRow Rw u K (iv (K u)) 5) (w - (u + 1))) k K H locs ∧ lv_has ls 6 [(0, .ref (g 0)), (1, .int (nI u)), (2, .int (nI (iv (K u)).val)), (3, .int (nI w))] ∧ u + 1 ≤ w) 4 (fun w hi ih H locs ls hI => ?_) (fun H locs ls hI => ?_) (u + 1) (by omega) (fun H locs ls hX hl => ⟨by rw [Nat.sub_self]; exact hX, lv_sub hl [1, 2, 3, 0] rfl, Nat.le_refl _⟩)
    · obtain ⟨hX, hl, hE0⟩ := hI
      have hup : kUp (va_up D u true) u (kRow Rw u K (iv (K u)) 5) (w + 1 - (u + 1)) = kStep (va_up D u true) u w (kUp (va_up D u true) u (kRow Rw u K (iv (K u)) 5) (w - (u + 1))) := by rw [show w + 1 - (u + 1) = (w - (u + 1)) + 1 by omega]; show kStep _ u (u + 1 + (w - (u + 1))) _ = _; rw [show u + 1 + (w - (u + 1)) = w by omega]
      obtain ⟨R2, hR2⟩ : ∃ R2, R2 = kUp (va_up D u true) u (kRow Rw u K (iv (K u)) 5) (w - (u + 1)) := ⟨_, rfl⟩
      rw [← hR2] at hX hup
      refine lv_iload_n hx hb dX0_keep_55 rfl (lv_at hl 3 rfl) ?_
      refine lv_iconst (v := nI 4) hx hb dX0_keep_56 (by decide) ?_
      refine n_ge (a := w) (b := 4) (by omega) (by omega) hx hb (tgt := 147) dX0_keep_57 (by decide) (fun d1 => absurd d1 (by omega)) (fun d2 => ?_)
      refine lv_aload_n hx hb dX0_keep_60 rfl (lv_at hl 0 rfl) ?_
      refine x_get4 S hX.1 dX0_keep_61 ?_
      refine lv_iload_n hx hb dX0_keep_64 rfl (lv_at hl 3 rfl) ?_
      refine lv_iconst (v := nI 5) hx hb dX0_keep_65 (by decide) ?_
      refine lv_imul hx hb dX0_keep_66 ?_
      refine lv_topE (y := nI (w * 5)) (pk_mul w 5) ?_
      refine lv_iload_n hx hb dX0_keep_67 rfl (lv_at hl 1 rfl) ?_
      refine lv_iadd hx hb dX0_keep_68 ?_
      refine lv_topE (y := nI ((w * 5) + u)) (nI_add (w * 5) u) ?_
      refine x_ldRw ((w * 5) + u) (by omega) S hX.1 dX0_keep_69 ?_
      refine lv_istore (lv' := [(4, .int (nI (R2 ((w * 5) + u)).val)), (0, .ref (g 0)), (1, .int (nI u)), (2, .int (nI (iv (K u)).val)), (3, .int (nI w))]) hx hb dX0_keep_70 hl (by decide) rfl (fun ls hl => ?_)
      refine lv_iconst (v := nI 0) hx hb dX0_keep_72 (by decide) ?_
      refine lv_istore (lv' := [(5, .int (nI 0)), (4, .int (nI (R2 ((w * 5) + u)).val)), (0, .ref (g 0)), (1, .int (nI u)), (2, .int (nI (iv (K u)).val)), (3, .int (nI w))]) hx hb dX0_keep_73 hl (by decide) rfl (fun ls hl => ?_)
      by_cases hc : (va_up D u true) w = true ∧ R2 (w * 5 + u) ≠ 0
      · obtain ⟨hc1, hc2⟩ := hc
        revert ls
        revert H locs
        refine lp_H (I := fun i H locs ls => XH E g s.heap n N O (va_up D u true) (kSub R2 w u (R2 (w * 5 + u)) i) k K H locs ∧ lv_has ls 6 [(0, .ref (g 0)), (1, .int (nI u)), (2, .int (nI (iv (K u)).val)), (3, .int (nI w)), (4, .int (nI (R2 (w * 5 + u)).val)), (5, .int (nI i))]) 5 (fun i hi2 ih2 H locs ls hI => ?_) (fun H locs ls hI => ?_) 0 (by omega) (fun H locs ls hX hl => ⟨hX.eqRw (fun j _ => by simp only [kSub, show ¬ (w * 5 ≤ j ∧ j < w * 5 + 0) by omega, if_false]), lv_sub hl [2, 3, 4, 5, 1, 0] rfl⟩)
        · obtain ⟨hX, hl⟩ := hI
          refine lv_iload hx hb dX0_keep_75 (lv_at hl 5 rfl) ?_
          refine lv_iconst (v := nI 5) hx hb dX0_keep_77 (by decide) ?_
          refine n_ge (a := i) (b := 5) (by omega) (by omega) hx hb (tgt := 141) dX0_keep_78 (by decide) (fun d1 => absurd d1 (by omega)) (fun d2 => ?_)
          refine lv_aload_n hx hb dX0_keep_81 rfl (lv_at hl 0 rfl) ?_
          refine x_get3 S hX.1 dX0_keep_82 ?_
          refine lv_iload_n hx hb dX0_keep_85 rfl (lv_at hl 3 rfl) ?_
          refine x_ldD w (by omega) S hX.1 dX0_keep_86 ?_
          refine b_if_eq (v := ((va_up D u true) w)) hx hb (tgt := 141) dX0_keep_87 (by decide) (fun d1 => absurd d1 (by rw [hc1]; decide)) (fun d2 => ?_)
          refine lv_iload hx hb dX0_keep_90 (lv_at hl 4 rfl) ?_
          refine z_if_eq (v := (R2 (w * 5 + u))) hx hb (tgt := 141) dX0_keep_92 (by decide) (fun d1 => absurd d1 (hc2)) (fun d2 => ?_)
          refine lv_aload_n hx hb dX0_keep_95 rfl (lv_at hl 0 rfl) ?_
          refine x_get4 S hX.1 dX0_keep_96 ?_
          refine lv_iload_n hx hb dX0_keep_99 rfl (lv_at hl 3 rfl) ?_
          refine lv_iconst (v := nI 5) hx hb dX0_keep_100 (by decide) ?_
          refine lv_imul hx hb dX0_keep_101 ?_
          refine lv_topE (y := nI (w * 5)) (pk_mul w 5) ?_
          refine lv_iload hx hb dX0_keep_102 (lv_at hl 5 rfl) ?_
          refine lv_iadd hx hb dX0_keep_104 ?_
          refine lv_topE (y := nI ((w * 5) + i)) (nI_add (w * 5) i) ?_
          refine lv_aload_n hx hb dX0_keep_105 rfl (lv_at hl 0 rfl) ?_
          refine x_get4 S hX.1 dX0_keep_106 ?_
          refine lv_iload_n hx hb dX0_keep_109 rfl (lv_at hl 3 rfl) ?_
          refine lv_iconst (v := nI 5) hx hb dX0_keep_110 (by decide) ?_
          refine lv_imul hx hb dX0_keep_111 ?_
          refine lv_topE (y := nI (w * 5)) (pk_mul w 5) ?_
          refine lv_iload hx hb dX0_keep_112 (lv_at hl 5 rfl) ?_
          refine lv_iadd hx hb dX0_keep_114 ?_
          refine lv_topE (y := nI ((w * 5) + i)) (nI_add (w * 5) i) ?_
          refine x_ldRw ((w * 5) + i) (by omega) S hX.1 dX0_keep_115 ?_
          rw [kSub_at]
          refine lv_iload hx hb dX0_keep_116 (lv_at hl 4 rfl) ?_
          refine lv_aload_n hx hb dX0_keep_118 rfl (lv_at hl 0 rfl) ?_
          refine x_get4 S hX.1 dX0_keep_119 ?_
          refine lv_iload_n hx hb dX0_keep_122 rfl (lv_at hl 1 rfl) ?_
          refine lv_iconst (v := nI 5) hx hb dX0_keep_123 (by decide) ?_
          refine lv_imul hx hb dX0_keep_124 ?_
          refine lv_topE (y := nI (u * 5)) (pk_mul u 5) ?_
          refine lv_iload hx hb dX0_keep_125 (lv_at hl 5 rfl) ?_
          refine lv_iadd hx hb dX0_keep_127 ?_
          refine lv_topE (y := nI ((u * 5) + i)) (nI_add (u * 5) i) ?_
          refine x_ldRw ((u * 5) + i) (by omega) S hX.1 dX0_keep_128 ?_
          rw [kSub_row R2 _ _ (by omega) hi2]
          refine lv_imul hx hb dX0_keep_129 ?_
          refine lv_topE (y := nI (((R2 (w * 5 + u)).val) * ((R2 (u * 5 + i)).val))) (pk_mul ((R2 (w * 5 + u)).val) ((R2 (u * 5 + i)).val)) ?_
          refine lv_isub hx hb dX0_keep_130 ?_
          refine s_call 1 (rest := [.int (nI ((w * 5) + i)), .ref (g 4)]) (metX0_mod l (nI (R2 (w * 5 + i)).val - nI ((R2 (w * 5 + u)).val * (R2 (u * 5 + i)).val))) S.1 (lw_S q67 q68 q20 q69) rfl rfl (by decide +kernel) ⟨Nat.le_of_ble_eq_true rfl, Nat.le_of_ble_eq_true rfl⟩ rfl hl.1 rfl (Nat.le_of_ble_eq_true rfl) ⟨Nat.zero_le _, Nat.zero_le _⟩ dX0_keep_131 ?_
          refine lv_topE (y := nI (R2 (w * 5 + i) - R2 (w * 5 + u) * R2 (u * 5 + i)).val) (by rw [m7_sub]) ?_
          refine x_stRw ((w * 5) + i) (by omega) (R2 (w * 5 + i) - R2 (w * 5 + u) * R2 (u * 5 + i)) (kSub R2 w u (R2 (w * 5 + u)) (i + 1)) (kSub_up R2 w u (R2 (w * 5 + u)) i) S hX dX0_keep_134 (fun H locs hX => ?_)
          refine lv_iinc (v := nI (i + 1)) (lv' := [(5, .int (nI (i + 1))), (0, .ref (g 0)), (1, .int (nI u)), (2, .int (nI (iv (K u)).val)), (3, .int (nI w)), (4, .int (nI (R2 (w * 5 + u)).val))]) hx hb dX0_keep_135 hl (k := 5) rfl (nI_add i 1) (by decide) rfl (fun ls hl => ?_)
          refine lv_goto (tgt := 75) hx hb dX0_keep_138 (by decide) ?_
          exact ih2 H locs ls ⟨hX, lv_sub hl [1, 2, 3, 4, 5, 0] rfl⟩
        · obtain ⟨hX, hl⟩ := hI
          refine lv_iload hx hb dX0_keep_75 (lv_at hl 5 rfl) ?_
          refine lv_iconst (v := nI 5) hx hb dX0_keep_77 (by decide) ?_
          refine n_ge (a := 5) (b := 5) (by omega) (by omega) hx hb (tgt := 141) dX0_keep_78 (by decide) (fun d1 => ?_) (fun d2 => absurd d2 (by omega))
          refine lv_iinc (v := nI (w + 1)) (lv' := [(3, .int (nI (w + 1))), (0, .ref (g 0)), (1, .int (nI u)), (2, .int (nI (iv (K u)).val)), (4, .int (nI (R2 (w * 5 + u)).val)), (5, .int (nI 5))]) hx hb dX0_keep_141 hl (k := 3) rfl (nI_add w 1) (by decide) rfl (fun ls hl => ?_)
          refine lv_goto (tgt := 55) hx hb dX0_keep_144 (by decide) ?_
          exact ih H locs ls ⟨by rw [hup, kStep, if_pos ⟨hc1, hc2⟩]; exact hX, lv_sub hl [1, 2, 3, 0] rfl, by omega⟩
      · refine lv_iload hx hb dX0_keep_75 (lv_at hl 0 rfl) ?_
        refine lv_iconst (v := nI 5) hx hb dX0_keep_77 (by decide) ?_
        refine n_ge (a := 0) (b := 5) (by omega) (by omega) hx hb (tgt := 141) dX0_keep_78 (by decide) (fun d1 => absurd d1 (by omega)) (fun d2 => ?_)
        refine lv_aload_n hx hb dX0_keep_81 rfl (lv_at hl 2 rfl) ?_
        refine x_get3 S hX.1 dX0_keep_82 ?_
        refine lv_iload_n hx hb dX0_keep_85 rfl (lv_at hl 5 rfl) ?_
        refine x_ldD w (by omega) S hX.1 dX0_keep_86 ?_
        refine b_if_eq (v := ((va_up D u true) w)) hx hb (tgt := 141) dX0_keep_87 (by decide) (fun c1 => ?_) (fun c2 => ?_)
        · refine lv_iinc (v := nI (w + 1)) (lv' := [(3, .int (nI (w + 1))), (5, .int (nI 0)), (4, .int (nI (R2 ((w * 5) + u)).val)), (0, .ref (g 0)), (1, .int (nI u)), (2, .int (nI (iv (K u)).val))]) hx hb dX0_keep_141 hl (k := 5) rfl (nI_add w 1) (by decide) rfl (fun ls hl => ?_)
          refine lv_goto (tgt := 55) hx hb dX0_keep_144 (by decide) ?_
          exact ih H locs ls ⟨by rw [hup, kStep, if_neg hc]; exact hX, lv_sub hl [3, 4, 5, 0] rfl, by omega⟩
        · refine lv_iload hx hb dX0_keep_90 (lv_at hl 1 rfl) ?_
          refine z_if_eq (v := (R2 ((w * 5) + u))) hx hb (tgt := 141) dX0_keep_92 (by decide) (fun c3 => ?_) (fun c4 => ?_)
          · refine lv_iinc (v := nI (w + 1)) (lv' := [(3, .int (nI (w + 1))), (5, .int (nI 0)), (4, .int (nI (R2 ((w * 5) + u)).val)), (0, .ref (g 0)), (1, .int (nI u)), (2, .int (nI (iv (K u)).val))]) hx hb dX0_keep_141 hl (k := 5) rfl (nI_add w 1) (by decide) rfl (fun ls hl => ?_)
            refine lv_goto (tgt := 55) hx hb dX0_keep_144 (by decide) ?_
            exact ih H locs ls ⟨by rw [hup, kStep, if_neg hc]; exact hX, lv_sub hl [3, 4, 5, 0] rfl, by omega⟩
          · exact absurd ⟨c2, c4⟩ hc
    · obtain ⟨hX, hl, hE0⟩ := hI
      refine lv_iload_n hx hb dX0_keep_55 rfl (lv_at hl 3 rfl) ?_
      refine lv_iconst (v := nI 4) hx hb dX0_keep_56 (by decide) ?_
      refine n_ge (a := 4) (b := 4) (by omega) (by omega) hx hb (tgt := 147) dX0_keep_57 (by decide) (fun d1 => ?_) (fun d2 => absurd d2 (by omega))
      rw [show 4 - (u + 1) = 3 - u by omega] at hX
      exact f_ret (fun t ht hW => XH.to S hX.1 ht hW) hX.2 hx hb hr hk dX0_keep_147
end
section
set_option maxRecDepth 100000
set_option maxHeartbeats 4000000 in
/-- solveSet(b) -/
theorem metX0_solveSet (l : Launch) (E : va_G) (g : Nat → Nat) (n : Nat) (N : Nat → Fin 7) (O D : Nat → Bool) (Rw : Nat → Fin 7) (k : Bool) (K : Nat → Fin 7) (hn : n ≤ 6) (b : Nat) (hb64 : b < 64) : Met l yX0_solveSet (ws_ yX0_solveSet cX0_solveSet 4 none) ({ frames := 2, cells := 0, slots := 0, locals := 80 }) (va_Pc [.ref (g 0), .int (nI b)] (XI E g n N O D Rw k K)) (qM none (XI E g n N O ((sv N b Rw K n).1) ((sv N b Rw K n).2.1) ((sv N b Rw K n).2.2.1) ((sv N b Rw K n).2.2.2)) (xA g)) 0 0 (xA g) := by
  refine m_ofH l (by decide) (Nat.le_of_ble_eq_true rfl) (fun p e s m below meth c ls H locs hHe hS0 S0 hr hk _ hI0 hl => ?_)
  have S : XC p m c cX0_solveSet 4 s _ E g := ⟨S0, hI0.2.1, hI0.2.2⟩
  have hx := S0.1
  have hb := S0.2.1
  have hX : XH E g s.heap n N O D Rw k K H locs := ⟨by rw [hHe]; exact hI0.1, hS0 _⟩
  clear hHe hS0
  replace hl : lv_has ls 4 [(0, .ref (g 0)), (1, .int (nI b))] := hl
  refine lv_aload_n hx hb dX0_solveSet_0 rfl (lv_at hl 0 rfl) ?_
  refine lv_iconst (v := nI 0) hx hb dX0_solveSet_1 (by decide) ?_
  refine lv_topE (y := bI false) (by decide) ?_
  refine x_put5 false S hX dX0_solveSet_2 (fun H locs hX => ?_)
  refine lv_iconst (v := nI 0) hx hb dX0_solveSet_5 (by decide) ?_
  refine lv_istore_n (lv' := [(2, .int (nI 0)), (0, .ref (g 0)), (1, .int (nI b))]) hx hb dX0_solveSet_6 rfl hl (by decide) rfl (fun ls hl => ?_)
  revert ls
  revert H locs
  refine lp_H (I := fun i H locs ls => XH E g s.heap n N O (fun j => if j < i then false else D j) Rw false K H locs ∧ lv_has ls 4 [(0, .ref (g 0)), (1, .int (nI b)), (2, .int (nI i))]) 4 (fun i hi ih H locs ls hI => ?_) (fun H locs ls hI => ?_) 0 (by omega) (fun H locs ls hX hl => ⟨hX.eqD (fun j _ => by simp), lv_sub hl [1, 2, 0] rfl⟩)
  · obtain ⟨hX, hl⟩ := hI
    refine lv_iload_n hx hb dX0_solveSet_7 rfl (lv_at hl 2 rfl) ?_
    refine lv_iconst (v := nI 4) hx hb dX0_solveSet_8 (by decide) ?_
    refine n_ge (a := i) (b := 4) (by omega) (by omega) hx hb (tgt := 25) dX0_solveSet_9 (by decide) (fun d1 => absurd d1 (by omega)) (fun d2 => ?_)
    refine lv_aload_n hx hb dX0_solveSet_12 rfl (lv_at hl 0 rfl) ?_
    refine x_get3 S hX.1 dX0_solveSet_13 ?_
    refine lv_iload_n hx hb dX0_solveSet_16 rfl (lv_at hl 2 rfl) ?_
    refine lv_iconst (v := nI 0) hx hb dX0_solveSet_17 (by decide) ?_
    refine lv_topE (y := bI false) (by decide) ?_
    refine x_stD i (by omega) false (fun j => if j < i + 1 then false else D j) (fun j _ => by unfold va_up; by_cases h1 : j = i <;> by_cases h2 : j < i <;> simp [h1, h2] <;> omega) S hX dX0_solveSet_18 (fun H locs hX => ?_)
    refine lv_iinc (v := nI (i + 1)) (lv' := [(2, .int (nI (i + 1))), (0, .ref (g 0)), (1, .int (nI b))]) hx hb dX0_solveSet_19 hl (k := 2) rfl (nI_add i 1) (by decide) rfl (fun ls hl => ?_)
    refine lv_goto (tgt := 7) hx hb dX0_solveSet_22 (by decide) ?_
    exact ih H locs ls ⟨hX, lv_sub hl [1, 2, 0] rfl⟩
  · obtain ⟨hX, hl⟩ := hI
    refine lv_iload_n hx hb dX0_solveSet_7 rfl (lv_at hl 2 rfl) ?_
    refine lv_iconst (v := nI 4) hx hb dX0_solveSet_8 (by decide) ?_
    refine n_ge (a := 4) (b := 4) (by omega) (by omega) hx hb (tgt := 25) dX0_solveSet_9 (by decide) (fun d1 => ?_) (fun d2 => absurd d2 (by omega))
    replace hX := hX.eqD (D' := fun _ => false) (fun j hj => by simp [hj])
    refine lv_iconst (v := nI 0) hx hb dX0_solveSet_25 (by decide) ?_
    refine lv_istore_n (lv' := [(2, .int (nI 0)), (0, .ref (g 0)), (1, .int (nI b))]) hx hb dX0_solveSet_26 rfl hl (by decide) rfl (fun ls hl => ?_)
    revert ls
    revert H locs
    refine lp_H (I := fun q H locs ls => XH E g s.heap n N O ((sv N b Rw K q).1) ((sv N b Rw K q).2.1) ((sv N b Rw K q).2.2.1) ((sv N b Rw K q).2.2.2) H locs ∧ lv_has ls 4 [(0, .ref (g 0)), (1, .int (nI b)), (2, .int (nI q))]) n (fun q hi ih H locs ls hI => ?_) (fun H locs ls hI => ?_) 0 (by omega) (fun H locs ls hX hl => ⟨hX, lv_sub hl [1, 2, 0] rfl⟩)
    · obtain ⟨hX, hl⟩ := hI
      have hup : sv N b Rw K (q + 1) = svStep N b q (sv N b Rw K q) := rfl
      obtain ⟨z, hz⟩ : ∃ z : SV, z = sv N b Rw K q := ⟨_, rfl⟩
      rw [← hz] at hX hup
      refine lv_iload_n hx hb dX0_solveSet_27 rfl (lv_at hl 2 rfl) ?_
      refine lv_aload_n hx hb dX0_solveSet_28 rfl (lv_at hl 0 rfl) ?_
      refine x_get0 S hX.1 dX0_solveSet_29 ?_
      refine n_ge (a := q) (b := n) (by omega) (by omega) hx hb (tgt := 86) dX0_solveSet_32 (by decide) (fun d1 => absurd d1 (by omega)) (fun d2 => ?_)
      refine lv_iload_n hx hb dX0_solveSet_35 rfl (lv_at hl 1 rfl) ?_
      refine lv_iload_n hx hb dX0_solveSet_36 rfl (lv_at hl 2 rfl) ?_
      refine lv_ishr hx hb dX0_solveSet_37 ?_
      refine lv_iconst (v := nI 1) hx hb dX0_solveSet_38 (by decide) ?_
      refine lv_iand hx hb dX0_solveSet_39 ?_
      refine lv_topE (y := nI (b / 2 ^ q % 2)) (nb_bit (by omega) (by omega)) ?_
      refine lv_iconst (v := nI 1) hx hb dX0_solveSet_40 (by decide) ?_
      refine n_ne (a := (b / 2 ^ q % 2)) (b := 1) (Nat.lt_trans (Nat.mod_lt _ (by decide)) (by decide : 2 < 2 ^ 31)) (by omega) hx hb (tgt := 80) dX0_solveSet_41 (by decide) (fun c1 => ?_) (fun c2 => ?_)
      · have hbit : ¬ b.testBit q = true := fun h => c1 ((tb_iff b q).mpr h)
        refine lv_iinc (v := nI (q + 1)) (lv' := [(2, .int (nI (q + 1))), (0, .ref (g 0)), (1, .int (nI b))]) hx hb dX0_solveSet_80 hl (k := 2) rfl (nI_add q 1) (by decide) rfl (fun ls hl => ?_)
        refine lv_goto (tgt := 27) hx hb dX0_solveSet_83 (by decide) ?_
        exact ih H locs ls ⟨by rw [hup, svStep, if_neg hbit]; exact hX, lv_sub hl [1, 2, 0] rfl⟩
      · have hbit : b.testBit q = true := (tb_iff b q).mp c2
        refine lv_aload_n hx hb dX0_solveSet_44 rfl (lv_at hl 0 rfl) ?_
        refine lv_iload_n hx hb dX0_solveSet_45 rfl (lv_at hl 2 rfl) ?_
        refine x_callM 1 (rest := []) (metX0_load l E g n N O z.1 z.2.1 z.2.2.1 z.2.2.2 q (by omega)) S hX (lw_V q94 q96 qs4 q20 q97) rfl rfl (by decide +kernel) ⟨Nat.le_of_ble_eq_true rfl, Nat.le_of_ble_eq_true rfl⟩ rfl hl.1 rfl (Nat.le_of_ble_eq_true rfl) ⟨Nat.zero_le _, Nat.zero_le _⟩ dX0_solveSet_46 (fun H locs hX => ?_)
        refine W.eq (g2 := F0 m 49 ls []) rfl ?_
        refine lv_aload_n hx hb dX0_solveSet_49 rfl (lv_at hl 0 rfl) ?_
        refine x_callM 0 (rest := []) (metX0_reduce l E g n N O z.1 z.2.1 z.2.2.1 (fun j => N (q * 5 + j))) S hX (lw_V q98 q100 qs5 q20 q101) rfl rfl (by decide +kernel) ⟨Nat.le_of_ble_eq_true rfl, Nat.le_of_ble_eq_true rfl⟩ rfl hl.1 rfl (Nat.le_of_ble_eq_true rfl) ⟨Nat.zero_le _, Nat.zero_le _⟩ dX0_solveSet_50 (fun H locs hX => ?_)
        refine W.eq (g2 := F0 m 53 ls [.int (tI (red z.1 z.2.1 (fun j => N (q * 5 + j))).2)]) rfl ?_
        have ht4 := red_top z.1 z.2.1 (fun j => N (q * 5 + j))
        generalize hy : red z.1 z.2.1 (fun j => N (q * 5 + j)) = y at hX ht4 ⊢
        obtain ⟨K2, t⟩ := y
        replace hX : XH E g s.heap n N O z.1 z.2.1 z.2.2.1 K2 H locs := hX
        refine W.eq (g2 := F0 m 53 ls [.int (tI t)]) rfl ?_
        refine lv_istore_n (lv' := [(3, .int (tI t)), (0, .ref (g 0)), (1, .int (nI b)), (2, .int (nI q))]) hx hb dX0_solveSet_53 rfl hl (by decide) rfl (fun ls hl => ?_)
        refine lv_iload_n hx hb dX0_solveSet_54 rfl (lv_at hl 0 rfl) ?_
        refine lv_if_lt hx hb (tgt := 66) dX0_solveSet_55 (by decide) (fun c3 => ?_) (fun c4 => ?_)
        · obtain rfl : t = none := (tI_neg ht4).mp c3
          refine lv_aload_n hx hb dX0_solveSet_66 rfl (lv_at hl 1 rfl) ?_
          refine x_get6 S hX.1 dX0_solveSet_67 ?_
          refine lv_iconst (v := nI 4) hx hb dX0_solveSet_70 (by decide) ?_
          refine x_ldK 4 (by omega) S hX.1 dX0_solveSet_71 ?_
          refine z_if_eq (v := (K2 4)) hx hb (tgt := 80) dX0_solveSet_72 (by decide) (fun c5 => ?_) (fun c6 => ?_)
          · refine lv_iinc (v := nI (q + 1)) (lv' := [(2, .int (nI (q + 1))), (3, .int (tI none)), (0, .ref (g 0)), (1, .int (nI b))]) hx hb dX0_solveSet_80 hl (k := 3) rfl (nI_add q 1) (by decide) rfl (fun ls hl => ?_)
            refine lv_goto (tgt := 27) hx hb dX0_solveSet_83 (by decide) ?_
            exact ih H locs ls ⟨by rw [hup, svStep, if_pos hbit, hy]; show XH E g s.heap n N O z.1 z.2.1 (z.2.2.1 || decide (K2 4 ≠ 0)) K2 H locs; rw [show (z.2.2.1 || decide (K2 4 ≠ 0)) = z.2.2.1 by simp [c5]]; exact hX, lv_sub hl [2, 3, 0] rfl⟩
          · refine lv_aload_n hx hb dX0_solveSet_75 rfl (lv_at hl 1 rfl) ?_
            refine lv_iconst (v := nI 1) hx hb dX0_solveSet_76 (by decide) ?_
            refine lv_topE (y := bI true) (by decide) ?_
            refine x_put5 true S hX dX0_solveSet_77 (fun H locs hX => ?_)
            refine lv_iinc (v := nI (q + 1)) (lv' := [(2, .int (nI (q + 1))), (3, .int (tI none)), (0, .ref (g 0)), (1, .int (nI b))]) hx hb dX0_solveSet_80 hl (k := 3) rfl (nI_add q 1) (by decide) rfl (fun ls hl => ?_)
            refine lv_goto (tgt := 27) hx hb dX0_solveSet_83 (by decide) ?_
            exact ih H locs ls ⟨by rw [hup, svStep, if_pos hbit, hy]; show XH E g s.heap n N O z.1 z.2.1 (z.2.2.1 || decide (K2 4 ≠ 0)) K2 H locs; rw [show (z.2.2.1 || decide (K2 4 ≠ 0)) = true by simp [c6]]; exact hX, lv_sub hl [2, 3, 0] rfl⟩
        · obtain ⟨u, rfl⟩ : ∃ u, t = some u := by cases t with | none => exact absurd ((tI_neg (t := none) ht4).mpr rfl) c4 | some u => exact ⟨u, rfl⟩
          have hu : u < 4 := ht4 u rfl
          replace hl : lv_has ls 4 [(3, .int (nI u)), (0, .ref (g 0)), (1, .int (nI b)), (2, .int (nI q))] := hl
          refine lv_aload_n hx hb dX0_solveSet_58 rfl (lv_at hl 1 rfl) ?_
          refine lv_iload_n hx hb dX0_solveSet_59 rfl (lv_at hl 0 rfl) ?_
          refine x_callM 1 (rest := []) (metX0_keep l E g n N O z.1 z.2.1 z.2.2.1 K2 u hu) S hX (lw_V q102 q104 qs6 q20 q105) rfl rfl (by decide +kernel) ⟨Nat.le_of_ble_eq_true rfl, Nat.le_of_ble_eq_true rfl⟩ rfl hl.1 rfl (Nat.le_of_ble_eq_true rfl) ⟨Nat.zero_le _, Nat.zero_le _⟩ dX0_solveSet_60 (fun H locs hX => ?_)
          refine W.eq (g2 := F0 m 63 ls []) rfl ?_
          refine lv_goto (tgt := 80) hx hb dX0_solveSet_63 (by decide) ?_
          refine lv_iinc (v := nI (q + 1)) (lv' := [(2, .int (nI (q + 1))), (3, .int (nI u)), (0, .ref (g 0)), (1, .int (nI b))]) hx hb dX0_solveSet_80 hl (k := 3) rfl (nI_add q 1) (by decide) rfl (fun ls hl => ?_)
          refine lv_goto (tgt := 27) hx hb dX0_solveSet_83 (by decide) ?_
          exact ih H locs ls ⟨by rw [hup, svStep, if_pos hbit, hy]; exact hX, lv_sub hl [2, 3, 0] rfl⟩
    · obtain ⟨hX, hl⟩ := hI
      refine lv_iload_n hx hb dX0_solveSet_27 rfl (lv_at hl 2 rfl) ?_
      refine lv_aload_n hx hb dX0_solveSet_28 rfl (lv_at hl 0 rfl) ?_
      refine x_get0 S hX.1 dX0_solveSet_29 ?_
      refine n_ge (a := n) (b := n) (by omega) (by omega) hx hb (tgt := 86) dX0_solveSet_32 (by decide) (fun d1 => ?_) (fun d2 => absurd d2 (by omega))
      exact f_ret (fun t ht hW => XH.to S hX.1 ht hW) hX.2 hx hb hr hk dX0_solveSet_86
set_option maxHeartbeats 4000000 in
/-- solve() -/
theorem metX0_solve (l : Launch) (E : va_G) (g : Nat → Nat) (n : Nat) (N : Nat → Fin 7) (O D : Nat → Bool) (Rw : Nat → Fin 7) (k : Bool) (K : Nat → Fin 7) (hn : n ≤ 6) : Met l yX0_solve (ws_ yX0_solve cX0_solve 2 none) ({ frames := 3, cells := 0, slots := 0, locals := 120 }) (va_Pc [.ref (g 0)] (XI E g n N O D Rw k K)) (qM none (XI E g n N O ((sv N (onM O n) Rw K n).1) ((sv N (onM O n) Rw K n).2.1) ((sv N (onM O n) Rw K n).2.2.1) ((sv N (onM O n) Rw K n).2.2.2)) (xA g)) 0 0 (xA g) := by
  refine m_ofH l (by decide) (Nat.le_of_ble_eq_true rfl) (fun p e s m below meth c ls H locs hHe hS0 S0 hr hk _ hI0 hl => ?_)
  have S : XC p m c cX0_solve 2 s _ E g := ⟨S0, hI0.2.1, hI0.2.2⟩
  have hx := S0.1
  have hb := S0.2.1
  have hX : XH E g s.heap n N O D Rw k K H locs := ⟨by rw [hHe]; exact hI0.1, hS0 _⟩
  clear hHe hS0
  replace hl : lv_has ls 2 [(0, .ref (g 0))] := hl
  refine lv_aload_n hx hb dX0_solve_0 rfl (lv_at hl 0 rfl) ?_
  refine x_callR 0 (rest := []) (metX0_onSet l E g n N O D Rw k K hn) S hX.1 (lw_V q86 q88 qs2 q20 q89) rfl rfl (by decide +kernel) ⟨Nat.le_of_ble_eq_true rfl, Nat.le_of_ble_eq_true rfl⟩ rfl hl.1 rfl (Nat.le_of_ble_eq_true rfl) ⟨Nat.zero_le _, Nat.zero_le _⟩ dX0_solve_1 ?_
  refine lv_istore_n (lv' := [(1, .int (nI (onM O n))), (0, .ref (g 0))]) hx hb dX0_solve_4 rfl hl (by decide) rfl (fun ls hl => ?_)
  refine lv_aload_n hx hb dX0_solve_5 rfl (lv_at hl 1 rfl) ?_
  refine lv_iload_n hx hb dX0_solve_6 rfl (lv_at hl 0 rfl) ?_
  refine x_callM 1 (rest := []) (metX0_solveSet l E g n N O D Rw k K hn (onM O n) (onM_64 O hn)) S hX (lw_V q90 q92 qs3 q20 q93) rfl rfl (by decide +kernel) ⟨Nat.le_of_ble_eq_true rfl, Nat.le_of_ble_eq_true rfl⟩ rfl hl.1 rfl (Nat.le_of_ble_eq_true rfl) ⟨Nat.zero_le _, Nat.zero_le _⟩ dX0_solve_7 (fun H locs hX => ?_)
  refine W.eq (g2 := F0 m 10 ls []) rfl ?_
  exact f_ret (fun t ht hW => XH.to S hX.1 ht hW) hX.2 hx hb hr hk dX0_solve_10
set_option maxHeartbeats 4000000 in
/-- solutionAt(j) -/
theorem metX0_solutionAt (l : Launch) (E : va_G) (g : Nat → Nat) (n : Nat) (N : Nat → Fin 7) (O D : Nat → Bool) (Rw : Nat → Fin 7) (k : Bool) (K : Nat → Fin 7) (j : Nat) (hj : j < wy D 0) : Met l yX0_solutionAt (ws_ yX0_solutionAt cX0_solutionAt 8 (some .int)) ({ frames := 2, cells := 0, slots := 0, locals := 80 }) (va_Pc [.ref (g 0), .int (nI j)] (XI E g n N O D Rw k K)) (qR (.int (nI (saN D Rw j 4).2))) 0 0 (fun _ => False) := by
  refine m_of l (by decide) (Nat.le_of_ble_eq_true rfl) (fun p e s m below meth c ls S0 hr hk _ hI0 hl => ?_)
  have S : XC p m c cX0_solutionAt 8 s _ E g := ⟨S0, hI0.2.1, hI0.2.2⟩
  have hx := S0.1
  have hb := S0.2.1
  have hX := hI0.1
  replace hl : lv_has ls 8 [(0, .ref (g 0)), (1, .int (nI j))] := hl
  have hw0 := wy_le D 0
  refine lv_iload_n hx hb dX0_solutionAt_0 rfl (lv_at hl 1 rfl) ?_
  refine lv_istore_n (lv' := [(2, .int (nI j)), (0, .ref (g 0)), (1, .int (nI j))]) hx hb dX0_solutionAt_1 rfl hl (by decide) rfl (fun ls hl => ?_)
  refine lv_iconst (v := nI 0) hx hb dX0_solutionAt_2 (by decide) ?_
  refine lv_istore_n (lv' := [(3, .int (nI 0)), (2, .int (nI j)), (0, .ref (g 0)), (1, .int (nI j))]) hx hb dX0_solutionAt_3 rfl hl (by decide) rfl (fun ls hl => ?_)
  refine lv_iconst (v := nI 1) hx hb dX0_solutionAt_4 (by decide) ?_
  refine lv_istore (lv' := [(4, .int (nI 1)), (3, .int (nI 0)), (2, .int (nI j)), (0, .ref (g 0)), (1, .int (nI j))]) hx hb dX0_solutionAt_5 hl (by decide) rfl (fun ls hl => ?_)
  refine lv_iconst (v := nI 0) hx hb dX0_solutionAt_7 (by decide) ?_
  refine lv_istore (lv' := [(5, .int (nI 0)), (4, .int (nI 1)), (3, .int (nI 0)), (2, .int (nI j)), (0, .ref (g 0)), (1, .int (nI j))]) hx hb dX0_solutionAt_8 hl (by decide) rfl (fun ls hl => ?_)
  revert ls
  refine lp_ls (I := fun u ls => lv_has ls 8 [(0, .ref (g 0)), (2, .int (nI ((saN D Rw j u).1))), (3, .int (nI ((saN D Rw j u).2))), (4, .int (nI (7 ^ u))), (5, .int (nI u))] ∧ ((saN D Rw j u).1 < wy D u ∧ (saN D Rw j u).2 < 7 ^ u)) 4 (fun u hi ih ls hI => ?_) (fun ls hI => ?_) 0 (by omega) (fun ls hl => ⟨lv_sub hl [4, 3, 2, 1, 0] rfl, ⟨hj, show 0 < 1 by decide⟩⟩)
  · obtain ⟨hl, hE0⟩ := hI
    obtain ⟨hs1, hs2⟩ := hE0
    have hwu := wy_le D u
    have hp7 : 7 ^ u ≤ 343 := Nat.pow_le_pow_right (by decide) (show u ≤ 3 by omega)
    refine lv_iload hx hb dX0_solutionAt_10 (lv_at hl 4 rfl) ?_
    refine lv_iconst (v := nI 4) hx hb dX0_solutionAt_12 (by decide) ?_
    refine n_ge (a := u) (b := 4) (by omega) (by omega) hx hb (tgt := 88) dX0_solutionAt_13 (by decide) (fun d1 => absurd d1 (by omega)) (fun d2 => ?_)
    refine lv_iconst (v := nI 0) hx hb dX0_solutionAt_16 (by decide) ?_
    refine lv_istore (lv' := [(6, .int (nI 0)), (0, .ref (g 0)), (2, .int (nI ((saN D Rw j u).1))), (3, .int (nI ((saN D Rw j u).2))), (4, .int (nI (7 ^ u))), (5, .int (nI u))]) hx hb dX0_solutionAt_17 hl (by decide) rfl (fun ls hl => ?_)
    refine lv_aload_n hx hb dX0_solutionAt_19 rfl (lv_at hl 1 rfl) ?_
    refine x_get3 S hX dX0_solutionAt_20 ?_
    refine lv_iload hx hb dX0_solutionAt_23 (lv_at hl 5 rfl) ?_
    refine x_ldD u (by omega) S hX dX0_solutionAt_25 ?_
    refine b_if_eq (v := (D u)) hx hb (tgt := 41) dX0_solutionAt_26 (by decide) (fun c1 => ?_) (fun c2 => ?_)
    · have hwn := wy_le D (u + 1)
      have hwp := wy_pos D (u + 1)
      have hst := saN_free Rw j c1
      have hwy := wy_free c1 (show u < 4 by omega)
      have hlt : (saN D Rw j u).1 / wy D (u + 1) < 7 := by rw [Nat.div_lt_iff_lt_mul hwp]; omega
      have hml : (saN D Rw j u).1 % wy D (u + 1) < wy D (u + 1) := Nat.mod_lt _ hwp
      refine lv_aload_n hx hb dX0_solutionAt_41 rfl (lv_at hl 1 rfl) ?_
      refine lv_iload hx hb dX0_solutionAt_42 (lv_at hl 5 rfl) ?_
      refine lv_iconst (v := nI 1) hx hb dX0_solutionAt_44 (by decide) ?_
      refine lv_iadd hx hb dX0_solutionAt_45 ?_
      refine lv_topE (y := nI (u + 1)) (nI_add u 1) ?_
      refine x_callR 1 (rest := []) (metX0_waysFrom l E g n N O D Rw k K (u + 1) (by omega)) S hX (lw_V q109 q111 qs7 q20 q112) rfl rfl (by decide +kernel) ⟨Nat.le_of_ble_eq_true rfl, Nat.le_of_ble_eq_true rfl⟩ rfl hl.1 rfl (Nat.le_of_ble_eq_true rfl) ⟨Nat.zero_le _, Nat.zero_le _⟩ dX0_solutionAt_46 ?_
      refine lv_istore (lv' := [(7, .int (nI (wy D (u + 1)))), (6, .int (nI 0)), (0, .ref (g 0)), (2, .int (nI ((saN D Rw j u).1))), (3, .int (nI ((saN D Rw j u).2))), (4, .int (nI (7 ^ u))), (5, .int (nI u))]) hx hb dX0_solutionAt_49 hl (by decide) rfl (fun ls hl => ?_)
      refine lv_iload hx hb dX0_solutionAt_51 (lv_at hl 0 rfl) ?_
      refine lv_if_le hx hb (tgt := 67) dX0_solutionAt_53 (by decide) (fun c3 => ?_) (fun c4 => ?_)
      · exact absurd c3 (nI_nle hwp (by omega))
      · refine lv_iload_n hx hb dX0_solutionAt_56 rfl (lv_at hl 3 rfl) ?_
        refine lv_iload hx hb dX0_solutionAt_57 (lv_at hl 0 rfl) ?_
        refine lv_idiv hx hb dX0_solutionAt_59 (nI_ne0 hwp (by omega)) ?_
        refine lv_topE (y := nI (((saN D Rw j u).1) / (wy D (u + 1)))) (pk_div (by omega) (by omega) (by omega)) ?_
        refine lv_istore (lv' := [(6, .int (nI (((saN D Rw j u).1) / (wy D (u + 1))))), (7, .int (nI (wy D (u + 1)))), (0, .ref (g 0)), (2, .int (nI ((saN D Rw j u).1))), (3, .int (nI ((saN D Rw j u).2))), (4, .int (nI (7 ^ u))), (5, .int (nI u))]) hx hb dX0_solutionAt_60 hl (by decide) rfl (fun ls hl => ?_)
        refine lv_iload_n hx hb dX0_solutionAt_62 rfl (lv_at hl 3 rfl) ?_
        refine lv_iload hx hb dX0_solutionAt_63 (lv_at hl 1 rfl) ?_
        refine lv_irem hx hb dX0_solutionAt_65 (nI_ne0 hwp (by omega)) ?_
        refine lv_topE (y := nI (((saN D Rw j u).1) % (wy D (u + 1)))) (pk_rem (by omega) (by omega) (by omega)) ?_
        refine lv_istore_n (lv' := [(2, .int (nI (((saN D Rw j u).1) % (wy D (u + 1))))), (6, .int (nI (((saN D Rw j u).1) / (wy D (u + 1))))), (7, .int (nI (wy D (u + 1)))), (0, .ref (g 0)), (3, .int (nI ((saN D Rw j u).2))), (4, .int (nI (7 ^ u))), (5, .int (nI u))]) hx hb dX0_solutionAt_66 rfl hl (by decide) rfl (fun ls hl => ?_)
        refine lv_iload_n hx hb dX0_solutionAt_67 rfl (lv_at hl 4 rfl) ?_
        refine lv_iload hx hb dX0_solutionAt_68 (lv_at hl 1 rfl) ?_
        refine lv_iload hx hb dX0_solutionAt_70 (lv_at hl 5 rfl) ?_
        refine lv_imul hx hb dX0_solutionAt_72 ?_
        refine lv_topE (y := nI ((((saN D Rw j u).1) / (wy D (u + 1))) * (7 ^ u))) (pk_mul (((saN D Rw j u).1) / (wy D (u + 1))) (7 ^ u)) ?_
        refine lv_iadd hx hb dX0_solutionAt_73 ?_
        refine lv_topE (y := nI (((saN D Rw j u).2) + ((((saN D Rw j u).1) / (wy D (u + 1))) * (7 ^ u)))) (nI_add ((saN D Rw j u).2) ((((saN D Rw j u).1) / (wy D (u + 1))) * (7 ^ u))) ?_
        refine lv_topE (y := nI ((saN D Rw j (u + 1)).2)) (by rw [hst]) ?_
        refine lv_istore_n (lv' := [(3, .int (nI ((saN D Rw j (u + 1)).2))), (2, .int (nI (((saN D Rw j u).1) % (wy D (u + 1))))), (6, .int (nI (((saN D Rw j u).1) / (wy D (u + 1))))), (7, .int (nI (wy D (u + 1)))), (0, .ref (g 0)), (4, .int (nI (7 ^ u))), (5, .int (nI u))]) hx hb dX0_solutionAt_74 rfl hl (by decide) rfl (fun ls hl => ?_)
        refine lv_iload hx hb dX0_solutionAt_75 (lv_at hl 5 rfl) ?_
        refine lv_bipush (v := nI 7) hx hb dX0_solutionAt_77 (by decide) ?_
        refine lv_imul hx hb dX0_solutionAt_79 ?_
        refine lv_topE (y := nI ((7 ^ u) * 7)) (pk_mul (7 ^ u) 7) ?_
        refine lv_istore (lv' := [(4, .int (nI ((7 ^ u) * 7))), (3, .int (nI ((saN D Rw j (u + 1)).2))), (2, .int (nI (((saN D Rw j u).1) % (wy D (u + 1))))), (6, .int (nI (((saN D Rw j u).1) / (wy D (u + 1))))), (7, .int (nI (wy D (u + 1)))), (0, .ref (g 0)), (5, .int (nI u))]) hx hb dX0_solutionAt_80 hl (by decide) rfl (fun ls hl => ?_)
        refine lv_iinc (v := nI (u + 1)) (lv' := [(5, .int (nI (u + 1))), (4, .int (nI ((7 ^ u) * 7))), (3, .int (nI ((saN D Rw j (u + 1)).2))), (2, .int (nI (((saN D Rw j u).1) % (wy D (u + 1))))), (6, .int (nI (((saN D Rw j u).1) / (wy D (u + 1))))), (7, .int (nI (wy D (u + 1)))), (0, .ref (g 0))]) hx hb dX0_solutionAt_82 hl (k := 6) rfl (nI_add u 1) (by decide) rfl (fun ls hl => ?_)
        refine lv_goto (tgt := 10) hx hb dX0_solutionAt_85 (by decide) ?_
        replace hl : lv_has ls 8 [(5, .int (nI (u + 1))), (4, .int (nI ((7 ^ u) * 7))), (3, .int (nI ((saN D Rw j (u + 1)).2))), (2, .int (nI ((saN D Rw j (u + 1)).1))), (6, .int (nI (((saN D Rw j u).1) / (wy D (u + 1))))), (7, .int (nI (wy D (u + 1)))), (0, .ref (g 0))] := by rw [show nI ((saN D Rw j (u + 1)).1) = nI (((saN D Rw j u).1) % (wy D (u + 1))) from by rw [hst]]; exact hl
        replace hl : lv_has ls 8 [(5, .int (nI (u + 1))), (4, .int (nI (7 ^ (u + 1)))), (3, .int (nI ((saN D Rw j (u + 1)).2))), (2, .int (nI ((saN D Rw j (u + 1)).1))), (6, .int (nI (((saN D Rw j u).1) / (wy D (u + 1))))), (7, .int (nI (wy D (u + 1)))), (0, .ref (g 0))] := by rw [show nI (7 ^ (u + 1)) = nI ((7 ^ u) * 7) from rfl]; exact hl
        exact ih ls ⟨lv_sub hl [6, 3, 2, 1, 0] rfl, ⟨by rw [hst]; exact hml, by rw [hst, Nat.pow_succ]; exact dig_lt hs2 hlt⟩⟩
    · have hst := saN_det Rw j c2
      have hwy := wy_det c2 (show u < 4 by omega)
      refine lv_aload_n hx hb dX0_solutionAt_29 rfl (lv_at hl 1 rfl) ?_
      refine lv_iload hx hb dX0_solutionAt_30 (lv_at hl 5 rfl) ?_
      refine lv_iload_n hx hb dX0_solutionAt_32 rfl (lv_at hl 3 rfl) ?_
      refine x_callR 2 (rest := []) (metX0_resultOf l E g n N O D Rw k K u (saN D Rw j u).2 (by omega) (by omega)) S hX (lw_V q121 q123 qs9 q20 q124) rfl rfl (by decide +kernel) ⟨Nat.le_of_ble_eq_true rfl, Nat.le_of_ble_eq_true rfl⟩ rfl hl.1 rfl (Nat.le_of_ble_eq_true rfl) ⟨Nat.zero_le _, Nat.zero_le _⟩ dX0_solutionAt_33 ?_
      refine lv_istore (lv' := [(6, .int (nI (rs Rw u (saN D Rw j u).2).val)), (0, .ref (g 0)), (2, .int (nI ((saN D Rw j u).1))), (3, .int (nI ((saN D Rw j u).2))), (4, .int (nI (7 ^ u))), (5, .int (nI u))]) hx hb dX0_solutionAt_36 hl (by decide) rfl (fun ls hl => ?_)
      refine lv_goto (tgt := 67) hx hb dX0_solutionAt_38 (by decide) ?_
      refine lv_iload_n hx hb dX0_solutionAt_67 rfl (lv_at hl 3 rfl) ?_
      refine lv_iload hx hb dX0_solutionAt_68 (lv_at hl 0 rfl) ?_
      refine lv_iload hx hb dX0_solutionAt_70 (lv_at hl 4 rfl) ?_
      refine lv_imul hx hb dX0_solutionAt_72 ?_
      refine lv_topE (y := nI (((rs Rw u (saN D Rw j u).2).val) * (7 ^ u))) (pk_mul ((rs Rw u (saN D Rw j u).2).val) (7 ^ u)) ?_
      refine lv_iadd hx hb dX0_solutionAt_73 ?_
      refine lv_topE (y := nI (((saN D Rw j u).2) + (((rs Rw u (saN D Rw j u).2).val) * (7 ^ u)))) (nI_add ((saN D Rw j u).2) (((rs Rw u (saN D Rw j u).2).val) * (7 ^ u))) ?_
      refine lv_topE (y := nI ((saN D Rw j (u + 1)).2)) (by rw [hst]) ?_
      refine lv_istore_n (lv' := [(3, .int (nI ((saN D Rw j (u + 1)).2))), (6, .int (nI (rs Rw u (saN D Rw j u).2).val)), (0, .ref (g 0)), (2, .int (nI ((saN D Rw j u).1))), (4, .int (nI (7 ^ u))), (5, .int (nI u))]) hx hb dX0_solutionAt_74 rfl hl (by decide) rfl (fun ls hl => ?_)
      refine lv_iload hx hb dX0_solutionAt_75 (lv_at hl 4 rfl) ?_
      refine lv_bipush (v := nI 7) hx hb dX0_solutionAt_77 (by decide) ?_
      refine lv_imul hx hb dX0_solutionAt_79 ?_
      refine lv_topE (y := nI ((7 ^ u) * 7)) (pk_mul (7 ^ u) 7) ?_
      refine lv_istore (lv' := [(4, .int (nI ((7 ^ u) * 7))), (3, .int (nI ((saN D Rw j (u + 1)).2))), (6, .int (nI (rs Rw u (saN D Rw j u).2).val)), (0, .ref (g 0)), (2, .int (nI ((saN D Rw j u).1))), (5, .int (nI u))]) hx hb dX0_solutionAt_80 hl (by decide) rfl (fun ls hl => ?_)
      refine lv_iinc (v := nI (u + 1)) (lv' := [(5, .int (nI (u + 1))), (4, .int (nI ((7 ^ u) * 7))), (3, .int (nI ((saN D Rw j (u + 1)).2))), (6, .int (nI (rs Rw u (saN D Rw j u).2).val)), (0, .ref (g 0)), (2, .int (nI ((saN D Rw j u).1)))]) hx hb dX0_solutionAt_82 hl (k := 5) rfl (nI_add u 1) (by decide) rfl (fun ls hl => ?_)
      refine lv_goto (tgt := 10) hx hb dX0_solutionAt_85 (by decide) ?_
      replace hl : lv_has ls 8 [(5, .int (nI (u + 1))), (4, .int (nI ((7 ^ u) * 7))), (3, .int (nI ((saN D Rw j (u + 1)).2))), (6, .int (nI (rs Rw u (saN D Rw j u).2).val)), (0, .ref (g 0)), (2, .int (nI ((saN D Rw j (u + 1)).1)))] := by rw [show nI ((saN D Rw j (u + 1)).1) = nI ((saN D Rw j u).1) from by rw [hst]]; exact hl
      replace hl : lv_has ls 8 [(5, .int (nI (u + 1))), (4, .int (nI (7 ^ (u + 1)))), (3, .int (nI ((saN D Rw j (u + 1)).2))), (6, .int (nI (rs Rw u (saN D Rw j u).2).val)), (0, .ref (g 0)), (2, .int (nI ((saN D Rw j (u + 1)).1)))] := by rw [show nI (7 ^ (u + 1)) = nI ((7 ^ u) * 7) from rfl]; exact hl
      exact ih ls ⟨lv_sub hl [4, 5, 2, 1, 0] rfl, ⟨by rw [hst, ← hwy]; exact hs1, by rw [hst, Nat.pow_succ]; exact dig_lt hs2 (Fin.isLt _)⟩⟩
  · obtain ⟨hl, hE0⟩ := hI
    refine lv_iload hx hb dX0_solutionAt_10 (lv_at hl 4 rfl) ?_
    refine lv_iconst (v := nI 4) hx hb dX0_solutionAt_12 (by decide) ?_
    refine n_ge (a := 4) (b := 4) (by omega) (by omega) hx hb (tgt := 88) dX0_solutionAt_13 (by decide) (fun d1 => ?_) (fun d2 => absurd d2 (by omega))
    refine lv_iload_n hx hb dX0_solutionAt_88 rfl (lv_at hl 2 rfl) ?_
    exact e_retI rfl hx hb hr hk dX0_solutionAt_89
end
section
set_option maxRecDepth 100000
/-! ===== the public methods' answers, as plain functions of the solved state z ===== -/
def XA (E : va_G) (g : Nat → Nat) (n : Nat) (N : Nat → Fin 7) (O : Nat → Bool) (t : State) : Prop := ∃ (D : Nat → Bool) (Rw : Nat → Fin 7) (k : Bool) (K : Nat → Fin 7), XI E g n N O D Rw k K t
/-- the number of a script's word, without its sign -/
def tw (x : Int32) : Nat := x.toBitVec.toNat % 2147483648
def adN (N : Nat → Fin 7) (n t i : Nat) : Nat → Fin 7 := fun j => if n * 5 ≤ j ∧ j < n * 5 + i then d7 (t / 7 ^ (j - n * 5)) else N j
def xSol (z : SV) : Nat := if z.2.2.1 = true then 0 else wy z.1 0
def xVal (z : SV) (x y : Int32) : Int32 := if y < 0 ∨ nI 4 ≤ y then -4 else if z.2.2.1 = true ∨ x < 0 ∨ nI (wy z.1 0) ≤ x then -4 else nI ((saN z.1 z.2.1 x.toNatClampNeg 4).2 / 7 ^ y.toNatClampNeg % 7)
def xPos (z : SV) (y : Int32) : Int32 := if y < 0 ∨ nI 4 ≤ y then 0 else if z.2.2.1 = true then 0 else if vary z.1 z.2.1 y.toNatClampNeg = true then 127 else nI (2 ^ (z.2.1 (y.toNatClampNeg * 5 + 4)).val)
def xFix (z : SV) (y : Int32) : Bool := if y < 0 ∨ nI 4 ≤ y then false else if z.2.2.1 = true then false else !vary z.1 z.2.1 y.toNatClampNeg
def rkF (D : Nat → Bool) (R : Nat → Fin 7) (t : Nat) : Nat → Nat → Nat → Nat
  | 0, _, a => a
  | f + 1, u, a => if D u = false then rkF D R t f (u + 1) (a + t / 7 ^ u % 7 * wy D (u + 1)) else if (rs R u (t % 7 ^ u)).val < t / 7 ^ u % 7 then a + wy D (u + 1) else if t / 7 ^ u % 7 < (rs R u (t % 7 ^ u)).val then a else rkF D R t f (u + 1) a
def xRank (z : SV) (x : Int32) : Nat := if z.2.2.1 = true then 0 else rkF z.1 z.2.1 (tw x) 4 0 0
def xFol (N : Nat → Fin 7) (n : Nat) (z : SV) (x : Int32) : Bool := if noE n x = true then false else if z.2.2.1 = true then true else decide ((red z.1 z.2.1 (fun j => N (x.toNatClampNeg * 5 + j))).2 = none ∧ (red z.1 z.2.1 (fun j => N (x.toNatClampNeg * 5 + j))).1 4 = 0)
/-- the smallest size of a subset of a with P, below s; 6 if none is smaller -/
def lsN (P : Nat → Bool) (a : Nat) : Nat → Nat
  | 0 => 6
  | s + 1 => if s - (s &&& a) = 0 ∧ on1 s 6 < lsN P a s ∧ P s = true then on1 s 6 else lsN P a s
theorem saN_in {D : Nat → Bool} (R : Nat → Fin 7) {j : Nat} (hj : j < wy D 0) : ∀ u, u ≤ 4 → (saN D R j u).1 < wy D u ∧ (saN D R j u).2 < 7 ^ u
  | 0, _ => ⟨hj, show 0 < 1 by decide⟩
  | u + 1, hu => by
    obtain ⟨h1, h2⟩ := saN_in R hj u (by omega)
    cases hD : D u with
    | false =>
      have hwp := wy_pos D (u + 1)
      have hwy := wy_free hD (show u < 4 by omega)
      have hlt : (saN D R j u).1 / wy D (u + 1) < 7 := by rw [Nat.div_lt_iff_lt_mul hwp]; omega
      rw [saN_free R j hD, Nat.pow_succ]
      exact ⟨Nat.mod_lt _ hwp, dig_lt h2 hlt⟩
    | true =>
      have hwy := wy_det hD (show u < 4 by omega)
      rw [saN_det R j hD, Nat.pow_succ]
      exact ⟨by rw [← hwy]; exact h1, dig_lt h2 (Fin.isLt _)⟩
theorem adN_up (N : Nat → Fin 7) (n t i : Nat) : ∀ j, j < 30 → va_up (adN N n t i) (n * 5 + i) (d7 (t / 7 ^ i)) j = adN N n t (i + 1) j := by
  intro j _
  unfold va_up adN
  by_cases h1 : j = n * 5 + i
  · subst h1; simp
  · by_cases h2 : n * 5 ≤ j ∧ j < n * 5 + i
    · simp [h1, h2, show j < n * 5 + (i + 1) by omega]
    · have h3 : ¬ (n * 5 ≤ j ∧ j < n * 5 + (i + 1)) := by omega
      simp only [h1, h2, h3, if_false]
theorem tw_lt (x : Int32) : tw x < 2147483648 := Nat.mod_lt _ (by decide)
theorem on1_le (b : Nat) : ∀ e, on1 b e ≤ e
  | 0 => Nat.le_refl 0
  | e + 1 => by
    have := on1_le b e
    have h2 : b / 2 ^ e % 2 < 2 := Nat.mod_lt _ (by decide)
    unfold on1
    omega
theorem lsN_le (P : Nat → Bool) (a : Nat) : ∀ s, lsN P a s ≤ 6
  | 0 => Nat.le_refl 6
  | s + 1 => by
    have := lsN_le P a s
    have h2 := on1_le s 6
    unfold lsN
    split <;> omega
/-- what a signed number is that isn't below 0 nor from n on -/
theorem nI_case {x : Int32} {n : Nat} (hn : n < 2147483648) (h0 : ¬ x < 0) (h : ¬ nI n ≤ x) : ∃ j : Nat, j < n ∧ x = nI j := by
  obtain ⟨j, hj, rfl⟩ := nI_of h0
  refine ⟨j, ?_, rfl⟩
  rcases Nat.lt_or_ge j n with h1 | h1
  · exact h1
  · exact absurd ((nI_leI hn hj).mpr h1) h
theorem noE_no {n : Nat} {x : Int32} (hn : n ≤ 6) (h : noE n x = false) : ∃ j : Nat, j < n ∧ x = nI j := by
  unfold noE at h
  simp only [Bool.or_eq_false_iff, decide_eq_false_iff_not] at h
  exact nI_case (by omega) h.1 h.2
theorem noE_nI {n j : Nat} (hn : n ≤ 6) (hj : j < n) : noE n (nI j) = false := by
  unfold noE
  simp only [Bool.or_eq_false_iff, decide_eq_false_iff_not]
  exact ⟨nI_pos (by omega), nI_ge hj (by omega)⟩
theorem nI_case4 {x : Int32} (h0 : ¬ x < 0) (h : ¬ nI 4 < x) : ∃ j : Nat, j < 5 ∧ x = nI j := by
  obtain ⟨j, hj, rfl⟩ := nI_of h0
  refine ⟨j, ?_, rfl⟩
  rcases Nat.lt_or_ge j 5 with h1 | h1
  · exact h1
  · exact absurd ((nI_ltI (by decide) hj).mpr (show 4 < j by omega)) h
end
section
set_option maxRecDepth 100000
set_option maxHeartbeats 4000000 in
/-- add: full -/
theorem metX0_add_full (l : Launch) (E : va_G) (g : Nat → Nat) (n : Nat) (N : Nat → Fin 7) (O D : Nat → Bool) (Rw : Nat → Fin 7) (k : Bool) (K : Nat → Fin 7) (x : Int32) (hn : n = 6) : Met l yX0_add (ws_ yX0_add cX0_add 4 (some .int)) ({ frames := 4, cells := 0, slots := 0, locals := 160 }) (va_Pc [.ref (g 0), .int x] (XI E g n N O D Rw k K)) (qM (some (.int (-3))) (XI E g n N O D Rw k K) (xA g)) 0 0 (xA g) := by
  refine m_ofH l (by decide) (Nat.le_of_ble_eq_true rfl) (fun p e s m below meth c ls H locs hHe hS0 S0 hr hk _ hI0 hl => ?_)
  have S : XC p m c cX0_add 4 s _ E g := ⟨S0, hI0.2.1, hI0.2.2⟩
  have hx := S0.1
  have hb := S0.2.1
  have hX : XH E g s.heap n N O D Rw k K H locs := ⟨by rw [hHe]; exact hI0.1, hS0 _⟩
  clear hHe hS0
  replace hl : lv_has ls 4 [(0, .ref (g 0)), (1, .int x)] := hl
  refine lv_aload_n hx hb dX0_add_0 rfl (lv_at hl 0 rfl) ?_
  refine x_get0 S hX.1 dX0_add_1 ?_
  refine lv_bipush (v := nI 6) hx hb dX0_add_4 (by decide) ?_
  refine n_lt (a := n) (b := 6) (by omega) (by omega) hx hb (tgt := 12) dX0_add_6 (by decide) (fun d1 => absurd d1 (by omega)) (fun d2 => ?_)
  refine lv_bipush (v := (-3)) hx hb dX0_add_9 (by decide) ?_
  exact f_retI rfl (fun t ht hW => XH.to S hX.1 ht hW) hX.2 hx hb hr hk dX0_add_11
set_option maxHeartbeats 4000000 in
/-- add: a new equation -/
theorem metX0_add (l : Launch) (E : va_G) (g : Nat → Nat) (n : Nat) (N : Nat → Fin 7) (O D : Nat → Bool) (Rw : Nat → Fin 7) (k : Bool) (K : Nat → Fin 7) (x : Int32) (hn : n < 6) : Met l yX0_add (ws_ yX0_add cX0_add 4 (some .int)) ({ frames := 4, cells := 0, slots := 0, locals := 160 }) (va_Pc [.ref (g 0), .int x] (XI E g n N O D Rw k K)) (qM (some (.int (nI n))) (XI E g (n + 1) (adN N n (tw x) 5) (va_up O n true) D Rw k K) (xA g)) 0 0 (xA g) := by
  refine m_ofH l (by decide) (Nat.le_of_ble_eq_true rfl) (fun p e s m below meth c ls H locs hHe hS0 S0 hr hk _ hI0 hl => ?_)
  have S : XC p m c cX0_add 4 s _ E g := ⟨S0, hI0.2.1, hI0.2.2⟩
  have hx := S0.1
  have hb := S0.2.1
  have hX : XH E g s.heap n N O D Rw k K H locs := ⟨by rw [hHe]; exact hI0.1, hS0 _⟩
  clear hHe hS0
  replace hl : lv_has ls 4 [(0, .ref (g 0)), (1, .int x)] := hl
  have htw := tw_lt x
  refine lv_aload_n hx hb dX0_add_0 rfl (lv_at hl 0 rfl) ?_
  refine x_get0 S hX.1 dX0_add_1 ?_
  refine lv_bipush (v := nI 6) hx hb dX0_add_4 (by decide) ?_
  refine n_lt (a := n) (b := 6) (by omega) (by omega) hx hb (tgt := 12) dX0_add_6 (by decide) (fun d1 => ?_) (fun d2 => absurd d2 (by omega))
  refine lv_iload_n hx hb dX0_add_12 rfl (lv_at hl 1 rfl) ?_
  refine lv_ldc hx hb S.1.2.2.2.1 (S.1.2.2.2.2 _ q58) dX0_add_13 ?_
  refine lv_iand hx hb dX0_add_15 ?_
  refine lv_topE (y := nI (tw x)) (nb_pos x) ?_
  refine lv_istore_n (lv' := [(2, .int (nI (tw x))), (0, .ref (g 0)), (1, .int x)]) hx hb dX0_add_16 rfl hl (by decide) rfl (fun ls hl => ?_)
  refine lv_iconst (v := nI 0) hx hb dX0_add_17 (by decide) ?_
  refine lv_istore_n (lv' := [(3, .int (nI 0)), (2, .int (nI (tw x))), (0, .ref (g 0)), (1, .int x)]) hx hb dX0_add_18 rfl hl (by decide) rfl (fun ls hl => ?_)
  replace hl : lv_has ls 4 [(3, .int (nI 0)), (2, .int (nI (tw x / 7 ^ 0))), (0, .ref (g 0)), (1, .int x)] := by rw [show nI (tw x / 7 ^ 0) = nI (tw x) from by rw [Nat.pow_zero, Nat.div_one]]; exact hl
  revert ls
  revert H locs
  refine lp_H (I := fun i H locs ls => XH E g s.heap n (adN N n (tw x) i) O D Rw k K H locs ∧ lv_has ls 4 [(0, .ref (g 0)), (1, .int x), (2, .int (nI (tw x / 7 ^ i))), (3, .int (nI i))]) 5 (fun i hi ih H locs ls hI => ?_) (fun H locs ls hI => ?_) 0 (by omega) (fun H locs ls hX hl => ⟨hX.eqN (fun j _ => by simp only [adN, show ¬ (n * 5 ≤ j ∧ j < n * 5 + 0) by omega, if_false]), lv_sub hl [2, 3, 1, 0] rfl⟩)
  · obtain ⟨hX, hl⟩ := hI
    have hbi : tw x / 7 ^ i ≤ tw x := Nat.div_le_self _ _
    refine lv_iload_n hx hb dX0_add_19 rfl (lv_at hl 3 rfl) ?_
    refine lv_iconst (v := nI 5) hx hb dX0_add_20 (by decide) ?_
    refine n_ge (a := i) (b := 5) (by omega) (by omega) hx hb (tgt := 52) dX0_add_21 (by decide) (fun d1 => absurd d1 (by omega)) (fun d2 => ?_)
    refine lv_aload_n hx hb dX0_add_24 rfl (lv_at hl 0 rfl) ?_
    refine x_get1 S hX.1 dX0_add_25 ?_
    refine lv_aload_n hx hb dX0_add_28 rfl (lv_at hl 0 rfl) ?_
    refine x_get0 S hX.1 dX0_add_29 ?_
    refine lv_iconst (v := nI 5) hx hb dX0_add_32 (by decide) ?_
    refine lv_imul hx hb dX0_add_33 ?_
    refine lv_topE (y := nI (n * 5)) (pk_mul n 5) ?_
    refine lv_iload_n hx hb dX0_add_34 rfl (lv_at hl 3 rfl) ?_
    refine lv_iadd hx hb dX0_add_35 ?_
    refine lv_topE (y := nI ((n * 5) + i)) (nI_add (n * 5) i) ?_
    refine lv_iload_n hx hb dX0_add_36 rfl (lv_at hl 2 rfl) ?_
    refine lv_bipush (v := nI 7) hx hb dX0_add_37 (by decide) ?_
    refine lv_irem hx hb dX0_add_39 (by decide) ?_
    refine lv_topE (y := nI ((tw x / 7 ^ i) % 7)) (pk_rem (by omega) (by decide) (by omega)) ?_
    refine lv_topE (y := nI (d7 (tw x / 7 ^ i)).val) rfl ?_
    refine x_stN ((n * 5) + i) (by omega) (d7 (tw x / 7 ^ i)) (adN N n (tw x) (i + 1)) (adN_up N n (tw x) i) S hX dX0_add_40 (fun H locs hX => ?_)
    refine lv_iload_n hx hb dX0_add_41 rfl (lv_at hl 2 rfl) ?_
    refine lv_bipush (v := nI 7) hx hb dX0_add_42 (by decide) ?_
    refine lv_idiv hx hb dX0_add_44 (by decide) ?_
    refine lv_topE (y := nI ((tw x / 7 ^ i) / 7)) (pk_div (by omega) (by decide) (by omega)) ?_
    refine lv_topE (y := nI (tw x / 7 ^ (i + 1))) (congrArg nI (dv_up (tw x) i)) ?_
    refine lv_istore_n (lv' := [(2, .int (nI (tw x / 7 ^ (i + 1)))), (0, .ref (g 0)), (1, .int x), (3, .int (nI i))]) hx hb dX0_add_45 rfl hl (by decide) rfl (fun ls hl => ?_)
    refine lv_iinc (v := nI (i + 1)) (lv' := [(3, .int (nI (i + 1))), (2, .int (nI (tw x / 7 ^ (i + 1)))), (0, .ref (g 0)), (1, .int x)]) hx hb dX0_add_46 hl (k := 3) rfl (nI_add i 1) (by decide) rfl (fun ls hl => ?_)
    refine lv_goto (tgt := 19) hx hb dX0_add_49 (by decide) ?_
    exact ih H locs ls ⟨hX, lv_sub hl [2, 3, 1, 0] rfl⟩
  · obtain ⟨hX, hl⟩ := hI
    refine lv_iload_n hx hb dX0_add_19 rfl (lv_at hl 3 rfl) ?_
    refine lv_iconst (v := nI 5) hx hb dX0_add_20 (by decide) ?_
    refine n_ge (a := 5) (b := 5) (by omega) (by omega) hx hb (tgt := 52) dX0_add_21 (by decide) (fun d1 => ?_) (fun d2 => absurd d2 (by omega))
    refine lv_aload_n hx hb dX0_add_52 rfl (lv_at hl 0 rfl) ?_
    refine x_get2 S hX.1 dX0_add_53 ?_
    refine lv_aload_n hx hb dX0_add_56 rfl (lv_at hl 0 rfl) ?_
    refine x_get0 S hX.1 dX0_add_57 ?_
    refine lv_iconst (v := nI 1) hx hb dX0_add_60 (by decide) ?_
    refine lv_topE (y := bI true) (by decide) ?_
    refine x_stO n (by omega) true (va_up O n true) (fun _ _ => rfl) S hX dX0_add_61 (fun H locs hX => ?_)
    refine lv_aload_n hx hb dX0_add_62 rfl (lv_at hl 0 rfl) ?_
    refine lv_dup hx hb dX0_add_63 rfl ?_
    refine x_get0 S hX.1 dX0_add_64 ?_
    refine lv_iconst (v := nI 1) hx hb dX0_add_67 (by decide) ?_
    refine lv_iadd hx hb dX0_add_68 ?_
    refine lv_topE (y := nI (n + 1)) (nI_add n 1) ?_
    refine x_put0 (n + 1) S hX dX0_add_69 (fun H locs hX => ?_)
    refine lv_aload_n hx hb dX0_add_72 rfl (lv_at hl 0 rfl) ?_
    refine x_get0 S hX.1 dX0_add_73 ?_
    refine lv_iconst (v := nI 1) hx hb dX0_add_76 (by decide) ?_
    refine lv_isub hx hb dX0_add_77 ?_
    refine lv_topE (y := nI n) (nI_pred n) ?_
    exact f_retI rfl (fun t ht hW => XH.to S hX.1 ht hW) hX.2 hx hb hr hk dX0_add_78
set_option maxHeartbeats 4000000 in
/-- set: no such equation -/
theorem metX0_set_bad (l : Launch) (E : va_G) (g : Nat → Nat) (n : Nat) (N : Nat → Fin 7) (O D : Nat → Bool) (Rw : Nat → Fin 7) (k : Bool) (K : Nat → Fin 7) (x y v : Int32) (h1 : noE n x = true) : Met l yX0_set (ws_ yX0_set cX0_set 5 (some .int)) ({ frames := 4, cells := 0, slots := 0, locals := 160 }) (va_Pc [.ref (g 0), .int x, .int y, .int v] (XI E g n N O D Rw k K)) (qM (some (.int (-1))) (XI E g n N O D Rw k K) (xA g)) 0 0 (xA g) := by
  refine m_ofH l (by decide) (Nat.le_of_ble_eq_true rfl) (fun p e s m below meth c ls H locs hHe hS0 S0 hr hk _ hI0 hl => ?_)
  have S : XC p m c cX0_set 5 s _ E g := ⟨S0, hI0.2.1, hI0.2.2⟩
  have hx := S0.1
  have hb := S0.2.1
  have hX : XH E g s.heap n N O D Rw k K H locs := ⟨by rw [hHe]; exact hI0.1, hS0 _⟩
  clear hHe hS0
  replace hl : lv_has ls 5 [(0, .ref (g 0)), (1, .int x), (2, .int y), (3, .int v)] := hl
  refine lv_aload_n hx hb dX0_set_0 rfl (lv_at hl 0 rfl) ?_
  refine lv_iload_n hx hb dX0_set_1 rfl (lv_at hl 1 rfl) ?_
  refine x_callR 1 (rest := []) (metX0_noEquation l E g n N O D Rw k K x) S hX.1 (lw_V q63 q65 qs0 q20 q66) rfl rfl (by decide +kernel) ⟨Nat.le_of_ble_eq_true rfl, Nat.le_of_ble_eq_true rfl⟩ rfl hl.1 rfl (Nat.le_of_ble_eq_true rfl) ⟨Nat.zero_le _, Nat.zero_le _⟩ dX0_set_2 ?_
  refine b_if_eq (v := (noE n x)) hx hb (tgt := 10) dX0_set_5 (by decide) (fun d1 => absurd d1 (by rw [h1]; decide)) (fun d2 => ?_)
  refine lv_iconst (v := (-1)) hx hb dX0_set_8 (by decide) ?_
  exact f_retI rfl (fun t ht hW => XH.to S hX.1 ht hW) hX.2 hx hb hr hk dX0_set_9
set_option maxHeartbeats 4000000 in
/-- set: no such place -/
theorem metX0_set_unk (l : Launch) (E : va_G) (g : Nat → Nat) (n : Nat) (N : Nat → Fin 7) (O D : Nat → Bool) (Rw : Nat → Fin 7) (k : Bool) (K : Nat → Fin 7) (x y v : Int32) (h1 : noE n x = false) (h2 : y < 0 ∨ nI 4 < y) : Met l yX0_set (ws_ yX0_set cX0_set 5 (some .int)) ({ frames := 4, cells := 0, slots := 0, locals := 160 }) (va_Pc [.ref (g 0), .int x, .int y, .int v] (XI E g n N O D Rw k K)) (qM (some (.int (-2))) (XI E g n N O D Rw k K) (xA g)) 0 0 (xA g) := by
  refine m_ofH l (by decide) (Nat.le_of_ble_eq_true rfl) (fun p e s m below meth c ls H locs hHe hS0 S0 hr hk _ hI0 hl => ?_)
  have S : XC p m c cX0_set 5 s _ E g := ⟨S0, hI0.2.1, hI0.2.2⟩
  have hx := S0.1
  have hb := S0.2.1
  have hX : XH E g s.heap n N O D Rw k K H locs := ⟨by rw [hHe]; exact hI0.1, hS0 _⟩
  clear hHe hS0
  replace hl : lv_has ls 5 [(0, .ref (g 0)), (1, .int x), (2, .int y), (3, .int v)] := hl
  refine lv_aload_n hx hb dX0_set_0 rfl (lv_at hl 0 rfl) ?_
  refine lv_iload_n hx hb dX0_set_1 rfl (lv_at hl 1 rfl) ?_
  refine x_callR 1 (rest := []) (metX0_noEquation l E g n N O D Rw k K x) S hX.1 (lw_V q63 q65 qs0 q20 q66) rfl rfl (by decide +kernel) ⟨Nat.le_of_ble_eq_true rfl, Nat.le_of_ble_eq_true rfl⟩ rfl hl.1 rfl (Nat.le_of_ble_eq_true rfl) ⟨Nat.zero_le _, Nat.zero_le _⟩ dX0_set_2 ?_
  refine b_if_eq (v := (noE n x)) hx hb (tgt := 10) dX0_set_5 (by decide) (fun d1 => ?_) (fun d2 => absurd d2 (by rw [h1]; decide))
  refine lv_iload_n hx hb dX0_set_10 rfl (lv_at hl 2 rfl) ?_
  refine lv_if_lt hx hb (tgt := 19) dX0_set_11 (by decide) (fun c1 => ?_) (fun c2 => ?_)
  · refine lv_bipush (v := (-2)) hx hb dX0_set_19 (by decide) ?_
    exact f_retI rfl (fun t ht hW => XH.to S hX.1 ht hW) hX.2 hx hb hr hk dX0_set_21
  · refine lv_iload_n hx hb dX0_set_14 rfl (lv_at hl 2 rfl) ?_
    refine lv_iconst (v := nI 4) hx hb dX0_set_15 (by decide) ?_
    refine lv_icmp_le hx hb (tgt := 22) dX0_set_16 (by decide) (fun d1 => absurd d1 (Int32.not_le.mpr (h2.resolve_left c2))) (fun d2 => ?_)
    refine lv_bipush (v := (-2)) hx hb dX0_set_19 (by decide) ?_
    exact f_retI rfl (fun t ht hW => XH.to S hX.1 ht hW) hX.2 hx hb hr hk dX0_set_21
set_option maxHeartbeats 4000000 in
/-- set -/
theorem metX0_set (l : Launch) (E : va_G) (g : Nat → Nat) (n : Nat) (N : Nat → Fin 7) (O D : Nat → Bool) (Rw : Nat → Fin 7) (k : Bool) (K : Nat → Fin 7) (i j : Nat) (v : Int32) (hn : n ≤ 6) (hi : i < n) (hj : j < 5) : Met l yX0_set (ws_ yX0_set cX0_set 5 (some .int)) ({ frames := 4, cells := 0, slots := 0, locals := 160 }) (va_Pc [.ref (g 0), .int (nI i), .int (nI j), .int v] (XI E g n N O D Rw k K)) (qM (some (.int (nI (N (i * 5 + j)).val))) (XI E g n (va_up N (i * 5 + j) (z7 v.toInt)) O D Rw k K) (xA g)) 0 0 (xA g) := by
  refine m_ofH l (by decide) (Nat.le_of_ble_eq_true rfl) (fun p e s m below meth c ls H locs hHe hS0 S0 hr hk _ hI0 hl => ?_)
  have S : XC p m c cX0_set 5 s _ E g := ⟨S0, hI0.2.1, hI0.2.2⟩
  have hx := S0.1
  have hb := S0.2.1
  have hX : XH E g s.heap n N O D Rw k K H locs := ⟨by rw [hHe]; exact hI0.1, hS0 _⟩
  clear hHe hS0
  replace hl : lv_has ls 5 [(0, .ref (g 0)), (1, .int (nI i)), (2, .int (nI j)), (3, .int v)] := hl
  refine lv_aload_n hx hb dX0_set_0 rfl (lv_at hl 0 rfl) ?_
  refine lv_iload_n hx hb dX0_set_1 rfl (lv_at hl 1 rfl) ?_
  refine x_callR 1 (rest := []) (metX0_noEquation l E g n N O D Rw k K (nI i)) S hX.1 (lw_V q63 q65 qs0 q20 q66) rfl rfl (by decide +kernel) ⟨Nat.le_of_ble_eq_true rfl, Nat.le_of_ble_eq_true rfl⟩ rfl hl.1 rfl (Nat.le_of_ble_eq_true rfl) ⟨Nat.zero_le _, Nat.zero_le _⟩ dX0_set_2 ?_
  refine b_if_eq (v := (noE n (nI i))) hx hb (tgt := 10) dX0_set_5 (by decide) (fun d1 => ?_) (fun d2 => absurd d2 (by rw [noE_nI hn hi]; decide))
  refine lv_iload_n hx hb dX0_set_10 rfl (lv_at hl 2 rfl) ?_
  refine lv_if_lt hx hb (tgt := 19) dX0_set_11 (by decide) (fun d1 => absurd d1 (nI_pos (by omega))) (fun d2 => ?_)
  refine lv_iload_n hx hb dX0_set_14 rfl (lv_at hl 2 rfl) ?_
  refine lv_iconst (v := nI 4) hx hb dX0_set_15 (by decide) ?_
  refine n_le (a := j) (b := 4) (by omega) (by omega) hx hb (tgt := 22) dX0_set_16 (by decide) (fun d1 => ?_) (fun d2 => absurd d2 (by omega))
  refine lv_aload_n hx hb dX0_set_22 rfl (lv_at hl 0 rfl) ?_
  refine x_get1 S hX.1 dX0_set_23 ?_
  refine lv_iload_n hx hb dX0_set_26 rfl (lv_at hl 1 rfl) ?_
  refine lv_iconst (v := nI 5) hx hb dX0_set_27 (by decide) ?_
  refine lv_imul hx hb dX0_set_28 ?_
  refine lv_topE (y := nI (i * 5)) (pk_mul i 5) ?_
  refine lv_iload_n hx hb dX0_set_29 rfl (lv_at hl 2 rfl) ?_
  refine lv_iadd hx hb dX0_set_30 ?_
  refine lv_topE (y := nI ((i * 5) + j)) (nI_add (i * 5) j) ?_
  refine x_ldN ((i * 5) + j) (by omega) S hX.1 dX0_set_31 ?_
  refine lv_istore (lv' := [(4, .int (nI (N ((i * 5) + j)).val)), (0, .ref (g 0)), (1, .int (nI i)), (2, .int (nI j)), (3, .int v)]) hx hb dX0_set_32 hl (by decide) rfl (fun ls hl => ?_)
  refine lv_aload_n hx hb dX0_set_34 rfl (lv_at hl 1 rfl) ?_
  refine x_get1 S hX.1 dX0_set_35 ?_
  refine lv_iload_n hx hb dX0_set_38 rfl (lv_at hl 2 rfl) ?_
  refine lv_iconst (v := nI 5) hx hb dX0_set_39 (by decide) ?_
  refine lv_imul hx hb dX0_set_40 ?_
  refine lv_topE (y := nI (i * 5)) (pk_mul i 5) ?_
  refine lv_iload_n hx hb dX0_set_41 rfl (lv_at hl 3 rfl) ?_
  refine lv_iadd hx hb dX0_set_42 ?_
  refine lv_topE (y := nI ((i * 5) + j)) (nI_add (i * 5) j) ?_
  refine lv_iload_n hx hb dX0_set_43 rfl (lv_at hl 4 rfl) ?_
  refine s_call 1 (rest := [.int (nI ((i * 5) + j)), .ref (g 1)]) (metX0_mod l v) S.1 (lw_S q67 q68 q20 q69) rfl rfl (by decide +kernel) ⟨Nat.le_of_ble_eq_true rfl, Nat.le_of_ble_eq_true rfl⟩ rfl hl.1 rfl (Nat.le_of_ble_eq_true rfl) ⟨Nat.zero_le _, Nat.zero_le _⟩ dX0_set_44 ?_
  refine x_stN ((i * 5) + j) (by omega) (z7 v.toInt) (va_up N (i * 5 + j) (z7 v.toInt)) (fun _ _ => rfl) S hX dX0_set_47 (fun H locs hX => ?_)
  refine lv_iload hx hb dX0_set_48 (lv_at hl 0 rfl) ?_
  exact f_retI rfl (fun t ht hW => XH.to S hX.1 ht hW) hX.2 hx hb hr hk dX0_set_50
set_option maxHeartbeats 4000000 in
/-- turn: no such equation -/
theorem metX0_turn_bad (l : Launch) (E : va_G) (g : Nat → Nat) (n : Nat) (N : Nat → Fin 7) (O D : Nat → Bool) (Rw : Nat → Fin 7) (k : Bool) (K : Nat → Fin 7) (x : Int32) (v : Bool) (h1 : noE n x = true) : Met l yX0_turn (ws_ yX0_turn cX0_turn 4 (some .int)) ({ frames := 4, cells := 0, slots := 0, locals := 160 }) (va_Pc [.ref (g 0), .int x, .int (bI v)] (XI E g n N O D Rw k K)) (qM (some (.int (-1))) (XI E g n N O D Rw k K) (xA g)) 0 0 (xA g) := by
  refine m_ofH l (by decide) (Nat.le_of_ble_eq_true rfl) (fun p e s m below meth c ls H locs hHe hS0 S0 hr hk _ hI0 hl => ?_)
  have S : XC p m c cX0_turn 4 s _ E g := ⟨S0, hI0.2.1, hI0.2.2⟩
  have hx := S0.1
  have hb := S0.2.1
  have hX : XH E g s.heap n N O D Rw k K H locs := ⟨by rw [hHe]; exact hI0.1, hS0 _⟩
  clear hHe hS0
  replace hl : lv_has ls 4 [(0, .ref (g 0)), (1, .int x), (2, .int (bI v))] := hl
  refine lv_aload_n hx hb dX0_turn_0 rfl (lv_at hl 0 rfl) ?_
  refine lv_iload_n hx hb dX0_turn_1 rfl (lv_at hl 1 rfl) ?_
  refine x_callR 1 (rest := []) (metX0_noEquation l E g n N O D Rw k K x) S hX.1 (lw_V q63 q65 qs0 q20 q66) rfl rfl (by decide +kernel) ⟨Nat.le_of_ble_eq_true rfl, Nat.le_of_ble_eq_true rfl⟩ rfl hl.1 rfl (Nat.le_of_ble_eq_true rfl) ⟨Nat.zero_le _, Nat.zero_le _⟩ dX0_turn_2 ?_
  refine b_if_eq (v := (noE n x)) hx hb (tgt := 10) dX0_turn_5 (by decide) (fun d1 => absurd d1 (by rw [h1]; decide)) (fun d2 => ?_)
  refine lv_iconst (v := (-1)) hx hb dX0_turn_8 (by decide) ?_
  exact f_retI rfl (fun t ht hW => XH.to S hX.1 ht hW) hX.2 hx hb hr hk dX0_turn_9
set_option maxHeartbeats 4000000 in
/-- turn -/
theorem metX0_turn (l : Launch) (E : va_G) (g : Nat → Nat) (n : Nat) (N : Nat → Fin 7) (O D : Nat → Bool) (Rw : Nat → Fin 7) (k : Bool) (K : Nat → Fin 7) (i : Nat) (v : Bool) (hn : n ≤ 6) (hi : i < n) : Met l yX0_turn (ws_ yX0_turn cX0_turn 4 (some .int)) ({ frames := 4, cells := 0, slots := 0, locals := 160 }) (va_Pc [.ref (g 0), .int (nI i), .int (bI v)] (XI E g n N O D Rw k K)) (qM (some (.int (bI (O i)))) (XI E g n N (va_up O i v) D Rw k K) (xA g)) 0 0 (xA g) := by
  refine m_ofH l (by decide) (Nat.le_of_ble_eq_true rfl) (fun p e s m below meth c ls H locs hHe hS0 S0 hr hk _ hI0 hl => ?_)
  have S : XC p m c cX0_turn 4 s _ E g := ⟨S0, hI0.2.1, hI0.2.2⟩
  have hx := S0.1
  have hb := S0.2.1
  have hX : XH E g s.heap n N O D Rw k K H locs := ⟨by rw [hHe]; exact hI0.1, hS0 _⟩
  clear hHe hS0
  replace hl : lv_has ls 4 [(0, .ref (g 0)), (1, .int (nI i)), (2, .int (bI v))] := hl
  refine lv_aload_n hx hb dX0_turn_0 rfl (lv_at hl 0 rfl) ?_
  refine lv_iload_n hx hb dX0_turn_1 rfl (lv_at hl 1 rfl) ?_
  refine x_callR 1 (rest := []) (metX0_noEquation l E g n N O D Rw k K (nI i)) S hX.1 (lw_V q63 q65 qs0 q20 q66) rfl rfl (by decide +kernel) ⟨Nat.le_of_ble_eq_true rfl, Nat.le_of_ble_eq_true rfl⟩ rfl hl.1 rfl (Nat.le_of_ble_eq_true rfl) ⟨Nat.zero_le _, Nat.zero_le _⟩ dX0_turn_2 ?_
  refine b_if_eq (v := (noE n (nI i))) hx hb (tgt := 10) dX0_turn_5 (by decide) (fun d1 => ?_) (fun d2 => absurd d2 (by rw [noE_nI hn hi]; decide))
  refine lv_aload_n hx hb dX0_turn_10 rfl (lv_at hl 0 rfl) ?_
  refine x_get2 S hX.1 dX0_turn_11 ?_
  refine lv_iload_n hx hb dX0_turn_14 rfl (lv_at hl 1 rfl) ?_
  refine x_ldO i (by omega) S hX.1 dX0_turn_15 ?_
  refine b_if_eq (v := (O i)) hx hb (tgt := 23) dX0_turn_16 (by decide) (fun c1 => ?_) (fun c2 => ?_)
  · refine lv_iconst (v := nI 0) hx hb dX0_turn_23 (by decide) ?_
    refine lv_topE (y := bI (O i)) (by rw [c1]; decide) ?_
    refine lv_istore_n (lv' := [(3, .int (bI (O i))), (0, .ref (g 0)), (1, .int (nI i)), (2, .int (bI v))]) hx hb dX0_turn_24 rfl hl (by decide) rfl (fun ls hl => ?_)
    refine lv_aload_n hx hb dX0_turn_25 rfl (lv_at hl 1 rfl) ?_
    refine x_get2 S hX.1 dX0_turn_26 ?_
    refine lv_iload_n hx hb dX0_turn_29 rfl (lv_at hl 2 rfl) ?_
    refine lv_iload_n hx hb dX0_turn_30 rfl (lv_at hl 3 rfl) ?_
    refine x_stO i (by omega) v (va_up O i v) (fun _ _ => rfl) S hX dX0_turn_31 (fun H locs hX => ?_)
    refine lv_iload_n hx hb dX0_turn_32 rfl (lv_at hl 0 rfl) ?_
    exact f_retI rfl (fun t ht hW => XH.to S hX.1 ht hW) hX.2 hx hb hr hk dX0_turn_33
  · refine lv_iconst (v := nI 1) hx hb dX0_turn_19 (by decide) ?_
    refine lv_goto (tgt := 24) hx hb dX0_turn_20 (by decide) ?_
    refine lv_topE (y := bI (O i)) (by rw [c2]; decide) ?_
    refine lv_istore_n (lv' := [(3, .int (bI (O i))), (0, .ref (g 0)), (1, .int (nI i)), (2, .int (bI v))]) hx hb dX0_turn_24 rfl hl (by decide) rfl (fun ls hl => ?_)
    refine lv_aload_n hx hb dX0_turn_25 rfl (lv_at hl 1 rfl) ?_
    refine x_get2 S hX.1 dX0_turn_26 ?_
    refine lv_iload_n hx hb dX0_turn_29 rfl (lv_at hl 2 rfl) ?_
    refine lv_iload_n hx hb dX0_turn_30 rfl (lv_at hl 3 rfl) ?_
    refine x_stO i (by omega) v (va_up O i v) (fun _ _ => rfl) S hX dX0_turn_31 (fun H locs hX => ?_)
    refine lv_iload_n hx hb dX0_turn_32 rfl (lv_at hl 0 rfl) ?_
    exact f_retI rfl (fun t ht hW => XH.to S hX.1 ht hW) hX.2 hx hb hr hk dX0_turn_33
set_option maxHeartbeats 4000000 in
/-- drop: none -/
theorem metX0_drop_none (l : Launch) (E : va_G) (g : Nat → Nat) (n : Nat) (N : Nat → Fin 7) (O D : Nat → Bool) (Rw : Nat → Fin 7) (k : Bool) (K : Nat → Fin 7) (hn : n = 0) : Met l yX0_drop (ws_ yX0_drop cX0_drop 1 (some .int)) ({ frames := 4, cells := 0, slots := 0, locals := 160 }) (va_Pc [.ref (g 0)] (XI E g n N O D Rw k K)) (qM (some (.int (-1))) (XI E g n N O D Rw k K) (xA g)) 0 0 (xA g) := by
  refine m_ofH l (by decide) (Nat.le_of_ble_eq_true rfl) (fun p e s m below meth c ls H locs hHe hS0 S0 hr hk _ hI0 hl => ?_)
  have S : XC p m c cX0_drop 1 s _ E g := ⟨S0, hI0.2.1, hI0.2.2⟩
  have hx := S0.1
  have hb := S0.2.1
  have hX : XH E g s.heap n N O D Rw k K H locs := ⟨by rw [hHe]; exact hI0.1, hS0 _⟩
  clear hHe hS0
  replace hl : lv_has ls 1 [(0, .ref (g 0))] := hl
  refine lv_aload_n hx hb dX0_drop_0 rfl (lv_at hl 0 rfl) ?_
  refine x_get0 S hX.1 dX0_drop_1 ?_
  refine n_if_ne (a := n) (by omega) hx hb (tgt := 9) dX0_drop_4 (by decide) (fun d1 => absurd d1 (by rw [hn]; exact fun h => h rfl)) (fun d2 => ?_)
  refine lv_iconst (v := (-1)) hx hb dX0_drop_7 (by decide) ?_
  exact f_retI rfl (fun t ht hW => XH.to S hX.1 ht hW) hX.2 hx hb hr hk dX0_drop_8
set_option maxHeartbeats 4000000 in
/-- drop -/
theorem metX0_drop (l : Launch) (E : va_G) (g : Nat → Nat) (n : Nat) (N : Nat → Fin 7) (O D : Nat → Bool) (Rw : Nat → Fin 7) (k : Bool) (K : Nat → Fin 7) (j : Nat) (hn : n = j + 1) (hj : j < 6) : Met l yX0_drop (ws_ yX0_drop cX0_drop 1 (some .int)) ({ frames := 4, cells := 0, slots := 0, locals := 160 }) (va_Pc [.ref (g 0)] (XI E g n N O D Rw k K)) (qM (some (.int (nI j))) (XI E g j N O D Rw k K) (xA g)) 0 0 (xA g) := by
  refine m_ofH l (by decide) (Nat.le_of_ble_eq_true rfl) (fun p e s m below meth c ls H locs hHe hS0 S0 hr hk _ hI0 hl => ?_)
  have S : XC p m c cX0_drop 1 s _ E g := ⟨S0, hI0.2.1, hI0.2.2⟩
  have hx := S0.1
  have hb := S0.2.1
  have hX : XH E g s.heap n N O D Rw k K H locs := ⟨by rw [hHe]; exact hI0.1, hS0 _⟩
  clear hHe hS0
  replace hl : lv_has ls 1 [(0, .ref (g 0))] := hl
  subst hn
  refine lv_aload_n hx hb dX0_drop_0 rfl (lv_at hl 0 rfl) ?_
  refine x_get0 S hX.1 dX0_drop_1 ?_
  refine n_if_ne (a := (j + 1)) (by omega) hx hb (tgt := 9) dX0_drop_4 (by decide) (fun d1 => ?_) (fun d2 => absurd d2 (Nat.succ_ne_zero j))
  refine lv_aload_n hx hb dX0_drop_9 rfl (lv_at hl 0 rfl) ?_
  refine lv_dup hx hb dX0_drop_10 rfl ?_
  refine x_get0 S hX.1 dX0_drop_11 ?_
  refine lv_iconst (v := nI 1) hx hb dX0_drop_14 (by decide) ?_
  refine lv_isub hx hb dX0_drop_15 ?_
  refine lv_topE (y := nI j) (nI_pred j) ?_
  refine x_put0 j S hX dX0_drop_16 (fun H locs hX => ?_)
  refine lv_aload_n hx hb dX0_drop_19 rfl (lv_at hl 0 rfl) ?_
  refine x_get0 S hX.1 dX0_drop_20 ?_
  exact f_retI rfl (fun t ht hW => XH.to S hX.1 ht hW) hX.2 hx hb hr hk dX0_drop_23
set_option maxHeartbeats 4000000 in
/-- solutions() -/
theorem metX0_solutions (l : Launch) (E : va_G) (g : Nat → Nat) (n : Nat) (N : Nat → Fin 7) (O D : Nat → Bool) (Rw : Nat → Fin 7) (k : Bool) (K : Nat → Fin 7) (hn : n ≤ 6) : Met l yX0_solutions (ws_ yX0_solutions cX0_solutions 1 (some .int)) ({ frames := 4, cells := 0, slots := 0, locals := 160 }) (va_Pc [.ref (g 0)] (XI E g n N O D Rw k K)) (qM (some (.int (nI (xSol (sv N (onM O n) Rw K n))))) (XA E g n N O) (xA g)) 0 0 (xA g) := by
  refine m_ofH l (by decide) (Nat.le_of_ble_eq_true rfl) (fun p e s m below meth c ls H locs hHe hS0 S0 hr hk _ hI0 hl => ?_)
  have S : XC p m c cX0_solutions 1 s _ E g := ⟨S0, hI0.2.1, hI0.2.2⟩
  have hx := S0.1
  have hb := S0.2.1
  have hX : XH E g s.heap n N O D Rw k K H locs := ⟨by rw [hHe]; exact hI0.1, hS0 _⟩
  clear hHe hS0
  replace hl : lv_has ls 1 [(0, .ref (g 0))] := hl
  refine lv_aload_n hx hb dX0_solutions_0 rfl (lv_at hl 0 rfl) ?_
  refine x_callM 0 (rest := []) (metX0_solve l E g n N O D Rw k K hn) S hX (lw_V q82 q84 qs1 q20 q85) rfl rfl (by decide +kernel) ⟨Nat.le_of_ble_eq_true rfl, Nat.le_of_ble_eq_true rfl⟩ rfl hl.1 rfl (Nat.le_of_ble_eq_true rfl) ⟨Nat.zero_le _, Nat.zero_le _⟩ dX0_solutions_1 (fun H locs hX => ?_)
  refine W.eq (g2 := F0 m 4 ls []) rfl ?_
  generalize sv N (onM O n) Rw K n = z at hX ⊢
  refine lv_aload_n hx hb dX0_solutions_4 rfl (lv_at hl 0 rfl) ?_
  refine x_get5 S hX.1 dX0_solutions_5 ?_
  refine b_if_eq (v := z.2.2.1) hx hb (tgt := 15) dX0_solutions_8 (by decide) (fun c1 => ?_) (fun c2 => ?_)
  · refine lv_aload_n hx hb dX0_solutions_15 rfl (lv_at hl 0 rfl) ?_
    refine lv_iconst (v := nI 0) hx hb dX0_solutions_16 (by decide) ?_
    refine x_callR 1 (rest := []) (metX0_waysFrom l E g n N O z.1 z.2.1 z.2.2.1 z.2.2.2 0 (by omega)) S hX.1 (lw_V q109 q111 qs7 q20 q112) rfl rfl (by decide +kernel) ⟨Nat.le_of_ble_eq_true rfl, Nat.le_of_ble_eq_true rfl⟩ rfl hl.1 rfl (Nat.le_of_ble_eq_true rfl) ⟨Nat.zero_le _, Nat.zero_le _⟩ dX0_solutions_17 ?_
    exact f_retI (by simp [xSol, c1]) (fun t ht hW => ⟨_, _, _, _, XH.to S hX.1 ht hW⟩) hX.2 hx hb hr hk dX0_solutions_20
  · refine lv_iconst (v := nI 0) hx hb dX0_solutions_11 (by decide) ?_
    refine lv_goto (tgt := 20) hx hb dX0_solutions_12 (by decide) ?_
    exact f_retI (by simp [xSol, c2]) (fun t ht hW => ⟨_, _, _, _, XH.to S hX.1 ht hW⟩) hX.2 hx hb hr hk dX0_solutions_20
set_option maxHeartbeats 4000000 in
/-- value(x, y) -/
theorem metX0_value (l : Launch) (E : va_G) (g : Nat → Nat) (n : Nat) (N : Nat → Fin 7) (O D : Nat → Bool) (Rw : Nat → Fin 7) (k : Bool) (K : Nat → Fin 7) (x y : Int32) (hn : n ≤ 6) : Met l yX0_value (ws_ yX0_value cX0_value 5 (some .int)) ({ frames := 4, cells := 0, slots := 0, locals := 160 }) (va_Pc [.ref (g 0), .int x, .int y] (XI E g n N O D Rw k K)) (qM (some (.int (xVal (sv N (onM O n) Rw K n) x y))) (XA E g n N O) (xA g)) 0 0 (xA g) := by
  refine m_ofH l (by decide) (Nat.le_of_ble_eq_true rfl) (fun p e s m below meth c ls H locs hHe hS0 S0 hr hk _ hI0 hl => ?_)
  have S : XC p m c cX0_value 5 s _ E g := ⟨S0, hI0.2.1, hI0.2.2⟩
  have hx := S0.1
  have hb := S0.2.1
  have hX : XH E g s.heap n N O D Rw k K H locs := ⟨by rw [hHe]; exact hI0.1, hS0 _⟩
  clear hHe hS0
  replace hl : lv_has ls 5 [(0, .ref (g 0)), (1, .int x), (2, .int y)] := hl
  refine lv_iload_n hx hb dX0_value_0 rfl (lv_at hl 2 rfl) ?_
  refine lv_if_lt hx hb (tgt := 9) dX0_value_1 (by decide) (fun c1 => ?_) (fun c2 => ?_)
  · refine lv_bipush (v := (-4)) hx hb dX0_value_9 (by decide) ?_
    exact f_retI (by simp [xVal, c1]) (fun t ht hW => ⟨_, _, _, _, XH.to S hX.1 ht hW⟩) hX.2 hx hb hr hk dX0_value_11
  · refine lv_iload_n hx hb dX0_value_4 rfl (lv_at hl 2 rfl) ?_
    refine lv_iconst (v := nI 4) hx hb dX0_value_5 (by decide) ?_
    refine lv_icmp_lt hx hb (tgt := 12) dX0_value_6 (by decide) (fun c3 => ?_) (fun c4 => ?_)
    · obtain ⟨u, hu, rfl⟩ := nI_case (by decide) c2 (Int32.not_le.mpr c3)
      have hy : ¬ (nI u < 0 ∨ nI 4 ≤ nI u) := fun h => h.elim c2 (Int32.not_le.mpr c3)
      refine lv_aload_n hx hb dX0_value_12 rfl (lv_at hl 0 rfl) ?_
      refine x_callM 0 (rest := []) (metX0_solve l E g n N O D Rw k K hn) S hX (lw_V q82 q84 qs1 q20 q85) rfl rfl (by decide +kernel) ⟨Nat.le_of_ble_eq_true rfl, Nat.le_of_ble_eq_true rfl⟩ rfl hl.1 rfl (Nat.le_of_ble_eq_true rfl) ⟨Nat.zero_le _, Nat.zero_le _⟩ dX0_value_13 (fun H locs hX => ?_)
      refine W.eq (g2 := F0 m 16 ls []) rfl ?_
      generalize sv N (onM O n) Rw K n = z at hX ⊢
      refine lv_aload_n hx hb dX0_value_16 rfl (lv_at hl 0 rfl) ?_
      refine x_get5 S hX.1 dX0_value_17 ?_
      refine b_if_ne (v := z.2.2.1) hx hb (tgt := 36) dX0_value_20 (by decide) (fun c5 => ?_) (fun c6 => ?_)
      · refine lv_bipush (v := (-4)) hx hb dX0_value_36 (by decide) ?_
        exact f_retI (by simp [xVal, c5]) (fun t ht hW => ⟨_, _, _, _, XH.to S hX.1 ht hW⟩) hX.2 hx hb hr hk dX0_value_38
      · refine lv_iload_n hx hb dX0_value_23 rfl (lv_at hl 1 rfl) ?_
        refine lv_if_lt hx hb (tgt := 36) dX0_value_24 (by decide) (fun c7 => ?_) (fun c8 => ?_)
        · refine lv_bipush (v := (-4)) hx hb dX0_value_36 (by decide) ?_
          exact f_retI (by simp [xVal, c7]) (fun t ht hW => ⟨_, _, _, _, XH.to S hX.1 ht hW⟩) hX.2 hx hb hr hk dX0_value_38
        · refine lv_iload_n hx hb dX0_value_27 rfl (lv_at hl 1 rfl) ?_
          refine lv_aload_n hx hb dX0_value_28 rfl (lv_at hl 0 rfl) ?_
          refine lv_iconst (v := nI 0) hx hb dX0_value_29 (by decide) ?_
          refine x_callR 1 (rest := [.int x]) (metX0_waysFrom l E g n N O z.1 z.2.1 z.2.2.1 z.2.2.2 0 (by omega)) S hX.1 (lw_V q109 q111 qs7 q20 q112) rfl rfl (by decide +kernel) ⟨Nat.le_of_ble_eq_true rfl, Nat.le_of_ble_eq_true rfl⟩ rfl hl.1 rfl (Nat.le_of_ble_eq_true rfl) ⟨Nat.zero_le _, Nat.zero_le _⟩ dX0_value_30 ?_
          refine lv_icmp_lt hx hb (tgt := 39) dX0_value_33 (by decide) (fun c9 => ?_) (fun c10 => ?_)
          · obtain ⟨j, hj, rfl⟩ := nI_case (Nat.lt_of_le_of_lt (wy_le _ _) (by decide)) c8 (Int32.not_le.mpr c9)
            have hs := (saN_in z.2.1 hj 4 (Nat.le_refl 4)).2
            have hres : nI ((saN z.1 z.2.1 j 4).2 / 7 ^ u % 7) = xVal z (nI j) (nI u) := by
              have h2 : ¬ (z.2.2.1 = true ∨ nI j < 0 ∨ nI (wy z.1 0) ≤ nI j) := fun h => h.elim (fun h => by rw [c6] at h; cases h) (fun h => h.elim c8 (Int32.not_le.mpr c9))
              rw [xVal, if_neg hy, if_neg h2, nI_clamp (by have := wy_le z.1 0; omega), nI_clamp (by omega)]
            refine lv_aload_n hx hb dX0_value_39 rfl (lv_at hl 0 rfl) ?_
            refine lv_iload_n hx hb dX0_value_40 rfl (lv_at hl 1 rfl) ?_
            refine x_callR 1 (rest := []) (metX0_solutionAt l E g n N O z.1 z.2.1 z.2.2.1 z.2.2.2 j hj) S hX.1 (lw_V q117 q119 qs8 q20 q120) rfl rfl (by decide +kernel) ⟨Nat.le_of_ble_eq_true rfl, Nat.le_of_ble_eq_true rfl⟩ rfl hl.1 rfl (Nat.le_of_ble_eq_true rfl) ⟨Nat.zero_le _, Nat.zero_le _⟩ dX0_value_41 ?_
            refine lv_istore_n (lv' := [(3, .int (nI ((saN z.1 z.2.1 j 4).2))), (0, .ref (g 0)), (1, .int (nI j)), (2, .int (nI u))]) hx hb dX0_value_44 rfl hl (by decide) rfl (fun ls hl => ?_)
            refine lv_iconst (v := nI 0) hx hb dX0_value_45 (by decide) ?_
            refine lv_istore (lv' := [(4, .int (nI 0)), (3, .int (nI ((saN z.1 z.2.1 j 4).2))), (0, .ref (g 0)), (1, .int (nI j)), (2, .int (nI u))]) hx hb dX0_value_46 hl (by decide) rfl (fun ls hl => ?_)
            generalize (saN z.1 z.2.1 j 4).2 = dg at hs hres hl
            replace hl : lv_has ls 5 [(4, .int (nI 0)), (3, .int (nI (dg / 7 ^ 0))), (0, .ref (g 0)), (1, .int (nI j)), (2, .int (nI u))] := by rw [show nI (dg / 7 ^ 0) = nI dg from by rw [Nat.pow_zero, Nat.div_one]]; exact hl
            revert ls
            revert H locs
            refine lp_H (I := fun i H locs ls => XH E g s.heap n N O z.1 z.2.1 z.2.2.1 z.2.2.2 H locs ∧ lv_has ls 5 [(0, .ref (g 0)), (1, .int (nI j)), (2, .int (nI u)), (3, .int (nI (dg / 7 ^ i))), (4, .int (nI i))]) u (fun i hi ih H locs ls hI => ?_) (fun H locs ls hI => ?_) 0 (by omega) (fun H locs ls hX hl => ⟨hX, lv_sub hl [2, 3, 4, 1, 0] rfl⟩)
            · obtain ⟨hX, hl⟩ := hI
              have hbi : dg / 7 ^ i ≤ dg := Nat.div_le_self _ _
              refine lv_iload hx hb dX0_value_48 (lv_at hl 4 rfl) ?_
              refine lv_iload_n hx hb dX0_value_50 rfl (lv_at hl 2 rfl) ?_
              refine n_ge (a := i) (b := u) (by omega) (by omega) hx hb (tgt := 65) dX0_value_51 (by decide) (fun d1 => absurd d1 (by omega)) (fun d2 => ?_)
              refine lv_iload_n hx hb dX0_value_54 rfl (lv_at hl 3 rfl) ?_
              refine lv_bipush (v := nI 7) hx hb dX0_value_55 (by decide) ?_
              refine lv_idiv hx hb dX0_value_57 (by decide) ?_
              refine lv_topE (y := nI ((dg / 7 ^ i) / 7)) (pk_div (by omega) (by decide) (by omega)) ?_
              refine lv_topE (y := nI (dg / 7 ^ (i + 1))) (congrArg nI (dv_up dg i)) ?_
              refine lv_istore_n (lv' := [(3, .int (nI (dg / 7 ^ (i + 1)))), (0, .ref (g 0)), (1, .int (nI j)), (2, .int (nI u)), (4, .int (nI i))]) hx hb dX0_value_58 rfl hl (by decide) rfl (fun ls hl => ?_)
              refine lv_iinc (v := nI (i + 1)) (lv' := [(4, .int (nI (i + 1))), (3, .int (nI (dg / 7 ^ (i + 1)))), (0, .ref (g 0)), (1, .int (nI j)), (2, .int (nI u))]) hx hb dX0_value_59 hl (k := 4) rfl (nI_add i 1) (by decide) rfl (fun ls hl => ?_)
              refine lv_goto (tgt := 48) hx hb dX0_value_62 (by decide) ?_
              exact ih H locs ls ⟨hX, lv_sub hl [2, 3, 4, 1, 0] rfl⟩
            · obtain ⟨hX, hl⟩ := hI
              have hbi : dg / 7 ^ u ≤ dg := Nat.div_le_self _ _
              refine lv_iload hx hb dX0_value_48 (lv_at hl 4 rfl) ?_
              refine lv_iload_n hx hb dX0_value_50 rfl (lv_at hl 2 rfl) ?_
              refine n_ge (a := u) (b := u) (by omega) (by omega) hx hb (tgt := 65) dX0_value_51 (by decide) (fun d1 => ?_) (fun d2 => absurd d2 (by omega))
              refine lv_iload_n hx hb dX0_value_65 rfl (lv_at hl 3 rfl) ?_
              refine lv_bipush (v := nI 7) hx hb dX0_value_66 (by decide) ?_
              refine lv_irem hx hb dX0_value_68 (by decide) ?_
              refine lv_topE (y := nI ((dg / 7 ^ u) % 7)) (pk_rem (by omega) (by decide) (by omega)) ?_
              exact f_retI hres (fun t ht hW => ⟨_, _, _, _, XH.to S hX.1 ht hW⟩) hX.2 hx hb hr hk dX0_value_69
          · refine lv_bipush (v := (-4)) hx hb dX0_value_36 (by decide) ?_
            exact f_retI (by simp [xVal, Int32.not_lt.mp c10]) (fun t ht hW => ⟨_, _, _, _, XH.to S hX.1 ht hW⟩) hX.2 hx hb hr hk dX0_value_38
    · refine lv_bipush (v := (-4)) hx hb dX0_value_9 (by decide) ?_
      exact f_retI (by simp [xVal, Int32.not_lt.mp c4]) (fun t ht hW => ⟨_, _, _, _, XH.to S hX.1 ht hW⟩) hX.2 hx hb hr hk dX0_value_11
end
section
set_option maxRecDepth 100000
set_option maxHeartbeats 4000000 in
/-- possible -/
theorem metX0_possible (l : Launch) (E : va_G) (g : Nat → Nat) (n : Nat) (N : Nat → Fin 7) (O D : Nat → Bool) (Rw : Nat → Fin 7) (k : Bool) (K : Nat → Fin 7) (y : Int32) (hn : n ≤ 6) : Met l yX0_possible (ws_ yX0_possible cX0_possible 3 (some .int)) ({ frames := 4, cells := 0, slots := 0, locals := 160 }) (va_Pc [.ref (g 0), .int y] (XI E g n N O D Rw k K)) (qM (some (.int (xPos (sv N (onM O n) Rw K n) y))) (XA E g n N O) (xA g)) 0 0 (xA g) := by
  refine m_ofH l (by decide) (Nat.le_of_ble_eq_true rfl) (fun p e s m below meth c ls H locs hHe hS0 S0 hr hk _ hI0 hl => ?_)
  have S : XC p m c cX0_possible 3 s _ E g := ⟨S0, hI0.2.1, hI0.2.2⟩
  have hx := S0.1
  have hb := S0.2.1
  have hX : XH E g s.heap n N O D Rw k K H locs := ⟨by rw [hHe]; exact hI0.1, hS0 _⟩
  clear hHe hS0
  replace hl : lv_has ls 3 [(0, .ref (g 0)), (1, .int y)] := hl
  refine lv_iload_n hx hb dX0_possible_0 rfl (lv_at hl 1 rfl) ?_
  refine lv_if_lt hx hb (tgt := 9) dX0_possible_1 (by decide) (fun c1 => ?_) (fun c2 => ?_)
  · refine lv_iconst (v := nI 0) hx hb dX0_possible_9 (by decide) ?_
    exact f_retI (by simp only [xPos, if_pos (Or.inl c1 : y < 0 ∨ nI 4 ≤ y)]; rfl) (fun t ht hW => ⟨_, _, _, _, XH.to S hX.1 ht hW⟩) hX.2 hx hb hr hk dX0_possible_10
  · refine lv_iload_n hx hb dX0_possible_4 rfl (lv_at hl 1 rfl) ?_
    refine lv_iconst (v := nI 4) hx hb dX0_possible_5 (by decide) ?_
    refine lv_icmp_lt hx hb (tgt := 11) dX0_possible_6 (by decide) (fun c3 => ?_) (fun c4 => ?_)
    · obtain ⟨u, hu, rfl⟩ := nI_case (by decide) c2 (Int32.not_le.mpr c3)
      have hy : ¬ (nI u < 0 ∨ nI 4 ≤ nI u) := fun h => h.elim c2 (Int32.not_le.mpr c3)
      refine lv_aload_n hx hb dX0_possible_11 rfl (lv_at hl 0 rfl) ?_
      refine x_callM 0 (rest := []) (metX0_solve l E g n N O D Rw k K hn) S hX (lw_V q82 q84 qs1 q20 q85) rfl rfl (by decide +kernel) ⟨Nat.le_of_ble_eq_true rfl, Nat.le_of_ble_eq_true rfl⟩ rfl hl.1 rfl (Nat.le_of_ble_eq_true rfl) ⟨Nat.zero_le _, Nat.zero_le _⟩ dX0_possible_12 (fun H locs hX => ?_)
      refine W.eq (g2 := F0 m 15 ls []) rfl ?_
      generalize sv N (onM O n) Rw K n = z at hX ⊢
      refine lv_aload_n hx hb dX0_possible_15 rfl (lv_at hl 0 rfl) ?_
      refine x_get5 S hX.1 dX0_possible_16 ?_
      refine b_if_eq (v := z.2.2.1) hx hb (tgt := 24) dX0_possible_19 (by decide) (fun c5 => ?_) (fun c6 => ?_)
      · have h5 : ¬ z.2.2.1 = true := by rw [c5]; decide
        refine lv_aload_n hx hb dX0_possible_24 rfl (lv_at hl 0 rfl) ?_
        refine lv_iload_n hx hb dX0_possible_25 rfl (lv_at hl 1 rfl) ?_
        refine x_callR 1 (rest := []) (metX0_varies l E g n N O z.1 z.2.1 z.2.2.1 z.2.2.2 u hu) S hX.1 (lw_V q129 q131 qs10 q20 q132) rfl rfl (by decide +kernel) ⟨Nat.le_of_ble_eq_true rfl, Nat.le_of_ble_eq_true rfl⟩ rfl hl.1 rfl (Nat.le_of_ble_eq_true rfl) ⟨Nat.zero_le _, Nat.zero_le _⟩ dX0_possible_26 ?_
        refine lv_istore_n (lv' := [(2, .int (bI (vary z.1 z.2.1 u))), (0, .ref (g 0)), (1, .int (nI u))]) hx hb dX0_possible_29 rfl hl (by decide) rfl (fun ls hl => ?_)
        refine lv_iload_n hx hb dX0_possible_30 rfl (lv_at hl 0 rfl) ?_
        refine b_if_eq (v := (vary z.1 z.2.1 u)) hx hb (tgt := 39) dX0_possible_31 (by decide) (fun c7 => ?_) (fun c8 => ?_)
        · have h7 : ¬ vary z.1 z.2.1 u = true := by rw [c7]; decide
          refine lv_iconst (v := nI 1) hx hb dX0_possible_39 (by decide) ?_
          refine lv_aload_n hx hb dX0_possible_40 rfl (lv_at hl 1 rfl) ?_
          refine x_get4 S hX.1 dX0_possible_41 ?_
          refine lv_iload_n hx hb dX0_possible_44 rfl (lv_at hl 2 rfl) ?_
          refine lv_iconst (v := nI 5) hx hb dX0_possible_45 (by decide) ?_
          refine lv_imul hx hb dX0_possible_46 ?_
          refine lv_topE (y := nI (u * 5)) (pk_mul u 5) ?_
          refine lv_iconst (v := nI 4) hx hb dX0_possible_47 (by decide) ?_
          refine lv_iadd hx hb dX0_possible_48 ?_
          refine lv_topE (y := nI ((u * 5) + 4)) (nI_add (u * 5) 4) ?_
          refine x_ldRw ((u * 5) + 4) (by omega) S hX.1 dX0_possible_49 ?_
          refine lv_ishl hx hb dX0_possible_50 ?_
          refine lv_topE (y := nI (2 ^ (z.2.1 (u * 5 + 4)).val)) (nb_shl (by have := (z.2.1 (u * 5 + 4)).isLt; omega)) ?_
          exact f_retI (by rw [xPos, if_neg hy, if_neg h5, nI_clamp (by omega)]; rw [if_neg h7]) (fun t ht hW => ⟨_, _, _, _, XH.to S hX.1 ht hW⟩) hX.2 hx hb hr hk dX0_possible_51
        · refine lv_bipush (v := nI 127) hx hb dX0_possible_34 (by decide) ?_
          refine lv_goto (tgt := 51) hx hb dX0_possible_36 (by decide) ?_
          exact f_retI (by rw [xPos, if_neg hy, if_neg h5, nI_clamp (by omega)]; rw [if_pos c8]; rfl) (fun t ht hW => ⟨_, _, _, _, XH.to S hX.1 ht hW⟩) hX.2 hx hb hr hk dX0_possible_51
      · refine lv_iconst (v := nI 0) hx hb dX0_possible_22 (by decide) ?_
        exact f_retI (by rw [xPos, if_neg hy, if_pos c6]; rfl) (fun t ht hW => ⟨_, _, _, _, XH.to S hX.1 ht hW⟩) hX.2 hx hb hr hk dX0_possible_23
    · refine lv_iconst (v := nI 0) hx hb dX0_possible_9 (by decide) ?_
      exact f_retI (by simp only [xPos, if_pos (Or.inr (Int32.not_lt.mp c4) : y < 0 ∨ nI 4 ≤ y)]; rfl) (fun t ht hW => ⟨_, _, _, _, XH.to S hX.1 ht hW⟩) hX.2 hx hb hr hk dX0_possible_10
set_option maxHeartbeats 4000000 in
/-- fixed -/
theorem metX0_fixed (l : Launch) (E : va_G) (g : Nat → Nat) (n : Nat) (N : Nat → Fin 7) (O D : Nat → Bool) (Rw : Nat → Fin 7) (k : Bool) (K : Nat → Fin 7) (y : Int32) (hn : n ≤ 6) : Met l yX0_fixed (ws_ yX0_fixed cX0_fixed 3 (some .boolean)) ({ frames := 4, cells := 0, slots := 0, locals := 160 }) (va_Pc [.ref (g 0), .int y] (XI E g n N O D Rw k K)) (qM (some (.int (bI (xFix (sv N (onM O n) Rw K n) y)))) (XA E g n N O) (xA g)) 0 0 (xA g) := by
  refine m_ofH l (by decide) (Nat.le_of_ble_eq_true rfl) (fun p e s m below meth c ls H locs hHe hS0 S0 hr hk _ hI0 hl => ?_)
  have S : XC p m c cX0_fixed 3 s _ E g := ⟨S0, hI0.2.1, hI0.2.2⟩
  have hx := S0.1
  have hb := S0.2.1
  have hX : XH E g s.heap n N O D Rw k K H locs := ⟨by rw [hHe]; exact hI0.1, hS0 _⟩
  clear hHe hS0
  replace hl : lv_has ls 3 [(0, .ref (g 0)), (1, .int y)] := hl
  refine lv_iload_n hx hb dX0_fixed_0 rfl (lv_at hl 1 rfl) ?_
  refine lv_if_lt hx hb (tgt := 9) dX0_fixed_1 (by decide) (fun c1 => ?_) (fun c2 => ?_)
  · refine lv_iconst (v := nI 0) hx hb dX0_fixed_9 (by decide) ?_
    refine lv_topE (y := bI false) (by decide) ?_
    exact f_retZ (by simp only [xFix, if_pos (Or.inl c1 : y < 0 ∨ nI 4 ≤ y)]) (fun t ht hW => ⟨_, _, _, _, XH.to S hX.1 ht hW⟩) hX.2 hx hb hr hk dX0_fixed_10
  · refine lv_iload_n hx hb dX0_fixed_4 rfl (lv_at hl 1 rfl) ?_
    refine lv_iconst (v := nI 4) hx hb dX0_fixed_5 (by decide) ?_
    refine lv_icmp_lt hx hb (tgt := 11) dX0_fixed_6 (by decide) (fun c3 => ?_) (fun c4 => ?_)
    · obtain ⟨u, hu, rfl⟩ := nI_case (by decide) c2 (Int32.not_le.mpr c3)
      have hy : ¬ (nI u < 0 ∨ nI 4 ≤ nI u) := fun h => h.elim c2 (Int32.not_le.mpr c3)
      refine lv_aload_n hx hb dX0_fixed_11 rfl (lv_at hl 0 rfl) ?_
      refine x_callM 0 (rest := []) (metX0_solve l E g n N O D Rw k K hn) S hX (lw_V q82 q84 qs1 q20 q85) rfl rfl (by decide +kernel) ⟨Nat.le_of_ble_eq_true rfl, Nat.le_of_ble_eq_true rfl⟩ rfl hl.1 rfl (Nat.le_of_ble_eq_true rfl) ⟨Nat.zero_le _, Nat.zero_le _⟩ dX0_fixed_12 (fun H locs hX => ?_)
      refine W.eq (g2 := F0 m 15 ls []) rfl ?_
      generalize sv N (onM O n) Rw K n = z at hX ⊢
      refine lv_aload_n hx hb dX0_fixed_15 rfl (lv_at hl 0 rfl) ?_
      refine x_get5 S hX.1 dX0_fixed_16 ?_
      refine b_if_eq (v := z.2.2.1) hx hb (tgt := 24) dX0_fixed_19 (by decide) (fun c5 => ?_) (fun c6 => ?_)
      · have h5 : ¬ z.2.2.1 = true := by rw [c5]; decide
        refine lv_aload_n hx hb dX0_fixed_24 rfl (lv_at hl 0 rfl) ?_
        refine lv_iload_n hx hb dX0_fixed_25 rfl (lv_at hl 1 rfl) ?_
        refine x_callR 1 (rest := []) (metX0_varies l E g n N O z.1 z.2.1 z.2.2.1 z.2.2.2 u hu) S hX.1 (lw_V q129 q131 qs10 q20 q132) rfl rfl (by decide +kernel) ⟨Nat.le_of_ble_eq_true rfl, Nat.le_of_ble_eq_true rfl⟩ rfl hl.1 rfl (Nat.le_of_ble_eq_true rfl) ⟨Nat.zero_le _, Nat.zero_le _⟩ dX0_fixed_26 ?_
        refine lv_istore_n (lv' := [(2, .int (bI (vary z.1 z.2.1 u))), (0, .ref (g 0)), (1, .int (nI u))]) hx hb dX0_fixed_29 rfl hl (by decide) rfl (fun ls hl => ?_)
        refine lv_iload_n hx hb dX0_fixed_30 rfl (lv_at hl 0 rfl) ?_
        refine b_if_ne (v := (vary z.1 z.2.1 u)) hx hb (tgt := 38) dX0_fixed_31 (by decide) (fun c7 => ?_) (fun c8 => ?_)
        · refine lv_iconst (v := nI 0) hx hb dX0_fixed_38 (by decide) ?_
          refine lv_topE (y := bI false) (by decide) ?_
          exact f_retZ (by rw [xFix, if_neg hy, if_neg h5, nI_clamp (by omega)]; rw [c7]; rfl) (fun t ht hW => ⟨_, _, _, _, XH.to S hX.1 ht hW⟩) hX.2 hx hb hr hk dX0_fixed_39
        · refine lv_iconst (v := nI 1) hx hb dX0_fixed_34 (by decide) ?_
          refine lv_goto (tgt := 39) hx hb dX0_fixed_35 (by decide) ?_
          refine lv_topE (y := bI true) (by decide) ?_
          exact f_retZ (by rw [xFix, if_neg hy, if_neg h5, nI_clamp (by omega)]; rw [c8]; rfl) (fun t ht hW => ⟨_, _, _, _, XH.to S hX.1 ht hW⟩) hX.2 hx hb hr hk dX0_fixed_39
      · refine lv_iconst (v := nI 0) hx hb dX0_fixed_22 (by decide) ?_
        refine lv_topE (y := bI false) (by decide) ?_
        exact f_retZ (by rw [xFix, if_neg hy, if_pos c6]) (fun t ht hW => ⟨_, _, _, _, XH.to S hX.1 ht hW⟩) hX.2 hx hb hr hk dX0_fixed_23
    · refine lv_iconst (v := nI 0) hx hb dX0_fixed_9 (by decide) ?_
      refine lv_topE (y := bI false) (by decide) ?_
      exact f_retZ (by simp only [xFix, if_pos (Or.inr (Int32.not_lt.mp c4) : y < 0 ∨ nI 4 ≤ y)]) (fun t ht hW => ⟨_, _, _, _, XH.to S hX.1 ht hW⟩) hX.2 hx hb hr hk dX0_fixed_10
set_option maxHeartbeats 4000000 in
/-- rank(x) -/
theorem metX0_rank (l : Launch) (E : va_G) (g : Nat → Nat) (n : Nat) (N : Nat → Fin 7) (O D : Nat → Bool) (Rw : Nat → Fin 7) (k : Bool) (K : Nat → Fin 7) (x : Int32) (hn : n ≤ 6) : Met l yX0_rank (ws_ yX0_rank cX0_rank 9 (some .int)) ({ frames := 4, cells := 0, slots := 0, locals := 160 }) (va_Pc [.ref (g 0), .int x] (XI E g n N O D Rw k K)) (qM (some (.int (nI (xRank (sv N (onM O n) Rw K n) x)))) (XA E g n N O) (xA g)) 0 0 (xA g) := by
  refine m_ofH l (by decide) (Nat.le_of_ble_eq_true rfl) (fun p e s m below meth c ls H locs hHe hS0 S0 hr hk _ hI0 hl => ?_)
  have S : XC p m c cX0_rank 9 s _ E g := ⟨S0, hI0.2.1, hI0.2.2⟩
  have hx := S0.1
  have hb := S0.2.1
  have hX : XH E g s.heap n N O D Rw k K H locs := ⟨by rw [hHe]; exact hI0.1, hS0 _⟩
  clear hHe hS0
  replace hl : lv_has ls 9 [(0, .ref (g 0)), (1, .int x)] := hl
  refine lv_aload_n hx hb dX0_rank_0 rfl (lv_at hl 0 rfl) ?_
  refine x_callM 0 (rest := []) (metX0_solve l E g n N O D Rw k K hn) S hX (lw_V q82 q84 qs1 q20 q85) rfl rfl (by decide +kernel) ⟨Nat.le_of_ble_eq_true rfl, Nat.le_of_ble_eq_true rfl⟩ rfl hl.1 rfl (Nat.le_of_ble_eq_true rfl) ⟨Nat.zero_le _, Nat.zero_le _⟩ dX0_rank_1 (fun H locs hX => ?_)
  refine W.eq (g2 := F0 m 4 ls []) rfl ?_
  generalize sv N (onM O n) Rw K n = z at hX ⊢
  refine lv_aload_n hx hb dX0_rank_4 rfl (lv_at hl 0 rfl) ?_
  refine x_get5 S hX.1 dX0_rank_5 ?_
  refine b_if_eq (v := z.2.2.1) hx hb (tgt := 13) dX0_rank_8 (by decide) (fun c1 => ?_) (fun c2 => ?_)
  · have h1 : ¬ z.2.2.1 = true := by rw [c1]; decide
    have htw := tw_lt x
    refine lv_iload_n hx hb dX0_rank_13 rfl (lv_at hl 1 rfl) ?_
    refine lv_ldc hx hb S.1.2.2.2.1 (S.1.2.2.2.2 _ q58) dX0_rank_14 ?_
    refine lv_iand hx hb dX0_rank_16 ?_
    refine lv_topE (y := nI (tw x)) (nb_pos x) ?_
    refine lv_istore_n (lv' := [(2, .int (nI (tw x))), (0, .ref (g 0)), (1, .int x)]) hx hb dX0_rank_17 rfl hl (by decide) rfl (fun ls hl => ?_)
    refine lv_iconst (v := nI 0) hx hb dX0_rank_18 (by decide) ?_
    refine lv_istore_n (lv' := [(3, .int (nI 0)), (2, .int (nI (tw x))), (0, .ref (g 0)), (1, .int x)]) hx hb dX0_rank_19 rfl hl (by decide) rfl (fun ls hl => ?_)
    refine lv_iconst (v := nI 0) hx hb dX0_rank_20 (by decide) ?_
    refine lv_istore (lv' := [(4, .int (nI 0)), (3, .int (nI 0)), (2, .int (nI (tw x))), (0, .ref (g 0)), (1, .int x)]) hx hb dX0_rank_21 hl (by decide) rfl (fun ls hl => ?_)
    refine lv_iconst (v := nI 0) hx hb dX0_rank_23 (by decide) ?_
    refine lv_istore (lv' := [(5, .int (nI 0)), (4, .int (nI 0)), (3, .int (nI 0)), (2, .int (nI (tw x))), (0, .ref (g 0)), (1, .int x)]) hx hb dX0_rank_24 hl (by decide) rfl (fun ls hl => ?_)
    replace hl : lv_has ls 9 [(5, .int (nI 0)), (4, .int (nI 0)), (3, .int (nI 0)), (2, .int (nI (tw x / 7 ^ 0))), (0, .ref (g 0)), (1, .int x)] := by rw [show nI (tw x / 7 ^ 0) = nI (tw x) from by rw [Nat.pow_zero, Nat.div_one]]; exact hl
    replace hl : lv_has ls 9 [(5, .int (nI 0)), (4, .int (nI 0)), (3, .int (nI (tw x % 7 ^ 0))), (2, .int (nI (tw x / 7 ^ 0))), (0, .ref (g 0)), (1, .int x)] := by rw [show nI (tw x % 7 ^ 0) = nI 0 from by rw [Nat.pow_zero, Nat.mod_one]]; exact hl
    revert ls
    revert H locs
    refine lp_H (I := fun u H locs ls => ∃ a : Nat, XH E g s.heap n N O z.1 z.2.1 z.2.2.1 z.2.2.2 H locs ∧ lv_has ls 9 [(0, .ref (g 0)), (2, .int (nI (tw x / 7 ^ u))), (3, .int (nI (tw x % 7 ^ u))), (4, .int (nI a)), (5, .int (nI u))] ∧ rkF z.1 z.2.1 (tw x) (4 - u) u a = xRank z x) 4 (fun u hi ih H locs ls hI => ?_) (fun H locs ls hI => ?_) 0 (by omega) (fun H locs ls hX hl => ⟨0, hX, lv_sub hl [4, 3, 2, 1, 0] rfl, by rw [xRank, if_neg h1]⟩)
    · obtain ⟨a, hX, hl, ha⟩ := hI
      rw [show 4 - u = (4 - (u + 1)) + 1 by omega, rkF] at ha
      have hbi : tw x / 7 ^ u ≤ tw x := Nat.div_le_self _ _
      have hp7 : 7 ^ u ≤ 343 := Nat.pow_le_pow_right (by decide) (show u ≤ 3 by omega)
      have hm7 : tw x % 7 ^ u < 7 ^ u := Nat.mod_lt _ (Nat.pow_pos (by decide))
      have hd7 : tw x / 7 ^ u % 7 < 7 := Nat.mod_lt _ (by decide)
      have hwn := wy_le z.1 (u + 1)
      have hms : tw x % 7 ^ u + tw x / 7 ^ u % 7 * 7 ^ u = tw x % 7 ^ (u + 1) := by rw [Nat.mod_pow_succ, Nat.mul_comm]
      refine lv_iload hx hb dX0_rank_26 (lv_at hl 4 rfl) ?_
      refine lv_iconst (v := nI 4) hx hb dX0_rank_28 (by decide) ?_
      refine n_ge (a := u) (b := 4) (by omega) (by omega) hx hb (tgt := 125) dX0_rank_29 (by decide) (fun d1 => absurd d1 (by omega)) (fun d2 => ?_)
      refine lv_iload_n hx hb dX0_rank_32 rfl (lv_at hl 1 rfl) ?_
      refine lv_bipush (v := nI 7) hx hb dX0_rank_33 (by decide) ?_
      refine lv_irem hx hb dX0_rank_35 (by decide) ?_
      refine lv_topE (y := nI ((tw x / 7 ^ u) % 7)) (pk_rem (by omega) (by decide) (by omega)) ?_
      refine lv_istore (lv' := [(6, .int (nI ((tw x / 7 ^ u) % 7))), (0, .ref (g 0)), (2, .int (nI (tw x / 7 ^ u))), (3, .int (nI (tw x % 7 ^ u))), (4, .int (nI a)), (5, .int (nI u))]) hx hb dX0_rank_36 hl (by decide) rfl (fun ls hl => ?_)
      refine lv_iload_n hx hb dX0_rank_38 rfl (lv_at hl 2 rfl) ?_
      refine lv_bipush (v := nI 7) hx hb dX0_rank_39 (by decide) ?_
      refine lv_idiv hx hb dX0_rank_41 (by decide) ?_
      refine lv_topE (y := nI ((tw x / 7 ^ u) / 7)) (pk_div (by omega) (by decide) (by omega)) ?_
      refine lv_topE (y := nI (tw x / 7 ^ (u + 1))) (congrArg nI (dv_up (tw x) u)) ?_
      refine lv_istore_n (lv' := [(2, .int (nI (tw x / 7 ^ (u + 1)))), (6, .int (nI ((tw x / 7 ^ u) % 7))), (0, .ref (g 0)), (3, .int (nI (tw x % 7 ^ u))), (4, .int (nI a)), (5, .int (nI u))]) hx hb dX0_rank_42 rfl hl (by decide) rfl (fun ls hl => ?_)
      refine lv_aload_n hx hb dX0_rank_43 rfl (lv_at hl 2 rfl) ?_
      refine lv_iload hx hb dX0_rank_44 (lv_at hl 5 rfl) ?_
      refine lv_iconst (v := nI 1) hx hb dX0_rank_46 (by decide) ?_
      refine lv_iadd hx hb dX0_rank_47 ?_
      refine lv_topE (y := nI (u + 1)) (nI_add u 1) ?_
      refine x_callR 1 (rest := []) (metX0_waysFrom l E g n N O z.1 z.2.1 z.2.2.1 z.2.2.2 (u + 1) (by omega)) S hX.1 (lw_V q109 q111 qs7 q20 q112) rfl rfl (by decide +kernel) ⟨Nat.le_of_ble_eq_true rfl, Nat.le_of_ble_eq_true rfl⟩ rfl hl.1 rfl (Nat.le_of_ble_eq_true rfl) ⟨Nat.zero_le _, Nat.zero_le _⟩ dX0_rank_48 ?_
      refine lv_istore (lv' := [(7, .int (nI (wy z.1 (u + 1)))), (2, .int (nI (tw x / 7 ^ (u + 1)))), (6, .int (nI ((tw x / 7 ^ u) % 7))), (0, .ref (g 0)), (3, .int (nI (tw x % 7 ^ u))), (4, .int (nI a)), (5, .int (nI u))]) hx hb dX0_rank_51 hl (by decide) rfl (fun ls hl => ?_)
      refine lv_aload_n hx hb dX0_rank_53 rfl (lv_at hl 3 rfl) ?_
      refine x_get3 S hX.1 dX0_rank_54 ?_
      refine lv_iload hx hb dX0_rank_57 (lv_at hl 6 rfl) ?_
      refine x_ldD u (by omega) S hX.1 dX0_rank_59 ?_
      refine b_if_ne (v := (z.1 u)) hx hb (tgt := 76) dX0_rank_60 (by decide) (fun c3 => ?_) (fun c4 => ?_)
      · rw [if_neg (by rw [c3]; decide)] at ha
        refine lv_aload_n hx hb dX0_rank_76 rfl (lv_at hl 3 rfl) ?_
        refine lv_iload hx hb dX0_rank_77 (lv_at hl 6 rfl) ?_
        refine lv_iload_n hx hb dX0_rank_79 rfl (lv_at hl 4 rfl) ?_
        refine x_callR 2 (rest := []) (metX0_resultOf l E g n N O z.1 z.2.1 z.2.2.1 z.2.2.2 u (tw x % 7 ^ u) (by omega) (by omega)) S hX.1 (lw_V q121 q123 qs9 q20 q124) rfl rfl (by decide +kernel) ⟨Nat.le_of_ble_eq_true rfl, Nat.le_of_ble_eq_true rfl⟩ rfl hl.1 rfl (Nat.le_of_ble_eq_true rfl) ⟨Nat.zero_le _, Nat.zero_le _⟩ dX0_rank_80 ?_
        have hr7 := (rs z.2.1 u (tw x % 7 ^ u)).isLt
        refine lv_istore (lv' := [(8, .int (nI (rs z.2.1 u (tw x % 7 ^ u)).val)), (7, .int (nI (wy z.1 (u + 1)))), (2, .int (nI (tw x / 7 ^ (u + 1)))), (6, .int (nI ((tw x / 7 ^ u) % 7))), (0, .ref (g 0)), (3, .int (nI (tw x % 7 ^ u))), (4, .int (nI a)), (5, .int (nI u))]) hx hb dX0_rank_83 hl (by decide) rfl (fun ls hl => ?_)
        refine lv_iload hx hb dX0_rank_85 (lv_at hl 0 rfl) ?_
        refine lv_iload hx hb dX0_rank_87 (lv_at hl 3 rfl) ?_
        refine n_ge (a := ((rs z.2.1 u (tw x % 7 ^ u)).val)) (b := ((tw x / 7 ^ u) % 7)) (by omega) (by omega) hx hb (tgt := 98) dX0_rank_89 (by decide) (fun c5 => ?_) (fun c6 => ?_)
        · rw [if_neg (Nat.not_lt.mpr c5)] at ha
          refine lv_iload hx hb dX0_rank_98 (lv_at hl 0 rfl) ?_
          refine lv_iload hx hb dX0_rank_100 (lv_at hl 3 rfl) ?_
          refine n_le (a := ((rs z.2.1 u (tw x % 7 ^ u)).val)) (b := ((tw x / 7 ^ u) % 7)) (by omega) (by omega) hx hb (tgt := 108) dX0_rank_102 (by decide) (fun c7 => ?_) (fun c8 => ?_)
          · rw [if_neg (Nat.not_lt.mpr c7)] at ha
            refine lv_iload_n hx hb dX0_rank_108 rfl (lv_at hl 5 rfl) ?_
            refine lv_iload hx hb dX0_rank_109 (lv_at hl 3 rfl) ?_
            refine lv_iload hx hb dX0_rank_111 (lv_at hl 7 rfl) ?_
            refine s_call 1 (rest := [.int (nI ((tw x / 7 ^ u) % 7)), .int (nI (tw x % 7 ^ u))]) (metX0_power l u (by omega)) S.1 (lw_S q141 q142 q20 q143) rfl rfl (by decide +kernel) ⟨Nat.le_of_ble_eq_true rfl, Nat.le_of_ble_eq_true rfl⟩ rfl hl.1 rfl (Nat.le_of_ble_eq_true rfl) ⟨Nat.zero_le _, Nat.zero_le _⟩ dX0_rank_113 ?_
            refine lv_imul hx hb dX0_rank_116 ?_
            refine lv_topE (y := nI (((tw x / 7 ^ u) % 7) * (7 ^ u))) (pk_mul ((tw x / 7 ^ u) % 7) (7 ^ u)) ?_
            refine lv_iadd hx hb dX0_rank_117 ?_
            refine lv_topE (y := nI ((tw x % 7 ^ u) + (((tw x / 7 ^ u) % 7) * (7 ^ u)))) (nI_add (tw x % 7 ^ u) (((tw x / 7 ^ u) % 7) * (7 ^ u))) ?_
            refine lv_topE (y := nI (tw x % 7 ^ (u + 1))) (congrArg nI hms) ?_
            refine lv_istore_n (lv' := [(3, .int (nI (tw x % 7 ^ (u + 1)))), (8, .int (nI (rs z.2.1 u (tw x % 7 ^ u)).val)), (7, .int (nI (wy z.1 (u + 1)))), (2, .int (nI (tw x / 7 ^ (u + 1)))), (6, .int (nI ((tw x / 7 ^ u) % 7))), (0, .ref (g 0)), (4, .int (nI a)), (5, .int (nI u))]) hx hb dX0_rank_118 rfl hl (by decide) rfl (fun ls hl => ?_)
            refine lv_iinc (v := nI (u + 1)) (lv' := [(5, .int (nI (u + 1))), (3, .int (nI (tw x % 7 ^ (u + 1)))), (8, .int (nI (rs z.2.1 u (tw x % 7 ^ u)).val)), (7, .int (nI (wy z.1 (u + 1)))), (2, .int (nI (tw x / 7 ^ (u + 1)))), (6, .int (nI ((tw x / 7 ^ u) % 7))), (0, .ref (g 0)), (4, .int (nI a))]) hx hb dX0_rank_119 hl (k := 7) rfl (nI_add u 1) (by decide) rfl (fun ls hl => ?_)
            refine lv_goto (tgt := 26) hx hb dX0_rank_122 (by decide) ?_
            exact ih H locs ls ⟨a, hX, lv_sub hl [6, 4, 1, 7, 0] rfl, ha⟩
          · rw [if_pos c8] at ha
            refine lv_iload hx hb dX0_rank_105 (lv_at hl 6 rfl) ?_
            exact f_retI (congrArg nI ha) (fun t ht hW => ⟨_, _, _, _, XH.to S hX.1 ht hW⟩) hX.2 hx hb hr hk dX0_rank_107
        · rw [if_pos c6] at ha
          refine lv_iload hx hb dX0_rank_92 (lv_at hl 6 rfl) ?_
          refine lv_iload hx hb dX0_rank_94 (lv_at hl 1 rfl) ?_
          refine lv_iadd hx hb dX0_rank_96 ?_
          refine lv_topE (y := nI (a + (wy z.1 (u + 1)))) (nI_add a (wy z.1 (u + 1))) ?_
          exact f_retI (congrArg nI ha) (fun t ht hW => ⟨_, _, _, _, XH.to S hX.1 ht hW⟩) hX.2 hx hb hr hk dX0_rank_97
      · rw [if_pos c4] at ha
        refine lv_iload hx hb dX0_rank_63 (lv_at hl 5 rfl) ?_
        refine lv_iload hx hb dX0_rank_65 (lv_at hl 2 rfl) ?_
        refine lv_iload hx hb dX0_rank_67 (lv_at hl 0 rfl) ?_
        refine lv_imul hx hb dX0_rank_69 ?_
        refine lv_topE (y := nI (((tw x / 7 ^ u) % 7) * (wy z.1 (u + 1)))) (pk_mul ((tw x / 7 ^ u) % 7) (wy z.1 (u + 1))) ?_
        refine lv_iadd hx hb dX0_rank_70 ?_
        refine lv_topE (y := nI (a + (((tw x / 7 ^ u) % 7) * (wy z.1 (u + 1))))) (nI_add a (((tw x / 7 ^ u) % 7) * (wy z.1 (u + 1)))) ?_
        refine lv_istore (lv' := [(4, .int (nI (a + (((tw x / 7 ^ u) % 7) * (wy z.1 (u + 1)))))), (7, .int (nI (wy z.1 (u + 1)))), (2, .int (nI (tw x / 7 ^ (u + 1)))), (6, .int (nI ((tw x / 7 ^ u) % 7))), (0, .ref (g 0)), (3, .int (nI (tw x % 7 ^ u))), (5, .int (nI u))]) hx hb dX0_rank_71 hl (by decide) rfl (fun ls hl => ?_)
        refine lv_goto (tgt := 108) hx hb dX0_rank_73 (by decide) ?_
        refine lv_iload_n hx hb dX0_rank_108 rfl (lv_at hl 5 rfl) ?_
        refine lv_iload hx hb dX0_rank_109 (lv_at hl 3 rfl) ?_
        refine lv_iload hx hb dX0_rank_111 (lv_at hl 6 rfl) ?_
        refine s_call 1 (rest := [.int (nI ((tw x / 7 ^ u) % 7)), .int (nI (tw x % 7 ^ u))]) (metX0_power l u (by omega)) S.1 (lw_S q141 q142 q20 q143) rfl rfl (by decide +kernel) ⟨Nat.le_of_ble_eq_true rfl, Nat.le_of_ble_eq_true rfl⟩ rfl hl.1 rfl (Nat.le_of_ble_eq_true rfl) ⟨Nat.zero_le _, Nat.zero_le _⟩ dX0_rank_113 ?_
        refine lv_imul hx hb dX0_rank_116 ?_
        refine lv_topE (y := nI (((tw x / 7 ^ u) % 7) * (7 ^ u))) (pk_mul ((tw x / 7 ^ u) % 7) (7 ^ u)) ?_
        refine lv_iadd hx hb dX0_rank_117 ?_
        refine lv_topE (y := nI ((tw x % 7 ^ u) + (((tw x / 7 ^ u) % 7) * (7 ^ u)))) (nI_add (tw x % 7 ^ u) (((tw x / 7 ^ u) % 7) * (7 ^ u))) ?_
        refine lv_topE (y := nI (tw x % 7 ^ (u + 1))) (congrArg nI hms) ?_
        refine lv_istore_n (lv' := [(3, .int (nI (tw x % 7 ^ (u + 1)))), (4, .int (nI (a + (((tw x / 7 ^ u) % 7) * (wy z.1 (u + 1)))))), (7, .int (nI (wy z.1 (u + 1)))), (2, .int (nI (tw x / 7 ^ (u + 1)))), (6, .int (nI ((tw x / 7 ^ u) % 7))), (0, .ref (g 0)), (5, .int (nI u))]) hx hb dX0_rank_118 rfl hl (by decide) rfl (fun ls hl => ?_)
        refine lv_iinc (v := nI (u + 1)) (lv' := [(5, .int (nI (u + 1))), (3, .int (nI (tw x % 7 ^ (u + 1)))), (4, .int (nI (a + (((tw x / 7 ^ u) % 7) * (wy z.1 (u + 1)))))), (7, .int (nI (wy z.1 (u + 1)))), (2, .int (nI (tw x / 7 ^ (u + 1)))), (6, .int (nI ((tw x / 7 ^ u) % 7))), (0, .ref (g 0))]) hx hb dX0_rank_119 hl (k := 6) rfl (nI_add u 1) (by decide) rfl (fun ls hl => ?_)
        refine lv_goto (tgt := 26) hx hb dX0_rank_122 (by decide) ?_
        exact ih H locs ls ⟨_, hX, lv_sub hl [6, 4, 1, 2, 0] rfl, ha⟩
    · obtain ⟨a, hX, hl, ha⟩ := hI
      refine lv_iload hx hb dX0_rank_26 (lv_at hl 4 rfl) ?_
      refine lv_iconst (v := nI 4) hx hb dX0_rank_28 (by decide) ?_
      refine n_ge (a := 4) (b := 4) (by omega) (by omega) hx hb (tgt := 125) dX0_rank_29 (by decide) (fun d1 => ?_) (fun d2 => absurd d2 (by omega))
      refine lv_iload hx hb dX0_rank_125 (lv_at hl 3 rfl) ?_
      exact f_retI (congrArg nI ha) (fun t ht hW => ⟨_, _, _, _, XH.to S hX.1 ht hW⟩) hX.2 hx hb hr hk dX0_rank_127
  · refine lv_iconst (v := nI 0) hx hb dX0_rank_11 (by decide) ?_
    exact f_retI (by rw [xRank, if_pos c2]) (fun t ht hW => ⟨_, _, _, _, XH.to S hX.1 ht hW⟩) hX.2 hx hb hr hk dX0_rank_12
set_option maxHeartbeats 4000000 in
/-- follows(x) -/
theorem metX0_follows (l : Launch) (E : va_G) (g : Nat → Nat) (n : Nat) (N : Nat → Fin 7) (O D : Nat → Bool) (Rw : Nat → Fin 7) (k : Bool) (K : Nat → Fin 7) (x : Int32) (hn : n ≤ 6) : Met l yX0_follows (ws_ yX0_follows cX0_follows 3 (some .boolean)) ({ frames := 4, cells := 0, slots := 0, locals := 160 }) (va_Pc [.ref (g 0), .int x] (XI E g n N O D Rw k K)) (qM (some (.int (bI (xFol N n (sv N (onM O n) Rw K n) x)))) (XA E g n N O) (xA g)) 0 0 (xA g) := by
  refine m_ofH l (by decide) (Nat.le_of_ble_eq_true rfl) (fun p e s m below meth c ls H locs hHe hS0 S0 hr hk _ hI0 hl => ?_)
  have S : XC p m c cX0_follows 3 s _ E g := ⟨S0, hI0.2.1, hI0.2.2⟩
  have hx := S0.1
  have hb := S0.2.1
  have hX : XH E g s.heap n N O D Rw k K H locs := ⟨by rw [hHe]; exact hI0.1, hS0 _⟩
  clear hHe hS0
  replace hl : lv_has ls 3 [(0, .ref (g 0)), (1, .int x)] := hl
  refine lv_aload_n hx hb dX0_follows_0 rfl (lv_at hl 0 rfl) ?_
  refine lv_iload_n hx hb dX0_follows_1 rfl (lv_at hl 1 rfl) ?_
  refine x_callR 1 (rest := []) (metX0_noEquation l E g n N O D Rw k K x) S hX.1 (lw_V q63 q65 qs0 q20 q66) rfl rfl (by decide +kernel) ⟨Nat.le_of_ble_eq_true rfl, Nat.le_of_ble_eq_true rfl⟩ rfl hl.1 rfl (Nat.le_of_ble_eq_true rfl) ⟨Nat.zero_le _, Nat.zero_le _⟩ dX0_follows_2 ?_
  refine b_if_eq (v := (noE n x)) hx hb (tgt := 10) dX0_follows_5 (by decide) (fun c1 => ?_) (fun c2 => ?_)
  · obtain ⟨i, hi, rfl⟩ := noE_no hn c1
    have hno : ¬ noE n (nI i) = true := by rw [c1]; decide
    refine lv_aload_n hx hb dX0_follows_10 rfl (lv_at hl 0 rfl) ?_
    refine x_callM 0 (rest := []) (metX0_solve l E g n N O D Rw k K hn) S hX (lw_V q82 q84 qs1 q20 q85) rfl rfl (by decide +kernel) ⟨Nat.le_of_ble_eq_true rfl, Nat.le_of_ble_eq_true rfl⟩ rfl hl.1 rfl (Nat.le_of_ble_eq_true rfl) ⟨Nat.zero_le _, Nat.zero_le _⟩ dX0_follows_11 (fun H locs hX => ?_)
    refine W.eq (g2 := F0 m 14 ls []) rfl ?_
    generalize sv N (onM O n) Rw K n = z at hX ⊢
    refine lv_aload_n hx hb dX0_follows_14 rfl (lv_at hl 0 rfl) ?_
    refine x_get5 S hX.1 dX0_follows_15 ?_
    refine b_if_eq (v := z.2.2.1) hx hb (tgt := 23) dX0_follows_18 (by decide) (fun c3 => ?_) (fun c4 => ?_)
    · have h3 : ¬ z.2.2.1 = true := by rw [c3]; decide
      refine lv_aload_n hx hb dX0_follows_23 rfl (lv_at hl 0 rfl) ?_
      refine lv_iload_n hx hb dX0_follows_24 rfl (lv_at hl 1 rfl) ?_
      refine x_callM 1 (rest := []) (metX0_load l E g n N O z.1 z.2.1 z.2.2.1 z.2.2.2 i (by omega)) S hX (lw_V q94 q96 qs4 q20 q97) rfl rfl (by decide +kernel) ⟨Nat.le_of_ble_eq_true rfl, Nat.le_of_ble_eq_true rfl⟩ rfl hl.1 rfl (Nat.le_of_ble_eq_true rfl) ⟨Nat.zero_le _, Nat.zero_le _⟩ dX0_follows_25 (fun H locs hX => ?_)
      refine W.eq (g2 := F0 m 28 ls []) rfl ?_
      refine lv_aload_n hx hb dX0_follows_28 rfl (lv_at hl 0 rfl) ?_
      refine x_callM 0 (rest := []) (metX0_reduce l E g n N O z.1 z.2.1 z.2.2.1 (fun j => N (i * 5 + j))) S hX (lw_V q98 q100 qs5 q20 q101) rfl rfl (by decide +kernel) ⟨Nat.le_of_ble_eq_true rfl, Nat.le_of_ble_eq_true rfl⟩ rfl hl.1 rfl (Nat.le_of_ble_eq_true rfl) ⟨Nat.zero_le _, Nat.zero_le _⟩ dX0_follows_29 (fun H locs hX => ?_)
      refine W.eq (g2 := F0 m 32 ls [.int (tI (red z.1 z.2.1 (fun j => N (i * 5 + j))).2)]) rfl ?_
      have ht4 := red_top z.1 z.2.1 (fun j => N (i * 5 + j))
      have hfol : xFol N n z (nI i) = decide ((red z.1 z.2.1 (fun j => N (i * 5 + j))).2 = none ∧ (red z.1 z.2.1 (fun j => N (i * 5 + j))).1 4 = 0) := by rw [xFol, if_neg hno, if_neg h3, nI_clamp (by omega)]
      generalize red z.1 z.2.1 (fun j => N (i * 5 + j)) = y at hX ht4 hfol ⊢
      refine lv_istore_n (lv' := [(2, .int (tI y.2)), (0, .ref (g 0)), (1, .int (nI i))]) hx hb dX0_follows_32 rfl hl (by decide) rfl (fun ls hl => ?_)
      refine lv_iload_n hx hb dX0_follows_33 rfl (lv_at hl 0 rfl) ?_
      refine lv_if_ge hx hb (tgt := 50) dX0_follows_34 (by decide) (fun c5 => ?_) (fun c6 => ?_)
      · have h5 : ¬ y.2 = none := fun h => absurd ((tI_neg ht4).mpr h) (Int32.not_lt.mpr c5)
        refine lv_iconst (v := nI 0) hx hb dX0_follows_50 (by decide) ?_
        refine lv_topE (y := bI false) (by decide) ?_
        exact f_retZ (by rw [hfol]; simp [h5]) (fun t ht hW => ⟨_, _, _, _, XH.to S hX.1 ht hW⟩) hX.2 hx hb hr hk dX0_follows_51
      · have h5 : y.2 = none := (tI_neg ht4).mp (Int32.not_le.mp c6)
        refine lv_aload_n hx hb dX0_follows_37 rfl (lv_at hl 1 rfl) ?_
        refine x_get6 S hX.1 dX0_follows_38 ?_
        refine lv_iconst (v := nI 4) hx hb dX0_follows_41 (by decide) ?_
        refine x_ldK 4 (by omega) S hX.1 dX0_follows_42 ?_
        refine z_if_ne (v := (y.1 4)) hx hb (tgt := 50) dX0_follows_43 (by decide) (fun c7 => ?_) (fun c8 => ?_)
        · refine lv_iconst (v := nI 0) hx hb dX0_follows_50 (by decide) ?_
          refine lv_topE (y := bI false) (by decide) ?_
          exact f_retZ (by rw [hfol]; simp [c7]) (fun t ht hW => ⟨_, _, _, _, XH.to S hX.1 ht hW⟩) hX.2 hx hb hr hk dX0_follows_51
        · refine lv_iconst (v := nI 1) hx hb dX0_follows_46 (by decide) ?_
          refine lv_goto (tgt := 51) hx hb dX0_follows_47 (by decide) ?_
          refine lv_topE (y := bI true) (by decide) ?_
          exact f_retZ (by rw [hfol]; simp [h5, c8]) (fun t ht hW => ⟨_, _, _, _, XH.to S hX.1 ht hW⟩) hX.2 hx hb hr hk dX0_follows_51
    · refine lv_iconst (v := nI 1) hx hb dX0_follows_21 (by decide) ?_
      refine lv_topE (y := bI true) (by decide) ?_
      exact f_retZ (by rw [xFol, if_neg hno, if_pos c4]) (fun t ht hW => ⟨_, _, _, _, XH.to S hX.1 ht hW⟩) hX.2 hx hb hr hk dX0_follows_22
  · refine lv_iconst (v := nI 0) hx hb dX0_follows_8 (by decide) ?_
    refine lv_topE (y := bI false) (by decide) ?_
    exact f_retZ (by rw [xFol, if_pos c2]) (fun t ht hW => ⟨_, _, _, _, XH.to S hX.1 ht hW⟩) hX.2 hx hb hr hk dX0_follows_9
set_option maxHeartbeats 4000000 in
/-- needed() -/
theorem metX0_needed (l : Launch) (E : va_G) (g : Nat → Nat) (n : Nat) (N : Nat → Fin 7) (O D : Nat → Bool) (Rw : Nat → Fin 7) (k : Bool) (K : Nat → Fin 7) (hn : n ≤ 6) (P : Nat → Bool) (hP : ∀ (b : Nat), b < 64 → ∀ (R K : Nat → Fin 7), (sv N b R K n).2.2.1 = P b) : Met l yX0_needed (ws_ yX0_needed cX0_needed 5 (some .int)) ({ frames := 4, cells := 0, slots := 0, locals := 160 }) (va_Pc [.ref (g 0)] (XI E g n N O D Rw k K)) (qM (some (.int (nI (if P (onM O n) = true then lsN P (onM O n) 64 else ctD (sv N (onM O n) Rw K n).1 4)))) (XA E g n N O) (xA g)) 0 0 (xA g) := by
  refine m_ofH l (by decide) (Nat.le_of_ble_eq_true rfl) (fun p e s m below meth c ls H locs hHe hS0 S0 hr hk _ hI0 hl => ?_)
  have S : XC p m c cX0_needed 5 s _ E g := ⟨S0, hI0.2.1, hI0.2.2⟩
  have hx := S0.1
  have hb := S0.2.1
  have hX : XH E g s.heap n N O D Rw k K H locs := ⟨by rw [hHe]; exact hI0.1, hS0 _⟩
  clear hHe hS0
  replace hl : lv_has ls 5 [(0, .ref (g 0))] := hl
  have hP0 := hP (onM O n) (onM_64 O hn) Rw K
  refine lv_aload_n hx hb dX0_needed_0 rfl (lv_at hl 0 rfl) ?_
  refine x_callM 0 (rest := []) (metX0_solve l E g n N O D Rw k K hn) S hX (lw_V q82 q84 qs1 q20 q85) rfl rfl (by decide +kernel) ⟨Nat.le_of_ble_eq_true rfl, Nat.le_of_ble_eq_true rfl⟩ rfl hl.1 rfl (Nat.le_of_ble_eq_true rfl) ⟨Nat.zero_le _, Nat.zero_le _⟩ dX0_needed_1 (fun H locs hX => ?_)
  refine W.eq (g2 := F0 m 4 ls []) rfl ?_
  generalize sv N (onM O n) Rw K n = z at hX hP0 ⊢
  refine lv_aload_n hx hb dX0_needed_4 rfl (lv_at hl 0 rfl) ?_
  refine x_get5 S hX.1 dX0_needed_5 ?_
  refine b_if_ne (v := z.2.2.1) hx hb (tgt := 40) dX0_needed_8 (by decide) (fun c1 => ?_) (fun c2 => ?_)
  · have hPt : P (onM O n) = true := by rw [← hP0]; exact c1
    rw [if_pos hPt]
    have ha64 := onM_64 O hn
    refine lv_aload_n hx hb dX0_needed_40 rfl (lv_at hl 0 rfl) ?_
    refine x_callR 0 (rest := []) (metX0_onSet l E g n N O z.1 z.2.1 z.2.2.1 z.2.2.2 hn) S hX.1 (lw_V q86 q88 qs2 q20 q89) rfl rfl (by decide +kernel) ⟨Nat.le_of_ble_eq_true rfl, Nat.le_of_ble_eq_true rfl⟩ rfl hl.1 rfl (Nat.le_of_ble_eq_true rfl) ⟨Nat.zero_le _, Nat.zero_le _⟩ dX0_needed_41 ?_
    refine lv_istore_n (lv' := [(1, .int (nI (onM O n))), (0, .ref (g 0))]) hx hb dX0_needed_44 rfl hl (by decide) rfl (fun ls hl => ?_)
    refine lv_bipush (v := nI 6) hx hb dX0_needed_45 (by decide) ?_
    refine lv_istore_n (lv' := [(2, .int (nI 6)), (1, .int (nI (onM O n))), (0, .ref (g 0))]) hx hb dX0_needed_47 rfl hl (by decide) rfl (fun ls hl => ?_)
    refine lv_iconst (v := nI 0) hx hb dX0_needed_48 (by decide) ?_
    refine lv_istore_n (lv' := [(3, .int (nI 0)), (2, .int (nI 6)), (1, .int (nI (onM O n))), (0, .ref (g 0))]) hx hb dX0_needed_49 rfl hl (by decide) rfl (fun ls hl => ?_)
    revert ls
    revert H locs
    refine lp_H (I := fun q H locs ls => ∃ y : SV, XH E g s.heap n N O y.1 y.2.1 y.2.2.1 y.2.2.2 H locs ∧ lv_has ls 5 [(0, .ref (g 0)), (1, .int (nI (onM O n))), (2, .int (nI (lsN P (onM O n) q))), (3, .int (nI q))]) 64 (fun q hi ih H locs ls hI => ?_) (fun H locs ls hI => ?_) 0 (by omega) (fun H locs ls hX hl => ⟨z, hX, lv_sub hl [3, 2, 1, 0] rfl⟩)
    · obtain ⟨y, hX, hl⟩ := hI
      have hls := lsN_le P (onM O n) q
      have ho6 := on1_le q 6
      refine lv_iload_n hx hb dX0_needed_50 rfl (lv_at hl 3 rfl) ?_
      refine lv_bipush (v := nI 64) hx hb dX0_needed_51 (by decide) ?_
      refine n_ge (a := q) (b := 64) (by omega) (by omega) hx hb (tgt := 97) dX0_needed_53 (by decide) (fun d1 => absurd d1 (by omega)) (fun d2 => ?_)
      refine lv_iload_n hx hb dX0_needed_56 rfl (lv_at hl 3 rfl) ?_
      refine s_call 1 (rest := []) (metX0_ones l q hi) S.1 (lw_S q152 q153 q20 q154) rfl rfl (by decide +kernel) ⟨Nat.le_of_ble_eq_true rfl, Nat.le_of_ble_eq_true rfl⟩ rfl hl.1 rfl (Nat.le_of_ble_eq_true rfl) ⟨Nat.zero_le _, Nat.zero_le _⟩ dX0_needed_57 ?_
      refine lv_istore (lv' := [(4, .int (nI (on1 q 6))), (0, .ref (g 0)), (1, .int (nI (onM O n))), (2, .int (nI (lsN P (onM O n) q))), (3, .int (nI q))]) hx hb dX0_needed_60 hl (by decide) rfl (fun ls hl => ?_)
      refine lv_iload_n hx hb dX0_needed_62 rfl (lv_at hl 4 rfl) ?_
      refine lv_iload_n hx hb dX0_needed_63 rfl (lv_at hl 2 rfl) ?_
      refine lv_iconst (v := (-1)) hx hb dX0_needed_64 (by decide) ?_
      refine lv_ixor hx hb dX0_needed_65 ?_
      refine lv_iand hx hb dX0_needed_66 ?_
      refine lv_topE (y := nI (q - (q &&& onM O n))) (nb_andNot q hi _ ha64) ?_
      refine n_if_ne (a := (q - (q &&& onM O n))) (by omega) hx hb (tgt := 91) dX0_needed_67 (by decide) (fun c3 => ?_) (fun c4 => ?_)
      · replace hl : lv_has ls 5 [(4, .int (nI (on1 q 6))), (0, .ref (g 0)), (1, .int (nI (onM O n))), (2, .int (nI (lsN P (onM O n) (q + 1)))), (3, .int (nI q))] := by rw [show nI (lsN P (onM O n) (q + 1)) = nI (lsN P (onM O n) q) from by rw [lsN, if_neg (fun h => c3 h.1)]]; exact hl
        refine lv_iinc (v := nI (q + 1)) (lv' := [(3, .int (nI (q + 1))), (4, .int (nI (on1 q 6))), (0, .ref (g 0)), (1, .int (nI (onM O n))), (2, .int (nI (lsN P (onM O n) (q + 1))))]) hx hb dX0_needed_91 hl (k := 4) rfl (nI_add q 1) (by decide) rfl (fun ls hl => ?_)
        refine lv_goto (tgt := 50) hx hb dX0_needed_94 (by decide) ?_
        exact ih H locs ls ⟨y, hX, lv_sub hl [2, 3, 4, 0] rfl⟩
      · refine lv_iload hx hb dX0_needed_70 (lv_at hl 0 rfl) ?_
        refine lv_iload_n hx hb dX0_needed_72 rfl (lv_at hl 3 rfl) ?_
        refine n_ge (a := (on1 q 6)) (b := (lsN P (onM O n) q)) (by omega) (by omega) hx hb (tgt := 91) dX0_needed_73 (by decide) (fun c5 => ?_) (fun c6 => ?_)
        · replace hl : lv_has ls 5 [(4, .int (nI (on1 q 6))), (0, .ref (g 0)), (1, .int (nI (onM O n))), (2, .int (nI (lsN P (onM O n) (q + 1)))), (3, .int (nI q))] := by rw [show nI (lsN P (onM O n) (q + 1)) = nI (lsN P (onM O n) q) from by rw [lsN, if_neg (fun h => absurd h.2.1 (Nat.not_lt.mpr c5))]]; exact hl
          refine lv_iinc (v := nI (q + 1)) (lv' := [(3, .int (nI (q + 1))), (4, .int (nI (on1 q 6))), (0, .ref (g 0)), (1, .int (nI (onM O n))), (2, .int (nI (lsN P (onM O n) (q + 1))))]) hx hb dX0_needed_91 hl (k := 4) rfl (nI_add q 1) (by decide) rfl (fun ls hl => ?_)
          refine lv_goto (tgt := 50) hx hb dX0_needed_94 (by decide) ?_
          exact ih H locs ls ⟨y, hX, lv_sub hl [2, 3, 4, 0] rfl⟩
        · refine lv_aload_n hx hb dX0_needed_76 rfl (lv_at hl 1 rfl) ?_
          refine lv_iload_n hx hb dX0_needed_77 rfl (lv_at hl 4 rfl) ?_
          have hPq := hP q hi y.2.1 y.2.2.2
          refine x_callM 1 (rest := []) (metX0_solveSet l E g n N O y.1 y.2.1 y.2.2.1 y.2.2.2 hn q hi) S hX (lw_V q90 q92 qs3 q20 q93) rfl rfl (by decide +kernel) ⟨Nat.le_of_ble_eq_true rfl, Nat.le_of_ble_eq_true rfl⟩ rfl hl.1 rfl (Nat.le_of_ble_eq_true rfl) ⟨Nat.zero_le _, Nat.zero_le _⟩ dX0_needed_78 (fun H locs hX => ?_)
          refine W.eq (g2 := F0 m 81 ls []) rfl ?_
          generalize sv N q y.2.1 y.2.2.2 n = y2 at hX hPq ⊢
          refine lv_aload_n hx hb dX0_needed_81 rfl (lv_at hl 1 rfl) ?_
          refine x_get5 S hX.1 dX0_needed_82 ?_
          refine b_if_eq (v := y2.2.2.1) hx hb (tgt := 91) dX0_needed_85 (by decide) (fun c7 => ?_) (fun c8 => ?_)
          · replace hl : lv_has ls 5 [(4, .int (nI (on1 q 6))), (0, .ref (g 0)), (1, .int (nI (onM O n))), (2, .int (nI (lsN P (onM O n) (q + 1)))), (3, .int (nI q))] := by rw [show nI (lsN P (onM O n) (q + 1)) = nI (lsN P (onM O n) q) from by rw [lsN, if_neg (fun h => absurd (hPq.trans h.2.2) (by rw [c7]; decide))]]; exact hl
            refine lv_iinc (v := nI (q + 1)) (lv' := [(3, .int (nI (q + 1))), (4, .int (nI (on1 q 6))), (0, .ref (g 0)), (1, .int (nI (onM O n))), (2, .int (nI (lsN P (onM O n) (q + 1))))]) hx hb dX0_needed_91 hl (k := 4) rfl (nI_add q 1) (by decide) rfl (fun ls hl => ?_)
            refine lv_goto (tgt := 50) hx hb dX0_needed_94 (by decide) ?_
            exact ih H locs ls ⟨y2, hX, lv_sub hl [2, 3, 4, 0] rfl⟩
          · refine lv_iload hx hb dX0_needed_88 (lv_at hl 0 rfl) ?_
            have hl1 : lsN P (onM O n) (q + 1) = on1 q 6 := by rw [lsN, if_pos ⟨c4, c6, hPq.symm.trans c8⟩]
            rw [← hl1]
            replace hl : lv_has ls 5 [(4, .int (nI (on1 q 6))), (0, .ref (g 0)), (1, .int (nI (onM O n))), (2, .int (nI (lsN P (onM O n) q))), (3, .int (nI q))] := by rw [show nI (on1 q 6) = nI (on1 q 6) from rfl]; exact hl
            refine lv_istore_n (lv' := [(2, .int (nI (lsN P (onM O n) (q + 1)))), (4, .int (nI (on1 q 6))), (0, .ref (g 0)), (1, .int (nI (onM O n))), (3, .int (nI q))]) hx hb dX0_needed_90 rfl hl (by decide) rfl (fun ls hl => ?_)
            refine lv_iinc (v := nI (q + 1)) (lv' := [(3, .int (nI (q + 1))), (2, .int (nI (lsN P (onM O n) (q + 1)))), (4, .int (nI (on1 q 6))), (0, .ref (g 0)), (1, .int (nI (onM O n)))]) hx hb dX0_needed_91 hl (k := 4) rfl (nI_add q 1) (by decide) rfl (fun ls hl => ?_)
            refine lv_goto (tgt := 50) hx hb dX0_needed_94 (by decide) ?_
            exact ih H locs ls ⟨y2, hX, lv_sub hl [3, 4, 1, 0] rfl⟩
    · obtain ⟨y, hX, hl⟩ := hI
      refine lv_iload_n hx hb dX0_needed_50 rfl (lv_at hl 3 rfl) ?_
      refine lv_bipush (v := nI 64) hx hb dX0_needed_51 (by decide) ?_
      refine n_ge (a := 64) (b := 64) (by omega) (by omega) hx hb (tgt := 97) dX0_needed_53 (by decide) (fun d1 => ?_) (fun d2 => absurd d2 (by omega))
      refine lv_iload_n hx hb dX0_needed_97 rfl (lv_at hl 2 rfl) ?_
      exact f_retI rfl (fun t ht hW => ⟨_, _, _, _, XH.to S hX.1 ht hW⟩) hX.2 hx hb hr hk dX0_needed_98
  · have hPf : ¬ P (onM O n) = true := by rw [← hP0, c2]; decide
    rw [if_neg hPf]
    refine lv_iconst (v := nI 0) hx hb dX0_needed_11 (by decide) ?_
    refine lv_istore_n (lv' := [(1, .int (nI 0)), (0, .ref (g 0))]) hx hb dX0_needed_12 rfl hl (by decide) rfl (fun ls hl => ?_)
    refine lv_iconst (v := nI 0) hx hb dX0_needed_13 (by decide) ?_
    refine lv_istore_n (lv' := [(2, .int (nI 0)), (1, .int (nI 0)), (0, .ref (g 0))]) hx hb dX0_needed_14 rfl hl (by decide) rfl (fun ls hl => ?_)
    revert ls
    revert H locs
    refine lp_H (I := fun u H locs ls => XH E g s.heap n N O z.1 z.2.1 z.2.2.1 z.2.2.2 H locs ∧ lv_has ls 5 [(0, .ref (g 0)), (1, .int (nI (ctD z.1 u))), (2, .int (nI u))]) 4 (fun u hi ih H locs ls hI => ?_) (fun H locs ls hI => ?_) 0 (by omega) (fun H locs ls hX hl => ⟨hX, lv_sub hl [2, 1, 0] rfl⟩)
    · obtain ⟨hX, hl⟩ := hI
      refine lv_iload_n hx hb dX0_needed_15 rfl (lv_at hl 2 rfl) ?_
      refine lv_iconst (v := nI 4) hx hb dX0_needed_16 (by decide) ?_
      refine n_ge (a := u) (b := 4) (by omega) (by omega) hx hb (tgt := 38) dX0_needed_17 (by decide) (fun d1 => absurd d1 (by omega)) (fun d2 => ?_)
      refine lv_aload_n hx hb dX0_needed_20 rfl (lv_at hl 0 rfl) ?_
      refine x_get3 S hX.1 dX0_needed_21 ?_
      refine lv_iload_n hx hb dX0_needed_24 rfl (lv_at hl 2 rfl) ?_
      refine x_ldD u (by omega) S hX.1 dX0_needed_25 ?_
      refine b_if_eq (v := (z.1 u)) hx hb (tgt := 32) dX0_needed_26 (by decide) (fun c3 => ?_) (fun c4 => ?_)
      · replace hl : lv_has ls 5 [(0, .ref (g 0)), (1, .int (nI (ctD z.1 (u + 1)))), (2, .int (nI u))] := by rw [show nI (ctD z.1 (u + 1)) = nI (ctD z.1 u) from by rw [ctD, if_neg (by rw [c3]; decide)]]; exact hl
        refine lv_iinc (v := nI (u + 1)) (lv' := [(2, .int (nI (u + 1))), (0, .ref (g 0)), (1, .int (nI (ctD z.1 (u + 1))))]) hx hb dX0_needed_32 hl (k := 2) rfl (nI_add u 1) (by decide) rfl (fun ls hl => ?_)
        refine lv_goto (tgt := 15) hx hb dX0_needed_35 (by decide) ?_
        exact ih H locs ls ⟨hX, lv_sub hl [1, 2, 0] rfl⟩
      · refine lv_iinc (v := nI ((ctD z.1 u) + 1)) (lv' := [(1, .int (nI ((ctD z.1 u) + 1))), (0, .ref (g 0)), (2, .int (nI u))]) hx hb dX0_needed_29 hl (k := 1) rfl (nI_add (ctD z.1 u) 1) (by decide) rfl (fun ls hl => ?_)
        replace hl : lv_has ls 5 [(1, .int (nI (ctD z.1 (u + 1)))), (0, .ref (g 0)), (2, .int (nI u))] := by rw [show nI (ctD z.1 (u + 1)) = nI ((ctD z.1 u) + 1) from by rw [ctD, if_pos c4]]; exact hl
        refine lv_iinc (v := nI (u + 1)) (lv' := [(2, .int (nI (u + 1))), (1, .int (nI (ctD z.1 (u + 1)))), (0, .ref (g 0))]) hx hb dX0_needed_32 hl (k := 2) rfl (nI_add u 1) (by decide) rfl (fun ls hl => ?_)
        refine lv_goto (tgt := 15) hx hb dX0_needed_35 (by decide) ?_
        exact ih H locs ls ⟨hX, lv_sub hl [2, 1, 0] rfl⟩
    · obtain ⟨hX, hl⟩ := hI
      refine lv_iload_n hx hb dX0_needed_15 rfl (lv_at hl 2 rfl) ?_
      refine lv_iconst (v := nI 4) hx hb dX0_needed_16 (by decide) ?_
      refine n_ge (a := 4) (b := 4) (by omega) (by omega) hx hb (tgt := 38) dX0_needed_17 (by decide) (fun d1 => ?_) (fun d2 => absurd d2 (by omega))
      refine lv_iload_n hx hb dX0_needed_38 rfl (lv_at hl 1 rfl) ?_
      exact f_retI rfl (fun t ht hW => ⟨_, _, _, _, XH.to S hX.1 ht hW⟩) hX.2 hx hb hr hk dX0_needed_39
end
section
set_option maxRecDepth 100000
/-! ===== what the model computes, as plain functions ===== -/
def lhs (N : Nat → Fin 7) (a b c d q : Nat) : Nat := (N (q * 5)).val * a + (N (q * 5 + 1)).val * b + (N (q * 5 + 2)).val * c + (N (q * 5 + 3)).val * d
def bkN (N : Nat → Fin 7) (a b c d : Nat) : Nat → Nat
  | 0 => 0
  | q + 1 => if lhs N a b c d q % 7 = (N (q * 5 + 4)).val then bkN N a b c d q else bkN N a b c d q ||| 2 ^ q
def brk (N : Nat → Fin 7) (n i : Nat) : Nat := bkN N (i / 343) (i / 49 % 7) (i / 7 % 7) (i % 7) n
def sol (N : Nat → Fin 7) (O : Nat → Bool) (n i : Nat) : Bool := decide (brk N n i &&& onM O n = 0)
def ctN (P : Nat → Bool) : Nat → Nat
  | 0 => 0
  | i + 1 => if P i = true then ctN P i + 1 else ctN P i
def dgt (i u : Nat) : Nat := if u = 0 then i / 343 else if u = 1 then i / 49 % 7 else if u = 2 then i / 7 % 7 else i % 7
def mvF (P : Nat → Bool) (x : Int32) (u : Nat) : Nat → Nat → Int32
  | 0, _ => -4
  | f + 1, i => if P i = true ∧ nI (ctN P i) = x then nI (dgt i u) else mvF P x u f (i + 1)
def mVal (P : Nat → Bool) (x y : Int32) : Int32 := if y < 0 ∨ nI 3 < y then -4 else mvF P x y.toNatClampNeg 2401 0
def mpN (P : Nat → Bool) (u : Nat) : Nat → Nat
  | 0 => 0
  | i + 1 => if P i = true then mpN P u i ||| 2 ^ dgt i u else mpN P u i
def mPos (P : Nat → Bool) (y : Int32) : Int32 := if y < 0 ∨ nI 3 < y then 0 else nI (mpN P y.toNatClampNeg 2401)
def fxN (v : Int32) : Nat → Bool
  | 0 => false
  | j + 1 => fxN v j || decide (v = nI (2 ^ j))
def tpN (t : Nat) : Nat → Nat
  | 0 => 0
  | i + 1 => tpN t i * 7 + t / 7 ^ i % 7
def mfN (P : Nat → Bool) (B : Nat → Nat) (q : Nat) : Nat → Bool
  | 0 => true
  | i + 1 => mfN P B q i && !(P i && (B i).testBit q)
def mFol (N : Nat → Fin 7) (n : Nat) (P : Nat → Bool) (x : Int32) : Bool := if noE n x = true then false else mfN P (brk N n) x.toNatClampNeg 2401
def meN (C : Nat → Nat) (b : Nat) : Nat → Nat
  | 0 => 0
  | m + 1 => if m &&& b = 0 then meN C b m + C m else meN C b m
def coN (B : Nat → Nat) : Nat → Nat → Nat
  | 0 => fun _ => 0
  | i + 1 => va_up (coN B i) (B i) (coN B i (B i) + 1)
def mP (N : Nat → Fin 7) (n a : Nat) (b : Nat) : Bool := decide (nI (meN (coN (brk N n) 2401) b 64) = nI (meN (coN (brk N n) 2401) a 64))
def MA (E : va_G) (g : Nat → Nat) (n : Nat) (N : Nat → Fin 7) (O : Nat → Bool) (t : State) : Prop := ∃ (k : Bool) (B C : Nat → Nat), (k = true → ∀ i, i < 2401 → B i = brk N n i) ∧ MI E g n N O k B C t
theorem bkN_lt (N : Nat → Fin 7) (a b c d : Nat) : ∀ n, bkN N a b c d n < 2 ^ n
  | 0 => by simp [bkN]
  | n + 1 => by
    have ih := bkN_lt N a b c d n
    unfold bkN
    split
    · exact Nat.lt_trans ih (Nat.pow_lt_pow_right (by decide) (by omega))
    · exact Nat.or_lt_two_pow (Nat.lt_trans ih (Nat.pow_lt_pow_right (by decide) (by omega))) (Nat.pow_lt_pow_right (by decide) (by omega))
theorem brk_64 (N : Nat → Fin 7) {n : Nat} (hn : n ≤ 6) (i : Nat) : brk N n i < 64 := Nat.lt_of_lt_of_le (bkN_lt N _ _ _ _ n) (Nat.pow_le_pow_right (by decide) hn)
theorem sol_t {N : Nat → Fin 7} {O : Nat → Bool} {n i : Nat} (h : brk N n i &&& onM O n = 0) : sol N O n i = true := by simp [sol, h]
theorem sol_f {N : Nat → Fin 7} {O : Nat → Bool} {n i : Nat} (h : brk N n i &&& onM O n ≠ 0) : ¬ sol N O n i = true := by simp [sol, h]
theorem dgt_lt {i u : Nat} (h : i < 2401) : dgt i u < 7 := by
  unfold dgt
  split
  · omega
  · split
    · omega
    · split <;> omega
theorem tpN_lt (t : Nat) : ∀ i, tpN t i < 7 ^ i
  | 0 => by simp [tpN]
  | i + 1 => by
    have ih := tpN_lt t i
    have h2 : t / 7 ^ i % 7 < 7 := Nat.mod_lt _ (by decide)
    unfold tpN
    rw [Nat.pow_succ]
    omega
theorem mpN_lt (P : Nat → Bool) (u : Nat) : ∀ i, i ≤ 2401 → mpN P u i < 128
  | 0, _ => by simp [mpN]
  | i + 1, h => by
    have ih := mpN_lt P u i (by omega)
    unfold mpN
    split
    · exact Nat.or_lt_two_pow (n := 7) ih (Nat.pow_lt_pow_right (by decide) (dgt_lt (by omega)))
    · exact ih
theorem and63 {a : Nat} (h : a < 64) : nI a &&& nI 63 = nI a := by
  rw [pk_andN (m := nI 63) (by omega) 6 (by decide), Nat.mod_eq_of_lt h]
/-- a number that isn't 0 or less, in 0 .. 3 -/
theorem nI_case3 {x : Int32} (h0 : ¬ x < 0) (h : ¬ nI 3 < x) : ∃ j : Nat, j < 4 ∧ x = nI j := by
  obtain ⟨j, hj, rfl⟩ := nI_of h0
  refine ⟨j, ?_, rfl⟩
  rcases Nat.lt_or_ge j 4 with h1 | h1
  · exact h1
  · exact absurd ((nI_ltI (by decide) hj).mpr (show 3 < j by omega)) h
end
section
set_option maxRecDepth 100000
set_option maxHeartbeats 4000000 in
/-- positive(x) -/
theorem metX1_positive (l : Launch) (E : va_G) (g : Nat → Nat) (n : Nat) (N : Nat → Fin 7) (O : Nat → Bool) (k : Bool) (B C : Nat → Nat) (x : Int32) : Met l yX1_positive (ws_ yX1_positive cX1_positive 2 (some .int)) ({ frames := 0, cells := 0, slots := 0, locals := 0 }) (va_Pc [.ref (g 0), .int x] (MI E g n N O k B C)) (qR (.int (nI (tw x)))) 0 0 (fun _ => False) := by
  refine m_of l (by decide) (Nat.le_of_ble_eq_true rfl) (fun p e s m below meth c ls S0 hr hk _ hI0 hl => ?_)
  have S : MC p m c cX1_positive 2 s _ E g := ⟨S0, hI0.2.1, hI0.2.2⟩
  have hx := S0.1
  have hb := S0.2.1
  have hX := hI0.1
  replace hl : lv_has ls 2 [(0, .ref (g 0)), (1, .int x)] := hl
  refine lv_iload_n hx hb dX1_positive_0 rfl (lv_at hl 1 rfl) ?_
  refine lv_ldc hx hb S.1.2.2.2.1 (S.1.2.2.2.2 _ q188) dX1_positive_1 ?_
  refine lv_iand hx hb dX1_positive_3 ?_
  exact e_retI (nb_pos x) hx hb hr hk dX1_positive_4
set_option maxHeartbeats 4000000 in
/-- bad(x) -/
theorem metX1_bad (l : Launch) (E : va_G) (g : Nat → Nat) (n : Nat) (N : Nat → Fin 7) (O : Nat → Bool) (k : Bool) (B C : Nat → Nat) (x : Int32) : Met l yX1_bad (ws_ yX1_bad cX1_bad 2 (some .boolean)) ({ frames := 0, cells := 0, slots := 0, locals := 0 }) (va_Pc [.ref (g 0), .int x] (MI E g n N O k B C)) (qR (.int (bI (noE n x)))) 0 0 (fun _ => False) := by
  refine m_of l (by decide) (Nat.le_of_ble_eq_true rfl) (fun p e s m below meth c ls S0 hr hk _ hI0 hl => ?_)
  have S : MC p m c cX1_bad 2 s _ E g := ⟨S0, hI0.2.1, hI0.2.2⟩
  have hx := S0.1
  have hb := S0.2.1
  have hX := hI0.1
  replace hl : lv_has ls 2 [(0, .ref (g 0)), (1, .int x)] := hl
  refine lv_iload_n hx hb dX1_bad_0 rfl (lv_at hl 1 rfl) ?_
  refine lv_if_lt hx hb (tgt := 12) dX1_bad_1 (by decide) (fun c1 => ?_) (fun c2 => ?_)
  · refine lv_iconst (v := nI 1) hx hb dX1_bad_12 (by decide) ?_
    refine lv_topE (y := bI true) (by decide) ?_
    refine lv_goto (tgt := 17) hx hb dX1_bad_13 (by decide) ?_
    exact e_retZ (by simp [noE, c1]) hx hb hr hk dX1_bad_17
  · refine lv_iload_n hx hb dX1_bad_4 rfl (lv_at hl 1 rfl) ?_
    refine lv_aload_n hx hb dX1_bad_5 rfl (lv_at hl 0 rfl) ?_
    refine m_get0 S hX dX1_bad_6 ?_
    refine lv_icmp_lt hx hb (tgt := 16) dX1_bad_9 (by decide) (fun c3 => ?_) (fun c4 => ?_)
    · refine lv_iconst (v := nI 0) hx hb dX1_bad_16 (by decide) ?_
      refine lv_topE (y := bI false) (by decide) ?_
      exact e_retZ (by simp [noE, c2, Int32.not_le.mpr c3]) hx hb hr hk dX1_bad_17
    · refine lv_iconst (v := nI 1) hx hb dX1_bad_12 (by decide) ?_
      refine lv_topE (y := bI true) (by decide) ?_
      refine lv_goto (tgt := 17) hx hb dX1_bad_13 (by decide) ?_
      exact e_retZ (by simp [noE, c2, Int32.not_lt.mp c4]) hx hb hr hk dX1_bad_17
set_option maxHeartbeats 4000000 in
/-- ons(): the mask of the equations that are on -/
theorem metX1_ons (l : Launch) (E : va_G) (g : Nat → Nat) (n : Nat) (N : Nat → Fin 7) (O : Nat → Bool) (k : Bool) (B C : Nat → Nat) (hn : n ≤ 6) : Met l yX1_ons (ws_ yX1_ons cX1_ons 3 (some .int)) ({ frames := 0, cells := 0, slots := 0, locals := 0 }) (va_Pc [.ref (g 0)] (MI E g n N O k B C)) (qR (.int (nI (onM O n)))) 0 0 (fun _ => False) := by
  refine m_of l (by decide) (Nat.le_of_ble_eq_true rfl) (fun p e s m below meth c ls S0 hr hk _ hI0 hl => ?_)
  have S : MC p m c cX1_ons 3 s _ E g := ⟨S0, hI0.2.1, hI0.2.2⟩
  have hx := S0.1
  have hb := S0.2.1
  have hX := hI0.1
  replace hl : lv_has ls 3 [(0, .ref (g 0))] := hl
  refine lv_iconst (v := nI 0) hx hb dX1_ons_0 (by decide) ?_
  refine lv_istore_n (lv' := [(1, .int (nI 0)), (0, .ref (g 0))]) hx hb dX1_ons_1 rfl hl (by decide) rfl (fun ls hl => ?_)
  refine lv_iconst (v := nI 0) hx hb dX1_ons_2 (by decide) ?_
  refine lv_istore_n (lv' := [(2, .int (nI 0)), (1, .int (nI 0)), (0, .ref (g 0))]) hx hb dX1_ons_3 rfl hl (by decide) rfl (fun ls hl => ?_)
  revert ls
  refine lp_ls (I := fun q ls => lv_has ls 3 [(0, .ref (g 0)), (1, .int (nI (onM O q))), (2, .int (nI q))]) n (fun q hi ih ls hl => ?_) (fun ls hl => ?_) 0 (by omega) (fun ls hl => lv_sub hl [2, 1, 0] rfl)
  · refine lv_iload_n hx hb dX1_ons_4 rfl (lv_at hl 2 rfl) ?_
    refine lv_aload_n hx hb dX1_ons_5 rfl (lv_at hl 0 rfl) ?_
    refine m_get0 S hX dX1_ons_6 ?_
    refine n_ge (a := q) (b := n) (by omega) (by omega) hx hb (tgt := 33) dX1_ons_9 (by decide) (fun d1 => absurd d1 (by omega)) (fun d2 => ?_)
    refine lv_aload_n hx hb dX1_ons_12 rfl (lv_at hl 0 rfl) ?_
    refine m_get2 S hX dX1_ons_13 ?_
    refine lv_iload_n hx hb dX1_ons_16 rfl (lv_at hl 2 rfl) ?_
    refine m_ldO q (by omega) S hX dX1_ons_17 ?_
    refine b_if_eq (v := (O q)) hx hb (tgt := 27) dX1_ons_18 (by decide) (fun c1 => ?_) (fun c2 => ?_)
    · replace hl : lv_has ls 3 [(0, .ref (g 0)), (1, .int (nI (onM O (q + 1)))), (2, .int (nI q))] := by rw [show nI (onM O (q + 1)) = nI (onM O q) from by simp [onM, c1]]; exact hl
      refine lv_iinc (v := nI (q + 1)) (lv' := [(2, .int (nI (q + 1))), (0, .ref (g 0)), (1, .int (nI (onM O (q + 1))))]) hx hb dX1_ons_27 hl (k := 2) rfl (nI_add q 1) (by decide) rfl (fun ls hl => ?_)
      refine lv_goto (tgt := 4) hx hb dX1_ons_30 (by decide) ?_
      exact ih ls (lv_sub hl [1, 2, 0] rfl)
    · refine lv_iload_n hx hb dX1_ons_21 rfl (lv_at hl 1 rfl) ?_
      refine lv_iconst (v := nI 1) hx hb dX1_ons_22 (by decide) ?_
      refine lv_iload_n hx hb dX1_ons_23 rfl (lv_at hl 2 rfl) ?_
      refine lv_ishl hx hb dX1_ons_24 ?_
      refine lv_ior hx hb dX1_ons_25 ?_
      refine lv_topE (y := nI (onM O (q + 1))) (by rw [nb_set (by omega)]; simp [onM, c2]) ?_
      refine lv_istore_n (lv' := [(1, .int (nI (onM O (q + 1)))), (0, .ref (g 0)), (2, .int (nI q))]) hx hb dX1_ons_26 rfl hl (by decide) rfl (fun ls hl => ?_)
      refine lv_iinc (v := nI (q + 1)) (lv' := [(2, .int (nI (q + 1))), (1, .int (nI (onM O (q + 1)))), (0, .ref (g 0))]) hx hb dX1_ons_27 hl (k := 2) rfl (nI_add q 1) (by decide) rfl (fun ls hl => ?_)
      refine lv_goto (tgt := 4) hx hb dX1_ons_30 (by decide) ?_
      exact ih ls (lv_sub hl [2, 1, 0] rfl)
  · refine lv_iload_n hx hb dX1_ons_4 rfl (lv_at hl 2 rfl) ?_
    refine lv_aload_n hx hb dX1_ons_5 rfl (lv_at hl 0 rfl) ?_
    refine m_get0 S hX dX1_ons_6 ?_
    refine n_ge (a := n) (b := n) (by omega) (by omega) hx hb (tgt := 33) dX1_ons_9 (by decide) (fun d1 => ?_) (fun d2 => absurd d2 (by omega))
    refine lv_iload_n hx hb dX1_ons_33 rfl (lv_at hl 1 rfl) ?_
    exact e_retI rfl hx hb hr hk dX1_ons_34
set_option maxHeartbeats 4000000 in
/-- brokenBy -/
theorem metX1_brokenBy (l : Launch) (E : va_G) (g : Nat → Nat) (n : Nat) (N : Nat → Fin 7) (O : Nat → Bool) (k : Bool) (B C : Nat → Nat) (hn : n ≤ 6) (a b c0 d : Nat) (ha : a < 7) (hb7 : b < 7) (hc : c0 < 7) (hd : d < 7) : Met l yX1_brokenBy (ws_ yX1_brokenBy cX1_brokenBy 9 (some .int)) ({ frames := 0, cells := 0, slots := 0, locals := 0 }) (va_Pc [.ref (g 0), .int (nI a), .int (nI b), .int (nI c0), .int (nI d)] (MI E g n N O k B C)) (qR (.int (nI (bkN N a b c0 d n)))) 0 0 (fun _ => False) := by
  refine m_of l (by decide) (Nat.le_of_ble_eq_true rfl) (fun p e s m below meth c ls S0 hr hk _ hI0 hl => ?_)
  have S : MC p m c cX1_brokenBy 9 s _ E g := ⟨S0, hI0.2.1, hI0.2.2⟩
  have hx := S0.1
  have hb := S0.2.1
  have hX := hI0.1
  replace hl : lv_has ls 9 [(0, .ref (g 0)), (1, .int (nI a)), (2, .int (nI b)), (3, .int (nI c0)), (4, .int (nI d))] := hl
  refine lv_iconst (v := nI 0) hx hb dX1_brokenBy_0 (by decide) ?_
  refine lv_istore (lv' := [(5, .int (nI 0)), (0, .ref (g 0)), (1, .int (nI a)), (2, .int (nI b)), (3, .int (nI c0)), (4, .int (nI d))]) hx hb dX1_brokenBy_1 hl (by decide) rfl (fun ls hl => ?_)
  refine lv_iconst (v := nI 0) hx hb dX1_brokenBy_3 (by decide) ?_
  refine lv_istore (lv' := [(6, .int (nI 0)), (5, .int (nI 0)), (0, .ref (g 0)), (1, .int (nI a)), (2, .int (nI b)), (3, .int (nI c0)), (4, .int (nI d))]) hx hb dX1_brokenBy_4 hl (by decide) rfl (fun ls hl => ?_)
  revert ls
  refine lp_ls (I := fun q ls => lv_has ls 9 [(0, .ref (g 0)), (1, .int (nI a)), (2, .int (nI b)), (3, .int (nI c0)), (4, .int (nI d)), (5, .int (nI (bkN N a b c0 d q))), (6, .int (nI q))]) n (fun q hi ih ls hl => ?_) (fun ls hl => ?_) 0 (by omega) (fun ls hl => lv_sub hl [2, 3, 4, 5, 6, 1, 0] rfl)
  · have h1 : (N (q * 5)).val * a < 49 := Nat.mul_lt_mul_of_lt_of_lt (Fin.isLt _) ha
    have h2 : (N (q * 5 + 1)).val * b < 49 := Nat.mul_lt_mul_of_lt_of_lt (Fin.isLt _) hb7
    have h3 : (N (q * 5 + 2)).val * c0 < 49 := Nat.mul_lt_mul_of_lt_of_lt (Fin.isLt _) hc
    have h4 : (N (q * 5 + 3)).val * d < 49 := Nat.mul_lt_mul_of_lt_of_lt (Fin.isLt _) hd
    have h5 := (N (q * 5 + 4)).isLt
    refine lv_iload hx hb dX1_brokenBy_6 (lv_at hl 6 rfl) ?_
    refine lv_aload_n hx hb dX1_brokenBy_8 rfl (lv_at hl 0 rfl) ?_
    refine m_get0 S hX dX1_brokenBy_9 ?_
    refine n_ge (a := q) (b := n) (by omega) (by omega) hx hb (tgt := 101) dX1_brokenBy_12 (by decide) (fun d1 => absurd d1 (by omega)) (fun d2 => ?_)
    refine lv_iload hx hb dX1_brokenBy_15 (lv_at hl 6 rfl) ?_
    refine lv_iconst (v := nI 5) hx hb dX1_brokenBy_17 (by decide) ?_
    refine lv_imul hx hb dX1_brokenBy_18 ?_
    refine lv_topE (y := nI (q * 5)) (pk_mul q 5) ?_
    refine lv_istore (lv' := [(7, .int (nI (q * 5))), (0, .ref (g 0)), (1, .int (nI a)), (2, .int (nI b)), (3, .int (nI c0)), (4, .int (nI d)), (5, .int (nI (bkN N a b c0 d q))), (6, .int (nI q))]) hx hb dX1_brokenBy_19 hl (by decide) rfl (fun ls hl => ?_)
    refine lv_aload_n hx hb dX1_brokenBy_21 rfl (lv_at hl 1 rfl) ?_
    refine m_get1 S hX dX1_brokenBy_22 ?_
    refine lv_iload hx hb dX1_brokenBy_25 (lv_at hl 0 rfl) ?_
    refine m_ldN (q * 5) (by omega) S hX dX1_brokenBy_27 ?_
    refine lv_iload_n hx hb dX1_brokenBy_28 rfl (lv_at hl 2 rfl) ?_
    refine lv_imul hx hb dX1_brokenBy_29 ?_
    refine lv_topE (y := nI (((N (q * 5)).val) * a)) (pk_mul ((N (q * 5)).val) a) ?_
    refine lv_aload_n hx hb dX1_brokenBy_30 rfl (lv_at hl 1 rfl) ?_
    refine m_get1 S hX dX1_brokenBy_31 ?_
    refine lv_iload hx hb dX1_brokenBy_34 (lv_at hl 0 rfl) ?_
    refine lv_iconst (v := nI 1) hx hb dX1_brokenBy_36 (by decide) ?_
    refine lv_iadd hx hb dX1_brokenBy_37 ?_
    refine lv_topE (y := nI ((q * 5) + 1)) (nI_add (q * 5) 1) ?_
    refine m_ldN ((q * 5) + 1) (by omega) S hX dX1_brokenBy_38 ?_
    refine lv_iload_n hx hb dX1_brokenBy_39 rfl (lv_at hl 3 rfl) ?_
    refine lv_imul hx hb dX1_brokenBy_40 ?_
    refine lv_topE (y := nI (((N ((q * 5) + 1)).val) * b)) (pk_mul ((N ((q * 5) + 1)).val) b) ?_
    refine lv_iadd hx hb dX1_brokenBy_41 ?_
    refine lv_topE (y := nI ((((N (q * 5)).val) * a) + (((N ((q * 5) + 1)).val) * b))) (nI_add (((N (q * 5)).val) * a) (((N ((q * 5) + 1)).val) * b)) ?_
    refine lv_aload_n hx hb dX1_brokenBy_42 rfl (lv_at hl 1 rfl) ?_
    refine m_get1 S hX dX1_brokenBy_43 ?_
    refine lv_iload hx hb dX1_brokenBy_46 (lv_at hl 0 rfl) ?_
    refine lv_iconst (v := nI 2) hx hb dX1_brokenBy_48 (by decide) ?_
    refine lv_iadd hx hb dX1_brokenBy_49 ?_
    refine lv_topE (y := nI ((q * 5) + 2)) (nI_add (q * 5) 2) ?_
    refine m_ldN ((q * 5) + 2) (by omega) S hX dX1_brokenBy_50 ?_
    refine lv_iload_n hx hb dX1_brokenBy_51 rfl (lv_at hl 4 rfl) ?_
    refine lv_imul hx hb dX1_brokenBy_52 ?_
    refine lv_topE (y := nI (((N ((q * 5) + 2)).val) * c0)) (pk_mul ((N ((q * 5) + 2)).val) c0) ?_
    refine lv_iadd hx hb dX1_brokenBy_53 ?_
    refine lv_topE (y := nI (((((N (q * 5)).val) * a) + (((N ((q * 5) + 1)).val) * b)) + (((N ((q * 5) + 2)).val) * c0))) (nI_add ((((N (q * 5)).val) * a) + (((N ((q * 5) + 1)).val) * b)) (((N ((q * 5) + 2)).val) * c0)) ?_
    refine lv_aload_n hx hb dX1_brokenBy_54 rfl (lv_at hl 1 rfl) ?_
    refine m_get1 S hX dX1_brokenBy_55 ?_
    refine lv_iload hx hb dX1_brokenBy_58 (lv_at hl 0 rfl) ?_
    refine lv_iconst (v := nI 3) hx hb dX1_brokenBy_60 (by decide) ?_
    refine lv_iadd hx hb dX1_brokenBy_61 ?_
    refine lv_topE (y := nI ((q * 5) + 3)) (nI_add (q * 5) 3) ?_
    refine m_ldN ((q * 5) + 3) (by omega) S hX dX1_brokenBy_62 ?_
    refine lv_iload hx hb dX1_brokenBy_63 (lv_at hl 5 rfl) ?_
    refine lv_imul hx hb dX1_brokenBy_65 ?_
    refine lv_topE (y := nI (((N ((q * 5) + 3)).val) * d)) (pk_mul ((N ((q * 5) + 3)).val) d) ?_
    refine lv_iadd hx hb dX1_brokenBy_66 ?_
    refine lv_topE (y := nI ((((((N (q * 5)).val) * a) + (((N ((q * 5) + 1)).val) * b)) + (((N ((q * 5) + 2)).val) * c0)) + (((N ((q * 5) + 3)).val) * d))) (nI_add (((((N (q * 5)).val) * a) + (((N ((q * 5) + 1)).val) * b)) + (((N ((q * 5) + 2)).val) * c0)) (((N ((q * 5) + 3)).val) * d)) ?_
    refine lv_topE (y := nI (lhs N a b c0 d q)) rfl ?_
    have h6 : lhs N a b c0 d q < 196 := by unfold lhs; omega
    refine lv_istore (lv' := [(8, .int (nI (lhs N a b c0 d q))), (7, .int (nI (q * 5))), (0, .ref (g 0)), (1, .int (nI a)), (2, .int (nI b)), (3, .int (nI c0)), (4, .int (nI d)), (5, .int (nI (bkN N a b c0 d q))), (6, .int (nI q))]) hx hb dX1_brokenBy_67 hl (by decide) rfl (fun ls hl => ?_)
    refine lv_iload hx hb dX1_brokenBy_69 (lv_at hl 0 rfl) ?_
    refine lv_bipush (v := nI 7) hx hb dX1_brokenBy_71 (by decide) ?_
    refine lv_irem hx hb dX1_brokenBy_73 (by decide) ?_
    refine lv_topE (y := nI ((lhs N a b c0 d q) % 7)) (pk_rem (by omega) (by decide) (by omega)) ?_
    refine lv_aload_n hx hb dX1_brokenBy_74 rfl (lv_at hl 2 rfl) ?_
    refine m_get1 S hX dX1_brokenBy_75 ?_
    refine lv_iload hx hb dX1_brokenBy_78 (lv_at hl 1 rfl) ?_
    refine lv_iconst (v := nI 4) hx hb dX1_brokenBy_80 (by decide) ?_
    refine lv_iadd hx hb dX1_brokenBy_81 ?_
    refine lv_topE (y := nI ((q * 5) + 4)) (nI_add (q * 5) 4) ?_
    refine m_ldN ((q * 5) + 4) (by omega) S hX dX1_brokenBy_82 ?_
    refine n_eq (a := ((lhs N a b c0 d q) % 7)) (b := ((N ((q * 5) + 4)).val)) (by omega) (by omega) hx hb (tgt := 95) dX1_brokenBy_83 (by decide) (fun c1 => ?_) (fun c2 => ?_)
    · replace hl : lv_has ls 9 [(8, .int (nI (lhs N a b c0 d q))), (7, .int (nI (q * 5))), (0, .ref (g 0)), (1, .int (nI a)), (2, .int (nI b)), (3, .int (nI c0)), (4, .int (nI d)), (5, .int (nI (bkN N a b c0 d (q + 1)))), (6, .int (nI q))] := by rw [show nI (bkN N a b c0 d (q + 1)) = nI (bkN N a b c0 d q) from by rw [bkN, if_pos c1]]; exact hl
      refine lv_iinc (v := nI (q + 1)) (lv' := [(6, .int (nI (q + 1))), (8, .int (nI (lhs N a b c0 d q))), (7, .int (nI (q * 5))), (0, .ref (g 0)), (1, .int (nI a)), (2, .int (nI b)), (3, .int (nI c0)), (4, .int (nI d)), (5, .int (nI (bkN N a b c0 d (q + 1))))]) hx hb dX1_brokenBy_95 hl (k := 8) rfl (nI_add q 1) (by decide) rfl (fun ls hl => ?_)
      refine lv_goto (tgt := 6) hx hb dX1_brokenBy_98 (by decide) ?_
      exact ih ls (lv_sub hl [3, 4, 5, 6, 7, 8, 0] rfl)
    · refine lv_iload hx hb dX1_brokenBy_86 (lv_at hl 7 rfl) ?_
      refine lv_iconst (v := nI 1) hx hb dX1_brokenBy_88 (by decide) ?_
      refine lv_iload hx hb dX1_brokenBy_89 (lv_at hl 8 rfl) ?_
      refine lv_ishl hx hb dX1_brokenBy_91 ?_
      refine lv_ior hx hb dX1_brokenBy_92 ?_
      refine lv_topE (y := nI (bkN N a b c0 d (q + 1))) (by rw [nb_set (by omega), bkN, if_neg c2]) ?_
      refine lv_istore (lv' := [(5, .int (nI (bkN N a b c0 d (q + 1)))), (8, .int (nI (lhs N a b c0 d q))), (7, .int (nI (q * 5))), (0, .ref (g 0)), (1, .int (nI a)), (2, .int (nI b)), (3, .int (nI c0)), (4, .int (nI d)), (6, .int (nI q))]) hx hb dX1_brokenBy_93 hl (by decide) rfl (fun ls hl => ?_)
      refine lv_iinc (v := nI (q + 1)) (lv' := [(6, .int (nI (q + 1))), (5, .int (nI (bkN N a b c0 d (q + 1)))), (8, .int (nI (lhs N a b c0 d q))), (7, .int (nI (q * 5))), (0, .ref (g 0)), (1, .int (nI a)), (2, .int (nI b)), (3, .int (nI c0)), (4, .int (nI d))]) hx hb dX1_brokenBy_95 hl (k := 8) rfl (nI_add q 1) (by decide) rfl (fun ls hl => ?_)
      refine lv_goto (tgt := 6) hx hb dX1_brokenBy_98 (by decide) ?_
      exact ih ls (lv_sub hl [4, 5, 6, 7, 8, 1, 0] rfl)
  · refine lv_iload hx hb dX1_brokenBy_6 (lv_at hl 6 rfl) ?_
    refine lv_aload_n hx hb dX1_brokenBy_8 rfl (lv_at hl 0 rfl) ?_
    refine m_get0 S hX dX1_brokenBy_9 ?_
    refine n_ge (a := n) (b := n) (by omega) (by omega) hx hb (tgt := 101) dX1_brokenBy_12 (by decide) (fun d1 => ?_) (fun d2 => absurd d2 (by omega))
    refine lv_iload hx hb dX1_brokenBy_101 (lv_at hl 5 rfl) ?_
    exact e_retI rfl hx hb hr hk dX1_brokenBy_103
set_option maxHeartbeats 4000000 in
/-- workOut() -/
theorem metX1_workOut (l : Launch) (E : va_G) (g : Nat → Nat) (n : Nat) (N : Nat → Fin 7) (O : Nat → Bool) (k : Bool) (B C : Nat → Nat) (hn : n ≤ 6) (hB : k = true → ∀ i, i < 2401 → B i = brk N n i) : Met l yX1_workOut (ws_ yX1_workOut cX1_workOut 2 none) ({ frames := 1, cells := 0, slots := 0, locals := 40 }) (va_Pc [.ref (g 0)] (MI E g n N O k B C)) (qM none (MI E g n N O true (brk N n) C) (mA g)) 0 0 (mA g) := by
  refine m_ofH l (by decide) (Nat.le_of_ble_eq_true rfl) (fun p e s m below meth c ls H locs hHe hS0 S0 hr hk _ hI0 hl => ?_)
  have S : MC p m c cX1_workOut 2 s _ E g := ⟨S0, hI0.2.1, hI0.2.2⟩
  have hx := S0.1
  have hb := S0.2.1
  have hX : MH E g s.heap n N O k B C H locs := ⟨by rw [hHe]; exact hI0.1, hS0 _⟩
  clear hHe hS0
  replace hl : lv_has ls 2 [(0, .ref (g 0))] := hl
  refine lv_aload_n hx hb dX1_workOut_0 rfl (lv_at hl 0 rfl) ?_
  refine m_get3 S hX.1 dX1_workOut_1 ?_
  refine b_if_eq (v := k) hx hb (tgt := 8) dX1_workOut_4 (by decide) (fun c1 => ?_) (fun c2 => ?_)
  · refine lv_aload_n hx hb dX1_workOut_8 rfl (lv_at hl 0 rfl) ?_
    refine lv_iconst (v := nI 1) hx hb dX1_workOut_9 (by decide) ?_
    refine lv_topE (y := bI true) (by decide) ?_
    refine m_put3 true S hX dX1_workOut_10 (fun H locs hX => ?_)
    refine lv_iconst (v := nI 0) hx hb dX1_workOut_13 (by decide) ?_
    refine lv_istore_n (lv' := [(1, .int (nI 0)), (0, .ref (g 0))]) hx hb dX1_workOut_14 rfl hl (by decide) rfl (fun ls hl => ?_)
    revert ls
    revert H locs
    refine lp_H (I := fun i H locs ls => MH E g s.heap n N O true (fun j => if j < i then brk N n j else B j) C H locs ∧ lv_has ls 2 [(0, .ref (g 0)), (1, .int (nI i))]) 2401 (fun i hi ih H locs ls hI => ?_) (fun H locs ls hI => ?_) 0 (by omega) (fun H locs ls hX hl => ⟨hX.eqB (fun j _ => by simp), lv_sub hl [1, 0] rfl⟩)
    · obtain ⟨hX, hl⟩ := hI
      refine lv_iload_n hx hb dX1_workOut_15 rfl (lv_at hl 1 rfl) ?_
      refine lv_sipush (v := nI 2401) hx hb dX1_workOut_16 (by decide) ?_
      refine n_ge (a := i) (b := 2401) (by omega) (by omega) hx hb (tgt := 61) dX1_workOut_19 (by decide) (fun d1 => absurd d1 (by omega)) (fun d2 => ?_)
      refine lv_aload_n hx hb dX1_workOut_22 rfl (lv_at hl 0 rfl) ?_
      refine m_get4 S hX.1 dX1_workOut_23 ?_
      refine lv_iload_n hx hb dX1_workOut_26 rfl (lv_at hl 1 rfl) ?_
      refine lv_aload_n hx hb dX1_workOut_27 rfl (lv_at hl 0 rfl) ?_
      refine lv_iload_n hx hb dX1_workOut_28 rfl (lv_at hl 1 rfl) ?_
      refine lv_sipush (v := nI 343) hx hb dX1_workOut_29 (by decide) ?_
      refine lv_idiv hx hb dX1_workOut_32 (by decide) ?_
      refine lv_topE (y := nI (i / 343)) (pk_div (by omega) (by decide) (by omega)) ?_
      refine lv_iload_n hx hb dX1_workOut_33 rfl (lv_at hl 1 rfl) ?_
      refine lv_bipush (v := nI 49) hx hb dX1_workOut_34 (by decide) ?_
      refine lv_idiv hx hb dX1_workOut_36 (by decide) ?_
      refine lv_topE (y := nI (i / 49)) (pk_div (by omega) (by decide) (by omega)) ?_
      refine lv_bipush (v := nI 7) hx hb dX1_workOut_37 (by decide) ?_
      refine lv_irem hx hb dX1_workOut_39 (by decide) ?_
      refine lv_topE (y := nI ((i / 49) % 7)) (pk_rem (by omega) (by decide) (by omega)) ?_
      refine lv_iload_n hx hb dX1_workOut_40 rfl (lv_at hl 1 rfl) ?_
      refine lv_bipush (v := nI 7) hx hb dX1_workOut_41 (by decide) ?_
      refine lv_idiv hx hb dX1_workOut_43 (by decide) ?_
      refine lv_topE (y := nI (i / 7)) (pk_div (by omega) (by decide) (by omega)) ?_
      refine lv_bipush (v := nI 7) hx hb dX1_workOut_44 (by decide) ?_
      refine lv_irem hx hb dX1_workOut_46 (by decide) ?_
      refine lv_topE (y := nI ((i / 7) % 7)) (pk_rem (by omega) (by decide) (by omega)) ?_
      refine lv_iload_n hx hb dX1_workOut_47 rfl (lv_at hl 1 rfl) ?_
      refine lv_bipush (v := nI 7) hx hb dX1_workOut_48 (by decide) ?_
      refine lv_irem hx hb dX1_workOut_50 (by decide) ?_
      refine lv_topE (y := nI (i % 7)) (pk_rem (by omega) (by decide) (by omega)) ?_
      refine m_callR 4 (rest := [.int (nI i), .ref (g 3)]) (metX1_brokenBy l E g n N O true (fun j => if j < i then brk N n j else B j) C hn (i / 343) (i / 49 % 7) (i / 7 % 7) (i % 7) (by omega) (by omega) (by omega) (by omega)) S hX.1 (lw_V q217 q219 qs15 q21 q220) rfl rfl (by decide +kernel) ⟨Nat.le_of_ble_eq_true rfl, Nat.le_of_ble_eq_true rfl⟩ rfl hl.1 rfl (Nat.le_of_ble_eq_true rfl) ⟨Nat.zero_le _, Nat.zero_le _⟩ dX1_workOut_51 ?_
      refine m_stB i (by omega) (brk N n i) (fun j => if j < i + 1 then brk N n j else B j) (fun j _ => by unfold va_up; by_cases h1 : j = i <;> by_cases h2 : j < i <;> simp [h1, h2] <;> omega) S hX dX1_workOut_54 (fun H locs hX => ?_)
      refine lv_iinc (v := nI (i + 1)) (lv' := [(1, .int (nI (i + 1))), (0, .ref (g 0))]) hx hb dX1_workOut_55 hl (k := 1) rfl (nI_add i 1) (by decide) rfl (fun ls hl => ?_)
      refine lv_goto (tgt := 15) hx hb dX1_workOut_58 (by decide) ?_
      exact ih H locs ls ⟨hX, lv_sub hl [1, 0] rfl⟩
    · obtain ⟨hX, hl⟩ := hI
      refine lv_iload_n hx hb dX1_workOut_15 rfl (lv_at hl 1 rfl) ?_
      refine lv_sipush (v := nI 2401) hx hb dX1_workOut_16 (by decide) ?_
      refine n_ge (a := 2401) (b := 2401) (by omega) (by omega) hx hb (tgt := 61) dX1_workOut_19 (by decide) (fun d1 => ?_) (fun d2 => absurd d2 (by omega))
      replace hX := hX.eqB (B' := brk N n) (fun j hj => by simp [hj])
      exact f_ret (fun t ht hW => MH.to S hX.1 ht hW) hX.2 hx hb hr hk dX1_workOut_61
  · replace hX := hX.eqB (B' := brk N n) (fun j hj => hB c2 j hj)
    subst c2
    exact f_ret (fun t ht hW => MH.to S hX.1 ht hW) hX.2 hx hb hr hk dX1_workOut_7
set_option maxHeartbeats 4000000 in
/-- digit(i, u) -/
theorem metX1_digit (l : Launch) (E : va_G) (g : Nat → Nat) (n : Nat) (N : Nat → Fin 7) (O : Nat → Bool) (k : Bool) (B C : Nat → Nat) (i u : Nat) (hi : i < 2401) (hu : u < 4) : Met l yX1_digit (ws_ yX1_digit cX1_digit 3 (some .int)) ({ frames := 0, cells := 0, slots := 0, locals := 0 }) (va_Pc [.ref (g 0), .int (nI i), .int (nI u)] (MI E g n N O k B C)) (qR (.int (nI (dgt i u)))) 0 0 (fun _ => False) := by
  refine m_of l (by decide) (Nat.le_of_ble_eq_true rfl) (fun p e s m below meth c ls S0 hr hk _ hI0 hl => ?_)
  have S : MC p m c cX1_digit 3 s _ E g := ⟨S0, hI0.2.1, hI0.2.2⟩
  have hx := S0.1
  have hb := S0.2.1
  have hX := hI0.1
  replace hl : lv_has ls 3 [(0, .ref (g 0)), (1, .int (nI i)), (2, .int (nI u))] := hl
  refine lv_iload_n hx hb dX1_digit_0 rfl (lv_at hl 2 rfl) ?_
  refine n_if_ne (a := u) (by omega) hx hb (tgt := 12) dX1_digit_1 (by decide) (fun c1 => ?_) (fun c2 => ?_)
  · refine lv_iload_n hx hb dX1_digit_12 rfl (lv_at hl 2 rfl) ?_
    refine lv_iconst (v := nI 1) hx hb dX1_digit_13 (by decide) ?_
    refine n_ne (a := u) (b := 1) (by omega) (by omega) hx hb (tgt := 27) dX1_digit_14 (by decide) (fun c3 => ?_) (fun c4 => ?_)
    · refine lv_iload_n hx hb dX1_digit_27 rfl (lv_at hl 2 rfl) ?_
      refine lv_iconst (v := nI 2) hx hb dX1_digit_28 (by decide) ?_
      refine n_ne (a := u) (b := 2) (by omega) (by omega) hx hb (tgt := 42) dX1_digit_29 (by decide) (fun c5 => ?_) (fun c6 => ?_)
      · refine lv_iload_n hx hb dX1_digit_42 rfl (lv_at hl 1 rfl) ?_
        refine lv_bipush (v := nI 7) hx hb dX1_digit_43 (by decide) ?_
        refine lv_irem hx hb dX1_digit_45 (by decide) ?_
        refine lv_topE (y := nI (i % 7)) (pk_rem (by omega) (by decide) (by omega)) ?_
        exact e_retI (by rw [dgt, if_neg c1, if_neg c3, if_neg c5]) hx hb hr hk dX1_digit_46
      · refine lv_iload_n hx hb dX1_digit_32 rfl (lv_at hl 1 rfl) ?_
        refine lv_bipush (v := nI 7) hx hb dX1_digit_33 (by decide) ?_
        refine lv_idiv hx hb dX1_digit_35 (by decide) ?_
        refine lv_topE (y := nI (i / 7)) (pk_div (by omega) (by decide) (by omega)) ?_
        refine lv_bipush (v := nI 7) hx hb dX1_digit_36 (by decide) ?_
        refine lv_irem hx hb dX1_digit_38 (by decide) ?_
        refine lv_topE (y := nI ((i / 7) % 7)) (pk_rem (by omega) (by decide) (by omega)) ?_
        refine lv_goto (tgt := 46) hx hb dX1_digit_39 (by decide) ?_
        exact e_retI (by rw [dgt, if_neg c1, if_neg c3, if_pos c6]) hx hb hr hk dX1_digit_46
    · refine lv_iload_n hx hb dX1_digit_17 rfl (lv_at hl 1 rfl) ?_
      refine lv_bipush (v := nI 49) hx hb dX1_digit_18 (by decide) ?_
      refine lv_idiv hx hb dX1_digit_20 (by decide) ?_
      refine lv_topE (y := nI (i / 49)) (pk_div (by omega) (by decide) (by omega)) ?_
      refine lv_bipush (v := nI 7) hx hb dX1_digit_21 (by decide) ?_
      refine lv_irem hx hb dX1_digit_23 (by decide) ?_
      refine lv_topE (y := nI ((i / 49) % 7)) (pk_rem (by omega) (by decide) (by omega)) ?_
      refine lv_goto (tgt := 46) hx hb dX1_digit_24 (by decide) ?_
      exact e_retI (by rw [dgt, if_neg c1, if_pos c4]) hx hb hr hk dX1_digit_46
  · refine lv_iload_n hx hb dX1_digit_4 rfl (lv_at hl 1 rfl) ?_
    refine lv_sipush (v := nI 343) hx hb dX1_digit_5 (by decide) ?_
    refine lv_idiv hx hb dX1_digit_8 (by decide) ?_
    refine lv_topE (y := nI (i / 343)) (pk_div (by omega) (by decide) (by omega)) ?_
    refine lv_goto (tgt := 46) hx hb dX1_digit_9 (by decide) ?_
    exact e_retI (by rw [dgt, if_pos c2]) hx hb hr hk dX1_digit_46
set_option maxHeartbeats 4000000 in
/-- meeting(b) -/
theorem metX1_meeting (l : Launch) (E : va_G) (g : Nat → Nat) (n : Nat) (N : Nat → Fin 7) (O : Nat → Bool) (k : Bool) (B C : Nat → Nat) (b : Nat) (hb64 : b < 64) : Met l yX1_meeting (ws_ yX1_meeting cX1_meeting 4 (some .int)) ({ frames := 0, cells := 0, slots := 0, locals := 0 }) (va_Pc [.ref (g 0), .int (nI b)] (MI E g n N O k B C)) (qR (.int (nI (meN C b 64)))) 0 0 (fun _ => False) := by
  refine m_of l (by decide) (Nat.le_of_ble_eq_true rfl) (fun p e s m below meth c ls S0 hr hk _ hI0 hl => ?_)
  have S : MC p m c cX1_meeting 4 s _ E g := ⟨S0, hI0.2.1, hI0.2.2⟩
  have hx := S0.1
  have hb := S0.2.1
  have hX := hI0.1
  replace hl : lv_has ls 4 [(0, .ref (g 0)), (1, .int (nI b))] := hl
  refine lv_iconst (v := nI 0) hx hb dX1_meeting_0 (by decide) ?_
  refine lv_istore_n (lv' := [(2, .int (nI 0)), (0, .ref (g 0)), (1, .int (nI b))]) hx hb dX1_meeting_1 rfl hl (by decide) rfl (fun ls hl => ?_)
  refine lv_iconst (v := nI 0) hx hb dX1_meeting_2 (by decide) ?_
  refine lv_istore_n (lv' := [(3, .int (nI 0)), (2, .int (nI 0)), (0, .ref (g 0)), (1, .int (nI b))]) hx hb dX1_meeting_3 rfl hl (by decide) rfl (fun ls hl => ?_)
  revert ls
  refine lp_ls (I := fun q ls => lv_has ls 4 [(0, .ref (g 0)), (1, .int (nI b)), (2, .int (nI (meN C b q))), (3, .int (nI q))]) 64 (fun q hi ih ls hl => ?_) (fun ls hl => ?_) 0 (by omega) (fun ls hl => lv_sub hl [2, 3, 1, 0] rfl)
  · have hand : q &&& b < 2147483648 := Nat.lt_of_le_of_lt Nat.and_le_right (by omega)
    refine lv_iload_n hx hb dX1_meeting_4 rfl (lv_at hl 3 rfl) ?_
    refine lv_bipush (v := nI 64) hx hb dX1_meeting_5 (by decide) ?_
    refine n_ge (a := q) (b := 64) (by omega) (by omega) hx hb (tgt := 31) dX1_meeting_7 (by decide) (fun d1 => absurd d1 (by omega)) (fun d2 => ?_)
    refine lv_iload_n hx hb dX1_meeting_10 rfl (lv_at hl 3 rfl) ?_
    refine lv_iload_n hx hb dX1_meeting_11 rfl (lv_at hl 1 rfl) ?_
    refine lv_iand hx hb dX1_meeting_12 ?_
    refine lv_topE (y := nI (q &&& b)) (nb_and q b) ?_
    refine n_if_ne (a := (q &&& b)) (by omega) hx hb (tgt := 25) dX1_meeting_13 (by decide) (fun c1 => ?_) (fun c2 => ?_)
    · replace hl : lv_has ls 4 [(0, .ref (g 0)), (1, .int (nI b)), (2, .int (nI (meN C b (q + 1)))), (3, .int (nI q))] := by rw [show nI (meN C b (q + 1)) = nI (meN C b q) from by rw [meN, if_neg c1]]; exact hl
      refine lv_iinc (v := nI (q + 1)) (lv' := [(3, .int (nI (q + 1))), (0, .ref (g 0)), (1, .int (nI b)), (2, .int (nI (meN C b (q + 1))))]) hx hb dX1_meeting_25 hl (k := 3) rfl (nI_add q 1) (by decide) rfl (fun ls hl => ?_)
      refine lv_goto (tgt := 4) hx hb dX1_meeting_28 (by decide) ?_
      exact ih ls (lv_sub hl [1, 2, 3, 0] rfl)
    · refine lv_iload_n hx hb dX1_meeting_16 rfl (lv_at hl 2 rfl) ?_
      refine lv_aload_n hx hb dX1_meeting_17 rfl (lv_at hl 0 rfl) ?_
      refine m_get5 S hX dX1_meeting_18 ?_
      refine lv_iload_n hx hb dX1_meeting_21 rfl (lv_at hl 3 rfl) ?_
      refine m_ldC q (by omega) S hX dX1_meeting_22 ?_
      refine lv_iadd hx hb dX1_meeting_23 ?_
      refine lv_topE (y := nI ((meN C b q) + (C q))) (nI_add (meN C b q) (C q)) ?_
      refine lv_topE (y := nI (meN C b (q + 1))) (by rw [meN, if_pos c2]) ?_
      refine lv_istore_n (lv' := [(2, .int (nI (meN C b (q + 1)))), (0, .ref (g 0)), (1, .int (nI b)), (3, .int (nI q))]) hx hb dX1_meeting_24 rfl hl (by decide) rfl (fun ls hl => ?_)
      refine lv_iinc (v := nI (q + 1)) (lv' := [(3, .int (nI (q + 1))), (2, .int (nI (meN C b (q + 1)))), (0, .ref (g 0)), (1, .int (nI b))]) hx hb dX1_meeting_25 hl (k := 3) rfl (nI_add q 1) (by decide) rfl (fun ls hl => ?_)
      refine lv_goto (tgt := 4) hx hb dX1_meeting_28 (by decide) ?_
      exact ih ls (lv_sub hl [2, 3, 1, 0] rfl)
  · refine lv_iload_n hx hb dX1_meeting_4 rfl (lv_at hl 3 rfl) ?_
    refine lv_bipush (v := nI 64) hx hb dX1_meeting_5 (by decide) ?_
    refine n_ge (a := 64) (b := 64) (by omega) (by omega) hx hb (tgt := 31) dX1_meeting_7 (by decide) (fun d1 => ?_) (fun d2 => absurd d2 (by omega))
    refine lv_iload_n hx hb dX1_meeting_31 rfl (lv_at hl 2 rfl) ?_
    exact e_retI rfl hx hb hr hk dX1_meeting_32
set_option maxHeartbeats 4000000 in
/-- before(j) -/
theorem metX1_before (l : Launch) (E : va_G) (g : Nat → Nat) (n : Nat) (N : Nat → Fin 7) (O : Nat → Bool) (k : Bool) (B C : Nat → Nat) (hn : n ≤ 6) (hB : k = true → ∀ i, i < 2401 → B i = brk N n i) (j : Nat) (hj : j ≤ 2401) : Met l yX1_before (ws_ yX1_before cX1_before 5 (some .int)) ({ frames := 2, cells := 0, slots := 0, locals := 80 }) (va_Pc [.ref (g 0), .int (nI j)] (MI E g n N O k B C)) (qM (some (.int (nI (ctN (sol N O n) j)))) (MI E g n N O true (brk N n) C) (mA g)) 0 0 (mA g) := by
  refine m_ofH l (by decide) (Nat.le_of_ble_eq_true rfl) (fun p e s m below meth c ls H locs hHe hS0 S0 hr hk _ hI0 hl => ?_)
  have S : MC p m c cX1_before 5 s _ E g := ⟨S0, hI0.2.1, hI0.2.2⟩
  have hx := S0.1
  have hb := S0.2.1
  have hX : MH E g s.heap n N O k B C H locs := ⟨by rw [hHe]; exact hI0.1, hS0 _⟩
  clear hHe hS0
  replace hl : lv_has ls 5 [(0, .ref (g 0)), (1, .int (nI j))] := hl
  refine lv_aload_n hx hb dX1_before_0 rfl (lv_at hl 0 rfl) ?_
  refine m_callM 0 (rest := []) (metX1_workOut l E g n N O k B C hn hB) S hX (lw_V q213 q215 qs14 q21 q216) rfl rfl (by decide +kernel) ⟨Nat.le_of_ble_eq_true rfl, Nat.le_of_ble_eq_true rfl⟩ rfl hl.1 rfl (Nat.le_of_ble_eq_true rfl) ⟨Nat.zero_le _, Nat.zero_le _⟩ dX1_before_1 (fun H locs hX => ?_)
  refine W.eq (g2 := F0 m 4 ls []) rfl ?_
  refine lv_aload_n hx hb dX1_before_4 rfl (lv_at hl 0 rfl) ?_
  refine m_callR 0 (rest := []) (metX1_ons l E g n N O true (brk N n) C hn) S hX.1 (lw_V q221 q223 qs16 q21 q224) rfl rfl (by decide +kernel) ⟨Nat.le_of_ble_eq_true rfl, Nat.le_of_ble_eq_true rfl⟩ rfl hl.1 rfl (Nat.le_of_ble_eq_true rfl) ⟨Nat.zero_le _, Nat.zero_le _⟩ dX1_before_5 ?_
  have ha64 := onM_64 O hn
  refine lv_istore_n (lv' := [(2, .int (nI (onM O n))), (0, .ref (g 0)), (1, .int (nI j))]) hx hb dX1_before_8 rfl hl (by decide) rfl (fun ls hl => ?_)
  refine lv_iconst (v := nI 0) hx hb dX1_before_9 (by decide) ?_
  refine lv_istore_n (lv' := [(3, .int (nI 0)), (2, .int (nI (onM O n))), (0, .ref (g 0)), (1, .int (nI j))]) hx hb dX1_before_10 rfl hl (by decide) rfl (fun ls hl => ?_)
  refine lv_iconst (v := nI 0) hx hb dX1_before_11 (by decide) ?_
  refine lv_istore (lv' := [(4, .int (nI 0)), (3, .int (nI 0)), (2, .int (nI (onM O n))), (0, .ref (g 0)), (1, .int (nI j))]) hx hb dX1_before_12 hl (by decide) rfl (fun ls hl => ?_)
  revert ls
  revert H locs
  refine lp_H (I := fun i H locs ls => MH E g s.heap n N O true (brk N n) C H locs ∧ lv_has ls 5 [(0, .ref (g 0)), (1, .int (nI j)), (2, .int (nI (onM O n))), (3, .int (nI (ctN (sol N O n) i))), (4, .int (nI i))]) j (fun i hi ih H locs ls hI => ?_) (fun H locs ls hI => ?_) 0 (by omega) (fun H locs ls hX hl => ⟨hX, lv_sub hl [3, 4, 2, 1, 0] rfl⟩)
  · obtain ⟨hX, hl⟩ := hI
    have hand : brk N n i &&& onM O n < 2147483648 := Nat.lt_of_le_of_lt Nat.and_le_right (by omega)
    refine lv_iload hx hb dX1_before_14 (lv_at hl 4 rfl) ?_
    refine lv_iload_n hx hb dX1_before_16 rfl (lv_at hl 1 rfl) ?_
    refine n_ge (a := i) (b := j) (by omega) (by omega) hx hb (tgt := 41) dX1_before_17 (by decide) (fun d1 => absurd d1 (by omega)) (fun d2 => ?_)
    refine lv_aload_n hx hb dX1_before_20 rfl (lv_at hl 0 rfl) ?_
    refine m_get4 S hX.1 dX1_before_21 ?_
    refine lv_iload hx hb dX1_before_24 (lv_at hl 4 rfl) ?_
    refine m_ldB i (by omega) S hX.1 dX1_before_26 ?_
    refine lv_iload_n hx hb dX1_before_27 rfl (lv_at hl 2 rfl) ?_
    refine lv_iand hx hb dX1_before_28 ?_
    refine lv_topE (y := nI (brk N n i &&& onM O n)) (nb_and _ _) ?_
    refine n_if_ne (a := (brk N n i &&& onM O n)) (by omega) hx hb (tgt := 35) dX1_before_29 (by decide) (fun c1 => ?_) (fun c2 => ?_)
    · replace hl : lv_has ls 5 [(0, .ref (g 0)), (1, .int (nI j)), (2, .int (nI (onM O n))), (3, .int (nI (ctN (sol N O n) (i + 1)))), (4, .int (nI i))] := by rw [show nI (ctN (sol N O n) (i + 1)) = nI (ctN (sol N O n) i) from by rw [ctN, if_neg (sol_f c1)]]; exact hl
      refine lv_iinc (v := nI (i + 1)) (lv' := [(4, .int (nI (i + 1))), (0, .ref (g 0)), (1, .int (nI j)), (2, .int (nI (onM O n))), (3, .int (nI (ctN (sol N O n) (i + 1))))]) hx hb dX1_before_35 hl (k := 4) rfl (nI_add i 1) (by decide) rfl (fun ls hl => ?_)
      refine lv_goto (tgt := 14) hx hb dX1_before_38 (by decide) ?_
      exact ih H locs ls ⟨hX, lv_sub hl [1, 2, 3, 4, 0] rfl⟩
    · refine lv_iinc (v := nI ((ctN (sol N O n) i) + 1)) (lv' := [(3, .int (nI ((ctN (sol N O n) i) + 1))), (0, .ref (g 0)), (1, .int (nI j)), (2, .int (nI (onM O n))), (4, .int (nI i))]) hx hb dX1_before_32 hl (k := 3) rfl (nI_add (ctN (sol N O n) i) 1) (by decide) rfl (fun ls hl => ?_)
      replace hl : lv_has ls 5 [(3, .int (nI (ctN (sol N O n) (i + 1)))), (0, .ref (g 0)), (1, .int (nI j)), (2, .int (nI (onM O n))), (4, .int (nI i))] := by rw [show nI (ctN (sol N O n) (i + 1)) = nI ((ctN (sol N O n) i) + 1) from by rw [ctN, if_pos (sol_t c2)]]; exact hl
      refine lv_iinc (v := nI (i + 1)) (lv' := [(4, .int (nI (i + 1))), (3, .int (nI (ctN (sol N O n) (i + 1)))), (0, .ref (g 0)), (1, .int (nI j)), (2, .int (nI (onM O n)))]) hx hb dX1_before_35 hl (k := 4) rfl (nI_add i 1) (by decide) rfl (fun ls hl => ?_)
      refine lv_goto (tgt := 14) hx hb dX1_before_38 (by decide) ?_
      exact ih H locs ls ⟨hX, lv_sub hl [2, 3, 4, 1, 0] rfl⟩
  · obtain ⟨hX, hl⟩ := hI
    refine lv_iload hx hb dX1_before_14 (lv_at hl 4 rfl) ?_
    refine lv_iload_n hx hb dX1_before_16 rfl (lv_at hl 1 rfl) ?_
    refine n_ge (a := j) (b := j) (by omega) (by omega) hx hb (tgt := 41) dX1_before_17 (by decide) (fun d1 => ?_) (fun d2 => absurd d2 (by omega))
    refine lv_iload_n hx hb dX1_before_41 rfl (lv_at hl 3 rfl) ?_
    exact f_retI rfl (fun t ht hW => MH.to S hX.1 ht hW) hX.2 hx hb hr hk dX1_before_42
set_option maxHeartbeats 4000000 in
/-- solutions() -/
theorem metX1_solutions (l : Launch) (E : va_G) (g : Nat → Nat) (n : Nat) (N : Nat → Fin 7) (O : Nat → Bool) (k : Bool) (B C : Nat → Nat) (hn : n ≤ 6) (hB : k = true → ∀ i, i < 2401 → B i = brk N n i) : Met l yX1_solutions (ws_ yX1_solutions cX1_solutions 1 (some .int)) ({ frames := 4, cells := 0, slots := 0, locals := 160 }) (va_Pc [.ref (g 0)] (MI E g n N O k B C)) (qM (some (.int (nI (ctN (sol N O n) 2401)))) (MA E g n N O) (mA g)) 0 0 (mA g) := by
  refine m_ofH l (by decide) (Nat.le_of_ble_eq_true rfl) (fun p e s m below meth c ls H locs hHe hS0 S0 hr hk _ hI0 hl => ?_)
  have S : MC p m c cX1_solutions 1 s _ E g := ⟨S0, hI0.2.1, hI0.2.2⟩
  have hx := S0.1
  have hb := S0.2.1
  have hX : MH E g s.heap n N O k B C H locs := ⟨by rw [hHe]; exact hI0.1, hS0 _⟩
  clear hHe hS0
  replace hl : lv_has ls 1 [(0, .ref (g 0))] := hl
  refine lv_aload_n hx hb dX1_solutions_0 rfl (lv_at hl 0 rfl) ?_
  refine lv_sipush (v := nI 2401) hx hb dX1_solutions_1 (by decide) ?_
  refine m_callM 1 (rest := []) (metX1_before l E g n N O k B C hn hB 2401 (Nat.le_refl _)) S hX (lw_V q209 q211 qs13 q21 q212) rfl rfl (by decide +kernel) ⟨Nat.le_of_ble_eq_true rfl, Nat.le_of_ble_eq_true rfl⟩ rfl hl.1 rfl (Nat.le_of_ble_eq_true rfl) ⟨Nat.zero_le _, Nat.zero_le _⟩ dX1_solutions_4 (fun H locs hX => ?_)
  refine W.eq (g2 := F0 m 7 ls [.int (nI (ctN (sol N O n) 2401))]) rfl ?_
  exact f_retI rfl (fun t ht hW => ⟨_, _, _, fun _ _ _ => rfl, MH.to S hX.1 ht hW⟩) hX.2 hx hb hr hk dX1_solutions_7
set_option maxHeartbeats 4000000 in
/-- rank(x) -/
theorem metX1_rank (l : Launch) (E : va_G) (g : Nat → Nat) (n : Nat) (N : Nat → Fin 7) (O : Nat → Bool) (k : Bool) (B C : Nat → Nat) (hn : n ≤ 6) (hB : k = true → ∀ i, i < 2401 → B i = brk N n i) (x : Int32) : Met l yX1_rank (ws_ yX1_rank cX1_rank 5 (some .int)) ({ frames := 4, cells := 0, slots := 0, locals := 160 }) (va_Pc [.ref (g 0), .int x] (MI E g n N O k B C)) (qM (some (.int (nI (ctN (sol N O n) (tpN (tw x) 4))))) (MA E g n N O) (mA g)) 0 0 (mA g) := by
  refine m_ofH l (by decide) (Nat.le_of_ble_eq_true rfl) (fun p e s m below meth c ls H locs hHe hS0 S0 hr hk _ hI0 hl => ?_)
  have S : MC p m c cX1_rank 5 s _ E g := ⟨S0, hI0.2.1, hI0.2.2⟩
  have hx := S0.1
  have hb := S0.2.1
  have hX : MH E g s.heap n N O k B C H locs := ⟨by rw [hHe]; exact hI0.1, hS0 _⟩
  clear hHe hS0
  replace hl : lv_has ls 5 [(0, .ref (g 0)), (1, .int x)] := hl
  have htw := tw_lt x
  refine lv_aload_n hx hb dX1_rank_0 rfl (lv_at hl 0 rfl) ?_
  refine lv_iload_n hx hb dX1_rank_1 rfl (lv_at hl 1 rfl) ?_
  refine m_callR 1 (rest := []) (metX1_positive l E g n N O k B C x) S hX.1 (lw_V q184 q186 qs11 q21 q187) rfl rfl (by decide +kernel) ⟨Nat.le_of_ble_eq_true rfl, Nat.le_of_ble_eq_true rfl⟩ rfl hl.1 rfl (Nat.le_of_ble_eq_true rfl) ⟨Nat.zero_le _, Nat.zero_le _⟩ dX1_rank_2 ?_
  refine lv_istore_n (lv' := [(2, .int (nI (tw x))), (0, .ref (g 0)), (1, .int x)]) hx hb dX1_rank_5 rfl hl (by decide) rfl (fun ls hl => ?_)
  refine lv_iconst (v := nI 0) hx hb dX1_rank_6 (by decide) ?_
  refine lv_istore_n (lv' := [(3, .int (nI 0)), (2, .int (nI (tw x))), (0, .ref (g 0)), (1, .int x)]) hx hb dX1_rank_7 rfl hl (by decide) rfl (fun ls hl => ?_)
  refine lv_iconst (v := nI 0) hx hb dX1_rank_8 (by decide) ?_
  refine lv_istore (lv' := [(4, .int (nI 0)), (3, .int (nI 0)), (2, .int (nI (tw x))), (0, .ref (g 0)), (1, .int x)]) hx hb dX1_rank_9 hl (by decide) rfl (fun ls hl => ?_)
  replace hl : lv_has ls 5 [(4, .int (nI 0)), (3, .int (nI 0)), (2, .int (nI (tw x / 7 ^ 0))), (0, .ref (g 0)), (1, .int x)] := by rw [show nI (tw x / 7 ^ 0) = nI (tw x) from by rw [Nat.pow_zero, Nat.div_one]]; exact hl
  revert ls
  revert H locs
  refine lp_H (I := fun i H locs ls => MH E g s.heap n N O k B C H locs ∧ lv_has ls 5 [(0, .ref (g 0)), (2, .int (nI (tw x / 7 ^ i))), (3, .int (nI (tpN (tw x) i))), (4, .int (nI i))]) 4 (fun i hi ih H locs ls hI => ?_) (fun H locs ls hI => ?_) 0 (by omega) (fun H locs ls hX hl => ⟨hX, lv_sub hl [3, 2, 1, 0] rfl⟩)
  · obtain ⟨hX, hl⟩ := hI
    have hbi : tw x / 7 ^ i ≤ tw x := Nat.div_le_self _ _
    refine lv_iload hx hb dX1_rank_11 (lv_at hl 3 rfl) ?_
    refine lv_iconst (v := nI 4) hx hb dX1_rank_13 (by decide) ?_
    refine n_ge (a := i) (b := 4) (by omega) (by omega) hx hb (tgt := 38) dX1_rank_14 (by decide) (fun d1 => absurd d1 (by omega)) (fun d2 => ?_)
    refine lv_iload_n hx hb dX1_rank_17 rfl (lv_at hl 2 rfl) ?_
    refine lv_bipush (v := nI 7) hx hb dX1_rank_18 (by decide) ?_
    refine lv_imul hx hb dX1_rank_20 ?_
    refine lv_topE (y := nI ((tpN (tw x) i) * 7)) (pk_mul (tpN (tw x) i) 7) ?_
    refine lv_iload_n hx hb dX1_rank_21 rfl (lv_at hl 1 rfl) ?_
    refine lv_bipush (v := nI 7) hx hb dX1_rank_22 (by decide) ?_
    refine lv_irem hx hb dX1_rank_24 (by decide) ?_
    refine lv_topE (y := nI ((tw x / 7 ^ i) % 7)) (pk_rem (by omega) (by decide) (by omega)) ?_
    refine lv_iadd hx hb dX1_rank_25 ?_
    refine lv_topE (y := nI (((tpN (tw x) i) * 7) + ((tw x / 7 ^ i) % 7))) (nI_add ((tpN (tw x) i) * 7) ((tw x / 7 ^ i) % 7)) ?_
    refine lv_istore_n (lv' := [(3, .int (nI (((tpN (tw x) i) * 7) + ((tw x / 7 ^ i) % 7)))), (0, .ref (g 0)), (2, .int (nI (tw x / 7 ^ i))), (4, .int (nI i))]) hx hb dX1_rank_26 rfl hl (by decide) rfl (fun ls hl => ?_)
    refine lv_iload_n hx hb dX1_rank_27 rfl (lv_at hl 2 rfl) ?_
    refine lv_bipush (v := nI 7) hx hb dX1_rank_28 (by decide) ?_
    refine lv_idiv hx hb dX1_rank_30 (by decide) ?_
    refine lv_topE (y := nI ((tw x / 7 ^ i) / 7)) (pk_div (by omega) (by decide) (by omega)) ?_
    refine lv_topE (y := nI (tw x / 7 ^ (i + 1))) (congrArg nI (dv_up (tw x) i)) ?_
    refine lv_istore_n (lv' := [(2, .int (nI (tw x / 7 ^ (i + 1)))), (3, .int (nI (((tpN (tw x) i) * 7) + ((tw x / 7 ^ i) % 7)))), (0, .ref (g 0)), (4, .int (nI i))]) hx hb dX1_rank_31 rfl hl (by decide) rfl (fun ls hl => ?_)
    refine lv_iinc (v := nI (i + 1)) (lv' := [(4, .int (nI (i + 1))), (2, .int (nI (tw x / 7 ^ (i + 1)))), (3, .int (nI (((tpN (tw x) i) * 7) + ((tw x / 7 ^ i) % 7)))), (0, .ref (g 0))]) hx hb dX1_rank_32 hl (k := 3) rfl (nI_add i 1) (by decide) rfl (fun ls hl => ?_)
    refine lv_goto (tgt := 11) hx hb dX1_rank_35 (by decide) ?_
    exact ih H locs ls ⟨hX, lv_sub hl [3, 1, 2, 0] rfl⟩
  · obtain ⟨hX, hl⟩ := hI
    refine lv_iload hx hb dX1_rank_11 (lv_at hl 3 rfl) ?_
    refine lv_iconst (v := nI 4) hx hb dX1_rank_13 (by decide) ?_
    refine n_ge (a := 4) (b := 4) (by omega) (by omega) hx hb (tgt := 38) dX1_rank_14 (by decide) (fun d1 => ?_) (fun d2 => absurd d2 (by omega))
    refine lv_aload_n hx hb dX1_rank_38 rfl (lv_at hl 0 rfl) ?_
    refine lv_iload_n hx hb dX1_rank_39 rfl (lv_at hl 2 rfl) ?_
    refine m_callM 1 (rest := []) (metX1_before l E g n N O k B C hn hB (tpN (tw x) 4) (Nat.le_of_lt (tpN_lt _ 4))) S hX (lw_V q209 q211 qs13 q21 q212) rfl rfl (by decide +kernel) ⟨Nat.le_of_ble_eq_true rfl, Nat.le_of_ble_eq_true rfl⟩ rfl hl.1 rfl (Nat.le_of_ble_eq_true rfl) ⟨Nat.zero_le _, Nat.zero_le _⟩ dX1_rank_40 (fun H locs hX => ?_)
    refine W.eq (g2 := F0 m 43 ls [.int (nI (ctN (sol N O n) (tpN (tw x) 4)))]) rfl ?_
    exact f_retI rfl (fun t ht hW => ⟨_, _, _, fun _ _ _ => rfl, MH.to S hX.1 ht hW⟩) hX.2 hx hb hr hk dX1_rank_43
end
section
set_option maxRecDepth 100000
set_option maxHeartbeats 4000000 in
/-- add: full -/
theorem metX1_add_full (l : Launch) (E : va_G) (g : Nat → Nat) (n : Nat) (N : Nat → Fin 7) (O : Nat → Bool) (k : Bool) (B C : Nat → Nat) (hB : k = true → ∀ i, i < 2401 → B i = brk N n i) (x : Int32) (hn : n = 6) : Met l yX1_add (ws_ yX1_add cX1_add 4 (some .int)) ({ frames := 4, cells := 0, slots := 0, locals := 160 }) (va_Pc [.ref (g 0), .int x] (MI E g n N O k B C)) (qM (some (.int (-3))) (MA E g n N O) (mA g)) 0 0 (mA g) := by
  refine m_ofH l (by decide) (Nat.le_of_ble_eq_true rfl) (fun p e s m below meth c ls H locs hHe hS0 S0 hr hk _ hI0 hl => ?_)
  have S : MC p m c cX1_add 4 s _ E g := ⟨S0, hI0.2.1, hI0.2.2⟩
  have hx := S0.1
  have hb := S0.2.1
  have hX : MH E g s.heap n N O k B C H locs := ⟨by rw [hHe]; exact hI0.1, hS0 _⟩
  clear hHe hS0
  replace hl : lv_has ls 4 [(0, .ref (g 0)), (1, .int x)] := hl
  refine lv_aload_n hx hb dX1_add_0 rfl (lv_at hl 0 rfl) ?_
  refine m_get0 S hX.1 dX1_add_1 ?_
  refine lv_bipush (v := nI 6) hx hb dX1_add_4 (by decide) ?_
  refine n_ne (a := n) (b := 6) (by omega) (by omega) hx hb (tgt := 12) dX1_add_6 (by decide) (fun d1 => absurd d1 (by omega)) (fun d2 => ?_)
  refine lv_bipush (v := (-3)) hx hb dX1_add_9 (by decide) ?_
  exact f_retI rfl (fun t ht hW => ⟨_, _, _, hB, MH.to S hX.1 ht hW⟩) hX.2 hx hb hr hk dX1_add_11
set_option maxHeartbeats 4000000 in
/-- add: a new equation -/
theorem metX1_add (l : Launch) (E : va_G) (g : Nat → Nat) (n : Nat) (N : Nat → Fin 7) (O : Nat → Bool) (k : Bool) (B C : Nat → Nat) (hB : k = true → ∀ i, i < 2401 → B i = brk N n i) (x : Int32) (hn : n < 6) : Met l yX1_add (ws_ yX1_add cX1_add 4 (some .int)) ({ frames := 4, cells := 0, slots := 0, locals := 160 }) (va_Pc [.ref (g 0), .int x] (MI E g n N O k B C)) (qM (some (.int (nI n))) (MA E g (n + 1) (adN N n (tw x) 5) (va_up O n true)) (mA g)) 0 0 (mA g) := by
  refine m_ofH l (by decide) (Nat.le_of_ble_eq_true rfl) (fun p e s m below meth c ls H locs hHe hS0 S0 hr hk _ hI0 hl => ?_)
  have S : MC p m c cX1_add 4 s _ E g := ⟨S0, hI0.2.1, hI0.2.2⟩
  have hx := S0.1
  have hb := S0.2.1
  have hX : MH E g s.heap n N O k B C H locs := ⟨by rw [hHe]; exact hI0.1, hS0 _⟩
  clear hHe hS0
  replace hl : lv_has ls 4 [(0, .ref (g 0)), (1, .int x)] := hl
  have htw := tw_lt x
  refine lv_aload_n hx hb dX1_add_0 rfl (lv_at hl 0 rfl) ?_
  refine m_get0 S hX.1 dX1_add_1 ?_
  refine lv_bipush (v := nI 6) hx hb dX1_add_4 (by decide) ?_
  refine n_ne (a := n) (b := 6) (by omega) (by omega) hx hb (tgt := 12) dX1_add_6 (by decide) (fun d1 => ?_) (fun d2 => absurd d2 (by omega))
  refine lv_aload_n hx hb dX1_add_12 rfl (lv_at hl 0 rfl) ?_
  refine lv_iload_n hx hb dX1_add_13 rfl (lv_at hl 1 rfl) ?_
  refine m_callR 1 (rest := []) (metX1_positive l E g n N O k B C x) S hX.1 (lw_V q184 q186 qs11 q21 q187) rfl rfl (by decide +kernel) ⟨Nat.le_of_ble_eq_true rfl, Nat.le_of_ble_eq_true rfl⟩ rfl hl.1 rfl (Nat.le_of_ble_eq_true rfl) ⟨Nat.zero_le _, Nat.zero_le _⟩ dX1_add_14 ?_
  refine lv_istore_n (lv' := [(2, .int (nI (tw x))), (0, .ref (g 0)), (1, .int x)]) hx hb dX1_add_17 rfl hl (by decide) rfl (fun ls hl => ?_)
  refine lv_iconst (v := nI 0) hx hb dX1_add_18 (by decide) ?_
  refine lv_istore_n (lv' := [(3, .int (nI 0)), (2, .int (nI (tw x))), (0, .ref (g 0)), (1, .int x)]) hx hb dX1_add_19 rfl hl (by decide) rfl (fun ls hl => ?_)
  replace hl : lv_has ls 4 [(3, .int (nI 0)), (2, .int (nI (tw x / 7 ^ 0))), (0, .ref (g 0)), (1, .int x)] := by rw [show nI (tw x / 7 ^ 0) = nI (tw x) from by rw [Nat.pow_zero, Nat.div_one]]; exact hl
  revert ls
  revert H locs
  refine lp_H (I := fun i H locs ls => MH E g s.heap n (adN N n (tw x) i) O k B C H locs ∧ lv_has ls 4 [(0, .ref (g 0)), (1, .int x), (2, .int (nI (tw x / 7 ^ i))), (3, .int (nI i))]) 5 (fun i hi ih H locs ls hI => ?_) (fun H locs ls hI => ?_) 0 (by omega) (fun H locs ls hX hl => ⟨hX.eqN (fun j _ => by simp only [adN, show ¬ (n * 5 ≤ j ∧ j < n * 5 + 0) by omega, if_false]), lv_sub hl [2, 3, 1, 0] rfl⟩)
  · obtain ⟨hX, hl⟩ := hI
    have hbi : tw x / 7 ^ i ≤ tw x := Nat.div_le_self _ _
    refine lv_iload_n hx hb dX1_add_20 rfl (lv_at hl 3 rfl) ?_
    refine lv_iconst (v := nI 5) hx hb dX1_add_21 (by decide) ?_
    refine n_ge (a := i) (b := 5) (by omega) (by omega) hx hb (tgt := 53) dX1_add_22 (by decide) (fun d1 => absurd d1 (by omega)) (fun d2 => ?_)
    refine lv_aload_n hx hb dX1_add_25 rfl (lv_at hl 0 rfl) ?_
    refine m_get1 S hX.1 dX1_add_26 ?_
    refine lv_aload_n hx hb dX1_add_29 rfl (lv_at hl 0 rfl) ?_
    refine m_get0 S hX.1 dX1_add_30 ?_
    refine lv_iconst (v := nI 5) hx hb dX1_add_33 (by decide) ?_
    refine lv_imul hx hb dX1_add_34 ?_
    refine lv_topE (y := nI (n * 5)) (pk_mul n 5) ?_
    refine lv_iload_n hx hb dX1_add_35 rfl (lv_at hl 3 rfl) ?_
    refine lv_iadd hx hb dX1_add_36 ?_
    refine lv_topE (y := nI ((n * 5) + i)) (nI_add (n * 5) i) ?_
    refine lv_iload_n hx hb dX1_add_37 rfl (lv_at hl 2 rfl) ?_
    refine lv_bipush (v := nI 7) hx hb dX1_add_38 (by decide) ?_
    refine lv_irem hx hb dX1_add_40 (by decide) ?_
    refine lv_topE (y := nI ((tw x / 7 ^ i) % 7)) (pk_rem (by omega) (by decide) (by omega)) ?_
    refine lv_topE (y := nI (d7 (tw x / 7 ^ i)).val) rfl ?_
    refine m_stN ((n * 5) + i) (by omega) (d7 (tw x / 7 ^ i)) (adN N n (tw x) (i + 1)) (adN_up N n (tw x) i) S hX dX1_add_41 (fun H locs hX => ?_)
    refine lv_iload_n hx hb dX1_add_42 rfl (lv_at hl 2 rfl) ?_
    refine lv_bipush (v := nI 7) hx hb dX1_add_43 (by decide) ?_
    refine lv_idiv hx hb dX1_add_45 (by decide) ?_
    refine lv_topE (y := nI ((tw x / 7 ^ i) / 7)) (pk_div (by omega) (by decide) (by omega)) ?_
    refine lv_topE (y := nI (tw x / 7 ^ (i + 1))) (congrArg nI (dv_up (tw x) i)) ?_
    refine lv_istore_n (lv' := [(2, .int (nI (tw x / 7 ^ (i + 1)))), (0, .ref (g 0)), (1, .int x), (3, .int (nI i))]) hx hb dX1_add_46 rfl hl (by decide) rfl (fun ls hl => ?_)
    refine lv_iinc (v := nI (i + 1)) (lv' := [(3, .int (nI (i + 1))), (2, .int (nI (tw x / 7 ^ (i + 1)))), (0, .ref (g 0)), (1, .int x)]) hx hb dX1_add_47 hl (k := 3) rfl (nI_add i 1) (by decide) rfl (fun ls hl => ?_)
    refine lv_goto (tgt := 20) hx hb dX1_add_50 (by decide) ?_
    exact ih H locs ls ⟨hX, lv_sub hl [2, 3, 1, 0] rfl⟩
  · obtain ⟨hX, hl⟩ := hI
    refine lv_iload_n hx hb dX1_add_20 rfl (lv_at hl 3 rfl) ?_
    refine lv_iconst (v := nI 5) hx hb dX1_add_21 (by decide) ?_
    refine n_ge (a := 5) (b := 5) (by omega) (by omega) hx hb (tgt := 53) dX1_add_22 (by decide) (fun d1 => ?_) (fun d2 => absurd d2 (by omega))
    refine lv_aload_n hx hb dX1_add_53 rfl (lv_at hl 0 rfl) ?_
    refine m_get2 S hX.1 dX1_add_54 ?_
    refine lv_aload_n hx hb dX1_add_57 rfl (lv_at hl 0 rfl) ?_
    refine m_get0 S hX.1 dX1_add_58 ?_
    refine lv_iconst (v := nI 1) hx hb dX1_add_61 (by decide) ?_
    refine lv_topE (y := bI true) (by decide) ?_
    refine m_stO n (by omega) true (va_up O n true) (fun _ _ => rfl) S hX dX1_add_62 (fun H locs hX => ?_)
    refine lv_aload_n hx hb dX1_add_63 rfl (lv_at hl 0 rfl) ?_
    refine lv_aload_n hx hb dX1_add_64 rfl (lv_at hl 0 rfl) ?_
    refine m_get0 S hX.1 dX1_add_65 ?_
    refine lv_iconst (v := nI 1) hx hb dX1_add_68 (by decide) ?_
    refine lv_iadd hx hb dX1_add_69 ?_
    refine lv_topE (y := nI (n + 1)) (nI_add n 1) ?_
    refine m_put0 (n + 1) S hX dX1_add_70 (fun H locs hX => ?_)
    refine lv_aload_n hx hb dX1_add_73 rfl (lv_at hl 0 rfl) ?_
    refine lv_iconst (v := nI 0) hx hb dX1_add_74 (by decide) ?_
    refine lv_topE (y := bI false) (by decide) ?_
    refine m_put3 false S hX dX1_add_75 (fun H locs hX => ?_)
    refine lv_aload_n hx hb dX1_add_78 rfl (lv_at hl 0 rfl) ?_
    refine m_get0 S hX.1 dX1_add_79 ?_
    refine lv_iconst (v := nI 1) hx hb dX1_add_82 (by decide) ?_
    refine lv_isub hx hb dX1_add_83 ?_
    refine lv_topE (y := nI n) (nI_pred n) ?_
    exact f_retI rfl (fun t ht hW => ⟨false, _, _, (fun h => absurd h (by decide)), MH.to S hX.1 ht hW⟩) hX.2 hx hb hr hk dX1_add_84
set_option maxHeartbeats 4000000 in
/-- set: no such equation -/
theorem metX1_set_bad (l : Launch) (E : va_G) (g : Nat → Nat) (n : Nat) (N : Nat → Fin 7) (O : Nat → Bool) (k : Bool) (B C : Nat → Nat) (hB : k = true → ∀ i, i < 2401 → B i = brk N n i) (x y v : Int32) (h1 : noE n x = true) : Met l yX1_set (ws_ yX1_set cX1_set 5 (some .int)) ({ frames := 4, cells := 0, slots := 0, locals := 160 }) (va_Pc [.ref (g 0), .int x, .int y, .int v] (MI E g n N O k B C)) (qM (some (.int (-1))) (MA E g n N O) (mA g)) 0 0 (mA g) := by
  refine m_ofH l (by decide) (Nat.le_of_ble_eq_true rfl) (fun p e s m below meth c ls H locs hHe hS0 S0 hr hk _ hI0 hl => ?_)
  have S : MC p m c cX1_set 5 s _ E g := ⟨S0, hI0.2.1, hI0.2.2⟩
  have hx := S0.1
  have hb := S0.2.1
  have hX : MH E g s.heap n N O k B C H locs := ⟨by rw [hHe]; exact hI0.1, hS0 _⟩
  clear hHe hS0
  replace hl : lv_has ls 5 [(0, .ref (g 0)), (1, .int x), (2, .int y), (3, .int v)] := hl
  refine lv_aload_n hx hb dX1_set_0 rfl (lv_at hl 0 rfl) ?_
  refine lv_iload_n hx hb dX1_set_1 rfl (lv_at hl 1 rfl) ?_
  refine m_callR 1 (rest := []) (metX1_bad l E g n N O k B C x) S hX.1 (lw_V q193 q195 qs12 q21 q196) rfl rfl (by decide +kernel) ⟨Nat.le_of_ble_eq_true rfl, Nat.le_of_ble_eq_true rfl⟩ rfl hl.1 rfl (Nat.le_of_ble_eq_true rfl) ⟨Nat.zero_le _, Nat.zero_le _⟩ dX1_set_2 ?_
  refine b_if_eq (v := (noE n x)) hx hb (tgt := 10) dX1_set_5 (by decide) (fun d1 => absurd d1 (by rw [h1]; decide)) (fun d2 => ?_)
  refine lv_iconst (v := (-1)) hx hb dX1_set_8 (by decide) ?_
  exact f_retI rfl (fun t ht hW => ⟨_, _, _, hB, MH.to S hX.1 ht hW⟩) hX.2 hx hb hr hk dX1_set_9
set_option maxHeartbeats 4000000 in
/-- set: no such place -/
theorem metX1_set_unk (l : Launch) (E : va_G) (g : Nat → Nat) (n : Nat) (N : Nat → Fin 7) (O : Nat → Bool) (k : Bool) (B C : Nat → Nat) (hB : k = true → ∀ i, i < 2401 → B i = brk N n i) (x y v : Int32) (h1 : noE n x = false) (h2 : y < 0 ∨ nI 4 < y) : Met l yX1_set (ws_ yX1_set cX1_set 5 (some .int)) ({ frames := 4, cells := 0, slots := 0, locals := 160 }) (va_Pc [.ref (g 0), .int x, .int y, .int v] (MI E g n N O k B C)) (qM (some (.int (-2))) (MA E g n N O) (mA g)) 0 0 (mA g) := by
  refine m_ofH l (by decide) (Nat.le_of_ble_eq_true rfl) (fun p e s m below meth c ls H locs hHe hS0 S0 hr hk _ hI0 hl => ?_)
  have S : MC p m c cX1_set 5 s _ E g := ⟨S0, hI0.2.1, hI0.2.2⟩
  have hx := S0.1
  have hb := S0.2.1
  have hX : MH E g s.heap n N O k B C H locs := ⟨by rw [hHe]; exact hI0.1, hS0 _⟩
  clear hHe hS0
  replace hl : lv_has ls 5 [(0, .ref (g 0)), (1, .int x), (2, .int y), (3, .int v)] := hl
  refine lv_aload_n hx hb dX1_set_0 rfl (lv_at hl 0 rfl) ?_
  refine lv_iload_n hx hb dX1_set_1 rfl (lv_at hl 1 rfl) ?_
  refine m_callR 1 (rest := []) (metX1_bad l E g n N O k B C x) S hX.1 (lw_V q193 q195 qs12 q21 q196) rfl rfl (by decide +kernel) ⟨Nat.le_of_ble_eq_true rfl, Nat.le_of_ble_eq_true rfl⟩ rfl hl.1 rfl (Nat.le_of_ble_eq_true rfl) ⟨Nat.zero_le _, Nat.zero_le _⟩ dX1_set_2 ?_
  refine b_if_eq (v := (noE n x)) hx hb (tgt := 10) dX1_set_5 (by decide) (fun d1 => ?_) (fun d2 => absurd d2 (by rw [h1]; decide))
  refine lv_iload_n hx hb dX1_set_10 rfl (lv_at hl 2 rfl) ?_
  refine lv_if_lt hx hb (tgt := 19) dX1_set_11 (by decide) (fun c1 => ?_) (fun c2 => ?_)
  · refine lv_bipush (v := (-2)) hx hb dX1_set_19 (by decide) ?_
    exact f_retI rfl (fun t ht hW => ⟨_, _, _, hB, MH.to S hX.1 ht hW⟩) hX.2 hx hb hr hk dX1_set_21
  · refine lv_iload_n hx hb dX1_set_14 rfl (lv_at hl 2 rfl) ?_
    refine lv_iconst (v := nI 4) hx hb dX1_set_15 (by decide) ?_
    refine lv_icmp_le hx hb (tgt := 22) dX1_set_16 (by decide) (fun d1 => absurd d1 (Int32.not_le.mpr (h2.resolve_left c2))) (fun d2 => ?_)
    refine lv_bipush (v := (-2)) hx hb dX1_set_19 (by decide) ?_
    exact f_retI rfl (fun t ht hW => ⟨_, _, _, hB, MH.to S hX.1 ht hW⟩) hX.2 hx hb hr hk dX1_set_21
set_option maxHeartbeats 4000000 in
/-- set -/
theorem metX1_set (l : Launch) (E : va_G) (g : Nat → Nat) (n : Nat) (N : Nat → Fin 7) (O : Nat → Bool) (k : Bool) (B C : Nat → Nat) (i j : Nat) (v : Int32) (hn : n ≤ 6) (hi : i < n) (hj : j < 5) : Met l yX1_set (ws_ yX1_set cX1_set 5 (some .int)) ({ frames := 4, cells := 0, slots := 0, locals := 160 }) (va_Pc [.ref (g 0), .int (nI i), .int (nI j), .int v] (MI E g n N O k B C)) (qM (some (.int (nI (N (i * 5 + j)).val))) (MA E g n (va_up N (i * 5 + j) (z7 v.toInt)) O) (mA g)) 0 0 (mA g) := by
  refine m_ofH l (by decide) (Nat.le_of_ble_eq_true rfl) (fun p e s m below meth c ls H locs hHe hS0 S0 hr hk _ hI0 hl => ?_)
  have S : MC p m c cX1_set 5 s _ E g := ⟨S0, hI0.2.1, hI0.2.2⟩
  have hx := S0.1
  have hb := S0.2.1
  have hX : MH E g s.heap n N O k B C H locs := ⟨by rw [hHe]; exact hI0.1, hS0 _⟩
  clear hHe hS0
  replace hl : lv_has ls 5 [(0, .ref (g 0)), (1, .int (nI i)), (2, .int (nI j)), (3, .int v)] := hl
  refine lv_aload_n hx hb dX1_set_0 rfl (lv_at hl 0 rfl) ?_
  refine lv_iload_n hx hb dX1_set_1 rfl (lv_at hl 1 rfl) ?_
  refine m_callR 1 (rest := []) (metX1_bad l E g n N O k B C (nI i)) S hX.1 (lw_V q193 q195 qs12 q21 q196) rfl rfl (by decide +kernel) ⟨Nat.le_of_ble_eq_true rfl, Nat.le_of_ble_eq_true rfl⟩ rfl hl.1 rfl (Nat.le_of_ble_eq_true rfl) ⟨Nat.zero_le _, Nat.zero_le _⟩ dX1_set_2 ?_
  refine b_if_eq (v := (noE n (nI i))) hx hb (tgt := 10) dX1_set_5 (by decide) (fun d1 => ?_) (fun d2 => absurd d2 (by rw [noE_nI hn hi]; decide))
  refine lv_iload_n hx hb dX1_set_10 rfl (lv_at hl 2 rfl) ?_
  refine lv_if_lt hx hb (tgt := 19) dX1_set_11 (by decide) (fun d1 => absurd d1 (nI_pos (by omega))) (fun d2 => ?_)
  refine lv_iload_n hx hb dX1_set_14 rfl (lv_at hl 2 rfl) ?_
  refine lv_iconst (v := nI 4) hx hb dX1_set_15 (by decide) ?_
  refine n_le (a := j) (b := 4) (by omega) (by omega) hx hb (tgt := 22) dX1_set_16 (by decide) (fun d1 => ?_) (fun d2 => absurd d2 (by omega))
  refine lv_aload_n hx hb dX1_set_22 rfl (lv_at hl 0 rfl) ?_
  refine m_get1 S hX.1 dX1_set_23 ?_
  refine lv_iload_n hx hb dX1_set_26 rfl (lv_at hl 1 rfl) ?_
  refine lv_iconst (v := nI 5) hx hb dX1_set_27 (by decide) ?_
  refine lv_imul hx hb dX1_set_28 ?_
  refine lv_topE (y := nI (i * 5)) (pk_mul i 5) ?_
  refine lv_iload_n hx hb dX1_set_29 rfl (lv_at hl 2 rfl) ?_
  refine lv_iadd hx hb dX1_set_30 ?_
  refine lv_topE (y := nI ((i * 5) + j)) (nI_add (i * 5) j) ?_
  refine m_ldN ((i * 5) + j) (by omega) S hX.1 dX1_set_31 ?_
  refine lv_istore (lv' := [(4, .int (nI (N ((i * 5) + j)).val)), (0, .ref (g 0)), (1, .int (nI i)), (2, .int (nI j)), (3, .int v)]) hx hb dX1_set_32 hl (by decide) rfl (fun ls hl => ?_)
  refine lv_aload_n hx hb dX1_set_34 rfl (lv_at hl 1 rfl) ?_
  refine m_get1 S hX.1 dX1_set_35 ?_
  refine lv_iload_n hx hb dX1_set_38 rfl (lv_at hl 2 rfl) ?_
  refine lv_iconst (v := nI 5) hx hb dX1_set_39 (by decide) ?_
  refine lv_imul hx hb dX1_set_40 ?_
  refine lv_topE (y := nI (i * 5)) (pk_mul i 5) ?_
  refine lv_iload_n hx hb dX1_set_41 rfl (lv_at hl 3 rfl) ?_
  refine lv_iadd hx hb dX1_set_42 ?_
  refine lv_topE (y := nI ((i * 5) + j)) (nI_add (i * 5) j) ?_
  refine lv_iload_n hx hb dX1_set_43 rfl (lv_at hl 4 rfl) ?_
  refine lv_bipush (v := nI 7) hx hb dX1_set_44 (by decide) ?_
  refine lv_irem hx hb dX1_set_46 (by decide) ?_
  refine lv_bipush (v := nI 7) hx hb dX1_set_47 (by decide) ?_
  refine lv_iadd hx hb dX1_set_49 ?_
  refine lv_bipush (v := nI 7) hx hb dX1_set_50 (by decide) ?_
  refine lv_irem hx hb dX1_set_52 (by decide) ?_
  refine lv_topE (y := nI (z7 v.toInt).val) (mod_two v) ?_
  refine m_stN ((i * 5) + j) (by omega) (z7 v.toInt) (va_up N (i * 5 + j) (z7 v.toInt)) (fun _ _ => rfl) S hX dX1_set_53 (fun H locs hX => ?_)
  refine lv_aload_n hx hb dX1_set_54 rfl (lv_at hl 1 rfl) ?_
  refine lv_iconst (v := nI 0) hx hb dX1_set_55 (by decide) ?_
  refine lv_topE (y := bI false) (by decide) ?_
  refine m_put3 false S hX dX1_set_56 (fun H locs hX => ?_)
  refine lv_iload hx hb dX1_set_59 (lv_at hl 0 rfl) ?_
  exact f_retI rfl (fun t ht hW => ⟨false, _, _, (fun h => absurd h (by decide)), MH.to S hX.1 ht hW⟩) hX.2 hx hb hr hk dX1_set_61
set_option maxHeartbeats 4000000 in
/-- turn: no such equation -/
theorem metX1_turn_bad (l : Launch) (E : va_G) (g : Nat → Nat) (n : Nat) (N : Nat → Fin 7) (O : Nat → Bool) (k : Bool) (B C : Nat → Nat) (hB : k = true → ∀ i, i < 2401 → B i = brk N n i) (x : Int32) (v : Bool) (h1 : noE n x = true) : Met l yX1_turn (ws_ yX1_turn cX1_turn 4 (some .int)) ({ frames := 4, cells := 0, slots := 0, locals := 160 }) (va_Pc [.ref (g 0), .int x, .int (bI v)] (MI E g n N O k B C)) (qM (some (.int (-1))) (MA E g n N O) (mA g)) 0 0 (mA g) := by
  refine m_ofH l (by decide) (Nat.le_of_ble_eq_true rfl) (fun p e s m below meth c ls H locs hHe hS0 S0 hr hk _ hI0 hl => ?_)
  have S : MC p m c cX1_turn 4 s _ E g := ⟨S0, hI0.2.1, hI0.2.2⟩
  have hx := S0.1
  have hb := S0.2.1
  have hX : MH E g s.heap n N O k B C H locs := ⟨by rw [hHe]; exact hI0.1, hS0 _⟩
  clear hHe hS0
  replace hl : lv_has ls 4 [(0, .ref (g 0)), (1, .int x), (2, .int (bI v))] := hl
  refine lv_aload_n hx hb dX1_turn_0 rfl (lv_at hl 0 rfl) ?_
  refine lv_iload_n hx hb dX1_turn_1 rfl (lv_at hl 1 rfl) ?_
  refine m_callR 1 (rest := []) (metX1_bad l E g n N O k B C x) S hX.1 (lw_V q193 q195 qs12 q21 q196) rfl rfl (by decide +kernel) ⟨Nat.le_of_ble_eq_true rfl, Nat.le_of_ble_eq_true rfl⟩ rfl hl.1 rfl (Nat.le_of_ble_eq_true rfl) ⟨Nat.zero_le _, Nat.zero_le _⟩ dX1_turn_2 ?_
  refine b_if_eq (v := (noE n x)) hx hb (tgt := 10) dX1_turn_5 (by decide) (fun d1 => absurd d1 (by rw [h1]; decide)) (fun d2 => ?_)
  refine lv_iconst (v := (-1)) hx hb dX1_turn_8 (by decide) ?_
  exact f_retI rfl (fun t ht hW => ⟨_, _, _, hB, MH.to S hX.1 ht hW⟩) hX.2 hx hb hr hk dX1_turn_9
set_option maxHeartbeats 4000000 in
/-- turn -/
theorem metX1_turn (l : Launch) (E : va_G) (g : Nat → Nat) (n : Nat) (N : Nat → Fin 7) (O : Nat → Bool) (k : Bool) (B C : Nat → Nat) (hB : k = true → ∀ i, i < 2401 → B i = brk N n i) (i : Nat) (v : Bool) (hn : n ≤ 6) (hi : i < n) : Met l yX1_turn (ws_ yX1_turn cX1_turn 4 (some .int)) ({ frames := 4, cells := 0, slots := 0, locals := 160 }) (va_Pc [.ref (g 0), .int (nI i), .int (bI v)] (MI E g n N O k B C)) (qM (some (.int (bI (O i)))) (MA E g n N (va_up O i v)) (mA g)) 0 0 (mA g) := by
  refine m_ofH l (by decide) (Nat.le_of_ble_eq_true rfl) (fun p e s m below meth c ls H locs hHe hS0 S0 hr hk _ hI0 hl => ?_)
  have S : MC p m c cX1_turn 4 s _ E g := ⟨S0, hI0.2.1, hI0.2.2⟩
  have hx := S0.1
  have hb := S0.2.1
  have hX : MH E g s.heap n N O k B C H locs := ⟨by rw [hHe]; exact hI0.1, hS0 _⟩
  clear hHe hS0
  replace hl : lv_has ls 4 [(0, .ref (g 0)), (1, .int (nI i)), (2, .int (bI v))] := hl
  refine lv_aload_n hx hb dX1_turn_0 rfl (lv_at hl 0 rfl) ?_
  refine lv_iload_n hx hb dX1_turn_1 rfl (lv_at hl 1 rfl) ?_
  refine m_callR 1 (rest := []) (metX1_bad l E g n N O k B C (nI i)) S hX.1 (lw_V q193 q195 qs12 q21 q196) rfl rfl (by decide +kernel) ⟨Nat.le_of_ble_eq_true rfl, Nat.le_of_ble_eq_true rfl⟩ rfl hl.1 rfl (Nat.le_of_ble_eq_true rfl) ⟨Nat.zero_le _, Nat.zero_le _⟩ dX1_turn_2 ?_
  refine b_if_eq (v := (noE n (nI i))) hx hb (tgt := 10) dX1_turn_5 (by decide) (fun d1 => ?_) (fun d2 => absurd d2 (by rw [noE_nI hn hi]; decide))
  refine lv_aload_n hx hb dX1_turn_10 rfl (lv_at hl 0 rfl) ?_
  refine m_get2 S hX.1 dX1_turn_11 ?_
  refine lv_iload_n hx hb dX1_turn_14 rfl (lv_at hl 1 rfl) ?_
  refine m_ldO i (by omega) S hX.1 dX1_turn_15 ?_
  refine b_if_eq (v := (O i)) hx hb (tgt := 23) dX1_turn_16 (by decide) (fun c1 => ?_) (fun c2 => ?_)
  · refine lv_iconst (v := nI 0) hx hb dX1_turn_23 (by decide) ?_
    refine lv_topE (y := bI (O i)) (by rw [c1]; decide) ?_
    refine lv_istore_n (lv' := [(3, .int (bI (O i))), (0, .ref (g 0)), (1, .int (nI i)), (2, .int (bI v))]) hx hb dX1_turn_24 rfl hl (by decide) rfl (fun ls hl => ?_)
    refine lv_aload_n hx hb dX1_turn_25 rfl (lv_at hl 1 rfl) ?_
    refine m_get2 S hX.1 dX1_turn_26 ?_
    refine lv_iload_n hx hb dX1_turn_29 rfl (lv_at hl 2 rfl) ?_
    refine lv_iload_n hx hb dX1_turn_30 rfl (lv_at hl 3 rfl) ?_
    refine m_stO i (by omega) v (va_up O i v) (fun _ _ => rfl) S hX dX1_turn_31 (fun H locs hX => ?_)
    refine lv_iload_n hx hb dX1_turn_32 rfl (lv_at hl 0 rfl) ?_
    exact f_retI rfl (fun t ht hW => ⟨_, _, _, hB, MH.to S hX.1 ht hW⟩) hX.2 hx hb hr hk dX1_turn_33
  · refine lv_iconst (v := nI 1) hx hb dX1_turn_19 (by decide) ?_
    refine lv_goto (tgt := 24) hx hb dX1_turn_20 (by decide) ?_
    refine lv_topE (y := bI (O i)) (by rw [c2]; decide) ?_
    refine lv_istore_n (lv' := [(3, .int (bI (O i))), (0, .ref (g 0)), (1, .int (nI i)), (2, .int (bI v))]) hx hb dX1_turn_24 rfl hl (by decide) rfl (fun ls hl => ?_)
    refine lv_aload_n hx hb dX1_turn_25 rfl (lv_at hl 1 rfl) ?_
    refine m_get2 S hX.1 dX1_turn_26 ?_
    refine lv_iload_n hx hb dX1_turn_29 rfl (lv_at hl 2 rfl) ?_
    refine lv_iload_n hx hb dX1_turn_30 rfl (lv_at hl 3 rfl) ?_
    refine m_stO i (by omega) v (va_up O i v) (fun _ _ => rfl) S hX dX1_turn_31 (fun H locs hX => ?_)
    refine lv_iload_n hx hb dX1_turn_32 rfl (lv_at hl 0 rfl) ?_
    exact f_retI rfl (fun t ht hW => ⟨_, _, _, hB, MH.to S hX.1 ht hW⟩) hX.2 hx hb hr hk dX1_turn_33
set_option maxHeartbeats 4000000 in
/-- drop: none -/
theorem metX1_drop_none (l : Launch) (E : va_G) (g : Nat → Nat) (n : Nat) (N : Nat → Fin 7) (O : Nat → Bool) (k : Bool) (B C : Nat → Nat) (hB : k = true → ∀ i, i < 2401 → B i = brk N n i) (hn : n = 0) : Met l yX1_drop (ws_ yX1_drop cX1_drop 1 (some .int)) ({ frames := 4, cells := 0, slots := 0, locals := 160 }) (va_Pc [.ref (g 0)] (MI E g n N O k B C)) (qM (some (.int (-1))) (MA E g n N O) (mA g)) 0 0 (mA g) := by
  refine m_ofH l (by decide) (Nat.le_of_ble_eq_true rfl) (fun p e s m below meth c ls H locs hHe hS0 S0 hr hk _ hI0 hl => ?_)
  have S : MC p m c cX1_drop 1 s _ E g := ⟨S0, hI0.2.1, hI0.2.2⟩
  have hx := S0.1
  have hb := S0.2.1
  have hX : MH E g s.heap n N O k B C H locs := ⟨by rw [hHe]; exact hI0.1, hS0 _⟩
  clear hHe hS0
  replace hl : lv_has ls 1 [(0, .ref (g 0))] := hl
  refine lv_aload_n hx hb dX1_drop_0 rfl (lv_at hl 0 rfl) ?_
  refine m_get0 S hX.1 dX1_drop_1 ?_
  refine n_if_ne (a := n) (by omega) hx hb (tgt := 9) dX1_drop_4 (by decide) (fun d1 => absurd d1 (by rw [hn]; exact fun h => h rfl)) (fun d2 => ?_)
  refine lv_iconst (v := (-1)) hx hb dX1_drop_7 (by decide) ?_
  exact f_retI rfl (fun t ht hW => ⟨_, _, _, hB, MH.to S hX.1 ht hW⟩) hX.2 hx hb hr hk dX1_drop_8
set_option maxHeartbeats 4000000 in
/-- drop -/
theorem metX1_drop (l : Launch) (E : va_G) (g : Nat → Nat) (n : Nat) (N : Nat → Fin 7) (O : Nat → Bool) (k : Bool) (B C : Nat → Nat) (j : Nat) (hn : n = j + 1) (hj : j < 6) : Met l yX1_drop (ws_ yX1_drop cX1_drop 1 (some .int)) ({ frames := 4, cells := 0, slots := 0, locals := 160 }) (va_Pc [.ref (g 0)] (MI E g n N O k B C)) (qM (some (.int (nI j))) (MA E g j N O) (mA g)) 0 0 (mA g) := by
  refine m_ofH l (by decide) (Nat.le_of_ble_eq_true rfl) (fun p e s m below meth c ls H locs hHe hS0 S0 hr hk _ hI0 hl => ?_)
  have S : MC p m c cX1_drop 1 s _ E g := ⟨S0, hI0.2.1, hI0.2.2⟩
  have hx := S0.1
  have hb := S0.2.1
  have hX : MH E g s.heap n N O k B C H locs := ⟨by rw [hHe]; exact hI0.1, hS0 _⟩
  clear hHe hS0
  replace hl : lv_has ls 1 [(0, .ref (g 0))] := hl
  subst hn
  refine lv_aload_n hx hb dX1_drop_0 rfl (lv_at hl 0 rfl) ?_
  refine m_get0 S hX.1 dX1_drop_1 ?_
  refine n_if_ne (a := (j + 1)) (by omega) hx hb (tgt := 9) dX1_drop_4 (by decide) (fun d1 => ?_) (fun d2 => absurd d2 (Nat.succ_ne_zero j))
  refine lv_aload_n hx hb dX1_drop_9 rfl (lv_at hl 0 rfl) ?_
  refine lv_aload_n hx hb dX1_drop_10 rfl (lv_at hl 0 rfl) ?_
  refine m_get0 S hX.1 dX1_drop_11 ?_
  refine lv_iconst (v := nI 1) hx hb dX1_drop_14 (by decide) ?_
  refine lv_isub hx hb dX1_drop_15 ?_
  refine lv_topE (y := nI j) (nI_pred j) ?_
  refine m_put0 j S hX dX1_drop_16 (fun H locs hX => ?_)
  refine lv_aload_n hx hb dX1_drop_19 rfl (lv_at hl 0 rfl) ?_
  refine lv_iconst (v := nI 0) hx hb dX1_drop_20 (by decide) ?_
  refine lv_topE (y := bI false) (by decide) ?_
  refine m_put3 false S hX dX1_drop_21 (fun H locs hX => ?_)
  refine lv_aload_n hx hb dX1_drop_24 rfl (lv_at hl 0 rfl) ?_
  refine m_get0 S hX.1 dX1_drop_25 ?_
  exact f_retI rfl (fun t ht hW => ⟨false, _, _, (fun h => absurd h (by decide)), MH.to S hX.1 ht hW⟩) hX.2 hx hb hr hk dX1_drop_28
set_option maxHeartbeats 4000000 in
/-- value(x, y) -/
theorem metX1_value (l : Launch) (E : va_G) (g : Nat → Nat) (n : Nat) (N : Nat → Fin 7) (O : Nat → Bool) (k : Bool) (B C : Nat → Nat) (hn : n ≤ 6) (hB : k = true → ∀ i, i < 2401 → B i = brk N n i) (x y : Int32) : Met l yX1_value (ws_ yX1_value cX1_value 6 (some .int)) ({ frames := 4, cells := 0, slots := 0, locals := 160 }) (va_Pc [.ref (g 0), .int x, .int y] (MI E g n N O k B C)) (qM (some (.int (mVal (sol N O n) x y))) (MA E g n N O) (mA g)) 0 0 (mA g) := by
  refine m_ofH l (by decide) (Nat.le_of_ble_eq_true rfl) (fun p e s m below meth c ls H locs hHe hS0 S0 hr hk _ hI0 hl => ?_)
  have S : MC p m c cX1_value 6 s _ E g := ⟨S0, hI0.2.1, hI0.2.2⟩
  have hx := S0.1
  have hb := S0.2.1
  have hX : MH E g s.heap n N O k B C H locs := ⟨by rw [hHe]; exact hI0.1, hS0 _⟩
  clear hHe hS0
  replace hl : lv_has ls 6 [(0, .ref (g 0)), (1, .int x), (2, .int y)] := hl
  refine lv_iload_n hx hb dX1_value_0 rfl (lv_at hl 2 rfl) ?_
  refine lv_if_lt hx hb (tgt := 9) dX1_value_1 (by decide) (fun c1 => ?_) (fun c2 => ?_)
  · refine lv_bipush (v := (-4)) hx hb dX1_value_9 (by decide) ?_
    exact f_retI (by rw [mVal, if_pos (Or.inl c1)]) (fun t ht hW => ⟨_, _, _, hB, MH.to S hX.1 ht hW⟩) hX.2 hx hb hr hk dX1_value_11
  · refine lv_iload_n hx hb dX1_value_4 rfl (lv_at hl 2 rfl) ?_
    refine lv_iconst (v := nI 3) hx hb dX1_value_5 (by decide) ?_
    refine lv_icmp_le hx hb (tgt := 12) dX1_value_6 (by decide) (fun c3 => ?_) (fun c4 => ?_)
    · obtain ⟨u, hu, rfl⟩ := nI_case3 c2 (Int32.not_lt.mpr c3)
      have hv : mVal (sol N O n) x (nI u) = mvF (sol N O n) x u 2401 0 := by rw [mVal, if_neg (fun h => h.elim c2 (Int32.not_lt.mpr c3)), nI_clamp (by omega)]
      refine lv_aload_n hx hb dX1_value_12 rfl (lv_at hl 0 rfl) ?_
      refine m_callM 0 (rest := []) (metX1_workOut l E g n N O k B C hn hB) S hX (lw_V q213 q215 qs14 q21 q216) rfl rfl (by decide +kernel) ⟨Nat.le_of_ble_eq_true rfl, Nat.le_of_ble_eq_true rfl⟩ rfl hl.1 rfl (Nat.le_of_ble_eq_true rfl) ⟨Nat.zero_le _, Nat.zero_le _⟩ dX1_value_13 (fun H locs hX => ?_)
      refine W.eq (g2 := F0 m 16 ls []) rfl ?_
      refine lv_aload_n hx hb dX1_value_16 rfl (lv_at hl 0 rfl) ?_
      refine m_callR 0 (rest := []) (metX1_ons l E g n N O true (brk N n) C hn) S hX.1 (lw_V q221 q223 qs16 q21 q224) rfl rfl (by decide +kernel) ⟨Nat.le_of_ble_eq_true rfl, Nat.le_of_ble_eq_true rfl⟩ rfl hl.1 rfl (Nat.le_of_ble_eq_true rfl) ⟨Nat.zero_le _, Nat.zero_le _⟩ dX1_value_17 ?_
      have ha64 := onM_64 O hn
      refine lv_istore_n (lv' := [(3, .int (nI (onM O n))), (0, .ref (g 0)), (1, .int x), (2, .int (nI u))]) hx hb dX1_value_20 rfl hl (by decide) rfl (fun ls hl => ?_)
      refine lv_iconst (v := nI 0) hx hb dX1_value_21 (by decide) ?_
      refine lv_istore (lv' := [(4, .int (nI 0)), (3, .int (nI (onM O n))), (0, .ref (g 0)), (1, .int x), (2, .int (nI u))]) hx hb dX1_value_22 hl (by decide) rfl (fun ls hl => ?_)
      refine lv_iconst (v := nI 0) hx hb dX1_value_24 (by decide) ?_
      refine lv_istore (lv' := [(5, .int (nI 0)), (4, .int (nI 0)), (3, .int (nI (onM O n))), (0, .ref (g 0)), (1, .int x), (2, .int (nI u))]) hx hb dX1_value_25 hl (by decide) rfl (fun ls hl => ?_)
      revert ls
      revert H locs
      refine lp_H (I := fun i H locs ls => MH E g s.heap n N O true (brk N n) C H locs ∧ lv_has ls 6 [(0, .ref (g 0)), (1, .int x), (2, .int (nI u)), (3, .int (nI (onM O n))), (4, .int (nI (ctN (sol N O n) i))), (5, .int (nI i))] ∧ mvF (sol N O n) x u (2401 - i) i = mVal (sol N O n) x (nI u)) 2401 (fun i hi ih H locs ls hI => ?_) (fun H locs ls hI => ?_) 0 (by omega) (fun H locs ls hX hl => ⟨hX, lv_sub hl [3, 4, 5, 2, 1, 0] rfl, hv.symm⟩)
      · obtain ⟨hX, hl, hE0⟩ := hI
        have hand : brk N n i &&& onM O n < 2147483648 := Nat.lt_of_le_of_lt Nat.and_le_right (by omega)
        rw [show 2401 - i = (2401 - (i + 1)) + 1 by omega, mvF] at hE0
        refine lv_iload hx hb dX1_value_27 (lv_at hl 5 rfl) ?_
        refine lv_sipush (v := nI 2401) hx hb dX1_value_29 (by decide) ?_
        refine n_ge (a := i) (b := 2401) (by omega) (by omega) hx hb (tgt := 70) dX1_value_32 (by decide) (fun d1 => absurd d1 (by omega)) (fun d2 => ?_)
        refine lv_aload_n hx hb dX1_value_35 rfl (lv_at hl 0 rfl) ?_
        refine m_get4 S hX.1 dX1_value_36 ?_
        refine lv_iload hx hb dX1_value_39 (lv_at hl 5 rfl) ?_
        refine m_ldB i (by omega) S hX.1 dX1_value_41 ?_
        refine lv_iload_n hx hb dX1_value_42 rfl (lv_at hl 3 rfl) ?_
        refine lv_iand hx hb dX1_value_43 ?_
        refine lv_topE (y := nI (brk N n i &&& onM O n)) (nb_and _ _) ?_
        refine n_if_ne (a := (brk N n i &&& onM O n)) (by omega) hx hb (tgt := 64) dX1_value_44 (by decide) (fun c5 => ?_) (fun c6 => ?_)
        · rw [if_neg (fun h => sol_f c5 h.1)] at hE0
          replace hl : lv_has ls 6 [(0, .ref (g 0)), (1, .int x), (2, .int (nI u)), (3, .int (nI (onM O n))), (4, .int (nI (ctN (sol N O n) (i + 1)))), (5, .int (nI i))] := by rw [show nI (ctN (sol N O n) (i + 1)) = nI (ctN (sol N O n) i) from by rw [ctN, if_neg (sol_f c5)]]; exact hl
          refine lv_iinc (v := nI (i + 1)) (lv' := [(5, .int (nI (i + 1))), (0, .ref (g 0)), (1, .int x), (2, .int (nI u)), (3, .int (nI (onM O n))), (4, .int (nI (ctN (sol N O n) (i + 1))))]) hx hb dX1_value_64 hl (k := 5) rfl (nI_add i 1) (by decide) rfl (fun ls hl => ?_)
          refine lv_goto (tgt := 27) hx hb dX1_value_67 (by decide) ?_
          exact ih H locs ls ⟨hX, lv_sub hl [1, 2, 3, 4, 5, 0] rfl, hE0⟩
        · refine lv_iload hx hb dX1_value_47 (lv_at hl 4 rfl) ?_
          refine lv_iload_n hx hb dX1_value_49 rfl (lv_at hl 1 rfl) ?_
          refine lv_icmp_ne hx hb (tgt := 61) dX1_value_50 (by decide) (fun c7 => ?_) (fun c8 => ?_)
          · rw [if_neg (fun h => c7 h.2)] at hE0
            refine lv_iinc (v := nI ((ctN (sol N O n) i) + 1)) (lv' := [(4, .int (nI ((ctN (sol N O n) i) + 1))), (0, .ref (g 0)), (1, .int x), (2, .int (nI u)), (3, .int (nI (onM O n))), (5, .int (nI i))]) hx hb dX1_value_61 hl (k := 4) rfl (nI_add (ctN (sol N O n) i) 1) (by decide) rfl (fun ls hl => ?_)
            replace hl : lv_has ls 6 [(4, .int (nI (ctN (sol N O n) (i + 1)))), (0, .ref (g 0)), (1, .int x), (2, .int (nI u)), (3, .int (nI (onM O n))), (5, .int (nI i))] := by rw [show nI (ctN (sol N O n) (i + 1)) = nI ((ctN (sol N O n) i) + 1) from by rw [ctN, if_pos (sol_t c6)]]; exact hl
            refine lv_iinc (v := nI (i + 1)) (lv' := [(5, .int (nI (i + 1))), (4, .int (nI (ctN (sol N O n) (i + 1)))), (0, .ref (g 0)), (1, .int x), (2, .int (nI u)), (3, .int (nI (onM O n)))]) hx hb dX1_value_64 hl (k := 5) rfl (nI_add i 1) (by decide) rfl (fun ls hl => ?_)
            refine lv_goto (tgt := 27) hx hb dX1_value_67 (by decide) ?_
            exact ih H locs ls ⟨hX, lv_sub hl [2, 3, 4, 5, 1, 0] rfl, hE0⟩
          · rw [if_pos ⟨sol_t c6, c8⟩] at hE0
            refine lv_aload_n hx hb dX1_value_53 rfl (lv_at hl 0 rfl) ?_
            refine lv_iload hx hb dX1_value_54 (lv_at hl 5 rfl) ?_
            refine lv_iload_n hx hb dX1_value_56 rfl (lv_at hl 2 rfl) ?_
            refine m_callR 2 (rest := []) (metX1_digit l E g n N O true (brk N n) C i u hi hu) S hX.1 (lw_V q229 q231 qs17 q21 q232) rfl rfl (by decide +kernel) ⟨Nat.le_of_ble_eq_true rfl, Nat.le_of_ble_eq_true rfl⟩ rfl hl.1 rfl (Nat.le_of_ble_eq_true rfl) ⟨Nat.zero_le _, Nat.zero_le _⟩ dX1_value_57 ?_
            exact f_retI hE0 (fun t ht hW => ⟨_, _, _, fun _ _ _ => rfl, MH.to S hX.1 ht hW⟩) hX.2 hx hb hr hk dX1_value_60
      · obtain ⟨hX, hl, hE0⟩ := hI
        refine lv_iload hx hb dX1_value_27 (lv_at hl 5 rfl) ?_
        refine lv_sipush (v := nI 2401) hx hb dX1_value_29 (by decide) ?_
        refine n_ge (a := 2401) (b := 2401) (by omega) (by omega) hx hb (tgt := 70) dX1_value_32 (by decide) (fun d1 => ?_) (fun d2 => absurd d2 (by omega))
        refine lv_bipush (v := (-4)) hx hb dX1_value_70 (by decide) ?_
        exact f_retI hE0 (fun t ht hW => ⟨_, _, _, fun _ _ _ => rfl, MH.to S hX.1 ht hW⟩) hX.2 hx hb hr hk dX1_value_72
    · refine lv_bipush (v := (-4)) hx hb dX1_value_9 (by decide) ?_
      exact f_retI (by rw [mVal, if_pos (Or.inr (Int32.not_le.mp c4))]) (fun t ht hW => ⟨_, _, _, hB, MH.to S hX.1 ht hW⟩) hX.2 hx hb hr hk dX1_value_11
set_option maxHeartbeats 4000000 in
/-- possible(y) -/
theorem metX1_possible (l : Launch) (E : va_G) (g : Nat → Nat) (n : Nat) (N : Nat → Fin 7) (O : Nat → Bool) (k : Bool) (B C : Nat → Nat) (hn : n ≤ 6) (hB : k = true → ∀ i, i < 2401 → B i = brk N n i) (y : Int32) : Met l yX1_possible (ws_ yX1_possible cX1_possible 5 (some .int)) ({ frames := 3, cells := 0, slots := 0, locals := 120 }) (va_Pc [.ref (g 0), .int y] (MI E g n N O k B C)) (qM (some (.int (mPos (sol N O n) y))) (MA E g n N O) (mA g)) 0 0 (mA g) := by
  refine m_ofH l (by decide) (Nat.le_of_ble_eq_true rfl) (fun p e s m below meth c ls H locs hHe hS0 S0 hr hk _ hI0 hl => ?_)
  have S : MC p m c cX1_possible 5 s _ E g := ⟨S0, hI0.2.1, hI0.2.2⟩
  have hx := S0.1
  have hb := S0.2.1
  have hX : MH E g s.heap n N O k B C H locs := ⟨by rw [hHe]; exact hI0.1, hS0 _⟩
  clear hHe hS0
  replace hl : lv_has ls 5 [(0, .ref (g 0)), (1, .int y)] := hl
  refine lv_iload_n hx hb dX1_possible_0 rfl (lv_at hl 1 rfl) ?_
  refine lv_if_lt hx hb (tgt := 9) dX1_possible_1 (by decide) (fun c1 => ?_) (fun c2 => ?_)
  · refine lv_iconst (v := nI 0) hx hb dX1_possible_9 (by decide) ?_
    exact f_retI (by rw [mPos, if_pos (Or.inl c1)]; rfl) (fun t ht hW => ⟨_, _, _, hB, MH.to S hX.1 ht hW⟩) hX.2 hx hb hr hk dX1_possible_10
  · refine lv_iload_n hx hb dX1_possible_4 rfl (lv_at hl 1 rfl) ?_
    refine lv_iconst (v := nI 3) hx hb dX1_possible_5 (by decide) ?_
    refine lv_icmp_le hx hb (tgt := 11) dX1_possible_6 (by decide) (fun c3 => ?_) (fun c4 => ?_)
    · obtain ⟨u, hu, rfl⟩ := nI_case3 c2 (Int32.not_lt.mpr c3)
      have hv : mPos (sol N O n) (nI u) = nI (mpN (sol N O n) u 2401) := by rw [mPos, if_neg (fun h => h.elim c2 (Int32.not_lt.mpr c3)), nI_clamp (by omega)]
      refine lv_aload_n hx hb dX1_possible_11 rfl (lv_at hl 0 rfl) ?_
      refine m_callM 0 (rest := []) (metX1_workOut l E g n N O k B C hn hB) S hX (lw_V q213 q215 qs14 q21 q216) rfl rfl (by decide +kernel) ⟨Nat.le_of_ble_eq_true rfl, Nat.le_of_ble_eq_true rfl⟩ rfl hl.1 rfl (Nat.le_of_ble_eq_true rfl) ⟨Nat.zero_le _, Nat.zero_le _⟩ dX1_possible_12 (fun H locs hX => ?_)
      refine W.eq (g2 := F0 m 15 ls []) rfl ?_
      refine lv_aload_n hx hb dX1_possible_15 rfl (lv_at hl 0 rfl) ?_
      refine m_callR 0 (rest := []) (metX1_ons l E g n N O true (brk N n) C hn) S hX.1 (lw_V q221 q223 qs16 q21 q224) rfl rfl (by decide +kernel) ⟨Nat.le_of_ble_eq_true rfl, Nat.le_of_ble_eq_true rfl⟩ rfl hl.1 rfl (Nat.le_of_ble_eq_true rfl) ⟨Nat.zero_le _, Nat.zero_le _⟩ dX1_possible_16 ?_
      have ha64 := onM_64 O hn
      refine lv_istore_n (lv' := [(2, .int (nI (onM O n))), (0, .ref (g 0)), (1, .int (nI u))]) hx hb dX1_possible_19 rfl hl (by decide) rfl (fun ls hl => ?_)
      refine lv_iconst (v := nI 0) hx hb dX1_possible_20 (by decide) ?_
      refine lv_istore_n (lv' := [(3, .int (nI 0)), (2, .int (nI (onM O n))), (0, .ref (g 0)), (1, .int (nI u))]) hx hb dX1_possible_21 rfl hl (by decide) rfl (fun ls hl => ?_)
      refine lv_iconst (v := nI 0) hx hb dX1_possible_22 (by decide) ?_
      refine lv_istore (lv' := [(4, .int (nI 0)), (3, .int (nI 0)), (2, .int (nI (onM O n))), (0, .ref (g 0)), (1, .int (nI u))]) hx hb dX1_possible_23 hl (by decide) rfl (fun ls hl => ?_)
      revert ls
      revert H locs
      refine lp_H (I := fun i H locs ls => MH E g s.heap n N O true (brk N n) C H locs ∧ lv_has ls 5 [(0, .ref (g 0)), (1, .int (nI u)), (2, .int (nI (onM O n))), (3, .int (nI (mpN (sol N O n) u i))), (4, .int (nI i))]) 2401 (fun i hi ih H locs ls hI => ?_) (fun H locs ls hI => ?_) 0 (by omega) (fun H locs ls hX hl => ⟨hX, lv_sub hl [3, 4, 2, 1, 0] rfl⟩)
      · obtain ⟨hX, hl⟩ := hI
        have hand : brk N n i &&& onM O n < 2147483648 := Nat.lt_of_le_of_lt Nat.and_le_right (by omega)
        have hd7 : dgt i u < 7 := dgt_lt hi
        refine lv_iload hx hb dX1_possible_25 (lv_at hl 4 rfl) ?_
        refine lv_sipush (v := nI 2401) hx hb dX1_possible_27 (by decide) ?_
        refine n_ge (a := i) (b := 2401) (by omega) (by omega) hx hb (tgt := 63) dX1_possible_30 (by decide) (fun d1 => absurd d1 (by omega)) (fun d2 => ?_)
        refine lv_aload_n hx hb dX1_possible_33 rfl (lv_at hl 0 rfl) ?_
        refine m_get4 S hX.1 dX1_possible_34 ?_
        refine lv_iload hx hb dX1_possible_37 (lv_at hl 4 rfl) ?_
        refine m_ldB i (by omega) S hX.1 dX1_possible_39 ?_
        refine lv_iload_n hx hb dX1_possible_40 rfl (lv_at hl 2 rfl) ?_
        refine lv_iand hx hb dX1_possible_41 ?_
        refine lv_topE (y := nI (brk N n i &&& onM O n)) (nb_and _ _) ?_
        refine n_if_ne (a := (brk N n i &&& onM O n)) (by omega) hx hb (tgt := 57) dX1_possible_42 (by decide) (fun c5 => ?_) (fun c6 => ?_)
        · replace hl : lv_has ls 5 [(0, .ref (g 0)), (1, .int (nI u)), (2, .int (nI (onM O n))), (3, .int (nI (mpN (sol N O n) u (i + 1)))), (4, .int (nI i))] := by rw [show nI (mpN (sol N O n) u (i + 1)) = nI (mpN (sol N O n) u i) from by rw [mpN, if_neg (sol_f c5)]]; exact hl
          refine lv_iinc (v := nI (i + 1)) (lv' := [(4, .int (nI (i + 1))), (0, .ref (g 0)), (1, .int (nI u)), (2, .int (nI (onM O n))), (3, .int (nI (mpN (sol N O n) u (i + 1))))]) hx hb dX1_possible_57 hl (k := 4) rfl (nI_add i 1) (by decide) rfl (fun ls hl => ?_)
          refine lv_goto (tgt := 25) hx hb dX1_possible_60 (by decide) ?_
          exact ih H locs ls ⟨hX, lv_sub hl [1, 2, 3, 4, 0] rfl⟩
        · refine lv_iload_n hx hb dX1_possible_45 rfl (lv_at hl 3 rfl) ?_
          refine lv_iconst (v := nI 1) hx hb dX1_possible_46 (by decide) ?_
          refine lv_aload_n hx hb dX1_possible_47 rfl (lv_at hl 0 rfl) ?_
          refine lv_iload hx hb dX1_possible_48 (lv_at hl 4 rfl) ?_
          refine lv_iload_n hx hb dX1_possible_50 rfl (lv_at hl 1 rfl) ?_
          refine m_callR 2 (rest := [.int (nI 1), .int (nI (mpN (sol N O n) u i))]) (metX1_digit l E g n N O true (brk N n) C i u hi hu) S hX.1 (lw_V q229 q231 qs17 q21 q232) rfl rfl (by decide +kernel) ⟨Nat.le_of_ble_eq_true rfl, Nat.le_of_ble_eq_true rfl⟩ rfl hl.1 rfl (Nat.le_of_ble_eq_true rfl) ⟨Nat.zero_le _, Nat.zero_le _⟩ dX1_possible_51 ?_
          refine lv_ishl hx hb dX1_possible_54 ?_
          refine lv_ior hx hb dX1_possible_55 ?_
          refine lv_topE (y := nI (mpN (sol N O n) u (i + 1))) (by rw [nb_set (by omega), mpN, if_pos (sol_t c6)]) ?_
          refine lv_istore_n (lv' := [(3, .int (nI (mpN (sol N O n) u (i + 1)))), (0, .ref (g 0)), (1, .int (nI u)), (2, .int (nI (onM O n))), (4, .int (nI i))]) hx hb dX1_possible_56 rfl hl (by decide) rfl (fun ls hl => ?_)
          refine lv_iinc (v := nI (i + 1)) (lv' := [(4, .int (nI (i + 1))), (3, .int (nI (mpN (sol N O n) u (i + 1)))), (0, .ref (g 0)), (1, .int (nI u)), (2, .int (nI (onM O n)))]) hx hb dX1_possible_57 hl (k := 4) rfl (nI_add i 1) (by decide) rfl (fun ls hl => ?_)
          refine lv_goto (tgt := 25) hx hb dX1_possible_60 (by decide) ?_
          exact ih H locs ls ⟨hX, lv_sub hl [2, 3, 4, 1, 0] rfl⟩
      · obtain ⟨hX, hl⟩ := hI
        refine lv_iload hx hb dX1_possible_25 (lv_at hl 4 rfl) ?_
        refine lv_sipush (v := nI 2401) hx hb dX1_possible_27 (by decide) ?_
        refine n_ge (a := 2401) (b := 2401) (by omega) (by omega) hx hb (tgt := 63) dX1_possible_30 (by decide) (fun d1 => ?_) (fun d2 => absurd d2 (by omega))
        refine lv_iload_n hx hb dX1_possible_63 rfl (lv_at hl 3 rfl) ?_
        exact f_retI hv.symm (fun t ht hW => ⟨_, _, _, fun _ _ _ => rfl, MH.to S hX.1 ht hW⟩) hX.2 hx hb hr hk dX1_possible_64
    · refine lv_iconst (v := nI 0) hx hb dX1_possible_9 (by decide) ?_
      exact f_retI (by rw [mPos, if_pos (Or.inr (Int32.not_le.mp c4))]; rfl) (fun t ht hW => ⟨_, _, _, hB, MH.to S hX.1 ht hW⟩) hX.2 hx hb hr hk dX1_possible_10
end
section
set_option maxRecDepth 100000
set_option maxHeartbeats 4000000 in
/-- fixed(y) -/
theorem metX1_fixed (l : Launch) (E : va_G) (g : Nat → Nat) (n : Nat) (N : Nat → Fin 7) (O : Nat → Bool) (k : Bool) (B C : Nat → Nat) (hn : n ≤ 6) (hB : k = true → ∀ i, i < 2401 → B i = brk N n i) (y : Int32) : Met l yX1_fixed (ws_ yX1_fixed cX1_fixed 4 (some .boolean)) ({ frames := 4, cells := 0, slots := 0, locals := 160 }) (va_Pc [.ref (g 0), .int y] (MI E g n N O k B C)) (qM (some (.int (bI (fxN (mPos (sol N O n) y) 7)))) (MA E g n N O) (mA g)) 0 0 (mA g) := by
  refine m_ofH l (by decide) (Nat.le_of_ble_eq_true rfl) (fun p e s m below meth c ls H locs hHe hS0 S0 hr hk _ hI0 hl => ?_)
  have S : MC p m c cX1_fixed 4 s _ E g := ⟨S0, hI0.2.1, hI0.2.2⟩
  have hx := S0.1
  have hb := S0.2.1
  have hX : MH E g s.heap n N O k B C H locs := ⟨by rw [hHe]; exact hI0.1, hS0 _⟩
  clear hHe hS0
  replace hl : lv_has ls 4 [(0, .ref (g 0)), (1, .int y)] := hl
  refine lv_aload_n hx hb dX1_fixed_0 rfl (lv_at hl 0 rfl) ?_
  refine lv_iload_n hx hb dX1_fixed_1 rfl (lv_at hl 1 rfl) ?_
  refine v_callM 1 (rest := []) (metX1_possible l E g n N O k B C hn hB y) S.1 (lw_V q241 q234 q235 q21 q236) MI.bl (m_recv S hX.1) (fun U hU hW => MH.to S hX.1 hU hW) hX.2 (fun _ h => h) rfl rfl (by decide +kernel) ⟨Nat.le_of_ble_eq_true rfl, Nat.le_of_ble_eq_true rfl⟩ rfl hl.1 rfl (Nat.le_of_ble_eq_true rfl) ⟨Nat.zero_le _, Nat.zero_le _⟩ dX1_fixed_2 (fun t H locs ht hvm hp hkk hS => ?_)
  obtain ⟨k, B, C, hB, hI⟩ := hp
  have hX : MH E g s.heap n N O k B C H locs := ⟨by have h1 := hI.1; rw [ht] at h1; exact h1, hS⟩
  clear hkk hS ht
  refine W.eq (g2 := F0 m 5 ls [.int (mPos (sol N O n) y)]) rfl ?_
  refine lv_istore_n (lv' := [(2, .int (mPos (sol N O n) y)), (0, .ref (g 0)), (1, .int y)]) hx hb dX1_fixed_5 rfl hl (by decide) rfl (fun ls hl => ?_)
  refine lv_iconst (v := nI 0) hx hb dX1_fixed_6 (by decide) ?_
  refine lv_istore_n (lv' := [(3, .int (nI 0)), (2, .int (mPos (sol N O n) y)), (0, .ref (g 0)), (1, .int y)]) hx hb dX1_fixed_7 rfl hl (by decide) rfl (fun ls hl => ?_)
  revert ls
  revert H locs
  refine lp_H (I := fun j H locs ls => MH E g s.heap n N O k B C H locs ∧ lv_has ls 4 [(0, .ref (g 0)), (2, .int (mPos (sol N O n) y)), (3, .int (nI j))] ∧ fxN (mPos (sol N O n) y) j = false) 7 (fun j hi ih H locs ls hI => ?_) (fun H locs ls hI => ?_) 0 (by omega) (fun H locs ls hX hl => ⟨hX, lv_sub hl [2, 1, 0] rfl, rfl⟩)
  · obtain ⟨hX, hl, hE0⟩ := hI
    refine lv_iload_n hx hb dX1_fixed_8 rfl (lv_at hl 2 rfl) ?_
    refine lv_bipush (v := nI 7) hx hb dX1_fixed_9 (by decide) ?_
    refine n_ge (a := j) (b := 7) (by omega) (by omega) hx hb (tgt := 29) dX1_fixed_11 (by decide) (fun d1 => absurd d1 (by omega)) (fun d2 => ?_)
    refine lv_iload_n hx hb dX1_fixed_14 rfl (lv_at hl 1 rfl) ?_
    refine lv_iconst (v := nI 1) hx hb dX1_fixed_15 (by decide) ?_
    refine lv_iload_n hx hb dX1_fixed_16 rfl (lv_at hl 2 rfl) ?_
    refine lv_ishl hx hb dX1_fixed_17 ?_
    refine lv_topE (y := nI (2 ^ j)) (nb_shl (by omega)) ?_
    refine lv_icmp_ne hx hb (tgt := 23) dX1_fixed_18 (by decide) (fun c1 => ?_) (fun c2 => ?_)
    · refine lv_iinc (v := nI (j + 1)) (lv' := [(3, .int (nI (j + 1))), (0, .ref (g 0)), (2, .int (mPos (sol N O n) y))]) hx hb dX1_fixed_23 hl (k := 2) rfl (nI_add j 1) (by decide) rfl (fun ls hl => ?_)
      refine lv_goto (tgt := 8) hx hb dX1_fixed_26 (by decide) ?_
      exact ih H locs ls ⟨hX, lv_sub hl [1, 2, 0] rfl, by simp [fxN, hE0, c1]⟩
    · have hv : ∀ i, fxN (mPos (sol N O n) y) (j + 1 + i) = true := fun i => by induction i with
        | zero => simp [fxN, c2]
        | succ i ih2 => rw [show j + 1 + (i + 1) = (j + 1 + i) + 1 by omega]; simp [fxN, ih2]
      refine lv_iconst (v := nI 1) hx hb dX1_fixed_21 (by decide) ?_
      refine lv_topE (y := bI true) (by decide) ?_
      exact f_retZ (by have h9 := hv (7 - (j + 1)); rw [show j + 1 + (7 - (j + 1)) = 7 by omega] at h9; exact h9.symm) (fun t ht hW => ⟨_, _, _, hB, MH.to S hX.1 ht hW⟩) hX.2 hx hb hr hk dX1_fixed_22
  · obtain ⟨hX, hl, hE0⟩ := hI
    refine lv_iload_n hx hb dX1_fixed_8 rfl (lv_at hl 2 rfl) ?_
    refine lv_bipush (v := nI 7) hx hb dX1_fixed_9 (by decide) ?_
    refine n_ge (a := 7) (b := 7) (by omega) (by omega) hx hb (tgt := 29) dX1_fixed_11 (by decide) (fun d1 => ?_) (fun d2 => absurd d2 (by omega))
    refine lv_iconst (v := nI 0) hx hb dX1_fixed_29 (by decide) ?_
    refine lv_topE (y := bI false) (by decide) ?_
    exact f_retZ hE0.symm (fun t ht hW => ⟨_, _, _, hB, MH.to S hX.1 ht hW⟩) hX.2 hx hb hr hk dX1_fixed_30
set_option maxHeartbeats 4000000 in
/-- follows(x) -/
theorem metX1_follows (l : Launch) (E : va_G) (g : Nat → Nat) (n : Nat) (N : Nat → Fin 7) (O : Nat → Bool) (k : Bool) (B C : Nat → Nat) (hn : n ≤ 6) (hB : k = true → ∀ i, i < 2401 → B i = brk N n i) (x : Int32) : Met l yX1_follows (ws_ yX1_follows cX1_follows 4 (some .boolean)) ({ frames := 4, cells := 0, slots := 0, locals := 160 }) (va_Pc [.ref (g 0), .int x] (MI E g n N O k B C)) (qM (some (.int (bI (mFol N n (sol N O n) x)))) (MA E g n N O) (mA g)) 0 0 (mA g) := by
  refine m_ofH l (by decide) (Nat.le_of_ble_eq_true rfl) (fun p e s m below meth c ls H locs hHe hS0 S0 hr hk _ hI0 hl => ?_)
  have S : MC p m c cX1_follows 4 s _ E g := ⟨S0, hI0.2.1, hI0.2.2⟩
  have hx := S0.1
  have hb := S0.2.1
  have hX : MH E g s.heap n N O k B C H locs := ⟨by rw [hHe]; exact hI0.1, hS0 _⟩
  clear hHe hS0
  replace hl : lv_has ls 4 [(0, .ref (g 0)), (1, .int x)] := hl
  refine lv_aload_n hx hb dX1_follows_0 rfl (lv_at hl 0 rfl) ?_
  refine lv_iload_n hx hb dX1_follows_1 rfl (lv_at hl 1 rfl) ?_
  refine m_callR 1 (rest := []) (metX1_bad l E g n N O k B C x) S hX.1 (lw_V q193 q195 qs12 q21 q196) rfl rfl (by decide +kernel) ⟨Nat.le_of_ble_eq_true rfl, Nat.le_of_ble_eq_true rfl⟩ rfl hl.1 rfl (Nat.le_of_ble_eq_true rfl) ⟨Nat.zero_le _, Nat.zero_le _⟩ dX1_follows_2 ?_
  refine b_if_eq (v := (noE n x)) hx hb (tgt := 10) dX1_follows_5 (by decide) (fun c1 => ?_) (fun c2 => ?_)
  · obtain ⟨q, hq, rfl⟩ := noE_no hn c1
    have hfol : mFol N n (sol N O n) (nI q) = mfN (sol N O n) (brk N n) q 2401 := by rw [mFol, if_neg (by rw [c1]; decide), nI_clamp (by omega)]
    refine lv_aload_n hx hb dX1_follows_10 rfl (lv_at hl 0 rfl) ?_
    refine m_callM 0 (rest := []) (metX1_workOut l E g n N O k B C hn hB) S hX (lw_V q213 q215 qs14 q21 q216) rfl rfl (by decide +kernel) ⟨Nat.le_of_ble_eq_true rfl, Nat.le_of_ble_eq_true rfl⟩ rfl hl.1 rfl (Nat.le_of_ble_eq_true rfl) ⟨Nat.zero_le _, Nat.zero_le _⟩ dX1_follows_11 (fun H locs hX => ?_)
    refine W.eq (g2 := F0 m 14 ls []) rfl ?_
    refine lv_aload_n hx hb dX1_follows_14 rfl (lv_at hl 0 rfl) ?_
    refine m_callR 0 (rest := []) (metX1_ons l E g n N O true (brk N n) C hn) S hX.1 (lw_V q221 q223 qs16 q21 q224) rfl rfl (by decide +kernel) ⟨Nat.le_of_ble_eq_true rfl, Nat.le_of_ble_eq_true rfl⟩ rfl hl.1 rfl (Nat.le_of_ble_eq_true rfl) ⟨Nat.zero_le _, Nat.zero_le _⟩ dX1_follows_15 ?_
    have ha64 := onM_64 O hn
    refine lv_istore_n (lv' := [(2, .int (nI (onM O n))), (0, .ref (g 0)), (1, .int (nI q))]) hx hb dX1_follows_18 rfl hl (by decide) rfl (fun ls hl => ?_)
    refine lv_iconst (v := nI 0) hx hb dX1_follows_19 (by decide) ?_
    refine lv_istore_n (lv' := [(3, .int (nI 0)), (2, .int (nI (onM O n))), (0, .ref (g 0)), (1, .int (nI q))]) hx hb dX1_follows_20 rfl hl (by decide) rfl (fun ls hl => ?_)
    revert ls
    revert H locs
    refine lp_H (I := fun i H locs ls => MH E g s.heap n N O true (brk N n) C H locs ∧ lv_has ls 4 [(0, .ref (g 0)), (1, .int (nI q)), (2, .int (nI (onM O n))), (3, .int (nI i))] ∧ mfN (sol N O n) (brk N n) q i = true) 2401 (fun i hi ih H locs ls hI => ?_) (fun H locs ls hI => ?_) 0 (by omega) (fun H locs ls hX hl => ⟨hX, lv_sub hl [2, 3, 1, 0] rfl, rfl⟩)
    · obtain ⟨hX, hl, hE0⟩ := hI
      have hand : brk N n i &&& onM O n < 2147483648 := Nat.lt_of_le_of_lt Nat.and_le_right (by omega)
      have hb64 := brk_64 N hn i
      refine lv_iload_n hx hb dX1_follows_21 rfl (lv_at hl 3 rfl) ?_
      refine lv_sipush (v := nI 2401) hx hb dX1_follows_22 (by decide) ?_
      refine n_ge (a := i) (b := 2401) (by omega) (by omega) hx hb (tgt := 61) dX1_follows_25 (by decide) (fun d1 => absurd d1 (by omega)) (fun d2 => ?_)
      refine lv_aload_n hx hb dX1_follows_28 rfl (lv_at hl 0 rfl) ?_
      refine m_get4 S hX.1 dX1_follows_29 ?_
      refine lv_iload_n hx hb dX1_follows_32 rfl (lv_at hl 3 rfl) ?_
      refine m_ldB i (by omega) S hX.1 dX1_follows_33 ?_
      refine lv_iload_n hx hb dX1_follows_34 rfl (lv_at hl 2 rfl) ?_
      refine lv_iand hx hb dX1_follows_35 ?_
      refine lv_topE (y := nI (brk N n i &&& onM O n)) (nb_and _ _) ?_
      refine n_if_ne (a := (brk N n i &&& onM O n)) (by omega) hx hb (tgt := 55) dX1_follows_36 (by decide) (fun c5 => ?_) (fun c6 => ?_)
      · refine lv_iinc (v := nI (i + 1)) (lv' := [(3, .int (nI (i + 1))), (0, .ref (g 0)), (1, .int (nI q)), (2, .int (nI (onM O n)))]) hx hb dX1_follows_55 hl (k := 3) rfl (nI_add i 1) (by decide) rfl (fun ls hl => ?_)
        refine lv_goto (tgt := 21) hx hb dX1_follows_58 (by decide) ?_
        exact ih H locs ls ⟨hX, lv_sub hl [1, 2, 3, 0] rfl, by rw [mfN, hE0, Bool.eq_false_iff.mpr (sol_f c5)]; rfl⟩
      · refine lv_aload_n hx hb dX1_follows_39 rfl (lv_at hl 0 rfl) ?_
        refine m_get4 S hX.1 dX1_follows_40 ?_
        refine lv_iload_n hx hb dX1_follows_43 rfl (lv_at hl 3 rfl) ?_
        refine m_ldB i (by omega) S hX.1 dX1_follows_44 ?_
        refine lv_iload_n hx hb dX1_follows_45 rfl (lv_at hl 1 rfl) ?_
        refine lv_ishr hx hb dX1_follows_46 ?_
        refine lv_iconst (v := nI 1) hx hb dX1_follows_47 (by decide) ?_
        refine lv_iand hx hb dX1_follows_48 ?_
        refine lv_topE (y := nI (brk N n i / 2 ^ q % 2)) (nb_bit (by omega) (by omega)) ?_
        refine lv_iconst (v := nI 1) hx hb dX1_follows_49 (by decide) ?_
        refine n_ne (a := (brk N n i / 2 ^ q % 2)) (b := 1) (Nat.lt_trans (Nat.mod_lt _ (by decide)) (by decide : 2 < 2 ^ 31)) (by omega) hx hb (tgt := 55) dX1_follows_50 (by decide) (fun c7 => ?_) (fun c8 => ?_)
        · have hbit : (brk N n i).testBit q = false := Bool.eq_false_iff.mpr (fun h => c7 ((tb_iff _ _).mpr h))
          refine lv_iinc (v := nI (i + 1)) (lv' := [(3, .int (nI (i + 1))), (0, .ref (g 0)), (1, .int (nI q)), (2, .int (nI (onM O n)))]) hx hb dX1_follows_55 hl (k := 3) rfl (nI_add i 1) (by decide) rfl (fun ls hl => ?_)
          refine lv_goto (tgt := 21) hx hb dX1_follows_58 (by decide) ?_
          exact ih H locs ls ⟨hX, lv_sub hl [1, 2, 3, 0] rfl, by rw [mfN, hE0, hbit]; simp⟩
        · have hbit : (brk N n i).testBit q = true := (tb_iff _ _).mp c8
          have hv : ∀ j, mfN (sol N O n) (brk N n) q (i + 1 + j) = false := fun j => by induction j with
            | zero => rw [Nat.add_zero, mfN, sol_t c6, hbit]; simp
            | succ j ih2 => rw [show i + 1 + (j + 1) = (i + 1 + j) + 1 by omega, mfN, ih2]; rfl
          refine lv_iconst (v := nI 0) hx hb dX1_follows_53 (by decide) ?_
          refine lv_topE (y := bI false) (by decide) ?_
          exact f_retZ (by rw [hfol]; have h9 := hv (2401 - (i + 1)); rw [show i + 1 + (2401 - (i + 1)) = 2401 by omega] at h9; exact h9.symm) (fun t ht hW => ⟨_, _, _, fun _ _ _ => rfl, MH.to S hX.1 ht hW⟩) hX.2 hx hb hr hk dX1_follows_54
    · obtain ⟨hX, hl, hE0⟩ := hI
      refine lv_iload_n hx hb dX1_follows_21 rfl (lv_at hl 3 rfl) ?_
      refine lv_sipush (v := nI 2401) hx hb dX1_follows_22 (by decide) ?_
      refine n_ge (a := 2401) (b := 2401) (by omega) (by omega) hx hb (tgt := 61) dX1_follows_25 (by decide) (fun d1 => ?_) (fun d2 => absurd d2 (by omega))
      refine lv_iconst (v := nI 1) hx hb dX1_follows_61 (by decide) ?_
      refine lv_topE (y := bI true) (by decide) ?_
      exact f_retZ (by rw [hfol]; exact hE0.symm) (fun t ht hW => ⟨_, _, _, fun _ _ _ => rfl, MH.to S hX.1 ht hW⟩) hX.2 hx hb hr hk dX1_follows_62
  · refine lv_iconst (v := nI 0) hx hb dX1_follows_8 (by decide) ?_
    refine lv_topE (y := bI false) (by decide) ?_
    exact f_retZ (by rw [mFol, if_pos c2]) (fun t ht hW => ⟨_, _, _, hB, MH.to S hX.1 ht hW⟩) hX.2 hx hb hr hk dX1_follows_9
set_option maxHeartbeats 4000000 in
/-- needed() -/
theorem metX1_needed (l : Launch) (E : va_G) (g : Nat → Nat) (n : Nat) (N : Nat → Fin 7) (O : Nat → Bool) (k : Bool) (B C : Nat → Nat) (hn : n ≤ 6) (hB : k = true → ∀ i, i < 2401 → B i = brk N n i) : Met l yX1_needed (ws_ yX1_needed cX1_needed 7 (some .int)) ({ frames := 4, cells := 0, slots := 0, locals := 160 }) (va_Pc [.ref (g 0)] (MI E g n N O k B C)) (qM (some (.int (nI (lsN (mP N n (onM O n)) (onM O n) 64)))) (MA E g n N O) (mA g)) 0 0 (mA g) := by
  refine m_ofH l (by decide) (Nat.le_of_ble_eq_true rfl) (fun p e s m below meth c ls H locs hHe hS0 S0 hr hk _ hI0 hl => ?_)
  have S : MC p m c cX1_needed 7 s _ E g := ⟨S0, hI0.2.1, hI0.2.2⟩
  have hx := S0.1
  have hb := S0.2.1
  have hX : MH E g s.heap n N O k B C H locs := ⟨by rw [hHe]; exact hI0.1, hS0 _⟩
  clear hHe hS0
  replace hl : lv_has ls 7 [(0, .ref (g 0))] := hl
  refine lv_aload_n hx hb dX1_needed_0 rfl (lv_at hl 0 rfl) ?_
  refine m_callM 0 (rest := []) (metX1_workOut l E g n N O k B C hn hB) S hX (lw_V q213 q215 qs14 q21 q216) rfl rfl (by decide +kernel) ⟨Nat.le_of_ble_eq_true rfl, Nat.le_of_ble_eq_true rfl⟩ rfl hl.1 rfl (Nat.le_of_ble_eq_true rfl) ⟨Nat.zero_le _, Nat.zero_le _⟩ dX1_needed_1 (fun H locs hX => ?_)
  refine W.eq (g2 := F0 m 4 ls []) rfl ?_
  refine lv_iconst (v := nI 0) hx hb dX1_needed_4 (by decide) ?_
  refine lv_istore_n (lv' := [(1, .int (nI 0)), (0, .ref (g 0))]) hx hb dX1_needed_5 rfl hl (by decide) rfl (fun ls hl => ?_)
  revert ls
  revert H locs
  refine lp_H (I := fun i H locs ls => MH E g s.heap n N O true (brk N n) (fun j => if j < i then 0 else C j) H locs ∧ lv_has ls 7 [(0, .ref (g 0)), (1, .int (nI i))]) 64 (fun i hi ih H locs ls hI => ?_) (fun H locs ls hI => ?_) 0 (by omega) (fun H locs ls hX hl => ⟨hX.eqC (fun j _ => by simp), lv_sub hl [1, 0] rfl⟩)
  · obtain ⟨hX, hl⟩ := hI
    refine lv_iload_n hx hb dX1_needed_6 rfl (lv_at hl 1 rfl) ?_
    refine lv_bipush (v := nI 64) hx hb dX1_needed_7 (by decide) ?_
    refine n_ge (a := i) (b := 64) (by omega) (by omega) hx hb (tgt := 25) dX1_needed_9 (by decide) (fun d1 => absurd d1 (by omega)) (fun d2 => ?_)
    refine lv_aload_n hx hb dX1_needed_12 rfl (lv_at hl 0 rfl) ?_
    refine m_get5 S hX.1 dX1_needed_13 ?_
    refine lv_iload_n hx hb dX1_needed_16 rfl (lv_at hl 1 rfl) ?_
    refine lv_iconst (v := nI 0) hx hb dX1_needed_17 (by decide) ?_
    refine m_stC i (by omega) 0 (fun j => if j < i + 1 then 0 else C j) (fun j _ => by unfold va_up; by_cases h1 : j = i <;> by_cases h2 : j < i <;> simp [h1, h2] <;> omega) S hX dX1_needed_18 (fun H locs hX => ?_)
    refine lv_iinc (v := nI (i + 1)) (lv' := [(1, .int (nI (i + 1))), (0, .ref (g 0))]) hx hb dX1_needed_19 hl (k := 1) rfl (nI_add i 1) (by decide) rfl (fun ls hl => ?_)
    refine lv_goto (tgt := 6) hx hb dX1_needed_22 (by decide) ?_
    exact ih H locs ls ⟨hX, lv_sub hl [1, 0] rfl⟩
  · obtain ⟨hX, hl⟩ := hI
    refine lv_iload_n hx hb dX1_needed_6 rfl (lv_at hl 1 rfl) ?_
    refine lv_bipush (v := nI 64) hx hb dX1_needed_7 (by decide) ?_
    refine n_ge (a := 64) (b := 64) (by omega) (by omega) hx hb (tgt := 25) dX1_needed_9 (by decide) (fun d1 => ?_) (fun d2 => absurd d2 (by omega))
    replace hX := hX.eqC (C' := coN (brk N n) 0) (fun j hj => by simp [hj, coN])
    refine lv_iconst (v := nI 0) hx hb dX1_needed_25 (by decide) ?_
    refine lv_istore_n (lv' := [(1, .int (nI 0)), (0, .ref (g 0))]) hx hb dX1_needed_26 rfl hl (by decide) rfl (fun ls hl => ?_)
    revert ls
    revert H locs
    refine lp_H (I := fun i H locs ls => MH E g s.heap n N O true (brk N n) (coN (brk N n) i) H locs ∧ lv_has ls 7 [(0, .ref (g 0)), (1, .int (nI i))]) 2401 (fun i hi ih H locs ls hI => ?_) (fun H locs ls hI => ?_) 0 (by omega) (fun H locs ls hX hl => ⟨hX, lv_sub hl [1, 0] rfl⟩)
    · obtain ⟨hX, hl⟩ := hI
      have hb64 := brk_64 N hn i
      refine lv_iload_n hx hb dX1_needed_27 rfl (lv_at hl 1 rfl) ?_
      refine lv_sipush (v := nI 2401) hx hb dX1_needed_28 (by decide) ?_
      refine n_ge (a := i) (b := 2401) (by omega) (by omega) hx hb (tgt := 70) dX1_needed_31 (by decide) (fun d1 => absurd d1 (by omega)) (fun d2 => ?_)
      refine lv_aload_n hx hb dX1_needed_34 rfl (lv_at hl 0 rfl) ?_
      refine m_get5 S hX.1 dX1_needed_35 ?_
      refine lv_aload_n hx hb dX1_needed_38 rfl (lv_at hl 0 rfl) ?_
      refine m_get4 S hX.1 dX1_needed_39 ?_
      refine lv_iload_n hx hb dX1_needed_42 rfl (lv_at hl 1 rfl) ?_
      refine m_ldB i (by omega) S hX.1 dX1_needed_43 ?_
      refine lv_bipush (v := nI 63) hx hb dX1_needed_44 (by decide) ?_
      refine lv_iand hx hb dX1_needed_46 ?_
      refine lv_topE (y := nI (brk N n i)) (and63 hb64) ?_
      refine lv_aload_n hx hb dX1_needed_47 rfl (lv_at hl 0 rfl) ?_
      refine m_get5 S hX.1 dX1_needed_48 ?_
      refine lv_aload_n hx hb dX1_needed_51 rfl (lv_at hl 0 rfl) ?_
      refine m_get4 S hX.1 dX1_needed_52 ?_
      refine lv_iload_n hx hb dX1_needed_55 rfl (lv_at hl 1 rfl) ?_
      refine m_ldB i (by omega) S hX.1 dX1_needed_56 ?_
      refine lv_bipush (v := nI 63) hx hb dX1_needed_57 (by decide) ?_
      refine lv_iand hx hb dX1_needed_59 ?_
      refine lv_topE (y := nI (brk N n i)) (and63 hb64) ?_
      refine m_ldC (brk N n i) (by omega) S hX.1 dX1_needed_60 ?_
      refine lv_iconst (v := nI 1) hx hb dX1_needed_61 (by decide) ?_
      refine lv_iadd hx hb dX1_needed_62 ?_
      refine lv_topE (y := nI (((coN (brk N n) i) (brk N n i)) + 1)) (nI_add ((coN (brk N n) i) (brk N n i)) 1) ?_
      refine m_stC (brk N n i) (by omega) (((coN (brk N n) i) (brk N n i)) + 1) (coN (brk N n) (i + 1)) (fun _ _ => rfl) S hX dX1_needed_63 (fun H locs hX => ?_)
      refine lv_iinc (v := nI (i + 1)) (lv' := [(1, .int (nI (i + 1))), (0, .ref (g 0))]) hx hb dX1_needed_64 hl (k := 1) rfl (nI_add i 1) (by decide) rfl (fun ls hl => ?_)
      refine lv_goto (tgt := 27) hx hb dX1_needed_67 (by decide) ?_
      exact ih H locs ls ⟨hX, lv_sub hl [1, 0] rfl⟩
    · obtain ⟨hX, hl⟩ := hI
      refine lv_iload_n hx hb dX1_needed_27 rfl (lv_at hl 1 rfl) ?_
      refine lv_sipush (v := nI 2401) hx hb dX1_needed_28 (by decide) ?_
      refine n_ge (a := 2401) (b := 2401) (by omega) (by omega) hx hb (tgt := 70) dX1_needed_31 (by decide) (fun d1 => ?_) (fun d2 => absurd d2 (by omega))
      have ha64 := onM_64 O hn
      refine lv_aload_n hx hb dX1_needed_70 rfl (lv_at hl 0 rfl) ?_
      refine m_callR 0 (rest := []) (metX1_ons l E g n N O true (brk N n) (coN (brk N n) 2401) hn) S hX.1 (lw_V q221 q223 qs16 q21 q224) rfl rfl (by decide +kernel) ⟨Nat.le_of_ble_eq_true rfl, Nat.le_of_ble_eq_true rfl⟩ rfl hl.1 rfl (Nat.le_of_ble_eq_true rfl) ⟨Nat.zero_le _, Nat.zero_le _⟩ dX1_needed_71 ?_
      refine lv_istore_n (lv' := [(1, .int (nI (onM O n))), (0, .ref (g 0))]) hx hb dX1_needed_74 rfl hl (by decide) rfl (fun ls hl => ?_)
      refine lv_aload_n hx hb dX1_needed_75 rfl (lv_at hl 1 rfl) ?_
      refine lv_iload_n hx hb dX1_needed_76 rfl (lv_at hl 0 rfl) ?_
      refine m_callR 1 (rest := []) (metX1_meeting l E g n N O true (brk N n) (coN (brk N n) 2401) (onM O n) ha64) S hX.1 (lw_V q254 q256 qs18 q21 q257) rfl rfl (by decide +kernel) ⟨Nat.le_of_ble_eq_true rfl, Nat.le_of_ble_eq_true rfl⟩ rfl hl.1 rfl (Nat.le_of_ble_eq_true rfl) ⟨Nat.zero_le _, Nat.zero_le _⟩ dX1_needed_77 ?_
      refine lv_istore_n (lv' := [(2, .int (nI (meN (coN (brk N n) 2401) (onM O n) 64))), (1, .int (nI (onM O n))), (0, .ref (g 0))]) hx hb dX1_needed_80 rfl hl (by decide) rfl (fun ls hl => ?_)
      refine lv_bipush (v := nI 6) hx hb dX1_needed_81 (by decide) ?_
      refine lv_istore_n (lv' := [(3, .int (nI 6)), (2, .int (nI (meN (coN (brk N n) 2401) (onM O n) 64))), (1, .int (nI (onM O n))), (0, .ref (g 0))]) hx hb dX1_needed_83 rfl hl (by decide) rfl (fun ls hl => ?_)
      refine lv_iconst (v := nI 0) hx hb dX1_needed_84 (by decide) ?_
      refine lv_istore (lv' := [(4, .int (nI 0)), (3, .int (nI 6)), (2, .int (nI (meN (coN (brk N n) 2401) (onM O n) 64))), (1, .int (nI (onM O n))), (0, .ref (g 0))]) hx hb dX1_needed_85 hl (by decide) rfl (fun ls hl => ?_)
      revert ls
      revert H locs
      refine lp_H (I := fun q H locs ls => MH E g s.heap n N O true (brk N n) (coN (brk N n) 2401) H locs ∧ lv_has ls 7 [(0, .ref (g 0)), (1, .int (nI (onM O n))), (2, .int (nI (meN (coN (brk N n) 2401) (onM O n) 64))), (3, .int (nI (lsN (mP N n (onM O n)) (onM O n) q))), (4, .int (nI q))]) 64 (fun q hi ih H locs ls hI => ?_) (fun H locs ls hI => ?_) 0 (by omega) (fun H locs ls hX hl => ⟨hX, lv_sub hl [4, 3, 2, 1, 0] rfl⟩)
      · obtain ⟨hX, hl⟩ := hI
        have hls := lsN_le (mP N n (onM O n)) (onM O n) q
        have ho6 := on1_le q 6
        refine lv_iload hx hb dX1_needed_87 (lv_at hl 4 rfl) ?_
        refine lv_bipush (v := nI 64) hx hb dX1_needed_89 (by decide) ?_
        refine n_ge (a := q) (b := 64) (by omega) (by omega) hx hb (tgt := 159) dX1_needed_91 (by decide) (fun d1 => absurd d1 (by omega)) (fun d2 => ?_)
        refine lv_iconst (v := nI 0) hx hb dX1_needed_94 (by decide) ?_
        refine lv_istore (lv' := [(5, .int (nI 0)), (0, .ref (g 0)), (1, .int (nI (onM O n))), (2, .int (nI (meN (coN (brk N n) 2401) (onM O n) 64))), (3, .int (nI (lsN (mP N n (onM O n)) (onM O n) q))), (4, .int (nI q))]) hx hb dX1_needed_95 hl (by decide) rfl (fun ls hl => ?_)
        refine lv_iconst (v := nI 0) hx hb dX1_needed_97 (by decide) ?_
        refine lv_istore (lv' := [(6, .int (nI 0)), (5, .int (nI 0)), (0, .ref (g 0)), (1, .int (nI (onM O n))), (2, .int (nI (meN (coN (brk N n) 2401) (onM O n) 64))), (3, .int (nI (lsN (mP N n (onM O n)) (onM O n) q))), (4, .int (nI q))]) hx hb dX1_needed_98 hl (by decide) rfl (fun ls hl => ?_)
        revert ls
        revert H locs
        refine lp_H (I := fun j H locs ls => MH E g s.heap n N O true (brk N n) (coN (brk N n) 2401) H locs ∧ lv_has ls 7 [(0, .ref (g 0)), (1, .int (nI (onM O n))), (2, .int (nI (meN (coN (brk N n) 2401) (onM O n) 64))), (3, .int (nI (lsN (mP N n (onM O n)) (onM O n) q))), (4, .int (nI q)), (5, .int (nI (on1 q j))), (6, .int (nI j))]) 6 (fun j hj ih2 H locs ls hI => ?_) (fun H locs ls hI => ?_) 0 (by omega) (fun H locs ls hX hl => ⟨hX, lv_sub hl [2, 3, 4, 5, 6, 1, 0] rfl⟩)
        · obtain ⟨hX, hl⟩ := hI
          refine lv_iload hx hb dX1_needed_100 (lv_at hl 6 rfl) ?_
          refine lv_bipush (v := nI 6) hx hb dX1_needed_102 (by decide) ?_
          refine n_ge (a := j) (b := 6) (by omega) (by omega) hx hb (tgt := 125) dX1_needed_104 (by decide) (fun d1 => absurd d1 (by omega)) (fun d2 => ?_)
          refine lv_iload hx hb dX1_needed_107 (lv_at hl 5 rfl) ?_
          refine lv_iload hx hb dX1_needed_109 (lv_at hl 4 rfl) ?_
          refine lv_iload hx hb dX1_needed_111 (lv_at hl 6 rfl) ?_
          refine lv_ishr hx hb dX1_needed_113 ?_
          refine lv_iconst (v := nI 1) hx hb dX1_needed_114 (by decide) ?_
          refine lv_iand hx hb dX1_needed_115 ?_
          refine lv_topE (y := nI (q / 2 ^ j % 2)) (nb_bit (by omega) (by omega)) ?_
          refine lv_iadd hx hb dX1_needed_116 ?_
          refine lv_topE (y := nI ((on1 q j) + (q / 2 ^ j % 2))) (nI_add (on1 q j) (q / 2 ^ j % 2)) ?_
          refine lv_istore (lv' := [(5, .int (nI ((on1 q j) + (q / 2 ^ j % 2)))), (0, .ref (g 0)), (1, .int (nI (onM O n))), (2, .int (nI (meN (coN (brk N n) 2401) (onM O n) 64))), (3, .int (nI (lsN (mP N n (onM O n)) (onM O n) q))), (4, .int (nI q)), (6, .int (nI j))]) hx hb dX1_needed_117 hl (by decide) rfl (fun ls hl => ?_)
          refine lv_iinc (v := nI (j + 1)) (lv' := [(6, .int (nI (j + 1))), (5, .int (nI ((on1 q j) + (q / 2 ^ j % 2)))), (0, .ref (g 0)), (1, .int (nI (onM O n))), (2, .int (nI (meN (coN (brk N n) 2401) (onM O n) 64))), (3, .int (nI (lsN (mP N n (onM O n)) (onM O n) q))), (4, .int (nI q))]) hx hb dX1_needed_119 hl (k := 6) rfl (nI_add j 1) (by decide) rfl (fun ls hl => ?_)
          refine lv_goto (tgt := 100) hx hb dX1_needed_122 (by decide) ?_
          exact ih2 H locs ls ⟨hX, lv_sub hl [2, 3, 4, 5, 6, 1, 0] rfl⟩
        · obtain ⟨hX, hl⟩ := hI
          refine lv_iload hx hb dX1_needed_100 (lv_at hl 6 rfl) ?_
          refine lv_bipush (v := nI 6) hx hb dX1_needed_102 (by decide) ?_
          refine n_ge (a := 6) (b := 6) (by omega) (by omega) hx hb (tgt := 125) dX1_needed_104 (by decide) (fun d1 => ?_) (fun d2 => absurd d2 (by omega))
          refine lv_iload hx hb dX1_needed_125 (lv_at hl 4 rfl) ?_
          refine lv_iload_n hx hb dX1_needed_127 rfl (lv_at hl 1 rfl) ?_
          refine lv_iconst (v := (-1)) hx hb dX1_needed_128 (by decide) ?_
          refine lv_ixor hx hb dX1_needed_129 ?_
          refine lv_iand hx hb dX1_needed_130 ?_
          refine lv_topE (y := nI (q - (q &&& onM O n))) (nb_andNot q hi _ ha64) ?_
          refine n_if_ne (a := (q - (q &&& onM O n))) (by omega) hx hb (tgt := 153) dX1_needed_131 (by decide) (fun c3 => ?_) (fun c4 => ?_)
          · replace hl : lv_has ls 7 [(0, .ref (g 0)), (1, .int (nI (onM O n))), (2, .int (nI (meN (coN (brk N n) 2401) (onM O n) 64))), (3, .int (nI (lsN (mP N n (onM O n)) (onM O n) (q + 1)))), (4, .int (nI q)), (5, .int (nI (on1 q 6))), (6, .int (nI 6))] := by rw [show nI (lsN (mP N n (onM O n)) (onM O n) (q + 1)) = nI (lsN (mP N n (onM O n)) (onM O n) q) from by rw [lsN, if_neg (fun h => c3 h.1)]]; exact hl
            refine lv_iinc (v := nI (q + 1)) (lv' := [(4, .int (nI (q + 1))), (0, .ref (g 0)), (1, .int (nI (onM O n))), (2, .int (nI (meN (coN (brk N n) 2401) (onM O n) 64))), (3, .int (nI (lsN (mP N n (onM O n)) (onM O n) (q + 1)))), (5, .int (nI (on1 q 6))), (6, .int (nI 6))]) hx hb dX1_needed_153 hl (k := 4) rfl (nI_add q 1) (by decide) rfl (fun ls hl => ?_)
            refine lv_goto (tgt := 87) hx hb dX1_needed_156 (by decide) ?_
            exact ih H locs ls ⟨hX, lv_sub hl [1, 2, 3, 4, 0] rfl⟩
          · refine lv_iload hx hb dX1_needed_134 (lv_at hl 5 rfl) ?_
            refine lv_iload_n hx hb dX1_needed_136 rfl (lv_at hl 3 rfl) ?_
            refine n_ge (a := (on1 q 6)) (b := (lsN (mP N n (onM O n)) (onM O n) q)) (by omega) (by omega) hx hb (tgt := 153) dX1_needed_137 (by decide) (fun c5 => ?_) (fun c6 => ?_)
            · replace hl : lv_has ls 7 [(0, .ref (g 0)), (1, .int (nI (onM O n))), (2, .int (nI (meN (coN (brk N n) 2401) (onM O n) 64))), (3, .int (nI (lsN (mP N n (onM O n)) (onM O n) (q + 1)))), (4, .int (nI q)), (5, .int (nI (on1 q 6))), (6, .int (nI 6))] := by rw [show nI (lsN (mP N n (onM O n)) (onM O n) (q + 1)) = nI (lsN (mP N n (onM O n)) (onM O n) q) from by rw [lsN, if_neg (fun h => absurd h.2.1 (Nat.not_lt.mpr c5))]]; exact hl
              refine lv_iinc (v := nI (q + 1)) (lv' := [(4, .int (nI (q + 1))), (0, .ref (g 0)), (1, .int (nI (onM O n))), (2, .int (nI (meN (coN (brk N n) 2401) (onM O n) 64))), (3, .int (nI (lsN (mP N n (onM O n)) (onM O n) (q + 1)))), (5, .int (nI (on1 q 6))), (6, .int (nI 6))]) hx hb dX1_needed_153 hl (k := 4) rfl (nI_add q 1) (by decide) rfl (fun ls hl => ?_)
              refine lv_goto (tgt := 87) hx hb dX1_needed_156 (by decide) ?_
              exact ih H locs ls ⟨hX, lv_sub hl [1, 2, 3, 4, 0] rfl⟩
            · refine lv_aload_n hx hb dX1_needed_140 rfl (lv_at hl 0 rfl) ?_
              refine lv_iload hx hb dX1_needed_141 (lv_at hl 4 rfl) ?_
              refine m_callR 1 (rest := []) (metX1_meeting l E g n N O true (brk N n) (coN (brk N n) 2401) q hi) S hX.1 (lw_V q254 q256 qs18 q21 q257) rfl rfl (by decide +kernel) ⟨Nat.le_of_ble_eq_true rfl, Nat.le_of_ble_eq_true rfl⟩ rfl hl.1 rfl (Nat.le_of_ble_eq_true rfl) ⟨Nat.zero_le _, Nat.zero_le _⟩ dX1_needed_143 ?_
              refine lv_iload_n hx hb dX1_needed_146 rfl (lv_at hl 2 rfl) ?_
              refine lv_icmp_ne hx hb (tgt := 153) dX1_needed_147 (by decide) (fun c7 => ?_) (fun c8 => ?_)
              · replace hl : lv_has ls 7 [(0, .ref (g 0)), (1, .int (nI (onM O n))), (2, .int (nI (meN (coN (brk N n) 2401) (onM O n) 64))), (3, .int (nI (lsN (mP N n (onM O n)) (onM O n) (q + 1)))), (4, .int (nI q)), (5, .int (nI (on1 q 6))), (6, .int (nI 6))] := by rw [show nI (lsN (mP N n (onM O n)) (onM O n) (q + 1)) = nI (lsN (mP N n (onM O n)) (onM O n) q) from by rw [lsN, if_neg (fun h => c7 (of_decide_eq_true h.2.2))]]; exact hl
                refine lv_iinc (v := nI (q + 1)) (lv' := [(4, .int (nI (q + 1))), (0, .ref (g 0)), (1, .int (nI (onM O n))), (2, .int (nI (meN (coN (brk N n) 2401) (onM O n) 64))), (3, .int (nI (lsN (mP N n (onM O n)) (onM O n) (q + 1)))), (5, .int (nI (on1 q 6))), (6, .int (nI 6))]) hx hb dX1_needed_153 hl (k := 4) rfl (nI_add q 1) (by decide) rfl (fun ls hl => ?_)
                refine lv_goto (tgt := 87) hx hb dX1_needed_156 (by decide) ?_
                exact ih H locs ls ⟨hX, lv_sub hl [1, 2, 3, 4, 0] rfl⟩
              · have hl1 : lsN (mP N n (onM O n)) (onM O n) (q + 1) = on1 q 6 := by rw [lsN, if_pos ⟨c4, c6, decide_eq_true c8⟩]
                refine lv_iload hx hb dX1_needed_150 (lv_at hl 5 rfl) ?_
                rw [← hl1]
                refine lv_istore_n (lv' := [(3, .int (nI (lsN (mP N n (onM O n)) (onM O n) (q + 1)))), (0, .ref (g 0)), (1, .int (nI (onM O n))), (2, .int (nI (meN (coN (brk N n) 2401) (onM O n) 64))), (4, .int (nI q)), (5, .int (nI (on1 q 6))), (6, .int (nI 6))]) hx hb dX1_needed_152 rfl hl (by decide) rfl (fun ls hl => ?_)
                refine lv_iinc (v := nI (q + 1)) (lv' := [(4, .int (nI (q + 1))), (3, .int (nI (lsN (mP N n (onM O n)) (onM O n) (q + 1)))), (0, .ref (g 0)), (1, .int (nI (onM O n))), (2, .int (nI (meN (coN (brk N n) 2401) (onM O n) 64))), (5, .int (nI (on1 q 6))), (6, .int (nI 6))]) hx hb dX1_needed_153 hl (k := 4) rfl (nI_add q 1) (by decide) rfl (fun ls hl => ?_)
                refine lv_goto (tgt := 87) hx hb dX1_needed_156 (by decide) ?_
                exact ih H locs ls ⟨hX, lv_sub hl [2, 3, 4, 1, 0] rfl⟩
      · obtain ⟨hX, hl⟩ := hI
        refine lv_iload hx hb dX1_needed_87 (lv_at hl 4 rfl) ?_
        refine lv_bipush (v := nI 64) hx hb dX1_needed_89 (by decide) ?_
        refine n_ge (a := 64) (b := 64) (by omega) (by omega) hx hb (tgt := 159) dX1_needed_91 (by decide) (fun d1 => ?_) (fun d2 => absurd d2 (by omega))
        refine lv_iload_n hx hb dX1_needed_159 rfl (lv_at hl 3 rfl) ?_
        exact f_retI rfl (fun t ht hW => ⟨_, _, _, fun _ _ _ => rfl, MH.to S hX.1 ht hW⟩) hX.2 hx hb hr hk dX1_needed_160
end
section
set_option maxRecDepth 100000
theorem xW_in {g : Nat → Nat} {n : Nat} {N : Nat → Fin 7} {O D : Nat → Bool} {R : Nat → Fin 7} {k : Bool} {K : Nat → Fin 7} : ∀ (j : Nat) (q : Nat × va_E), (xW g n N O D R k K)[j]? = some q → xA g q.1 := by
  intro j q h
  match j, h with
  | 0, h => cases h; exact Or.inl rfl
  | 1, h => cases h; exact Or.inr (Or.inl rfl)
  | 2, h => cases h; exact Or.inr (Or.inr (Or.inl rfl))
  | 3, h => cases h; exact Or.inr (Or.inr (Or.inr (Or.inl rfl)))
  | 4, h => cases h; exact Or.inr (Or.inr (Or.inr (Or.inr (Or.inl rfl))))
  | 5, h => cases h; exact Or.inr (Or.inr (Or.inr (Or.inr (Or.inr rfl))))
  | j + 6, h => simp [xW] at h
theorem mW_in {g : Nat → Nat} {n : Nat} {N : Nat → Fin 7} {O : Nat → Bool} {k : Bool} {B C : Nat → Nat} : ∀ (j : Nat) (q : Nat × va_E), (mW g n N O k B C)[j]? = some q → mA g q.1 := by
  intro j q h
  match j, h with
  | 0, h => cases h; exact Or.inl rfl
  | 1, h => cases h; exact Or.inr (Or.inl rfl)
  | 2, h => cases h; exact Or.inr (Or.inr (Or.inl rfl))
  | 3, h => cases h; exact Or.inr (Or.inr (Or.inr (Or.inl rfl)))
  | 4, h => cases h; exact Or.inr (Or.inr (Or.inr (Or.inr rfl)))
  | j + 5, h => simp [mW] at h
theorem xW_all {g : Nat → Nat} {A : Nat → Prop} {n : Nat} {N : Nat → Fin 7} {O D : Nat → Bool} {R : Nat → Fin 7} {k : Bool} {K : Nat → Fin 7} (h : va_D A (xW g n N O D R k K)) : ∀ q, xA g q → A q := by
  intro q hq
  rcases hq with rfl | rfl | rfl | rfl | rfl | rfl
  · exact h.2 0 _ rfl
  · exact h.2 1 _ rfl
  · exact h.2 2 _ rfl
  · exact h.2 3 _ rfl
  · exact h.2 4 _ rfl
  · exact h.2 5 _ rfl
theorem mW_all {g : Nat → Nat} {A : Nat → Prop} {n : Nat} {N : Nat → Fin 7} {O : Nat → Bool} {k : Bool} {B C : Nat → Nat} (h : va_D A (mW g n N O k B C)) : ∀ q, mA g q → A q := by
  intro q hq
  rcases hq with rfl | rfl | rfl | rfl | rfl
  · exact h.2 0 _ rfl
  · exact h.2 1 _ rfl
  · exact h.2 2 _ rfl
  · exact h.2 3 _ rfl
  · exact h.2 4 _ rfl
abbrev X0fs : List Value := [.int (nI 0), .null, .null, .null, .null, .int (bI false), .null]
abbrev M0fs : List Value := [.int (nI 0), .null, .null, .int (bI false), .null, .null]
set_option maxHeartbeats 4000000 in
theorem metX0_init (l : Launch) (E : va_G) (h sz : Nat) : Met l yX0_init (ws_ yX0_init cX0_init 1 none) ({ frames := 1, cells := 5, slots := 65, locals := 12 }) (va_Pc [.ref h] (fun U => U.heap.size = sz ∧ va_P E vwCl [(h, .inr (0, X0fs))] U.heap ∧ va_K E vwCl [] U)) (qM none (fun t => ∃ g : Nat → Nat, g 0 = h ∧ XI E g 0 (fun _ => 0) (fun _ => false) (fun _ => false) (fun _ => 0) false (fun _ => 0) t ∧ ∀ q, xA g q → q = h ∨ sz ≤ q) (fun q => q = h ∨ sz ≤ q)) 5 65 (fun q => q = h ∨ sz ≤ q) := by
  refine m_ofH l (by decide) (Nat.le_of_ble_eq_true rfl) (fun p e s m below meth c ls H locs hHe hS0 S hr hk hin hI hl => ?_)
  obtain ⟨hsz, hP, hK⟩ := hI
  obtain ⟨hx, hb, hml, hown, hts⟩ := id S
  replace hin := hin rfl
  rw [← hHe] at hP
  have hA : ∀ q : Nat, s.heap.size ≤ q → (fun q : Nat => q = h ∨ sz ≤ q) q := fun q hq => Or.inr (by rw [← hsz]; exact hq)
  have hD : va_D (fun q : Nat => q = h ∨ sz ≤ q) [(h, .inr (0, X0fs))] := ⟨fun i j x y hi hj _ => by
    have h1 := (List.getElem?_eq_some_iff.mp hi).1
    have h2 := (List.getElem?_eq_some_iff.mp hj).1
    simp only [List.length_cons, List.length_nil] at h1 h2
    omega, fun k q hq => by
    have h1 := (List.getElem?_eq_some_iff.mp hq).1
    simp only [List.length_cons, List.length_nil] at h1
    obtain rfl : k = 0 := by omega
    cases hq
    exact Or.inl rfl⟩
  have hS := hS0 (fun q : Nat => q = h ∨ sz ≤ q)
  clear hS0
  replace hl : lv_has ls 1 [(0, .ref h)] := hl
  refine lv_aload_n hx hb dX0_init_0 rfl (lv_at hl 0 rfl) ?_
  refine W.objInit hx hb hown (hts _ q27) (hts _ q28) (hts _ q29) rfl (by rw [hml]; exact hl.1) rfl dX0_init_1 (Nat.le_of_ble_eq_true rfl) (Nat.le_of_ble_eq_true rfl) ?_
  refine W.eq (g2 := F0 m 4 ls []) rfl ?_
  refine lv_aload_n hx hb dX0_init_4 rfl (lv_at hl 0 rfl) ?_
  refine lv_bipush (v := nI 30) hx hb dX0_init_5 (by decide) ?_
  refine va_newa (atype := .int) (ty := .int) (N' := 30) (a0 := (30, .inl (fI (fun _ => 0)))) hx hb (hts _ q52) rfl hK hP hD hS hA (fun _ => rfl) (by decide) (by decide) (by decide) (Nat.le_of_ble_eq_true rfl) (Nat.le_of_ble_eq_true rfl) dX0_init_7 (fun q1v c1v H hK hP hD hS => ?_)
  have hP : va_P E vwCl [(h, .inr (0, [.int (nI 0), .null, .null, .null, .null, .int (bI false), .null])), (q1v, .inl (c1v, 30, .inl (fI (fun _ => 0))))] H := hP
  have hD : va_D (fun q : Nat => q = h ∨ sz ≤ q) [(h, .inr (0, [.int (nI 0), .null, .null, .null, .null, .int (bI false), .null])), (q1v, .inl (c1v, 30, .inl (fI (fun _ => 0))))] := hD
  have hK : va_K E vwCl [(c1v, .int)] s := hK
  refine W.widen (k := 1) (n := 30) (Nat.le_of_ble_eq_true rfl) (Nat.le_of_ble_eq_true rfl) ?_
  refine va_putF (D := E) (ci := 0) (v := .ref q1v) (ty := .array .int) (C := RX0) (T := TX0) (N := 7) hx hb hts in_X0 tyX0 tyX0_ok nmX0 hown hK hP hD hS 0 rfl rfl 1 (by decide) (hts _ q31) (fun _ h9 => h9) rfl hin rfl (by decide +kernel) rfl rfl (Nat.le_of_ble_eq_true rfl) dX0_init_9 (fun H locs hP hD hS => ?_)
  have hP : va_P E vwCl [(h, .inr (0, [.int (nI 0), .ref q1v, .null, .null, .null, .int (bI false), .null])), (q1v, .inl (c1v, 30, .inl (fI (fun _ => 0))))] H := hP
  have hD : va_D (fun q : Nat => q = h ∨ sz ≤ q) [(h, .inr (0, [.int (nI 0), .ref q1v, .null, .null, .null, .int (bI false), .null])), (q1v, .inl (c1v, 30, .inl (fI (fun _ => 0))))] := hD
  refine lv_aload_n hx hb dX0_init_12 rfl (lv_at hl 0 rfl) ?_
  refine lv_bipush (v := nI 6) hx hb dX0_init_13 (by decide) ?_
  refine va_newa (atype := .boolean) (ty := .boolean) (N' := 6) (a0 := (6, .inl (fB (fun _ => false)))) hx hb (hts _ q53) rfl hK hP hD hS hA (fun _ => rfl) (by decide) (by decide) (by decide) (Nat.le_of_ble_eq_true rfl) (Nat.le_of_ble_eq_true rfl) dX0_init_15 (fun q2v c2v H hK hP hD hS => ?_)
  have hP : va_P E vwCl [(h, .inr (0, [.int (nI 0), .ref q1v, .null, .null, .null, .int (bI false), .null])), (q1v, .inl (c1v, 30, .inl (fI (fun _ => 0)))), (q2v, .inl (c2v, 6, .inl (fB (fun _ => false))))] H := hP
  have hD : va_D (fun q : Nat => q = h ∨ sz ≤ q) [(h, .inr (0, [.int (nI 0), .ref q1v, .null, .null, .null, .int (bI false), .null])), (q1v, .inl (c1v, 30, .inl (fI (fun _ => 0)))), (q2v, .inl (c2v, 6, .inl (fB (fun _ => false))))] := hD
  have hK : va_K E vwCl [(c1v, .int), (c2v, .boolean)] s := hK
  refine W.widen (k := 2) (n := 36) (Nat.le_of_ble_eq_true rfl) (Nat.le_of_ble_eq_true rfl) ?_
  refine va_putF (D := E) (ci := 0) (v := .ref q2v) (ty := .array .boolean) (C := RX0) (T := TX0) (N := 7) hx hb hts in_X0 tyX0 tyX0_ok nmX0 hown hK hP hD hS 0 rfl rfl 2 (by decide) (hts _ q32) (fun _ h9 => h9) rfl hin rfl (by decide +kernel) rfl rfl (Nat.le_of_ble_eq_true rfl) dX0_init_17 (fun H locs hP hD hS => ?_)
  have hP : va_P E vwCl [(h, .inr (0, [.int (nI 0), .ref q1v, .ref q2v, .null, .null, .int (bI false), .null])), (q1v, .inl (c1v, 30, .inl (fI (fun _ => 0)))), (q2v, .inl (c2v, 6, .inl (fB (fun _ => false))))] H := hP
  have hD : va_D (fun q : Nat => q = h ∨ sz ≤ q) [(h, .inr (0, [.int (nI 0), .ref q1v, .ref q2v, .null, .null, .int (bI false), .null])), (q1v, .inl (c1v, 30, .inl (fI (fun _ => 0)))), (q2v, .inl (c2v, 6, .inl (fB (fun _ => false))))] := hD
  refine lv_aload_n hx hb dX0_init_20 rfl (lv_at hl 0 rfl) ?_
  refine lv_iconst (v := nI 4) hx hb dX0_init_21 (by decide) ?_
  refine va_newa (atype := .boolean) (ty := .boolean) (N' := 4) (a0 := (4, .inl (fB (fun _ => false)))) hx hb (hts _ q53) rfl hK hP hD hS hA (fun _ => rfl) (by decide) (by decide) (by decide) (Nat.le_of_ble_eq_true rfl) (Nat.le_of_ble_eq_true rfl) dX0_init_22 (fun q3v c3v H hK hP hD hS => ?_)
  have hP : va_P E vwCl [(h, .inr (0, [.int (nI 0), .ref q1v, .ref q2v, .null, .null, .int (bI false), .null])), (q1v, .inl (c1v, 30, .inl (fI (fun _ => 0)))), (q2v, .inl (c2v, 6, .inl (fB (fun _ => false)))), (q3v, .inl (c3v, 4, .inl (fB (fun _ => false))))] H := hP
  have hD : va_D (fun q : Nat => q = h ∨ sz ≤ q) [(h, .inr (0, [.int (nI 0), .ref q1v, .ref q2v, .null, .null, .int (bI false), .null])), (q1v, .inl (c1v, 30, .inl (fI (fun _ => 0)))), (q2v, .inl (c2v, 6, .inl (fB (fun _ => false)))), (q3v, .inl (c3v, 4, .inl (fB (fun _ => false))))] := hD
  have hK : va_K E vwCl [(c1v, .int), (c2v, .boolean), (c3v, .boolean)] s := hK
  refine W.widen (k := 3) (n := 40) (Nat.le_of_ble_eq_true rfl) (Nat.le_of_ble_eq_true rfl) ?_
  refine va_putF (D := E) (ci := 0) (v := .ref q3v) (ty := .array .boolean) (C := RX0) (T := TX0) (N := 7) hx hb hts in_X0 tyX0 tyX0_ok nmX0 hown hK hP hD hS 0 rfl rfl 3 (by decide) (hts _ q33) (fun _ h9 => h9) rfl hin rfl (by decide +kernel) rfl rfl (Nat.le_of_ble_eq_true rfl) dX0_init_24 (fun H locs hP hD hS => ?_)
  have hP : va_P E vwCl [(h, .inr (0, [.int (nI 0), .ref q1v, .ref q2v, .ref q3v, .null, .int (bI false), .null])), (q1v, .inl (c1v, 30, .inl (fI (fun _ => 0)))), (q2v, .inl (c2v, 6, .inl (fB (fun _ => false)))), (q3v, .inl (c3v, 4, .inl (fB (fun _ => false))))] H := hP
  have hD : va_D (fun q : Nat => q = h ∨ sz ≤ q) [(h, .inr (0, [.int (nI 0), .ref q1v, .ref q2v, .ref q3v, .null, .int (bI false), .null])), (q1v, .inl (c1v, 30, .inl (fI (fun _ => 0)))), (q2v, .inl (c2v, 6, .inl (fB (fun _ => false)))), (q3v, .inl (c3v, 4, .inl (fB (fun _ => false))))] := hD
  refine lv_aload_n hx hb dX0_init_27 rfl (lv_at hl 0 rfl) ?_
  refine lv_bipush (v := nI 20) hx hb dX0_init_28 (by decide) ?_
  refine va_newa (atype := .int) (ty := .int) (N' := 20) (a0 := (20, .inl (fI (fun _ => 0)))) hx hb (hts _ q52) rfl hK hP hD hS hA (fun _ => rfl) (by decide) (by decide) (by decide) (Nat.le_of_ble_eq_true rfl) (Nat.le_of_ble_eq_true rfl) dX0_init_30 (fun q4v c4v H hK hP hD hS => ?_)
  have hP : va_P E vwCl [(h, .inr (0, [.int (nI 0), .ref q1v, .ref q2v, .ref q3v, .null, .int (bI false), .null])), (q1v, .inl (c1v, 30, .inl (fI (fun _ => 0)))), (q2v, .inl (c2v, 6, .inl (fB (fun _ => false)))), (q3v, .inl (c3v, 4, .inl (fB (fun _ => false)))), (q4v, .inl (c4v, 20, .inl (fI (fun _ => 0))))] H := hP
  have hD : va_D (fun q : Nat => q = h ∨ sz ≤ q) [(h, .inr (0, [.int (nI 0), .ref q1v, .ref q2v, .ref q3v, .null, .int (bI false), .null])), (q1v, .inl (c1v, 30, .inl (fI (fun _ => 0)))), (q2v, .inl (c2v, 6, .inl (fB (fun _ => false)))), (q3v, .inl (c3v, 4, .inl (fB (fun _ => false)))), (q4v, .inl (c4v, 20, .inl (fI (fun _ => 0))))] := hD
  have hK : va_K E vwCl [(c1v, .int), (c2v, .boolean), (c3v, .boolean), (c4v, .int)] s := hK
  refine W.widen (k := 4) (n := 60) (Nat.le_of_ble_eq_true rfl) (Nat.le_of_ble_eq_true rfl) ?_
  refine va_putF (D := E) (ci := 0) (v := .ref q4v) (ty := .array .int) (C := RX0) (T := TX0) (N := 7) hx hb hts in_X0 tyX0 tyX0_ok nmX0 hown hK hP hD hS 0 rfl rfl 4 (by decide) (hts _ q34) (fun _ h9 => h9) rfl hin rfl (by decide +kernel) rfl rfl (Nat.le_of_ble_eq_true rfl) dX0_init_32 (fun H locs hP hD hS => ?_)
  have hP : va_P E vwCl [(h, .inr (0, [.int (nI 0), .ref q1v, .ref q2v, .ref q3v, .ref q4v, .int (bI false), .null])), (q1v, .inl (c1v, 30, .inl (fI (fun _ => 0)))), (q2v, .inl (c2v, 6, .inl (fB (fun _ => false)))), (q3v, .inl (c3v, 4, .inl (fB (fun _ => false)))), (q4v, .inl (c4v, 20, .inl (fI (fun _ => 0))))] H := hP
  have hD : va_D (fun q : Nat => q = h ∨ sz ≤ q) [(h, .inr (0, [.int (nI 0), .ref q1v, .ref q2v, .ref q3v, .ref q4v, .int (bI false), .null])), (q1v, .inl (c1v, 30, .inl (fI (fun _ => 0)))), (q2v, .inl (c2v, 6, .inl (fB (fun _ => false)))), (q3v, .inl (c3v, 4, .inl (fB (fun _ => false)))), (q4v, .inl (c4v, 20, .inl (fI (fun _ => 0))))] := hD
  refine lv_aload_n hx hb dX0_init_35 rfl (lv_at hl 0 rfl) ?_
  refine lv_iconst (v := nI 5) hx hb dX0_init_36 (by decide) ?_
  refine va_newa (atype := .int) (ty := .int) (N' := 5) (a0 := (5, .inl (fI (fun _ => 0)))) hx hb (hts _ q52) rfl hK hP hD hS hA (fun _ => rfl) (by decide) (by decide) (by decide) (Nat.le_of_ble_eq_true rfl) (Nat.le_of_ble_eq_true rfl) dX0_init_37 (fun q5v c5v H hK hP hD hS => ?_)
  have hP : va_P E vwCl [(h, .inr (0, [.int (nI 0), .ref q1v, .ref q2v, .ref q3v, .ref q4v, .int (bI false), .null])), (q1v, .inl (c1v, 30, .inl (fI (fun _ => 0)))), (q2v, .inl (c2v, 6, .inl (fB (fun _ => false)))), (q3v, .inl (c3v, 4, .inl (fB (fun _ => false)))), (q4v, .inl (c4v, 20, .inl (fI (fun _ => 0)))), (q5v, .inl (c5v, 5, .inl (fI (fun _ => 0))))] H := hP
  have hD : va_D (fun q : Nat => q = h ∨ sz ≤ q) [(h, .inr (0, [.int (nI 0), .ref q1v, .ref q2v, .ref q3v, .ref q4v, .int (bI false), .null])), (q1v, .inl (c1v, 30, .inl (fI (fun _ => 0)))), (q2v, .inl (c2v, 6, .inl (fB (fun _ => false)))), (q3v, .inl (c3v, 4, .inl (fB (fun _ => false)))), (q4v, .inl (c4v, 20, .inl (fI (fun _ => 0)))), (q5v, .inl (c5v, 5, .inl (fI (fun _ => 0))))] := hD
  have hK : va_K E vwCl [(c1v, .int), (c2v, .boolean), (c3v, .boolean), (c4v, .int), (c5v, .int)] s := hK
  refine W.widen (k := 5) (n := 65) (Nat.le_of_ble_eq_true rfl) (Nat.le_of_ble_eq_true rfl) ?_
  refine va_putF (D := E) (ci := 0) (v := .ref q5v) (ty := .array .int) (C := RX0) (T := TX0) (N := 7) hx hb hts in_X0 tyX0 tyX0_ok nmX0 hown hK hP hD hS 0 rfl rfl 6 (by decide) (hts _ q36) (fun _ h9 => h9) rfl hin rfl (by decide +kernel) rfl rfl (Nat.le_of_ble_eq_true rfl) dX0_init_39 (fun H locs hP hD hS => ?_)
  have hP : va_P E vwCl [(h, .inr (0, [.int (nI 0), .ref q1v, .ref q2v, .ref q3v, .ref q4v, .int (bI false), .ref q5v])), (q1v, .inl (c1v, 30, .inl (fI (fun _ => 0)))), (q2v, .inl (c2v, 6, .inl (fB (fun _ => false)))), (q3v, .inl (c3v, 4, .inl (fB (fun _ => false)))), (q4v, .inl (c4v, 20, .inl (fI (fun _ => 0)))), (q5v, .inl (c5v, 5, .inl (fI (fun _ => 0))))] H := hP
  have hD : va_D (fun q : Nat => q = h ∨ sz ≤ q) [(h, .inr (0, [.int (nI 0), .ref q1v, .ref q2v, .ref q3v, .ref q4v, .int (bI false), .ref q5v])), (q1v, .inl (c1v, 30, .inl (fI (fun _ => 0)))), (q2v, .inl (c2v, 6, .inl (fB (fun _ => false)))), (q3v, .inl (c3v, 4, .inl (fB (fun _ => false)))), (q4v, .inl (c4v, 20, .inl (fI (fun _ => 0)))), (q5v, .inl (c5v, 5, .inl (fI (fun _ => 0))))] := hD
  refine lv_aload_n hx hb dX0_init_42 rfl (lv_at hl 0 rfl) ?_
  refine lv_iconst (v := nI 0) hx hb dX0_init_43 (by decide) ?_
  refine va_put (D := E) (ci := 0) (v := .int (nI 0)) (ty := .int) (C := RX0) (T := TX0) (N := 7) hx hb hts in_X0 tyX0 tyX0_ok nmX0 hown hK hP hD hS 0 rfl rfl 0 (by decide) (hts _ q30) (fun _ h9 => h9) rfl (by decide +kernel) rfl rfl (Nat.le_of_ble_eq_true rfl) dX0_init_44 (fun H locs hP hD hS => ?_)
  have e4 : c4v = c1v := Option.some.inj ((show s.vm.findClass ("[" ++ FieldType.int.toString) = some c4v from (hK.2 3 _ rfl).2).symm.trans (hK.2 0 _ rfl).2)
  have e5 : c5v = c1v := Option.some.inj ((show s.vm.findClass ("[" ++ FieldType.int.toString) = some c5v from (hK.2 4 _ rfl).2).symm.trans (hK.2 0 _ rfl).2)
  have e3 : c3v = c2v := Option.some.inj ((show s.vm.findClass ("[" ++ FieldType.boolean.toString) = some c3v from (hK.2 2 _ rfl).2).symm.trans (hK.2 1 _ rfl).2)
  rw [e3, e4, e5] at hP hD
  obtain ⟨g, hg⟩ : ∃ g : Nat → Nat, g = (fun j => match j with | 0 => h | 1 => q1v | 2 => q2v | 3 => q3v | 4 => q4v | 5 => q5v | 6 => c1v | _ => c2v) := ⟨_, rfl⟩
  have hP : va_P E vwCl (xW g 0 (fun _ => 0) (fun _ => false) (fun _ => false) (fun _ => 0) false (fun _ => 0)) H := by rw [hg]; exact hP
  have hD : va_D (fun q : Nat => q = h ∨ sz ≤ q) (xW g 0 (fun _ => 0) (fun _ => false) (fun _ => false) (fun _ => 0) false (fun _ => 0)) := by rw [hg]; exact hD
  have hK : va_K E vwCl (gT g) s := by rw [hg]; exact hK.sub [0, 1] rfl
  exact f_ret (fun t ht hW => ⟨g, congrFun hg 0, ⟨by rw [ht]; exact hP, va_K.moved hW.alike hK, ⟨hD.1, xW_in⟩⟩, xW_all hD⟩) hS hx hb hr hk dX0_init_47
set_option maxHeartbeats 4000000 in
theorem metX1_init (l : Launch) (E : va_G) (h sz : Nat) : Met l yX1_init (ws_ yX1_init cX1_init 1 none) ({ frames := 1, cells := 4, slots := 2501, locals := 12 }) (va_Pc [.ref h] (fun U => U.heap.size = sz ∧ va_P E vwCl [(h, .inr (1, M0fs))] U.heap ∧ va_K E vwCl [] U)) (qM none (fun t => ∃ g : Nat → Nat, g 0 = h ∧ MI E g 0 (fun _ => 0) (fun _ => false) false (fun _ => 0) (fun _ => 0) t ∧ ∀ q, mA g q → q = h ∨ sz ≤ q) (fun q => q = h ∨ sz ≤ q)) 4 2501 (fun q => q = h ∨ sz ≤ q) := by
  refine m_ofH l (by decide) (Nat.le_of_ble_eq_true rfl) (fun p e s m below meth c ls H locs hHe hS0 S hr hk hin hI hl => ?_)
  obtain ⟨hsz, hP, hK⟩ := hI
  obtain ⟨hx, hb, hml, hown, hts⟩ := id S
  replace hin := hin rfl
  rw [← hHe] at hP
  have hA : ∀ q : Nat, s.heap.size ≤ q → (fun q : Nat => q = h ∨ sz ≤ q) q := fun q hq => Or.inr (by rw [← hsz]; exact hq)
  have hD : va_D (fun q : Nat => q = h ∨ sz ≤ q) [(h, .inr (1, M0fs))] := ⟨fun i j x y hi hj _ => by
    have h1 := (List.getElem?_eq_some_iff.mp hi).1
    have h2 := (List.getElem?_eq_some_iff.mp hj).1
    simp only [List.length_cons, List.length_nil] at h1 h2
    omega, fun k q hq => by
    have h1 := (List.getElem?_eq_some_iff.mp hq).1
    simp only [List.length_cons, List.length_nil] at h1
    obtain rfl : k = 0 := by omega
    cases hq
    exact Or.inl rfl⟩
  have hS := hS0 (fun q : Nat => q = h ∨ sz ≤ q)
  clear hS0
  replace hl : lv_has ls 1 [(0, .ref h)] := hl
  refine lv_aload_n hx hb dX1_init_0 rfl (lv_at hl 0 rfl) ?_
  refine W.objInit hx hb hown (hts _ q160) (hts _ q28) (hts _ q29) rfl (by rw [hml]; exact hl.1) rfl dX1_init_1 (Nat.le_of_ble_eq_true rfl) (Nat.le_of_ble_eq_true rfl) ?_
  refine W.eq (g2 := F0 m 4 ls []) rfl ?_
  refine lv_aload_n hx hb dX1_init_4 rfl (lv_at hl 0 rfl) ?_
  refine lv_bipush (v := nI 30) hx hb dX1_init_5 (by decide) ?_
  refine va_newa (atype := .int) (ty := .int) (N' := 30) (a0 := (30, .inl (fI (fun _ => 0)))) hx hb (hts _ q52) rfl hK hP hD hS hA (fun _ => rfl) (by decide) (by decide) (by decide) (Nat.le_of_ble_eq_true rfl) (Nat.le_of_ble_eq_true rfl) dX1_init_7 (fun q1v c1v H hK hP hD hS => ?_)
  have hP : va_P E vwCl [(h, .inr (1, [.int (nI 0), .null, .null, .int (bI false), .null, .null])), (q1v, .inl (c1v, 30, .inl (fI (fun _ => 0))))] H := hP
  have hD : va_D (fun q : Nat => q = h ∨ sz ≤ q) [(h, .inr (1, [.int (nI 0), .null, .null, .int (bI false), .null, .null])), (q1v, .inl (c1v, 30, .inl (fI (fun _ => 0))))] := hD
  have hK : va_K E vwCl [(c1v, .int)] s := hK
  refine W.widen (k := 1) (n := 30) (Nat.le_of_ble_eq_true rfl) (Nat.le_of_ble_eq_true rfl) ?_
  refine va_putF (D := E) (ci := 1) (v := .ref q1v) (ty := .array .int) (C := RX1) (T := TX1) (N := 6) hx hb hts in_X1 tyX1 tyX1_ok nmX1 hown hK hP hD hS 0 rfl rfl 1 (by decide) (hts _ q162) (fun _ h9 => h9) rfl hin rfl (by decide +kernel) rfl rfl (Nat.le_of_ble_eq_true rfl) dX1_init_9 (fun H locs hP hD hS => ?_)
  have hP : va_P E vwCl [(h, .inr (1, [.int (nI 0), .ref q1v, .null, .int (bI false), .null, .null])), (q1v, .inl (c1v, 30, .inl (fI (fun _ => 0))))] H := hP
  have hD : va_D (fun q : Nat => q = h ∨ sz ≤ q) [(h, .inr (1, [.int (nI 0), .ref q1v, .null, .int (bI false), .null, .null])), (q1v, .inl (c1v, 30, .inl (fI (fun _ => 0))))] := hD
  refine lv_aload_n hx hb dX1_init_12 rfl (lv_at hl 0 rfl) ?_
  refine lv_bipush (v := nI 6) hx hb dX1_init_13 (by decide) ?_
  refine va_newa (atype := .boolean) (ty := .boolean) (N' := 6) (a0 := (6, .inl (fB (fun _ => false)))) hx hb (hts _ q53) rfl hK hP hD hS hA (fun _ => rfl) (by decide) (by decide) (by decide) (Nat.le_of_ble_eq_true rfl) (Nat.le_of_ble_eq_true rfl) dX1_init_15 (fun q2v c2v H hK hP hD hS => ?_)
  have hP : va_P E vwCl [(h, .inr (1, [.int (nI 0), .ref q1v, .null, .int (bI false), .null, .null])), (q1v, .inl (c1v, 30, .inl (fI (fun _ => 0)))), (q2v, .inl (c2v, 6, .inl (fB (fun _ => false))))] H := hP
  have hD : va_D (fun q : Nat => q = h ∨ sz ≤ q) [(h, .inr (1, [.int (nI 0), .ref q1v, .null, .int (bI false), .null, .null])), (q1v, .inl (c1v, 30, .inl (fI (fun _ => 0)))), (q2v, .inl (c2v, 6, .inl (fB (fun _ => false))))] := hD
  have hK : va_K E vwCl [(c1v, .int), (c2v, .boolean)] s := hK
  refine W.widen (k := 2) (n := 36) (Nat.le_of_ble_eq_true rfl) (Nat.le_of_ble_eq_true rfl) ?_
  refine va_putF (D := E) (ci := 1) (v := .ref q2v) (ty := .array .boolean) (C := RX1) (T := TX1) (N := 6) hx hb hts in_X1 tyX1 tyX1_ok nmX1 hown hK hP hD hS 0 rfl rfl 2 (by decide) (hts _ q163) (fun _ h9 => h9) rfl hin rfl (by decide +kernel) rfl rfl (Nat.le_of_ble_eq_true rfl) dX1_init_17 (fun H locs hP hD hS => ?_)
  have hP : va_P E vwCl [(h, .inr (1, [.int (nI 0), .ref q1v, .ref q2v, .int (bI false), .null, .null])), (q1v, .inl (c1v, 30, .inl (fI (fun _ => 0)))), (q2v, .inl (c2v, 6, .inl (fB (fun _ => false))))] H := hP
  have hD : va_D (fun q : Nat => q = h ∨ sz ≤ q) [(h, .inr (1, [.int (nI 0), .ref q1v, .ref q2v, .int (bI false), .null, .null])), (q1v, .inl (c1v, 30, .inl (fI (fun _ => 0)))), (q2v, .inl (c2v, 6, .inl (fB (fun _ => false))))] := hD
  refine lv_aload_n hx hb dX1_init_20 rfl (lv_at hl 0 rfl) ?_
  refine lv_sipush (v := nI 2401) hx hb dX1_init_21 (by decide) ?_
  refine va_newa (atype := .int) (ty := .int) (N' := 2401) (a0 := (2401, .inl (fN (fun _ => 0)))) hx hb (hts _ q52) rfl hK hP hD hS hA (fun _ => rfl) (by decide) (by decide) (by decide) (Nat.le_of_ble_eq_true rfl) (Nat.le_of_ble_eq_true rfl) dX1_init_24 (fun q3v c3v H hK hP hD hS => ?_)
  have hP : va_P E vwCl [(h, .inr (1, [.int (nI 0), .ref q1v, .ref q2v, .int (bI false), .null, .null])), (q1v, .inl (c1v, 30, .inl (fI (fun _ => 0)))), (q2v, .inl (c2v, 6, .inl (fB (fun _ => false)))), (q3v, .inl (c3v, 2401, .inl (fN (fun _ => 0))))] H := hP
  have hD : va_D (fun q : Nat => q = h ∨ sz ≤ q) [(h, .inr (1, [.int (nI 0), .ref q1v, .ref q2v, .int (bI false), .null, .null])), (q1v, .inl (c1v, 30, .inl (fI (fun _ => 0)))), (q2v, .inl (c2v, 6, .inl (fB (fun _ => false)))), (q3v, .inl (c3v, 2401, .inl (fN (fun _ => 0))))] := hD
  have hK : va_K E vwCl [(c1v, .int), (c2v, .boolean), (c3v, .int)] s := hK
  refine W.widen (k := 3) (n := 2437) (Nat.le_of_ble_eq_true rfl) (Nat.le_of_ble_eq_true rfl) ?_
  refine va_putF (D := E) (ci := 1) (v := .ref q3v) (ty := .array .int) (C := RX1) (T := TX1) (N := 6) hx hb hts in_X1 tyX1 tyX1_ok nmX1 hown hK hP hD hS 0 rfl rfl 4 (by decide) (hts _ q165) (fun _ h9 => h9) rfl hin rfl (by decide +kernel) rfl rfl (Nat.le_of_ble_eq_true rfl) dX1_init_26 (fun H locs hP hD hS => ?_)
  have hP : va_P E vwCl [(h, .inr (1, [.int (nI 0), .ref q1v, .ref q2v, .int (bI false), .ref q3v, .null])), (q1v, .inl (c1v, 30, .inl (fI (fun _ => 0)))), (q2v, .inl (c2v, 6, .inl (fB (fun _ => false)))), (q3v, .inl (c3v, 2401, .inl (fN (fun _ => 0))))] H := hP
  have hD : va_D (fun q : Nat => q = h ∨ sz ≤ q) [(h, .inr (1, [.int (nI 0), .ref q1v, .ref q2v, .int (bI false), .ref q3v, .null])), (q1v, .inl (c1v, 30, .inl (fI (fun _ => 0)))), (q2v, .inl (c2v, 6, .inl (fB (fun _ => false)))), (q3v, .inl (c3v, 2401, .inl (fN (fun _ => 0))))] := hD
  refine lv_aload_n hx hb dX1_init_29 rfl (lv_at hl 0 rfl) ?_
  refine lv_bipush (v := nI 64) hx hb dX1_init_30 (by decide) ?_
  refine va_newa (atype := .int) (ty := .int) (N' := 64) (a0 := (64, .inl (fN (fun _ => 0)))) hx hb (hts _ q52) rfl hK hP hD hS hA (fun _ => rfl) (by decide) (by decide) (by decide) (Nat.le_of_ble_eq_true rfl) (Nat.le_of_ble_eq_true rfl) dX1_init_32 (fun q4v c4v H hK hP hD hS => ?_)
  have hP : va_P E vwCl [(h, .inr (1, [.int (nI 0), .ref q1v, .ref q2v, .int (bI false), .ref q3v, .null])), (q1v, .inl (c1v, 30, .inl (fI (fun _ => 0)))), (q2v, .inl (c2v, 6, .inl (fB (fun _ => false)))), (q3v, .inl (c3v, 2401, .inl (fN (fun _ => 0)))), (q4v, .inl (c4v, 64, .inl (fN (fun _ => 0))))] H := hP
  have hD : va_D (fun q : Nat => q = h ∨ sz ≤ q) [(h, .inr (1, [.int (nI 0), .ref q1v, .ref q2v, .int (bI false), .ref q3v, .null])), (q1v, .inl (c1v, 30, .inl (fI (fun _ => 0)))), (q2v, .inl (c2v, 6, .inl (fB (fun _ => false)))), (q3v, .inl (c3v, 2401, .inl (fN (fun _ => 0)))), (q4v, .inl (c4v, 64, .inl (fN (fun _ => 0))))] := hD
  have hK : va_K E vwCl [(c1v, .int), (c2v, .boolean), (c3v, .int), (c4v, .int)] s := hK
  refine W.widen (k := 4) (n := 2501) (Nat.le_of_ble_eq_true rfl) (Nat.le_of_ble_eq_true rfl) ?_
  refine va_putF (D := E) (ci := 1) (v := .ref q4v) (ty := .array .int) (C := RX1) (T := TX1) (N := 6) hx hb hts in_X1 tyX1 tyX1_ok nmX1 hown hK hP hD hS 0 rfl rfl 5 (by decide) (hts _ q166) (fun _ h9 => h9) rfl hin rfl (by decide +kernel) rfl rfl (Nat.le_of_ble_eq_true rfl) dX1_init_34 (fun H locs hP hD hS => ?_)
  have hP : va_P E vwCl [(h, .inr (1, [.int (nI 0), .ref q1v, .ref q2v, .int (bI false), .ref q3v, .ref q4v])), (q1v, .inl (c1v, 30, .inl (fI (fun _ => 0)))), (q2v, .inl (c2v, 6, .inl (fB (fun _ => false)))), (q3v, .inl (c3v, 2401, .inl (fN (fun _ => 0)))), (q4v, .inl (c4v, 64, .inl (fN (fun _ => 0))))] H := hP
  have hD : va_D (fun q : Nat => q = h ∨ sz ≤ q) [(h, .inr (1, [.int (nI 0), .ref q1v, .ref q2v, .int (bI false), .ref q3v, .ref q4v])), (q1v, .inl (c1v, 30, .inl (fI (fun _ => 0)))), (q2v, .inl (c2v, 6, .inl (fB (fun _ => false)))), (q3v, .inl (c3v, 2401, .inl (fN (fun _ => 0)))), (q4v, .inl (c4v, 64, .inl (fN (fun _ => 0))))] := hD
  have e3 : c3v = c1v := Option.some.inj ((show s.vm.findClass ("[" ++ FieldType.int.toString) = some c3v from (hK.2 2 _ rfl).2).symm.trans (hK.2 0 _ rfl).2)
  have e4 : c4v = c1v := Option.some.inj ((show s.vm.findClass ("[" ++ FieldType.int.toString) = some c4v from (hK.2 3 _ rfl).2).symm.trans (hK.2 0 _ rfl).2)
  rw [e3, e4] at hP hD
  obtain ⟨g, hg⟩ : ∃ g : Nat → Nat, g = (fun j => match j with | 0 => h | 1 => q1v | 2 => q2v | 3 => q3v | 4 => q4v | 5 => 0 | 6 => c1v | _ => c2v) := ⟨_, rfl⟩
  have hP : va_P E vwCl (mW g 0 (fun _ => 0) (fun _ => false) false (fun _ => 0) (fun _ => 0)) H := by rw [hg]; exact hP
  have hD : va_D (fun q : Nat => q = h ∨ sz ≤ q) (mW g 0 (fun _ => 0) (fun _ => false) false (fun _ => 0) (fun _ => 0)) := by rw [hg]; exact hD
  have hK : va_K E vwCl (gT g) s := by rw [hg]; exact hK.sub [0, 1] rfl
  exact f_ret (fun t ht hW => ⟨g, congrFun hg 0, ⟨by rw [ht]; exact hP, va_K.moved hW.alike hK, ⟨hD.1, mW_in⟩⟩, mW_all hD⟩) hS hx hb hr hk dX1_init_37
-- a constructor called
section Rows
variable {p : Program} {l : Launch} {e : Env} {R : Room} {s : State} {m : MethodId} {args : Array Value} {below : List Frame} {meth : Method} {c : Code} {H : Heap} {locs : List Loc} {cells slots : Nat} {Q : State → Prop}
variable {cc : ByteArray} {nL pc : Nat} {ls : Array Slot} {rest st : List Value}
theorem i_callM (na : Nat) {own : String} {b index mc ms : Nat} {y : MethodName} {bytes : ByteArray} {maxL : Nat} {rm : Room} {As : List Value} {B P : State → Prop} {A A0 : Nat → Prop} {H0 : Heap} (hM : Met l y (ws_ y bytes maxL none) rm (va_Pc (.ref b :: As) B) (qM none P A) mc ms A) (S : CallFix p m c cc nL s args lw_all own) (hV : GoodIn lw_all (ws_ y bytes maxL none)) (hini : (Cond.initialized y.cls).before args s = true) (hlk : (Cond.methodLink own index y).before args s = true) (hin : (Cond.instanceMethod y).before args s = true) (hnm : y.name = "<init>")
    (hbl : ∀ (U : State) (g : JFrame) (mk : MethodId) (a : Array Value), B U → B (U.calling g mk a)) (hB : ∀ U : State, U.heap = H → s.WarmedH U.vm → B U)
    (hS : va_S A0 H0 H locs) (hA : ∀ q, A q → A0 q)
    (hrc : rm.cells = mc) (hrs : rm.slots = ms) (hd : y.cls ≠ "java/lang/invoke/MethodHandle" ∧ y.cls ≠ "java/lang/invoke/VarHandle" ∧ (parseMethodDescriptor y.desc).map (fun d => d.parameters.length) = some na) (hR : rm.frames + 1 ≤ R.frames ∧ 8 + (maxL + 11) + rm.locals ≤ R.locals)
    (hna : As.length = na) (hsz : ls.size = nL) (hst : st = As.reverse ++ .ref b :: rest) (hW : (rest.map fun v => v.category).sum ≤ 8) (hf : cells + mc ≤ R.cells ∧ slots + ms ≤ R.slots) (hdg : decode cc pc = .ok (.invokespecial index, 3))
    (kk : ∀ (t : State) (H1 : Heap) (locs1 : List Loc), t.heap = H1 → s.vm.Alike t.vm → P t → H.size ≤ H1.size → (∀ q : Nat, q < H.size → ¬ A q → H1[q]? = H[q]?) → va_S A0 H0 H1 locs1 → W p l e R s m args below meth c H1 locs1 (cells + mc) (slots + ms) Q (F0 m (pc + 3) ls rest)) : W p l e R s m args below meth c H locs cells slots Q (F0 m pc ls st) := by
  intro T hT X
  obtain ⟨v', st₀, t, T', L, h0, X', hL, e1, e2, ⟨hv, hp, hz, hk⟩, go⟩ := va_runI (As := As) (rest := rest) (g := F0 m pc ls st) S hM (cwI na S.2.2.2.2 hV rfl hrc hrs hini hlk hin hnm hd hR) ⟨pk_blind hbl, fun U hU hW => ⟨rfl, hB U hU hW⟩⟩ rfl hna hsz hst (lv_room (m := m) (pc := pc) (ls := ls) (rest := st) hW) hdg hf T hT X
  cases hv
  rw [h0] at hz hk
  obtain ⟨t2, a1, b1⟩ := kk t T'.heap (locs ++ L) e1.symm (by rw [← e2]; exact X'.warmed.alike) hp (by rw [e1]; exact hz) (fun q h1 h2 => by rw [e1]; exact hk q h1 h2)
    ⟨Nat.le_trans hS.1 (by rw [e1]; exact hz), fun q h1 h2 => by rw [e1, hk q (Nat.lt_of_lt_of_le h1 hS.1) (fun z => h2 (hA q z))]; exact hS.2.1 q h1 h2, fun q hq => by
      rcases List.mem_append.mp hq with h | h
      · exact hS.2.2 q h
      · exact hA _ (hL q h)⟩ T' rfl X'
  exact ⟨t2, go t2 a1, b1⟩
end Rows
end
section
set_option maxRecDepth 100000
/-! ===== plain mathematics: numbers mod 7 ===== -/
theorem d7_add (a b : Nat) : d7 (a + b) = d7 a + d7 b := by
  apply Fin.ext
  rw [Fin.val_add]
  show (a + b) % 7 = (a % 7 + b % 7) % 7
  omega
theorem d7_mul (a b : Nat) : d7 (a * b) = d7 a * d7 b := by
  apply Fin.ext
  rw [Fin.val_mul]
  exact Nat.mul_mod a b 7
theorem d7_val (x : Fin 7) : d7 x.val = x := Fin.ext (Nat.mod_eq_of_lt x.isLt)
theorem d7_lt {a : Nat} (h : a < 7) : (d7 a).val = a := Nat.mod_eq_of_lt h
theorem z7_nat (a : Nat) : z7 (a : Int) = d7 a := by
  apply Fin.ext
  have := z7_val (a : Int)
  show (z7 (a : Int)).val = a % 7
  omega
theorem z7_sub (a b : Int) : z7 (a - b) = z7 a - z7 b := by
  apply Fin.ext
  have h1 := z7_val (a - b)
  have h2 := z7_val a
  have h3 := z7_val b
  rw [Fin.sub_def]
  show (z7 (a - b)).val = (7 - (z7 b).val + (z7 a).val) % 7
  have h4 := (z7 b).isLt
  omega
theorem z7_mul (a b : Int) : z7 (a * b) = z7 a * z7 b := by
  apply Fin.ext
  have h1 := z7_val (a * b)
  have h2 := z7_val a
  have h3 := z7_val b
  rw [Fin.val_mul]
  have h5 : (a * b) % 7 = (((z7 a).val : Int) * ((z7 b).val : Int)) % 7 := by rw [h2, h3, ← Int.mul_emod]
  have h6 : (((z7 a).val * (z7 b).val % 7 : Nat) : Int) = (((z7 a).val : Int) * ((z7 b).val : Int)) % 7 := by rw [← Int.natCast_mul]; omega
  omega
theorem f7_mul0 : ∀ a b : Fin 7, a * b = 0 → a ≠ 0 → b = 0 := by decide +kernel
/-- the row c at the assignment x: left side less right side -/
def ev (c x : Nat → Fin 7) : Fin 7 := c 0 * x 0 + c 1 * x 1 + c 2 * x 2 + c 3 * x 3 - c 4
def row5 (R : Nat → Fin 7) (u : Nat) : Nat → Fin 7 := fun j => R (u * 5 + j)
theorem ev_sub (c d x : Nat → Fin 7) (f : Fin 7) (e : Nat → Fin 7) (h : ∀ j, j < 5 → e j = c j - f * d j) : ev e x = ev c x - f * ev d x := by
  unfold ev
  rw [h 0 (by decide), h 1 (by decide), h 2 (by decide), h 3 (by decide), h 4 (by decide)]
  grind
theorem ev_smul (c x : Nat → Fin 7) (f : Fin 7) (e : Nat → Fin 7) (h : ∀ j, j < 5 → e j = c j * f) : ev e x = f * ev c x := by
  unfold ev
  rw [h 0 (by decide), h 1 (by decide), h 2 (by decide), h 3 (by decide), h 4 (by decide)]
  grind
theorem ev_congr (c d x : Nat → Fin 7) (h : ∀ j, j < 5 → c j = d j) : ev c x = ev d x := by
  unfold ev
  rw [h 0 (by decide), h 1 (by decide), h 2 (by decide), h 3 (by decide), h 4 (by decide)]
theorem ev_congrX (c x y : Nat → Fin 7) (h : ∀ j, j < 4 → x j = y j) : ev c x = ev c y := by
  unfold ev
  rw [h 0 (by decide), h 1 (by decide), h 2 (by decide), h 3 (by decide)]
end
section
set_option maxRecDepth 100000
/-! ===== the echelon form, and what reduce does ===== -/
def Ech (D : Nat → Bool) (R : Nat → Fin 7) : Prop := ∀ u, u < 4 → D u = true → R (u * 5 + u) = 1 ∧ (∀ w, u < w → w < 4 → R (u * 5 + w) = 0) ∧ (∀ w, w < u → D w = true → R (u * 5 + w) = 0)
def Rows (D : Nat → Bool) (R : Nat → Fin 7) (x : Nat → Fin 7) : Prop := ∀ u, u < 4 → D u = true → ev (row5 R u) x = 0
/-- behind the unknowns from u on -/
def RInv (D : Nat → Bool) (R K0 : Nat → Fin 7) (u : Nat) (z : (Nat → Fin 7) × Option Nat) : Prop :=
  (∀ w, u ≤ w → w < 4 → D w = true → z.1 w = 0) ∧ (z.2 = none → ∀ w, u ≤ w → w < 4 → z.1 w = 0) ∧ (∀ v, z.2 = some v → u ≤ v ∧ v < 4 ∧ D v = false ∧ z.1 v ≠ 0 ∧ ∀ w, v < w → w < 4 → z.1 w = 0) ∧ ∀ x, Rows D R x → ev z.1 x = ev K0 x
theorem rStep_inv {D : Nat → Bool} {R K0 : Nat → Fin 7} (hE : Ech D R) {u : Nat} (hu : u < 4) {z : (Nat → Fin 7) × Option Nat} (h : RInv D R K0 (u + 1) z) : RInv D R K0 u (rStep D R u z) := by
  obtain ⟨h1, h2, h3, h4⟩ := h
  unfold rStep
  by_cases hc : z.1 u ≠ 0 ∧ D u = true
  · rw [if_pos hc]
    obtain ⟨e1, e2, e3⟩ := hE u hu hc.2
    have hel : ∀ j, j < 5 → el R u (z.1 u) z.1 5 j = z.1 j - z.1 u * R (u * 5 + j) := fun j hj => by simp [el, hj]
    have hgt : ∀ w, u < w → w < 4 → el R u (z.1 u) z.1 5 w = z.1 w := by
      intro w hw1 hw2
      rw [hel w (by omega), e2 w hw1 hw2]
      grind
    have heq : el R u (z.1 u) z.1 5 u = 0 := by
      rw [hel u (by omega), e1]
      grind
    refine ⟨?_, ?_, ?_, ?_⟩
    · intro w hw1 hw2 hw3
      by_cases hwu : w = u
      · subst hwu; exact heq
      · show el R u (z.1 u) z.1 5 w = 0
        rw [hgt w (by omega) hw2]
        exact h1 w (by omega) hw2 hw3
    · intro ht w hw1 hw2
      by_cases hwu : w = u
      · subst hwu; exact heq
      · show el R u (z.1 u) z.1 5 w = 0
        rw [hgt w (by omega) hw2]
        exact h2 ht w (by omega) hw2
    · intro v hv
      obtain ⟨a1, a2, a3, a4, a5⟩ := h3 v hv
      refine ⟨by omega, a2, a3, ?_, ?_⟩
      · show el R u (z.1 u) z.1 5 v ≠ 0
        rw [hgt v (by omega) a2]
        exact a4
      · intro w hw1 hw2
        show el R u (z.1 u) z.1 5 w = 0
        rw [hgt w (by omega) hw2]
        exact a5 w hw1 hw2
    · intro x hx
      show ev (el R u (z.1 u) z.1 5) x = ev K0 x
      rw [ev_sub z.1 (row5 R u) x (z.1 u) _ hel, hx u hu hc.2, h4 x hx]
      grind
  · rw [if_neg hc]
    by_cases hc2 : z.1 u ≠ 0 ∧ z.2 = none
    · rw [if_pos hc2]
      have hD : D u = false := by
        cases hDu : D u with
        | false => rfl
        | true => exact absurd ⟨hc2.1, hDu⟩ hc
      refine ⟨?_, ?_, ?_, h4⟩
      · intro w hw1 hw2 hw3
        by_cases hwu : w = u
        · subst hwu; rw [hD] at hw3; cases hw3
        · exact h1 w (by omega) hw2 hw3
      · intro ht; cases ht
      · intro v hv
        cases hv
        exact ⟨Nat.le_refl _, hu, hD, hc2.1, fun w hw1 hw2 => h2 hc2.2 w (by omega) hw2⟩
    · rw [if_neg hc2]
      refine ⟨?_, ?_, ?_, h4⟩
      · intro w hw1 hw2 hw3
        by_cases hwu : w = u
        · subst hwu
          exact Classical.byContradiction fun hz => hc ⟨hz, hw3⟩
        · exact h1 w (by omega) hw2 hw3
      · intro ht w hw1 hw2
        by_cases hwu : w = u
        · subst hwu
          exact Classical.byContradiction fun hz => hc2 ⟨hz, ht⟩
        · exact h2 ht w (by omega) hw2
      · intro v hv
        obtain ⟨a1, a2⟩ := h3 v hv
        exact ⟨by omega, a2⟩
theorem rN_inv {D : Nat → Bool} {R K0 : Nat → Fin 7} (hE : Ech D R) : ∀ (u : Nat), u ≤ 4 → ∀ {z : (Nat → Fin 7) × Option Nat}, RInv D R K0 u z → RInv D R K0 0 (rN D R u z)
  | 0, _, _, h => h
  | u + 1, hu, _, h => rN_inv hE u (by omega) (rStep_inv hE (by omega) h)
theorem red_inv {D : Nat → Bool} {R : Nat → Fin 7} (hE : Ech D R) (K : Nat → Fin 7) : RInv D R K 0 (red D R K) :=
  rN_inv hE 4 (Nat.le_refl 4) ⟨fun w h1 h2 => absurd h1 (by omega), fun _ w h1 h2 => absurd h1 (by omega), (fun v h => by cases h), fun x _ => rfl⟩
/-! ===== what keep does ===== -/
theorem kUp_row (D : Nat → Bool) {u : Nat} (hu5 : u < 5) (R : Nat → Fin 7) : ∀ t, ∀ w j, j < 5 → kUp D u R t (w * 5 + j) = if u < w ∧ w < u + 1 + t ∧ D w = true then R (w * 5 + j) - R (w * 5 + u) * R (u * 5 + j) else R (w * 5 + j) := by
  intro t
  induction t with
  | zero =>
    intro w j hj
    rw [if_neg (by omega)]
    rfl
  | succ t ih =>
    intro w j hj
    show kStep D u (u + 1 + t) (kUp D u R t) (w * 5 + j) = _
    have hrow : kUp D u R t (u * 5 + j) = R (u * 5 + j) := by rw [ih u j hj, if_neg (by omega)]
    have hcol : kUp D u R t ((u + 1 + t) * 5 + u) = R ((u + 1 + t) * 5 + u) := by rw [ih (u + 1 + t) u hu5, if_neg (by omega)]
    unfold kStep
    rw [hcol]
    by_cases hw : w = u + 1 + t
    · subst hw
      have hself : kUp D u R t ((u + 1 + t) * 5 + j) = R ((u + 1 + t) * 5 + j) := by rw [ih (u + 1 + t) j hj, if_neg (by omega)]
      by_cases hD : D (u + 1 + t) = true
      · rw [if_pos (⟨by omega, by omega, hD⟩ : u < u + 1 + t ∧ u + 1 + t < u + 1 + (t + 1) ∧ D (u + 1 + t) = true)]
        by_cases hf : R ((u + 1 + t) * 5 + u) = 0
        · rw [if_neg (fun h => h.2 hf), hself, hf]
          grind
        · rw [if_pos ⟨hD, hf⟩]
          unfold kSub
          rw [if_pos ⟨by omega, by omega⟩, hself, show u * 5 + ((u + 1 + t) * 5 + j - (u + 1 + t) * 5) = u * 5 + j by omega, hrow]
      · rw [if_neg (fun h => hD h.1), if_neg (fun h => hD h.2.2), hself]
    · have hsame : (if D (u + 1 + t) = true ∧ R ((u + 1 + t) * 5 + u) ≠ 0 then kSub (kUp D u R t) (u + 1 + t) u (R ((u + 1 + t) * 5 + u)) 5 else kUp D u R t) (w * 5 + j) = kUp D u R t (w * 5 + j) := by
        split
        · unfold kSub
          rw [if_neg (by omega)]
        · rfl
      rw [hsame, ih w j hj]
      by_cases hc : u < w ∧ w < u + 1 + t ∧ D w = true
      · rw [if_pos hc, if_pos ⟨hc.1, by omega, hc.2.2⟩]
      · rw [if_neg hc, if_neg (fun h => hc ⟨h.1, by omega, h.2.2⟩)]
/-- the rows behind keep -/
theorem keep_u (D : Nat → Bool) (R K : Nat → Fin 7) {u : Nat} (hu : u < 4) {j : Nat} (hj : j < 5) : keepR D R K u (u * 5 + j) = K j * iv (K u) := by
  unfold keepR
  rw [kUp_row _ (by omega) _ _ u j hj, if_neg (by omega)]
  unfold kRow
  rw [if_pos ⟨by omega, by omega⟩, show u * 5 + j - u * 5 = j by omega]
theorem keep_lo (D : Nat → Bool) (R K : Nat → Fin 7) {u w : Nat} (hu : u < 4) (hw : w < u ∨ D w = false) (hwu : w ≠ u) {j : Nat} (hj : j < 5) : keepR D R K u (w * 5 + j) = R (w * 5 + j) := by
  unfold keepR
  have hD : va_up D u true w = D w := by simp [va_up, hwu]
  rw [kUp_row _ (by omega) _ _ w j hj, if_neg (fun h => by
    rcases hw with h1 | h1
    · omega
    · rw [hD, h1] at h
      exact absurd h.2.2 (by decide))]
  unfold kRow
  rw [if_neg (by omega)]
theorem keep_hi (D : Nat → Bool) (R K : Nat → Fin 7) {u w : Nat} (hu : u < w) (hw : w < 4) (hD : D w = true) {j : Nat} (hj : j < 5) : keepR D R K u (w * 5 + j) = R (w * 5 + j) - R (w * 5 + u) * (K j * iv (K u)) := by
  unfold keepR
  have hD2 : va_up D u true w = true := by simp [va_up, hD]
  rw [kUp_row _ (by omega) _ _ w j hj, if_pos ⟨hu, by omega, hD2⟩]
  unfold kRow
  rw [if_neg (by omega), if_neg (by omega), if_pos ⟨by omega, by omega⟩, show u * 5 + j - u * 5 = j by omega]
theorem keep_ech {D : Nat → Bool} {R K : Nat → Fin 7} {u : Nat} (hE : Ech D R) (hu : u < 4) (hDu : D u = false) (hK : ∀ w, w < 4 → D w = true → K w = 0) (hKu : K u ≠ 0) (hhi : ∀ w, u < w → w < 4 → K w = 0) : Ech (va_up D u true) (keepR D R K u) := by
  have hone := iv_mul (K u) hKu
  intro v hv hDv
  by_cases hvu : v = u
  · subst hvu
    refine ⟨?_, ?_, ?_⟩
    · rw [keep_u D R K hv (by omega)]; exact hone
    · intro w h1 h2
      rw [keep_u D R K hv (by omega), hhi w h1 h2]
      grind
    · intro w h1 h2
      have hDw : D w = true := by simpa [va_up, show w ≠ v by omega] using h2
      rw [keep_u D R K hv (by omega), hK w (by omega) hDw]
      grind
  · have hDv' : D v = true := by simpa [va_up, hvu] using hDv
    obtain ⟨e1, e2, e3⟩ := hE v hv hDv'
    by_cases hlt : v < u
    · refine ⟨?_, ?_, ?_⟩
      · rw [keep_lo D R K hu (Or.inl hlt) hvu (by omega)]; exact e1
      · intro w h1 h2
        rw [keep_lo D R K hu (Or.inl hlt) hvu (by omega)]; exact e2 w h1 h2
      · intro w h1 h2
        have hDw : D w = true := by simpa [va_up, show w ≠ u by omega] using h2
        rw [keep_lo D R K hu (Or.inl hlt) hvu (by omega)]; exact e3 w h1 hDw
    · have hgt : u < v := by omega
      refine ⟨?_, ?_, ?_⟩
      · rw [keep_hi D R K hgt hv hDv' (by omega), e1, hhi v hgt hv]
        grind
      · intro w h1 h2
        rw [keep_hi D R K hgt hv hDv' (by omega), e2 w h1 h2, hhi w (by omega) h2]
        grind
      · intro w h1 h2
        rw [keep_hi D R K hgt hv hDv' (by omega)]
        by_cases hwu : w = u
        · subst hwu
          rw [hone]
          grind
        · have hDw : D w = true := by simpa [va_up, hwu] using h2
          rw [e3 w h1 hDw, hK w (by omega) hDw]
          grind
theorem keep_rows {D : Nat → Bool} {R K : Nat → Fin 7} {u : Nat} (hu : u < 4) (hDu : D u = false) (hKu : K u ≠ 0) (x : Nat → Fin 7) : Rows (va_up D u true) (keepR D R K u) x ↔ Rows D R x ∧ ev K x = 0 := by
  have hone := iv_mul (K u) hKu
  have hrow : ev (row5 (keepR D R K u) u) x = iv (K u) * ev K x := ev_smul K x (iv (K u)) _ (fun j hj => keep_u D R K hu hj)
  have hhi : ∀ w, u < w → w < 4 → D w = true → ev (row5 (keepR D R K u) w) x = ev (row5 R w) x - R (w * 5 + u) * ev (row5 (keepR D R K u) u) x := by
    intro w h1 h2 h3
    refine ev_sub (row5 R w) (row5 (keepR D R K u) u) x (R (w * 5 + u)) _ (fun j hj => ?_)
    show keepR D R K u (w * 5 + j) = R (w * 5 + j) - R (w * 5 + u) * keepR D R K u (u * 5 + j)
    rw [keep_hi D R K h1 h2 h3 hj, keep_u D R K hu hj]
  have hlo : ∀ w, w < u → ev (row5 (keepR D R K u) w) x = ev (row5 R w) x := fun w h1 => ev_congr _ _ x (fun j hj => keep_lo D R K hu (Or.inl h1) (by omega) hj)
  constructor
  · intro h
    have h0 : ev (row5 (keepR D R K u) u) x = 0 := h u hu (by simp [va_up])
    have hk : ev K x = 0 := by
      rw [hrow] at h0
      have h1 : K u * (iv (K u) * ev K x) = 0 := by rw [h0]; grind
      have h2 : K u * (iv (K u) * ev K x) = (K u * iv (K u)) * ev K x := by grind
      rw [h2, hone] at h1
      grind
    refine ⟨fun v hv hDv => ?_, hk⟩
    have hvu : v ≠ u := fun e => by rw [e, hDu] at hDv; cases hDv
    have h1 := h v hv (by simp [va_up, hDv])
    by_cases hlt : v < u
    · rw [hlo v hlt] at h1; exact h1
    · rw [hhi v (by omega) hv hDv, h0] at h1
      grind
  · rintro ⟨h, hk⟩ v hv hDv
    have h0 : ev (row5 (keepR D R K u) u) x = 0 := by rw [hrow, hk]; grind
    by_cases hvu : v = u
    · subst hvu; exact h0
    · have hDv' : D v = true := by simpa [va_up, hvu] using hDv
      by_cases hlt : v < u
      · rw [hlo v hlt]; exact h v hv hDv'
      · rw [hhi v (by omega) hv hDv', h0, h v hv hDv']
        grind
end
section
set_option maxRecDepth 100000
/-! ===== what solveSet does ===== -/
def SatTo (N : Nat → Fin 7) (e b : Nat) (x : Nat → Fin 7) : Prop := ∀ q, q < e → b.testBit q = true → ev (row5 N q) x = 0
theorem SatTo.up {N : Nat → Fin 7} {e b : Nat} {x : Nat → Fin 7} : SatTo N (e + 1) b x ↔ SatTo N e b x ∧ (b.testBit e = true → ev (row5 N e) x = 0) := by
  constructor
  · intro h
    exact ⟨fun q h1 h2 => h q (by omega) h2, fun h2 => h e (by omega) h2⟩
  · rintro ⟨h1, h2⟩ q hq hb
    by_cases hqe : q = e
    · subst hqe; exact h2 hb
    · exact h1 q (by omega) hb
theorem SatTo.same {N : Nat → Fin 7} {e p : Nat} (hp : ∀ q, p.testBit q = true → q < e) {x : Nat → Fin 7} : SatTo N (e + 1) p x ↔ SatTo N e p x := by
  rw [SatTo.up]
  exact ⟨fun h => h.1, fun h => ⟨h, fun h2 => absurd (hp e h2) (by omega)⟩⟩
theorem SatTo.set {N : Nat → Fin 7} {e p : Nat} (hp : ∀ q, p.testBit q = true → q < e) {x : Nat → Fin 7} : SatTo N (e + 1) (p ||| 2 ^ e) x ↔ SatTo N e p x ∧ ev (row5 N e) x = 0 := by
  rw [SatTo.up]
  constructor
  · rintro ⟨h1, h2⟩
    refine ⟨fun q hq hb => h1 q hq ?_, h2 ?_⟩
    · rw [Nat.testBit_or, hb]; rfl
    · rw [Nat.testBit_or, Nat.testBit_two_pow_self, Bool.or_true]
  · rintro ⟨h1, h2⟩
    refine ⟨fun q hq hb => h1 q hq ?_, fun _ => h2⟩
    rw [Nat.testBit_or, Nat.testBit_two_pow] at hb
    simpa [show ¬ e = q by omega] using hb
theorem on1_bit (b e : Nat) : on1 b (e + 1) = on1 b e + (b.testBit e).toNat := by
  rw [on1, ← Nat.toNat_testBit]
theorem on1_set {p e : Nat} (h : p.testBit e = false) : ∀ k, on1 (p ||| 2 ^ e) k = on1 p k + if e < k then 1 else 0
  | 0 => by simp [on1]
  | k + 1 => by
    have ih := on1_set h k
    rw [on1_bit, on1_bit, ih, Nat.testBit_or, Nat.testBit_two_pow]
    by_cases hek : e = k
    · subst hek
      simp [h]
    · by_cases h1 : e < k
      · simp [hek, h1, show e < k + 1 by omega]
        omega
      · simp [hek, h1, show ¬ e < k + 1 by omega]
theorem ctD_up {D : Nat → Bool} {u : Nat} (h : D u = false) : ∀ k, ctD (va_up D u true) k = ctD D k + if u < k then 1 else 0
  | 0 => by simp [ctD]
  | k + 1 => by
    have ih := ctD_up h k
    rw [ctD, ctD, ih]
    by_cases huk : k = u
    · subst huk
      simp [va_up, h]
    · have hv : va_up D u true k = D k := by simp [va_up, huk]
      rw [hv]
      by_cases h1 : u < k
      · simp only [h1, show u < k + 1 by omega, if_true]
        split <;> omega
      · simp only [h1, show ¬ u < k + 1 by omega, if_false]
        split <;> omega
theorem ev_zero {K x : Nat → Fin 7} (h : ∀ w, w < 4 → K w = 0) : ev K x = 0 - K 4 := by
  unfold ev
  rw [h 0 (by decide), h 1 (by decide), h 2 (by decide), h 3 (by decide)]
  grind
def SInv (N : Nat → Fin 7) (b e : Nat) (z : SV) : Prop :=
  Ech z.1 z.2.1 ∧ (z.2.2.1 = false → ∀ x, Rows z.1 z.2.1 x ↔ SatTo N e b x) ∧ (z.2.2.1 = true → ∀ x, ¬ SatTo N e b x) ∧ ctD z.1 4 ≤ on1 b e ∧ (z.2.2.1 = false → ∃ p : Nat, (∀ q, p.testBit q = true → q < e ∧ b.testBit q = true) ∧ on1 p 6 = ctD z.1 4 ∧ ∀ x, Rows z.1 z.2.1 x ↔ SatTo N e p x)
theorem svStep_inv {N : Nat → Fin 7} {b e : Nat} (he : e < 6) {z : SV} (h : SInv N b e z) : SInv N b (e + 1) (svStep N b e z) := by
  obtain ⟨h1, h2, h3, h4, h5⟩ := h
  unfold svStep
  cases hb : b.testBit e with
  | false =>
    rw [if_neg (by decide)]
    have hup : ∀ x, SatTo N (e + 1) b x ↔ SatTo N e b x := fun x => by rw [SatTo.up, hb]; simp
    refine ⟨h1, fun hc x => (h2 hc x).trans (hup x).symm, fun hc x hx => h3 hc x ((hup x).mp hx), by rw [on1_bit, hb]; exact h4, fun hc => ?_⟩
    obtain ⟨p, p1, p2, p3⟩ := h5 hc
    exact ⟨p, fun q hq => ⟨by have := (p1 q hq).1; omega, (p1 q hq).2⟩, p2, fun x => (p3 x).trans (SatTo.same (fun q hq => (p1 q hq).1)).symm⟩
  | true =>
    rw [if_pos rfl]
    have hup : ∀ x, SatTo N (e + 1) b x ↔ SatTo N e b x ∧ ev (row5 N e) x = 0 := fun x => by rw [SatTo.up, hb]; simp
    obtain ⟨r1, r2, r3, r4⟩ := red_inv h1 (fun j => N (e * 5 + j))
    rcases hred : red z.1 z.2.1 (fun j => N (e * 5 + j)) with ⟨K, t⟩
    rw [hred] at r1 r2 r3 r4
    replace r4 : ∀ x, Rows z.1 z.2.1 x → ev K x = ev (row5 N e) x := r4
    have hon : on1 b (e + 1) = on1 b e + 1 := by rw [on1_bit, hb]; rfl
    cases t with
    | none =>
      have hz : ∀ w, w < 4 → K w = 0 := fun w hw => r2 rfl w (Nat.zero_le w) hw
      refine ⟨h1, ?_, ?_, by show ctD z.1 4 ≤ _; omega, ?_⟩
      · intro hc x
        have hc : (z.2.2.1 || decide (K 4 ≠ 0)) = false := hc
        rw [Bool.or_eq_false_iff] at hc
        have hk4 : K 4 = 0 := by simpa using hc.2
        rw [hup x]
        refine ⟨fun hx => ⟨(h2 hc.1 x).mp hx, ?_⟩, fun hx => (h2 hc.1 x).mpr hx.1⟩
        rw [← r4 x hx, ev_zero hz, hk4]
        grind
      · intro hc x hx
        have hc : (z.2.2.1 || decide (K 4 ≠ 0)) = true := hc
        rw [hup x] at hx
        cases hz1 : z.2.2.1 with
        | true => exact h3 hz1 x hx.1
        | false =>
          rw [hz1] at hc
          have hk4 : K 4 ≠ 0 := by simpa using hc
          have hr := (h2 hz1 x).mpr hx.1
          have := r4 x hr
          rw [hx.2, ev_zero hz] at this
          exact hk4 (by grind)
      · intro hc
        have hc : (z.2.2.1 || decide (K 4 ≠ 0)) = false := hc
        rw [Bool.or_eq_false_iff] at hc
        obtain ⟨p, p1, p2, p3⟩ := h5 hc.1
        exact ⟨p, fun q hq => ⟨by have := (p1 q hq).1; omega, (p1 q hq).2⟩, p2, fun x => (p3 x).trans (SatTo.same (fun q hq => (p1 q hq).1)).symm⟩
    | some u =>
      obtain ⟨-, hu, hDu, hKu, hhi⟩ := r3 u rfl
      have hDu : z.1 u = false := hDu
      have hKu : K u ≠ 0 := hKu
      have hR : ∀ x, Rows (va_up z.1 u true) (keepR z.1 z.2.1 K u) x ↔ Rows z.1 z.2.1 x ∧ ev (row5 N e) x = 0 := by
        intro x
        rw [keep_rows hu hDu hKu x]
        exact ⟨fun h => ⟨h.1, by rw [← r4 x h.1]; exact h.2⟩, fun h => ⟨h.1, by rw [r4 x h.1]; exact h.2⟩⟩
      refine ⟨keep_ech h1 hu hDu (fun w hw hD => r1 w (Nat.zero_le w) hw hD) hKu hhi, ?_, ?_, ?_, ?_⟩
      · intro hc x
        have hc : z.2.2.1 = false := hc
        rw [hup x, ← h2 hc x]
        exact hR x
      · intro hc x hx
        exact h3 hc x ((hup x).mp hx).1
      · show ctD (va_up z.1 u true) 4 ≤ _
        rw [ctD_up hDu, if_pos hu]
        omega
      · intro hc
        have hc : z.2.2.1 = false := hc
        obtain ⟨p, p1, p2, p3⟩ := h5 hc
        have hpe : p.testBit e = false := by
          cases hq : p.testBit e with
          | false => rfl
          | true => exact absurd (p1 e hq).1 (by omega)
        refine ⟨p ||| 2 ^ e, ?_, ?_, ?_⟩
        · intro q hq
          by_cases hqe : q = e
          · subst hqe; exact ⟨by omega, hb⟩
          · rw [Nat.testBit_or, Nat.testBit_two_pow] at hq
            have hq : p.testBit q = true := by simpa [show ¬ e = q by omega] using hq
            exact ⟨by have := (p1 q hq).1; omega, (p1 q hq).2⟩
        · show on1 (p ||| 2 ^ e) 6 = ctD (va_up z.1 u true) 4
          rw [on1_set hpe, if_pos he, ctD_up hDu, if_pos hu, p2]
        · intro x
          rw [SatTo.set (fun q hq => (p1 q hq).1), ← p3 x]
          exact hR x
theorem sv_inv (N : Nat → Fin 7) (b : Nat) (R K : Nat → Fin 7) : ∀ e, e ≤ 6 → SInv N b e (sv N b R K e)
  | 0, _ => by
    refine ⟨(fun u _ h => by cases h), (fun _ x => ⟨fun _ q hq => absurd hq (by omega), (fun _ u _ h => by cases h)⟩), (fun h => by cases h), ?_, fun _ => ⟨0, fun q h => ?_, ?_, fun x => ⟨fun _ q hq => absurd hq (by omega), (fun _ u _ h => by cases h)⟩⟩⟩
    · show ctD (fun _ => false) 4 ≤ 0
      decide
    · rw [Nat.zero_testBit] at h; cases h
    · show on1 0 6 = ctD (fun _ => false) 4
      decide
  | e + 1, he => svStep_inv (by omega) (sv_inv N b R K e (by omega))
end
section
set_option maxRecDepth 100000
/-! ===== assignments by number ===== -/
def dgX (i : Nat) : Nat → Fin 7 := fun u => d7 (dgt i u)
def ix (x : Nat → Fin 7) : Nat := (((x 0).val * 7 + (x 1).val) * 7 + (x 2).val) * 7 + (x 3).val
theorem ix_lt (x : Nat → Fin 7) : ix x < 2401 := by
  have h0 := (x 0).isLt
  have h1 := (x 1).isLt
  have h2 := (x 2).isLt
  have h3 := (x 3).isLt
  unfold ix
  omega
theorem dgt_ix (x : Nat → Fin 7) {u : Nat} (hu : u < 4) : dgt (ix x) u = (x u).val := by
  have h0 := (x 0).isLt
  have h1 := (x 1).isLt
  have h2 := (x 2).isLt
  have h3 := (x 3).isLt
  unfold dgt ix
  rcases (show u = 0 ∨ u = 1 ∨ u = 2 ∨ u = 3 by omega) with rfl | rfl | rfl | rfl
  · simp <;> omega
  · simp <;> omega
  · simp <;> omega
  · simp <;> omega
theorem dgX_ix (x : Nat → Fin 7) {u : Nat} (hu : u < 4) : dgX (ix x) u = x u := by
  unfold dgX
  rw [dgt_ix x hu, d7_val]
theorem dgX_val {i : Nat} (hi : i < 2401) (u : Nat) : (dgX i u).val = dgt i u := d7_lt (dgt_lt hi)
theorem bk_bit (N : Nat → Fin 7) (a b c d q : Nat) : ∀ n, (bkN N a b c d n).testBit q = (decide (q < n) && !decide (lhs N a b c d q % 7 = (N (q * 5 + 4)).val))
  | 0 => by simp [bkN]
  | n + 1 => by
    have ih := bk_bit N a b c d q n
    unfold bkN
    by_cases hqn : q = n
    · subst hqn
      have h0 : (bkN N a b c d q).testBit q = false := by rw [ih]; simp
      split
      · rename_i h
        rw [h0]
        simp [h]
      · rename_i h
        rw [Nat.testBit_or, Nat.testBit_two_pow_self, h0]
        simp [h]
    · have hd : decide (q < n + 1) = decide (q < n) := by
        apply decide_eq_decide.mpr
        omega
      rw [hd]
      split
      · exact ih
      · rw [Nat.testBit_or, Nat.testBit_two_pow, ih]
        simp [show ¬ n = q by omega]
theorem lhs_ev (N : Nat → Fin 7) (a b c d q : Nat) (x : Nat → Fin 7) (h0 : x 0 = d7 a) (h1 : x 1 = d7 b) (h2 : x 2 = d7 c) (h3 : x 3 = d7 d) : lhs N a b c d q % 7 = (N (q * 5 + 4)).val ↔ ev (row5 N q) x = 0 := by
  have he : d7 (lhs N a b c d q) = N (q * 5) * x 0 + N (q * 5 + 1) * x 1 + N (q * 5 + 2) * x 2 + N (q * 5 + 3) * x 3 := by
    unfold lhs
    rw [d7_add, d7_add, d7_add, d7_mul, d7_mul, d7_mul, d7_mul, d7_val, d7_val, d7_val, d7_val, h0, h1, h2, h3]
  have hev : ev (row5 N q) x = d7 (lhs N a b c d q) - N (q * 5 + 4) := by
    rw [he]
    rfl
  rw [hev]
  constructor
  · intro h
    have h5 : d7 (lhs N a b c d q) = N (q * 5 + 4) := Fin.ext h
    rw [h5]
    grind
  · intro h
    have h5 : d7 (lhs N a b c d q) = N (q * 5 + 4) := by grind
    exact congrArg Fin.val h5
theorem and_zero (a b : Nat) : a &&& b = 0 ↔ ∀ q, b.testBit q = true → a.testBit q = false := by
  constructor
  · intro h q hb
    have h1 : (a &&& b).testBit q = false := by rw [h, Nat.zero_testBit]
    rw [Nat.testBit_and, hb, Bool.and_true] at h1
    exact h1
  · intro h
    apply Nat.eq_of_testBit_eq
    intro q
    rw [Nat.testBit_and, Nat.zero_testBit]
    cases hb : b.testBit q with
    | false => rw [Bool.and_false]
    | true => rw [h q hb]; rfl
theorem brk_bit (N : Nat → Fin 7) (n q : Nat) {i : Nat} (hi : i < 2401) : (brk N n i).testBit q = (decide (q < n) && !decide (ev (row5 N q) (dgX i) = 0)) := by
  unfold brk
  rw [bk_bit]
  have h := lhs_ev N (i / 343) (i / 49 % 7) (i / 7 % 7) (i % 7) q (dgX i) rfl rfl rfl rfl
  rw [decide_eq_decide.mpr h]
theorem brk_sat (N : Nat → Fin 7) (n b : Nat) {i : Nat} (hi : i < 2401) : brk N n i &&& b = 0 ↔ SatTo N n b (dgX i) := by
  rw [and_zero]
  constructor
  · intro h q hq hb
    have h1 := h q hb
    rw [brk_bit N n q hi] at h1
    simpa [hq] using h1
  · intro h q hb
    rw [brk_bit N n q hi]
    by_cases hq : q < n
    · simp [hq, h q hq hb]
    · simp [hq]
theorem sol_iff (N : Nat → Fin 7) (O : Nat → Bool) (n : Nat) {i : Nat} (hi : i < 2401) : sol N O n i = true ↔ SatTo N n (onM O n) (dgX i) := by
  unfold sol
  rw [decide_eq_true_iff]
  exact brk_sat N n (onM O n) hi
theorem SatTo.congr {N : Nat → Fin 7} {e b : Nat} {x y : Nat → Fin 7} (h : ∀ j, j < 4 → x j = y j) (hs : SatTo N e b x) : SatTo N e b y := fun q hq hb => by rw [← ev_congrX _ x y h]; exact hs q hq hb
theorem ctN_zero {P : Nat → Bool} : ∀ {M : Nat}, ctN P M = 0 ↔ ∀ i, i < M → P i = false
  | 0 => ⟨fun _ i hi => absurd hi (by omega), fun _ => rfl⟩
  | M + 1 => by
    rw [ctN]
    constructor
    · intro h i hi
      split at h
      · omega
      · rename_i hp
        by_cases him : i = M
        · subst him; exact Bool.eq_false_iff.mpr hp
        · exact (ctN_zero (P := P) (M := M)).mp h i (by omega)
    · intro h
      rw [if_neg (by rw [h M (by omega)]; decide)]
      exact (ctN_zero (P := P) (M := M)).mpr (fun i hi => h i (by omega))
theorem ctN_congr {P Q : Nat → Bool} : ∀ {M : Nat}, (∀ i, i < M → P i = Q i) → ctN P M = ctN Q M
  | 0, _ => rfl
  | M + 1, h => by
    rw [ctN, ctN, ctN_congr (M := M) (fun i hi => h i (by omega)), h M (by omega)]
theorem ctN_le (P : Nat → Bool) : ∀ M, ctN P M ≤ M
  | 0 => Nat.le_refl 0
  | M + 1 => by
    have := ctN_le P M
    unfold ctN
    split <;> omega
theorem ctN_mono (P : Nat → Bool) {a : Nat} : ∀ d, ctN P a ≤ ctN P (a + d)
  | 0 => Nat.le_refl _
  | d + 1 => by
    have := ctN_mono P (a := a) d
    rw [show a + (d + 1) = (a + d) + 1 by omega, ctN]
    split <;> omega
/-! ===== a determined unknown out of those before it ===== -/
def vlN (R : Nat → Fin 7) (u : Nat) (x : Nat → Fin 7) : Nat → Fin 7
  | 0 => R (u * 5 + 4)
  | w + 1 => vlN R u x w - R (u * 5 + w) * x w
theorem rs_vl (R : Nat → Fin 7) (u b : Nat) : rs R u b = vlN R u (fun w => d7 (b / 7 ^ w)) u := by
  have key : ∀ k, z7 (rsN R u b k) = vlN R u (fun w => d7 (b / 7 ^ w)) k := by
    intro k
    induction k with
    | zero => show z7 ((R (u * 5 + 4)).val : Int) = _; rw [z7_nat, d7_val]; rfl
    | succ k ih =>
      show z7 (rsN R u b k - ((R (u * 5 + k)).val : Int) * ((b / 7 ^ k % 7 : Nat) : Int)) = _
      rw [z7_sub, z7_mul, ih, z7_nat, z7_nat, d7_val]
      show _ = vlN R u (fun w => d7 (b / 7 ^ w)) k - R (u * 5 + k) * d7 (b / 7 ^ k)
      rw [show d7 (b / 7 ^ k % 7) = d7 (b / 7 ^ k) from Fin.ext (Nat.mod_mod _ _)]
  exact key u
theorem vlN_congr (R : Nat → Fin 7) (u : Nat) {x y : Nat → Fin 7} : ∀ k, (∀ w, w < k → R (u * 5 + w) * x w = R (u * 5 + w) * y w) → vlN R u x k = vlN R u y k
  | 0, _ => rfl
  | k + 1, h => by
    rw [vlN, vlN, vlN_congr R u k (fun w hw => h w (by omega)), h k (by omega)]
theorem row_vl {R : Nat → Fin 7} {u : Nat} (hu : u < 4) (h1 : R (u * 5 + u) = 1) (h2 : ∀ w, u < w → w < 4 → R (u * 5 + w) = 0) (x : Nat → Fin 7) : ev (row5 R u) x = 0 ↔ x u = vlN R u x u := by
  unfold ev row5
  rcases (show u = 0 ∨ u = 1 ∨ u = 2 ∨ u = 3 by omega) with rfl | rfl | rfl | rfl
  · have a := h2 1 (by decide) (by decide)
    have b := h2 2 (by decide) (by decide)
    have c := h2 3 (by decide) (by decide)
    rw [h1, a, b, c]
    simp only [vlN]
    constructor <;> intro h <;> grind
  · have b := h2 2 (by decide) (by decide)
    have c := h2 3 (by decide) (by decide)
    rw [h1, b, c]
    simp only [vlN]
    constructor <;> intro h <;> grind
  · have c := h2 3 (by decide) (by decide)
    rw [h1, c]
    simp only [vlN]
    constructor <;> intro h <;> grind
  · rw [h1]
    simp only [vlN]
    constructor <;> intro h <;> grind
theorem Rows_vl {D : Nat → Bool} {R : Nat → Fin 7} (hE : Ech D R) (x : Nat → Fin 7) : Rows D R x ↔ ∀ u, u < 4 → D u = true → x u = vlN R u x u := by
  constructor
  · intro h u hu hD
    exact (row_vl hu (hE u hu hD).1 (hE u hu hD).2.1 x).mp (h u hu hD)
  · intro h u hu hD
    exact (row_vl hu (hE u hu hD).1 (hE u hu hD).2.1 x).mpr (h u hu hD)
/-- the solution with given values at the free unknowns -/
def slv (D : Nat → Bool) (R y : Nat → Fin 7) : Nat → Fin 7 := fun u => if D u = true then vlN R u y u else y u
theorem slv_free {D : Nat → Bool} (R y : Nat → Fin 7) {u : Nat} (h : D u = false) : slv D R y u = y u := by
  unfold slv
  rw [if_neg (by rw [h]; decide)]
theorem slv_det {D : Nat → Bool} (R y : Nat → Fin 7) {u : Nat} (h : D u = true) : slv D R y u = vlN R u y u := by
  unfold slv
  rw [if_pos h]
theorem slv_rows {D : Nat → Bool} {R : Nat → Fin 7} (hE : Ech D R) (y : Nat → Fin 7) : Rows D R (slv D R y) := by
  rw [Rows_vl hE]
  intro u hu hD
  rw [slv_det R y hD]
  refine vlN_congr R u u (fun w hw => ?_)
  cases hDw : D w with
  | false => rw [slv_free R y hDw]
  | true => rw [(hE u hu hD).2.2 w hw hDw]; grind
theorem Rows.congr {D : Nat → Bool} {R x y : Nat → Fin 7} (h : ∀ j, j < 4 → x j = y j) (hs : Rows D R x) : Rows D R y := fun u hu hD => by rw [← ev_congrX _ x y h]; exact hs u hu hD
end
section
set_option maxRecDepth 100000
/-! ===== counting solutions by their digits ===== -/
def Pre (D : Nat → Bool) (R : Nat → Fin 7) (u : Nat) (x : Nat → Fin 7) : Prop := ∀ w, w < u → D w = true → x w = vlN R w x w
theorem Pre.congr {D : Nat → Bool} {R : Nat → Fin 7} {u : Nat} {x y : Nat → Fin 7} (h : ∀ w, w < u → x w = y w) (hp : Pre D R u x) : Pre D R u y := by
  intro w hw hD
  rw [← h w hw, hp w hw hD]
  exact vlN_congr R w w (fun j hj => by rw [h j (by omega)])
theorem dg_sub {u a d : Nat} (hu : u < 4) (ha : a % 7 ^ (4 - u) = 0) (ha2 : a < 2401) (hd : d < 7) : a + d * 7 ^ (3 - u) < 2401 ∧ (a + d * 7 ^ (3 - u)) % 7 ^ (3 - u) = 0 ∧ dgt (a + d * 7 ^ (3 - u)) u = d ∧ ∀ w, w < u → dgt (a + d * 7 ^ (3 - u)) w = dgt a w := by
  rcases (show u = 0 ∨ u = 1 ∨ u = 2 ∨ u = 3 by omega) with rfl | rfl | rfl | rfl
  · simp only [Nat.reducePow, Nat.reduceSub] at *
    refine ⟨by omega, by omega, by simp [dgt]; omega, fun w hw => absurd hw (by omega)⟩
  · simp only [Nat.reducePow, Nat.reduceSub] at *
    refine ⟨by omega, by omega, by simp [dgt]; omega, fun w hw => ?_⟩
    obtain rfl : w = 0 := by omega
    simp [dgt]; omega
  · simp only [Nat.reducePow, Nat.reduceSub] at *
    refine ⟨by omega, by omega, by simp [dgt]; omega, fun w hw => ?_⟩
    rcases (show w = 0 ∨ w = 1 by omega) with rfl | rfl <;> simp [dgt] <;> omega
  · simp only [Nat.reducePow, Nat.reduceSub] at *
    refine ⟨by omega, by omega, by simp [dgt]; omega, fun w hw => ?_⟩
    rcases (show w = 0 ∨ w = 1 ∨ w = 2 by omega) with rfl | rfl | rfl <;> simp [dgt] <;> omega
theorem Pre_sub {D : Nat → Bool} {R : Nat → Fin 7} {u a d : Nat} (hu : u < 4) (ha : a % 7 ^ (4 - u) = 0) (ha2 : a < 2401) (hd : d < 7) : Pre D R (u + 1) (dgX (a + d * 7 ^ (3 - u))) ↔ Pre D R u (dgX a) ∧ (D u = true → d = (vlN R u (dgX a) u).val) := by
  obtain ⟨-, -, h3, h4⟩ := dg_sub hu ha ha2 hd
  have hx : ∀ w, w < u → dgX (a + d * 7 ^ (3 - u)) w = dgX a w := fun w hw => by unfold dgX; rw [h4 w hw]
  have hxu : dgX (a + d * 7 ^ (3 - u)) u = d7 d := by unfold dgX; rw [h3]
  have hv : vlN R u (dgX (a + d * 7 ^ (3 - u))) u = vlN R u (dgX a) u := vlN_congr R u u (fun w hw => by rw [hx w hw])
  constructor
  · intro h
    refine ⟨Pre.congr hx (fun w hw hD => h w (by omega) hD), fun hD => ?_⟩
    have := h u (by omega) hD
    rw [hxu, hv] at this
    rw [← this, d7_lt hd]
  · rintro ⟨h1, h2⟩ w hw hD
    by_cases hwu : w = u
    · subst hwu
      rw [hxu, hv]
      apply Fin.ext
      rw [d7_lt hd]
      exact h2 hD
    · exact (Pre.congr (fun j hj => (hx j hj).symm) h1) w (by omega) hD
section Cnt
variable {D : Nat → Bool} {R : Nat → Fin 7} {P : Nat → Bool}
/-- the block of numbers with one prefix of u digits -/
def Blk (D : Nat → Bool) (R : Nat → Fin 7) (P : Nat → Bool) (u : Nat) : Prop := ∀ a, a % 7 ^ (4 - u) = 0 → a < 2401 → (Pre D R u (dgX a) → ctN P (a + 7 ^ (4 - u)) = ctN P a + wy D u) ∧ (¬ Pre D R u (dgX a) → ctN P (a + 7 ^ (4 - u)) = ctN P a)
/-- how many come in the first d parts of a block -/
def sbC (D : Nat → Bool) (R : Nat → Fin 7) (u a d : Nat) : Nat := if D u = true then (if (vlN R u (dgX a) u).val < d then wy D (u + 1) else 0) else d * wy D (u + 1)
theorem sub_of_blk {u : Nat} (hu : u < 4) (hB : Blk D R P (u + 1)) {a : Nat} (ha : a % 7 ^ (4 - u) = 0) (ha2 : a < 2401) : ∀ d, d ≤ 7 → (Pre D R u (dgX a) → ctN P (a + d * 7 ^ (3 - u)) = ctN P a + sbC D R u a d) ∧ (¬ Pre D R u (dgX a) → ctN P (a + d * 7 ^ (3 - u)) = ctN P a)
  | 0, _ => by
    refine ⟨fun _ => ?_, fun _ => by rw [Nat.zero_mul]; rfl⟩
    rw [Nat.zero_mul, sbC]
    split <;> simp
  | d + 1, hd => by
    obtain ⟨i1, i2⟩ := sub_of_blk hu hB ha ha2 d (by omega)
    obtain ⟨g1, g2, -, -⟩ := dg_sub hu ha ha2 (show d < 7 by omega)
    have hs := hB (a + d * 7 ^ (3 - u)) (by rw [show 4 - (u + 1) = 3 - u by omega]; exact g2) g1
    rw [show 4 - (u + 1) = 3 - u by omega] at hs
    have he : a + (d + 1) * 7 ^ (3 - u) = a + d * 7 ^ (3 - u) + 7 ^ (3 - u) := by rw [Nat.succ_mul]; omega
    rw [he]
    have hp := Pre_sub (D := D) (R := R) hu ha ha2 (show d < 7 by omega)
    refine ⟨fun h => ?_, fun h => ?_⟩
    · by_cases hD : D u = true
      · by_cases hv : d = (vlN R u (dgX a) u).val
        · rw [hs.1 (hp.mpr ⟨h, fun _ => hv⟩), i1 h]
          unfold sbC
          rw [if_pos hD, if_pos hD, if_neg (by omega), if_pos (by omega)]
          omega
        · rw [hs.2 (fun z => hv ((hp.mp z).2 hD)), i1 h]
          unfold sbC
          rw [if_pos hD, if_pos hD]
          by_cases h1 : (vlN R u (dgX a) u).val < d
          · rw [if_pos h1, if_pos (by omega)]
          · rw [if_neg h1, if_neg (by omega)]
      · rw [hs.1 (hp.mpr ⟨h, fun z => absurd z hD⟩), i1 h]
        unfold sbC
        rw [if_neg hD, if_neg hD, Nat.succ_mul]
        omega
    · rw [hs.2 (fun z => h (hp.mp z).1), i2 h]
theorem blk_of_sub {u : Nat} (hu : u < 4) (hB : Blk D R P (u + 1)) : Blk D R P u := by
  intro a ha ha2
  obtain ⟨h1, h2⟩ := sub_of_blk hu hB ha ha2 7 (Nat.le_refl 7)
  have he : 7 * 7 ^ (3 - u) = 7 ^ (4 - u) := by rw [show 4 - u = (3 - u) + 1 by omega, Nat.pow_succ, Nat.mul_comm]
  rw [he] at h1 h2
  refine ⟨fun h => ?_, h2⟩
  rw [h1 h]
  unfold sbC
  by_cases hD : D u = true
  · rw [if_pos hD, if_pos (Fin.isLt _), wy_det hD hu]
  · rw [if_neg hD, wy_free (Bool.eq_false_iff.mpr hD) hu, Nat.mul_comm]
theorem blk_4 (hP : ∀ i, i < 2401 → (P i = true ↔ Pre D R 4 (dgX i))) : Blk D R P 4 := by
  intro a _ ha2
  show (_ → ctN P (a + 1) = ctN P a + wy D 4) ∧ (_ → ctN P (a + 1) = ctN P a)
  have hw : wy D 4 = 1 := rfl
  rw [ctN, hw]
  refine ⟨fun h => ?_, fun h => ?_⟩
  · rw [if_pos ((hP a ha2).mpr h)]
  · rw [if_neg (fun z => h ((hP a ha2).mp z))]
theorem blk_all (hP : ∀ i, i < 2401 → (P i = true ↔ Pre D R 4 (dgX i))) : ∀ u, u ≤ 4 → Blk D R P u := by
  have h4 := blk_4 hP
  have h3 := blk_of_sub (by decide) h4
  have h2 := blk_of_sub (by decide) h3
  have h1 := blk_of_sub (by decide) h2
  have h0 := blk_of_sub (by decide) h1
  intro u hu
  rcases (show u = 0 ∨ u = 1 ∨ u = 2 ∨ u = 3 ∨ u = 4 by omega) with rfl | rfl | rfl | rfl | rfl
  · exact h0
  · exact h1
  · exact h2
  · exact h3
  · exact h4
/-- all solutions -/
theorem cnt_all (hP : ∀ i, i < 2401 → (P i = true ↔ Pre D R 4 (dgX i))) : ctN P 2401 = wy D 0 := by
  have h := (blk_all hP 0 (by decide) 0 rfl (by decide)).1 (fun w hw => absurd hw (by omega))
  have e : (0 : Nat) + 7 ^ (4 - 0) = 2401 := rfl
  rw [e] at h
  rw [h]
  show 0 + wy D 0 = wy D 0
  omega
end Cnt
end
section
set_option maxRecDepth 100000
/-! ===== rank and value ===== -/
theorem dg_tp (t : Nat) {u w : Nat} (hu : u ≤ 4) (hw : w < u) : dgt (tpN t u * 7 ^ (4 - u)) w = t / 7 ^ w % 7 := by
  have b0 : t / 7 ^ 0 % 7 < 7 := Nat.mod_lt _ (by decide)
  have b1 : t / 7 ^ 1 % 7 < 7 := Nat.mod_lt _ (by decide)
  have b2 : t / 7 ^ 2 % 7 < 7 := Nat.mod_lt _ (by decide)
  have b3 : t / 7 ^ 3 % 7 < 7 := Nat.mod_lt _ (by decide)
  rcases (show u = 1 ∨ u = 2 ∨ u = 3 ∨ u = 4 by omega) with rfl | rfl | rfl | rfl
  · obtain rfl : w = 0 := by omega
    simp only [tpN, Nat.reducePow, Nat.reduceSub, dgt, if_true] at *
    omega
  · rcases (show w = 0 ∨ w = 1 by omega) with rfl | rfl
    · simp only [tpN, Nat.reducePow, Nat.reduceSub, Nat.zero_add, dgt, if_true] at *
      generalize t / 1 % 7 = t0 at *
      generalize t / 7 % 7 = t1 at *
      omega
    · simp only [tpN, Nat.reducePow, Nat.reduceSub, Nat.zero_add, dgt, if_true, Nat.one_ne_zero, if_false] at *
      generalize t / 1 % 7 = t0 at *
      generalize t / 7 % 7 = t1 at *
      omega
  · rcases (show w = 0 ∨ w = 1 ∨ w = 2 by omega) with rfl | rfl | rfl
    · simp only [tpN, Nat.reducePow, Nat.reduceSub, Nat.zero_add, dgt, if_true] at *
      generalize t / 1 % 7 = t0 at *
      generalize t / 7 % 7 = t1 at *
      generalize t / 49 % 7 = t2 at *
      omega
    · simp only [tpN, Nat.reducePow, Nat.reduceSub, Nat.zero_add, dgt, if_true, Nat.one_ne_zero, if_false] at *
      generalize t / 1 % 7 = t0 at *
      generalize t / 7 % 7 = t1 at *
      generalize t / 49 % 7 = t2 at *
      omega
    · simp only [tpN, Nat.reducePow, Nat.reduceSub, Nat.zero_add, dgt, if_true, Nat.reduceEqDiff, if_false, show ¬ (2 : Nat) = 0 by decide, show ¬ (2 : Nat) = 1 by decide] at *
      generalize t / 1 % 7 = t0 at *
      generalize t / 7 % 7 = t1 at *
      generalize t / 49 % 7 = t2 at *
      omega
  · rcases (show w = 0 ∨ w = 1 ∨ w = 2 ∨ w = 3 by omega) with rfl | rfl | rfl | rfl
    · simp only [tpN, Nat.reducePow, Nat.reduceSub, Nat.zero_add, dgt, if_true] at *
      generalize t / 1 % 7 = t0 at *
      generalize t / 7 % 7 = t1 at *
      generalize t / 49 % 7 = t2 at *
      generalize t / 343 % 7 = t3 at *
      omega
    · simp only [tpN, Nat.reducePow, Nat.reduceSub, Nat.zero_add, dgt, if_true, Nat.one_ne_zero, if_false] at *
      generalize t / 1 % 7 = t0 at *
      generalize t / 7 % 7 = t1 at *
      generalize t / 49 % 7 = t2 at *
      generalize t / 343 % 7 = t3 at *
      omega
    · simp only [tpN, Nat.reducePow, Nat.reduceSub, Nat.zero_add, dgt, if_true, if_false, show ¬ (2 : Nat) = 0 by decide, show ¬ (2 : Nat) = 1 by decide] at *
      generalize t / 1 % 7 = t0 at *
      generalize t / 7 % 7 = t1 at *
      generalize t / 49 % 7 = t2 at *
      generalize t / 343 % 7 = t3 at *
      omega
    · simp only [tpN, Nat.reducePow, Nat.reduceSub, Nat.zero_add, dgt, if_false, show ¬ (3 : Nat) = 0 by decide, show ¬ (3 : Nat) = 1 by decide, show ¬ (3 : Nat) = 2 by decide] at *
      generalize t / 1 % 7 = t0 at *
      generalize t / 7 % 7 = t1 at *
      generalize t / 49 % 7 = t2 at *
      generalize t / 343 % 7 = t3 at *
      omega
theorem md_dg (t : Nat) {u w : Nat} (hu : u < 4) (hw : w < u) : t % 7 ^ u / 7 ^ w % 7 = t / 7 ^ w % 7 := by
  rcases (show (u = 1 ∧ w = 0) ∨ (u = 2 ∧ w = 0) ∨ (u = 2 ∧ w = 1) ∨ (u = 3 ∧ w = 0) ∨ (u = 3 ∧ w = 1) ∨ (u = 3 ∧ w = 2) by omega) with ⟨rfl, rfl⟩ | ⟨rfl, rfl⟩ | ⟨rfl, rfl⟩ | ⟨rfl, rfl⟩ | ⟨rfl, rfl⟩ | ⟨rfl, rfl⟩ <;> simp only [Nat.reducePow] <;> omega
theorem d7_mod (a : Nat) : d7 (a % 7) = d7 a := Fin.ext (Nat.mod_mod _ _)
theorem rs_tp (R : Nat → Fin 7) (t : Nat) {u w : Nat} (hu : u ≤ 4) (hw : w ≤ u) (hw4 : w < 4) : rs R w (t % 7 ^ w) = vlN R w (dgX (tpN t u * 7 ^ (4 - u))) w := by
  rw [rs_vl]
  refine vlN_congr R w w (fun j hj => ?_)
  show _ * d7 (t % 7 ^ w / 7 ^ j) = _ * d7 (dgt (tpN t u * 7 ^ (4 - u)) j)
  rw [dg_tp t hu (by omega), ← d7_mod (t % 7 ^ w / 7 ^ j), md_dg t hw4 hj]
theorem tp_step (t : Nat) {u : Nat} (hu : u < 4) : tpN t (u + 1) * 7 ^ (4 - (u + 1)) = tpN t u * 7 ^ (4 - u) + t / 7 ^ u % 7 * 7 ^ (3 - u) := by
  rw [tpN, show 4 - (u + 1) = 3 - u by omega, show 4 - u = (3 - u) + 1 by omega, Nat.pow_succ, Nat.add_mul, Nat.mul_assoc, Nat.mul_comm 7]
theorem tp_in (t : Nat) {u : Nat} (hu : u ≤ 4) : tpN t u * 7 ^ (4 - u) ≤ tpN t 4 ∧ tpN t 4 < tpN t u * 7 ^ (4 - u) + 7 ^ (4 - u) := by
  have b0 : t / 7 ^ 0 % 7 < 7 := Nat.mod_lt _ (by decide)
  have b1 : t / 7 ^ 1 % 7 < 7 := Nat.mod_lt _ (by decide)
  have b2 : t / 7 ^ 2 % 7 < 7 := Nat.mod_lt _ (by decide)
  have b3 : t / 7 ^ 3 % 7 < 7 := Nat.mod_lt _ (by decide)
  rcases (show u = 0 ∨ u = 1 ∨ u = 2 ∨ u = 3 ∨ u = 4 by omega) with rfl | rfl | rfl | rfl | rfl <;> simp only [tpN, Nat.reducePow, Nat.reduceSub] at * <;> omega
theorem tp_lt (t : Nat) {u : Nat} (hu : u ≤ 4) : tpN t u * 7 ^ (4 - u) < 2401 := Nat.lt_of_le_of_lt (tp_in t hu).1 (tpN_lt t 4)
theorem ctN_between {P : Nat → Bool} {a c : Nat} (m : Nat) (h1 : a ≤ m) (h2 : m ≤ c) (h : ctN P c = ctN P a) : ctN P m = ctN P a := by
  have g1 := ctN_mono P (a := a) (m - a)
  have g2 := ctN_mono P (a := m) (c - m)
  rw [show a + (m - a) = m by omega] at g1
  rw [show m + (c - m) = c by omega] at g2
  omega
section Rk
variable {D : Nat → Bool} {R : Nat → Fin 7} {P : Nat → Bool}
theorem rk_main (hP : ∀ i, i < 2401 → (P i = true ↔ Pre D R 4 (dgX i))) (t : Nat) : ∀ f u a, u + f = 4 → a = ctN P (tpN t u * 7 ^ (4 - u)) → Pre D R u (dgX (tpN t u * 7 ^ (4 - u))) → rkF D R t f u a = ctN P (tpN t 4) := by
  intro f
  induction f with
  | zero =>
    intro u a hu ha _
    obtain rfl : u = 4 := by omega
    rw [rkF, ha]
    show ctN P (tpN t 4 * 1) = _
    rw [Nat.mul_one]
  | succ f ih =>
    intro u a hu ha hpre
    have hu4 : u < 4 := by omega
    have hB := blk_all hP (u + 1) (by omega)
    have hm : tpN t u * 7 ^ (4 - u) % 7 ^ (4 - u) = 0 := Nat.mul_mod_left _ _
    have hlt := tp_lt t (show u ≤ 4 by omega)
    have hd : t / 7 ^ u % 7 < 7 := Nat.mod_lt _ (by decide)
    have hs := (sub_of_blk hu4 hB hm hlt (t / 7 ^ u % 7) (by omega)).1 hpre
    rw [← tp_step t hu4] at hs
    have hp := Pre_sub (D := D) (R := R) hu4 hm hlt hd
    rw [← tp_step t hu4] at hp
    have hv := rs_tp R t (show u ≤ 4 by omega) (Nat.le_refl u) hu4
    have hin := tp_in t (show u + 1 ≤ 4 by omega)
    have hno : ¬ Pre D R (u + 1) (dgX (tpN t (u + 1) * 7 ^ (4 - (u + 1)))) → ctN P (tpN t 4) = ctN P (tpN t (u + 1) * 7 ^ (4 - (u + 1))) := by
      intro h
      exact ctN_between _ hin.1 (Nat.le_of_lt hin.2) ((hB _ (Nat.mul_mod_left _ _) (tp_lt t (by omega))).2 h)
    rw [rkF]
    by_cases hD : D u = false
    · rw [if_pos hD]
      have hDt : ¬ D u = true := by rw [hD]; decide
      refine ih (u + 1) _ (by omega) ?_ (hp.mpr ⟨hpre, fun z => absurd z hDt⟩)
      rw [hs, sbC, if_neg hDt, ha]
    · rw [if_neg hD]
      have hDt : D u = true := by
        cases h : D u with
        | false => exact absurd h hD
        | true => rfl
      rw [sbC, if_pos hDt, ← hv] at hs
      rw [← hv] at hp
      by_cases h1 : (rs R u (t % 7 ^ u)).val < t / 7 ^ u % 7
      · rw [if_pos h1]
        rw [if_pos h1] at hs
        rw [hno (fun z => by have := (hp.mp z).2 hDt; omega), hs, ha]
      · rw [if_neg h1]
        rw [if_neg h1] at hs
        by_cases h2 : t / 7 ^ u % 7 < (rs R u (t % 7 ^ u)).val
        · rw [if_pos h2, hno (fun z => by have := (hp.mp z).2 hDt; omega), hs, ha]
          omega
        · rw [if_neg h2]
          refine ih (u + 1) _ (by omega) (by rw [hs, ha]; omega) (hp.mpr ⟨hpre, fun _ => by omega⟩)
theorem rk_all (hP : ∀ i, i < 2401 → (P i = true ↔ Pre D R 4 (dgX i))) (t : Nat) : rkF D R t 4 0 0 = ctN P (tpN t 4) := by
  refine rk_main hP t 4 0 0 rfl ?_ (fun w hw => absurd hw (by omega))
  show 0 = ctN P (0 * 7 ^ 4)
  rw [Nat.zero_mul]
  rfl
/-! the digits of solution number j -/
theorem sa_mod {j : Nat} (hj : j < wy D 0) (u : Nat) : ∀ k, u + k ≤ 4 → (saN D R j (u + k)).2 % 7 ^ u = (saN D R j u).2
  | 0, h => Nat.mod_eq_of_lt (saN_in R hj u (by omega)).2
  | k + 1, h => by
    have ih := sa_mod hj u k (by omega)
    have hpw : ∀ x : Nat, x * 7 ^ (u + k) = (x * 7 ^ k) * 7 ^ u := fun x => by rw [Nat.pow_add, Nat.mul_assoc, Nat.mul_comm (7 ^ k)]
    rw [show u + (k + 1) = (u + k) + 1 by omega]
    cases hD : D (u + k) with
    | false =>
      rw [saN_free R j hD]
      show ((saN D R j (u + k)).2 + (saN D R j (u + k)).1 / wy D (u + k + 1) * 7 ^ (u + k)) % 7 ^ u = _
      rw [hpw, Nat.add_mul_mod_self_right, ih]
    | true =>
      rw [saN_det R j hD]
      show ((saN D R j (u + k)).2 + (rs R (u + k) (saN D R j (u + k)).2).val * 7 ^ (u + k)) % 7 ^ u = _
      rw [hpw, Nat.add_mul_mod_self_right, ih]
theorem sa_md {j : Nat} (hj : j < wy D 0) {u : Nat} (hu : u ≤ 4) : (saN D R j 4).2 % 7 ^ u = (saN D R j u).2 := by
  have h := sa_mod (R := R) hj u (4 - u) (by omega)
  rw [show u + (4 - u) = 4 by omega] at h
  exact h
theorem sa_dig {j : Nat} (hj : j < wy D 0) {u : Nat} (hu : u < 4) {x : Nat} (hx : (saN D R j (u + 1)).2 = (saN D R j u).2 + x * 7 ^ u) : (saN D R j 4).2 / 7 ^ u % 7 = x := by
  have h1 := sa_md (R := R) hj (show u + 1 ≤ 4 by omega)
  have h2 := sa_md (R := R) hj (show u ≤ 4 by omega)
  rw [Nat.mod_pow_succ, h2, hx] at h1
  have h3 : 7 ^ u * ((saN D R j 4).2 / 7 ^ u % 7) = 7 ^ u * x := by rw [Nat.mul_comm _ x]; omega
  exact Nat.eq_of_mul_eq_mul_left (Nat.pow_pos (by decide)) h3
theorem sa_det {j : Nat} (hj : j < wy D 0) {u : Nat} (hu : u < 4) (hD : D u = true) : (saN D R j 4).2 / 7 ^ u % 7 = (rs R u ((saN D R j 4).2 % 7 ^ u)).val := by
  rw [sa_md hj (by omega)]
  exact sa_dig hj hu (by rw [saN_det R j hD])
theorem sa_rank {j : Nat} (hj : j < wy D 0) : ∀ f u a, u + f = 4 → a + (saN D R j u).1 = j → rkF D R (saN D R j 4).2 f u a = j := by
  intro f
  induction f with
  | zero =>
    intro u a hu ha
    obtain rfl : u = 4 := by omega
    have h := (saN_in R hj 4 (Nat.le_refl 4)).1
    have hw : wy D 4 = 1 := rfl
    rw [rkF]
    omega
  | succ f ih =>
    intro u a hu ha
    have hu4 : u < 4 := by omega
    rw [rkF]
    by_cases hD : D u = false
    · rw [if_pos hD]
      have hx := sa_dig (R := R) hj hu4 (x := (saN D R j u).1 / wy D (u + 1)) (by rw [saN_free R j hD])
      refine ih (u + 1) _ (by omega) ?_
      rw [hx, saN_free R j hD]
      show a + (saN D R j u).1 / wy D (u + 1) * wy D (u + 1) + (saN D R j u).1 % wy D (u + 1) = j
      have := Nat.div_add_mod (saN D R j u).1 (wy D (u + 1))
      rw [Nat.mul_comm] at this
      omega
    · have hDt : D u = true := by
        cases h : D u with
        | false => exact absurd h hD
        | true => rfl
      have hx := sa_det (R := R) hj hu4 hDt
      rw [if_neg hD, hx, if_neg (Nat.lt_irrefl _), if_neg (Nat.lt_irrefl _)]
      refine ih (u + 1) _ (by omega) ?_
      rw [saN_det R j hDt]
      exact ha
theorem sa_pre {j : Nat} (hj : j < wy D 0) : Pre D R 4 (dgX (tpN (saN D R j 4).2 4)) := by
  intro w hw hD
  have h1 := dg_tp (saN D R j 4).2 (Nat.le_refl 4) hw
  have h2 := rs_tp R (saN D R j 4).2 (Nat.le_refl 4) (show w ≤ 4 by omega) hw
  have e : tpN (saN D R j 4).2 4 * 7 ^ (4 - 4) = tpN (saN D R j 4).2 4 := Nat.mul_one _
  rw [e] at h1 h2
  rw [← h2]
  show d7 (dgt _ w) = _
  rw [h1, sa_det hj hw hD, d7_val]
end Rk
end
section
set_option maxRecDepth 100000
/-! ===== the answers, one by one ===== -/
/-- no assignment meets all equations of the set b -/
def cb (N : Nat → Fin 7) (n b : Nat) : Bool := decide (ctN (fun i => decide (brk N n i &&& b = 0)) 2401 = 0)
theorem Rows_pre {D : Nat → Bool} {R : Nat → Fin 7} (hE : Ech D R) (x : Nat → Fin 7) : Rows D R x ↔ Pre D R 4 x := Rows_vl hE x
theorem sv_t (N R K : Nat → Fin 7) {n b : Nat} (hn : n ≤ 6) (hc : (sv N b R K n).2.2.1 = true) : ∀ i, i < 2401 → decide (brk N n i &&& b = 0) = false := by
  intro i hi
  obtain ⟨-, -, h3, -⟩ := sv_inv N b R K n hn
  rw [decide_eq_false_iff_not, brk_sat N n b hi]
  exact h3 hc _
theorem sv_f (N R K : Nat → Fin 7) {n b : Nat} (hn : n ≤ 6) (hc : (sv N b R K n).2.2.1 = false) : ∀ i, i < 2401 → (decide (brk N n i &&& b = 0) = true ↔ Pre (sv N b R K n).1 (sv N b R K n).2.1 4 (dgX i)) := by
  intro i hi
  obtain ⟨h1, h2, -⟩ := sv_inv N b R K n hn
  rw [decide_eq_true_iff, brk_sat N n b hi, ← h2 hc, Rows_pre h1]
/-- a solution as a number -/
theorem ix_sol {D : Nat → Bool} {R : Nat → Fin 7} {P : Nat → Bool} (hE : Ech D R) (hP : ∀ i, i < 2401 → (P i = true ↔ Pre D R 4 (dgX i))) (y : Nat → Fin 7) : ix (slv D R y) < 2401 ∧ P (ix (slv D R y)) = true ∧ ∀ u, u < 4 → dgt (ix (slv D R y)) u = (slv D R y u).val := by
  refine ⟨ix_lt _, ?_, fun u hu => dgt_ix _ hu⟩
  rw [hP _ (ix_lt _), ← Rows_pre hE]
  exact Rows.congr (fun j hj => (dgX_ix (slv D R y) hj).symm) (slv_rows hE y)
theorem ma_cb (N : Nat → Fin 7) {n : Nat} (hn : n ≤ 6) : ∀ (b : Nat), b < 64 → ∀ (R K : Nat → Fin 7), (sv N b R K n).2.2.1 = cb N n b := by
  intro b _ R K
  unfold cb
  cases hc : (sv N b R K n).2.2.1 with
  | true =>
    symm
    rw [decide_eq_true_iff, ctN_zero]
    exact sv_t N R K hn hc
  | false =>
    symm
    rw [decide_eq_false_iff_not, ctN_zero]
    intro h
    obtain ⟨g1, g2, -⟩ := ix_sol (sv_inv N b R K n hn).1 (sv_f N R K hn hc) (fun _ => 0)
    rw [h _ g1] at g2
    cases g2
theorem ma_sol (N R K : Nat → Fin 7) (O : Nat → Bool) {n : Nat} (hn : n ≤ 6) : xSol (sv N (onM O n) R K n) = ctN (sol N O n) 2401 := by
  unfold xSol
  cases hc : (sv N (onM O n) R K n).2.2.1 with
  | true =>
    rw [if_pos rfl]
    symm
    rw [ctN_zero]
    exact sv_t N R K hn hc
  | false =>
    rw [if_neg (by decide)]
    exact (cnt_all (sv_f N R K hn hc)).symm
theorem ma_rank (N R K : Nat → Fin 7) (O : Nat → Bool) {n : Nat} (hn : n ≤ 6) (x : Int32) : xRank (sv N (onM O n) R K n) x = ctN (sol N O n) (tpN (tw x) 4) := by
  unfold xRank
  cases hc : (sv N (onM O n) R K n).2.2.1 with
  | true =>
    rw [if_pos rfl]
    symm
    rw [ctN_zero]
    intro i hi
    exact sv_t N R K hn hc i (Nat.lt_trans hi (tpN_lt _ 4))
  | false =>
    rw [if_neg (by decide)]
    exact rk_all (sv_f N R K hn hc) (tw x)
/-! value -/
theorem y_range (y : Int32) : (y < 0 ∨ nI 4 ≤ y) ↔ (y < 0 ∨ nI 3 < y) := by
  have h4 : (nI 4).toInt = 4 := by decide
  have h3 : (nI 3).toInt = 3 := by decide
  rw [Int32.le_iff_toInt_le, Int32.lt_iff_toInt_lt (x := nI 3), h4, h3]
  constructor <;> intro h <;> rcases h with h | h
  · exact Or.inl h
  · exact Or.inr (by omega)
  · exact Or.inl h
  · exact Or.inr (by omega)
theorem mvF_none {P : Nat → Bool} {x : Int32} (u : Nat) (h : ∀ i, i < 2401 → P i = true → nI (ctN P i) ≠ x) : ∀ f i, i + f ≤ 2401 → mvF P x u f i = -4
  | 0, _, _ => rfl
  | f + 1, i, hi => by
    rw [mvF, if_neg (fun z => h i (by omega) z.1 z.2)]
    exact mvF_none u h f (i + 1) (by omega)
theorem mvF_hit {P : Nat → Bool} {j : Nat} (u : Nat) {i0 : Nat} (h0 : i0 < 2401) (hp : P i0 = true) (hc : ctN P i0 = j) : ∀ f i, i + f = 2401 → i ≤ i0 → mvF P (nI j) u f i = nI (dgt i0 u)
  | 0, i, hi, h1 => absurd h1 (by omega)
  | f + 1, i, hi, h1 => by
    rw [mvF]
    by_cases hii : i = i0
    · subst hii
      rw [if_pos ⟨hp, by rw [hc]⟩]
    · rw [if_neg (fun z => by
        have h2 := ctN_mono P (a := i + 1) (i0 - (i + 1))
        rw [show i + 1 + (i0 - (i + 1)) = i0 by omega, ctN, if_pos z.1] at h2
        have h3 := ctN_le P i
        have h4 := ctN_le P i0
        have h5 := (nI_eq (by omega) (by omega)).mp z.2
        omega)]
      exact mvF_hit u h0 hp hc f (i + 1) (by omega) (by omega)
theorem ctN_lt {P : Nat → Bool} {i M : Nat} (hi : i < M) (hp : P i = true) : ctN P i < ctN P M := by
  have h2 := ctN_mono P (a := i + 1) (M - (i + 1))
  rw [show i + 1 + (M - (i + 1)) = M by omega, ctN, if_pos hp] at h2
  omega
theorem ma_val (N R K : Nat → Fin 7) (O : Nat → Bool) {n : Nat} (hn : n ≤ 6) (x y : Int32) : xVal (sv N (onM O n) R K n) x y = mVal (sol N O n) x y := by
  unfold xVal mVal
  by_cases hy : y < 0 ∨ nI 4 ≤ y
  · rw [if_pos hy, if_pos ((y_range y).mp hy)]
  · rw [if_neg hy, if_neg (fun h => hy ((y_range y).mpr h))]
    cases hc : (sv N (onM O n) R K n).2.2.1 with
    | true =>
      rw [if_pos (Or.inl rfl)]
      symm
      refine mvF_none _ (fun i hi hp => ?_) 2401 0 (by omega)
      have := sv_t N R K hn hc i hi
      have hp : decide (brk N n i &&& onM O n = 0) = true := hp
      rw [this] at hp
      cases hp
    | false =>
      have hP := sv_f N R K hn hc
      have hcnt : ctN (sol N O n) 2401 = wy (sv N (onM O n) R K n).1 0 := cnt_all hP
      have hw := wy_le (sv N (onM O n) R K n).1 0
      generalize sv N (onM O n) R K n = z at *
      by_cases hx : x < 0 ∨ nI (wy z.1 0) ≤ x
      · rw [if_pos (Or.inr hx)]
        symm
        refine mvF_none _ (fun i hi hp hxe => ?_) 2401 0 (by omega)
        have h1 := ctN_lt hi hp
        rw [hcnt] at h1
        rcases hx with hx | hx
        · rw [← hxe] at hx
          exact nI_pos (by omega) hx
        · rw [← hxe] at hx
          have := (nI_leI (by omega) (by omega)).mp hx
          omega
      · rw [if_neg (fun h => h.elim (by decide) hx)]
        obtain ⟨j, hj, rfl⟩ := nI_case (by omega) (fun h => hx (Or.inl h)) (fun h => hx (Or.inr h))
        obtain ⟨u, hu, rfl⟩ := nI_case (by decide) (fun h => hy (Or.inl h)) (fun h => hy (Or.inr h))
        rw [nI_clamp (by omega), nI_clamp (by omega)]
        have hpre := sa_pre (R := z.2.1) hj
        have hlt := tpN_lt (saN z.1 z.2.1 j 4).2 4
        have hpi : sol N O n (tpN (saN z.1 z.2.1 j 4).2 4) = true := (hP _ hlt).mpr hpre
        have hct : ctN (sol N O n) (tpN (saN z.1 z.2.1 j 4).2 4) = j := by
          have h1 := rk_all (P := sol N O n) hP (saN z.1 z.2.1 j 4).2
          have h2 := sa_rank (R := z.2.1) hj 4 0 0 rfl (by show 0 + j = j; omega)
          rw [← h1, h2]
        rw [mvF_hit u hlt hpi hct 2401 0 rfl (by omega)]
        have h1 := dg_tp (saN z.1 z.2.1 j 4).2 (Nat.le_refl 4) hu
        have e : tpN (saN z.1 z.2.1 j 4).2 4 * 7 ^ (4 - 4) = tpN (saN z.1 z.2.1 j 4).2 4 := Nat.mul_one _
        rw [e] at h1
        rw [h1]
end
section
set_option maxRecDepth 100000
/-! ===== possible, fixed, follows ===== -/
theorem mp_bit (P : Nat → Bool) (u v : Nat) : ∀ M, (mpN P u M).testBit v = true ↔ ∃ i, i < M ∧ P i = true ∧ dgt i u = v
  | 0 => by
    rw [mpN, Nat.zero_testBit]
    exact ⟨(fun h => by cases h), fun ⟨i, h, _⟩ => absurd h (by omega)⟩
  | M + 1 => by
    have ih := mp_bit P u v M
    rw [mpN]
    by_cases hp : P M = true
    · rw [if_pos hp, Nat.testBit_or, Bool.or_eq_true, ih, Nat.testBit_two_pow, decide_eq_true_iff]
      constructor
      · rintro (⟨i, h1, h2⟩ | h)
        · exact ⟨i, by omega, h2⟩
        · exact ⟨M, by omega, hp, h⟩
      · rintro ⟨i, h1, h2, h3⟩
        by_cases hi : i = M
        · subst hi; exact Or.inr h3
        · exact Or.inl ⟨i, by omega, h2, h3⟩
    · rw [if_neg hp, ih]
      constructor
      · rintro ⟨i, h1, h2⟩
        exact ⟨i, by omega, h2⟩
      · rintro ⟨i, h1, h2, h3⟩
        by_cases hi : i = M
        · subst hi; exact absurd h2 hp
        · exact ⟨i, by omega, h2, h3⟩
theorem vaN_ex {R : Nat → Fin 7} {u : Nat} : ∀ {k : Nat}, vaN R u k = true → ∃ w, w < k ∧ R (u * 5 + w) ≠ 0
  | 0, h => by cases h
  | k + 1, h => by
    rw [vaN, Bool.or_eq_true, decide_eq_true_iff] at h
    rcases h with h | h
    · obtain ⟨w, h1, h2⟩ := vaN_ex h
      exact ⟨w, by omega, h2⟩
    · exact ⟨k, by omega, h⟩
theorem vaN_no {R : Nat → Fin 7} {u : Nat} : ∀ {k : Nat}, vaN R u k = false → ∀ w, w < k → R (u * 5 + w) = 0
  | 0, _, w, hw => absurd hw (by omega)
  | k + 1, h, w, hw => by
    rw [vaN, Bool.or_eq_false_iff, decide_eq_false_iff_not] at h
    by_cases hwk : w = k
    · subst hwk; exact Classical.byContradiction h.2
    · exact vaN_no h.1 w (by omega)
theorem vl_one (R : Nat → Fin 7) (u w : Nat) (a : Fin 7) : ∀ k, vlN R u (fun j => if j = w then a else 0) k = R (u * 5 + 4) - if w < k then R (u * 5 + w) * a else 0
  | 0 => by rw [if_neg (by omega), vlN]; grind
  | k + 1 => by
    rw [vlN, vl_one R u w a k]
    by_cases h : k = w
    · subst h
      rw [if_neg (by omega), if_pos rfl, if_pos (by omega)]
      grind
    · rw [if_neg h]
      by_cases h2 : w < k
      · rw [if_pos h2, if_pos (by omega)]; grind
      · rw [if_neg h2, if_neg (by omega)]; grind
theorem vl_const {R : Nat → Fin 7} {u : Nat} (x : Nat → Fin 7) : ∀ k, (∀ w, w < k → R (u * 5 + w) = 0) → vlN R u x k = R (u * 5 + 4)
  | 0, _ => rfl
  | k + 1, h => by
    rw [vlN, vl_const x k (fun w hw => h w (by omega)), h k (by omega)]
    grind
section Pos
variable {D : Nat → Bool} {R : Nat → Fin 7} {P : Nat → Bool}
theorem vary_all (hE : Ech D R) (hP : ∀ i, i < 2401 → (P i = true ↔ Pre D R 4 (dgX i))) {u : Nat} (hu : u < 4) (hv : vary D R u = true) (v : Fin 7) : ∃ i, i < 2401 ∧ P i = true ∧ dgt i u = v.val := by
  cases hD : D u with
  | false =>
    obtain ⟨h1, h2, h3⟩ := ix_sol hE hP (fun j => if j = u then v else 0)
    refine ⟨_, h1, h2, ?_⟩
    rw [h3 u hu, slv_free _ _ hD, if_pos rfl]
  | true =>
    have hva : vaN R u u = true := by simpa [vary, hD] using hv
    obtain ⟨w, hw, hr⟩ := vaN_ex hva
    obtain ⟨h1, h2, h3⟩ := ix_sol hE hP (fun j => if j = w then (R (u * 5 + 4) - v) * iv (R (u * 5 + w)) else 0)
    refine ⟨_, h1, h2, ?_⟩
    rw [h3 u hu, slv_det _ _ hD, vl_one, if_pos hw]
    congr 1
    have := iv_mul (R (u * 5 + w)) hr
    have e : R (u * 5 + w) * ((R (u * 5 + 4) - v) * iv (R (u * 5 + w))) = (R (u * 5 + w) * iv (R (u * 5 + w))) * (R (u * 5 + 4) - v) := by grind
    rw [e, this]
    grind
theorem novary_one (hE : Ech D R) (hP : ∀ i, i < 2401 → (P i = true ↔ Pre D R 4 (dgX i))) {u : Nat} (hu : u < 4) (hv : vary D R u = false) {i : Nat} (hi : i < 2401) (hp : P i = true) : dgt i u = (R (u * 5 + 4)).val := by
  have hv : (!D u || vaN R u u) = false := hv
  rw [Bool.or_eq_false_iff] at hv
  have hD : D u = true := by simpa using hv.1
  have h := (hP i hi).mp hp u hu hD
  rw [vl_const (dgX i) u (vaN_no hv.2)] at h
  rw [← dgX_val hi u, h]
end Pos
theorem mp_none {P : Nat → Bool} (u : Nat) (h : ∀ i, i < 2401 → P i = false) : ∀ M, M ≤ 2401 → mpN P u M = 0
  | 0, _ => rfl
  | M + 1, hM => by rw [mpN, if_neg (by rw [h M (by omega)]; decide), mp_none u h M (by omega)]
theorem ma_pos (N R K : Nat → Fin 7) (O : Nat → Bool) {n : Nat} (hn : n ≤ 6) (y : Int32) : xPos (sv N (onM O n) R K n) y = mPos (sol N O n) y := by
  unfold xPos mPos
  by_cases hy : y < 0 ∨ nI 4 ≤ y
  · rw [if_pos hy, if_pos ((y_range y).mp hy)]
  · rw [if_neg hy, if_neg (fun h => hy ((y_range y).mpr h))]
    obtain ⟨u, hu, rfl⟩ := nI_case (by decide) (fun h => hy (Or.inl h)) (fun h => hy (Or.inr h))
    rw [nI_clamp (by omega)]
    have hE := (sv_inv N (onM O n) R K n hn).1
    cases hc : (sv N (onM O n) R K n).2.2.1 with
    | true =>
      rw [if_pos rfl, mp_none (P := sol N O n) u (sv_t N R K hn hc) 2401 (Nat.le_refl _)]
      rfl
    | false =>
      rw [if_neg (by decide)]
      have hP : ∀ i, i < 2401 → (sol N O n i = true ↔ _) := sv_f N R K hn hc
      generalize sv N (onM O n) R K n = z at *
      have hlt := mpN_lt (sol N O n) u 2401 (Nat.le_refl _)
      cases hv : vary z.1 z.2.1 u with
      | true =>
        rw [if_pos rfl]
        have h127 : mpN (sol N O n) u 2401 = 127 := by
          apply Nat.eq_of_testBit_eq
          intro v
          by_cases hv7 : v < 7
          · have h1 : (mpN (sol N O n) u 2401).testBit v = true := by
              rw [mp_bit]
              exact vary_all hE hP hu hv ⟨v, hv7⟩
            have h2 : ∀ v, v < 7 → Nat.testBit 127 v = true := by decide
            rw [h1, h2 v hv7]
          · have hp : 2 ^ 7 ≤ 2 ^ v := Nat.pow_le_pow_right (by decide) (by omega)
            rw [Nat.testBit_lt_two_pow (by omega), Nat.testBit_lt_two_pow (by omega)]
        rw [h127]
        rfl
      | false =>
        rw [if_neg (by decide)]
        congr 1
        apply Nat.eq_of_testBit_eq
        intro v
        rw [Nat.testBit_two_pow]
        cases hb : (mpN (sol N O n) u 2401).testBit v with
        | true =>
          obtain ⟨i, h1, h2, h3⟩ := (mp_bit _ u v 2401).mp hb
          rw [novary_one hE hP hu hv h1 h2] at h3
          rw [decide_eq_true_iff]
          exact h3
        | false =>
          rw [decide_eq_false_iff_not]
          intro he
          obtain ⟨h1, h2, -⟩ := ix_sol hE hP (fun _ => 0)
          have h3 := novary_one hE hP hu hv h1 h2
          have h4 := (mp_bit (sol N O n) u v 2401).mpr ⟨_, h1, h2, by rw [h3]; exact he⟩
          rw [hb] at h4
          cases h4
theorem fx_zero : fxN 0 7 = false := by decide
theorem fx_all : fxN 127 7 = false := by decide
theorem fx_one : ∀ r : Fin 7, fxN (nI (2 ^ r.val)) 7 = true := by decide
theorem ma_fix (N R K : Nat → Fin 7) (O : Nat → Bool) {n : Nat} (hn : n ≤ 6) (y : Int32) : xFix (sv N (onM O n) R K n) y = fxN (mPos (sol N O n) y) 7 := by
  rw [← ma_pos N R K O hn y]
  unfold xFix xPos
  split
  · exact fx_zero.symm
  · split
    · exact fx_zero.symm
    · cases hv : vary (sv N (onM O n) R K n).1 (sv N (onM O n) R K n).2.1 y.toNatClampNeg with
      | true => rw [if_pos rfl]; exact fx_all.symm
      | false => rw [if_neg (by decide)]; exact (fx_one _).symm
theorem mf_iff (P : Nat → Bool) (B : Nat → Nat) (q : Nat) : ∀ M, mfN P B q M = true ↔ ∀ i, i < M → P i = true → (B i).testBit q = false
  | 0 => ⟨fun _ i hi => absurd hi (by omega), fun _ => rfl⟩
  | M + 1 => by
    rw [mfN, Bool.and_eq_true, mf_iff P B q M]
    constructor
    · rintro ⟨h1, h2⟩ i hi hp
      by_cases him : i = M
      · subst him
        rw [hp] at h2
        simpa using h2
      · exact h1 i (by omega) hp
    · intro h
      refine ⟨fun i hi => h i (by omega), ?_⟩
      cases hp : P M with
      | false => rfl
      | true => rw [h M (by omega) hp]; rfl
theorem ev_slv {D : Nat → Bool} {K : Nat → Fin 7} (R y : Nat → Fin 7) (h : ∀ w, w < 4 → D w = true → K w = 0) : ev K (slv D R y) = ev K y := by
  have key : ∀ w, w < 4 → K w * slv D R y w = K w * y w := by
    intro w hw
    cases hD : D w with
    | false => rw [slv_free R y hD]
    | true => rw [h w hw hD]; grind
  unfold ev
  rw [key 0 (by decide), key 1 (by decide), key 2 (by decide), key 3 (by decide)]
theorem ma_fol (N R K : Nat → Fin 7) (O : Nat → Bool) {n : Nat} (hn : n ≤ 6) (x : Int32) : xFol N n (sv N (onM O n) R K n) x = mFol N n (sol N O n) x := by
  unfold xFol mFol
  cases hno : noE n x with
  | true => rw [if_pos rfl, if_pos rfl]
  | false =>
    rw [if_neg (show ¬ false = true by decide), if_neg (show ¬ false = true by decide)]
    obtain ⟨q, hq, rfl⟩ := noE_no hn hno
    rw [nI_clamp (by omega)]
    cases hc : (sv N (onM O n) R K n).2.2.1 with
    | true =>
      rw [if_pos rfl]
      symm
      rw [mf_iff]
      intro i hi hp
      have := sv_t N R K hn hc i hi
      have hp : decide (brk N n i &&& onM O n = 0) = true := hp
      rw [this] at hp
      cases hp
    | false =>
      rw [if_neg (by decide)]
      have hE := (sv_inv N (onM O n) R K n hn).1
      have hP : ∀ i, i < 2401 → (sol N O n i = true ↔ _) := sv_f N R K hn hc
      generalize sv N (onM O n) R K n = z at *
      obtain ⟨r1, r2, r3, r4⟩ := red_inv hE (fun j => N (q * 5 + j))
      generalize red z.1 z.2.1 (fun j => N (q * 5 + j)) = w at *
      replace r4 : ∀ x, Rows z.1 z.2.1 x → ev w.1 x = ev (row5 N q) x := r4
      have hmf : mfN (sol N O n) (brk N n) q 2401 = true ↔ w.2 = none ∧ w.1 4 = 0 := by
        rw [mf_iff]
        constructor
        · intro h
          have hall : ∀ y : Nat → Fin 7, ev w.1 y = 0 := by
            intro y
            obtain ⟨g1, g2, -⟩ := ix_sol hE hP y
            have h1 := h _ g1 g2
            rw [brk_bit N n q g1, decide_eq_true hq, Bool.true_and] at h1
            have h2 : ev (row5 N q) (dgX (ix (slv z.1 z.2.1 y))) = 0 := by simpa using h1
            rw [ev_congrX _ _ (slv z.1 z.2.1 y) (fun j hj => dgX_ix _ hj), ← r4 _ (slv_rows hE y), ev_slv z.2.1 y (fun w hw hD => r1 w (Nat.zero_le _) hw hD)] at h2
            exact h2
          have h0 := hall (fun _ => 0)
          have hk4 : w.1 4 = 0 := by
            unfold ev at h0
            grind
          refine ⟨?_, hk4⟩
          cases ht : w.2 with
          | none => rfl
          | some u =>
            obtain ⟨-, hu, -, hKu, -⟩ := r3 u ht
            have h1 := hall (fun j => if j = u then 1 else 0)
            exfalso
            apply hKu
            unfold ev at h1
            rw [hk4] at h1
            rcases (show u = 0 ∨ u = 1 ∨ u = 2 ∨ u = 3 by omega) with rfl | rfl | rfl | rfl
            · simp at h1; grind
            · simp at h1; grind
            · simp at h1; grind
            · simp at h1; grind
        · rintro ⟨h1, h2⟩ i hi hp
          have hr := (Rows_pre hE (dgX i)).mpr ((hP i hi).mp hp)
          rw [brk_bit N n q hi, ← r4 _ hr, ev_zero (fun w hw => r2 h1 w (Nat.zero_le _) hw), h2]
          simp
      cases hm : mfN (sol N O n) (brk N n) q 2401 with
      | true => rw [decide_eq_true_iff]; exact hmf.mp hm
      | false =>
        rw [decide_eq_false_iff_not]
        intro h
        rw [hmf.mpr h] at hm
        cases hm
end
section
set_option maxRecDepth 100000
/-! ===== needed ===== -/
theorem me_up (C : Nat → Nat) (b k : Nat) : ∀ m, meN (va_up C k (C k + 1)) b m = meN C b m + if k < m ∧ k &&& b = 0 then 1 else 0
  | 0 => by simp [meN]
  | m + 1 => by
    rw [meN, meN, me_up C b k m]
    by_cases hk : m = k
    · subst hk
      have h1 : va_up C m (C m + 1) m = C m + 1 := by simp [va_up]
      by_cases hz : m &&& b = 0
      · rw [if_pos hz, if_pos hz, h1, if_neg (by omega), if_pos ⟨by omega, hz⟩]
        omega
      · rw [if_neg hz, if_neg hz, if_neg (fun h => hz h.2), if_neg (fun h => hz h.2)]
    · have h1 : va_up C k (C k + 1) m = C m := by simp [va_up, hk]
      rw [h1]
      by_cases hc : k < m ∧ k &&& b = 0
      · rw [if_pos hc, if_pos (⟨by omega, hc.2⟩ : k < m + 1 ∧ k &&& b = 0)]
        split <;> omega
      · rw [if_neg hc, if_neg (show ¬ (k < m + 1 ∧ k &&& b = 0) from fun h => hc ⟨by omega, h.2⟩)]
        split <;> omega
theorem me_zero (b : Nat) : ∀ m, meN (fun _ => 0) b m = 0
  | 0 => rfl
  | m + 1 => by
    rw [meN, me_zero b m]
    split <;> rfl
theorem me_cnt {B : Nat → Nat} (hB : ∀ i, B i < 64) (b : Nat) : ∀ M, meN (coN B M) b 64 = ctN (fun i => decide (B i &&& b = 0)) M
  | 0 => me_zero b 64
  | M + 1 => by
    rw [coN, me_up, me_cnt hB b M, ctN]
    by_cases hz : B M &&& b = 0
    · rw [if_pos ⟨hB M, hz⟩, if_pos (decide_eq_true hz)]
    · rw [if_neg (fun h => hz h.2), if_neg (by rw [decide_eq_true_iff]; exact hz), Nat.add_zero]
def cnt (N : Nat → Fin 7) (n b : Nat) : Nat := ctN (fun i => decide (brk N n i &&& b = 0)) 2401
theorem mP_cnt (N : Nat → Fin 7) {n : Nat} (hn : n ≤ 6) (a b : Nat) : mP N n a b = decide (cnt N n b = cnt N n a) := by
  unfold mP
  rw [me_cnt (fun i => brk_64 N hn i), me_cnt (fun i => brk_64 N hn i)]
  have h1 := ctN_le (fun i => decide (brk N n i &&& b = 0)) 2401
  have h2 := ctN_le (fun i => decide (brk N n i &&& a = 0)) 2401
  exact decide_eq_decide.mpr (nI_eq (by omega) (by omega))
theorem ls_le {P : Nat → Bool} {a : Nat} : ∀ {M s : Nat}, s < M → s - (s &&& a) = 0 → P s = true → lsN P a M ≤ on1 s 6
  | 0, s, h, _, _ => absurd h (by omega)
  | M + 1, s, h, h1, h2 => by
    rw [lsN]
    by_cases hs : s = M
    · subst hs
      by_cases hc : s - (s &&& a) = 0 ∧ on1 s 6 < lsN P a s ∧ P s = true
      · rw [if_pos hc]; exact Nat.le_refl _
      · rw [if_neg hc]
        exact Nat.le_of_not_lt (fun z => hc ⟨h1, z, h2⟩)
    · have ih := ls_le (P := P) (a := a) (M := M) (s := s) (by omega) h1 h2
      split
      · omega
      · exact ih
theorem ls_hit {P : Nat → Bool} {a : Nat} : ∀ M, lsN P a M = 6 ∨ ∃ s, s < M ∧ s - (s &&& a) = 0 ∧ P s = true ∧ lsN P a M = on1 s 6
  | 0 => Or.inl rfl
  | M + 1 => by
    rw [lsN]
    by_cases hc : M - (M &&& a) = 0 ∧ on1 M 6 < lsN P a M ∧ P M = true
    · rw [if_pos hc]
      exact Or.inr ⟨M, by omega, hc.1, hc.2.2, rfl⟩
    · rw [if_neg hc]
      rcases ls_hit (P := P) (a := a) M with h | ⟨s, h1, h2⟩
      · exact Or.inl h
      · exact Or.inr ⟨s, by omega, h2⟩
theorem ctD_le (D : Nat → Bool) : ∀ t, ctD D t ≤ t
  | 0 => Nat.le_refl 0
  | t + 1 => by
    have := ctD_le D t
    rw [ctD]
    split <;> omega
theorem wy_ct (D : Nat → Bool) : ∀ t, wyN D 0 t * 7 ^ ctD D t = 7 ^ t
  | 0 => rfl
  | t + 1 => by
    have ih := wy_ct D t
    rw [wyN, ctD, Nat.zero_add]
    by_cases hD : D t = true
    · rw [if_pos hD, if_pos hD, Nat.pow_succ, Nat.pow_succ, ← ih, Nat.mul_assoc]
    · rw [if_neg hD, if_neg hD, Nat.pow_succ, ← ih, Nat.mul_assoc, Nat.mul_comm 7, ← Nat.mul_assoc]
theorem ct_of_wy {D D' : Nat → Bool} (h : wy D 0 = wy D' 0) : ctD D 4 = ctD D' 4 := by
  have h1 := wy_ct D 4
  have h2 := wy_ct D' 4
  have h0 : 0 < wy D' 0 := wy_pos D' 0
  have h : wyN D 0 4 = wyN D' 0 4 := h
  rw [h, ← h2] at h1
  have h3 := Nat.eq_of_mul_eq_mul_left h0 h1
  have key : ∀ x : Fin 5, ∀ y : Fin 5, 7 ^ x.val = 7 ^ y.val → x = y := by decide
  have g1 := ctD_le D 4
  have g2 := ctD_le D' 4
  exact congrArg Fin.val (key ⟨ctD D 4, by omega⟩ ⟨ctD D' 4, by omega⟩ h3)
theorem on1_mono (b : Nat) {e : Nat} : ∀ k, on1 b e ≤ on1 b (e + k)
  | 0 => Nat.le_refl _
  | k + 1 => by
    have := on1_mono b (e := e) k
    rw [show e + (k + 1) = (e + k) + 1 by omega, on1]
    omega
theorem sub_and {p a : Nat} (h : ∀ q, p.testBit q = true → a.testBit q = true) : p - (p &&& a) = 0 := by
  have e : p &&& a = p := by
    apply Nat.eq_of_testBit_eq
    intro q
    rw [Nat.testBit_and]
    cases hp : p.testBit q with
    | false => rfl
    | true => rw [h q hp]; rfl
  rw [e, Nat.sub_self]
theorem lt_64 {p : Nat} (h : ∀ q, p.testBit q = true → q < 6) : p < 64 := by
  show p < 2 ^ 6
  apply Nat.lt_pow_two_of_testBit
  intro i hi
  cases hp : p.testBit i with
  | false => rfl
  | true => exact absurd (h i hp) (by omega)
theorem ma_need (N R K : Nat → Fin 7) (O : Nat → Bool) {n : Nat} (hn : n ≤ 6) : (if cb N n (onM O n) = true then lsN (cb N n) (onM O n) 64 else ctD (sv N (onM O n) R K n).1 4) = lsN (mP N n (onM O n)) (onM O n) 64 := by
  have ha64 := onM_64 O hn
  generalize onM O n = a at *
  cases hcb : cb N n a with
  | true =>
    rw [if_pos rfl]
    have h0 : cnt N n a = 0 := of_decide_eq_true hcb
    have hf : cb N n = mP N n a := by
      funext b
      rw [mP_cnt N hn, h0]
      rfl
    rw [hf]
  | false =>
    rw [if_neg (by decide)]
    have hc : (sv N a R K n).2.2.1 = false := by rw [ma_cb N hn a ha64 R K]; exact hcb
    have h0 : cnt N n a ≠ 0 := of_decide_eq_false hcb
    obtain ⟨i1, i2, -, -, i5⟩ := sv_inv N a R K n hn
    have hca : cnt N n a = wy (sv N a R K n).1 0 := cnt_all (sv_f N R K hn hc)
    obtain ⟨p, p1, p2, p3⟩ := i5 hc
    have hp64 : p < 64 := lt_64 (fun q hq => by have := (p1 q hq).1; omega)
    have hpc : cnt N n p = cnt N n a := by
      refine ctN_congr (fun i hi => decide_eq_decide.mpr ?_)
      rw [brk_sat N n p hi, brk_sat N n a hi, ← p3, i2 hc]
    have hle : lsN (mP N n a) a 64 ≤ ctD (sv N a R K n).1 4 := by
      rw [← p2]
      refine ls_le hp64 (sub_and (fun q hq => (p1 q hq).2)) ?_
      rw [mP_cnt N hn]
      exact decide_eq_true hpc
    have h4 := ctD_le (sv N a R K n).1 4
    rcases ls_hit (P := mP N n a) (a := a) 64 with h | ⟨s, h1, h2, h3, h5⟩
    · omega
    · rw [mP_cnt N hn] at h3
      have hsc : cnt N n s = cnt N n a := of_decide_eq_true h3
      have hcs : (sv N s R K n).2.2.1 = false := by
        rw [ma_cb N hn s h1 R K]
        exact decide_eq_false (fun z => h0 (hsc.symm.trans z))
      have hcn : cnt N n s = wy (sv N s R K n).1 0 := cnt_all (sv_f N R K hn hcs)
      have hct : ctD (sv N a R K n).1 4 = ctD (sv N s R K n).1 4 := ct_of_wy (by rw [← hca, ← hcn, hsc])
      obtain ⟨-, -, -, j4, -⟩ := sv_inv N s R K n hn
      have hm := on1_mono s (e := n) (6 - n)
      rw [show n + (6 - n) = 6 by omega] at hm
      omega
end
section
set_option maxRecDepth 100000
/-! THE CLAIM OUT OF ONE WALK OF THE LAW'S BODY. Your part is whole_start (and what it stands on); all else here is the same for every law, but numbers. -/
def R_law : String := "ModSolverLaw"
def lw_P (b : Addr) (xs : List Int32) (args : Array Value) (s : State) : Prop := args = #[.ref b] ∧ s.IntsAt b xs ∧ xs.length ≤ 256 ∧ (Jvm.Cond.and given_1 narrow_1).before args s = true
def lw_Q (_ : Array Value) (s : State) (o : Outcome) (t : State) : Prop := o = .returned (some (.int 1)) ∧ Framed s o t [] 600000 7290000
def lw_Z (below : List Frame) (a : Array Value) (s : State) : State → Prop := fun t => ∃ o, t.status = .running ∧ Ended t below o ∧ lw_Q a s o t
/-- the law's own end, with 1 on the stack, nothing written that was there before, its room as the claim has it -/
theorem lw_ret {p : Program} {l : Launch} {e : Env} {s : State} {m : MethodId} {below : List Frame} {meth : Method} {c : Code} {b : Nat} (hx : p.tables.exec = Jvm.exec) (hb : c.code = code) (hr : meth.sig.returnType = ret) (hlocks : meth.locks = false) {pc : Nat} {H : Heap} {ls : Array Slot} (hdg : decode code pc = .ok (.ireturn, 1)) : W p l e room_1 s m #[Value.ref b] below meth c H [] 600000 7290000 (lw_Z below #[Value.ref b] s) (F0 m pc ls [.int 1]) := by
  intro T hT X
  obtain ⟨fs, hret, hrun, hended, hW, hframe⟩ := X.leave (v := some (.int 1)) (hlocks := hlocks) (fun h => by rw [hr] at h; cases h)
  have hmeth' : T.vm.method? m = some meth := X.method'
  refine ⟨T.setFrames fs, ?_, .returned (some (.int 1)), hrun, hended, rfl, ⟨_, rfl⟩, hW, hframe⟩
  jvm_step X.here [X.here.top, hx, hb, hdg, hmeth', hr, ret, narrow_b1]
  (try refine ⟨rfl, ?_⟩); (try refine ⟨rfl, ?_⟩)
  first | (intro acts; rw [hret _ acts rfl rfl rfl]) | rw [hret _ _ rfl rfl rfl]
  exact Steps.refl _
/-- what holds at the law's entry: the machine, the code, the tables' words (any of lw_tbl by 'hts w (by decide +kernel)'), the script of L ints xs at the cell b, what the Statement gives of the start (any of its parts by flat_of_before) -/
def lw_At (p : Program) (s : State) (m : MethodId) (meth : Method) (c : Code) (b L : Nat) (xs : Nat → Int32) : Prop :=
  p.tables.exec = Jvm.exec ∧ c.code = code ∧ meth.sig.returnType = ret ∧ c.maxLocals = 4 ∧ s.vm.findClass R_law = some m.cls ∧ (∀ w ∈ lw_tbl, w.before #[Value.ref b] s = true) ∧ va_X b L xs s s.heap ∧ b < s.heap.size ∧ meth.locks = false ∧ (Jvm.Cond.and given_1 narrow_1).before #[Value.ref b] s = true
end
section
set_option maxRecDepth 100000
/-! ===== the law's walk: its two objects side by side ===== -/
def LC (p : Program) (m : MethodId) (c : Code) (s : State) (b L : Nat) (xs : Nat → Int32) (E : va_G) (gx gm : Nat → Nat) : Prop :=
  CallFix p m c code 4 s #[Value.ref b] lw_all R_law ∧ va_X b L xs s s.heap ∧ b < s.heap.size ∧ L ≤ 256 ∧ (va_K E vwCl (gT gx) s ∧ xD gx) ∧ (va_K E vwCl (gT gm) s ∧ mD gm) ∧ (∀ q, xA gx q → ¬ mA gm q) ∧ (∀ q, xA gx q → s.heap.size ≤ q) ∧ (∀ q, mA gm q → s.heap.size ≤ q)
def LH (E : va_G) (gx gm : Nat → Nat) (n : Nat) (N : Nat → Fin 7) (O : Nat → Bool) (H : Heap) : Prop :=
  (∃ (D : Nat → Bool) (Rw : Nat → Fin 7) (k : Bool) (K : Nat → Fin 7), va_P E vwCl (xW gx n N O D Rw k K) H) ∧ ∃ (k : Bool) (B C : Nat → Nat), (k = true → ∀ i, i < 2401 → B i = brk N n i) ∧ va_P E vwCl (mW gm n N O k B C) H
section Rows
variable {p : Program} {l : Launch} {e : Env} {R : Room} {s : State} {m : MethodId} {below : List Frame} {meth : Method} {c : Code} {H : Heap} {locs : List Loc} {cells slots : Nat} {Q : State → Prop}
variable {pc : Nat} {ls : Array Slot} {rest st : List Value} {E : va_G} {gx gm : Nat → Nat} {b L : Nat} {xs : Nat → Int32}
theorem l_sld (j : Nat) (hj : j < L) (S : LC p m c s b L xs E gx gm) (hS : va_S (fun q : Nat => s.heap.size ≤ q) s.heap H locs) (hdg : decode code pc = .ok (.iaload, 1)) (kk : W p l e R s m #[Value.ref b] below meth c H locs cells slots Q (F0 m (pc + 1) ls (.int (xs j) :: rest))) : W p l e R s m #[Value.ref b] below meth c H locs cells slots Q (F0 m pc ls (.int (nI j) :: .ref b :: rest)) := by
  have hL := S.2.2.2.1
  refine va_sld (A := fun q : Nat => s.heap.size ≤ q) S.1.1 S.1.2.1 S.2.1 S.2.2.1 (Nat.not_le.mpr S.2.2.1) hS (vp_in_nI hj (by omega)) hdg ?_
  rw [nI_clamp (by omega)]
  exact kk
section X
variable {n : Nat} {N : Nat → Fin 7} {O D : Nat → Bool} {Rw : Nat → Fin 7} {k : Bool} {K : Nat → Fin 7} {n' : Nat} {N' : Nat → Fin 7} {O' : Nat → Bool} {nm : Nat} {Nm : Nat → Fin 7} {Om : Nat → Bool} {km : Bool} {B C : Nat → Nat}
theorem l_callX (na : Nat) {y : MethodName} {bytes : ByteArray} {index maxL : Nat} {ret : Option FieldType} {rm : Room} {As : List Value} {v : Value} {P : State → Prop} (hM : Met l y (ws_ y bytes maxL ret) rm (va_Pc (.ref (gx 0) :: As) (XI E gx n N O D Rw k K)) (qM (some v) P (xA gx)) 0 0 (xA gx)) (hPX : ∀ t, P t → XA E gx n' N' O' t) (S : LC p m c s b L xs E gx gm) (hPx : va_P E vwCl (xW gx n N O D Rw k K) H) (hPm : va_P E vwCl (mW gm nm Nm Om km B C) H) (hS : va_S (fun q : Nat => s.heap.size ≤ q) s.heap H locs) (hV : GoodIn lw_all (wsV R_law index RX0 y (ws_ y bytes maxL ret)))
    (hrc : rm.cells = 0) (hrs : rm.slots = 0) (hd : y.cls = RX0 ∧ y.cls ≠ "java/lang/invoke/MethodHandle" ∧ y.cls ≠ "java/lang/invoke/VarHandle" ∧ (parseMethodDescriptor y.desc).map (fun d => d.parameters.length) = some na) (hR : rm.frames + 1 ≤ R.frames ∧ 8 + (maxL + 11) + rm.locals ≤ R.locals)
    (hna : As.length = na) (hsz : ls.size = 4) (hst : st = As.reverse ++ .ref (gx 0) :: rest) (hW : (rest.map fun v => v.category).sum ≤ 8) (hf : cells ≤ R.cells ∧ slots ≤ R.slots) (hdg : decode code pc = .ok (.invokevirtual index, 3))
    (kk : ∀ (D : Nat → Bool) (Rw : Nat → Fin 7) (k : Bool) (K : Nat → Fin 7) (H : Heap) (locs : List Loc), va_P E vwCl (xW gx n' N' O' D Rw k K) H → va_P E vwCl (mW gm nm Nm Om km B C) H → va_S (fun q : Nat => s.heap.size ≤ q) s.heap H locs → W p l e R s m #[Value.ref b] below meth c H locs cells slots Q (F0 m (pc + 3) ls (v :: rest))) : W p l e R s m #[Value.ref b] below meth c H locs cells slots Q (F0 m pc ls st) := by
  obtain ⟨S0, -, -, -, ⟨hKx, hDx⟩, -, hap, hAx, -⟩ := S
  refine v_callM na hM S0 hV XI.bl (va_recv hKx hPx (ci := 0) (q0 := 0) rfl rfl) (fun U hU hW => ⟨by rw [hU]; exact hPx, va_K.moved hW.alike hKx, hDx⟩) hS hAx hrc hrs hd hR hna hsz hst hW hf hdg (fun t H1 locs1 ht _ hp hk hS1 => ?_)
  obtain ⟨D1, R1, k1, K1, hI⟩ := hPX t hp
  refine kk D1 R1 k1 K1 H1 locs1 (by rw [← ht]; exact hI.1) (hPm.kept (fun j q hq => hk q.1 (hPm j q hq).lt (fun hxq => hap q.1 hxq (mW_in j q hq)))) hS1
theorem l_callM (na : Nat) {y : MethodName} {bytes : ByteArray} {index maxL : Nat} {ret : Option FieldType} {rm : Room} {As : List Value} {v : Value} {P : State → Prop} (hM : Met l y (ws_ y bytes maxL ret) rm (va_Pc (.ref (gm 0) :: As) (MI E gm nm Nm Om km B C)) (qM (some v) P (mA gm)) 0 0 (mA gm)) (hPM : ∀ t, P t → MA E gm n' N' O' t) (S : LC p m c s b L xs E gx gm) (hPx : va_P E vwCl (xW gx n N O D Rw k K) H) (hPm : va_P E vwCl (mW gm nm Nm Om km B C) H) (hS : va_S (fun q : Nat => s.heap.size ≤ q) s.heap H locs) (hV : GoodIn lw_all (wsV R_law index RX1 y (ws_ y bytes maxL ret)))
    (hrc : rm.cells = 0) (hrs : rm.slots = 0) (hd : y.cls = RX1 ∧ y.cls ≠ "java/lang/invoke/MethodHandle" ∧ y.cls ≠ "java/lang/invoke/VarHandle" ∧ (parseMethodDescriptor y.desc).map (fun d => d.parameters.length) = some na) (hR : rm.frames + 1 ≤ R.frames ∧ 8 + (maxL + 11) + rm.locals ≤ R.locals)
    (hna : As.length = na) (hsz : ls.size = 4) (hst : st = As.reverse ++ .ref (gm 0) :: rest) (hW : (rest.map fun v => v.category).sum ≤ 8) (hf : cells ≤ R.cells ∧ slots ≤ R.slots) (hdg : decode code pc = .ok (.invokevirtual index, 3))
    (kk : ∀ (k2 : Bool) (B C : Nat → Nat) (H : Heap) (locs : List Loc), va_P E vwCl (xW gx n N O D Rw k K) H → (k2 = true → ∀ i, i < 2401 → B i = brk N' n' i) → va_P E vwCl (mW gm n' N' O' k2 B C) H → va_S (fun q : Nat => s.heap.size ≤ q) s.heap H locs → W p l e R s m #[Value.ref b] below meth c H locs cells slots Q (F0 m (pc + 3) ls (v :: rest))) : W p l e R s m #[Value.ref b] below meth c H locs cells slots Q (F0 m pc ls st) := by
  obtain ⟨S0, -, -, -, -, ⟨hKm, hDm⟩, hap, -, hAm⟩ := S
  refine v_callM na hM S0 hV MI.bl (va_recv hKm hPm (ci := 1) (q0 := 0) rfl rfl) (fun U hU hW => ⟨by rw [hU]; exact hPm, va_K.moved hW.alike hKm, hDm⟩) hS hAm hrc hrs hd hR hna hsz hst hW hf hdg (fun t H1 locs1 ht _ hp hk hS1 => ?_)
  obtain ⟨k1, B1, C1, hB1, hI⟩ := hPM t hp
  refine kk k1 B1 C1 H1 locs1 (hPx.kept (fun j q hq => hk q.1 (hPx j q hq).lt (fun hxq => hap q.1 (xW_in j q hq) hxq))) hB1 (by rw [← ht]; exact hI.1) hS1
end X
end Rows
set_option maxHeartbeats 4000000 in
theorem law_c0 {p : Program} {l : Launch} {e : Env} {s : State} {m : MethodId} {below : List Frame} {meth : Method} {c : Code} {H : Heap} {locs : List Loc} {Q : State → Prop} {ls : Array Slot} {E : va_G} {gx gm : Nat → Nat} {b L : Nat} {xs : Nat → Int32} {n : Nat} {N : Nat → Fin 7} {O : Nat → Bool} {i : Nat} (S : LC p m c s b L xs E gx gm) (hn : n ≤ 6) (hH : LH E gx gm n N O H) (hS : va_S (fun q : Nat => s.heap.size ≤ q) s.heap H locs) (hl : lv_has ls 4 [(0, .ref b), (1, .ref (gx 0)), (2, .ref (gm 0)), (3, .int (nI i))]) (hi : i + 4 ≤ L)
    (kk : ∀ (H : Heap) (locs : List Loc) (n : Nat) (N : Nat → Fin 7) (O : Nat → Bool), n ≤ 6 → LH E gx gm n N O H → va_S (fun q : Nat => s.heap.size ≤ q) s.heap H locs → W p l e room_1 s m #[Value.ref b] below meth c H locs 11 2579 Q (F0 m 371 ls [])) : W p l e room_1 s m #[Value.ref b] below meth c H locs 11 2579 Q (F0 m 92 ls []) := by
  obtain ⟨⟨D, Rw, k, K, hPx⟩, ⟨k2, B, C, hB, hPm⟩⟩ := hH
  have hx := S.1.1
  have hb := S.1.2.1
  by_cases h6 : n < 6
  · refine lv_aload_n hx hb dL_law_92 rfl (lv_at hl 1 rfl) ?_
    refine lv_aload_n hx hb dL_law_93 rfl (lv_at hl 0 rfl) ?_
    refine lv_iload_n hx hb dL_law_94 rfl (lv_at hl 3 rfl) ?_
    refine lv_iconst (v := nI 1) hx hb dL_law_95 (by decide) ?_
    refine lv_iadd hx hb dL_law_96 ?_
    refine lv_topE (y := nI (i + 1)) (nI_add i 1) ?_
    refine l_sld (i + 1) (by omega) S hS dL_law_97 ?_
    refine l_callX 1 (rest := []) (metX0_add l E gx n N O D Rw k K (xs (i + 1)) h6) (fun t h => ⟨_, _, _, _, h⟩) S hPx hPm hS (lw_V q54 q55 q56 q20 q57) rfl rfl (by decide +kernel) ⟨Nat.le_of_ble_eq_true rfl, Nat.le_of_ble_eq_true rfl⟩ rfl hl.1 rfl (Nat.le_of_ble_eq_true rfl) ⟨Nat.le_of_ble_eq_true rfl, Nat.le_of_ble_eq_true rfl⟩ dL_law_98 (fun D1 Rw1 k1 K1 H locs hPx hPm hS => ?_)
    refine lv_aload_n hx hb dL_law_101 rfl (lv_at hl 2 rfl) ?_
    refine lv_aload_n hx hb dL_law_102 rfl (lv_at hl 0 rfl) ?_
    refine lv_iload_n hx hb dL_law_103 rfl (lv_at hl 3 rfl) ?_
    refine lv_iconst (v := nI 1) hx hb dL_law_104 (by decide) ?_
    refine lv_iadd hx hb dL_law_105 ?_
    refine lv_topE (y := nI (i + 1)) (nI_add i 1) ?_
    refine l_sld (i + 1) (by omega) S hS dL_law_106 ?_
    refine l_callM 1 (rest := [.int (nI n)]) (metX1_add l E gm n N O k2 B C hB (xs (i + 1)) h6) (fun t h => h) S hPx hPm hS (lw_V q180 q181 q182 q21 q183) rfl rfl (by decide +kernel) ⟨Nat.le_of_ble_eq_true rfl, Nat.le_of_ble_eq_true rfl⟩ rfl hl.1 rfl (Nat.le_of_ble_eq_true rfl) ⟨Nat.le_of_ble_eq_true rfl, Nat.le_of_ble_eq_true rfl⟩ dL_law_107 (fun k2 B C H locs hPx hB hPm hS => ?_)
    refine lv_icmp_eq hx hb (tgt := 371) dL_law_110 (by decide) (fun _ => ?_) (fun h => absurd (rfl) h)
    exact kk H locs _ _ _ (by omega) ⟨⟨_, _, _, _, hPx⟩, ⟨_, _, _, hB, hPm⟩⟩ hS
  · have h6 : n = 6 := by omega
    refine lv_aload_n hx hb dL_law_92 rfl (lv_at hl 1 rfl) ?_
    refine lv_aload_n hx hb dL_law_93 rfl (lv_at hl 0 rfl) ?_
    refine lv_iload_n hx hb dL_law_94 rfl (lv_at hl 3 rfl) ?_
    refine lv_iconst (v := nI 1) hx hb dL_law_95 (by decide) ?_
    refine lv_iadd hx hb dL_law_96 ?_
    refine lv_topE (y := nI (i + 1)) (nI_add i 1) ?_
    refine l_sld (i + 1) (by omega) S hS dL_law_97 ?_
    refine l_callX 1 (rest := []) (metX0_add_full l E gx n N O D Rw k K (xs (i + 1)) h6) (fun t h => ⟨_, _, _, _, h⟩) S hPx hPm hS (lw_V q54 q55 q56 q20 q57) rfl rfl (by decide +kernel) ⟨Nat.le_of_ble_eq_true rfl, Nat.le_of_ble_eq_true rfl⟩ rfl hl.1 rfl (Nat.le_of_ble_eq_true rfl) ⟨Nat.le_of_ble_eq_true rfl, Nat.le_of_ble_eq_true rfl⟩ dL_law_98 (fun D1 Rw1 k1 K1 H locs hPx hPm hS => ?_)
    refine lv_aload_n hx hb dL_law_101 rfl (lv_at hl 2 rfl) ?_
    refine lv_aload_n hx hb dL_law_102 rfl (lv_at hl 0 rfl) ?_
    refine lv_iload_n hx hb dL_law_103 rfl (lv_at hl 3 rfl) ?_
    refine lv_iconst (v := nI 1) hx hb dL_law_104 (by decide) ?_
    refine lv_iadd hx hb dL_law_105 ?_
    refine lv_topE (y := nI (i + 1)) (nI_add i 1) ?_
    refine l_sld (i + 1) (by omega) S hS dL_law_106 ?_
    refine l_callM 1 (rest := [.int (-3)]) (metX1_add_full l E gm n N O k2 B C hB (xs (i + 1)) h6) (fun t h => h) S hPx hPm hS (lw_V q180 q181 q182 q21 q183) rfl rfl (by decide +kernel) ⟨Nat.le_of_ble_eq_true rfl, Nat.le_of_ble_eq_true rfl⟩ rfl hl.1 rfl (Nat.le_of_ble_eq_true rfl) ⟨Nat.le_of_ble_eq_true rfl, Nat.le_of_ble_eq_true rfl⟩ dL_law_107 (fun k2 B C H locs hPx hB hPm hS => ?_)
    refine lv_icmp_eq hx hb (tgt := 371) dL_law_110 (by decide) (fun _ => ?_) (fun h => absurd (rfl) h)
    exact kk H locs _ _ _ hn ⟨⟨_, _, _, _, hPx⟩, ⟨_, _, _, hB, hPm⟩⟩ hS
set_option maxHeartbeats 4000000 in
theorem law_c1 {p : Program} {l : Launch} {e : Env} {s : State} {m : MethodId} {below : List Frame} {meth : Method} {c : Code} {H : Heap} {locs : List Loc} {Q : State → Prop} {ls : Array Slot} {E : va_G} {gx gm : Nat → Nat} {b L : Nat} {xs : Nat → Int32} {n : Nat} {N : Nat → Fin 7} {O : Nat → Bool} {i : Nat} (S : LC p m c s b L xs E gx gm) (hn : n ≤ 6) (hH : LH E gx gm n N O H) (hS : va_S (fun q : Nat => s.heap.size ≤ q) s.heap H locs) (hl : lv_has ls 4 [(0, .ref b), (1, .ref (gx 0)), (2, .ref (gm 0)), (3, .int (nI i))]) (hi : i + 4 ≤ L)
    (kk : ∀ (H : Heap) (locs : List Loc) (n : Nat) (N : Nat → Fin 7) (O : Nat → Bool), n ≤ 6 → LH E gx gm n N O H → va_S (fun q : Nat => s.heap.size ≤ q) s.heap H locs → W p l e room_1 s m #[Value.ref b] below meth c H locs 11 2579 Q (F0 m 371 ls [])) : W p l e room_1 s m #[Value.ref b] below meth c H locs 11 2579 Q (F0 m 115 ls []) := by
  obtain ⟨⟨D, Rw, k, K, hPx⟩, ⟨k2, B, C, hB, hPm⟩⟩ := hH
  have hx := S.1.1
  have hb := S.1.2.1
  cases h1 : noE n (xs (i + 1)) with
  | true =>
    refine lv_aload_n hx hb dL_law_115 rfl (lv_at hl 1 rfl) ?_
    refine lv_aload_n hx hb dL_law_116 rfl (lv_at hl 0 rfl) ?_
    refine lv_iload_n hx hb dL_law_117 rfl (lv_at hl 3 rfl) ?_
    refine lv_iconst (v := nI 1) hx hb dL_law_118 (by decide) ?_
    refine lv_iadd hx hb dL_law_119 ?_
    refine lv_topE (y := nI (i + 1)) (nI_add i 1) ?_
    refine l_sld (i + 1) (by omega) S hS dL_law_120 ?_
    refine lv_aload_n hx hb dL_law_121 rfl (lv_at hl 0 rfl) ?_
    refine lv_iload_n hx hb dL_law_122 rfl (lv_at hl 3 rfl) ?_
    refine lv_iconst (v := nI 2) hx hb dL_law_123 (by decide) ?_
    refine lv_iadd hx hb dL_law_124 ?_
    refine lv_topE (y := nI (i + 2)) (nI_add i 2) ?_
    refine l_sld (i + 2) (by omega) S hS dL_law_125 ?_
    refine lv_aload_n hx hb dL_law_126 rfl (lv_at hl 0 rfl) ?_
    refine lv_iload_n hx hb dL_law_127 rfl (lv_at hl 3 rfl) ?_
    refine lv_iconst (v := nI 3) hx hb dL_law_128 (by decide) ?_
    refine lv_iadd hx hb dL_law_129 ?_
    refine lv_topE (y := nI (i + 3)) (nI_add i 3) ?_
    refine l_sld (i + 3) (by omega) S hS dL_law_130 ?_
    refine l_callX 3 (rest := []) (metX0_set_bad l E gx n N O D Rw k K _ _ _ h1) (fun t h => ⟨_, _, _, _, h⟩) S hPx hPm hS (lw_V q59 q60 q61 q20 q62) rfl rfl (by decide +kernel) ⟨Nat.le_of_ble_eq_true rfl, Nat.le_of_ble_eq_true rfl⟩ rfl hl.1 rfl (Nat.le_of_ble_eq_true rfl) ⟨Nat.le_of_ble_eq_true rfl, Nat.le_of_ble_eq_true rfl⟩ dL_law_131 (fun D1 Rw1 k1 K1 H locs hPx hPm hS => ?_)
    refine lv_aload_n hx hb dL_law_134 rfl (lv_at hl 2 rfl) ?_
    refine lv_aload_n hx hb dL_law_135 rfl (lv_at hl 0 rfl) ?_
    refine lv_iload_n hx hb dL_law_136 rfl (lv_at hl 3 rfl) ?_
    refine lv_iconst (v := nI 1) hx hb dL_law_137 (by decide) ?_
    refine lv_iadd hx hb dL_law_138 ?_
    refine lv_topE (y := nI (i + 1)) (nI_add i 1) ?_
    refine l_sld (i + 1) (by omega) S hS dL_law_139 ?_
    refine lv_aload_n hx hb dL_law_140 rfl (lv_at hl 0 rfl) ?_
    refine lv_iload_n hx hb dL_law_141 rfl (lv_at hl 3 rfl) ?_
    refine lv_iconst (v := nI 2) hx hb dL_law_142 (by decide) ?_
    refine lv_iadd hx hb dL_law_143 ?_
    refine lv_topE (y := nI (i + 2)) (nI_add i 2) ?_
    refine l_sld (i + 2) (by omega) S hS dL_law_144 ?_
    refine lv_aload_n hx hb dL_law_145 rfl (lv_at hl 0 rfl) ?_
    refine lv_iload_n hx hb dL_law_146 rfl (lv_at hl 3 rfl) ?_
    refine lv_iconst (v := nI 3) hx hb dL_law_147 (by decide) ?_
    refine lv_iadd hx hb dL_law_148 ?_
    refine lv_topE (y := nI (i + 3)) (nI_add i 3) ?_
    refine l_sld (i + 3) (by omega) S hS dL_law_149 ?_
    refine l_callM 3 (rest := [.int (-1)]) (metX1_set_bad l E gm n N O k2 B C hB _ _ _ h1) (fun t h => h) S hPx hPm hS (lw_V q189 q190 q191 q21 q192) rfl rfl (by decide +kernel) ⟨Nat.le_of_ble_eq_true rfl, Nat.le_of_ble_eq_true rfl⟩ rfl hl.1 rfl (Nat.le_of_ble_eq_true rfl) ⟨Nat.le_of_ble_eq_true rfl, Nat.le_of_ble_eq_true rfl⟩ dL_law_150 (fun k2 B C H locs hPx hB hPm hS => ?_)
    refine lv_icmp_eq hx hb (tgt := 371) dL_law_153 (by decide) (fun _ => ?_) (fun h => absurd (rfl) h)
    exact kk H locs _ _ _ hn ⟨⟨_, _, _, _, hPx⟩, ⟨_, _, _, hB, hPm⟩⟩ hS
  | false =>
    by_cases h2 : xs (i + 2) < 0 ∨ nI 4 < xs (i + 2)
    · refine lv_aload_n hx hb dL_law_115 rfl (lv_at hl 1 rfl) ?_
      refine lv_aload_n hx hb dL_law_116 rfl (lv_at hl 0 rfl) ?_
      refine lv_iload_n hx hb dL_law_117 rfl (lv_at hl 3 rfl) ?_
      refine lv_iconst (v := nI 1) hx hb dL_law_118 (by decide) ?_
      refine lv_iadd hx hb dL_law_119 ?_
      refine lv_topE (y := nI (i + 1)) (nI_add i 1) ?_
      refine l_sld (i + 1) (by omega) S hS dL_law_120 ?_
      refine lv_aload_n hx hb dL_law_121 rfl (lv_at hl 0 rfl) ?_
      refine lv_iload_n hx hb dL_law_122 rfl (lv_at hl 3 rfl) ?_
      refine lv_iconst (v := nI 2) hx hb dL_law_123 (by decide) ?_
      refine lv_iadd hx hb dL_law_124 ?_
      refine lv_topE (y := nI (i + 2)) (nI_add i 2) ?_
      refine l_sld (i + 2) (by omega) S hS dL_law_125 ?_
      refine lv_aload_n hx hb dL_law_126 rfl (lv_at hl 0 rfl) ?_
      refine lv_iload_n hx hb dL_law_127 rfl (lv_at hl 3 rfl) ?_
      refine lv_iconst (v := nI 3) hx hb dL_law_128 (by decide) ?_
      refine lv_iadd hx hb dL_law_129 ?_
      refine lv_topE (y := nI (i + 3)) (nI_add i 3) ?_
      refine l_sld (i + 3) (by omega) S hS dL_law_130 ?_
      refine l_callX 3 (rest := []) (metX0_set_unk l E gx n N O D Rw k K _ _ _ h1 h2) (fun t h => ⟨_, _, _, _, h⟩) S hPx hPm hS (lw_V q59 q60 q61 q20 q62) rfl rfl (by decide +kernel) ⟨Nat.le_of_ble_eq_true rfl, Nat.le_of_ble_eq_true rfl⟩ rfl hl.1 rfl (Nat.le_of_ble_eq_true rfl) ⟨Nat.le_of_ble_eq_true rfl, Nat.le_of_ble_eq_true rfl⟩ dL_law_131 (fun D1 Rw1 k1 K1 H locs hPx hPm hS => ?_)
      refine lv_aload_n hx hb dL_law_134 rfl (lv_at hl 2 rfl) ?_
      refine lv_aload_n hx hb dL_law_135 rfl (lv_at hl 0 rfl) ?_
      refine lv_iload_n hx hb dL_law_136 rfl (lv_at hl 3 rfl) ?_
      refine lv_iconst (v := nI 1) hx hb dL_law_137 (by decide) ?_
      refine lv_iadd hx hb dL_law_138 ?_
      refine lv_topE (y := nI (i + 1)) (nI_add i 1) ?_
      refine l_sld (i + 1) (by omega) S hS dL_law_139 ?_
      refine lv_aload_n hx hb dL_law_140 rfl (lv_at hl 0 rfl) ?_
      refine lv_iload_n hx hb dL_law_141 rfl (lv_at hl 3 rfl) ?_
      refine lv_iconst (v := nI 2) hx hb dL_law_142 (by decide) ?_
      refine lv_iadd hx hb dL_law_143 ?_
      refine lv_topE (y := nI (i + 2)) (nI_add i 2) ?_
      refine l_sld (i + 2) (by omega) S hS dL_law_144 ?_
      refine lv_aload_n hx hb dL_law_145 rfl (lv_at hl 0 rfl) ?_
      refine lv_iload_n hx hb dL_law_146 rfl (lv_at hl 3 rfl) ?_
      refine lv_iconst (v := nI 3) hx hb dL_law_147 (by decide) ?_
      refine lv_iadd hx hb dL_law_148 ?_
      refine lv_topE (y := nI (i + 3)) (nI_add i 3) ?_
      refine l_sld (i + 3) (by omega) S hS dL_law_149 ?_
      refine l_callM 3 (rest := [.int (-2)]) (metX1_set_unk l E gm n N O k2 B C hB _ _ _ h1 h2) (fun t h => h) S hPx hPm hS (lw_V q189 q190 q191 q21 q192) rfl rfl (by decide +kernel) ⟨Nat.le_of_ble_eq_true rfl, Nat.le_of_ble_eq_true rfl⟩ rfl hl.1 rfl (Nat.le_of_ble_eq_true rfl) ⟨Nat.le_of_ble_eq_true rfl, Nat.le_of_ble_eq_true rfl⟩ dL_law_150 (fun k2 B C H locs hPx hB hPm hS => ?_)
      refine lv_icmp_eq hx hb (tgt := 371) dL_law_153 (by decide) (fun _ => ?_) (fun h => absurd (rfl) h)
      exact kk H locs _ _ _ hn ⟨⟨_, _, _, _, hPx⟩, ⟨_, _, _, hB, hPm⟩⟩ hS
    · obtain ⟨a, ha, hxa⟩ := noE_no hn h1
      obtain ⟨j, hj, hxj⟩ := nI_case4 (fun h => h2 (Or.inl h)) (fun h => h2 (Or.inr h))
      refine lv_aload_n hx hb dL_law_115 rfl (lv_at hl 1 rfl) ?_
      refine lv_aload_n hx hb dL_law_116 rfl (lv_at hl 0 rfl) ?_
      refine lv_iload_n hx hb dL_law_117 rfl (lv_at hl 3 rfl) ?_
      refine lv_iconst (v := nI 1) hx hb dL_law_118 (by decide) ?_
      refine lv_iadd hx hb dL_law_119 ?_
      refine lv_topE (y := nI (i + 1)) (nI_add i 1) ?_
      refine l_sld (i + 1) (by omega) S hS dL_law_120 ?_
      refine lv_topE (y := nI a) hxa ?_
      refine lv_aload_n hx hb dL_law_121 rfl (lv_at hl 0 rfl) ?_
      refine lv_iload_n hx hb dL_law_122 rfl (lv_at hl 3 rfl) ?_
      refine lv_iconst (v := nI 2) hx hb dL_law_123 (by decide) ?_
      refine lv_iadd hx hb dL_law_124 ?_
      refine lv_topE (y := nI (i + 2)) (nI_add i 2) ?_
      refine l_sld (i + 2) (by omega) S hS dL_law_125 ?_
      refine lv_topE (y := nI j) hxj ?_
      refine lv_aload_n hx hb dL_law_126 rfl (lv_at hl 0 rfl) ?_
      refine lv_iload_n hx hb dL_law_127 rfl (lv_at hl 3 rfl) ?_
      refine lv_iconst (v := nI 3) hx hb dL_law_128 (by decide) ?_
      refine lv_iadd hx hb dL_law_129 ?_
      refine lv_topE (y := nI (i + 3)) (nI_add i 3) ?_
      refine l_sld (i + 3) (by omega) S hS dL_law_130 ?_
      refine l_callX 3 (rest := []) (metX0_set l E gx n N O D Rw k K a j (xs (i + 3)) hn ha hj) (fun t h => ⟨_, _, _, _, h⟩) S hPx hPm hS (lw_V q59 q60 q61 q20 q62) rfl rfl (by decide +kernel) ⟨Nat.le_of_ble_eq_true rfl, Nat.le_of_ble_eq_true rfl⟩ rfl hl.1 rfl (Nat.le_of_ble_eq_true rfl) ⟨Nat.le_of_ble_eq_true rfl, Nat.le_of_ble_eq_true rfl⟩ dL_law_131 (fun D1 Rw1 k1 K1 H locs hPx hPm hS => ?_)
      refine lv_aload_n hx hb dL_law_134 rfl (lv_at hl 2 rfl) ?_
      refine lv_aload_n hx hb dL_law_135 rfl (lv_at hl 0 rfl) ?_
      refine lv_iload_n hx hb dL_law_136 rfl (lv_at hl 3 rfl) ?_
      refine lv_iconst (v := nI 1) hx hb dL_law_137 (by decide) ?_
      refine lv_iadd hx hb dL_law_138 ?_
      refine lv_topE (y := nI (i + 1)) (nI_add i 1) ?_
      refine l_sld (i + 1) (by omega) S hS dL_law_139 ?_
      refine lv_topE (y := nI a) hxa ?_
      refine lv_aload_n hx hb dL_law_140 rfl (lv_at hl 0 rfl) ?_
      refine lv_iload_n hx hb dL_law_141 rfl (lv_at hl 3 rfl) ?_
      refine lv_iconst (v := nI 2) hx hb dL_law_142 (by decide) ?_
      refine lv_iadd hx hb dL_law_143 ?_
      refine lv_topE (y := nI (i + 2)) (nI_add i 2) ?_
      refine l_sld (i + 2) (by omega) S hS dL_law_144 ?_
      refine lv_topE (y := nI j) hxj ?_
      refine lv_aload_n hx hb dL_law_145 rfl (lv_at hl 0 rfl) ?_
      refine lv_iload_n hx hb dL_law_146 rfl (lv_at hl 3 rfl) ?_
      refine lv_iconst (v := nI 3) hx hb dL_law_147 (by decide) ?_
      refine lv_iadd hx hb dL_law_148 ?_
      refine lv_topE (y := nI (i + 3)) (nI_add i 3) ?_
      refine l_sld (i + 3) (by omega) S hS dL_law_149 ?_
      refine l_callM 3 (rest := [.int (nI (N (a * 5 + j)).val)]) (metX1_set l E gm n N O k2 B C a j (xs (i + 3)) hn ha hj) (fun t h => h) S hPx hPm hS (lw_V q189 q190 q191 q21 q192) rfl rfl (by decide +kernel) ⟨Nat.le_of_ble_eq_true rfl, Nat.le_of_ble_eq_true rfl⟩ rfl hl.1 rfl (Nat.le_of_ble_eq_true rfl) ⟨Nat.le_of_ble_eq_true rfl, Nat.le_of_ble_eq_true rfl⟩ dL_law_150 (fun k2 B C H locs hPx hB hPm hS => ?_)
      refine lv_icmp_eq hx hb (tgt := 371) dL_law_153 (by decide) (fun _ => ?_) (fun h => absurd (rfl) h)
      exact kk H locs _ _ _ hn ⟨⟨_, _, _, _, hPx⟩, ⟨_, _, _, hB, hPm⟩⟩ hS
set_option maxHeartbeats 4000000 in
theorem law_c2 {p : Program} {l : Launch} {e : Env} {s : State} {m : MethodId} {below : List Frame} {meth : Method} {c : Code} {H : Heap} {locs : List Loc} {Q : State → Prop} {ls : Array Slot} {E : va_G} {gx gm : Nat → Nat} {b L : Nat} {xs : Nat → Int32} {n : Nat} {N : Nat → Fin 7} {O : Nat → Bool} {i : Nat} (S : LC p m c s b L xs E gx gm) (hn : n ≤ 6) (hH : LH E gx gm n N O H) (hS : va_S (fun q : Nat => s.heap.size ≤ q) s.heap H locs) (hl : lv_has ls 4 [(0, .ref b), (1, .ref (gx 0)), (2, .ref (gm 0)), (3, .int (nI i))]) (hi : i + 4 ≤ L)
    (kk : ∀ (H : Heap) (locs : List Loc) (n : Nat) (N : Nat → Fin 7) (O : Nat → Bool), n ≤ 6 → LH E gx gm n N O H → va_S (fun q : Nat => s.heap.size ≤ q) s.heap H locs → W p l e room_1 s m #[Value.ref b] below meth c H locs 11 2579 Q (F0 m 371 ls [])) : W p l e room_1 s m #[Value.ref b] below meth c H locs 11 2579 Q (F0 m 158 ls []) := by
  obtain ⟨⟨D, Rw, k, K, hPx⟩, ⟨k2, B, C, hB, hPm⟩⟩ := hH
  have hx := S.1.1
  have hb := S.1.2.1
  obtain ⟨v, hv⟩ : ∃ v : Bool, v = decide (xs (i + 2) ≠ 0) := ⟨_, rfl⟩
  cases h1 : noE n (xs (i + 1)) with
  | true =>
    by_cases hz : xs (i + 2) = 0
    · refine lv_aload_n hx hb dL_law_158 rfl (lv_at hl 1 rfl) ?_
      refine lv_aload_n hx hb dL_law_159 rfl (lv_at hl 0 rfl) ?_
      refine lv_iload_n hx hb dL_law_160 rfl (lv_at hl 3 rfl) ?_
      refine lv_iconst (v := nI 1) hx hb dL_law_161 (by decide) ?_
      refine lv_iadd hx hb dL_law_162 ?_
      refine lv_topE (y := nI (i + 1)) (nI_add i 1) ?_
      refine l_sld (i + 1) (by omega) S hS dL_law_163 ?_
      refine lv_aload_n hx hb dL_law_164 rfl (lv_at hl 0 rfl) ?_
      refine lv_iload_n hx hb dL_law_165 rfl (lv_at hl 3 rfl) ?_
      refine lv_iconst (v := nI 2) hx hb dL_law_166 (by decide) ?_
      refine lv_iadd hx hb dL_law_167 ?_
      refine lv_topE (y := nI (i + 2)) (nI_add i 2) ?_
      refine l_sld (i + 2) (by omega) S hS dL_law_168 ?_
      refine lv_if_eq hx hb (tgt := 176) dL_law_169 (by decide) (fun d1 => ?_) (fun d2 => absurd d2 (fun h => h hz))
      refine lv_iconst (v := nI 0) hx hb dL_law_176 (by decide) ?_
      refine lv_topE (y := bI false) (by decide) ?_
      refine l_callX 2 (rest := []) (metX0_turn_bad l E gx n N O D Rw k K _ false h1) (fun t h => ⟨_, _, _, _, h⟩) S hPx hPm hS (lw_V q70 q71 q72 q20 q73) rfl rfl (by decide +kernel) ⟨Nat.le_of_ble_eq_true rfl, Nat.le_of_ble_eq_true rfl⟩ rfl hl.1 rfl (Nat.le_of_ble_eq_true rfl) ⟨Nat.le_of_ble_eq_true rfl, Nat.le_of_ble_eq_true rfl⟩ dL_law_177 (fun D1 Rw1 k1 K1 H locs hPx hPm hS => ?_)
      refine lv_aload_n hx hb dL_law_180 rfl (lv_at hl 2 rfl) ?_
      refine lv_aload_n hx hb dL_law_181 rfl (lv_at hl 0 rfl) ?_
      refine lv_iload_n hx hb dL_law_182 rfl (lv_at hl 3 rfl) ?_
      refine lv_iconst (v := nI 1) hx hb dL_law_183 (by decide) ?_
      refine lv_iadd hx hb dL_law_184 ?_
      refine lv_topE (y := nI (i + 1)) (nI_add i 1) ?_
      refine l_sld (i + 1) (by omega) S hS dL_law_185 ?_
      refine lv_aload_n hx hb dL_law_186 rfl (lv_at hl 0 rfl) ?_
      refine lv_iload_n hx hb dL_law_187 rfl (lv_at hl 3 rfl) ?_
      refine lv_iconst (v := nI 2) hx hb dL_law_188 (by decide) ?_
      refine lv_iadd hx hb dL_law_189 ?_
      refine lv_topE (y := nI (i + 2)) (nI_add i 2) ?_
      refine l_sld (i + 2) (by omega) S hS dL_law_190 ?_
      refine lv_if_eq hx hb (tgt := 198) dL_law_191 (by decide) (fun d1 => ?_) (fun d2 => absurd d2 (fun h => h hz))
      refine lv_iconst (v := nI 0) hx hb dL_law_198 (by decide) ?_
      refine lv_topE (y := bI false) (by decide) ?_
      refine l_callM 2 (rest := [.int (-1)]) (metX1_turn_bad l E gm n N O k2 B C hB _ false h1) (fun t h => h) S hPx hPm hS (lw_V q197 q198 q199 q21 q200) rfl rfl (by decide +kernel) ⟨Nat.le_of_ble_eq_true rfl, Nat.le_of_ble_eq_true rfl⟩ rfl hl.1 rfl (Nat.le_of_ble_eq_true rfl) ⟨Nat.le_of_ble_eq_true rfl, Nat.le_of_ble_eq_true rfl⟩ dL_law_199 (fun k2 B C H locs hPx hB hPm hS => ?_)
      refine lv_icmp_eq hx hb (tgt := 371) dL_law_202 (by decide) (fun _ => ?_) (fun h => absurd (rfl) h)
      exact kk H locs _ _ _ hn ⟨⟨_, _, _, _, hPx⟩, ⟨_, _, _, hB, hPm⟩⟩ hS
    · refine lv_aload_n hx hb dL_law_158 rfl (lv_at hl 1 rfl) ?_
      refine lv_aload_n hx hb dL_law_159 rfl (lv_at hl 0 rfl) ?_
      refine lv_iload_n hx hb dL_law_160 rfl (lv_at hl 3 rfl) ?_
      refine lv_iconst (v := nI 1) hx hb dL_law_161 (by decide) ?_
      refine lv_iadd hx hb dL_law_162 ?_
      refine lv_topE (y := nI (i + 1)) (nI_add i 1) ?_
      refine l_sld (i + 1) (by omega) S hS dL_law_163 ?_
      refine lv_aload_n hx hb dL_law_164 rfl (lv_at hl 0 rfl) ?_
      refine lv_iload_n hx hb dL_law_165 rfl (lv_at hl 3 rfl) ?_
      refine lv_iconst (v := nI 2) hx hb dL_law_166 (by decide) ?_
      refine lv_iadd hx hb dL_law_167 ?_
      refine lv_topE (y := nI (i + 2)) (nI_add i 2) ?_
      refine l_sld (i + 2) (by omega) S hS dL_law_168 ?_
      refine lv_if_eq hx hb (tgt := 176) dL_law_169 (by decide) (fun d1 => absurd d1 (hz)) (fun d2 => ?_)
      refine lv_iconst (v := nI 1) hx hb dL_law_172 (by decide) ?_
      refine lv_goto (tgt := 177) hx hb dL_law_173 (by decide) ?_
      refine lv_topE (y := bI true) (by decide) ?_
      refine l_callX 2 (rest := []) (metX0_turn_bad l E gx n N O D Rw k K _ true h1) (fun t h => ⟨_, _, _, _, h⟩) S hPx hPm hS (lw_V q70 q71 q72 q20 q73) rfl rfl (by decide +kernel) ⟨Nat.le_of_ble_eq_true rfl, Nat.le_of_ble_eq_true rfl⟩ rfl hl.1 rfl (Nat.le_of_ble_eq_true rfl) ⟨Nat.le_of_ble_eq_true rfl, Nat.le_of_ble_eq_true rfl⟩ dL_law_177 (fun D1 Rw1 k1 K1 H locs hPx hPm hS => ?_)
      refine lv_aload_n hx hb dL_law_180 rfl (lv_at hl 2 rfl) ?_
      refine lv_aload_n hx hb dL_law_181 rfl (lv_at hl 0 rfl) ?_
      refine lv_iload_n hx hb dL_law_182 rfl (lv_at hl 3 rfl) ?_
      refine lv_iconst (v := nI 1) hx hb dL_law_183 (by decide) ?_
      refine lv_iadd hx hb dL_law_184 ?_
      refine lv_topE (y := nI (i + 1)) (nI_add i 1) ?_
      refine l_sld (i + 1) (by omega) S hS dL_law_185 ?_
      refine lv_aload_n hx hb dL_law_186 rfl (lv_at hl 0 rfl) ?_
      refine lv_iload_n hx hb dL_law_187 rfl (lv_at hl 3 rfl) ?_
      refine lv_iconst (v := nI 2) hx hb dL_law_188 (by decide) ?_
      refine lv_iadd hx hb dL_law_189 ?_
      refine lv_topE (y := nI (i + 2)) (nI_add i 2) ?_
      refine l_sld (i + 2) (by omega) S hS dL_law_190 ?_
      refine lv_if_eq hx hb (tgt := 198) dL_law_191 (by decide) (fun d1 => absurd d1 (hz)) (fun d2 => ?_)
      refine lv_iconst (v := nI 1) hx hb dL_law_194 (by decide) ?_
      refine lv_goto (tgt := 199) hx hb dL_law_195 (by decide) ?_
      refine lv_topE (y := bI true) (by decide) ?_
      refine l_callM 2 (rest := [.int (-1)]) (metX1_turn_bad l E gm n N O k2 B C hB _ true h1) (fun t h => h) S hPx hPm hS (lw_V q197 q198 q199 q21 q200) rfl rfl (by decide +kernel) ⟨Nat.le_of_ble_eq_true rfl, Nat.le_of_ble_eq_true rfl⟩ rfl hl.1 rfl (Nat.le_of_ble_eq_true rfl) ⟨Nat.le_of_ble_eq_true rfl, Nat.le_of_ble_eq_true rfl⟩ dL_law_199 (fun k2 B C H locs hPx hB hPm hS => ?_)
      refine lv_icmp_eq hx hb (tgt := 371) dL_law_202 (by decide) (fun _ => ?_) (fun h => absurd (rfl) h)
      exact kk H locs _ _ _ hn ⟨⟨_, _, _, _, hPx⟩, ⟨_, _, _, hB, hPm⟩⟩ hS
  | false =>
    obtain ⟨a, ha, hxa⟩ := noE_no hn h1
    by_cases hz : xs (i + 2) = 0
    · refine lv_aload_n hx hb dL_law_158 rfl (lv_at hl 1 rfl) ?_
      refine lv_aload_n hx hb dL_law_159 rfl (lv_at hl 0 rfl) ?_
      refine lv_iload_n hx hb dL_law_160 rfl (lv_at hl 3 rfl) ?_
      refine lv_iconst (v := nI 1) hx hb dL_law_161 (by decide) ?_
      refine lv_iadd hx hb dL_law_162 ?_
      refine lv_topE (y := nI (i + 1)) (nI_add i 1) ?_
      refine l_sld (i + 1) (by omega) S hS dL_law_163 ?_
      refine lv_topE (y := nI a) hxa ?_
      refine lv_aload_n hx hb dL_law_164 rfl (lv_at hl 0 rfl) ?_
      refine lv_iload_n hx hb dL_law_165 rfl (lv_at hl 3 rfl) ?_
      refine lv_iconst (v := nI 2) hx hb dL_law_166 (by decide) ?_
      refine lv_iadd hx hb dL_law_167 ?_
      refine lv_topE (y := nI (i + 2)) (nI_add i 2) ?_
      refine l_sld (i + 2) (by omega) S hS dL_law_168 ?_
      refine lv_if_eq hx hb (tgt := 176) dL_law_169 (by decide) (fun d1 => ?_) (fun d2 => absurd d2 (fun h => h hz))
      refine lv_iconst (v := nI 0) hx hb dL_law_176 (by decide) ?_
      refine lv_topE (y := bI false) (by decide) ?_
      refine l_callX 2 (rest := []) (metX0_turn l E gx n N O D Rw k K a false hn ha) (fun t h => ⟨_, _, _, _, h⟩) S hPx hPm hS (lw_V q70 q71 q72 q20 q73) rfl rfl (by decide +kernel) ⟨Nat.le_of_ble_eq_true rfl, Nat.le_of_ble_eq_true rfl⟩ rfl hl.1 rfl (Nat.le_of_ble_eq_true rfl) ⟨Nat.le_of_ble_eq_true rfl, Nat.le_of_ble_eq_true rfl⟩ dL_law_177 (fun D1 Rw1 k1 K1 H locs hPx hPm hS => ?_)
      refine lv_aload_n hx hb dL_law_180 rfl (lv_at hl 2 rfl) ?_
      refine lv_aload_n hx hb dL_law_181 rfl (lv_at hl 0 rfl) ?_
      refine lv_iload_n hx hb dL_law_182 rfl (lv_at hl 3 rfl) ?_
      refine lv_iconst (v := nI 1) hx hb dL_law_183 (by decide) ?_
      refine lv_iadd hx hb dL_law_184 ?_
      refine lv_topE (y := nI (i + 1)) (nI_add i 1) ?_
      refine l_sld (i + 1) (by omega) S hS dL_law_185 ?_
      refine lv_topE (y := nI a) hxa ?_
      refine lv_aload_n hx hb dL_law_186 rfl (lv_at hl 0 rfl) ?_
      refine lv_iload_n hx hb dL_law_187 rfl (lv_at hl 3 rfl) ?_
      refine lv_iconst (v := nI 2) hx hb dL_law_188 (by decide) ?_
      refine lv_iadd hx hb dL_law_189 ?_
      refine lv_topE (y := nI (i + 2)) (nI_add i 2) ?_
      refine l_sld (i + 2) (by omega) S hS dL_law_190 ?_
      refine lv_if_eq hx hb (tgt := 198) dL_law_191 (by decide) (fun d1 => ?_) (fun d2 => absurd d2 (fun h => h hz))
      refine lv_iconst (v := nI 0) hx hb dL_law_198 (by decide) ?_
      refine lv_topE (y := bI false) (by decide) ?_
      refine l_callM 2 (rest := [.int (bI (O a))]) (metX1_turn l E gm n N O k2 B C hB a false hn ha) (fun t h => h) S hPx hPm hS (lw_V q197 q198 q199 q21 q200) rfl rfl (by decide +kernel) ⟨Nat.le_of_ble_eq_true rfl, Nat.le_of_ble_eq_true rfl⟩ rfl hl.1 rfl (Nat.le_of_ble_eq_true rfl) ⟨Nat.le_of_ble_eq_true rfl, Nat.le_of_ble_eq_true rfl⟩ dL_law_199 (fun k2 B C H locs hPx hB hPm hS => ?_)
      refine lv_icmp_eq hx hb (tgt := 371) dL_law_202 (by decide) (fun _ => ?_) (fun h => absurd (rfl) h)
      exact kk H locs _ _ _ hn ⟨⟨_, _, _, _, hPx⟩, ⟨_, _, _, hB, hPm⟩⟩ hS
    · refine lv_aload_n hx hb dL_law_158 rfl (lv_at hl 1 rfl) ?_
      refine lv_aload_n hx hb dL_law_159 rfl (lv_at hl 0 rfl) ?_
      refine lv_iload_n hx hb dL_law_160 rfl (lv_at hl 3 rfl) ?_
      refine lv_iconst (v := nI 1) hx hb dL_law_161 (by decide) ?_
      refine lv_iadd hx hb dL_law_162 ?_
      refine lv_topE (y := nI (i + 1)) (nI_add i 1) ?_
      refine l_sld (i + 1) (by omega) S hS dL_law_163 ?_
      refine lv_topE (y := nI a) hxa ?_
      refine lv_aload_n hx hb dL_law_164 rfl (lv_at hl 0 rfl) ?_
      refine lv_iload_n hx hb dL_law_165 rfl (lv_at hl 3 rfl) ?_
      refine lv_iconst (v := nI 2) hx hb dL_law_166 (by decide) ?_
      refine lv_iadd hx hb dL_law_167 ?_
      refine lv_topE (y := nI (i + 2)) (nI_add i 2) ?_
      refine l_sld (i + 2) (by omega) S hS dL_law_168 ?_
      refine lv_if_eq hx hb (tgt := 176) dL_law_169 (by decide) (fun d1 => absurd d1 (hz)) (fun d2 => ?_)
      refine lv_iconst (v := nI 1) hx hb dL_law_172 (by decide) ?_
      refine lv_goto (tgt := 177) hx hb dL_law_173 (by decide) ?_
      refine lv_topE (y := bI true) (by decide) ?_
      refine l_callX 2 (rest := []) (metX0_turn l E gx n N O D Rw k K a true hn ha) (fun t h => ⟨_, _, _, _, h⟩) S hPx hPm hS (lw_V q70 q71 q72 q20 q73) rfl rfl (by decide +kernel) ⟨Nat.le_of_ble_eq_true rfl, Nat.le_of_ble_eq_true rfl⟩ rfl hl.1 rfl (Nat.le_of_ble_eq_true rfl) ⟨Nat.le_of_ble_eq_true rfl, Nat.le_of_ble_eq_true rfl⟩ dL_law_177 (fun D1 Rw1 k1 K1 H locs hPx hPm hS => ?_)
      refine lv_aload_n hx hb dL_law_180 rfl (lv_at hl 2 rfl) ?_
      refine lv_aload_n hx hb dL_law_181 rfl (lv_at hl 0 rfl) ?_
      refine lv_iload_n hx hb dL_law_182 rfl (lv_at hl 3 rfl) ?_
      refine lv_iconst (v := nI 1) hx hb dL_law_183 (by decide) ?_
      refine lv_iadd hx hb dL_law_184 ?_
      refine lv_topE (y := nI (i + 1)) (nI_add i 1) ?_
      refine l_sld (i + 1) (by omega) S hS dL_law_185 ?_
      refine lv_topE (y := nI a) hxa ?_
      refine lv_aload_n hx hb dL_law_186 rfl (lv_at hl 0 rfl) ?_
      refine lv_iload_n hx hb dL_law_187 rfl (lv_at hl 3 rfl) ?_
      refine lv_iconst (v := nI 2) hx hb dL_law_188 (by decide) ?_
      refine lv_iadd hx hb dL_law_189 ?_
      refine lv_topE (y := nI (i + 2)) (nI_add i 2) ?_
      refine l_sld (i + 2) (by omega) S hS dL_law_190 ?_
      refine lv_if_eq hx hb (tgt := 198) dL_law_191 (by decide) (fun d1 => absurd d1 (hz)) (fun d2 => ?_)
      refine lv_iconst (v := nI 1) hx hb dL_law_194 (by decide) ?_
      refine lv_goto (tgt := 199) hx hb dL_law_195 (by decide) ?_
      refine lv_topE (y := bI true) (by decide) ?_
      refine l_callM 2 (rest := [.int (bI (O a))]) (metX1_turn l E gm n N O k2 B C hB a true hn ha) (fun t h => h) S hPx hPm hS (lw_V q197 q198 q199 q21 q200) rfl rfl (by decide +kernel) ⟨Nat.le_of_ble_eq_true rfl, Nat.le_of_ble_eq_true rfl⟩ rfl hl.1 rfl (Nat.le_of_ble_eq_true rfl) ⟨Nat.le_of_ble_eq_true rfl, Nat.le_of_ble_eq_true rfl⟩ dL_law_199 (fun k2 B C H locs hPx hB hPm hS => ?_)
      refine lv_icmp_eq hx hb (tgt := 371) dL_law_202 (by decide) (fun _ => ?_) (fun h => absurd (rfl) h)
      exact kk H locs _ _ _ hn ⟨⟨_, _, _, _, hPx⟩, ⟨_, _, _, hB, hPm⟩⟩ hS
set_option maxHeartbeats 4000000 in
theorem law_c3 {p : Program} {l : Launch} {e : Env} {s : State} {m : MethodId} {below : List Frame} {meth : Method} {c : Code} {H : Heap} {locs : List Loc} {Q : State → Prop} {ls : Array Slot} {E : va_G} {gx gm : Nat → Nat} {b L : Nat} {xs : Nat → Int32} {n : Nat} {N : Nat → Fin 7} {O : Nat → Bool} {i : Nat} (S : LC p m c s b L xs E gx gm) (hn : n ≤ 6) (hH : LH E gx gm n N O H) (hS : va_S (fun q : Nat => s.heap.size ≤ q) s.heap H locs) (hl : lv_has ls 4 [(0, .ref b), (1, .ref (gx 0)), (2, .ref (gm 0)), (3, .int (nI i))]) (hi : i + 4 ≤ L)
    (kk : ∀ (H : Heap) (locs : List Loc) (n : Nat) (N : Nat → Fin 7) (O : Nat → Bool), n ≤ 6 → LH E gx gm n N O H → va_S (fun q : Nat => s.heap.size ≤ q) s.heap H locs → W p l e room_1 s m #[Value.ref b] below meth c H locs 11 2579 Q (F0 m 371 ls [])) : W p l e room_1 s m #[Value.ref b] below meth c H locs 11 2579 Q (F0 m 207 ls []) := by
  obtain ⟨⟨D, Rw, k, K, hPx⟩, ⟨k2, B, C, hB, hPm⟩⟩ := hH
  have hx := S.1.1
  have hb := S.1.2.1
  by_cases h0 : n = 0
  · refine lv_aload_n hx hb dL_law_207 rfl (lv_at hl 1 rfl) ?_
    refine l_callX 0 (rest := []) (metX0_drop_none l E gx n N O D Rw k K h0) (fun t h => ⟨_, _, _, _, h⟩) S hPx hPm hS (lw_V q74 q75 q76 q20 q77) rfl rfl (by decide +kernel) ⟨Nat.le_of_ble_eq_true rfl, Nat.le_of_ble_eq_true rfl⟩ rfl hl.1 rfl (Nat.le_of_ble_eq_true rfl) ⟨Nat.le_of_ble_eq_true rfl, Nat.le_of_ble_eq_true rfl⟩ dL_law_208 (fun D1 Rw1 k1 K1 H locs hPx hPm hS => ?_)
    refine lv_aload_n hx hb dL_law_211 rfl (lv_at hl 2 rfl) ?_
    refine l_callM 0 (rest := [.int (-1)]) (metX1_drop_none l E gm n N O k2 B C hB h0) (fun t h => h) S hPx hPm hS (lw_V q201 q202 q203 q21 q204) rfl rfl (by decide +kernel) ⟨Nat.le_of_ble_eq_true rfl, Nat.le_of_ble_eq_true rfl⟩ rfl hl.1 rfl (Nat.le_of_ble_eq_true rfl) ⟨Nat.le_of_ble_eq_true rfl, Nat.le_of_ble_eq_true rfl⟩ dL_law_212 (fun k2 B C H locs hPx hB hPm hS => ?_)
    refine lv_icmp_eq hx hb (tgt := 371) dL_law_215 (by decide) (fun _ => ?_) (fun h => absurd (rfl) h)
    exact kk H locs _ _ _ hn ⟨⟨_, _, _, _, hPx⟩, ⟨_, _, _, hB, hPm⟩⟩ hS
  · obtain ⟨j, hj⟩ : ∃ j, n = j + 1 := ⟨n - 1, by omega⟩
    refine lv_aload_n hx hb dL_law_207 rfl (lv_at hl 1 rfl) ?_
    refine l_callX 0 (rest := []) (metX0_drop l E gx n N O D Rw k K j hj (by omega)) (fun t h => ⟨_, _, _, _, h⟩) S hPx hPm hS (lw_V q74 q75 q76 q20 q77) rfl rfl (by decide +kernel) ⟨Nat.le_of_ble_eq_true rfl, Nat.le_of_ble_eq_true rfl⟩ rfl hl.1 rfl (Nat.le_of_ble_eq_true rfl) ⟨Nat.le_of_ble_eq_true rfl, Nat.le_of_ble_eq_true rfl⟩ dL_law_208 (fun D1 Rw1 k1 K1 H locs hPx hPm hS => ?_)
    refine lv_aload_n hx hb dL_law_211 rfl (lv_at hl 2 rfl) ?_
    refine l_callM 0 (rest := [.int (nI j)]) (metX1_drop l E gm n N O k2 B C j hj (by omega)) (fun t h => h) S hPx hPm hS (lw_V q201 q202 q203 q21 q204) rfl rfl (by decide +kernel) ⟨Nat.le_of_ble_eq_true rfl, Nat.le_of_ble_eq_true rfl⟩ rfl hl.1 rfl (Nat.le_of_ble_eq_true rfl) ⟨Nat.le_of_ble_eq_true rfl, Nat.le_of_ble_eq_true rfl⟩ dL_law_212 (fun k2 B C H locs hPx hB hPm hS => ?_)
    refine lv_icmp_eq hx hb (tgt := 371) dL_law_215 (by decide) (fun _ => ?_) (fun h => absurd (rfl) h)
    exact kk H locs _ _ _ (by omega) ⟨⟨_, _, _, _, hPx⟩, ⟨_, _, _, hB, hPm⟩⟩ hS
set_option maxHeartbeats 4000000 in
theorem law_c4 {p : Program} {l : Launch} {e : Env} {s : State} {m : MethodId} {below : List Frame} {meth : Method} {c : Code} {H : Heap} {locs : List Loc} {Q : State → Prop} {ls : Array Slot} {E : va_G} {gx gm : Nat → Nat} {b L : Nat} {xs : Nat → Int32} {n : Nat} {N : Nat → Fin 7} {O : Nat → Bool} {i : Nat} (S : LC p m c s b L xs E gx gm) (hn : n ≤ 6) (hH : LH E gx gm n N O H) (hS : va_S (fun q : Nat => s.heap.size ≤ q) s.heap H locs) (hl : lv_has ls 4 [(0, .ref b), (1, .ref (gx 0)), (2, .ref (gm 0)), (3, .int (nI i))]) (hi : i + 4 ≤ L)
    (kk : ∀ (H : Heap) (locs : List Loc) (n : Nat) (N : Nat → Fin 7) (O : Nat → Bool), n ≤ 6 → LH E gx gm n N O H → va_S (fun q : Nat => s.heap.size ≤ q) s.heap H locs → W p l e room_1 s m #[Value.ref b] below meth c H locs 11 2579 Q (F0 m 371 ls [])) : W p l e room_1 s m #[Value.ref b] below meth c H locs 11 2579 Q (F0 m 220 ls []) := by
  obtain ⟨⟨D, Rw, k, K, hPx⟩, ⟨k2, B, C, hB, hPm⟩⟩ := hH
  have hx := S.1.1
  have hb := S.1.2.1
  have heq := congrArg nI (ma_sol N Rw K O hn)
  refine lv_aload_n hx hb dL_law_220 rfl (lv_at hl 1 rfl) ?_
  refine l_callX 0 (rest := []) (metX0_solutions l E gx n N O D Rw k K hn) (fun t h => h) S hPx hPm hS (lw_V q78 q79 q80 q20 q81) rfl rfl (by decide +kernel) ⟨Nat.le_of_ble_eq_true rfl, Nat.le_of_ble_eq_true rfl⟩ rfl hl.1 rfl (Nat.le_of_ble_eq_true rfl) ⟨Nat.le_of_ble_eq_true rfl, Nat.le_of_ble_eq_true rfl⟩ dL_law_221 (fun D1 Rw1 k1 K1 H locs hPx hPm hS => ?_)
  refine lv_aload_n hx hb dL_law_224 rfl (lv_at hl 2 rfl) ?_
  refine l_callM 0 (rest := [.int (nI (xSol (sv N (onM O n) Rw K n)))]) (metX1_solutions l E gm n N O k2 B C hn hB) (fun t h => h) S hPx hPm hS (lw_V q205 q206 q207 q21 q208) rfl rfl (by decide +kernel) ⟨Nat.le_of_ble_eq_true rfl, Nat.le_of_ble_eq_true rfl⟩ rfl hl.1 rfl (Nat.le_of_ble_eq_true rfl) ⟨Nat.le_of_ble_eq_true rfl, Nat.le_of_ble_eq_true rfl⟩ dL_law_225 (fun k2 B C H locs hPx hB hPm hS => ?_)
  refine lv_icmp_eq hx hb (tgt := 371) dL_law_228 (by decide) (fun _ => ?_) (fun h => absurd (heq) h)
  exact kk H locs _ _ _ hn ⟨⟨_, _, _, _, hPx⟩, ⟨_, _, _, hB, hPm⟩⟩ hS
set_option maxHeartbeats 4000000 in
theorem law_c5 {p : Program} {l : Launch} {e : Env} {s : State} {m : MethodId} {below : List Frame} {meth : Method} {c : Code} {H : Heap} {locs : List Loc} {Q : State → Prop} {ls : Array Slot} {E : va_G} {gx gm : Nat → Nat} {b L : Nat} {xs : Nat → Int32} {n : Nat} {N : Nat → Fin 7} {O : Nat → Bool} {i : Nat} (S : LC p m c s b L xs E gx gm) (hn : n ≤ 6) (hH : LH E gx gm n N O H) (hS : va_S (fun q : Nat => s.heap.size ≤ q) s.heap H locs) (hl : lv_has ls 4 [(0, .ref b), (1, .ref (gx 0)), (2, .ref (gm 0)), (3, .int (nI i))]) (hi : i + 4 ≤ L)
    (kk : ∀ (H : Heap) (locs : List Loc) (n : Nat) (N : Nat → Fin 7) (O : Nat → Bool), n ≤ 6 → LH E gx gm n N O H → va_S (fun q : Nat => s.heap.size ≤ q) s.heap H locs → W p l e room_1 s m #[Value.ref b] below meth c H locs 11 2579 Q (F0 m 371 ls [])) : W p l e room_1 s m #[Value.ref b] below meth c H locs 11 2579 Q (F0 m 233 ls []) := by
  obtain ⟨⟨D, Rw, k, K, hPx⟩, ⟨k2, B, C, hB, hPm⟩⟩ := hH
  have hx := S.1.1
  have hb := S.1.2.1
  have heq := ma_val N Rw K O hn (xs (i + 1)) (xs (i + 2))
  refine lv_aload_n hx hb dL_law_233 rfl (lv_at hl 1 rfl) ?_
  refine lv_aload_n hx hb dL_law_234 rfl (lv_at hl 0 rfl) ?_
  refine lv_iload_n hx hb dL_law_235 rfl (lv_at hl 3 rfl) ?_
  refine lv_iconst (v := nI 1) hx hb dL_law_236 (by decide) ?_
  refine lv_iadd hx hb dL_law_237 ?_
  refine lv_topE (y := nI (i + 1)) (nI_add i 1) ?_
  refine l_sld (i + 1) (by omega) S hS dL_law_238 ?_
  refine lv_aload_n hx hb dL_law_239 rfl (lv_at hl 0 rfl) ?_
  refine lv_iload_n hx hb dL_law_240 rfl (lv_at hl 3 rfl) ?_
  refine lv_iconst (v := nI 2) hx hb dL_law_241 (by decide) ?_
  refine lv_iadd hx hb dL_law_242 ?_
  refine lv_topE (y := nI (i + 2)) (nI_add i 2) ?_
  refine l_sld (i + 2) (by omega) S hS dL_law_243 ?_
  refine l_callX 2 (rest := []) (metX0_value l E gx n N O D Rw k K (xs (i + 1)) (xs (i + 2)) hn) (fun t h => h) S hPx hPm hS (lw_V q113 q114 q115 q20 q116) rfl rfl (by decide +kernel) ⟨Nat.le_of_ble_eq_true rfl, Nat.le_of_ble_eq_true rfl⟩ rfl hl.1 rfl (Nat.le_of_ble_eq_true rfl) ⟨Nat.le_of_ble_eq_true rfl, Nat.le_of_ble_eq_true rfl⟩ dL_law_244 (fun D1 Rw1 k1 K1 H locs hPx hPm hS => ?_)
  refine lv_aload_n hx hb dL_law_247 rfl (lv_at hl 2 rfl) ?_
  refine lv_aload_n hx hb dL_law_248 rfl (lv_at hl 0 rfl) ?_
  refine lv_iload_n hx hb dL_law_249 rfl (lv_at hl 3 rfl) ?_
  refine lv_iconst (v := nI 1) hx hb dL_law_250 (by decide) ?_
  refine lv_iadd hx hb dL_law_251 ?_
  refine lv_topE (y := nI (i + 1)) (nI_add i 1) ?_
  refine l_sld (i + 1) (by omega) S hS dL_law_252 ?_
  refine lv_aload_n hx hb dL_law_253 rfl (lv_at hl 0 rfl) ?_
  refine lv_iload_n hx hb dL_law_254 rfl (lv_at hl 3 rfl) ?_
  refine lv_iconst (v := nI 2) hx hb dL_law_255 (by decide) ?_
  refine lv_iadd hx hb dL_law_256 ?_
  refine lv_topE (y := nI (i + 2)) (nI_add i 2) ?_
  refine l_sld (i + 2) (by omega) S hS dL_law_257 ?_
  refine l_callM 2 (rest := [.int (xVal (sv N (onM O n) Rw K n) (xs (i + 1)) (xs (i + 2)))]) (metX1_value l E gm n N O k2 B C hn hB (xs (i + 1)) (xs (i + 2))) (fun t h => h) S hPx hPm hS (lw_V q225 q226 q227 q21 q228) rfl rfl (by decide +kernel) ⟨Nat.le_of_ble_eq_true rfl, Nat.le_of_ble_eq_true rfl⟩ rfl hl.1 rfl (Nat.le_of_ble_eq_true rfl) ⟨Nat.le_of_ble_eq_true rfl, Nat.le_of_ble_eq_true rfl⟩ dL_law_258 (fun k2 B C H locs hPx hB hPm hS => ?_)
  refine lv_icmp_eq hx hb (tgt := 371) dL_law_261 (by decide) (fun _ => ?_) (fun h => absurd (heq) h)
  exact kk H locs _ _ _ hn ⟨⟨_, _, _, _, hPx⟩, ⟨_, _, _, hB, hPm⟩⟩ hS
set_option maxHeartbeats 4000000 in
theorem law_c6 {p : Program} {l : Launch} {e : Env} {s : State} {m : MethodId} {below : List Frame} {meth : Method} {c : Code} {H : Heap} {locs : List Loc} {Q : State → Prop} {ls : Array Slot} {E : va_G} {gx gm : Nat → Nat} {b L : Nat} {xs : Nat → Int32} {n : Nat} {N : Nat → Fin 7} {O : Nat → Bool} {i : Nat} (S : LC p m c s b L xs E gx gm) (hn : n ≤ 6) (hH : LH E gx gm n N O H) (hS : va_S (fun q : Nat => s.heap.size ≤ q) s.heap H locs) (hl : lv_has ls 4 [(0, .ref b), (1, .ref (gx 0)), (2, .ref (gm 0)), (3, .int (nI i))]) (hi : i + 4 ≤ L)
    (kk : ∀ (H : Heap) (locs : List Loc) (n : Nat) (N : Nat → Fin 7) (O : Nat → Bool), n ≤ 6 → LH E gx gm n N O H → va_S (fun q : Nat => s.heap.size ≤ q) s.heap H locs → W p l e room_1 s m #[Value.ref b] below meth c H locs 11 2579 Q (F0 m 371 ls [])) : W p l e room_1 s m #[Value.ref b] below meth c H locs 11 2579 Q (F0 m 266 ls []) := by
  obtain ⟨⟨D, Rw, k, K, hPx⟩, ⟨k2, B, C, hB, hPm⟩⟩ := hH
  have hx := S.1.1
  have hb := S.1.2.1
  have heq := ma_pos N Rw K O hn (xs (i + 1))
  refine lv_aload_n hx hb dL_law_266 rfl (lv_at hl 1 rfl) ?_
  refine lv_aload_n hx hb dL_law_267 rfl (lv_at hl 0 rfl) ?_
  refine lv_iload_n hx hb dL_law_268 rfl (lv_at hl 3 rfl) ?_
  refine lv_iconst (v := nI 1) hx hb dL_law_269 (by decide) ?_
  refine lv_iadd hx hb dL_law_270 ?_
  refine lv_topE (y := nI (i + 1)) (nI_add i 1) ?_
  refine l_sld (i + 1) (by omega) S hS dL_law_271 ?_
  refine l_callX 1 (rest := []) (metX0_possible l E gx n N O D Rw k K (xs (i + 1)) hn) (fun t h => h) S hPx hPm hS (lw_V q125 q126 q127 q20 q128) rfl rfl (by decide +kernel) ⟨Nat.le_of_ble_eq_true rfl, Nat.le_of_ble_eq_true rfl⟩ rfl hl.1 rfl (Nat.le_of_ble_eq_true rfl) ⟨Nat.le_of_ble_eq_true rfl, Nat.le_of_ble_eq_true rfl⟩ dL_law_272 (fun D1 Rw1 k1 K1 H locs hPx hPm hS => ?_)
  refine lv_aload_n hx hb dL_law_275 rfl (lv_at hl 2 rfl) ?_
  refine lv_aload_n hx hb dL_law_276 rfl (lv_at hl 0 rfl) ?_
  refine lv_iload_n hx hb dL_law_277 rfl (lv_at hl 3 rfl) ?_
  refine lv_iconst (v := nI 1) hx hb dL_law_278 (by decide) ?_
  refine lv_iadd hx hb dL_law_279 ?_
  refine lv_topE (y := nI (i + 1)) (nI_add i 1) ?_
  refine l_sld (i + 1) (by omega) S hS dL_law_280 ?_
  refine l_callM 1 (rest := [.int (xPos (sv N (onM O n) Rw K n) (xs (i + 1)))]) (metX1_possible l E gm n N O k2 B C hn hB (xs (i + 1))) (fun t h => h) S hPx hPm hS (lw_V q233 q234 q235 q21 q236) rfl rfl (by decide +kernel) ⟨Nat.le_of_ble_eq_true rfl, Nat.le_of_ble_eq_true rfl⟩ rfl hl.1 rfl (Nat.le_of_ble_eq_true rfl) ⟨Nat.le_of_ble_eq_true rfl, Nat.le_of_ble_eq_true rfl⟩ dL_law_281 (fun k2 B C H locs hPx hB hPm hS => ?_)
  refine lv_icmp_eq hx hb (tgt := 371) dL_law_284 (by decide) (fun _ => ?_) (fun h => absurd (heq) h)
  exact kk H locs _ _ _ hn ⟨⟨_, _, _, _, hPx⟩, ⟨_, _, _, hB, hPm⟩⟩ hS
set_option maxHeartbeats 4000000 in
theorem law_c7 {p : Program} {l : Launch} {e : Env} {s : State} {m : MethodId} {below : List Frame} {meth : Method} {c : Code} {H : Heap} {locs : List Loc} {Q : State → Prop} {ls : Array Slot} {E : va_G} {gx gm : Nat → Nat} {b L : Nat} {xs : Nat → Int32} {n : Nat} {N : Nat → Fin 7} {O : Nat → Bool} {i : Nat} (S : LC p m c s b L xs E gx gm) (hn : n ≤ 6) (hH : LH E gx gm n N O H) (hS : va_S (fun q : Nat => s.heap.size ≤ q) s.heap H locs) (hl : lv_has ls 4 [(0, .ref b), (1, .ref (gx 0)), (2, .ref (gm 0)), (3, .int (nI i))]) (hi : i + 4 ≤ L)
    (kk : ∀ (H : Heap) (locs : List Loc) (n : Nat) (N : Nat → Fin 7) (O : Nat → Bool), n ≤ 6 → LH E gx gm n N O H → va_S (fun q : Nat => s.heap.size ≤ q) s.heap H locs → W p l e room_1 s m #[Value.ref b] below meth c H locs 11 2579 Q (F0 m 371 ls [])) : W p l e room_1 s m #[Value.ref b] below meth c H locs 11 2579 Q (F0 m 289 ls []) := by
  obtain ⟨⟨D, Rw, k, K, hPx⟩, ⟨k2, B, C, hB, hPm⟩⟩ := hH
  have hx := S.1.1
  have hb := S.1.2.1
  have heq := congrArg bI (ma_fix N Rw K O hn (xs (i + 1)))
  refine lv_aload_n hx hb dL_law_289 rfl (lv_at hl 1 rfl) ?_
  refine lv_aload_n hx hb dL_law_290 rfl (lv_at hl 0 rfl) ?_
  refine lv_iload_n hx hb dL_law_291 rfl (lv_at hl 3 rfl) ?_
  refine lv_iconst (v := nI 1) hx hb dL_law_292 (by decide) ?_
  refine lv_iadd hx hb dL_law_293 ?_
  refine lv_topE (y := nI (i + 1)) (nI_add i 1) ?_
  refine l_sld (i + 1) (by omega) S hS dL_law_294 ?_
  refine l_callX 1 (rest := []) (metX0_fixed l E gx n N O D Rw k K (xs (i + 1)) hn) (fun t h => h) S hPx hPm hS (lw_V q133 q134 q135 q20 q136) rfl rfl (by decide +kernel) ⟨Nat.le_of_ble_eq_true rfl, Nat.le_of_ble_eq_true rfl⟩ rfl hl.1 rfl (Nat.le_of_ble_eq_true rfl) ⟨Nat.le_of_ble_eq_true rfl, Nat.le_of_ble_eq_true rfl⟩ dL_law_295 (fun D1 Rw1 k1 K1 H locs hPx hPm hS => ?_)
  refine lv_aload_n hx hb dL_law_298 rfl (lv_at hl 2 rfl) ?_
  refine lv_aload_n hx hb dL_law_299 rfl (lv_at hl 0 rfl) ?_
  refine lv_iload_n hx hb dL_law_300 rfl (lv_at hl 3 rfl) ?_
  refine lv_iconst (v := nI 1) hx hb dL_law_301 (by decide) ?_
  refine lv_iadd hx hb dL_law_302 ?_
  refine lv_topE (y := nI (i + 1)) (nI_add i 1) ?_
  refine l_sld (i + 1) (by omega) S hS dL_law_303 ?_
  refine l_callM 1 (rest := [.int (bI (xFix (sv N (onM O n) Rw K n) (xs (i + 1))))]) (metX1_fixed l E gm n N O k2 B C hn hB (xs (i + 1))) (fun t h => h) S hPx hPm hS (lw_V q237 q238 q239 q21 q240) rfl rfl (by decide +kernel) ⟨Nat.le_of_ble_eq_true rfl, Nat.le_of_ble_eq_true rfl⟩ rfl hl.1 rfl (Nat.le_of_ble_eq_true rfl) ⟨Nat.le_of_ble_eq_true rfl, Nat.le_of_ble_eq_true rfl⟩ dL_law_304 (fun k2 B C H locs hPx hB hPm hS => ?_)
  refine lv_icmp_eq hx hb (tgt := 371) dL_law_307 (by decide) (fun _ => ?_) (fun h => absurd (heq) h)
  exact kk H locs _ _ _ hn ⟨⟨_, _, _, _, hPx⟩, ⟨_, _, _, hB, hPm⟩⟩ hS
set_option maxHeartbeats 4000000 in
theorem law_c8 {p : Program} {l : Launch} {e : Env} {s : State} {m : MethodId} {below : List Frame} {meth : Method} {c : Code} {H : Heap} {locs : List Loc} {Q : State → Prop} {ls : Array Slot} {E : va_G} {gx gm : Nat → Nat} {b L : Nat} {xs : Nat → Int32} {n : Nat} {N : Nat → Fin 7} {O : Nat → Bool} {i : Nat} (S : LC p m c s b L xs E gx gm) (hn : n ≤ 6) (hH : LH E gx gm n N O H) (hS : va_S (fun q : Nat => s.heap.size ≤ q) s.heap H locs) (hl : lv_has ls 4 [(0, .ref b), (1, .ref (gx 0)), (2, .ref (gm 0)), (3, .int (nI i))]) (hi : i + 4 ≤ L)
    (kk : ∀ (H : Heap) (locs : List Loc) (n : Nat) (N : Nat → Fin 7) (O : Nat → Bool), n ≤ 6 → LH E gx gm n N O H → va_S (fun q : Nat => s.heap.size ≤ q) s.heap H locs → W p l e room_1 s m #[Value.ref b] below meth c H locs 11 2579 Q (F0 m 371 ls [])) : W p l e room_1 s m #[Value.ref b] below meth c H locs 11 2579 Q (F0 m 312 ls []) := by
  obtain ⟨⟨D, Rw, k, K, hPx⟩, ⟨k2, B, C, hB, hPm⟩⟩ := hH
  have hx := S.1.1
  have hb := S.1.2.1
  have heq := congrArg nI (ma_rank N Rw K O hn (xs (i + 1)))
  refine lv_aload_n hx hb dL_law_312 rfl (lv_at hl 1 rfl) ?_
  refine lv_aload_n hx hb dL_law_313 rfl (lv_at hl 0 rfl) ?_
  refine lv_iload_n hx hb dL_law_314 rfl (lv_at hl 3 rfl) ?_
  refine lv_iconst (v := nI 1) hx hb dL_law_315 (by decide) ?_
  refine lv_iadd hx hb dL_law_316 ?_
  refine lv_topE (y := nI (i + 1)) (nI_add i 1) ?_
  refine l_sld (i + 1) (by omega) S hS dL_law_317 ?_
  refine l_callX 1 (rest := []) (metX0_rank l E gx n N O D Rw k K (xs (i + 1)) hn) (fun t h => h) S hPx hPm hS (lw_V q137 q138 q139 q20 q140) rfl rfl (by decide +kernel) ⟨Nat.le_of_ble_eq_true rfl, Nat.le_of_ble_eq_true rfl⟩ rfl hl.1 rfl (Nat.le_of_ble_eq_true rfl) ⟨Nat.le_of_ble_eq_true rfl, Nat.le_of_ble_eq_true rfl⟩ dL_law_318 (fun D1 Rw1 k1 K1 H locs hPx hPm hS => ?_)
  refine lv_aload_n hx hb dL_law_321 rfl (lv_at hl 2 rfl) ?_
  refine lv_aload_n hx hb dL_law_322 rfl (lv_at hl 0 rfl) ?_
  refine lv_iload_n hx hb dL_law_323 rfl (lv_at hl 3 rfl) ?_
  refine lv_iconst (v := nI 1) hx hb dL_law_324 (by decide) ?_
  refine lv_iadd hx hb dL_law_325 ?_
  refine lv_topE (y := nI (i + 1)) (nI_add i 1) ?_
  refine l_sld (i + 1) (by omega) S hS dL_law_326 ?_
  refine l_callM 1 (rest := [.int (nI (xRank (sv N (onM O n) Rw K n) (xs (i + 1))))]) (metX1_rank l E gm n N O k2 B C hn hB (xs (i + 1))) (fun t h => h) S hPx hPm hS (lw_V q242 q243 q244 q21 q245) rfl rfl (by decide +kernel) ⟨Nat.le_of_ble_eq_true rfl, Nat.le_of_ble_eq_true rfl⟩ rfl hl.1 rfl (Nat.le_of_ble_eq_true rfl) ⟨Nat.le_of_ble_eq_true rfl, Nat.le_of_ble_eq_true rfl⟩ dL_law_327 (fun k2 B C H locs hPx hB hPm hS => ?_)
  refine lv_icmp_eq hx hb (tgt := 371) dL_law_330 (by decide) (fun _ => ?_) (fun h => absurd (heq) h)
  exact kk H locs _ _ _ hn ⟨⟨_, _, _, _, hPx⟩, ⟨_, _, _, hB, hPm⟩⟩ hS
set_option maxHeartbeats 4000000 in
theorem law_c9 {p : Program} {l : Launch} {e : Env} {s : State} {m : MethodId} {below : List Frame} {meth : Method} {c : Code} {H : Heap} {locs : List Loc} {Q : State → Prop} {ls : Array Slot} {E : va_G} {gx gm : Nat → Nat} {b L : Nat} {xs : Nat → Int32} {n : Nat} {N : Nat → Fin 7} {O : Nat → Bool} {i : Nat} (S : LC p m c s b L xs E gx gm) (hn : n ≤ 6) (hH : LH E gx gm n N O H) (hS : va_S (fun q : Nat => s.heap.size ≤ q) s.heap H locs) (hl : lv_has ls 4 [(0, .ref b), (1, .ref (gx 0)), (2, .ref (gm 0)), (3, .int (nI i))]) (hi : i + 4 ≤ L)
    (kk : ∀ (H : Heap) (locs : List Loc) (n : Nat) (N : Nat → Fin 7) (O : Nat → Bool), n ≤ 6 → LH E gx gm n N O H → va_S (fun q : Nat => s.heap.size ≤ q) s.heap H locs → W p l e room_1 s m #[Value.ref b] below meth c H locs 11 2579 Q (F0 m 371 ls [])) : W p l e room_1 s m #[Value.ref b] below meth c H locs 11 2579 Q (F0 m 335 ls []) := by
  obtain ⟨⟨D, Rw, k, K, hPx⟩, ⟨k2, B, C, hB, hPm⟩⟩ := hH
  have hx := S.1.1
  have hb := S.1.2.1
  have heq := congrArg bI (ma_fol N Rw K O hn (xs (i + 1)))
  refine lv_aload_n hx hb dL_law_335 rfl (lv_at hl 1 rfl) ?_
  refine lv_aload_n hx hb dL_law_336 rfl (lv_at hl 0 rfl) ?_
  refine lv_iload_n hx hb dL_law_337 rfl (lv_at hl 3 rfl) ?_
  refine lv_iconst (v := nI 1) hx hb dL_law_338 (by decide) ?_
  refine lv_iadd hx hb dL_law_339 ?_
  refine lv_topE (y := nI (i + 1)) (nI_add i 1) ?_
  refine l_sld (i + 1) (by omega) S hS dL_law_340 ?_
  refine l_callX 1 (rest := []) (metX0_follows l E gx n N O D Rw k K (xs (i + 1)) hn) (fun t h => h) S hPx hPm hS (lw_V q144 q145 q146 q20 q147) rfl rfl (by decide +kernel) ⟨Nat.le_of_ble_eq_true rfl, Nat.le_of_ble_eq_true rfl⟩ rfl hl.1 rfl (Nat.le_of_ble_eq_true rfl) ⟨Nat.le_of_ble_eq_true rfl, Nat.le_of_ble_eq_true rfl⟩ dL_law_341 (fun D1 Rw1 k1 K1 H locs hPx hPm hS => ?_)
  refine lv_aload_n hx hb dL_law_344 rfl (lv_at hl 2 rfl) ?_
  refine lv_aload_n hx hb dL_law_345 rfl (lv_at hl 0 rfl) ?_
  refine lv_iload_n hx hb dL_law_346 rfl (lv_at hl 3 rfl) ?_
  refine lv_iconst (v := nI 1) hx hb dL_law_347 (by decide) ?_
  refine lv_iadd hx hb dL_law_348 ?_
  refine lv_topE (y := nI (i + 1)) (nI_add i 1) ?_
  refine l_sld (i + 1) (by omega) S hS dL_law_349 ?_
  refine l_callM 1 (rest := [.int (bI (xFol N n (sv N (onM O n) Rw K n) (xs (i + 1))))]) (metX1_follows l E gm n N O k2 B C hn hB (xs (i + 1))) (fun t h => h) S hPx hPm hS (lw_V q246 q247 q248 q21 q249) rfl rfl (by decide +kernel) ⟨Nat.le_of_ble_eq_true rfl, Nat.le_of_ble_eq_true rfl⟩ rfl hl.1 rfl (Nat.le_of_ble_eq_true rfl) ⟨Nat.le_of_ble_eq_true rfl, Nat.le_of_ble_eq_true rfl⟩ dL_law_350 (fun k2 B C H locs hPx hB hPm hS => ?_)
  refine lv_icmp_eq hx hb (tgt := 371) dL_law_353 (by decide) (fun _ => ?_) (fun h => absurd (heq) h)
  exact kk H locs _ _ _ hn ⟨⟨_, _, _, _, hPx⟩, ⟨_, _, _, hB, hPm⟩⟩ hS
set_option maxHeartbeats 4000000 in
theorem law_c10 {p : Program} {l : Launch} {e : Env} {s : State} {m : MethodId} {below : List Frame} {meth : Method} {c : Code} {H : Heap} {locs : List Loc} {Q : State → Prop} {ls : Array Slot} {E : va_G} {gx gm : Nat → Nat} {b L : Nat} {xs : Nat → Int32} {n : Nat} {N : Nat → Fin 7} {O : Nat → Bool} {i : Nat} (S : LC p m c s b L xs E gx gm) (hn : n ≤ 6) (hH : LH E gx gm n N O H) (hS : va_S (fun q : Nat => s.heap.size ≤ q) s.heap H locs) (hl : lv_has ls 4 [(0, .ref b), (1, .ref (gx 0)), (2, .ref (gm 0)), (3, .int (nI i))]) (hi : i + 4 ≤ L)
    (kk : ∀ (H : Heap) (locs : List Loc) (n : Nat) (N : Nat → Fin 7) (O : Nat → Bool), n ≤ 6 → LH E gx gm n N O H → va_S (fun q : Nat => s.heap.size ≤ q) s.heap H locs → W p l e room_1 s m #[Value.ref b] below meth c H locs 11 2579 Q (F0 m 371 ls [])) : W p l e room_1 s m #[Value.ref b] below meth c H locs 11 2579 Q (F0 m 358 ls []) := by
  obtain ⟨⟨D, Rw, k, K, hPx⟩, ⟨k2, B, C, hB, hPm⟩⟩ := hH
  have hx := S.1.1
  have hb := S.1.2.1
  have heq := congrArg nI (ma_need N Rw K O hn)
  refine lv_aload_n hx hb dL_law_358 rfl (lv_at hl 1 rfl) ?_
  refine l_callX 0 (rest := []) (metX0_needed l E gx n N O D Rw k K hn (cb N n) (ma_cb N hn)) (fun t h => h) S hPx hPm hS (lw_V q148 q149 q150 q20 q151) rfl rfl (by decide +kernel) ⟨Nat.le_of_ble_eq_true rfl, Nat.le_of_ble_eq_true rfl⟩ rfl hl.1 rfl (Nat.le_of_ble_eq_true rfl) ⟨Nat.le_of_ble_eq_true rfl, Nat.le_of_ble_eq_true rfl⟩ dL_law_359 (fun D1 Rw1 k1 K1 H locs hPx hPm hS => ?_)
  refine lv_aload_n hx hb dL_law_362 rfl (lv_at hl 2 rfl) ?_
  refine l_callM 0 (rest := [.int (nI (if cb N n (onM O n) = true then lsN (cb N n) (onM O n) 64 else ctD (sv N (onM O n) Rw K n).1 4))]) (metX1_needed l E gm n N O k2 B C hn hB) (fun t h => h) S hPx hPm hS (lw_V q250 q251 q252 q21 q253) rfl rfl (by decide +kernel) ⟨Nat.le_of_ble_eq_true rfl, Nat.le_of_ble_eq_true rfl⟩ rfl hl.1 rfl (Nat.le_of_ble_eq_true rfl) ⟨Nat.le_of_ble_eq_true rfl, Nat.le_of_ble_eq_true rfl⟩ dL_law_363 (fun k2 B C H locs hPx hB hPm hS => ?_)
  refine lv_icmp_eq hx hb (tgt := 371) dL_law_366 (by decide) (fun _ => ?_) (fun h => absurd (heq) h)
  exact kk H locs _ _ _ hn ⟨⟨_, _, _, _, hPx⟩, ⟨_, _, _, hB, hPm⟩⟩ hS
end
section
set_option maxRecDepth 100000
theorem l_gt {L i : Nat} (hL : L ≤ 256) (hi : i ≤ 256) : (nI L - nI 4 < nI i) ↔ L < i + 4 := by
  rw [Int32.lt_iff_toInt_lt, pk_sub_toInt (by omega) (by decide), nI_toInt (by omega)]
  omega
set_option maxHeartbeats 4000000 in
theorem law_loop {p : Program} {l : Launch} {e : Env} {s : State} {m : MethodId} {below : List Frame} {meth : Method} {c : Code} {E : va_G} {gx gm : Nat → Nat} {b L : Nat} {xs : Nat → Int32} (hr : meth.sig.returnType = ret) (hk : meth.locks = false) (S : LC p m c s b L xs E gx gm) :
    ∀ (f i : Nat) (H : Heap) (locs : List Loc) (n : Nat) (N : Nat → Fin 7) (O : Nat → Bool) (ls : Array Slot), i ≤ L → L < i + f → n ≤ 6 → LH E gx gm n N O H → va_S (fun q : Nat => s.heap.size ≤ q) s.heap H locs → lv_has ls 4 [(0, .ref b), (1, .ref (gx 0)), (2, .ref (gm 0)), (3, .int (nI i))] → W p l e room_1 s m #[Value.ref b] below meth c H locs 11 2579 (lw_Z below #[Value.ref b] s) (F0 m 18 ls []) := by
  have hx := S.1.1
  have hb := S.1.2.1
  have hL := S.2.2.2.1
  intro f
  induction f with
  | zero => intro i H locs n N O ls h1 h2; exact absurd h2 (by omega)
  | succ f ih =>
    intro i H locs n N O ls hiL hf hn hH hS hl
    refine lv_iload_n hx hb dL_law_18 rfl (lv_at hl 3 rfl) ?_
    refine lv_aload_n hx hb dL_law_19 rfl (lv_at hl 0 rfl) ?_
    refine va_slen (A := fun q : Nat => s.heap.size ≤ q) hx hb S.2.1 S.2.2.1 (Nat.not_le.mpr S.2.2.1) hS dL_law_20 ?_
    refine lv_iconst (v := nI 4) hx hb dL_law_21 (by decide) ?_
    refine lv_isub hx hb dL_law_22 ?_
    refine lv_icmp_gt hx hb (tgt := 377) dL_law_23 (by decide) (fun c1 => ?_) (fun c1 => ?_)
    · refine va_forget (fun q hq => hS.2.2 q hq) ?_
      refine W.widen (k := 600000) (n := 7290000) (Nat.le_of_ble_eq_true rfl) (Nat.le_of_ble_eq_true rfl) ?_
      refine lv_iconst (v := 1) hx hb dL_law_377 (by decide) ?_
      exact lw_ret hx hb hr hk dL_law_378
    · have hi : i + 4 ≤ L := by
        rcases Nat.lt_or_ge L (i + 4) with h | h
        · exact absurd ((l_gt hL (by omega)).mpr h) c1
        · exact h
      have kk : ∀ (H : Heap) (locs : List Loc) (n : Nat) (N : Nat → Fin 7) (O : Nat → Bool), n ≤ 6 → LH E gx gm n N O H → va_S (fun q : Nat => s.heap.size ≤ q) s.heap H locs → W p l e room_1 s m #[Value.ref b] below meth c H locs 11 2579 (lw_Z below #[Value.ref b] s) (F0 m 371 ls []) := by
        intro H locs n N O hn hH hS
        refine lv_iinc (v := nI (i + 4)) (lv' := [(3, .int (nI (i + 4))), (0, .ref b), (1, .ref (gx 0)), (2, .ref (gm 0))]) hx hb dL_law_371 hl (k := 3) rfl (nI_add i 4) (by decide) rfl (fun ls hl => ?_)
        refine lv_goto (tgt := 18) hx hb dL_law_374 (by decide) ?_
        exact ih (i + 4) H locs n N O ls hi (by omega) hn hH hS (lv_sub hl [1, 2, 3, 0] rfl)
      refine lv_aload_n hx hb dL_law_26 rfl (lv_at hl 0 rfl) ?_
      refine lv_iload_n hx hb dL_law_27 rfl (lv_at hl 3 rfl) ?_
      refine l_sld i (by omega) S hS dL_law_28 ?_
      refine lv_bipush (v := nI 15) hx hb dL_law_29 (by decide) ?_
      refine lv_iand hx hb dL_law_31 ?_
      obtain ⟨j, hj, hje⟩ := pk_andE (xs i) (m := nI 15) 4 (by decide)
      refine lv_topE hje ?_
      by_cases h11 : j < 11
      · rcases (show j = 0 ∨ j = 1 ∨ j = 2 ∨ j = 3 ∨ j = 4 ∨ j = 5 ∨ j = 6 ∨ j = 7 ∨ j = 8 ∨ j = 9 ∨ j = 10 by omega) with rfl | rfl | rfl | rfl | rfl | rfl | rfl | rfl | rfl | rfl | rfl
        · refine lv_tableIn (off := 60) (tgt := 92) hx hb dL_law_32 (by decide) (by decide) (by decide) (by decide) ?_
          exact law_c0 S hn hH hS hl hi kk
        · refine lv_tableIn (off := 83) (tgt := 115) hx hb dL_law_32 (by decide) (by decide) (by decide) (by decide) ?_
          exact law_c1 S hn hH hS hl hi kk
        · refine lv_tableIn (off := 126) (tgt := 158) hx hb dL_law_32 (by decide) (by decide) (by decide) (by decide) ?_
          exact law_c2 S hn hH hS hl hi kk
        · refine lv_tableIn (off := 175) (tgt := 207) hx hb dL_law_32 (by decide) (by decide) (by decide) (by decide) ?_
          exact law_c3 S hn hH hS hl hi kk
        · refine lv_tableIn (off := 188) (tgt := 220) hx hb dL_law_32 (by decide) (by decide) (by decide) (by decide) ?_
          exact law_c4 S hn hH hS hl hi kk
        · refine lv_tableIn (off := 201) (tgt := 233) hx hb dL_law_32 (by decide) (by decide) (by decide) (by decide) ?_
          exact law_c5 S hn hH hS hl hi kk
        · refine lv_tableIn (off := 234) (tgt := 266) hx hb dL_law_32 (by decide) (by decide) (by decide) (by decide) ?_
          exact law_c6 S hn hH hS hl hi kk
        · refine lv_tableIn (off := 257) (tgt := 289) hx hb dL_law_32 (by decide) (by decide) (by decide) (by decide) ?_
          exact law_c7 S hn hH hS hl hi kk
        · refine lv_tableIn (off := 280) (tgt := 312) hx hb dL_law_32 (by decide) (by decide) (by decide) (by decide) ?_
          exact law_c8 S hn hH hS hl hi kk
        · refine lv_tableIn (off := 303) (tgt := 335) hx hb dL_law_32 (by decide) (by decide) (by decide) (by decide) ?_
          exact law_c9 S hn hH hS hl hi kk
        · refine lv_tableIn (off := 326) (tgt := 358) hx hb dL_law_32 (by decide) (by decide) (by decide) (by decide) ?_
          exact law_c10 S hn hH hS hl hi kk
      · refine lv_tableOut (tgt := 371) hx hb dL_law_32 (Or.inr (by rw [nI_toInt (by omega)]; omega)) (by decide) ?_
        exact kk H locs n N O hn hH hS
set_option maxHeartbeats 4000000 in
/-- from the entry, for every script of at most 256 ints, the law comes to its end with true -/
theorem whole_start {p : Program} {e : Env} {s : State} {m : MethodId} {below : List Frame} {meth : Method} {c : Code} (l : Launch) {b L : Nat} {xs : Nat → Int32} (hL : L ≤ 256) (C0 : lw_At p s m meth c b L xs) : W p l e room_1 s m #[Value.ref b] below meth c s.heap [] 0 0 (lw_Z below #[Value.ref b] s) (entryFrame m ([Value.ref b] : List Value).toArray 4) := by
  obtain ⟨hx, hb, hr, hml, hown, hts0, hX, hbl, hlocks, hgv⟩ := id C0
  have hts : ∀ w ∈ lw_all, w.before #[Value.ref b] s = true := fun w h => hts0 w (lw_all_tbl h)
  have S0 : CallFix p m c code 4 s #[Value.ref b] lw_all R_law := ⟨hx, hb, hml, hown, hts⟩
  have hA : ∀ q : Nat, s.heap.size ≤ q → (fun q : Nat => s.heap.size ≤ q) q := fun _ h => h
  obtain ⟨c0, iS0, hKn0⟩ := u_known (C := RX0) (T := TX0) (N := 7) (n := 7) hts in_X0 (hts _ q23)
  obtain ⟨c1, iS1, hKn1⟩ := u_known (C := RX1) (T := TX1) (N := 6) (n := 6) hts in_X1 (hts _ q156)
  obtain ⟨E, hKc⟩ : ∃ E : va_G, ∀ (k : Nat) (q : vw_C), vwCl[k]? = some q → u_Kn s q.1 q.2.1 q.2.2 (E.1 k) (E.2 k) := by
    refine ⟨(fun k => if k = 0 then c0 else c1, fun k => if k = 0 then iS0 else iS1), ?_⟩
    intro k q hq
    match k, hq with
    | 0, hq => cases hq; exact hKn0
    | 1, hq => cases hq; exact hKn1
    | k + 2, hq => simp [vwCl] at hq
  have hS : va_S (fun q : Nat => s.heap.size ≤ q) s.heap s.heap [] := va_S.rf
  have hK : va_K E vwCl [] s := ⟨hKc, fun k q h => by simp at h⟩
  have hP : va_P E vwCl [] s.heap := fun k q h => by simp at h
  have hD : va_D (fun q : Nat => s.heap.size ≤ q) [] := ⟨fun i j p q h => by simp at h, fun k q h => by simp at h⟩
  have hl := lv_entry ([.ref b]) (n := 4) (Nat.le_of_ble_eq_true rfl)
  rw [lg_entry_eq]
  generalize (lg_sl ([.ref b]) ++ List.replicate (4 - (lg_sl ([.ref b])).length) Slot.unset).toArray = ls at hl ⊢
  have hl : lv_has ls 4 [(0, .ref b)] := hl
  refine va_new (ci := 0) (fs := X0fs) (C := RX0) (T := TX0) (N := 7) hx hb hts in_X0 tyX0 tyX0_ok hown (hts _ q22) (hts _ q23) (hts _ q20) hK hP hD hS hA rfl (fun j hj => by rcases (show j = 0 ∨ j = 1 ∨ j = 2 ∨ j = 3 ∨ j = 4 ∨ j = 5 ∨ j = 6 by omega) with rfl | rfl | rfl | rfl | rfl | rfl | rfl <;> rfl) (Nat.le_of_ble_eq_true rfl) (Nat.le_of_ble_eq_true rfl) dL_law_0 (fun qx H hP hD hS => ?_)
  have hP : va_P E vwCl [(qx, .inr (0, X0fs))] H := hP
  have hqx : s.heap.size ≤ qx := hD.2 0 _ rfl
  refine W.widen (k := 1) (n := 7) (Nat.le_of_ble_eq_true rfl) (Nat.le_of_ble_eq_true rfl) ?_
  refine lv_dup hx hb dL_law_3 rfl ?_
  refine i_callM 0 (rest := [.ref qx]) (metX0_init l E qx H.size) S0 (lw_meth q26) (hts _ q20) (hts _ q24) (hts _ q25) rfl (fun U f mk a h => ⟨h.1, h.2.1, va_K.moved (u := U) (U := U.calling f mk a) (Vm.Alike.refl U.vm) h.2.2⟩) (fun U hU hW => ⟨by rw [hU], by rw [hU]; exact hP, va_K.moved hW.alike hK⟩) hS (fun q h => h.elim (fun h => by rw [h]; exact hqx) (fun h => Nat.le_trans hS.1 h)) rfl rfl (by decide +kernel) ⟨Nat.le_of_ble_eq_true rfl, Nat.le_of_ble_eq_true rfl⟩ rfl hl.1 rfl (Nat.le_of_ble_eq_true rfl) ⟨Nat.le_of_ble_eq_true rfl, Nat.le_of_ble_eq_true rfl⟩ dL_law_4 (fun t H1 locs ht hvm hp hz1 hk1 hS1 => ?_)
  obtain ⟨gx, hg0, hI, hxA⟩ := hp
  have hPx : va_P E vwCl (xW gx 0 (fun _ => 0) (fun _ => false) (fun _ => false) (fun _ => 0) false (fun _ => 0)) H1 := by rw [← ht]; exact hI.1
  have hKx : va_K E vwCl (gT gx) s := va_K.moved hvm.symm hI.2.1
  have hDx : xD gx := hI.2.2
  have hAx : ∀ q, xA gx q → s.heap.size ≤ q := fun q h => (hxA q h).elim (fun h => by rw [h]; exact hqx) (fun h => Nat.le_trans hS.1 h)
  have hDw : va_D (fun q : Nat => s.heap.size ≤ q) (xW gx 0 (fun _ => 0) (fun _ => false) (fun _ => false) (fun _ => 0) false (fun _ => 0)) := hDx.weaken (fun _ q _ h => hAx q.1 h)
  refine W.widen (k := 6) (n := 72) (Nat.le_of_ble_eq_true rfl) (Nat.le_of_ble_eq_true rfl) ?_
  refine lv_astore_n (lv' := [(1, .ref qx), (0, .ref b)]) hx hb dL_law_7 rfl hl (by decide) rfl (fun ls hl => ?_)
  refine va_new (ci := 1) (fs := M0fs) (C := RX1) (T := TX1) (N := 6) hx hb hts in_X1 tyX1 tyX1_ok hown (hts _ q155) (hts _ q156) (hts _ q21) hK hPx hDw hS1 hA rfl (fun j hj => by rcases (show j = 0 ∨ j = 1 ∨ j = 2 ∨ j = 3 ∨ j = 4 ∨ j = 5 by omega) with rfl | rfl | rfl | rfl | rfl | rfl <;> rfl) (Nat.le_of_ble_eq_true rfl) (Nat.le_of_ble_eq_true rfl) dL_law_8 (fun qm H2 hP2 hD2 hS2 => ?_)
  have hPm : va_P E vwCl [(qm, .inr (1, M0fs))] H2 := hP2.sub [6] rfl
  have hPx2 : va_P E vwCl (xW gx 0 (fun _ => 0) (fun _ => false) (fun _ => false) (fun _ => 0) false (fun _ => 0)) H2 := hP2.sub [0, 1, 2, 3, 4, 5] rfl
  have hqm : s.heap.size ≤ qm := hD2.2 6 _ rfl
  have hne : ∀ q, xA gx q → q < H2.size ∧ q ≠ qm := by
    intro q hq
    rcases hq with rfl | rfl | rfl | rfl | rfl | rfl
    · exact ⟨(hPx2 0 _ rfl).lt, fun h => absurd (hD2.1 0 6 _ _ rfl rfl h) (by decide)⟩
    · exact ⟨(hPx2 1 _ rfl).lt, fun h => absurd (hD2.1 1 6 _ _ rfl rfl h) (by decide)⟩
    · exact ⟨(hPx2 2 _ rfl).lt, fun h => absurd (hD2.1 2 6 _ _ rfl rfl h) (by decide)⟩
    · exact ⟨(hPx2 3 _ rfl).lt, fun h => absurd (hD2.1 3 6 _ _ rfl rfl h) (by decide)⟩
    · exact ⟨(hPx2 4 _ rfl).lt, fun h => absurd (hD2.1 4 6 _ _ rfl rfl h) (by decide)⟩
    · exact ⟨(hPx2 5 _ rfl).lt, fun h => absurd (hD2.1 5 6 _ _ rfl rfl h) (by decide)⟩
  refine W.widen (k := 7) (n := 78) (Nat.le_of_ble_eq_true rfl) (Nat.le_of_ble_eq_true rfl) ?_
  refine lv_dup hx hb dL_law_11 rfl ?_
  refine i_callM 0 (rest := [.ref qm]) (metX1_init l E qm H2.size) S0 (lw_meth q159) (hts _ q21) (hts _ q157) (hts _ q158) rfl (fun U f mk a h => ⟨h.1, h.2.1, va_K.moved (u := U) (U := U.calling f mk a) (Vm.Alike.refl U.vm) h.2.2⟩) (fun U hU hW => ⟨by rw [hU], by rw [hU]; exact hPm, va_K.moved hW.alike hK⟩) hS2 (fun q h => h.elim (fun h => by rw [h]; exact hqm) (fun h => Nat.le_trans hS2.1 h)) rfl rfl (by decide +kernel) ⟨Nat.le_of_ble_eq_true rfl, Nat.le_of_ble_eq_true rfl⟩ rfl hl.1 rfl (Nat.le_of_ble_eq_true rfl) ⟨Nat.le_of_ble_eq_true rfl, Nat.le_of_ble_eq_true rfl⟩ dL_law_12 (fun t2 H3 locs3 ht2 hvm2 hp2 hz3 hk3 hS3 => ?_)
  obtain ⟨gm, hgm0, hIm, hmA⟩ := hp2
  have hPm3 : va_P E vwCl (mW gm 0 (fun _ => 0) (fun _ => false) false (fun _ => 0) (fun _ => 0)) H3 := by rw [← ht2]; exact hIm.1
  have hKm : va_K E vwCl (gT gm) s := va_K.moved hvm2.symm hIm.2.1
  have hDm : mD gm := hIm.2.2
  have hAm : ∀ q, mA gm q → s.heap.size ≤ q := fun q h => (hmA q h).elim (fun h => by rw [h]; exact hqm) (fun h => Nat.le_trans hS2.1 h)
  have hap : ∀ q, xA gx q → ¬ mA gm q := fun q h1 h2 => (hmA q h2).elim (hne q h1).2 (fun h => absurd (hne q h1).1 (Nat.not_lt.mpr h))
  have hPx3 : va_P E vwCl (xW gx 0 (fun _ => 0) (fun _ => false) (fun _ => false) (fun _ => 0) false (fun _ => 0)) H3 := hPx2.kept (fun j q hq => hk3 q.1 (hne q.1 (xW_in j q hq)).1 (fun h => h.elim (hne q.1 (xW_in j q hq)).2 (fun h => absurd (hne q.1 (xW_in j q hq)).1 (Nat.not_lt.mpr h))))
  refine W.widen (k := 11) (n := 2579) (Nat.le_of_ble_eq_true rfl) (Nat.le_of_ble_eq_true rfl) ?_
  refine lv_astore_n (lv' := [(2, .ref qm), (1, .ref qx), (0, .ref b)]) hx hb dL_law_15 rfl hl (by decide) rfl (fun ls hl => ?_)
  refine lv_iconst (v := nI 0) hx hb dL_law_16 (by decide) ?_
  refine lv_istore_n (lv' := [(3, .int (nI 0)), (2, .ref qm), (1, .ref qx), (0, .ref b)]) hx hb dL_law_17 rfl hl (by decide) rfl (fun ls hl => ?_)
  rw [← hg0, ← hgm0] at hl
  exact law_loop hr hlocks ⟨S0, hX, hbl, hL, ⟨hKx, hDx⟩, ⟨hKm, hDm⟩, hap, hAx, hAm⟩ (L + 1) 0 H3 locs3 0 _ _ ls (Nat.zero_le L) (by omega) (by decide) ⟨⟨_, _, _, _, hPx3⟩, ⟨_, _, _, (fun h => absurd h (by decide)), hPm3⟩⟩ hS3 (lv_sub hl [3, 2, 1, 0] rfl)
end
section
set_option maxRecDepth 100000
set_option maxHeartbeats 4000000 in
theorem lw_walk (l : Launch) (b : Addr) (xs : List Int32) : MetFree l x (headSpec (Jvm.Cond.code x code maxLocals ret :: tables_1) room_1) (lw_P b xs) (fun _ _ _ _ _ => True) lw_Q := by
  refine MetFree.of_bodyS (code := code) (maxLocals := maxLocals) (ret := ret) (by decide) ?_ ?_
  · intro args s m h hn
    obtain ⟨meth, c, h1, h2, h3, h4, h5, h6, -, -⟩ := Cond.code_spec hn (atoms_spec (ws := Jvm.Cond.code x code maxLocals ret :: tables_1) h _ List.mem_cons_self)
    exact ⟨meth, c, h1, h2, h3, h4, h5, h6⟩
  · intro p e s m args below meth c s₁ B hml0 hP _
    obtain ⟨rfl, hx, hbd, hgv⟩ := hP
    obtain ⟨scr, harrAt, hlist, hof, hsmall⟩ := hx
    obtain ⟨hcb, hkn, -, -⟩ := State.arrayAt?_spec harrAt
    have hown : s.vm.findClass R_law = some m.cls := findClass_of_methodNamed B.named
    have hts0 : ∀ c ∈ (Jvm.Cond.code x code maxLocals ret :: tables_1), c.before #[Value.ref b] s = true := atoms_spec (ws := Jvm.Cond.code x code maxLocals ret :: tables_1) B.pre
    have hts : ∀ w ∈ lw_tbl, w.before #[Value.ref b] s = true := k2_hts_sels lw_privs (fun w hw => hts0 w (List.mem_cons_of_mem _ hw)) lw_privs_ok
    have hml : c.maxLocals = 4 := B.maxLocals_eq (hts0 _ List.mem_cons_self)
    have X₀ : Stand p l e room_1 s m #[Value.ref b] below meth c s₁ [] 0 0 := Stand.of_body B
    have hh0 : s₁.heap = s.heap := by rw [B.state]; rfl
    have hsz : scr.slots.size = xs.length := by rw [← Array.length_toList, hlist, List.length_map]
    have hval : ∀ j : Nat, j < xs.length → scr.slots[j]? = some (.int (xs.getD j 0)) := fun j hj => by
      rw [← Array.getElem?_toList, hlist]
      simp [hj]
    have hbl : b < s.heap.size := (Array.getElem?_eq_some_iff.mp hcb).1
    have hX : va_X b xs.length (fun j => xs.getD j 0) s s.heap := ⟨scr, hcb, hof, hkn, hsz, hval⟩
    have K : W p l e room_1 s m #[Value.ref b] below meth c s₁.heap [] 0 0 (lw_Z below #[Value.ref b] s) (entryFrame m ([Value.ref b] : List Value).toArray 4) := by
      rw [hh0]
      exact whole_start l hbd ⟨B.exec, B.bytes, B.returns, hml, hown, hts, hX, hbl, B.notSynchronized, hgv⟩
    obtain ⟨t, a1, o, b1, b2, b3⟩ := K s₁ rfl X₀
    exact ⟨t, o, a1, b1, b2, b3⟩
theorem lw_pre_spec {args : Array Value} {s : State} (h : (Jvm.Cond.and given_1 narrow_1).before args s = true) (hr : rest_1_c.before args s = true) : ∃ (b : Addr) (xs : List Int32), lw_P b xs args s := by
  have hs := flat_of_before _ h
  have hq := flat_of_before _ hr
  have hc : (Cond.count 1).before args s = true := hs _ (by decide +kernel)
  have harr : (Cond.arrayOf (.arg 0) .int).before args s = true := hs _ (by decide +kernel)
  have hle : (Cond.le (.length (.arg 0)) (.int 256)).before args s = true := hs _ (by decide +kernel)
  have hlen : (Cond.isInt (.length (.arg 0))).before args s = true := hq _ (by decide +kernel)
  have hall : (Cond.all (.arg 0) (.isInt (.elem (.arg 0) (.index 0)))).before args s = true := hq _ (by decide +kernel)
  obtain ⟨b, xs, hb, hx⟩ := State.ints_of_pre rfl harr hlen hall
  have hsm : xs.length < 2 ^ 31 := hx.choose_spec.2.2.2
  have hev : (Term.length (.arg 0)).eval args s none [] s = some (.int xs.length.toInt32) := hx.length_eval hb
  have hv := Cond.le_ints hev (show (Term.int 256).eval args s none [] s = some (.int 256) from rfl)
  have hd : xs.length.toInt32 ≤ 256 := by
    simpa [Cond.before, Cond.holds, hv] using hle
  have hN : xs.length ≤ 256 := (Int32.ofNat_le_ofNat hsm (by decide)).mp (show Int32.ofNat xs.length ≤ Int32.ofNat 256 from hd)
  exact ⟨b, xs, Cond.one_arg hc (show args[0]? = some (.ref b) from hb), hx, hN, h⟩
theorem lw_comes (l : Launch) : Comes l x (Jvm.Cond.code x code maxLocals ret :: tables_1) room_1 (fun tb e args s => Calls_1 tb e args s ∧ rest_1 tb e args s ∧ Pre_1 tb e args s)
    (fun _ _ args s o t => lw_Q args s o t) := by
  intro p e ha hc hk s m args below hf hfit hheap happ hpre
  obtain ⟨b, xs, hP⟩ := lw_pre_spec hpre.2.2 hpre.2.1
  obtain ⟨k, o, h1, h2, h3, hQ⟩ := lw_walk l b xs p e ha hc hk s m args below hf ((Spec.applies_iff_loose hf).mp happ).1 hP trivial
  exact ⟨k, o, h1, h2, h3, hQ⟩
theorem lw_frame {s t : State} {o : Outcome} {args : Array Value} (h : Framed s o t [] 600000 7290000) :
    Framed s o t (fieldLocs frame_1_writes args s ++ arrayLocs frame_1_arrays args s ++ staticLocs frame_1_statics s) 600000 7290000 := h
theorem lw_limb (L : Cond) (hL : ∀ (args : Array Value) (s t : State), L.after args s (.returned (some (.int 1))) t = true) :
    ArmFor flags0 classFile x code maxLocals ret World_1 tables_1 room_1 Calls_1 rest_1 Pre_1
      (fun tb e a s o t => postC L tb e a s o t ∧ Framed s o t (fieldLocs frame_1_writes a s ++ arrayLocs frame_1_arrays a s ++ staticLocs frame_1_statics s) 600000 7290000) := by
  intro l _ _ _ p e ha hc hk s m args below hf hfit hheap happ hpre
  obtain ⟨k, o, h1, h2, h3, rfl, hF⟩ := lw_comes l p e ha hc hk s m args below hf hfit hheap happ hpre
  exact ⟨k, _, h1, h2, h3, hL args s _, lw_frame hF⟩
theorem i_vc : Claimed_1_1 ∧ Claimed_1_2 := ⟨lw_limb limb_1_1 (fun args s t => by simp [limb_1_1, Cond.after, Cond.holds, Cond.value]), lw_limb limb_1_2 (fun args s t => Cond.after_iff.mpr (by
  first | (rw [show limb_1_2 = Cond.eq .result (.int 1) from rfl, Cond.eq_ints (x := 1) (y := 1) rfl rfl]; simp; done) | (simp [limb_1_2, Cond.value, Term.eval]; done)))⟩
end
