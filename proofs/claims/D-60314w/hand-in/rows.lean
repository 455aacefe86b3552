section
-- ===== PART A: goes FIRST, ahead of the names: the tables' words, and 'selects' of the private methods out of them =====
/-- a private method of a class that the tables say can be made, by its rows of tables_1 -/
def lw_okq (q : MethodName × Nat) : Prop := (q.1.cls ≠ "java/lang/invoke/MethodHandle" ∧ q.1.cls ≠ "java/lang/invoke/VarHandle") ∧ Cond.instantiable q.1.cls q.2 ∈ tables_1 ∧ Cond.privateMethod q.1 ∈ tables_1 ∧ Cond.instanceMethod q.1 ∈ tables_1
set_option maxRecDepth 100000
theorem lw_p0 : lw_okq (⟨"SeedSolver", "isPlace", "(II)Z"⟩, 13) := ⟨⟨by decide +kernel, by decide +kernel⟩, List.mem_of_getElem? (i := 4) rfl, List.mem_of_getElem? (i := 63) rfl, List.mem_of_getElem? (i := 64) rfl⟩
theorem lw_p1 : lw_okq (⟨"SeedSolver", "makeForms", "()V"⟩, 13) := ⟨⟨by decide +kernel, by decide +kernel⟩, List.mem_of_getElem? (i := 4) rfl, List.mem_of_getElem? (i := 71) rfl, List.mem_of_getElem? (i := 72) rfl⟩
theorem lw_p2 : lw_okq (⟨"SeedSolver", "sumOfForms", "(I)I"⟩, 13) := ⟨⟨by decide +kernel, by decide +kernel⟩, List.mem_of_getElem? (i := 4) rfl, List.mem_of_getElem? (i := 75) rfl, List.mem_of_getElem? (i := 76) rfl⟩
theorem lw_p3 : lw_okq (⟨"SeedSolver", "parity", "(I)I"⟩, 13) := ⟨⟨by decide +kernel, by decide +kernel⟩, List.mem_of_getElem? (i := 4) rfl, List.mem_of_getElem? (i := 79) rfl, List.mem_of_getElem? (i := 80) rfl⟩
theorem lw_p4 : lw_okq (⟨"SeedSolver", "isCubeSet", "(I)Z"⟩, 13) := ⟨⟨by decide +kernel, by decide +kernel⟩, List.mem_of_getElem? (i := 4) rfl, List.mem_of_getElem? (i := 87) rfl, List.mem_of_getElem? (i := 88) rfl⟩
theorem lw_p5 : lw_okq (⟨"SeedSolver", "solve", "(I)Z"⟩, 13) := ⟨⟨by decide +kernel, by decide +kernel⟩, List.mem_of_getElem? (i := 4) rfl, List.mem_of_getElem? (i := 91) rfl, List.mem_of_getElem? (i := 92) rfl⟩
theorem lw_p6 : lw_okq (⟨"SeedSolver", "demand", "(II)Z"⟩, 13) := ⟨⟨by decide +kernel, by decide +kernel⟩, List.mem_of_getElem? (i := 4) rfl, List.mem_of_getElem? (i := 95) rfl, List.mem_of_getElem? (i := 96) rfl⟩
theorem lw_p7 : lw_okq (⟨"SeedSolver", "reduce", "(II)I"⟩, 13) := ⟨⟨by decide +kernel, by decide +kernel⟩, List.mem_of_getElem? (i := 4) rfl, List.mem_of_getElem? (i := 99) rfl, List.mem_of_getElem? (i := 100) rfl⟩
theorem lw_p8 : lw_okq (⟨"SeedSolver", "complete", "(I)I"⟩, 13) := ⟨⟨by decide +kernel, by decide +kernel⟩, List.mem_of_getElem? (i := 4) rfl, List.mem_of_getElem? (i := 107) rfl, List.mem_of_getElem? (i := 108) rfl⟩
theorem lw_p9 : lw_okq (⟨"SeedSolver", "groupCubes", "()V"⟩, 13) := ⟨⟨by decide +kernel, by decide +kernel⟩, List.mem_of_getElem? (i := 4) rfl, List.mem_of_getElem? (i := 123) rfl, List.mem_of_getElem? (i := 124) rfl⟩
theorem lw_p10 : lw_okq (⟨"SeedSolverModel", "isState", "(I)Z"⟩, 5) := ⟨⟨by decide +kernel, by decide +kernel⟩, List.mem_of_getElem? (i := 134) rfl, List.mem_of_getElem? (i := 160) rfl, List.mem_of_getElem? (i := 161) rfl⟩
theorem lw_p11 : lw_okq (⟨"SeedSolverModel", "isPlace", "(II)Z"⟩, 5) := ⟨⟨by decide +kernel, by decide +kernel⟩, List.mem_of_getElem? (i := 134) rfl, List.mem_of_getElem? (i := 168) rfl, List.mem_of_getElem? (i := 169) rfl⟩
theorem lw_p12 : lw_okq (⟨"SeedSolverModel", "valueAt", "(III)I"⟩, 5) := ⟨⟨by decide +kernel, by decide +kernel⟩, List.mem_of_getElem? (i := 134) rfl, List.mem_of_getElem? (i := 176) rfl, List.mem_of_getElem? (i := 177) rfl⟩
theorem lw_p13 : lw_okq (⟨"SeedSolverModel", "parity", "(I)I"⟩, 5) := ⟨⟨by decide +kernel, by decide +kernel⟩, List.mem_of_getElem? (i := 134) rfl, List.mem_of_getElem? (i := 180) rfl, List.mem_of_getElem? (i := 181) rfl⟩
theorem lw_p14 : lw_okq (⟨"SeedSolverModel", "isSet", "(I)Z"⟩, 5) := ⟨⟨by decide +kernel, by decide +kernel⟩, List.mem_of_getElem? (i := 134) rfl, List.mem_of_getElem? (i := 188) rfl, List.mem_of_getElem? (i := 189) rfl⟩
theorem lw_p15 : lw_okq (⟨"SeedSolverModel", "fits", "(II)Z"⟩, 5) := ⟨⟨by decide +kernel, by decide +kernel⟩, List.mem_of_getElem? (i := 134) rfl, List.mem_of_getElem? (i := 192) rfl, List.mem_of_getElem? (i := 193) rfl⟩
def lw_privs_1 : List (MethodName × Nat) := [(⟨"SeedSolver", "isPlace", "(II)Z"⟩, 13), (⟨"SeedSolver", "makeForms", "()V"⟩, 13), (⟨"SeedSolver", "sumOfForms", "(I)I"⟩, 13), (⟨"SeedSolver", "parity", "(I)I"⟩, 13), (⟨"SeedSolver", "isCubeSet", "(I)Z"⟩, 13), (⟨"SeedSolver", "solve", "(I)Z"⟩, 13), (⟨"SeedSolver", "demand", "(II)Z"⟩, 13), (⟨"SeedSolver", "reduce", "(II)I"⟩, 13), (⟨"SeedSolver", "complete", "(I)I"⟩, 13), (⟨"SeedSolver", "groupCubes", "()V"⟩, 13), (⟨"SeedSolverModel", "isState", "(I)Z"⟩, 5), (⟨"SeedSolverModel", "isPlace", "(II)Z"⟩, 5), (⟨"SeedSolverModel", "valueAt", "(III)I"⟩, 5), (⟨"SeedSolverModel", "parity", "(I)I"⟩, 5), (⟨"SeedSolverModel", "isSet", "(I)Z"⟩, 5), (⟨"SeedSolverModel", "fits", "(II)Z"⟩, 5)]
theorem lw_r1 : ∀ q ∈ lw_privs_1, lw_okq q := List.forall_mem_cons.mpr ⟨lw_p0, List.forall_mem_cons.mpr ⟨lw_p1, List.forall_mem_cons.mpr ⟨lw_p2, List.forall_mem_cons.mpr ⟨lw_p3, List.forall_mem_cons.mpr ⟨lw_p4, List.forall_mem_cons.mpr ⟨lw_p5, List.forall_mem_cons.mpr ⟨lw_p6, List.forall_mem_cons.mpr ⟨lw_p7, List.forall_mem_cons.mpr ⟨lw_p8, List.forall_mem_cons.mpr ⟨lw_p9, List.forall_mem_cons.mpr ⟨lw_p10, List.forall_mem_cons.mpr ⟨lw_p11, List.forall_mem_cons.mpr ⟨lw_p12, List.forall_mem_cons.mpr ⟨lw_p13, List.forall_mem_cons.mpr ⟨lw_p14, List.forall_mem_cons.mpr ⟨lw_p15, fun _ h => absurd h List.not_mem_nil⟩⟩⟩⟩⟩⟩⟩⟩⟩⟩⟩⟩⟩⟩⟩⟩
theorem lw_p16 : lw_okq (⟨"SeedSolverModel", "firstSeed", "(I)I"⟩, 5) := ⟨⟨by decide +kernel, by decide +kernel⟩, List.mem_of_getElem? (i := 134) rfl, List.mem_of_getElem? (i := 200) rfl, List.mem_of_getElem? (i := 201) rfl⟩
def lw_privs_2 : List (MethodName × Nat) := [(⟨"SeedSolverModel", "firstSeed", "(I)I"⟩, 5)]
theorem lw_r2 : ∀ q ∈ lw_privs_2, lw_okq q := List.forall_mem_cons.mpr ⟨lw_p16, fun _ h => absurd h List.not_mem_nil⟩
def lw_privs : List (MethodName × Nat) := lw_privs_1 ++ (lw_privs_2)
def lw_tbl : List Cond := k2_sels lw_privs ++ tables_1
theorem lw_privs_ok : ∀ q ∈ lw_privs, lw_okq q := by
  show ∀ q ∈ lw_privs_1 ++ (lw_privs_2), lw_okq q
  exact List.forall_mem_append.mpr ⟨lw_r1, lw_r2⟩
-- ===== ONE list of words for every method: the tables' words that hold all through a run =====
def lw_all : List Cond := lw_tbl.filter goodWord
/-- a word of the tables by its place: claim/WORDS.tsv -/
theorem lw_w {w : Cond} (i : Nat) (h : lw_tbl[i]? = some w) (g : goodWord w = true) : w ∈ lw_all := List.mem_filter.mpr ⟨List.mem_of_getElem? h, g⟩
theorem lw_all_tbl {w : Cond} (h : w ∈ lw_all) : w ∈ lw_tbl := (List.mem_filter.mp h).1
theorem lw_self : GoodIn lw_all lw_all := fun w h => ⟨h, good_of_word (List.mem_filter.mp h).2⟩
/-- a class's field words, by their places -/
theorem lw_in (ws : List Cond) (ps : List Nat) (hp : ws = ps.filterMap (fun i => lw_tbl[i]?)) (hg : ws.all goodWord = true) : ∀ w ∈ ws, w ∈ lw_all := by
  intro w h
  have h1 := List.all_eq_true.mp hg w h
  rw [hp] at h
  obtain ⟨i, -, hi⟩ := List.mem_filterMap.mp h
  exact lw_w i hi h1
/-- the words of a contract for the method y with code b, L locals, answer r -/
abbrev ws_ (y : MethodName) (b : ByteArray) (L : Nat) (r : Option FieldType) : List Cond := Cond.code y b L r :: lw_all
theorem lw_meth {y : MethodName} {b : ByteArray} {L : Nat} {r : Option FieldType} (h : Cond.code y b L r ∈ lw_all) : GoodIn lw_all (ws_ y b L r) := by
  intro w hw
  rcases List.mem_cons.mp hw with e | e
  · rw [e]
    exact lw_self _ h
  · exact lw_self _ e
theorem lw_app {a c : List Cond} (ha : ∀ w ∈ a, w ∈ lw_all) (hc : GoodIn lw_all c) : GoodIn lw_all (a ++ c) := by
  intro w hw
  rcases List.mem_append.mp hw with e | e
  · exact lw_self w (ha w e)
  · exact hc w e
/-- what a call through an object asks: cwV n hts (lw_V ..) -/
theorem lw_V {own : String} {idx : Nat} {C : String} {y : MethodName} {b : ByteArray} {L : Nat} {r : Option FieldType} (h1 : Cond.methodLink own idx y ∈ lw_all) (h2 : Cond.instanceMethod y ∈ lw_all) (h3 : Cond.selects C y y ∈ lw_all) (h4 : Cond.initialized C ∈ lw_all) (h5 : Cond.code y b L r ∈ lw_all) : GoodIn lw_all (wsV own idx C y (ws_ y b L r)) := by
  refine lw_app ?_ (lw_meth h5)
  intro w hw
  simp only [List.mem_cons, List.not_mem_nil, or_false] at hw
  rcases hw with e | e | e | e
  · rw [e]; exact h1
  · rw [e]; exact h2
  · rw [e]; exact h3
  · rw [e]; exact h4
/-- what a static call asks: va_cwS n hts (lw_S ..) -/
theorem lw_S {own : String} {idx : Nat} {y : MethodName} {b : ByteArray} {L : Nat} {r : Option FieldType} (h1 : Cond.methodLink own idx y ∈ lw_all) (h2 : Cond.static y ∈ lw_all) (h3 : Cond.initialized y.cls ∈ lw_all) (h4 : Cond.code y b L r ∈ lw_all) : GoodIn lw_all (va_wsS own idx y (ws_ y b L r)) := by
  refine lw_app ?_ (lw_meth h4)
  intro w hw
  simp only [List.mem_cons, List.not_mem_nil, or_false] at hw
  rcases hw with e | e | e
  · rw [e]; exact h1
  · rw [e]; exact h2
  · rw [e]; exact h3
/-- the words of a contract for a method WITH HANDLERS (hh: its table) -/
abbrev wsW_ (y : MethodName) (b : ByteArray) (L : Nat) (r : Option FieldType) (hh : List (Nat × Nat × Nat × Nat)) : List Cond := Cond.codeWith y b L r hh :: lw_all
theorem lw_methW {y : MethodName} {b : ByteArray} {L : Nat} {r : Option FieldType} {hh : List (Nat × Nat × Nat × Nat)} (h : Cond.codeWith y b L r hh ∈ lw_all) : GoodIn lw_all (wsW_ y b L r hh) := by
  intro w hw
  rcases List.mem_cons.mp hw with e | e
  · rw [e]
    exact lw_self _ h
  · exact lw_self _ e
/-- any list of words by their places (lw_in), good -/
theorem lw_good {ws : List Cond} (h : ∀ w ∈ ws, w ∈ lw_all) : GoodIn lw_all ws := fun w hw => lw_self w (h w hw)
/-- what a call of a method with handlers asks: vx_cwVW n hts (lw_VW ..), vx_cwSW n hts (lw_SW ..) -/
theorem lw_VW {own : String} {idx : Nat} {C : String} {y : MethodName} {b : ByteArray} {L : Nat} {r : Option FieldType} {hh : List (Nat × Nat × Nat × Nat)} (h1 : Cond.methodLink own idx y ∈ lw_all) (h2 : Cond.instanceMethod y ∈ lw_all) (h3 : Cond.selects C y y ∈ lw_all) (h4 : Cond.initialized C ∈ lw_all) (h5 : Cond.codeWith y b L r hh ∈ lw_all) : GoodIn lw_all (wsV own idx C y (wsW_ y b L r hh)) := by
  refine lw_app ?_ (lw_methW h5)
  intro w hw
  simp only [List.mem_cons, List.not_mem_nil, or_false] at hw
  rcases hw with e | e | e | e
  · rw [e]; exact h1
  · rw [e]; exact h2
  · rw [e]; exact h3
  · rw [e]; exact h4
theorem lw_SW {own : String} {idx : Nat} {y : MethodName} {b : ByteArray} {L : Nat} {r : Option FieldType} {hh : List (Nat × Nat × Nat × Nat)} (h1 : Cond.methodLink own idx y ∈ lw_all) (h2 : Cond.static y ∈ lw_all) (h3 : Cond.initialized y.cls ∈ lw_all) (h4 : Cond.codeWith y b L r hh ∈ lw_all) : GoodIn lw_all (va_wsS own idx y (wsW_ y b L r hh)) := by
  refine lw_app ?_ (lw_methW h4)
  intro w hw
  simp only [List.mem_cons, List.not_mem_nil, or_false] at hw
  rcases hw with e | e | e
  · rw [e]; exact h1
  · rw [e]; exact h2
  · rw [e]; exact h3
/-- a word by its place in its run of the tables -/
theorem lw_at {r : List Cond} (hr : ∀ w ∈ r, w ∈ lw_tbl) {w : Cond} (i : Nat) (h : r[i]? = some w) : w ∈ lw_tbl := hr w (List.mem_of_getElem? h)
theorem lw_g {w : Cond} (h : w ∈ lw_tbl) (g : goodWord w = true) : w ∈ lw_all := List.mem_filter.mpr ⟨h, g⟩
theorem lw_ms : ∀ w ∈ k2_sels lw_privs, w ∈ lw_tbl := fun w h => show w ∈ k2_sels lw_privs ++ tables_1 from List.mem_append_left _ h
theorem lw_m0 : ∀ w ∈ tables_1, w ∈ lw_tbl := fun w h => show w ∈ k2_sels lw_privs ++ tables_1 from List.mem_append_right (k2_sels lw_privs) h
theorem qs0 : (Cond.selects "SeedSolver" ⟨"SeedSolver", "isPlace", "(II)Z"⟩ ⟨"SeedSolver", "isPlace", "(II)Z"⟩) ∈ lw_all := lw_g (lw_at lw_ms 0 rfl) rfl
theorem qs1 : (Cond.selects "SeedSolver" ⟨"SeedSolver", "makeForms", "()V"⟩ ⟨"SeedSolver", "makeForms", "()V"⟩) ∈ lw_all := lw_g (lw_at lw_ms 1 rfl) rfl
theorem qs2 : (Cond.selects "SeedSolver" ⟨"SeedSolver", "sumOfForms", "(I)I"⟩ ⟨"SeedSolver", "sumOfForms", "(I)I"⟩) ∈ lw_all := lw_g (lw_at lw_ms 2 rfl) rfl
theorem qs3 : (Cond.selects "SeedSolver" ⟨"SeedSolver", "parity", "(I)I"⟩ ⟨"SeedSolver", "parity", "(I)I"⟩) ∈ lw_all := lw_g (lw_at lw_ms 3 rfl) rfl
theorem qs4 : (Cond.selects "SeedSolver" ⟨"SeedSolver", "isCubeSet", "(I)Z"⟩ ⟨"SeedSolver", "isCubeSet", "(I)Z"⟩) ∈ lw_all := lw_g (lw_at lw_ms 4 rfl) rfl
theorem qs5 : (Cond.selects "SeedSolver" ⟨"SeedSolver", "solve", "(I)Z"⟩ ⟨"SeedSolver", "solve", "(I)Z"⟩) ∈ lw_all := lw_g (lw_at lw_ms 5 rfl) rfl
theorem qs6 : (Cond.selects "SeedSolver" ⟨"SeedSolver", "demand", "(II)Z"⟩ ⟨"SeedSolver", "demand", "(II)Z"⟩) ∈ lw_all := lw_g (lw_at lw_ms 6 rfl) rfl
theorem qs7 : (Cond.selects "SeedSolver" ⟨"SeedSolver", "reduce", "(II)I"⟩ ⟨"SeedSolver", "reduce", "(II)I"⟩) ∈ lw_all := lw_g (lw_at lw_ms 7 rfl) rfl
theorem qs8 : (Cond.selects "SeedSolver" ⟨"SeedSolver", "complete", "(I)I"⟩ ⟨"SeedSolver", "complete", "(I)I"⟩) ∈ lw_all := lw_g (lw_at lw_ms 8 rfl) rfl
theorem qs9 : (Cond.selects "SeedSolver" ⟨"SeedSolver", "groupCubes", "()V"⟩ ⟨"SeedSolver", "groupCubes", "()V"⟩) ∈ lw_all := lw_g (lw_at lw_ms 9 rfl) rfl
theorem qs10 : (Cond.selects "SeedSolverModel" ⟨"SeedSolverModel", "isState", "(I)Z"⟩ ⟨"SeedSolverModel", "isState", "(I)Z"⟩) ∈ lw_all := lw_g (lw_at lw_ms 10 rfl) rfl
theorem qs11 : (Cond.selects "SeedSolverModel" ⟨"SeedSolverModel", "isPlace", "(II)Z"⟩ ⟨"SeedSolverModel", "isPlace", "(II)Z"⟩) ∈ lw_all := lw_g (lw_at lw_ms 11 rfl) rfl
theorem qs12 : (Cond.selects "SeedSolverModel" ⟨"SeedSolverModel", "valueAt", "(III)I"⟩ ⟨"SeedSolverModel", "valueAt", "(III)I"⟩) ∈ lw_all := lw_g (lw_at lw_ms 12 rfl) rfl
theorem qs13 : (Cond.selects "SeedSolverModel" ⟨"SeedSolverModel", "parity", "(I)I"⟩ ⟨"SeedSolverModel", "parity", "(I)I"⟩) ∈ lw_all := lw_g (lw_at lw_ms 13 rfl) rfl
theorem qs14 : (Cond.selects "SeedSolverModel" ⟨"SeedSolverModel", "isSet", "(I)Z"⟩ ⟨"SeedSolverModel", "isSet", "(I)Z"⟩) ∈ lw_all := lw_g (lw_at lw_ms 14 rfl) rfl
theorem qs15 : (Cond.selects "SeedSolverModel" ⟨"SeedSolverModel", "fits", "(II)Z"⟩ ⟨"SeedSolverModel", "fits", "(II)Z"⟩) ∈ lw_all := lw_g (lw_at lw_ms 15 rfl) rfl
theorem qs16 : (Cond.selects "SeedSolverModel" ⟨"SeedSolverModel", "firstSeed", "(I)I"⟩ ⟨"SeedSolverModel", "firstSeed", "(I)I"⟩) ∈ lw_all := lw_g (lw_at lw_ms 16 rfl) rfl
end
section
/-! java/lang/Object -/
set_option maxRecDepth 100000
def RJ0 : String := "java/lang/Object"
abbrev cJ0_init : ByteArray := object_method_1_code
def yJ0_init : MethodName := ⟨RJ0, "<init>", "()V"⟩
theorem dJ0_init_0 : decode cJ0_init 0 = .ok (.return_, 1) := by decide +kernel
theorem q26 : (Jvm.Cond.instanceMethod ({ cls := "java/lang/Object", name := "<init>", desc := "()V" } : Jvm.MethodName)) ∈ lw_all := lw_g (lw_at lw_m0 9 rfl) rfl
theorem q27 : (Jvm.Cond.code ({ cls := "java/lang/Object", name := "<init>", desc := "()V" } : Jvm.MethodName) object_method_1_code (1 : Nat) (Option.none : Option Jvm.ClassFile.FieldType)) ∈ lw_all := lw_g (lw_at lw_m0 10 rfl) rfl

theorem q68 : (Jvm.Cond.arrayClass Jvm.ClassFile.FieldType.int) ∈ lw_all := lw_g (lw_at lw_m0 51 rfl) rfl
set_option maxRecDepth 100000
theorem q69 : (Jvm.Cond.arrayClass Jvm.ClassFile.FieldType.byte) ∈ lw_all := lw_g (lw_at lw_m0 52 rfl) rfl
theorem q70 : (Jvm.Cond.arrayClass Jvm.ClassFile.FieldType.boolean) ∈ lw_all := lw_g (lw_at lw_m0 53 rfl) rfl

/-! SeedSolverLaw -/
set_option maxRecDepth 100000
def RX0 : String := "SeedSolverLaw"
abbrev cX0_cell : ByteArray := method_2_code
def yX0_cell : MethodName := ⟨RX0, "cell", "([II)I"⟩
theorem dX0_cell_0 : decode cX0_cell 0 = .ok (.iload_n 1, 1) := by decide +kernel
theorem dX0_cell_1 : decode cX0_cell 1 = .ok (.aload_n 0, 1) := by decide +kernel
theorem dX0_cell_2 : decode cX0_cell 2 = .ok (.arraylength, 1) := by decide +kernel
theorem dX0_cell_3 : decode cX0_cell 3 = .ok (.if_icmp .ge 9, 3) := by decide +kernel
theorem dX0_cell_6 : decode cX0_cell 6 = .ok (.aload_n 0, 1) := by decide +kernel
theorem dX0_cell_7 : decode cX0_cell 7 = .ok (.iload_n 1, 1) := by decide +kernel
theorem dX0_cell_8 : decode cX0_cell 8 = .ok (.iaload, 1) := by decide +kernel
theorem dX0_cell_9 : decode cX0_cell 9 = .ok (.goto 4, 3) := by decide +kernel
theorem dX0_cell_12 : decode cX0_cell 12 = .ok (.iconst 0, 1) := by decide +kernel
theorem dX0_cell_13 : decode cX0_cell 13 = .ok (.ireturn, 1) := by decide +kernel
theorem q17 : (Jvm.Cond.initialized "SeedSolverLaw") ∈ lw_all := lw_g (lw_at lw_m0 0 rfl) rfl
theorem q20 : (Jvm.Cond.classLink "SeedSolverLaw" (7 : Nat) "SeedSolver") ∈ lw_all := lw_g (lw_at lw_m0 3 rfl) rfl
theorem q22 : (Jvm.Cond.methodLink "SeedSolverLaw" (15 : Nat) ({ cls := "SeedSolver", name := "<init>", desc := "(II)V" } : Jvm.MethodName)) ∈ lw_all := lw_g (lw_at lw_m0 5 rfl) rfl
theorem q71 : (Jvm.Cond.methodLink "SeedSolverLaw" (21 : Nat) ({ cls := "SeedSolver", name := "shifter", desc := "(II)Z" } : Jvm.MethodName)) ∈ lw_all := lw_g (lw_at lw_m0 54 rfl) rfl
theorem q75 : (Jvm.Cond.methodLink "SeedSolverLaw" (26 : Nat) ({ cls := "SeedSolver", name := "want", desc := "(IIII)Z" } : Jvm.MethodName)) ∈ lw_all := lw_g (lw_at lw_m0 58 rfl) rfl
theorem q83 : (Jvm.Cond.methodLink "SeedSolverLaw" (31 : Nat) ({ cls := "SeedSolver", name := "expand", desc := "(III)I" } : Jvm.MethodName)) ∈ lw_all := lw_g (lw_at lw_m0 66 rfl) rfl
theorem q99 : (Jvm.Cond.methodLink "SeedSolverLaw" (36 : Nat) ({ cls := "SeedSolver", name := "seeds", desc := "(I)I" } : Jvm.MethodName)) ∈ lw_all := lw_g (lw_at lw_m0 82 rfl) rfl
theorem q119 : (Jvm.Cond.methodLink "SeedSolverLaw" (41 : Nat) ({ cls := "SeedSolver", name := "leastSeed", desc := "(I)I" } : Jvm.MethodName)) ∈ lw_all := lw_g (lw_at lw_m0 102 rfl) rfl
theorem q127 : (Jvm.Cond.methodLink "SeedSolverLaw" (45 : Nat) ({ cls := "SeedSolver", name := "greatestSeed", desc := "(I)I" } : Jvm.MethodName)) ∈ lw_all := lw_g (lw_at lw_m0 110 rfl) rfl
theorem q131 : (Jvm.Cond.methodLink "SeedSolverLaw" (49 : Nat) ({ cls := "SeedSolver", name := "forced", desc := "(III)I" } : Jvm.MethodName)) ∈ lw_all := lw_g (lw_at lw_m0 114 rfl) rfl
theorem q135 : (Jvm.Cond.methodLink "SeedSolverLaw" (53 : Nat) ({ cls := "SeedSolver", name := "seedsNeeded", desc := "(I)I" } : Jvm.MethodName)) ∈ lw_all := lw_g (lw_at lw_m0 118 rfl) rfl
theorem q143 : (Jvm.Cond.methodLink "SeedSolverLaw" (57 : Nat) ({ cls := "SeedSolver", name := "forget", desc := "(I)Z" } : Jvm.MethodName)) ∈ lw_all := lw_g (lw_at lw_m0 126 rfl) rfl
theorem q147 : (Jvm.Cond.methodLink "SeedSolverLaw" (9 : Nat) ({ cls := "SeedSolverLaw", name := "cell", desc := "([II)I" } : Jvm.MethodName)) ∈ lw_all := lw_g (lw_at lw_m0 130 rfl) rfl
theorem q148 : (Jvm.Cond.static ({ cls := "SeedSolverLaw", name := "cell", desc := "([II)I" } : Jvm.MethodName)) ∈ lw_all := lw_g (lw_at lw_m0 131 rfl) rfl
theorem q149 : (Jvm.Cond.code ({ cls := "SeedSolverLaw", name := "cell", desc := "([II)I" } : Jvm.MethodName) method_2_code (2 : Nat) (Option.some Jvm.ClassFile.FieldType.int)) ∈ lw_all := lw_g (lw_at lw_m0 132 rfl) rfl
theorem q150 : (Jvm.Cond.classLink "SeedSolverLaw" (18 : Nat) "SeedSolverModel") ∈ lw_all := lw_g (lw_at lw_m0 133 rfl) rfl
theorem q152 : (Jvm.Cond.methodLink "SeedSolverLaw" (20 : Nat) ({ cls := "SeedSolverModel", name := "<init>", desc := "(II)V" } : Jvm.MethodName)) ∈ lw_all := lw_g (lw_at lw_m0 135 rfl) rfl
theorem q172 : (Jvm.Cond.methodLink "SeedSolverLaw" (25 : Nat) ({ cls := "SeedSolverModel", name := "shifter", desc := "(II)Z" } : Jvm.MethodName)) ∈ lw_all := lw_g (lw_at lw_m0 155 rfl) rfl
theorem q180 : (Jvm.Cond.methodLink "SeedSolverLaw" (30 : Nat) ({ cls := "SeedSolverModel", name := "want", desc := "(IIII)Z" } : Jvm.MethodName)) ∈ lw_all := lw_g (lw_at lw_m0 163 rfl) rfl
theorem q188 : (Jvm.Cond.methodLink "SeedSolverLaw" (35 : Nat) ({ cls := "SeedSolverModel", name := "expand", desc := "(III)I" } : Jvm.MethodName)) ∈ lw_all := lw_g (lw_at lw_m0 171 rfl) rfl
theorem q200 : (Jvm.Cond.methodLink "SeedSolverLaw" (40 : Nat) ({ cls := "SeedSolverModel", name := "seeds", desc := "(I)I" } : Jvm.MethodName)) ∈ lw_all := lw_g (lw_at lw_m0 183 rfl) rfl
theorem q212 : (Jvm.Cond.methodLink "SeedSolverLaw" (44 : Nat) ({ cls := "SeedSolverModel", name := "leastSeed", desc := "(I)I" } : Jvm.MethodName)) ∈ lw_all := lw_g (lw_at lw_m0 195 rfl) rfl
theorem q220 : (Jvm.Cond.methodLink "SeedSolverLaw" (48 : Nat) ({ cls := "SeedSolverModel", name := "greatestSeed", desc := "(I)I" } : Jvm.MethodName)) ∈ lw_all := lw_g (lw_at lw_m0 203 rfl) rfl
theorem q224 : (Jvm.Cond.methodLink "SeedSolverLaw" (52 : Nat) ({ cls := "SeedSolverModel", name := "forced", desc := "(III)I" } : Jvm.MethodName)) ∈ lw_all := lw_g (lw_at lw_m0 207 rfl) rfl
theorem q228 : (Jvm.Cond.methodLink "SeedSolverLaw" (56 : Nat) ({ cls := "SeedSolverModel", name := "seedsNeeded", desc := "(I)I" } : Jvm.MethodName)) ∈ lw_all := lw_g (lw_at lw_m0 211 rfl) rfl
theorem q232 : (Jvm.Cond.methodLink "SeedSolverLaw" (61 : Nat) ({ cls := "SeedSolverModel", name := "forget", desc := "(I)Z" } : Jvm.MethodName)) ∈ lw_all := lw_g (lw_at lw_m0 215 rfl) rfl

/-! SeedSolver -/
set_option maxRecDepth 100000
def RX1 : String := "SeedSolver"
def TX1 : u_T := fun k => match k with
  | 0 => ("SeedSolver", "bitCount", "I", false)
  | 1 => ("SeedSolver", "taps", "I", false)
  | 2 => ("SeedSolver", "shifters", "[I", true)
  | 3 => ("SeedSolver", "wanted", "[B", true)
  | 4 => ("SeedSolver", "formsReady", "Z", false)
  | 5 => ("SeedSolver", "forms", "[I", true)
  | 6 => ("SeedSolver", "bitForms", "[I", true)
  | 7 => ("SeedSolver", "equation", "[I", true)
  | 8 => ("SeedSolver", "rightSide", "[I", true)
  | 9 => ("SeedSolver", "reducedValue", "I", false)
  | 10 => ("SeedSolver", "groupsReady", "Z", false)
  | 11 => ("SeedSolver", "grouped", "[Z", true)
  | _ => ("SeedSolver", "needed", "[B", true)
def tyX1 : Nat → FieldType := fun k => match k with
  | 0 => .int
  | 1 => .int
  | 2 => .array .int
  | 3 => .array .byte
  | 4 => .boolean
  | 5 => .array .int
  | 6 => .array .int
  | 7 => .array .int
  | 8 => .array .int
  | 9 => .int
  | 10 => .boolean
  | 11 => .array .boolean
  | _ => .array .byte
abbrev wsX10 : List Cond := u_ws RX1 TX1 13
set_option maxRecDepth 100000 in
theorem nmX1 : ∀ a, a < 13 → ∀ b, b < 13 → a ≠ b → (TX1 a).2.1 ≠ (TX1 b).2.1 := by decide +kernel
set_option maxRecDepth 100000 in
theorem tyX1_ok : ∀ k, k < 13 → parseFieldDescriptor (TX1 k).2.2.1 = some (tyX1 k) := by decide +kernel
abbrev cX1_init : ByteArray := prog_1_method_1_code
def yX1_init : MethodName := ⟨RX1, "<init>", "(II)V"⟩
abbrev cX1_shifter : ByteArray := prog_1_method_2_code
def yX1_shifter : MethodName := ⟨RX1, "shifter", "(II)Z"⟩
abbrev cX1_want : ByteArray := prog_1_method_3_code
def yX1_want : MethodName := ⟨RX1, "want", "(IIII)Z"⟩
abbrev cX1_isPlace : ByteArray := prog_1_method_11_code
def yX1_isPlace : MethodName := ⟨RX1, "isPlace", "(II)Z"⟩
abbrev cX1_expand : ByteArray := prog_1_method_4_code
def yX1_expand : MethodName := ⟨RX1, "expand", "(III)I"⟩
abbrev cX1_makeForms : ByteArray := prog_1_method_14_code
def yX1_makeForms : MethodName := ⟨RX1, "makeForms", "()V"⟩
abbrev cX1_sumOfForms : ByteArray := prog_1_method_15_code
def yX1_sumOfForms : MethodName := ⟨RX1, "sumOfForms", "(I)I"⟩
abbrev cX1_parity : ByteArray := prog_1_method_13_code
def yX1_parity : MethodName := ⟨RX1, "parity", "(I)I"⟩
abbrev cX1_seeds : ByteArray := prog_1_method_5_code
def yX1_seeds : MethodName := ⟨RX1, "seeds", "(I)I"⟩
abbrev cX1_isCubeSet : ByteArray := prog_1_method_12_code
def yX1_isCubeSet : MethodName := ⟨RX1, "isCubeSet", "(I)Z"⟩
abbrev cX1_solve : ByteArray := prog_1_method_16_code
def yX1_solve : MethodName := ⟨RX1, "solve", "(I)Z"⟩
abbrev cX1_demand : ByteArray := prog_1_method_18_code
def yX1_demand : MethodName := ⟨RX1, "demand", "(II)Z"⟩
abbrev cX1_reduce : ByteArray := prog_1_method_17_code
def yX1_reduce : MethodName := ⟨RX1, "reduce", "(II)I"⟩
abbrev cX1_leastSeed : ByteArray := prog_1_method_6_code
def yX1_leastSeed : MethodName := ⟨RX1, "leastSeed", "(I)I"⟩
abbrev cX1_complete : ByteArray := prog_1_method_19_code
def yX1_complete : MethodName := ⟨RX1, "complete", "(I)I"⟩
abbrev cX1_greatestSeed : ByteArray := prog_1_method_7_code
def yX1_greatestSeed : MethodName := ⟨RX1, "greatestSeed", "(I)I"⟩
abbrev cX1_forced : ByteArray := prog_1_method_8_code
def yX1_forced : MethodName := ⟨RX1, "forced", "(III)I"⟩
abbrev cX1_seedsNeeded : ByteArray := prog_1_method_9_code
def yX1_seedsNeeded : MethodName := ⟨RX1, "seedsNeeded", "(I)I"⟩
abbrev cX1_groupCubes : ByteArray := prog_1_method_20_code
def yX1_groupCubes : MethodName := ⟨RX1, "groupCubes", "()V"⟩
abbrev cX1_forget : ByteArray := prog_1_method_10_code
def yX1_forget : MethodName := ⟨RX1, "forget", "(I)Z"⟩
theorem q18 : (Jvm.Cond.initialized "SeedSolver") ∈ lw_all := lw_g (lw_at lw_m0 1 rfl) rfl
theorem q21 : (Jvm.Cond.instantiable "SeedSolver" (13 : Nat)) ∈ lw_all := lw_g (lw_at lw_m0 4 rfl) rfl
theorem q23 : (Jvm.Cond.instanceMethod ({ cls := "SeedSolver", name := "<init>", desc := "(II)V" } : Jvm.MethodName)) ∈ lw_all := lw_g (lw_at lw_m0 6 rfl) rfl
theorem q24 : (Jvm.Cond.code ({ cls := "SeedSolver", name := "<init>", desc := "(II)V" } : Jvm.MethodName) prog_1_method_1_code (4 : Nat) (Option.none : Option Jvm.ClassFile.FieldType)) ∈ lw_all := lw_g (lw_at lw_m0 7 rfl) rfl
theorem q25 : (Jvm.Cond.methodLink "SeedSolver" (1 : Nat) ({ cls := "java/lang/Object", name := "<init>", desc := "()V" } : Jvm.MethodName)) ∈ lw_all := lw_g (lw_at lw_m0 8 rfl) rfl
theorem q28 : (Jvm.Cond.fieldLink "SeedSolver" (36 : Nat) "SeedSolver" "bitCount" "I") ∈ lw_all := lw_g (lw_at lw_m0 11 rfl) rfl
theorem q29 : (Jvm.Cond.fieldLink "SeedSolver" (40 : Nat) "SeedSolver" "taps" "I") ∈ lw_all := lw_g (lw_at lw_m0 12 rfl) rfl
theorem q30 : (Jvm.Cond.fieldLink "SeedSolver" (7 : Nat) "SeedSolver" "shifters" "[I") ∈ lw_all := lw_g (lw_at lw_m0 13 rfl) rfl
theorem q31 : (Jvm.Cond.fieldLink "SeedSolver" (13 : Nat) "SeedSolver" "wanted" "[B") ∈ lw_all := lw_g (lw_at lw_m0 14 rfl) rfl
theorem q32 : (Jvm.Cond.fieldLink "SeedSolver" (43 : Nat) "SeedSolver" "formsReady" "Z") ∈ lw_all := lw_g (lw_at lw_m0 15 rfl) rfl
theorem q33 : (Jvm.Cond.fieldLink "SeedSolver" (17 : Nat) "SeedSolver" "forms" "[I") ∈ lw_all := lw_g (lw_at lw_m0 16 rfl) rfl
theorem q34 : (Jvm.Cond.fieldLink "SeedSolver" (20 : Nat) "SeedSolver" "bitForms" "[I") ∈ lw_all := lw_g (lw_at lw_m0 17 rfl) rfl
theorem q35 : (Jvm.Cond.fieldLink "SeedSolver" (23 : Nat) "SeedSolver" "equation" "[I") ∈ lw_all := lw_g (lw_at lw_m0 18 rfl) rfl
theorem q36 : (Jvm.Cond.fieldLink "SeedSolver" (26 : Nat) "SeedSolver" "rightSide" "[I") ∈ lw_all := lw_g (lw_at lw_m0 19 rfl) rfl
theorem q37 : (Jvm.Cond.fieldLink "SeedSolver" (75 : Nat) "SeedSolver" "reducedValue" "I") ∈ lw_all := lw_g (lw_at lw_m0 20 rfl) rfl
theorem q38 : (Jvm.Cond.fieldLink "SeedSolver" (47 : Nat) "SeedSolver" "groupsReady" "Z") ∈ lw_all := lw_g (lw_at lw_m0 21 rfl) rfl
theorem q39 : (Jvm.Cond.fieldLink "SeedSolver" (29 : Nat) "SeedSolver" "grouped" "[Z") ∈ lw_all := lw_g (lw_at lw_m0 22 rfl) rfl
theorem q40 : (Jvm.Cond.fieldLink "SeedSolver" (33 : Nat) "SeedSolver" "needed" "[B") ∈ lw_all := lw_g (lw_at lw_m0 23 rfl) rfl
theorem q41 : (Jvm.Cond.lays "SeedSolver" "SeedSolver" "bitCount" "I") ∈ lw_all := lw_g (lw_at lw_m0 24 rfl) rfl
theorem q42 : (Jvm.Cond.soleField "SeedSolver" "bitCount") ∈ lw_all := lw_g (lw_at lw_m0 25 rfl) rfl
theorem q43 : (Jvm.Cond.lays "SeedSolver" "SeedSolver" "taps" "I") ∈ lw_all := lw_g (lw_at lw_m0 26 rfl) rfl
theorem q44 : (Jvm.Cond.soleField "SeedSolver" "taps") ∈ lw_all := lw_g (lw_at lw_m0 27 rfl) rfl
theorem q45 : (Jvm.Cond.laysFinal "SeedSolver" "SeedSolver" "shifters" "[I") ∈ lw_all := lw_g (lw_at lw_m0 28 rfl) rfl
theorem q46 : (Jvm.Cond.soleField "SeedSolver" "shifters") ∈ lw_all := lw_g (lw_at lw_m0 29 rfl) rfl
theorem q47 : (Jvm.Cond.laysFinal "SeedSolver" "SeedSolver" "wanted" "[B") ∈ lw_all := lw_g (lw_at lw_m0 30 rfl) rfl
theorem q48 : (Jvm.Cond.soleField "SeedSolver" "wanted") ∈ lw_all := lw_g (lw_at lw_m0 31 rfl) rfl
theorem q49 : (Jvm.Cond.lays "SeedSolver" "SeedSolver" "formsReady" "Z") ∈ lw_all := lw_g (lw_at lw_m0 32 rfl) rfl
theorem q50 : (Jvm.Cond.soleField "SeedSolver" "formsReady") ∈ lw_all := lw_g (lw_at lw_m0 33 rfl) rfl
theorem q51 : (Jvm.Cond.laysFinal "SeedSolver" "SeedSolver" "forms" "[I") ∈ lw_all := lw_g (lw_at lw_m0 34 rfl) rfl
theorem q52 : (Jvm.Cond.soleField "SeedSolver" "forms") ∈ lw_all := lw_g (lw_at lw_m0 35 rfl) rfl
theorem q53 : (Jvm.Cond.laysFinal "SeedSolver" "SeedSolver" "bitForms" "[I") ∈ lw_all := lw_g (lw_at lw_m0 36 rfl) rfl
theorem q54 : (Jvm.Cond.soleField "SeedSolver" "bitForms") ∈ lw_all := lw_g (lw_at lw_m0 37 rfl) rfl
theorem q55 : (Jvm.Cond.laysFinal "SeedSolver" "SeedSolver" "equation" "[I") ∈ lw_all := lw_g (lw_at lw_m0 38 rfl) rfl
theorem q56 : (Jvm.Cond.soleField "SeedSolver" "equation") ∈ lw_all := lw_g (lw_at lw_m0 39 rfl) rfl
theorem q57 : (Jvm.Cond.laysFinal "SeedSolver" "SeedSolver" "rightSide" "[I") ∈ lw_all := lw_g (lw_at lw_m0 40 rfl) rfl
theorem q58 : (Jvm.Cond.soleField "SeedSolver" "rightSide") ∈ lw_all := lw_g (lw_at lw_m0 41 rfl) rfl
theorem q59 : (Jvm.Cond.lays "SeedSolver" "SeedSolver" "reducedValue" "I") ∈ lw_all := lw_g (lw_at lw_m0 42 rfl) rfl
theorem q60 : (Jvm.Cond.soleField "SeedSolver" "reducedValue") ∈ lw_all := lw_g (lw_at lw_m0 43 rfl) rfl
theorem q61 : (Jvm.Cond.lays "SeedSolver" "SeedSolver" "groupsReady" "Z") ∈ lw_all := lw_g (lw_at lw_m0 44 rfl) rfl
theorem q62 : (Jvm.Cond.soleField "SeedSolver" "groupsReady") ∈ lw_all := lw_g (lw_at lw_m0 45 rfl) rfl
theorem q63 : (Jvm.Cond.laysFinal "SeedSolver" "SeedSolver" "grouped" "[Z") ∈ lw_all := lw_g (lw_at lw_m0 46 rfl) rfl
theorem q64 : (Jvm.Cond.soleField "SeedSolver" "grouped") ∈ lw_all := lw_g (lw_at lw_m0 47 rfl) rfl
theorem q65 : (Jvm.Cond.laysFinal "SeedSolver" "SeedSolver" "needed" "[B") ∈ lw_all := lw_g (lw_at lw_m0 48 rfl) rfl
theorem q66 : (Jvm.Cond.soleField "SeedSolver" "needed") ∈ lw_all := lw_g (lw_at lw_m0 49 rfl) rfl
theorem q67 : (Jvm.Cond.superclass "SeedSolver" "java/lang/Object") ∈ lw_all := lw_g (lw_at lw_m0 50 rfl) rfl
theorem q72 : (Jvm.Cond.instanceMethod ({ cls := "SeedSolver", name := "shifter", desc := "(II)Z" } : Jvm.MethodName)) ∈ lw_all := lw_g (lw_at lw_m0 55 rfl) rfl
theorem q73 : (Jvm.Cond.selects "SeedSolver" ({ cls := "SeedSolver", name := "shifter", desc := "(II)Z" } : Jvm.MethodName) ({ cls := "SeedSolver", name := "shifter", desc := "(II)Z" } : Jvm.MethodName)) ∈ lw_all := lw_g (lw_at lw_m0 56 rfl) rfl
theorem q74 : (Jvm.Cond.code ({ cls := "SeedSolver", name := "shifter", desc := "(II)Z" } : Jvm.MethodName) prog_1_method_2_code (3 : Nat) (Option.some Jvm.ClassFile.FieldType.boolean)) ∈ lw_all := lw_g (lw_at lw_m0 57 rfl) rfl
theorem q76 : (Jvm.Cond.instanceMethod ({ cls := "SeedSolver", name := "want", desc := "(IIII)Z" } : Jvm.MethodName)) ∈ lw_all := lw_g (lw_at lw_m0 59 rfl) rfl
theorem q77 : (Jvm.Cond.selects "SeedSolver" ({ cls := "SeedSolver", name := "want", desc := "(IIII)Z" } : Jvm.MethodName) ({ cls := "SeedSolver", name := "want", desc := "(IIII)Z" } : Jvm.MethodName)) ∈ lw_all := lw_g (lw_at lw_m0 60 rfl) rfl
theorem q78 : (Jvm.Cond.code ({ cls := "SeedSolver", name := "want", desc := "(IIII)Z" } : Jvm.MethodName) prog_1_method_3_code (5 : Nat) (Option.some Jvm.ClassFile.FieldType.boolean)) ∈ lw_all := lw_g (lw_at lw_m0 61 rfl) rfl
theorem q79 : (Jvm.Cond.methodLink "SeedSolver" (50 : Nat) ({ cls := "SeedSolver", name := "isPlace", desc := "(II)Z" } : Jvm.MethodName)) ∈ lw_all := lw_g (lw_at lw_m0 62 rfl) rfl
theorem q80 : (Jvm.Cond.privateMethod ({ cls := "SeedSolver", name := "isPlace", desc := "(II)Z" } : Jvm.MethodName)) ∈ lw_tbl := lw_at lw_m0 63 rfl
theorem q81 : (Jvm.Cond.instanceMethod ({ cls := "SeedSolver", name := "isPlace", desc := "(II)Z" } : Jvm.MethodName)) ∈ lw_all := lw_g (lw_at lw_m0 64 rfl) rfl
theorem q82 : (Jvm.Cond.code ({ cls := "SeedSolver", name := "isPlace", desc := "(II)Z" } : Jvm.MethodName) prog_1_method_11_code (3 : Nat) (Option.some Jvm.ClassFile.FieldType.boolean)) ∈ lw_all := lw_g (lw_at lw_m0 65 rfl) rfl
theorem q84 : (Jvm.Cond.instanceMethod ({ cls := "SeedSolver", name := "expand", desc := "(III)I" } : Jvm.MethodName)) ∈ lw_all := lw_g (lw_at lw_m0 67 rfl) rfl
theorem q85 : (Jvm.Cond.selects "SeedSolver" ({ cls := "SeedSolver", name := "expand", desc := "(III)I" } : Jvm.MethodName) ({ cls := "SeedSolver", name := "expand", desc := "(III)I" } : Jvm.MethodName)) ∈ lw_all := lw_g (lw_at lw_m0 68 rfl) rfl
theorem q86 : (Jvm.Cond.code ({ cls := "SeedSolver", name := "expand", desc := "(III)I" } : Jvm.MethodName) prog_1_method_4_code (4 : Nat) (Option.some Jvm.ClassFile.FieldType.int)) ∈ lw_all := lw_g (lw_at lw_m0 69 rfl) rfl
theorem q87 : (Jvm.Cond.methodLink "SeedSolver" (54 : Nat) ({ cls := "SeedSolver", name := "makeForms", desc := "()V" } : Jvm.MethodName)) ∈ lw_all := lw_g (lw_at lw_m0 70 rfl) rfl
theorem q88 : (Jvm.Cond.privateMethod ({ cls := "SeedSolver", name := "makeForms", desc := "()V" } : Jvm.MethodName)) ∈ lw_tbl := lw_at lw_m0 71 rfl
theorem q89 : (Jvm.Cond.instanceMethod ({ cls := "SeedSolver", name := "makeForms", desc := "()V" } : Jvm.MethodName)) ∈ lw_all := lw_g (lw_at lw_m0 72 rfl) rfl
theorem q90 : (Jvm.Cond.code ({ cls := "SeedSolver", name := "makeForms", desc := "()V" } : Jvm.MethodName) prog_1_method_14_code (3 : Nat) (Option.none : Option Jvm.ClassFile.FieldType)) ∈ lw_all := lw_g (lw_at lw_m0 73 rfl) rfl
theorem q91 : (Jvm.Cond.methodLink "SeedSolver" (81 : Nat) ({ cls := "SeedSolver", name := "sumOfForms", desc := "(I)I" } : Jvm.MethodName)) ∈ lw_all := lw_g (lw_at lw_m0 74 rfl) rfl
theorem q92 : (Jvm.Cond.privateMethod ({ cls := "SeedSolver", name := "sumOfForms", desc := "(I)I" } : Jvm.MethodName)) ∈ lw_tbl := lw_at lw_m0 75 rfl
theorem q93 : (Jvm.Cond.instanceMethod ({ cls := "SeedSolver", name := "sumOfForms", desc := "(I)I" } : Jvm.MethodName)) ∈ lw_all := lw_g (lw_at lw_m0 76 rfl) rfl
theorem q94 : (Jvm.Cond.code ({ cls := "SeedSolver", name := "sumOfForms", desc := "(I)I" } : Jvm.MethodName) prog_1_method_15_code (4 : Nat) (Option.some Jvm.ClassFile.FieldType.int)) ∈ lw_all := lw_g (lw_at lw_m0 77 rfl) rfl
theorem q95 : (Jvm.Cond.methodLink "SeedSolver" (57 : Nat) ({ cls := "SeedSolver", name := "parity", desc := "(I)I" } : Jvm.MethodName)) ∈ lw_all := lw_g (lw_at lw_m0 78 rfl) rfl
theorem q96 : (Jvm.Cond.privateMethod ({ cls := "SeedSolver", name := "parity", desc := "(I)I" } : Jvm.MethodName)) ∈ lw_tbl := lw_at lw_m0 79 rfl
theorem q97 : (Jvm.Cond.instanceMethod ({ cls := "SeedSolver", name := "parity", desc := "(I)I" } : Jvm.MethodName)) ∈ lw_all := lw_g (lw_at lw_m0 80 rfl) rfl
theorem q98 : (Jvm.Cond.code ({ cls := "SeedSolver", name := "parity", desc := "(I)I" } : Jvm.MethodName) prog_1_method_13_code (4 : Nat) (Option.some Jvm.ClassFile.FieldType.int)) ∈ lw_all := lw_g (lw_at lw_m0 81 rfl) rfl
theorem q100 : (Jvm.Cond.instanceMethod ({ cls := "SeedSolver", name := "seeds", desc := "(I)I" } : Jvm.MethodName)) ∈ lw_all := lw_g (lw_at lw_m0 83 rfl) rfl
theorem q101 : (Jvm.Cond.selects "SeedSolver" ({ cls := "SeedSolver", name := "seeds", desc := "(I)I" } : Jvm.MethodName) ({ cls := "SeedSolver", name := "seeds", desc := "(I)I" } : Jvm.MethodName)) ∈ lw_all := lw_g (lw_at lw_m0 84 rfl) rfl
theorem q102 : (Jvm.Cond.code ({ cls := "SeedSolver", name := "seeds", desc := "(I)I" } : Jvm.MethodName) prog_1_method_5_code (4 : Nat) (Option.some Jvm.ClassFile.FieldType.int)) ∈ lw_all := lw_g (lw_at lw_m0 85 rfl) rfl
theorem q103 : (Jvm.Cond.methodLink "SeedSolver" (61 : Nat) ({ cls := "SeedSolver", name := "isCubeSet", desc := "(I)Z" } : Jvm.MethodName)) ∈ lw_all := lw_g (lw_at lw_m0 86 rfl) rfl
theorem q104 : (Jvm.Cond.privateMethod ({ cls := "SeedSolver", name := "isCubeSet", desc := "(I)Z" } : Jvm.MethodName)) ∈ lw_tbl := lw_at lw_m0 87 rfl
theorem q105 : (Jvm.Cond.instanceMethod ({ cls := "SeedSolver", name := "isCubeSet", desc := "(I)Z" } : Jvm.MethodName)) ∈ lw_all := lw_g (lw_at lw_m0 88 rfl) rfl
theorem q106 : (Jvm.Cond.code ({ cls := "SeedSolver", name := "isCubeSet", desc := "(I)Z" } : Jvm.MethodName) prog_1_method_12_code (2 : Nat) (Option.some Jvm.ClassFile.FieldType.boolean)) ∈ lw_all := lw_g (lw_at lw_m0 89 rfl) rfl
theorem q107 : (Jvm.Cond.methodLink "SeedSolver" (65 : Nat) ({ cls := "SeedSolver", name := "solve", desc := "(I)Z" } : Jvm.MethodName)) ∈ lw_all := lw_g (lw_at lw_m0 90 rfl) rfl
theorem q108 : (Jvm.Cond.privateMethod ({ cls := "SeedSolver", name := "solve", desc := "(I)Z" } : Jvm.MethodName)) ∈ lw_tbl := lw_at lw_m0 91 rfl
theorem q109 : (Jvm.Cond.instanceMethod ({ cls := "SeedSolver", name := "solve", desc := "(I)Z" } : Jvm.MethodName)) ∈ lw_all := lw_g (lw_at lw_m0 92 rfl) rfl
theorem q110 : (Jvm.Cond.code ({ cls := "SeedSolver", name := "solve", desc := "(I)Z" } : Jvm.MethodName) prog_1_method_16_code (3 : Nat) (Option.some Jvm.ClassFile.FieldType.boolean)) ∈ lw_all := lw_g (lw_at lw_m0 93 rfl) rfl
theorem q111 : (Jvm.Cond.methodLink "SeedSolver" (84 : Nat) ({ cls := "SeedSolver", name := "demand", desc := "(II)Z" } : Jvm.MethodName)) ∈ lw_all := lw_g (lw_at lw_m0 94 rfl) rfl
theorem q112 : (Jvm.Cond.privateMethod ({ cls := "SeedSolver", name := "demand", desc := "(II)Z" } : Jvm.MethodName)) ∈ lw_tbl := lw_at lw_m0 95 rfl
theorem q113 : (Jvm.Cond.instanceMethod ({ cls := "SeedSolver", name := "demand", desc := "(II)Z" } : Jvm.MethodName)) ∈ lw_all := lw_g (lw_at lw_m0 96 rfl) rfl
theorem q114 : (Jvm.Cond.code ({ cls := "SeedSolver", name := "demand", desc := "(II)Z" } : Jvm.MethodName) prog_1_method_18_code (5 : Nat) (Option.some Jvm.ClassFile.FieldType.boolean)) ∈ lw_all := lw_g (lw_at lw_m0 97 rfl) rfl
theorem q115 : (Jvm.Cond.methodLink "SeedSolver" (71 : Nat) ({ cls := "SeedSolver", name := "reduce", desc := "(II)I" } : Jvm.MethodName)) ∈ lw_all := lw_g (lw_at lw_m0 98 rfl) rfl
theorem q116 : (Jvm.Cond.privateMethod ({ cls := "SeedSolver", name := "reduce", desc := "(II)I" } : Jvm.MethodName)) ∈ lw_tbl := lw_at lw_m0 99 rfl
theorem q117 : (Jvm.Cond.instanceMethod ({ cls := "SeedSolver", name := "reduce", desc := "(II)I" } : Jvm.MethodName)) ∈ lw_all := lw_g (lw_at lw_m0 100 rfl) rfl
theorem q118 : (Jvm.Cond.code ({ cls := "SeedSolver", name := "reduce", desc := "(II)I" } : Jvm.MethodName) prog_1_method_17_code (5 : Nat) (Option.some Jvm.ClassFile.FieldType.int)) ∈ lw_all := lw_g (lw_at lw_m0 101 rfl) rfl
theorem q120 : (Jvm.Cond.instanceMethod ({ cls := "SeedSolver", name := "leastSeed", desc := "(I)I" } : Jvm.MethodName)) ∈ lw_all := lw_g (lw_at lw_m0 103 rfl) rfl
theorem q121 : (Jvm.Cond.selects "SeedSolver" ({ cls := "SeedSolver", name := "leastSeed", desc := "(I)I" } : Jvm.MethodName) ({ cls := "SeedSolver", name := "leastSeed", desc := "(I)I" } : Jvm.MethodName)) ∈ lw_all := lw_g (lw_at lw_m0 104 rfl) rfl
theorem q122 : (Jvm.Cond.code ({ cls := "SeedSolver", name := "leastSeed", desc := "(I)I" } : Jvm.MethodName) prog_1_method_6_code (2 : Nat) (Option.some Jvm.ClassFile.FieldType.int)) ∈ lw_all := lw_g (lw_at lw_m0 105 rfl) rfl
theorem q123 : (Jvm.Cond.methodLink "SeedSolver" (68 : Nat) ({ cls := "SeedSolver", name := "complete", desc := "(I)I" } : Jvm.MethodName)) ∈ lw_all := lw_g (lw_at lw_m0 106 rfl) rfl
theorem q124 : (Jvm.Cond.privateMethod ({ cls := "SeedSolver", name := "complete", desc := "(I)I" } : Jvm.MethodName)) ∈ lw_tbl := lw_at lw_m0 107 rfl
theorem q125 : (Jvm.Cond.instanceMethod ({ cls := "SeedSolver", name := "complete", desc := "(I)I" } : Jvm.MethodName)) ∈ lw_all := lw_g (lw_at lw_m0 108 rfl) rfl
theorem q126 : (Jvm.Cond.code ({ cls := "SeedSolver", name := "complete", desc := "(I)I" } : Jvm.MethodName) prog_1_method_19_code (6 : Nat) (Option.some Jvm.ClassFile.FieldType.int)) ∈ lw_all := lw_g (lw_at lw_m0 109 rfl) rfl
theorem q128 : (Jvm.Cond.instanceMethod ({ cls := "SeedSolver", name := "greatestSeed", desc := "(I)I" } : Jvm.MethodName)) ∈ lw_all := lw_g (lw_at lw_m0 111 rfl) rfl
theorem q129 : (Jvm.Cond.selects "SeedSolver" ({ cls := "SeedSolver", name := "greatestSeed", desc := "(I)I" } : Jvm.MethodName) ({ cls := "SeedSolver", name := "greatestSeed", desc := "(I)I" } : Jvm.MethodName)) ∈ lw_all := lw_g (lw_at lw_m0 112 rfl) rfl
theorem q130 : (Jvm.Cond.code ({ cls := "SeedSolver", name := "greatestSeed", desc := "(I)I" } : Jvm.MethodName) prog_1_method_7_code (2 : Nat) (Option.some Jvm.ClassFile.FieldType.int)) ∈ lw_all := lw_g (lw_at lw_m0 113 rfl) rfl
theorem q132 : (Jvm.Cond.instanceMethod ({ cls := "SeedSolver", name := "forced", desc := "(III)I" } : Jvm.MethodName)) ∈ lw_all := lw_g (lw_at lw_m0 115 rfl) rfl
theorem q133 : (Jvm.Cond.selects "SeedSolver" ({ cls := "SeedSolver", name := "forced", desc := "(III)I" } : Jvm.MethodName) ({ cls := "SeedSolver", name := "forced", desc := "(III)I" } : Jvm.MethodName)) ∈ lw_all := lw_g (lw_at lw_m0 116 rfl) rfl
theorem q134 : (Jvm.Cond.code ({ cls := "SeedSolver", name := "forced", desc := "(III)I" } : Jvm.MethodName) prog_1_method_8_code (5 : Nat) (Option.some Jvm.ClassFile.FieldType.int)) ∈ lw_all := lw_g (lw_at lw_m0 117 rfl) rfl
theorem q136 : (Jvm.Cond.instanceMethod ({ cls := "SeedSolver", name := "seedsNeeded", desc := "(I)I" } : Jvm.MethodName)) ∈ lw_all := lw_g (lw_at lw_m0 119 rfl) rfl
theorem q137 : (Jvm.Cond.selects "SeedSolver" ({ cls := "SeedSolver", name := "seedsNeeded", desc := "(I)I" } : Jvm.MethodName) ({ cls := "SeedSolver", name := "seedsNeeded", desc := "(I)I" } : Jvm.MethodName)) ∈ lw_all := lw_g (lw_at lw_m0 120 rfl) rfl
theorem q138 : (Jvm.Cond.code ({ cls := "SeedSolver", name := "seedsNeeded", desc := "(I)I" } : Jvm.MethodName) prog_1_method_9_code (2 : Nat) (Option.some Jvm.ClassFile.FieldType.int)) ∈ lw_all := lw_g (lw_at lw_m0 121 rfl) rfl
theorem q139 : (Jvm.Cond.methodLink "SeedSolver" (78 : Nat) ({ cls := "SeedSolver", name := "groupCubes", desc := "()V" } : Jvm.MethodName)) ∈ lw_all := lw_g (lw_at lw_m0 122 rfl) rfl
theorem q140 : (Jvm.Cond.privateMethod ({ cls := "SeedSolver", name := "groupCubes", desc := "()V" } : Jvm.MethodName)) ∈ lw_tbl := lw_at lw_m0 123 rfl
theorem q141 : (Jvm.Cond.instanceMethod ({ cls := "SeedSolver", name := "groupCubes", desc := "()V" } : Jvm.MethodName)) ∈ lw_all := lw_g (lw_at lw_m0 124 rfl) rfl
theorem q142 : (Jvm.Cond.code ({ cls := "SeedSolver", name := "groupCubes", desc := "()V" } : Jvm.MethodName) prog_1_method_20_code (6 : Nat) (Option.none : Option Jvm.ClassFile.FieldType)) ∈ lw_all := lw_g (lw_at lw_m0 125 rfl) rfl
theorem q144 : (Jvm.Cond.instanceMethod ({ cls := "SeedSolver", name := "forget", desc := "(I)Z" } : Jvm.MethodName)) ∈ lw_all := lw_g (lw_at lw_m0 127 rfl) rfl
theorem q145 : (Jvm.Cond.selects "SeedSolver" ({ cls := "SeedSolver", name := "forget", desc := "(I)Z" } : Jvm.MethodName) ({ cls := "SeedSolver", name := "forget", desc := "(I)Z" } : Jvm.MethodName)) ∈ lw_all := lw_g (lw_at lw_m0 128 rfl) rfl
theorem q146 : (Jvm.Cond.code ({ cls := "SeedSolver", name := "forget", desc := "(I)Z" } : Jvm.MethodName) prog_1_method_10_code (3 : Nat) (Option.some Jvm.ClassFile.FieldType.boolean)) ∈ lw_all := lw_g (lw_at lw_m0 129 rfl) rfl
theorem in_X1 : ∀ w ∈ wsX10, w ∈ lw_all := lw_in wsX10 [41, 43, 45, 47, 49, 51, 53, 55, 57, 59, 61, 63, 65] (by decide +kernel) (by decide +kernel)

/-! SeedSolverModel -/
set_option maxRecDepth 100000
def RX2 : String := "SeedSolverModel"
def TX2 : u_T := fun k => match k with
  | 0 => ("SeedSolverModel", "n", "I", false)
  | 1 => ("SeedSolverModel", "taps", "I", false)
  | 2 => ("SeedSolverModel", "shifters", "[I", false)
  | 3 => ("SeedSolverModel", "wanted", "[I", false)
  | _ => ("SeedSolverModel", "least", "[I", false)
def tyX2 : Nat → FieldType := fun k => match k with
  | 0 => .int
  | 1 => .int
  | 2 => .array .int
  | 3 => .array .int
  | _ => .array .int
abbrev wsX20 : List Cond := u_ws RX2 TX2 5
theorem nmX2 : ∀ a, a < 5 → ∀ b, b < 5 → a ≠ b → (TX2 a).2.1 ≠ (TX2 b).2.1 := by decide +kernel
theorem tyX2_ok : ∀ k, k < 5 → parseFieldDescriptor (TX2 k).2.2.1 = some (tyX2 k) := by decide +kernel
abbrev cX2_init : ByteArray := prog_3_method_1_code
def yX2_init : MethodName := ⟨RX2, "<init>", "(II)V"⟩
abbrev cX2_shifter : ByteArray := prog_3_method_3_code
def yX2_shifter : MethodName := ⟨RX2, "shifter", "(II)Z"⟩
abbrev cX2_isState : ByteArray := prog_3_method_2_code
def yX2_isState : MethodName := ⟨RX2, "isState", "(I)Z"⟩
abbrev cX2_want : ByteArray := prog_3_method_5_code
def yX2_want : MethodName := ⟨RX2, "want", "(IIII)Z"⟩
abbrev cX2_isPlace : ByteArray := prog_3_method_4_code
def yX2_isPlace : MethodName := ⟨RX2, "isPlace", "(II)Z"⟩
abbrev cX2_expand : ByteArray := prog_3_method_8_code
def yX2_expand : MethodName := ⟨RX2, "expand", "(III)I"⟩
abbrev cX2_valueAt : ByteArray := prog_3_method_7_code
def yX2_valueAt : MethodName := ⟨RX2, "valueAt", "(III)I"⟩
abbrev cX2_parity : ByteArray := prog_3_method_6_code
def yX2_parity : MethodName := ⟨RX2, "parity", "(I)I"⟩
abbrev cX2_seeds : ByteArray := prog_3_method_11_code
def yX2_seeds : MethodName := ⟨RX2, "seeds", "(I)I"⟩
abbrev cX2_isSet : ByteArray := prog_3_method_10_code
def yX2_isSet : MethodName := ⟨RX2, "isSet", "(I)Z"⟩
abbrev cX2_fits : ByteArray := prog_3_method_9_code
def yX2_fits : MethodName := ⟨RX2, "fits", "(II)Z"⟩
abbrev cX2_leastSeed : ByteArray := prog_3_method_13_code
def yX2_leastSeed : MethodName := ⟨RX2, "leastSeed", "(I)I"⟩
abbrev cX2_firstSeed : ByteArray := prog_3_method_12_code
def yX2_firstSeed : MethodName := ⟨RX2, "firstSeed", "(I)I"⟩
abbrev cX2_greatestSeed : ByteArray := prog_3_method_14_code
def yX2_greatestSeed : MethodName := ⟨RX2, "greatestSeed", "(I)I"⟩
abbrev cX2_forced : ByteArray := prog_3_method_15_code
def yX2_forced : MethodName := ⟨RX2, "forced", "(III)I"⟩
abbrev cX2_seedsNeeded : ByteArray := prog_3_method_16_code
def yX2_seedsNeeded : MethodName := ⟨RX2, "seedsNeeded", "(I)I"⟩
abbrev cX2_forget : ByteArray := prog_3_method_17_code
def yX2_forget : MethodName := ⟨RX2, "forget", "(I)Z"⟩
theorem q19 : (Jvm.Cond.initialized "SeedSolverModel") ∈ lw_all := lw_g (lw_at lw_m0 2 rfl) rfl
theorem q151 : (Jvm.Cond.instantiable "SeedSolverModel" (5 : Nat)) ∈ lw_all := lw_g (lw_at lw_m0 134 rfl) rfl
theorem q153 : (Jvm.Cond.instanceMethod ({ cls := "SeedSolverModel", name := "<init>", desc := "(II)V" } : Jvm.MethodName)) ∈ lw_all := lw_g (lw_at lw_m0 136 rfl) rfl
theorem q154 : (Jvm.Cond.code ({ cls := "SeedSolverModel", name := "<init>", desc := "(II)V" } : Jvm.MethodName) prog_3_method_1_code (4 : Nat) (Option.none : Option Jvm.ClassFile.FieldType)) ∈ lw_all := lw_g (lw_at lw_m0 137 rfl) rfl
theorem q155 : (Jvm.Cond.methodLink "SeedSolverModel" (1 : Nat) ({ cls := "java/lang/Object", name := "<init>", desc := "()V" } : Jvm.MethodName)) ∈ lw_all := lw_g (lw_at lw_m0 138 rfl) rfl
theorem q156 : (Jvm.Cond.fieldLink "SeedSolverModel" (19 : Nat) "SeedSolverModel" "n" "I") ∈ lw_all := lw_g (lw_at lw_m0 139 rfl) rfl
theorem q157 : (Jvm.Cond.fieldLink "SeedSolverModel" (23 : Nat) "SeedSolverModel" "taps" "I") ∈ lw_all := lw_g (lw_at lw_m0 140 rfl) rfl
theorem q158 : (Jvm.Cond.fieldLink "SeedSolverModel" (7 : Nat) "SeedSolverModel" "shifters" "[I") ∈ lw_all := lw_g (lw_at lw_m0 141 rfl) rfl
theorem q159 : (Jvm.Cond.fieldLink "SeedSolverModel" (13 : Nat) "SeedSolverModel" "wanted" "[I") ∈ lw_all := lw_g (lw_at lw_m0 142 rfl) rfl
theorem q160 : (Jvm.Cond.fieldLink "SeedSolverModel" (16 : Nat) "SeedSolverModel" "least" "[I") ∈ lw_all := lw_g (lw_at lw_m0 143 rfl) rfl
theorem q161 : (Jvm.Cond.lays "SeedSolverModel" "SeedSolverModel" "n" "I") ∈ lw_all := lw_g (lw_at lw_m0 144 rfl) rfl
theorem q162 : (Jvm.Cond.soleField "SeedSolverModel" "n") ∈ lw_all := lw_g (lw_at lw_m0 145 rfl) rfl
theorem q163 : (Jvm.Cond.lays "SeedSolverModel" "SeedSolverModel" "taps" "I") ∈ lw_all := lw_g (lw_at lw_m0 146 rfl) rfl
theorem q164 : (Jvm.Cond.soleField "SeedSolverModel" "taps") ∈ lw_all := lw_g (lw_at lw_m0 147 rfl) rfl
theorem q165 : (Jvm.Cond.lays "SeedSolverModel" "SeedSolverModel" "shifters" "[I") ∈ lw_all := lw_g (lw_at lw_m0 148 rfl) rfl
theorem q166 : (Jvm.Cond.soleField "SeedSolverModel" "shifters") ∈ lw_all := lw_g (lw_at lw_m0 149 rfl) rfl
theorem q167 : (Jvm.Cond.lays "SeedSolverModel" "SeedSolverModel" "wanted" "[I") ∈ lw_all := lw_g (lw_at lw_m0 150 rfl) rfl
theorem q168 : (Jvm.Cond.soleField "SeedSolverModel" "wanted") ∈ lw_all := lw_g (lw_at lw_m0 151 rfl) rfl
theorem q169 : (Jvm.Cond.lays "SeedSolverModel" "SeedSolverModel" "least" "[I") ∈ lw_all := lw_g (lw_at lw_m0 152 rfl) rfl
theorem q170 : (Jvm.Cond.soleField "SeedSolverModel" "least") ∈ lw_all := lw_g (lw_at lw_m0 153 rfl) rfl
theorem q171 : (Jvm.Cond.superclass "SeedSolverModel" "java/lang/Object") ∈ lw_all := lw_g (lw_at lw_m0 154 rfl) rfl
theorem q173 : (Jvm.Cond.instanceMethod ({ cls := "SeedSolverModel", name := "shifter", desc := "(II)Z" } : Jvm.MethodName)) ∈ lw_all := lw_g (lw_at lw_m0 156 rfl) rfl
theorem q174 : (Jvm.Cond.selects "SeedSolverModel" ({ cls := "SeedSolverModel", name := "shifter", desc := "(II)Z" } : Jvm.MethodName) ({ cls := "SeedSolverModel", name := "shifter", desc := "(II)Z" } : Jvm.MethodName)) ∈ lw_all := lw_g (lw_at lw_m0 157 rfl) rfl
theorem q175 : (Jvm.Cond.code ({ cls := "SeedSolverModel", name := "shifter", desc := "(II)Z" } : Jvm.MethodName) prog_3_method_3_code (3 : Nat) (Option.some Jvm.ClassFile.FieldType.boolean)) ∈ lw_all := lw_g (lw_at lw_m0 158 rfl) rfl
theorem q176 : (Jvm.Cond.methodLink "SeedSolverModel" (26 : Nat) ({ cls := "SeedSolverModel", name := "isState", desc := "(I)Z" } : Jvm.MethodName)) ∈ lw_all := lw_g (lw_at lw_m0 159 rfl) rfl
theorem q177 : (Jvm.Cond.privateMethod ({ cls := "SeedSolverModel", name := "isState", desc := "(I)Z" } : Jvm.MethodName)) ∈ lw_tbl := lw_at lw_m0 160 rfl
theorem q178 : (Jvm.Cond.instanceMethod ({ cls := "SeedSolverModel", name := "isState", desc := "(I)Z" } : Jvm.MethodName)) ∈ lw_all := lw_g (lw_at lw_m0 161 rfl) rfl
theorem q179 : (Jvm.Cond.code ({ cls := "SeedSolverModel", name := "isState", desc := "(I)Z" } : Jvm.MethodName) prog_3_method_2_code (2 : Nat) (Option.some Jvm.ClassFile.FieldType.boolean)) ∈ lw_all := lw_g (lw_at lw_m0 162 rfl) rfl
theorem q181 : (Jvm.Cond.instanceMethod ({ cls := "SeedSolverModel", name := "want", desc := "(IIII)Z" } : Jvm.MethodName)) ∈ lw_all := lw_g (lw_at lw_m0 164 rfl) rfl
theorem q182 : (Jvm.Cond.selects "SeedSolverModel" ({ cls := "SeedSolverModel", name := "want", desc := "(IIII)Z" } : Jvm.MethodName) ({ cls := "SeedSolverModel", name := "want", desc := "(IIII)Z" } : Jvm.MethodName)) ∈ lw_all := lw_g (lw_at lw_m0 165 rfl) rfl
theorem q183 : (Jvm.Cond.code ({ cls := "SeedSolverModel", name := "want", desc := "(IIII)Z" } : Jvm.MethodName) prog_3_method_5_code (5 : Nat) (Option.some Jvm.ClassFile.FieldType.boolean)) ∈ lw_all := lw_g (lw_at lw_m0 166 rfl) rfl
theorem q184 : (Jvm.Cond.methodLink "SeedSolverModel" (30 : Nat) ({ cls := "SeedSolverModel", name := "isPlace", desc := "(II)Z" } : Jvm.MethodName)) ∈ lw_all := lw_g (lw_at lw_m0 167 rfl) rfl
theorem q185 : (Jvm.Cond.privateMethod ({ cls := "SeedSolverModel", name := "isPlace", desc := "(II)Z" } : Jvm.MethodName)) ∈ lw_tbl := lw_at lw_m0 168 rfl
theorem q186 : (Jvm.Cond.instanceMethod ({ cls := "SeedSolverModel", name := "isPlace", desc := "(II)Z" } : Jvm.MethodName)) ∈ lw_all := lw_g (lw_at lw_m0 169 rfl) rfl
theorem q187 : (Jvm.Cond.code ({ cls := "SeedSolverModel", name := "isPlace", desc := "(II)Z" } : Jvm.MethodName) prog_3_method_4_code (3 : Nat) (Option.some Jvm.ClassFile.FieldType.boolean)) ∈ lw_all := lw_g (lw_at lw_m0 170 rfl) rfl
theorem q189 : (Jvm.Cond.instanceMethod ({ cls := "SeedSolverModel", name := "expand", desc := "(III)I" } : Jvm.MethodName)) ∈ lw_all := lw_g (lw_at lw_m0 172 rfl) rfl
theorem q190 : (Jvm.Cond.selects "SeedSolverModel" ({ cls := "SeedSolverModel", name := "expand", desc := "(III)I" } : Jvm.MethodName) ({ cls := "SeedSolverModel", name := "expand", desc := "(III)I" } : Jvm.MethodName)) ∈ lw_all := lw_g (lw_at lw_m0 173 rfl) rfl
theorem q191 : (Jvm.Cond.code ({ cls := "SeedSolverModel", name := "expand", desc := "(III)I" } : Jvm.MethodName) prog_3_method_8_code (4 : Nat) (Option.some Jvm.ClassFile.FieldType.int)) ∈ lw_all := lw_g (lw_at lw_m0 174 rfl) rfl
theorem q192 : (Jvm.Cond.methodLink "SeedSolverModel" (38 : Nat) ({ cls := "SeedSolverModel", name := "valueAt", desc := "(III)I" } : Jvm.MethodName)) ∈ lw_all := lw_g (lw_at lw_m0 175 rfl) rfl
theorem q193 : (Jvm.Cond.privateMethod ({ cls := "SeedSolverModel", name := "valueAt", desc := "(III)I" } : Jvm.MethodName)) ∈ lw_tbl := lw_at lw_m0 176 rfl
theorem q194 : (Jvm.Cond.instanceMethod ({ cls := "SeedSolverModel", name := "valueAt", desc := "(III)I" } : Jvm.MethodName)) ∈ lw_all := lw_g (lw_at lw_m0 177 rfl) rfl
theorem q195 : (Jvm.Cond.code ({ cls := "SeedSolverModel", name := "valueAt", desc := "(III)I" } : Jvm.MethodName) prog_3_method_7_code (7 : Nat) (Option.some Jvm.ClassFile.FieldType.int)) ∈ lw_all := lw_g (lw_at lw_m0 178 rfl) rfl
theorem q196 : (Jvm.Cond.methodLink "SeedSolverModel" (34 : Nat) ({ cls := "SeedSolverModel", name := "parity", desc := "(I)I" } : Jvm.MethodName)) ∈ lw_all := lw_g (lw_at lw_m0 179 rfl) rfl
theorem q197 : (Jvm.Cond.privateMethod ({ cls := "SeedSolverModel", name := "parity", desc := "(I)I" } : Jvm.MethodName)) ∈ lw_tbl := lw_at lw_m0 180 rfl
theorem q198 : (Jvm.Cond.instanceMethod ({ cls := "SeedSolverModel", name := "parity", desc := "(I)I" } : Jvm.MethodName)) ∈ lw_all := lw_g (lw_at lw_m0 181 rfl) rfl
theorem q199 : (Jvm.Cond.code ({ cls := "SeedSolverModel", name := "parity", desc := "(I)I" } : Jvm.MethodName) prog_3_method_6_code (4 : Nat) (Option.some Jvm.ClassFile.FieldType.int)) ∈ lw_all := lw_g (lw_at lw_m0 182 rfl) rfl
theorem q201 : (Jvm.Cond.instanceMethod ({ cls := "SeedSolverModel", name := "seeds", desc := "(I)I" } : Jvm.MethodName)) ∈ lw_all := lw_g (lw_at lw_m0 184 rfl) rfl
theorem q202 : (Jvm.Cond.selects "SeedSolverModel" ({ cls := "SeedSolverModel", name := "seeds", desc := "(I)I" } : Jvm.MethodName) ({ cls := "SeedSolverModel", name := "seeds", desc := "(I)I" } : Jvm.MethodName)) ∈ lw_all := lw_g (lw_at lw_m0 185 rfl) rfl
theorem q203 : (Jvm.Cond.code ({ cls := "SeedSolverModel", name := "seeds", desc := "(I)I" } : Jvm.MethodName) prog_3_method_11_code (4 : Nat) (Option.some Jvm.ClassFile.FieldType.int)) ∈ lw_all := lw_g (lw_at lw_m0 186 rfl) rfl
theorem q204 : (Jvm.Cond.methodLink "SeedSolverModel" (42 : Nat) ({ cls := "SeedSolverModel", name := "isSet", desc := "(I)Z" } : Jvm.MethodName)) ∈ lw_all := lw_g (lw_at lw_m0 187 rfl) rfl
theorem q205 : (Jvm.Cond.privateMethod ({ cls := "SeedSolverModel", name := "isSet", desc := "(I)Z" } : Jvm.MethodName)) ∈ lw_tbl := lw_at lw_m0 188 rfl
theorem q206 : (Jvm.Cond.instanceMethod ({ cls := "SeedSolverModel", name := "isSet", desc := "(I)Z" } : Jvm.MethodName)) ∈ lw_all := lw_g (lw_at lw_m0 189 rfl) rfl
theorem q207 : (Jvm.Cond.code ({ cls := "SeedSolverModel", name := "isSet", desc := "(I)Z" } : Jvm.MethodName) prog_3_method_10_code (2 : Nat) (Option.some Jvm.ClassFile.FieldType.boolean)) ∈ lw_all := lw_g (lw_at lw_m0 190 rfl) rfl
theorem q208 : (Jvm.Cond.methodLink "SeedSolverModel" (45 : Nat) ({ cls := "SeedSolverModel", name := "fits", desc := "(II)Z" } : Jvm.MethodName)) ∈ lw_all := lw_g (lw_at lw_m0 191 rfl) rfl
theorem q209 : (Jvm.Cond.privateMethod ({ cls := "SeedSolverModel", name := "fits", desc := "(II)Z" } : Jvm.MethodName)) ∈ lw_tbl := lw_at lw_m0 192 rfl
theorem q210 : (Jvm.Cond.instanceMethod ({ cls := "SeedSolverModel", name := "fits", desc := "(II)Z" } : Jvm.MethodName)) ∈ lw_all := lw_g (lw_at lw_m0 193 rfl) rfl
theorem q211 : (Jvm.Cond.code ({ cls := "SeedSolverModel", name := "fits", desc := "(II)Z" } : Jvm.MethodName) prog_3_method_9_code (6 : Nat) (Option.some Jvm.ClassFile.FieldType.boolean)) ∈ lw_all := lw_g (lw_at lw_m0 194 rfl) rfl
theorem q213 : (Jvm.Cond.instanceMethod ({ cls := "SeedSolverModel", name := "leastSeed", desc := "(I)I" } : Jvm.MethodName)) ∈ lw_all := lw_g (lw_at lw_m0 196 rfl) rfl
theorem q214 : (Jvm.Cond.selects "SeedSolverModel" ({ cls := "SeedSolverModel", name := "leastSeed", desc := "(I)I" } : Jvm.MethodName) ({ cls := "SeedSolverModel", name := "leastSeed", desc := "(I)I" } : Jvm.MethodName)) ∈ lw_all := lw_g (lw_at lw_m0 197 rfl) rfl
theorem q215 : (Jvm.Cond.code ({ cls := "SeedSolverModel", name := "leastSeed", desc := "(I)I" } : Jvm.MethodName) prog_3_method_13_code (2 : Nat) (Option.some Jvm.ClassFile.FieldType.int)) ∈ lw_all := lw_g (lw_at lw_m0 198 rfl) rfl
theorem q216 : (Jvm.Cond.methodLink "SeedSolverModel" (48 : Nat) ({ cls := "SeedSolverModel", name := "firstSeed", desc := "(I)I" } : Jvm.MethodName)) ∈ lw_all := lw_g (lw_at lw_m0 199 rfl) rfl
theorem q217 : (Jvm.Cond.privateMethod ({ cls := "SeedSolverModel", name := "firstSeed", desc := "(I)I" } : Jvm.MethodName)) ∈ lw_tbl := lw_at lw_m0 200 rfl
theorem q218 : (Jvm.Cond.instanceMethod ({ cls := "SeedSolverModel", name := "firstSeed", desc := "(I)I" } : Jvm.MethodName)) ∈ lw_all := lw_g (lw_at lw_m0 201 rfl) rfl
theorem q219 : (Jvm.Cond.code ({ cls := "SeedSolverModel", name := "firstSeed", desc := "(I)I" } : Jvm.MethodName) prog_3_method_12_code (3 : Nat) (Option.some Jvm.ClassFile.FieldType.int)) ∈ lw_all := lw_g (lw_at lw_m0 202 rfl) rfl
theorem q221 : (Jvm.Cond.instanceMethod ({ cls := "SeedSolverModel", name := "greatestSeed", desc := "(I)I" } : Jvm.MethodName)) ∈ lw_all := lw_g (lw_at lw_m0 204 rfl) rfl
theorem q222 : (Jvm.Cond.selects "SeedSolverModel" ({ cls := "SeedSolverModel", name := "greatestSeed", desc := "(I)I" } : Jvm.MethodName) ({ cls := "SeedSolverModel", name := "greatestSeed", desc := "(I)I" } : Jvm.MethodName)) ∈ lw_all := lw_g (lw_at lw_m0 205 rfl) rfl
theorem q223 : (Jvm.Cond.code ({ cls := "SeedSolverModel", name := "greatestSeed", desc := "(I)I" } : Jvm.MethodName) prog_3_method_14_code (3 : Nat) (Option.some Jvm.ClassFile.FieldType.int)) ∈ lw_all := lw_g (lw_at lw_m0 206 rfl) rfl
theorem q225 : (Jvm.Cond.instanceMethod ({ cls := "SeedSolverModel", name := "forced", desc := "(III)I" } : Jvm.MethodName)) ∈ lw_all := lw_g (lw_at lw_m0 208 rfl) rfl
theorem q226 : (Jvm.Cond.selects "SeedSolverModel" ({ cls := "SeedSolverModel", name := "forced", desc := "(III)I" } : Jvm.MethodName) ({ cls := "SeedSolverModel", name := "forced", desc := "(III)I" } : Jvm.MethodName)) ∈ lw_all := lw_g (lw_at lw_m0 209 rfl) rfl
theorem q227 : (Jvm.Cond.code ({ cls := "SeedSolverModel", name := "forced", desc := "(III)I" } : Jvm.MethodName) prog_3_method_15_code (7 : Nat) (Option.some Jvm.ClassFile.FieldType.int)) ∈ lw_all := lw_g (lw_at lw_m0 210 rfl) rfl
theorem q229 : (Jvm.Cond.instanceMethod ({ cls := "SeedSolverModel", name := "seedsNeeded", desc := "(I)I" } : Jvm.MethodName)) ∈ lw_all := lw_g (lw_at lw_m0 212 rfl) rfl
theorem q230 : (Jvm.Cond.selects "SeedSolverModel" ({ cls := "SeedSolverModel", name := "seedsNeeded", desc := "(I)I" } : Jvm.MethodName) ({ cls := "SeedSolverModel", name := "seedsNeeded", desc := "(I)I" } : Jvm.MethodName)) ∈ lw_all := lw_g (lw_at lw_m0 213 rfl) rfl
theorem q231 : (Jvm.Cond.code ({ cls := "SeedSolverModel", name := "seedsNeeded", desc := "(I)I" } : Jvm.MethodName) prog_3_method_16_code (5 : Nat) (Option.some Jvm.ClassFile.FieldType.int)) ∈ lw_all := lw_g (lw_at lw_m0 214 rfl) rfl
theorem q233 : (Jvm.Cond.instanceMethod ({ cls := "SeedSolverModel", name := "forget", desc := "(I)Z" } : Jvm.MethodName)) ∈ lw_all := lw_g (lw_at lw_m0 216 rfl) rfl
theorem q234 : (Jvm.Cond.selects "SeedSolverModel" ({ cls := "SeedSolverModel", name := "forget", desc := "(I)Z" } : Jvm.MethodName) ({ cls := "SeedSolverModel", name := "forget", desc := "(I)Z" } : Jvm.MethodName)) ∈ lw_all := lw_g (lw_at lw_m0 217 rfl) rfl
theorem q235 : (Jvm.Cond.code ({ cls := "SeedSolverModel", name := "forget", desc := "(I)Z" } : Jvm.MethodName) prog_3_method_17_code (3 : Nat) (Option.some Jvm.ClassFile.FieldType.boolean)) ∈ lw_all := lw_g (lw_at lw_m0 218 rfl) rfl
theorem in_X2 : ∀ w ∈ wsX20, w ∈ lw_all := lw_in wsX20 [161, 163, 165, 167, 169] (by decide +kernel) (by decide +kernel)
end
section
set_option maxRecDepth 100000
theorem dX1_init_0 : decode cX1_init 0 = .ok (.aload_n 0, 1) := by decide +kernel
theorem dX1_init_1 : decode cX1_init 1 = .ok (.invokespecial 1, 3) := by decide +kernel
theorem dX1_init_4 : decode cX1_init 4 = .ok (.aload_n 0, 1) := by decide +kernel
theorem dX1_init_5 : decode cX1_init 5 = .ok (.iconst 4, 1) := by decide +kernel
theorem dX1_init_6 : decode cX1_init 6 = .ok (.newarray .int, 2) := by decide +kernel
theorem dX1_init_8 : decode cX1_init 8 = .ok (.putfield 7, 3) := by decide +kernel
theorem dX1_init_11 : decode cX1_init 11 = .ok (.aload_n 0, 1) := by decide +kernel
theorem dX1_init_12 : decode cX1_init 12 = .ok (.sipush 384, 3) := by decide +kernel
theorem dX1_init_15 : decode cX1_init 15 = .ok (.newarray .byte, 2) := by decide +kernel
theorem dX1_init_17 : decode cX1_init 17 = .ok (.putfield 13, 3) := by decide +kernel
theorem dX1_init_20 : decode cX1_init 20 = .ok (.aload_n 0, 1) := by decide +kernel
theorem dX1_init_21 : decode cX1_init 21 = .ok (.bipush 64, 2) := by decide +kernel
theorem dX1_init_23 : decode cX1_init 23 = .ok (.newarray .int, 2) := by decide +kernel
theorem dX1_init_25 : decode cX1_init 25 = .ok (.putfield 17, 3) := by decide +kernel
theorem dX1_init_28 : decode cX1_init 28 = .ok (.aload_n 0, 1) := by decide +kernel
theorem dX1_init_29 : decode cX1_init 29 = .ok (.bipush 9, 2) := by decide +kernel
theorem dX1_init_31 : decode cX1_init 31 = .ok (.newarray .int, 2) := by decide +kernel
theorem dX1_init_33 : decode cX1_init 33 = .ok (.putfield 20, 3) := by decide +kernel
theorem dX1_init_36 : decode cX1_init 36 = .ok (.aload_n 0, 1) := by decide +kernel
theorem dX1_init_37 : decode cX1_init 37 = .ok (.bipush 8, 2) := by decide +kernel
theorem dX1_init_39 : decode cX1_init 39 = .ok (.newarray .int, 2) := by decide +kernel
theorem dX1_init_41 : decode cX1_init 41 = .ok (.putfield 23, 3) := by decide +kernel
theorem dX1_init_44 : decode cX1_init 44 = .ok (.aload_n 0, 1) := by decide +kernel
theorem dX1_init_45 : decode cX1_init 45 = .ok (.bipush 8, 2) := by decide +kernel
theorem dX1_init_47 : decode cX1_init 47 = .ok (.newarray .int, 2) := by decide +kernel
theorem dX1_init_49 : decode cX1_init 49 = .ok (.putfield 26, 3) := by decide +kernel
theorem dX1_init_52 : decode cX1_init 52 = .ok (.aload_n 0, 1) := by decide +kernel
theorem dX1_init_53 : decode cX1_init 53 = .ok (.bipush 64, 2) := by decide +kernel
theorem dX1_init_55 : decode cX1_init 55 = .ok (.newarray .boolean, 2) := by decide +kernel
theorem dX1_init_57 : decode cX1_init 57 = .ok (.putfield 29, 3) := by decide +kernel
theorem dX1_init_60 : decode cX1_init 60 = .ok (.aload_n 0, 1) := by decide +kernel
theorem dX1_init_61 : decode cX1_init 61 = .ok (.bipush 64, 2) := by decide +kernel
theorem dX1_init_63 : decode cX1_init 63 = .ok (.newarray .byte, 2) := by decide +kernel
theorem dX1_init_65 : decode cX1_init 65 = .ok (.putfield 33, 3) := by decide +kernel
theorem dX1_init_68 : decode cX1_init 68 = .ok (.aload_n 0, 1) := by decide +kernel
theorem dX1_init_69 : decode cX1_init 69 = .ok (.iload_n 1, 1) := by decide +kernel
theorem dX1_init_70 : decode cX1_init 70 = .ok (.iconst 3, 1) := by decide +kernel
theorem dX1_init_71 : decode cX1_init 71 = .ok (.if_icmp .ge 7, 3) := by decide +kernel
theorem dX1_init_74 : decode cX1_init 74 = .ok (.iconst 3, 1) := by decide +kernel
theorem dX1_init_75 : decode cX1_init 75 = .ok (.goto 15, 3) := by decide +kernel
theorem dX1_init_78 : decode cX1_init 78 = .ok (.iload_n 1, 1) := by decide +kernel
theorem dX1_init_79 : decode cX1_init 79 = .ok (.bipush 8, 2) := by decide +kernel
theorem dX1_init_81 : decode cX1_init 81 = .ok (.if_icmp .le 8, 3) := by decide +kernel
theorem dX1_init_84 : decode cX1_init 84 = .ok (.bipush 8, 2) := by decide +kernel
theorem dX1_init_86 : decode cX1_init 86 = .ok (.goto 4, 3) := by decide +kernel
theorem dX1_init_89 : decode cX1_init 89 = .ok (.iload_n 1, 1) := by decide +kernel
theorem dX1_init_90 : decode cX1_init 90 = .ok (.putfield 36, 3) := by decide +kernel
theorem dX1_init_93 : decode cX1_init 93 = .ok (.aload_n 0, 1) := by decide +kernel
theorem dX1_init_94 : decode cX1_init 94 = .ok (.iload_n 2, 1) := by decide +kernel
theorem dX1_init_95 : decode cX1_init 95 = .ok (.iconst 1, 1) := by decide +kernel
theorem dX1_init_96 : decode cX1_init 96 = .ok (.aload_n 0, 1) := by decide +kernel
theorem dX1_init_97 : decode cX1_init 97 = .ok (.getfield 36, 3) := by decide +kernel
theorem dX1_init_100 : decode cX1_init 100 = .ok (.ishl, 1) := by decide +kernel
theorem dX1_init_101 : decode cX1_init 101 = .ok (.iconst 1, 1) := by decide +kernel
theorem dX1_init_102 : decode cX1_init 102 = .ok (.isub, 1) := by decide +kernel
theorem dX1_init_103 : decode cX1_init 103 = .ok (.iand, 1) := by decide +kernel
theorem dX1_init_104 : decode cX1_init 104 = .ok (.putfield 40, 3) := by decide +kernel
theorem dX1_init_107 : decode cX1_init 107 = .ok (.iconst 0, 1) := by decide +kernel
theorem dX1_init_108 : decode cX1_init 108 = .ok (.istore_n 3, 1) := by decide +kernel
theorem dX1_init_109 : decode cX1_init 109 = .ok (.iload_n 3, 1) := by decide +kernel
theorem dX1_init_110 : decode cX1_init 110 = .ok (.iconst 4, 1) := by decide +kernel
theorem dX1_init_111 : decode cX1_init 111 = .ok (.if_icmp .ge 23, 3) := by decide +kernel
theorem dX1_init_114 : decode cX1_init 114 = .ok (.aload_n 0, 1) := by decide +kernel
theorem dX1_init_115 : decode cX1_init 115 = .ok (.getfield 7, 3) := by decide +kernel
theorem dX1_init_118 : decode cX1_init 118 = .ok (.iload_n 3, 1) := by decide +kernel
theorem dX1_init_119 : decode cX1_init 119 = .ok (.iconst 1, 1) := by decide +kernel
theorem dX1_init_120 : decode cX1_init 120 = .ok (.iload_n 3, 1) := by decide +kernel
theorem dX1_init_121 : decode cX1_init 121 = .ok (.aload_n 0, 1) := by decide +kernel
theorem dX1_init_122 : decode cX1_init 122 = .ok (.getfield 36, 3) := by decide +kernel
theorem dX1_init_125 : decode cX1_init 125 = .ok (.irem, 1) := by decide +kernel
theorem dX1_init_126 : decode cX1_init 126 = .ok (.ishl, 1) := by decide +kernel
theorem dX1_init_127 : decode cX1_init 127 = .ok (.iastore, 1) := by decide +kernel
theorem dX1_init_128 : decode cX1_init 128 = .ok (.iinc 3 1, 3) := by decide +kernel
theorem dX1_init_131 : decode cX1_init 131 = .ok (.goto (-22), 3) := by decide +kernel
theorem dX1_init_134 : decode cX1_init 134 = .ok (.iconst 0, 1) := by decide +kernel
theorem dX1_init_135 : decode cX1_init 135 = .ok (.istore_n 3, 1) := by decide +kernel
theorem dX1_init_136 : decode cX1_init 136 = .ok (.iload_n 3, 1) := by decide +kernel
theorem dX1_init_137 : decode cX1_init 137 = .ok (.sipush 384, 3) := by decide +kernel
theorem dX1_init_140 : decode cX1_init 140 = .ok (.if_icmp .ge 16, 3) := by decide +kernel
theorem dX1_init_143 : decode cX1_init 143 = .ok (.aload_n 0, 1) := by decide +kernel
theorem dX1_init_144 : decode cX1_init 144 = .ok (.getfield 13, 3) := by decide +kernel
theorem dX1_init_147 : decode cX1_init 147 = .ok (.iload_n 3, 1) := by decide +kernel
theorem dX1_init_148 : decode cX1_init 148 = .ok (.iconst 2, 1) := by decide +kernel
theorem dX1_init_149 : decode cX1_init 149 = .ok (.bastore, 1) := by decide +kernel
theorem dX1_init_150 : decode cX1_init 150 = .ok (.iinc 3 1, 3) := by decide +kernel
theorem dX1_init_153 : decode cX1_init 153 = .ok (.goto (-17), 3) := by decide +kernel
theorem dX1_init_156 : decode cX1_init 156 = .ok (.return_, 1) := by decide +kernel
theorem dX1_shifter_0 : decode cX1_shifter 0 = .ok (.iload_n 1, 1) := by decide +kernel
theorem dX1_shifter_1 : decode cX1_shifter 1 = .ok (.ifCond .lt 8, 3) := by decide +kernel
theorem dX1_shifter_4 : decode cX1_shifter 4 = .ok (.iload_n 1, 1) := by decide +kernel
theorem dX1_shifter_5 : decode cX1_shifter 5 = .ok (.iconst 3, 1) := by decide +kernel
theorem dX1_shifter_6 : decode cX1_shifter 6 = .ok (.if_icmp .le 5, 3) := by decide +kernel
theorem dX1_shifter_9 : decode cX1_shifter 9 = .ok (.iconst 0, 1) := by decide +kernel
theorem dX1_shifter_10 : decode cX1_shifter 10 = .ok (.ireturn, 1) := by decide +kernel
theorem dX1_shifter_11 : decode cX1_shifter 11 = .ok (.iload_n 2, 1) := by decide +kernel
theorem dX1_shifter_12 : decode cX1_shifter 12 = .ok (.ifCond .lt 13, 3) := by decide +kernel
theorem dX1_shifter_15 : decode cX1_shifter 15 = .ok (.iload_n 2, 1) := by decide +kernel
theorem dX1_shifter_16 : decode cX1_shifter 16 = .ok (.iconst 1, 1) := by decide +kernel
theorem dX1_shifter_17 : decode cX1_shifter 17 = .ok (.aload_n 0, 1) := by decide +kernel
theorem dX1_shifter_18 : decode cX1_shifter 18 = .ok (.getfield 36, 3) := by decide +kernel
theorem dX1_shifter_21 : decode cX1_shifter 21 = .ok (.ishl, 1) := by decide +kernel
theorem dX1_shifter_22 : decode cX1_shifter 22 = .ok (.if_icmp .lt 5, 3) := by decide +kernel
theorem dX1_shifter_25 : decode cX1_shifter 25 = .ok (.iconst 0, 1) := by decide +kernel
theorem dX1_shifter_26 : decode cX1_shifter 26 = .ok (.ireturn, 1) := by decide +kernel
theorem dX1_shifter_27 : decode cX1_shifter 27 = .ok (.aload_n 0, 1) := by decide +kernel
theorem dX1_shifter_28 : decode cX1_shifter 28 = .ok (.getfield 7, 3) := by decide +kernel
theorem dX1_shifter_31 : decode cX1_shifter 31 = .ok (.iload_n 1, 1) := by decide +kernel
theorem dX1_shifter_32 : decode cX1_shifter 32 = .ok (.iload_n 2, 1) := by decide +kernel
theorem dX1_shifter_33 : decode cX1_shifter 33 = .ok (.iastore, 1) := by decide +kernel
theorem dX1_shifter_34 : decode cX1_shifter 34 = .ok (.aload_n 0, 1) := by decide +kernel
theorem dX1_shifter_35 : decode cX1_shifter 35 = .ok (.iconst 0, 1) := by decide +kernel
theorem dX1_shifter_36 : decode cX1_shifter 36 = .ok (.putfield 43, 3) := by decide +kernel
theorem dX1_shifter_39 : decode cX1_shifter 39 = .ok (.aload_n 0, 1) := by decide +kernel
theorem dX1_shifter_40 : decode cX1_shifter 40 = .ok (.iconst 0, 1) := by decide +kernel
theorem dX1_shifter_41 : decode cX1_shifter 41 = .ok (.putfield 47, 3) := by decide +kernel
theorem dX1_shifter_44 : decode cX1_shifter 44 = .ok (.iconst 1, 1) := by decide +kernel
theorem dX1_shifter_45 : decode cX1_shifter 45 = .ok (.ireturn, 1) := by decide +kernel
theorem dX1_want_0 : decode cX1_want 0 = .ok (.iload_n 1, 1) := by decide +kernel
theorem dX1_want_1 : decode cX1_want 1 = .ok (.ifCond .lt 17, 3) := by decide +kernel
theorem dX1_want_4 : decode cX1_want 4 = .ok (.iload_n 1, 1) := by decide +kernel
theorem dX1_want_5 : decode cX1_want 5 = .ok (.iconst 5, 1) := by decide +kernel
theorem dX1_want_6 : decode cX1_want 6 = .ok (.if_icmp .gt 12, 3) := by decide +kernel
theorem dX1_want_9 : decode cX1_want 9 = .ok (.aload_n 0, 1) := by decide +kernel
theorem dX1_want_10 : decode cX1_want 10 = .ok (.iload_n 2, 1) := by decide +kernel
theorem dX1_want_11 : decode cX1_want 11 = .ok (.iload_n 3, 1) := by decide +kernel
theorem dX1_want_12 : decode cX1_want 12 = .ok (.invokevirtual 50, 3) := by decide +kernel
theorem dX1_want_15 : decode cX1_want 15 = .ok (.ifCond .ne 5, 3) := by decide +kernel
theorem dX1_want_18 : decode cX1_want 18 = .ok (.iconst 0, 1) := by decide +kernel
theorem dX1_want_19 : decode cX1_want 19 = .ok (.ireturn, 1) := by decide +kernel
theorem dX1_want_20 : decode cX1_want 20 = .ok (.iload 4, 2) := by decide +kernel
theorem dX1_want_22 : decode cX1_want 22 = .ok (.ifCond .lt 9, 3) := by decide +kernel
theorem dX1_want_25 : decode cX1_want 25 = .ok (.iload 4, 2) := by decide +kernel
theorem dX1_want_27 : decode cX1_want 27 = .ok (.iconst 2, 1) := by decide +kernel
theorem dX1_want_28 : decode cX1_want 28 = .ok (.if_icmp .le 5, 3) := by decide +kernel
theorem dX1_want_31 : decode cX1_want 31 = .ok (.iconst 0, 1) := by decide +kernel
theorem dX1_want_32 : decode cX1_want 32 = .ok (.ireturn, 1) := by decide +kernel
theorem dX1_want_33 : decode cX1_want 33 = .ok (.aload_n 0, 1) := by decide +kernel
theorem dX1_want_34 : decode cX1_want 34 = .ok (.getfield 13, 3) := by decide +kernel
theorem dX1_want_37 : decode cX1_want 37 = .ok (.bipush 64, 2) := by decide +kernel
theorem dX1_want_39 : decode cX1_want 39 = .ok (.iload_n 1, 1) := by decide +kernel
theorem dX1_want_40 : decode cX1_want 40 = .ok (.imul, 1) := by decide +kernel
theorem dX1_want_41 : decode cX1_want 41 = .ok (.iconst 4, 1) := by decide +kernel
theorem dX1_want_42 : decode cX1_want 42 = .ok (.iload_n 2, 1) := by decide +kernel
theorem dX1_want_43 : decode cX1_want 43 = .ok (.imul, 1) := by decide +kernel
theorem dX1_want_44 : decode cX1_want 44 = .ok (.iadd, 1) := by decide +kernel
theorem dX1_want_45 : decode cX1_want 45 = .ok (.iload_n 3, 1) := by decide +kernel
theorem dX1_want_46 : decode cX1_want 46 = .ok (.iadd, 1) := by decide +kernel
theorem dX1_want_47 : decode cX1_want 47 = .ok (.iload 4, 2) := by decide +kernel
theorem dX1_want_49 : decode cX1_want 49 = .ok (.i2b, 1) := by decide +kernel
theorem dX1_want_50 : decode cX1_want 50 = .ok (.bastore, 1) := by decide +kernel
theorem dX1_want_51 : decode cX1_want 51 = .ok (.aload_n 0, 1) := by decide +kernel
theorem dX1_want_52 : decode cX1_want 52 = .ok (.iconst 0, 1) := by decide +kernel
theorem dX1_want_53 : decode cX1_want 53 = .ok (.putfield 47, 3) := by decide +kernel
theorem dX1_want_56 : decode cX1_want 56 = .ok (.iconst 1, 1) := by decide +kernel
theorem dX1_want_57 : decode cX1_want 57 = .ok (.ireturn, 1) := by decide +kernel
theorem dX1_isPlace_0 : decode cX1_isPlace 0 = .ok (.iload_n 1, 1) := by decide +kernel
theorem dX1_isPlace_1 : decode cX1_isPlace 1 = .ok (.ifCond .lt 22, 3) := by decide +kernel
theorem dX1_isPlace_4 : decode cX1_isPlace 4 = .ok (.iload_n 1, 1) := by decide +kernel
theorem dX1_isPlace_5 : decode cX1_isPlace 5 = .ok (.bipush 15, 2) := by decide +kernel
theorem dX1_isPlace_7 : decode cX1_isPlace 7 = .ok (.if_icmp .gt 16, 3) := by decide +kernel
theorem dX1_isPlace_10 : decode cX1_isPlace 10 = .ok (.iload_n 2, 1) := by decide +kernel
theorem dX1_isPlace_11 : decode cX1_isPlace 11 = .ok (.ifCond .lt 12, 3) := by decide +kernel
theorem dX1_isPlace_14 : decode cX1_isPlace 14 = .ok (.iload_n 2, 1) := by decide +kernel
theorem dX1_isPlace_15 : decode cX1_isPlace 15 = .ok (.iconst 3, 1) := by decide +kernel
theorem dX1_isPlace_16 : decode cX1_isPlace 16 = .ok (.if_icmp .gt 7, 3) := by decide +kernel
theorem dX1_isPlace_19 : decode cX1_isPlace 19 = .ok (.iconst 1, 1) := by decide +kernel
theorem dX1_isPlace_20 : decode cX1_isPlace 20 = .ok (.goto 4, 3) := by decide +kernel
theorem dX1_isPlace_23 : decode cX1_isPlace 23 = .ok (.iconst 0, 1) := by decide +kernel
theorem dX1_isPlace_24 : decode cX1_isPlace 24 = .ok (.ireturn, 1) := by decide +kernel
theorem dX1_expand_0 : decode cX1_expand 0 = .ok (.iload_n 1, 1) := by decide +kernel
theorem dX1_expand_1 : decode cX1_expand 1 = .ok (.ifCond .lt 22, 3) := by decide +kernel
theorem dX1_expand_4 : decode cX1_expand 4 = .ok (.iload_n 1, 1) := by decide +kernel
theorem dX1_expand_5 : decode cX1_expand 5 = .ok (.iconst 1, 1) := by decide +kernel
theorem dX1_expand_6 : decode cX1_expand 6 = .ok (.aload_n 0, 1) := by decide +kernel
theorem dX1_expand_7 : decode cX1_expand 7 = .ok (.getfield 36, 3) := by decide +kernel
theorem dX1_expand_10 : decode cX1_expand 10 = .ok (.ishl, 1) := by decide +kernel
theorem dX1_expand_11 : decode cX1_expand 11 = .ok (.if_icmp .ge 12, 3) := by decide +kernel
theorem dX1_expand_14 : decode cX1_expand 14 = .ok (.aload_n 0, 1) := by decide +kernel
theorem dX1_expand_15 : decode cX1_expand 15 = .ok (.iload_n 2, 1) := by decide +kernel
theorem dX1_expand_16 : decode cX1_expand 16 = .ok (.iload_n 3, 1) := by decide +kernel
theorem dX1_expand_17 : decode cX1_expand 17 = .ok (.invokevirtual 50, 3) := by decide +kernel
theorem dX1_expand_20 : decode cX1_expand 20 = .ok (.ifCond .ne 5, 3) := by decide +kernel
theorem dX1_expand_23 : decode cX1_expand 23 = .ok (.iconst (-1), 1) := by decide +kernel
theorem dX1_expand_24 : decode cX1_expand 24 = .ok (.ireturn, 1) := by decide +kernel
theorem dX1_expand_25 : decode cX1_expand 25 = .ok (.aload_n 0, 1) := by decide +kernel
theorem dX1_expand_26 : decode cX1_expand 26 = .ok (.invokevirtual 54, 3) := by decide +kernel
theorem dX1_expand_29 : decode cX1_expand 29 = .ok (.aload_n 0, 1) := by decide +kernel
theorem dX1_expand_30 : decode cX1_expand 30 = .ok (.aload_n 0, 1) := by decide +kernel
theorem dX1_expand_31 : decode cX1_expand 31 = .ok (.getfield 17, 3) := by decide +kernel
theorem dX1_expand_34 : decode cX1_expand 34 = .ok (.iconst 4, 1) := by decide +kernel
theorem dX1_expand_35 : decode cX1_expand 35 = .ok (.iload_n 2, 1) := by decide +kernel
theorem dX1_expand_36 : decode cX1_expand 36 = .ok (.imul, 1) := by decide +kernel
theorem dX1_expand_37 : decode cX1_expand 37 = .ok (.iload_n 3, 1) := by decide +kernel
theorem dX1_expand_38 : decode cX1_expand 38 = .ok (.iadd, 1) := by decide +kernel
theorem dX1_expand_39 : decode cX1_expand 39 = .ok (.iaload, 1) := by decide +kernel
theorem dX1_expand_40 : decode cX1_expand 40 = .ok (.iload_n 1, 1) := by decide +kernel
theorem dX1_expand_41 : decode cX1_expand 41 = .ok (.iand, 1) := by decide +kernel
theorem dX1_expand_42 : decode cX1_expand 42 = .ok (.invokevirtual 57, 3) := by decide +kernel
theorem dX1_expand_45 : decode cX1_expand 45 = .ok (.ireturn, 1) := by decide +kernel
theorem dX1_makeForms_0 : decode cX1_makeForms 0 = .ok (.aload_n 0, 1) := by decide +kernel
theorem dX1_makeForms_1 : decode cX1_makeForms 1 = .ok (.getfield 43, 3) := by decide +kernel
theorem dX1_makeForms_4 : decode cX1_makeForms 4 = .ok (.ifCond .eq 4, 3) := by decide +kernel
theorem dX1_makeForms_7 : decode cX1_makeForms 7 = .ok (.return_, 1) := by decide +kernel
theorem dX1_makeForms_8 : decode cX1_makeForms 8 = .ok (.iconst 0, 1) := by decide +kernel
theorem dX1_makeForms_9 : decode cX1_makeForms 9 = .ok (.istore_n 1, 1) := by decide +kernel
theorem dX1_makeForms_10 : decode cX1_makeForms 10 = .ok (.iload_n 1, 1) := by decide +kernel
theorem dX1_makeForms_11 : decode cX1_makeForms 11 = .ok (.aload_n 0, 1) := by decide +kernel
theorem dX1_makeForms_12 : decode cX1_makeForms 12 = .ok (.getfield 36, 3) := by decide +kernel
theorem dX1_makeForms_15 : decode cX1_makeForms 15 = .ok (.if_icmp .ge 18, 3) := by decide +kernel
theorem dX1_makeForms_18 : decode cX1_makeForms 18 = .ok (.aload_n 0, 1) := by decide +kernel
theorem dX1_makeForms_19 : decode cX1_makeForms 19 = .ok (.getfield 20, 3) := by decide +kernel
theorem dX1_makeForms_22 : decode cX1_makeForms 22 = .ok (.iload_n 1, 1) := by decide +kernel
theorem dX1_makeForms_23 : decode cX1_makeForms 23 = .ok (.iconst 1, 1) := by decide +kernel
theorem dX1_makeForms_24 : decode cX1_makeForms 24 = .ok (.iload_n 1, 1) := by decide +kernel
theorem dX1_makeForms_25 : decode cX1_makeForms 25 = .ok (.ishl, 1) := by decide +kernel
theorem dX1_makeForms_26 : decode cX1_makeForms 26 = .ok (.iastore, 1) := by decide +kernel
theorem dX1_makeForms_27 : decode cX1_makeForms 27 = .ok (.iinc 1 1, 3) := by decide +kernel
theorem dX1_makeForms_30 : decode cX1_makeForms 30 = .ok (.goto (-20), 3) := by decide +kernel
theorem dX1_makeForms_33 : decode cX1_makeForms 33 = .ok (.iconst 0, 1) := by decide +kernel
theorem dX1_makeForms_34 : decode cX1_makeForms 34 = .ok (.istore_n 1, 1) := by decide +kernel
theorem dX1_makeForms_35 : decode cX1_makeForms 35 = .ok (.iload_n 1, 1) := by decide +kernel
theorem dX1_makeForms_36 : decode cX1_makeForms 36 = .ok (.bipush 16, 2) := by decide +kernel
theorem dX1_makeForms_38 : decode cX1_makeForms 38 = .ok (.if_icmp .ge 89, 3) := by decide +kernel
theorem dX1_makeForms_41 : decode cX1_makeForms 41 = .ok (.iconst 0, 1) := by decide +kernel
theorem dX1_makeForms_42 : decode cX1_makeForms 42 = .ok (.istore_n 2, 1) := by decide +kernel
theorem dX1_makeForms_43 : decode cX1_makeForms 43 = .ok (.iload_n 2, 1) := by decide +kernel
theorem dX1_makeForms_44 : decode cX1_makeForms 44 = .ok (.iconst 4, 1) := by decide +kernel
theorem dX1_makeForms_45 : decode cX1_makeForms 45 = .ok (.if_icmp .ge 29, 3) := by decide +kernel
theorem dX1_makeForms_48 : decode cX1_makeForms 48 = .ok (.aload_n 0, 1) := by decide +kernel
theorem dX1_makeForms_49 : decode cX1_makeForms 49 = .ok (.getfield 17, 3) := by decide +kernel
theorem dX1_makeForms_52 : decode cX1_makeForms 52 = .ok (.iconst 4, 1) := by decide +kernel
theorem dX1_makeForms_53 : decode cX1_makeForms 53 = .ok (.iload_n 1, 1) := by decide +kernel
theorem dX1_makeForms_54 : decode cX1_makeForms 54 = .ok (.imul, 1) := by decide +kernel
theorem dX1_makeForms_55 : decode cX1_makeForms 55 = .ok (.iload_n 2, 1) := by decide +kernel
theorem dX1_makeForms_56 : decode cX1_makeForms 56 = .ok (.iadd, 1) := by decide +kernel
theorem dX1_makeForms_57 : decode cX1_makeForms 57 = .ok (.aload_n 0, 1) := by decide +kernel
theorem dX1_makeForms_58 : decode cX1_makeForms 58 = .ok (.aload_n 0, 1) := by decide +kernel
theorem dX1_makeForms_59 : decode cX1_makeForms 59 = .ok (.getfield 7, 3) := by decide +kernel
theorem dX1_makeForms_62 : decode cX1_makeForms 62 = .ok (.iload_n 2, 1) := by decide +kernel
theorem dX1_makeForms_63 : decode cX1_makeForms 63 = .ok (.iaload, 1) := by decide +kernel
theorem dX1_makeForms_64 : decode cX1_makeForms 64 = .ok (.invokevirtual 81, 3) := by decide +kernel
theorem dX1_makeForms_67 : decode cX1_makeForms 67 = .ok (.iastore, 1) := by decide +kernel
theorem dX1_makeForms_68 : decode cX1_makeForms 68 = .ok (.iinc 2 1, 3) := by decide +kernel
theorem dX1_makeForms_71 : decode cX1_makeForms 71 = .ok (.goto (-28), 3) := by decide +kernel
theorem dX1_makeForms_74 : decode cX1_makeForms 74 = .ok (.aload_n 0, 1) := by decide +kernel
theorem dX1_makeForms_75 : decode cX1_makeForms 75 = .ok (.getfield 20, 3) := by decide +kernel
theorem dX1_makeForms_78 : decode cX1_makeForms 78 = .ok (.aload_n 0, 1) := by decide +kernel
theorem dX1_makeForms_79 : decode cX1_makeForms 79 = .ok (.getfield 36, 3) := by decide +kernel
theorem dX1_makeForms_82 : decode cX1_makeForms 82 = .ok (.aload_n 0, 1) := by decide +kernel
theorem dX1_makeForms_83 : decode cX1_makeForms 83 = .ok (.aload_n 0, 1) := by decide +kernel
theorem dX1_makeForms_84 : decode cX1_makeForms 84 = .ok (.getfield 40, 3) := by decide +kernel
theorem dX1_makeForms_87 : decode cX1_makeForms 87 = .ok (.invokevirtual 81, 3) := by decide +kernel
theorem dX1_makeForms_90 : decode cX1_makeForms 90 = .ok (.iastore, 1) := by decide +kernel
theorem dX1_makeForms_91 : decode cX1_makeForms 91 = .ok (.iconst 0, 1) := by decide +kernel
theorem dX1_makeForms_92 : decode cX1_makeForms 92 = .ok (.istore_n 2, 1) := by decide +kernel
theorem dX1_makeForms_93 : decode cX1_makeForms 93 = .ok (.iload_n 2, 1) := by decide +kernel
theorem dX1_makeForms_94 : decode cX1_makeForms 94 = .ok (.aload_n 0, 1) := by decide +kernel
theorem dX1_makeForms_95 : decode cX1_makeForms 95 = .ok (.getfield 36, 3) := by decide +kernel
theorem dX1_makeForms_98 : decode cX1_makeForms 98 = .ok (.if_icmp .ge 23, 3) := by decide +kernel
theorem dX1_makeForms_101 : decode cX1_makeForms 101 = .ok (.aload_n 0, 1) := by decide +kernel
theorem dX1_makeForms_102 : decode cX1_makeForms 102 = .ok (.getfield 20, 3) := by decide +kernel
theorem dX1_makeForms_105 : decode cX1_makeForms 105 = .ok (.iload_n 2, 1) := by decide +kernel
theorem dX1_makeForms_106 : decode cX1_makeForms 106 = .ok (.aload_n 0, 1) := by decide +kernel
theorem dX1_makeForms_107 : decode cX1_makeForms 107 = .ok (.getfield 20, 3) := by decide +kernel
theorem dX1_makeForms_110 : decode cX1_makeForms 110 = .ok (.iload_n 2, 1) := by decide +kernel
theorem dX1_makeForms_111 : decode cX1_makeForms 111 = .ok (.iconst 1, 1) := by decide +kernel
theorem dX1_makeForms_112 : decode cX1_makeForms 112 = .ok (.iadd, 1) := by decide +kernel
theorem dX1_makeForms_113 : decode cX1_makeForms 113 = .ok (.iaload, 1) := by decide +kernel
theorem dX1_makeForms_114 : decode cX1_makeForms 114 = .ok (.iastore, 1) := by decide +kernel
theorem dX1_makeForms_115 : decode cX1_makeForms 115 = .ok (.iinc 2 1, 3) := by decide +kernel
theorem dX1_makeForms_118 : decode cX1_makeForms 118 = .ok (.goto (-25), 3) := by decide +kernel
theorem dX1_makeForms_121 : decode cX1_makeForms 121 = .ok (.iinc 1 1, 3) := by decide +kernel
theorem dX1_makeForms_124 : decode cX1_makeForms 124 = .ok (.goto (-89), 3) := by decide +kernel
theorem dX1_makeForms_127 : decode cX1_makeForms 127 = .ok (.aload_n 0, 1) := by decide +kernel
theorem dX1_makeForms_128 : decode cX1_makeForms 128 = .ok (.iconst 1, 1) := by decide +kernel
theorem dX1_makeForms_129 : decode cX1_makeForms 129 = .ok (.putfield 43, 3) := by decide +kernel
theorem dX1_makeForms_132 : decode cX1_makeForms 132 = .ok (.return_, 1) := by decide +kernel
theorem dX1_sumOfForms_0 : decode cX1_sumOfForms 0 = .ok (.iconst 0, 1) := by decide +kernel
theorem dX1_sumOfForms_1 : decode cX1_sumOfForms 1 = .ok (.istore_n 2, 1) := by decide +kernel
theorem dX1_sumOfForms_2 : decode cX1_sumOfForms 2 = .ok (.iconst 0, 1) := by decide +kernel
theorem dX1_sumOfForms_3 : decode cX1_sumOfForms 3 = .ok (.istore_n 3, 1) := by decide +kernel
theorem dX1_sumOfForms_4 : decode cX1_sumOfForms 4 = .ok (.iload_n 3, 1) := by decide +kernel
theorem dX1_sumOfForms_5 : decode cX1_sumOfForms 5 = .ok (.aload_n 0, 1) := by decide +kernel
theorem dX1_sumOfForms_6 : decode cX1_sumOfForms 6 = .ok (.getfield 36, 3) := by decide +kernel
theorem dX1_sumOfForms_9 : decode cX1_sumOfForms 9 = .ok (.if_icmp .ge 26, 3) := by decide +kernel
theorem dX1_sumOfForms_12 : decode cX1_sumOfForms 12 = .ok (.iload_n 1, 1) := by decide +kernel
theorem dX1_sumOfForms_13 : decode cX1_sumOfForms 13 = .ok (.iload_n 3, 1) := by decide +kernel
theorem dX1_sumOfForms_14 : decode cX1_sumOfForms 14 = .ok (.ishr, 1) := by decide +kernel
theorem dX1_sumOfForms_15 : decode cX1_sumOfForms 15 = .ok (.iconst 1, 1) := by decide +kernel
theorem dX1_sumOfForms_16 : decode cX1_sumOfForms 16 = .ok (.iand, 1) := by decide +kernel
theorem dX1_sumOfForms_17 : decode cX1_sumOfForms 17 = .ok (.ifCond .eq 12, 3) := by decide +kernel
theorem dX1_sumOfForms_20 : decode cX1_sumOfForms 20 = .ok (.iload_n 2, 1) := by decide +kernel
theorem dX1_sumOfForms_21 : decode cX1_sumOfForms 21 = .ok (.aload_n 0, 1) := by decide +kernel
theorem dX1_sumOfForms_22 : decode cX1_sumOfForms 22 = .ok (.getfield 20, 3) := by decide +kernel
theorem dX1_sumOfForms_25 : decode cX1_sumOfForms 25 = .ok (.iload_n 3, 1) := by decide +kernel
theorem dX1_sumOfForms_26 : decode cX1_sumOfForms 26 = .ok (.iaload, 1) := by decide +kernel
theorem dX1_sumOfForms_27 : decode cX1_sumOfForms 27 = .ok (.ixor, 1) := by decide +kernel
theorem dX1_sumOfForms_28 : decode cX1_sumOfForms 28 = .ok (.istore_n 2, 1) := by decide +kernel
theorem dX1_sumOfForms_29 : decode cX1_sumOfForms 29 = .ok (.iinc 3 1, 3) := by decide +kernel
theorem dX1_sumOfForms_32 : decode cX1_sumOfForms 32 = .ok (.goto (-28), 3) := by decide +kernel
theorem dX1_sumOfForms_35 : decode cX1_sumOfForms 35 = .ok (.iload_n 2, 1) := by decide +kernel
theorem dX1_sumOfForms_36 : decode cX1_sumOfForms 36 = .ok (.ireturn, 1) := by decide +kernel
theorem dX1_parity_0 : decode cX1_parity 0 = .ok (.iconst 0, 1) := by decide +kernel
theorem dX1_parity_1 : decode cX1_parity 1 = .ok (.istore_n 2, 1) := by decide +kernel
theorem dX1_parity_2 : decode cX1_parity 2 = .ok (.iconst 0, 1) := by decide +kernel
theorem dX1_parity_3 : decode cX1_parity 3 = .ok (.istore_n 3, 1) := by decide +kernel
theorem dX1_parity_4 : decode cX1_parity 4 = .ok (.iload_n 3, 1) := by decide +kernel
theorem dX1_parity_5 : decode cX1_parity 5 = .ok (.bipush 8, 2) := by decide +kernel
theorem dX1_parity_7 : decode cX1_parity 7 = .ok (.if_icmp .ge 17, 3) := by decide +kernel
theorem dX1_parity_10 : decode cX1_parity 10 = .ok (.iload_n 2, 1) := by decide +kernel
theorem dX1_parity_11 : decode cX1_parity 11 = .ok (.iload_n 1, 1) := by decide +kernel
theorem dX1_parity_12 : decode cX1_parity 12 = .ok (.iload_n 3, 1) := by decide +kernel
theorem dX1_parity_13 : decode cX1_parity 13 = .ok (.ishr, 1) := by decide +kernel
theorem dX1_parity_14 : decode cX1_parity 14 = .ok (.iconst 1, 1) := by decide +kernel
theorem dX1_parity_15 : decode cX1_parity 15 = .ok (.iand, 1) := by decide +kernel
theorem dX1_parity_16 : decode cX1_parity 16 = .ok (.ixor, 1) := by decide +kernel
theorem dX1_parity_17 : decode cX1_parity 17 = .ok (.istore_n 2, 1) := by decide +kernel
theorem dX1_parity_18 : decode cX1_parity 18 = .ok (.iinc 3 1, 3) := by decide +kernel
theorem dX1_parity_21 : decode cX1_parity 21 = .ok (.goto (-17), 3) := by decide +kernel
theorem dX1_parity_24 : decode cX1_parity 24 = .ok (.iload_n 2, 1) := by decide +kernel
theorem dX1_parity_25 : decode cX1_parity 25 = .ok (.ireturn, 1) := by decide +kernel
theorem dX1_seeds_0 : decode cX1_seeds 0 = .ok (.aload_n 0, 1) := by decide +kernel
theorem dX1_seeds_1 : decode cX1_seeds 1 = .ok (.iload_n 1, 1) := by decide +kernel
theorem dX1_seeds_2 : decode cX1_seeds 2 = .ok (.invokevirtual 61, 3) := by decide +kernel
theorem dX1_seeds_5 : decode cX1_seeds 5 = .ok (.ifCond .ne 5, 3) := by decide +kernel
theorem dX1_seeds_8 : decode cX1_seeds 8 = .ok (.iconst (-1), 1) := by decide +kernel
theorem dX1_seeds_9 : decode cX1_seeds 9 = .ok (.ireturn, 1) := by decide +kernel
theorem dX1_seeds_10 : decode cX1_seeds 10 = .ok (.aload_n 0, 1) := by decide +kernel
theorem dX1_seeds_11 : decode cX1_seeds 11 = .ok (.iload_n 1, 1) := by decide +kernel
theorem dX1_seeds_12 : decode cX1_seeds 12 = .ok (.invokevirtual 65, 3) := by decide +kernel
theorem dX1_seeds_15 : decode cX1_seeds 15 = .ok (.ifCond .ne 5, 3) := by decide +kernel
theorem dX1_seeds_18 : decode cX1_seeds 18 = .ok (.iconst 0, 1) := by decide +kernel
theorem dX1_seeds_19 : decode cX1_seeds 19 = .ok (.ireturn, 1) := by decide +kernel
theorem dX1_seeds_20 : decode cX1_seeds 20 = .ok (.iconst 0, 1) := by decide +kernel
theorem dX1_seeds_21 : decode cX1_seeds 21 = .ok (.istore_n 2, 1) := by decide +kernel
theorem dX1_seeds_22 : decode cX1_seeds 22 = .ok (.iconst 0, 1) := by decide +kernel
theorem dX1_seeds_23 : decode cX1_seeds 23 = .ok (.istore_n 3, 1) := by decide +kernel
theorem dX1_seeds_24 : decode cX1_seeds 24 = .ok (.iload_n 3, 1) := by decide +kernel
theorem dX1_seeds_25 : decode cX1_seeds 25 = .ok (.aload_n 0, 1) := by decide +kernel
theorem dX1_seeds_26 : decode cX1_seeds 26 = .ok (.getfield 36, 3) := by decide +kernel
theorem dX1_seeds_29 : decode cX1_seeds 29 = .ok (.if_icmp .ge 21, 3) := by decide +kernel
theorem dX1_seeds_32 : decode cX1_seeds 32 = .ok (.aload_n 0, 1) := by decide +kernel
theorem dX1_seeds_33 : decode cX1_seeds 33 = .ok (.getfield 23, 3) := by decide +kernel
theorem dX1_seeds_36 : decode cX1_seeds 36 = .ok (.iload_n 3, 1) := by decide +kernel
theorem dX1_seeds_37 : decode cX1_seeds 37 = .ok (.iaload, 1) := by decide +kernel
theorem dX1_seeds_38 : decode cX1_seeds 38 = .ok (.ifCond .ne 6, 3) := by decide +kernel
theorem dX1_seeds_41 : decode cX1_seeds 41 = .ok (.iinc 2 1, 3) := by decide +kernel
theorem dX1_seeds_44 : decode cX1_seeds 44 = .ok (.iinc 3 1, 3) := by decide +kernel
theorem dX1_seeds_47 : decode cX1_seeds 47 = .ok (.goto (-23), 3) := by decide +kernel
theorem dX1_seeds_50 : decode cX1_seeds 50 = .ok (.iconst 1, 1) := by decide +kernel
theorem dX1_seeds_51 : decode cX1_seeds 51 = .ok (.iload_n 2, 1) := by decide +kernel
theorem dX1_seeds_52 : decode cX1_seeds 52 = .ok (.ishl, 1) := by decide +kernel
theorem dX1_seeds_53 : decode cX1_seeds 53 = .ok (.ireturn, 1) := by decide +kernel
theorem dX1_isCubeSet_0 : decode cX1_isCubeSet 0 = .ok (.iload_n 1, 1) := by decide +kernel
theorem dX1_isCubeSet_1 : decode cX1_isCubeSet 1 = .ok (.ifCond .lt 13, 3) := by decide +kernel
theorem dX1_isCubeSet_4 : decode cX1_isCubeSet 4 = .ok (.iload_n 1, 1) := by decide +kernel
theorem dX1_isCubeSet_5 : decode cX1_isCubeSet 5 = .ok (.bipush 63, 2) := by decide +kernel
theorem dX1_isCubeSet_7 : decode cX1_isCubeSet 7 = .ok (.if_icmp .gt 7, 3) := by decide +kernel
theorem dX1_isCubeSet_10 : decode cX1_isCubeSet 10 = .ok (.iconst 1, 1) := by decide +kernel
theorem dX1_isCubeSet_11 : decode cX1_isCubeSet 11 = .ok (.goto 4, 3) := by decide +kernel
theorem dX1_isCubeSet_14 : decode cX1_isCubeSet 14 = .ok (.iconst 0, 1) := by decide +kernel
theorem dX1_isCubeSet_15 : decode cX1_isCubeSet 15 = .ok (.ireturn, 1) := by decide +kernel
theorem dX1_solve_0 : decode cX1_solve 0 = .ok (.aload_n 0, 1) := by decide +kernel
theorem dX1_solve_1 : decode cX1_solve 1 = .ok (.invokevirtual 54, 3) := by decide +kernel
theorem dX1_solve_4 : decode cX1_solve 4 = .ok (.iconst 0, 1) := by decide +kernel
theorem dX1_solve_5 : decode cX1_solve 5 = .ok (.istore_n 2, 1) := by decide +kernel
theorem dX1_solve_6 : decode cX1_solve 6 = .ok (.iload_n 2, 1) := by decide +kernel
theorem dX1_solve_7 : decode cX1_solve 7 = .ok (.bipush 8, 2) := by decide +kernel
end
section
set_option maxRecDepth 100000
theorem dX1_solve_9 : decode cX1_solve 9 = .ok (.if_icmp .ge 16, 3) := by decide +kernel
theorem dX1_solve_12 : decode cX1_solve 12 = .ok (.aload_n 0, 1) := by decide +kernel
theorem dX1_solve_13 : decode cX1_solve 13 = .ok (.getfield 23, 3) := by decide +kernel
theorem dX1_solve_16 : decode cX1_solve 16 = .ok (.iload_n 2, 1) := by decide +kernel
theorem dX1_solve_17 : decode cX1_solve 17 = .ok (.iconst 0, 1) := by decide +kernel
theorem dX1_solve_18 : decode cX1_solve 18 = .ok (.iastore, 1) := by decide +kernel
theorem dX1_solve_19 : decode cX1_solve 19 = .ok (.iinc 2 1, 3) := by decide +kernel
theorem dX1_solve_22 : decode cX1_solve 22 = .ok (.goto (-16), 3) := by decide +kernel
theorem dX1_solve_25 : decode cX1_solve 25 = .ok (.iconst 0, 1) := by decide +kernel
theorem dX1_solve_26 : decode cX1_solve 26 = .ok (.istore_n 2, 1) := by decide +kernel
theorem dX1_solve_27 : decode cX1_solve 27 = .ok (.iload_n 2, 1) := by decide +kernel
theorem dX1_solve_28 : decode cX1_solve 28 = .ok (.sipush 384, 3) := by decide +kernel
theorem dX1_solve_31 : decode cX1_solve 31 = .ok (.if_icmp .ge 57, 3) := by decide +kernel
theorem dX1_solve_34 : decode cX1_solve 34 = .ok (.iload_n 1, 1) := by decide +kernel
theorem dX1_solve_35 : decode cX1_solve 35 = .ok (.iload_n 2, 1) := by decide +kernel
theorem dX1_solve_36 : decode cX1_solve 36 = .ok (.bipush 6, 2) := by decide +kernel
theorem dX1_solve_38 : decode cX1_solve 38 = .ok (.ishr, 1) := by decide +kernel
theorem dX1_solve_39 : decode cX1_solve 39 = .ok (.ishr, 1) := by decide +kernel
theorem dX1_solve_40 : decode cX1_solve 40 = .ok (.iconst 1, 1) := by decide +kernel
theorem dX1_solve_41 : decode cX1_solve 41 = .ok (.iand, 1) := by decide +kernel
theorem dX1_solve_42 : decode cX1_solve 42 = .ok (.ifCond .eq 40, 3) := by decide +kernel
theorem dX1_solve_45 : decode cX1_solve 45 = .ok (.aload_n 0, 1) := by decide +kernel
theorem dX1_solve_46 : decode cX1_solve 46 = .ok (.getfield 13, 3) := by decide +kernel
theorem dX1_solve_49 : decode cX1_solve 49 = .ok (.iload_n 2, 1) := by decide +kernel
theorem dX1_solve_50 : decode cX1_solve 50 = .ok (.baload, 1) := by decide +kernel
theorem dX1_solve_51 : decode cX1_solve 51 = .ok (.iconst 2, 1) := by decide +kernel
theorem dX1_solve_52 : decode cX1_solve 52 = .ok (.if_icmp .ne 6, 3) := by decide +kernel
theorem dX1_solve_55 : decode cX1_solve 55 = .ok (.goto 27, 3) := by decide +kernel
theorem dX1_solve_58 : decode cX1_solve 58 = .ok (.aload_n 0, 1) := by decide +kernel
theorem dX1_solve_59 : decode cX1_solve 59 = .ok (.aload_n 0, 1) := by decide +kernel
theorem dX1_solve_60 : decode cX1_solve 60 = .ok (.getfield 17, 3) := by decide +kernel
theorem dX1_solve_63 : decode cX1_solve 63 = .ok (.iload_n 2, 1) := by decide +kernel
theorem dX1_solve_64 : decode cX1_solve 64 = .ok (.bipush 63, 2) := by decide +kernel
theorem dX1_solve_66 : decode cX1_solve 66 = .ok (.iand, 1) := by decide +kernel
theorem dX1_solve_67 : decode cX1_solve 67 = .ok (.iaload, 1) := by decide +kernel
theorem dX1_solve_68 : decode cX1_solve 68 = .ok (.aload_n 0, 1) := by decide +kernel
theorem dX1_solve_69 : decode cX1_solve 69 = .ok (.getfield 13, 3) := by decide +kernel
theorem dX1_solve_72 : decode cX1_solve 72 = .ok (.iload_n 2, 1) := by decide +kernel
theorem dX1_solve_73 : decode cX1_solve 73 = .ok (.baload, 1) := by decide +kernel
theorem dX1_solve_74 : decode cX1_solve 74 = .ok (.invokevirtual 84, 3) := by decide +kernel
theorem dX1_solve_77 : decode cX1_solve 77 = .ok (.ifCond .ne 5, 3) := by decide +kernel
theorem dX1_solve_80 : decode cX1_solve 80 = .ok (.iconst 0, 1) := by decide +kernel
theorem dX1_solve_81 : decode cX1_solve 81 = .ok (.ireturn, 1) := by decide +kernel
theorem dX1_solve_82 : decode cX1_solve 82 = .ok (.iinc 2 1, 3) := by decide +kernel
theorem dX1_solve_85 : decode cX1_solve 85 = .ok (.goto (-58), 3) := by decide +kernel
theorem dX1_solve_88 : decode cX1_solve 88 = .ok (.iconst 1, 1) := by decide +kernel
theorem dX1_solve_89 : decode cX1_solve 89 = .ok (.ireturn, 1) := by decide +kernel
theorem dX1_demand_0 : decode cX1_demand 0 = .ok (.aload_n 0, 1) := by decide +kernel
theorem dX1_demand_1 : decode cX1_demand 1 = .ok (.iload_n 1, 1) := by decide +kernel
theorem dX1_demand_2 : decode cX1_demand 2 = .ok (.iload_n 2, 1) := by decide +kernel
theorem dX1_demand_3 : decode cX1_demand 3 = .ok (.invokevirtual 71, 3) := by decide +kernel
theorem dX1_demand_6 : decode cX1_demand 6 = .ok (.istore_n 3, 1) := by decide +kernel
theorem dX1_demand_7 : decode cX1_demand 7 = .ok (.iload_n 3, 1) := by decide +kernel
theorem dX1_demand_8 : decode cX1_demand 8 = .ok (.ifCond .ne 16, 3) := by decide +kernel
theorem dX1_demand_11 : decode cX1_demand 11 = .ok (.aload_n 0, 1) := by decide +kernel
theorem dX1_demand_12 : decode cX1_demand 12 = .ok (.getfield 75, 3) := by decide +kernel
theorem dX1_demand_15 : decode cX1_demand 15 = .ok (.ifCond .ne 7, 3) := by decide +kernel
theorem dX1_demand_18 : decode cX1_demand 18 = .ok (.iconst 1, 1) := by decide +kernel
theorem dX1_demand_19 : decode cX1_demand 19 = .ok (.goto 4, 3) := by decide +kernel
theorem dX1_demand_22 : decode cX1_demand 22 = .ok (.iconst 0, 1) := by decide +kernel
theorem dX1_demand_23 : decode cX1_demand 23 = .ok (.ireturn, 1) := by decide +kernel
theorem dX1_demand_24 : decode cX1_demand 24 = .ok (.aload_n 0, 1) := by decide +kernel
theorem dX1_demand_25 : decode cX1_demand 25 = .ok (.getfield 36, 3) := by decide +kernel
theorem dX1_demand_28 : decode cX1_demand 28 = .ok (.iconst 1, 1) := by decide +kernel
theorem dX1_demand_29 : decode cX1_demand 29 = .ok (.isub, 1) := by decide +kernel
theorem dX1_demand_30 : decode cX1_demand 30 = .ok (.istore 4, 2) := by decide +kernel
theorem dX1_demand_32 : decode cX1_demand 32 = .ok (.iload_n 3, 1) := by decide +kernel
theorem dX1_demand_33 : decode cX1_demand 33 = .ok (.iload 4, 2) := by decide +kernel
theorem dX1_demand_35 : decode cX1_demand 35 = .ok (.ishr, 1) := by decide +kernel
theorem dX1_demand_36 : decode cX1_demand 36 = .ok (.iconst 1, 1) := by decide +kernel
theorem dX1_demand_37 : decode cX1_demand 37 = .ok (.iand, 1) := by decide +kernel
theorem dX1_demand_38 : decode cX1_demand 38 = .ok (.ifCond .ne 9, 3) := by decide +kernel
theorem dX1_demand_41 : decode cX1_demand 41 = .ok (.iinc 4 (-1), 3) := by decide +kernel
theorem dX1_demand_44 : decode cX1_demand 44 = .ok (.goto (-12), 3) := by decide +kernel
theorem dX1_demand_47 : decode cX1_demand 47 = .ok (.aload_n 0, 1) := by decide +kernel
theorem dX1_demand_48 : decode cX1_demand 48 = .ok (.getfield 23, 3) := by decide +kernel
theorem dX1_demand_51 : decode cX1_demand 51 = .ok (.iload 4, 2) := by decide +kernel
theorem dX1_demand_53 : decode cX1_demand 53 = .ok (.iload_n 3, 1) := by decide +kernel
theorem dX1_demand_54 : decode cX1_demand 54 = .ok (.iastore, 1) := by decide +kernel
theorem dX1_demand_55 : decode cX1_demand 55 = .ok (.aload_n 0, 1) := by decide +kernel
theorem dX1_demand_56 : decode cX1_demand 56 = .ok (.getfield 26, 3) := by decide +kernel
theorem dX1_demand_59 : decode cX1_demand 59 = .ok (.iload 4, 2) := by decide +kernel
theorem dX1_demand_61 : decode cX1_demand 61 = .ok (.aload_n 0, 1) := by decide +kernel
theorem dX1_demand_62 : decode cX1_demand 62 = .ok (.getfield 75, 3) := by decide +kernel
theorem dX1_demand_65 : decode cX1_demand 65 = .ok (.iastore, 1) := by decide +kernel
theorem dX1_demand_66 : decode cX1_demand 66 = .ok (.iconst 1, 1) := by decide +kernel
theorem dX1_demand_67 : decode cX1_demand 67 = .ok (.ireturn, 1) := by decide +kernel
theorem dX1_reduce_0 : decode cX1_reduce 0 = .ok (.iload_n 1, 1) := by decide +kernel
theorem dX1_reduce_1 : decode cX1_reduce 1 = .ok (.istore_n 3, 1) := by decide +kernel
theorem dX1_reduce_2 : decode cX1_reduce 2 = .ok (.aload_n 0, 1) := by decide +kernel
theorem dX1_reduce_3 : decode cX1_reduce 3 = .ok (.iload_n 2, 1) := by decide +kernel
theorem dX1_reduce_4 : decode cX1_reduce 4 = .ok (.putfield 75, 3) := by decide +kernel
theorem dX1_reduce_7 : decode cX1_reduce 7 = .ok (.aload_n 0, 1) := by decide +kernel
theorem dX1_reduce_8 : decode cX1_reduce 8 = .ok (.getfield 36, 3) := by decide +kernel
theorem dX1_reduce_11 : decode cX1_reduce 11 = .ok (.iconst 1, 1) := by decide +kernel
theorem dX1_reduce_12 : decode cX1_reduce 12 = .ok (.isub, 1) := by decide +kernel
theorem dX1_reduce_13 : decode cX1_reduce 13 = .ok (.istore 4, 2) := by decide +kernel
theorem dX1_reduce_15 : decode cX1_reduce 15 = .ok (.iload 4, 2) := by decide +kernel
theorem dX1_reduce_17 : decode cX1_reduce 17 = .ok (.ifCond .lt 57, 3) := by decide +kernel
theorem dX1_reduce_20 : decode cX1_reduce 20 = .ok (.iload_n 3, 1) := by decide +kernel
theorem dX1_reduce_21 : decode cX1_reduce 21 = .ok (.iload 4, 2) := by decide +kernel
theorem dX1_reduce_23 : decode cX1_reduce 23 = .ok (.ishr, 1) := by decide +kernel
theorem dX1_reduce_24 : decode cX1_reduce 24 = .ok (.iconst 1, 1) := by decide +kernel
theorem dX1_reduce_25 : decode cX1_reduce 25 = .ok (.iand, 1) := by decide +kernel
theorem dX1_reduce_26 : decode cX1_reduce 26 = .ok (.ifCond .eq 42, 3) := by decide +kernel
theorem dX1_reduce_29 : decode cX1_reduce 29 = .ok (.aload_n 0, 1) := by decide +kernel
theorem dX1_reduce_30 : decode cX1_reduce 30 = .ok (.getfield 23, 3) := by decide +kernel
theorem dX1_reduce_33 : decode cX1_reduce 33 = .ok (.iload 4, 2) := by decide +kernel
theorem dX1_reduce_35 : decode cX1_reduce 35 = .ok (.iaload, 1) := by decide +kernel
theorem dX1_reduce_36 : decode cX1_reduce 36 = .ok (.ifCond .ne 6, 3) := by decide +kernel
theorem dX1_reduce_39 : decode cX1_reduce 39 = .ok (.goto 29, 3) := by decide +kernel
theorem dX1_reduce_42 : decode cX1_reduce 42 = .ok (.iload_n 3, 1) := by decide +kernel
theorem dX1_reduce_43 : decode cX1_reduce 43 = .ok (.aload_n 0, 1) := by decide +kernel
theorem dX1_reduce_44 : decode cX1_reduce 44 = .ok (.getfield 23, 3) := by decide +kernel
theorem dX1_reduce_47 : decode cX1_reduce 47 = .ok (.iload 4, 2) := by decide +kernel
theorem dX1_reduce_49 : decode cX1_reduce 49 = .ok (.iaload, 1) := by decide +kernel
theorem dX1_reduce_50 : decode cX1_reduce 50 = .ok (.ixor, 1) := by decide +kernel
theorem dX1_reduce_51 : decode cX1_reduce 51 = .ok (.istore_n 3, 1) := by decide +kernel
theorem dX1_reduce_52 : decode cX1_reduce 52 = .ok (.aload_n 0, 1) := by decide +kernel
theorem dX1_reduce_53 : decode cX1_reduce 53 = .ok (.dup, 1) := by decide +kernel
theorem dX1_reduce_54 : decode cX1_reduce 54 = .ok (.getfield 75, 3) := by decide +kernel
theorem dX1_reduce_57 : decode cX1_reduce 57 = .ok (.aload_n 0, 1) := by decide +kernel
theorem dX1_reduce_58 : decode cX1_reduce 58 = .ok (.getfield 26, 3) := by decide +kernel
theorem dX1_reduce_61 : decode cX1_reduce 61 = .ok (.iload 4, 2) := by decide +kernel
theorem dX1_reduce_63 : decode cX1_reduce 63 = .ok (.iaload, 1) := by decide +kernel
theorem dX1_reduce_64 : decode cX1_reduce 64 = .ok (.ixor, 1) := by decide +kernel
theorem dX1_reduce_65 : decode cX1_reduce 65 = .ok (.putfield 75, 3) := by decide +kernel
theorem dX1_reduce_68 : decode cX1_reduce 68 = .ok (.iinc 4 (-1), 3) := by decide +kernel
theorem dX1_reduce_71 : decode cX1_reduce 71 = .ok (.goto (-56), 3) := by decide +kernel
theorem dX1_reduce_74 : decode cX1_reduce 74 = .ok (.iload_n 3, 1) := by decide +kernel
theorem dX1_reduce_75 : decode cX1_reduce 75 = .ok (.ireturn, 1) := by decide +kernel
theorem dX1_leastSeed_0 : decode cX1_leastSeed 0 = .ok (.aload_n 0, 1) := by decide +kernel
theorem dX1_leastSeed_1 : decode cX1_leastSeed 1 = .ok (.iload_n 1, 1) := by decide +kernel
theorem dX1_leastSeed_2 : decode cX1_leastSeed 2 = .ok (.invokevirtual 61, 3) := by decide +kernel
theorem dX1_leastSeed_5 : decode cX1_leastSeed 5 = .ok (.ifCond .ne 5, 3) := by decide +kernel
theorem dX1_leastSeed_8 : decode cX1_leastSeed 8 = .ok (.iconst (-1), 1) := by decide +kernel
theorem dX1_leastSeed_9 : decode cX1_leastSeed 9 = .ok (.ireturn, 1) := by decide +kernel
theorem dX1_leastSeed_10 : decode cX1_leastSeed 10 = .ok (.aload_n 0, 1) := by decide +kernel
theorem dX1_leastSeed_11 : decode cX1_leastSeed 11 = .ok (.iload_n 1, 1) := by decide +kernel
theorem dX1_leastSeed_12 : decode cX1_leastSeed 12 = .ok (.invokevirtual 65, 3) := by decide +kernel
theorem dX1_leastSeed_15 : decode cX1_leastSeed 15 = .ok (.ifCond .eq 11, 3) := by decide +kernel
theorem dX1_leastSeed_18 : decode cX1_leastSeed 18 = .ok (.aload_n 0, 1) := by decide +kernel
theorem dX1_leastSeed_19 : decode cX1_leastSeed 19 = .ok (.iconst 0, 1) := by decide +kernel
theorem dX1_leastSeed_20 : decode cX1_leastSeed 20 = .ok (.invokevirtual 68, 3) := by decide +kernel
theorem dX1_leastSeed_23 : decode cX1_leastSeed 23 = .ok (.goto 5, 3) := by decide +kernel
theorem dX1_leastSeed_26 : decode cX1_leastSeed 26 = .ok (.bipush (-2), 2) := by decide +kernel
theorem dX1_leastSeed_28 : decode cX1_leastSeed 28 = .ok (.ireturn, 1) := by decide +kernel
theorem dX1_complete_0 : decode cX1_complete 0 = .ok (.iconst 0, 1) := by decide +kernel
theorem dX1_complete_1 : decode cX1_complete 1 = .ok (.istore_n 2, 1) := by decide +kernel
theorem dX1_complete_2 : decode cX1_complete 2 = .ok (.aload_n 0, 1) := by decide +kernel
theorem dX1_complete_3 : decode cX1_complete 3 = .ok (.getfield 36, 3) := by decide +kernel
theorem dX1_complete_6 : decode cX1_complete 6 = .ok (.iconst 1, 1) := by decide +kernel
theorem dX1_complete_7 : decode cX1_complete 7 = .ok (.isub, 1) := by decide +kernel
theorem dX1_complete_8 : decode cX1_complete 8 = .ok (.istore_n 3, 1) := by decide +kernel
theorem dX1_complete_9 : decode cX1_complete 9 = .ok (.iload_n 3, 1) := by decide +kernel
theorem dX1_complete_10 : decode cX1_complete 10 = .ok (.ifCond .lt 55, 3) := by decide +kernel
theorem dX1_complete_13 : decode cX1_complete 13 = .ok (.aload_n 0, 1) := by decide +kernel
theorem dX1_complete_14 : decode cX1_complete 14 = .ok (.iconst 1, 1) := by decide +kernel
theorem dX1_complete_15 : decode cX1_complete 15 = .ok (.iload_n 3, 1) := by decide +kernel
theorem dX1_complete_16 : decode cX1_complete 16 = .ok (.ishl, 1) := by decide +kernel
theorem dX1_complete_17 : decode cX1_complete 17 = .ok (.iconst 0, 1) := by decide +kernel
theorem dX1_complete_18 : decode cX1_complete 18 = .ok (.invokevirtual 71, 3) := by decide +kernel
theorem dX1_complete_21 : decode cX1_complete 21 = .ok (.istore 4, 2) := by decide +kernel
theorem dX1_complete_23 : decode cX1_complete 23 = .ok (.iload 4, 2) := by decide +kernel
theorem dX1_complete_25 : decode cX1_complete 25 = .ok (.ifCond .ne 10, 3) := by decide +kernel
theorem dX1_complete_28 : decode cX1_complete 28 = .ok (.aload_n 0, 1) := by decide +kernel
theorem dX1_complete_29 : decode cX1_complete 29 = .ok (.getfield 75, 3) := by decide +kernel
theorem dX1_complete_32 : decode cX1_complete 32 = .ok (.goto 4, 3) := by decide +kernel
theorem dX1_complete_35 : decode cX1_complete 35 = .ok (.iload_n 1, 1) := by decide +kernel
theorem dX1_complete_36 : decode cX1_complete 36 = .ok (.istore 5, 2) := by decide +kernel
theorem dX1_complete_38 : decode cX1_complete 38 = .ok (.iload 4, 2) := by decide +kernel
theorem dX1_complete_40 : decode cX1_complete 40 = .ok (.ifCond .eq 12, 3) := by decide +kernel
theorem dX1_complete_43 : decode cX1_complete 43 = .ok (.aload_n 0, 1) := by decide +kernel
theorem dX1_complete_44 : decode cX1_complete 44 = .ok (.iconst 1, 1) := by decide +kernel
theorem dX1_complete_45 : decode cX1_complete 45 = .ok (.iload_n 3, 1) := by decide +kernel
theorem dX1_complete_46 : decode cX1_complete 46 = .ok (.ishl, 1) := by decide +kernel
theorem dX1_complete_47 : decode cX1_complete 47 = .ok (.iload_n 1, 1) := by decide +kernel
theorem dX1_complete_48 : decode cX1_complete 48 = .ok (.invokevirtual 84, 3) := by decide +kernel
theorem dX1_complete_51 : decode cX1_complete 51 = .ok (.pop, 1) := by decide +kernel
theorem dX1_complete_52 : decode cX1_complete 52 = .ok (.iload_n 2, 1) := by decide +kernel
theorem dX1_complete_53 : decode cX1_complete 53 = .ok (.iload 5, 2) := by decide +kernel
theorem dX1_complete_55 : decode cX1_complete 55 = .ok (.iload_n 3, 1) := by decide +kernel
theorem dX1_complete_56 : decode cX1_complete 56 = .ok (.ishl, 1) := by decide +kernel
theorem dX1_complete_57 : decode cX1_complete 57 = .ok (.ior, 1) := by decide +kernel
theorem dX1_complete_58 : decode cX1_complete 58 = .ok (.istore_n 2, 1) := by decide +kernel
theorem dX1_complete_59 : decode cX1_complete 59 = .ok (.iinc 3 (-1), 3) := by decide +kernel
theorem dX1_complete_62 : decode cX1_complete 62 = .ok (.goto (-53), 3) := by decide +kernel
theorem dX1_complete_65 : decode cX1_complete 65 = .ok (.iload_n 2, 1) := by decide +kernel
theorem dX1_complete_66 : decode cX1_complete 66 = .ok (.ireturn, 1) := by decide +kernel
theorem dX1_greatestSeed_0 : decode cX1_greatestSeed 0 = .ok (.aload_n 0, 1) := by decide +kernel
theorem dX1_greatestSeed_1 : decode cX1_greatestSeed 1 = .ok (.iload_n 1, 1) := by decide +kernel
theorem dX1_greatestSeed_2 : decode cX1_greatestSeed 2 = .ok (.invokevirtual 61, 3) := by decide +kernel
theorem dX1_greatestSeed_5 : decode cX1_greatestSeed 5 = .ok (.ifCond .ne 5, 3) := by decide +kernel
theorem dX1_greatestSeed_8 : decode cX1_greatestSeed 8 = .ok (.iconst (-1), 1) := by decide +kernel
theorem dX1_greatestSeed_9 : decode cX1_greatestSeed 9 = .ok (.ireturn, 1) := by decide +kernel
theorem dX1_greatestSeed_10 : decode cX1_greatestSeed 10 = .ok (.aload_n 0, 1) := by decide +kernel
theorem dX1_greatestSeed_11 : decode cX1_greatestSeed 11 = .ok (.iload_n 1, 1) := by decide +kernel
theorem dX1_greatestSeed_12 : decode cX1_greatestSeed 12 = .ok (.invokevirtual 65, 3) := by decide +kernel
theorem dX1_greatestSeed_15 : decode cX1_greatestSeed 15 = .ok (.ifCond .eq 11, 3) := by decide +kernel
theorem dX1_greatestSeed_18 : decode cX1_greatestSeed 18 = .ok (.aload_n 0, 1) := by decide +kernel
theorem dX1_greatestSeed_19 : decode cX1_greatestSeed 19 = .ok (.iconst 1, 1) := by decide +kernel
theorem dX1_greatestSeed_20 : decode cX1_greatestSeed 20 = .ok (.invokevirtual 68, 3) := by decide +kernel
theorem dX1_greatestSeed_23 : decode cX1_greatestSeed 23 = .ok (.goto 5, 3) := by decide +kernel
theorem dX1_greatestSeed_26 : decode cX1_greatestSeed 26 = .ok (.bipush (-2), 2) := by decide +kernel
theorem dX1_greatestSeed_28 : decode cX1_greatestSeed 28 = .ok (.ireturn, 1) := by decide +kernel
theorem dX1_forced_0 : decode cX1_forced 0 = .ok (.aload_n 0, 1) := by decide +kernel
theorem dX1_forced_1 : decode cX1_forced 1 = .ok (.iload_n 1, 1) := by decide +kernel
theorem dX1_forced_2 : decode cX1_forced 2 = .ok (.invokevirtual 61, 3) := by decide +kernel
theorem dX1_forced_5 : decode cX1_forced 5 = .ok (.ifCond .eq 12, 3) := by decide +kernel
theorem dX1_forced_8 : decode cX1_forced 8 = .ok (.aload_n 0, 1) := by decide +kernel
theorem dX1_forced_9 : decode cX1_forced 9 = .ok (.iload_n 2, 1) := by decide +kernel
theorem dX1_forced_10 : decode cX1_forced 10 = .ok (.iload_n 3, 1) := by decide +kernel
theorem dX1_forced_11 : decode cX1_forced 11 = .ok (.invokevirtual 50, 3) := by decide +kernel
theorem dX1_forced_14 : decode cX1_forced 14 = .ok (.ifCond .ne 5, 3) := by decide +kernel
theorem dX1_forced_17 : decode cX1_forced 17 = .ok (.iconst (-1), 1) := by decide +kernel
theorem dX1_forced_18 : decode cX1_forced 18 = .ok (.ireturn, 1) := by decide +kernel
theorem dX1_forced_19 : decode cX1_forced 19 = .ok (.aload_n 0, 1) := by decide +kernel
theorem dX1_forced_20 : decode cX1_forced 20 = .ok (.iload_n 1, 1) := by decide +kernel
theorem dX1_forced_21 : decode cX1_forced 21 = .ok (.invokevirtual 65, 3) := by decide +kernel
theorem dX1_forced_24 : decode cX1_forced 24 = .ok (.ifCond .ne 6, 3) := by decide +kernel
theorem dX1_forced_27 : decode cX1_forced 27 = .ok (.bipush (-2), 2) := by decide +kernel
theorem dX1_forced_29 : decode cX1_forced 29 = .ok (.ireturn, 1) := by decide +kernel
theorem dX1_forced_30 : decode cX1_forced 30 = .ok (.aload_n 0, 1) := by decide +kernel
theorem dX1_forced_31 : decode cX1_forced 31 = .ok (.aload_n 0, 1) := by decide +kernel
theorem dX1_forced_32 : decode cX1_forced 32 = .ok (.getfield 17, 3) := by decide +kernel
theorem dX1_forced_35 : decode cX1_forced 35 = .ok (.iconst 4, 1) := by decide +kernel
theorem dX1_forced_36 : decode cX1_forced 36 = .ok (.iload_n 2, 1) := by decide +kernel
theorem dX1_forced_37 : decode cX1_forced 37 = .ok (.imul, 1) := by decide +kernel
theorem dX1_forced_38 : decode cX1_forced 38 = .ok (.iload_n 3, 1) := by decide +kernel
theorem dX1_forced_39 : decode cX1_forced 39 = .ok (.iadd, 1) := by decide +kernel
theorem dX1_forced_40 : decode cX1_forced 40 = .ok (.iaload, 1) := by decide +kernel
theorem dX1_forced_41 : decode cX1_forced 41 = .ok (.iconst 0, 1) := by decide +kernel
theorem dX1_forced_42 : decode cX1_forced 42 = .ok (.invokevirtual 71, 3) := by decide +kernel
theorem dX1_forced_45 : decode cX1_forced 45 = .ok (.istore 4, 2) := by decide +kernel
theorem dX1_forced_47 : decode cX1_forced 47 = .ok (.iload 4, 2) := by decide +kernel
theorem dX1_forced_49 : decode cX1_forced 49 = .ok (.ifCond .ne 10, 3) := by decide +kernel
theorem dX1_forced_52 : decode cX1_forced 52 = .ok (.aload_n 0, 1) := by decide +kernel
theorem dX1_forced_53 : decode cX1_forced 53 = .ok (.getfield 75, 3) := by decide +kernel
theorem dX1_forced_56 : decode cX1_forced 56 = .ok (.goto 4, 3) := by decide +kernel
theorem dX1_forced_59 : decode cX1_forced 59 = .ok (.iconst 2, 1) := by decide +kernel
theorem dX1_forced_60 : decode cX1_forced 60 = .ok (.ireturn, 1) := by decide +kernel
theorem dX1_seedsNeeded_0 : decode cX1_seedsNeeded 0 = .ok (.aload_n 0, 1) := by decide +kernel
theorem dX1_seedsNeeded_1 : decode cX1_seedsNeeded 1 = .ok (.iload_n 1, 1) := by decide +kernel
theorem dX1_seedsNeeded_2 : decode cX1_seedsNeeded 2 = .ok (.invokevirtual 61, 3) := by decide +kernel
theorem dX1_seedsNeeded_5 : decode cX1_seedsNeeded 5 = .ok (.ifCond .ne 5, 3) := by decide +kernel
theorem dX1_seedsNeeded_8 : decode cX1_seedsNeeded 8 = .ok (.iconst (-1), 1) := by decide +kernel
theorem dX1_seedsNeeded_9 : decode cX1_seedsNeeded 9 = .ok (.ireturn, 1) := by decide +kernel
theorem dX1_seedsNeeded_10 : decode cX1_seedsNeeded 10 = .ok (.aload_n 0, 1) := by decide +kernel
theorem dX1_seedsNeeded_11 : decode cX1_seedsNeeded 11 = .ok (.getfield 47, 3) := by decide +kernel
theorem dX1_seedsNeeded_14 : decode cX1_seedsNeeded 14 = .ok (.ifCond .ne 7, 3) := by decide +kernel
theorem dX1_seedsNeeded_17 : decode cX1_seedsNeeded 17 = .ok (.aload_n 0, 1) := by decide +kernel
theorem dX1_seedsNeeded_18 : decode cX1_seedsNeeded 18 = .ok (.invokevirtual 78, 3) := by decide +kernel
theorem dX1_seedsNeeded_21 : decode cX1_seedsNeeded 21 = .ok (.aload_n 0, 1) := by decide +kernel
theorem dX1_seedsNeeded_22 : decode cX1_seedsNeeded 22 = .ok (.getfield 33, 3) := by decide +kernel
theorem dX1_seedsNeeded_25 : decode cX1_seedsNeeded 25 = .ok (.iload_n 1, 1) := by decide +kernel
theorem dX1_seedsNeeded_26 : decode cX1_seedsNeeded 26 = .ok (.baload, 1) := by decide +kernel
theorem dX1_seedsNeeded_27 : decode cX1_seedsNeeded 27 = .ok (.ireturn, 1) := by decide +kernel
theorem dX1_groupCubes_0 : decode cX1_groupCubes 0 = .ok (.aload_n 0, 1) := by decide +kernel
theorem dX1_groupCubes_1 : decode cX1_groupCubes 1 = .ok (.getfield 29, 3) := by decide +kernel
theorem dX1_groupCubes_4 : decode cX1_groupCubes 4 = .ok (.iconst 0, 1) := by decide +kernel
theorem dX1_groupCubes_5 : decode cX1_groupCubes 5 = .ok (.iconst 0, 1) := by decide +kernel
theorem dX1_groupCubes_6 : decode cX1_groupCubes 6 = .ok (.bastore, 1) := by decide +kernel
theorem dX1_groupCubes_7 : decode cX1_groupCubes 7 = .ok (.aload_n 0, 1) := by decide +kernel
theorem dX1_groupCubes_8 : decode cX1_groupCubes 8 = .ok (.getfield 33, 3) := by decide +kernel
theorem dX1_groupCubes_11 : decode cX1_groupCubes 11 = .ok (.iconst 0, 1) := by decide +kernel
theorem dX1_groupCubes_12 : decode cX1_groupCubes 12 = .ok (.iconst 0, 1) := by decide +kernel
theorem dX1_groupCubes_13 : decode cX1_groupCubes 13 = .ok (.bastore, 1) := by decide +kernel
theorem dX1_groupCubes_14 : decode cX1_groupCubes 14 = .ok (.iconst 1, 1) := by decide +kernel
theorem dX1_groupCubes_15 : decode cX1_groupCubes 15 = .ok (.istore_n 1, 1) := by decide +kernel
theorem dX1_groupCubes_16 : decode cX1_groupCubes 16 = .ok (.iload_n 1, 1) := by decide +kernel
theorem dX1_groupCubes_17 : decode cX1_groupCubes 17 = .ok (.bipush 64, 2) := by decide +kernel
theorem dX1_groupCubes_19 : decode cX1_groupCubes 19 = .ok (.if_icmp .ge 110, 3) := by decide +kernel
theorem dX1_groupCubes_22 : decode cX1_groupCubes 22 = .ok (.aload_n 0, 1) := by decide +kernel
theorem dX1_groupCubes_23 : decode cX1_groupCubes 23 = .ok (.getfield 29, 3) := by decide +kernel
theorem dX1_groupCubes_26 : decode cX1_groupCubes 26 = .ok (.iload_n 1, 1) := by decide +kernel
theorem dX1_groupCubes_27 : decode cX1_groupCubes 27 = .ok (.aload_n 0, 1) := by decide +kernel
theorem dX1_groupCubes_28 : decode cX1_groupCubes 28 = .ok (.iload_n 1, 1) := by decide +kernel
theorem dX1_groupCubes_29 : decode cX1_groupCubes 29 = .ok (.invokevirtual 65, 3) := by decide +kernel
theorem dX1_groupCubes_32 : decode cX1_groupCubes 32 = .ok (.bastore, 1) := by decide +kernel
theorem dX1_groupCubes_33 : decode cX1_groupCubes 33 = .ok (.iload_n 1, 1) := by decide +kernel
theorem dX1_groupCubes_34 : decode cX1_groupCubes 34 = .ok (.iload_n 1, 1) := by decide +kernel
theorem dX1_groupCubes_35 : decode cX1_groupCubes 35 = .ok (.ineg, 1) := by decide +kernel
theorem dX1_groupCubes_36 : decode cX1_groupCubes 36 = .ok (.iand, 1) := by decide +kernel
theorem dX1_groupCubes_37 : decode cX1_groupCubes 37 = .ok (.istore_n 2, 1) := by decide +kernel
theorem dX1_groupCubes_38 : decode cX1_groupCubes 38 = .ok (.bipush (-2), 2) := by decide +kernel
theorem dX1_groupCubes_40 : decode cX1_groupCubes 40 = .ok (.istore_n 3, 1) := by decide +kernel
theorem dX1_groupCubes_41 : decode cX1_groupCubes 41 = .ok (.iload_n 1, 1) := by decide +kernel
theorem dX1_groupCubes_42 : decode cX1_groupCubes 42 = .ok (.istore 4, 2) := by decide +kernel
theorem dX1_groupCubes_44 : decode cX1_groupCubes 44 = .ok (.iload 4, 2) := by decide +kernel
theorem dX1_groupCubes_46 : decode cX1_groupCubes 46 = .ok (.ifCond .le 69, 3) := by decide +kernel
theorem dX1_groupCubes_49 : decode cX1_groupCubes 49 = .ok (.iload 4, 2) := by decide +kernel
theorem dX1_groupCubes_51 : decode cX1_groupCubes 51 = .ok (.iload_n 2, 1) := by decide +kernel
theorem dX1_groupCubes_52 : decode cX1_groupCubes 52 = .ok (.iand, 1) := by decide +kernel
theorem dX1_groupCubes_53 : decode cX1_groupCubes 53 = .ok (.ifCond .eq 51, 3) := by decide +kernel
theorem dX1_groupCubes_56 : decode cX1_groupCubes 56 = .ok (.aload_n 0, 1) := by decide +kernel
theorem dX1_groupCubes_57 : decode cX1_groupCubes 57 = .ok (.getfield 29, 3) := by decide +kernel
theorem dX1_groupCubes_60 : decode cX1_groupCubes 60 = .ok (.iload 4, 2) := by decide +kernel
theorem dX1_groupCubes_62 : decode cX1_groupCubes 62 = .ok (.baload, 1) := by decide +kernel
theorem dX1_groupCubes_63 : decode cX1_groupCubes 63 = .ok (.ifCond .ne 6, 3) := by decide +kernel
theorem dX1_groupCubes_66 : decode cX1_groupCubes 66 = .ok (.goto 38, 3) := by decide +kernel
theorem dX1_groupCubes_69 : decode cX1_groupCubes 69 = .ok (.aload_n 0, 1) := by decide +kernel
theorem dX1_groupCubes_70 : decode cX1_groupCubes 70 = .ok (.getfield 33, 3) := by decide +kernel
theorem dX1_groupCubes_73 : decode cX1_groupCubes 73 = .ok (.iload_n 1, 1) := by decide +kernel
theorem dX1_groupCubes_74 : decode cX1_groupCubes 74 = .ok (.iload 4, 2) := by decide +kernel
theorem dX1_groupCubes_76 : decode cX1_groupCubes 76 = .ok (.iconst (-1), 1) := by decide +kernel
theorem dX1_groupCubes_77 : decode cX1_groupCubes 77 = .ok (.ixor, 1) := by decide +kernel
theorem dX1_groupCubes_78 : decode cX1_groupCubes 78 = .ok (.iand, 1) := by decide +kernel
theorem dX1_groupCubes_79 : decode cX1_groupCubes 79 = .ok (.baload, 1) := by decide +kernel
theorem dX1_groupCubes_80 : decode cX1_groupCubes 80 = .ok (.istore 5, 2) := by decide +kernel
theorem dX1_groupCubes_82 : decode cX1_groupCubes 82 = .ok (.iload 5, 2) := by decide +kernel
theorem dX1_groupCubes_84 : decode cX1_groupCubes 84 = .ok (.ifCond .lt 20, 3) := by decide +kernel
theorem dX1_groupCubes_87 : decode cX1_groupCubes 87 = .ok (.iload_n 3, 1) := by decide +kernel
theorem dX1_groupCubes_88 : decode cX1_groupCubes 88 = .ok (.ifCond .lt 11, 3) := by decide +kernel
theorem dX1_groupCubes_91 : decode cX1_groupCubes 91 = .ok (.iload 5, 2) := by decide +kernel
theorem dX1_groupCubes_93 : decode cX1_groupCubes 93 = .ok (.iconst 1, 1) := by decide +kernel
theorem dX1_groupCubes_94 : decode cX1_groupCubes 94 = .ok (.iadd, 1) := by decide +kernel
theorem dX1_groupCubes_95 : decode cX1_groupCubes 95 = .ok (.iload_n 3, 1) := by decide +kernel
theorem dX1_groupCubes_96 : decode cX1_groupCubes 96 = .ok (.if_icmp .ge 8, 3) := by decide +kernel
theorem dX1_groupCubes_99 : decode cX1_groupCubes 99 = .ok (.iload 5, 2) := by decide +kernel
theorem dX1_groupCubes_101 : decode cX1_groupCubes 101 = .ok (.iconst 1, 1) := by decide +kernel
theorem dX1_groupCubes_102 : decode cX1_groupCubes 102 = .ok (.iadd, 1) := by decide +kernel
theorem dX1_groupCubes_103 : decode cX1_groupCubes 103 = .ok (.istore_n 3, 1) := by decide +kernel
theorem dX1_groupCubes_104 : decode cX1_groupCubes 104 = .ok (.iload 4, 2) := by decide +kernel
theorem dX1_groupCubes_106 : decode cX1_groupCubes 106 = .ok (.iconst 1, 1) := by decide +kernel
theorem dX1_groupCubes_107 : decode cX1_groupCubes 107 = .ok (.isub, 1) := by decide +kernel
theorem dX1_groupCubes_108 : decode cX1_groupCubes 108 = .ok (.iload_n 1, 1) := by decide +kernel
theorem dX1_groupCubes_109 : decode cX1_groupCubes 109 = .ok (.iand, 1) := by decide +kernel
theorem dX1_groupCubes_110 : decode cX1_groupCubes 110 = .ok (.istore 4, 2) := by decide +kernel
theorem dX1_groupCubes_112 : decode cX1_groupCubes 112 = .ok (.goto (-68), 3) := by decide +kernel
theorem dX1_groupCubes_115 : decode cX1_groupCubes 115 = .ok (.aload_n 0, 1) := by decide +kernel
theorem dX1_groupCubes_116 : decode cX1_groupCubes 116 = .ok (.getfield 33, 3) := by decide +kernel
theorem dX1_groupCubes_119 : decode cX1_groupCubes 119 = .ok (.iload_n 1, 1) := by decide +kernel
theorem dX1_groupCubes_120 : decode cX1_groupCubes 120 = .ok (.iload_n 3, 1) := by decide +kernel
theorem dX1_groupCubes_121 : decode cX1_groupCubes 121 = .ok (.i2b, 1) := by decide +kernel
theorem dX1_groupCubes_122 : decode cX1_groupCubes 122 = .ok (.bastore, 1) := by decide +kernel
theorem dX1_groupCubes_123 : decode cX1_groupCubes 123 = .ok (.iinc 1 1, 3) := by decide +kernel
theorem dX1_groupCubes_126 : decode cX1_groupCubes 126 = .ok (.goto (-110), 3) := by decide +kernel
theorem dX1_groupCubes_129 : decode cX1_groupCubes 129 = .ok (.aload_n 0, 1) := by decide +kernel
theorem dX1_groupCubes_130 : decode cX1_groupCubes 130 = .ok (.iconst 1, 1) := by decide +kernel
theorem dX1_groupCubes_131 : decode cX1_groupCubes 131 = .ok (.putfield 47, 3) := by decide +kernel
theorem dX1_groupCubes_134 : decode cX1_groupCubes 134 = .ok (.return_, 1) := by decide +kernel
theorem dX1_forget_0 : decode cX1_forget 0 = .ok (.iload_n 1, 1) := by decide +kernel
theorem dX1_forget_1 : decode cX1_forget 1 = .ok (.ifCond .lt 8, 3) := by decide +kernel
theorem dX1_forget_4 : decode cX1_forget 4 = .ok (.iload_n 1, 1) := by decide +kernel
theorem dX1_forget_5 : decode cX1_forget 5 = .ok (.iconst 5, 1) := by decide +kernel
theorem dX1_forget_6 : decode cX1_forget 6 = .ok (.if_icmp .le 5, 3) := by decide +kernel
theorem dX1_forget_9 : decode cX1_forget 9 = .ok (.iconst 0, 1) := by decide +kernel
theorem dX1_forget_10 : decode cX1_forget 10 = .ok (.ireturn, 1) := by decide +kernel
theorem dX1_forget_11 : decode cX1_forget 11 = .ok (.iconst 0, 1) := by decide +kernel
theorem dX1_forget_12 : decode cX1_forget 12 = .ok (.istore_n 2, 1) := by decide +kernel
theorem dX1_forget_13 : decode cX1_forget 13 = .ok (.iload_n 2, 1) := by decide +kernel
theorem dX1_forget_14 : decode cX1_forget 14 = .ok (.bipush 64, 2) := by decide +kernel
theorem dX1_forget_16 : decode cX1_forget 16 = .ok (.if_icmp .ge 21, 3) := by decide +kernel
theorem dX1_forget_19 : decode cX1_forget 19 = .ok (.aload_n 0, 1) := by decide +kernel
theorem dX1_forget_20 : decode cX1_forget 20 = .ok (.getfield 13, 3) := by decide +kernel
theorem dX1_forget_23 : decode cX1_forget 23 = .ok (.bipush 64, 2) := by decide +kernel
theorem dX1_forget_25 : decode cX1_forget 25 = .ok (.iload_n 1, 1) := by decide +kernel
theorem dX1_forget_26 : decode cX1_forget 26 = .ok (.imul, 1) := by decide +kernel
theorem dX1_forget_27 : decode cX1_forget 27 = .ok (.iload_n 2, 1) := by decide +kernel
theorem dX1_forget_28 : decode cX1_forget 28 = .ok (.iadd, 1) := by decide +kernel
theorem dX1_forget_29 : decode cX1_forget 29 = .ok (.iconst 2, 1) := by decide +kernel
theorem dX1_forget_30 : decode cX1_forget 30 = .ok (.bastore, 1) := by decide +kernel
theorem dX1_forget_31 : decode cX1_forget 31 = .ok (.iinc 2 1, 3) := by decide +kernel
theorem dX1_forget_34 : decode cX1_forget 34 = .ok (.goto (-21), 3) := by decide +kernel
theorem dX1_forget_37 : decode cX1_forget 37 = .ok (.aload_n 0, 1) := by decide +kernel
theorem dX1_forget_38 : decode cX1_forget 38 = .ok (.iconst 0, 1) := by decide +kernel
theorem dX1_forget_39 : decode cX1_forget 39 = .ok (.putfield 47, 3) := by decide +kernel
theorem dX1_forget_42 : decode cX1_forget 42 = .ok (.iconst 1, 1) := by decide +kernel
theorem dX1_forget_43 : decode cX1_forget 43 = .ok (.ireturn, 1) := by decide +kernel
end
section
set_option maxRecDepth 100000
theorem dX2_init_0 : decode cX2_init 0 = .ok (.aload_n 0, 1) := by decide +kernel
theorem dX2_init_1 : decode cX2_init 1 = .ok (.invokespecial 1, 3) := by decide +kernel
theorem dX2_init_4 : decode cX2_init 4 = .ok (.aload_n 0, 1) := by decide +kernel
theorem dX2_init_5 : decode cX2_init 5 = .ok (.iconst 4, 1) := by decide +kernel
theorem dX2_init_6 : decode cX2_init 6 = .ok (.newarray .int, 2) := by decide +kernel
theorem dX2_init_8 : decode cX2_init 8 = .ok (.putfield 7, 3) := by decide +kernel
theorem dX2_init_11 : decode cX2_init 11 = .ok (.aload_n 0, 1) := by decide +kernel
theorem dX2_init_12 : decode cX2_init 12 = .ok (.sipush 384, 3) := by decide +kernel
theorem dX2_init_15 : decode cX2_init 15 = .ok (.newarray .int, 2) := by decide +kernel
theorem dX2_init_17 : decode cX2_init 17 = .ok (.putfield 13, 3) := by decide +kernel
theorem dX2_init_20 : decode cX2_init 20 = .ok (.aload_n 0, 1) := by decide +kernel
theorem dX2_init_21 : decode cX2_init 21 = .ok (.bipush 64, 2) := by decide +kernel
theorem dX2_init_23 : decode cX2_init 23 = .ok (.newarray .int, 2) := by decide +kernel
theorem dX2_init_25 : decode cX2_init 25 = .ok (.putfield 16, 3) := by decide +kernel
theorem dX2_init_28 : decode cX2_init 28 = .ok (.aload_n 0, 1) := by decide +kernel
theorem dX2_init_29 : decode cX2_init 29 = .ok (.iload_n 1, 1) := by decide +kernel
theorem dX2_init_30 : decode cX2_init 30 = .ok (.iconst 3, 1) := by decide +kernel
theorem dX2_init_31 : decode cX2_init 31 = .ok (.if_icmp .ge 7, 3) := by decide +kernel
theorem dX2_init_34 : decode cX2_init 34 = .ok (.iconst 3, 1) := by decide +kernel
theorem dX2_init_35 : decode cX2_init 35 = .ok (.goto 15, 3) := by decide +kernel
theorem dX2_init_38 : decode cX2_init 38 = .ok (.iload_n 1, 1) := by decide +kernel
theorem dX2_init_39 : decode cX2_init 39 = .ok (.bipush 8, 2) := by decide +kernel
theorem dX2_init_41 : decode cX2_init 41 = .ok (.if_icmp .le 8, 3) := by decide +kernel
theorem dX2_init_44 : decode cX2_init 44 = .ok (.bipush 8, 2) := by decide +kernel
theorem dX2_init_46 : decode cX2_init 46 = .ok (.goto 4, 3) := by decide +kernel
theorem dX2_init_49 : decode cX2_init 49 = .ok (.iload_n 1, 1) := by decide +kernel
theorem dX2_init_50 : decode cX2_init 50 = .ok (.putfield 19, 3) := by decide +kernel
theorem dX2_init_53 : decode cX2_init 53 = .ok (.aload_n 0, 1) := by decide +kernel
theorem dX2_init_54 : decode cX2_init 54 = .ok (.iload_n 2, 1) := by decide +kernel
theorem dX2_init_55 : decode cX2_init 55 = .ok (.iconst 1, 1) := by decide +kernel
theorem dX2_init_56 : decode cX2_init 56 = .ok (.aload_n 0, 1) := by decide +kernel
theorem dX2_init_57 : decode cX2_init 57 = .ok (.getfield 19, 3) := by decide +kernel
theorem dX2_init_60 : decode cX2_init 60 = .ok (.ishl, 1) := by decide +kernel
theorem dX2_init_61 : decode cX2_init 61 = .ok (.iconst 1, 1) := by decide +kernel
theorem dX2_init_62 : decode cX2_init 62 = .ok (.isub, 1) := by decide +kernel
theorem dX2_init_63 : decode cX2_init 63 = .ok (.iand, 1) := by decide +kernel
theorem dX2_init_64 : decode cX2_init 64 = .ok (.putfield 23, 3) := by decide +kernel
theorem dX2_init_67 : decode cX2_init 67 = .ok (.iconst 0, 1) := by decide +kernel
theorem dX2_init_68 : decode cX2_init 68 = .ok (.istore_n 3, 1) := by decide +kernel
theorem dX2_init_69 : decode cX2_init 69 = .ok (.iload_n 3, 1) := by decide +kernel
theorem dX2_init_70 : decode cX2_init 70 = .ok (.iconst 4, 1) := by decide +kernel
theorem dX2_init_71 : decode cX2_init 71 = .ok (.if_icmp .ge 23, 3) := by decide +kernel
theorem dX2_init_74 : decode cX2_init 74 = .ok (.aload_n 0, 1) := by decide +kernel
theorem dX2_init_75 : decode cX2_init 75 = .ok (.getfield 7, 3) := by decide +kernel
theorem dX2_init_78 : decode cX2_init 78 = .ok (.iload_n 3, 1) := by decide +kernel
theorem dX2_init_79 : decode cX2_init 79 = .ok (.iconst 1, 1) := by decide +kernel
theorem dX2_init_80 : decode cX2_init 80 = .ok (.iload_n 3, 1) := by decide +kernel
theorem dX2_init_81 : decode cX2_init 81 = .ok (.aload_n 0, 1) := by decide +kernel
theorem dX2_init_82 : decode cX2_init 82 = .ok (.getfield 19, 3) := by decide +kernel
theorem dX2_init_85 : decode cX2_init 85 = .ok (.irem, 1) := by decide +kernel
theorem dX2_init_86 : decode cX2_init 86 = .ok (.ishl, 1) := by decide +kernel
theorem dX2_init_87 : decode cX2_init 87 = .ok (.iastore, 1) := by decide +kernel
theorem dX2_init_88 : decode cX2_init 88 = .ok (.iinc 3 1, 3) := by decide +kernel
theorem dX2_init_91 : decode cX2_init 91 = .ok (.goto (-22), 3) := by decide +kernel
theorem dX2_init_94 : decode cX2_init 94 = .ok (.iconst 0, 1) := by decide +kernel
theorem dX2_init_95 : decode cX2_init 95 = .ok (.istore_n 3, 1) := by decide +kernel
theorem dX2_init_96 : decode cX2_init 96 = .ok (.iload_n 3, 1) := by decide +kernel
theorem dX2_init_97 : decode cX2_init 97 = .ok (.sipush 384, 3) := by decide +kernel
theorem dX2_init_100 : decode cX2_init 100 = .ok (.if_icmp .ge 16, 3) := by decide +kernel
theorem dX2_init_103 : decode cX2_init 103 = .ok (.aload_n 0, 1) := by decide +kernel
theorem dX2_init_104 : decode cX2_init 104 = .ok (.getfield 13, 3) := by decide +kernel
theorem dX2_init_107 : decode cX2_init 107 = .ok (.iload_n 3, 1) := by decide +kernel
theorem dX2_init_108 : decode cX2_init 108 = .ok (.iconst 2, 1) := by decide +kernel
theorem dX2_init_109 : decode cX2_init 109 = .ok (.iastore, 1) := by decide +kernel
theorem dX2_init_110 : decode cX2_init 110 = .ok (.iinc 3 1, 3) := by decide +kernel
theorem dX2_init_113 : decode cX2_init 113 = .ok (.goto (-17), 3) := by decide +kernel
theorem dX2_init_116 : decode cX2_init 116 = .ok (.return_, 1) := by decide +kernel
theorem dX2_shifter_0 : decode cX2_shifter 0 = .ok (.iload_n 1, 1) := by decide +kernel
theorem dX2_shifter_1 : decode cX2_shifter 1 = .ok (.ifCond .lt 16, 3) := by decide +kernel
theorem dX2_shifter_4 : decode cX2_shifter 4 = .ok (.iload_n 1, 1) := by decide +kernel
theorem dX2_shifter_5 : decode cX2_shifter 5 = .ok (.iconst 3, 1) := by decide +kernel
theorem dX2_shifter_6 : decode cX2_shifter 6 = .ok (.if_icmp .gt 11, 3) := by decide +kernel
theorem dX2_shifter_9 : decode cX2_shifter 9 = .ok (.aload_n 0, 1) := by decide +kernel
theorem dX2_shifter_10 : decode cX2_shifter 10 = .ok (.iload_n 2, 1) := by decide +kernel
theorem dX2_shifter_11 : decode cX2_shifter 11 = .ok (.invokevirtual 26, 3) := by decide +kernel
theorem dX2_shifter_14 : decode cX2_shifter 14 = .ok (.ifCond .ne 5, 3) := by decide +kernel
theorem dX2_shifter_17 : decode cX2_shifter 17 = .ok (.iconst 0, 1) := by decide +kernel
theorem dX2_shifter_18 : decode cX2_shifter 18 = .ok (.ireturn, 1) := by decide +kernel
theorem dX2_shifter_19 : decode cX2_shifter 19 = .ok (.aload_n 0, 1) := by decide +kernel
theorem dX2_shifter_20 : decode cX2_shifter 20 = .ok (.getfield 7, 3) := by decide +kernel
theorem dX2_shifter_23 : decode cX2_shifter 23 = .ok (.iload_n 1, 1) := by decide +kernel
theorem dX2_shifter_24 : decode cX2_shifter 24 = .ok (.iload_n 2, 1) := by decide +kernel
theorem dX2_shifter_25 : decode cX2_shifter 25 = .ok (.iastore, 1) := by decide +kernel
theorem dX2_shifter_26 : decode cX2_shifter 26 = .ok (.iconst 1, 1) := by decide +kernel
theorem dX2_shifter_27 : decode cX2_shifter 27 = .ok (.ireturn, 1) := by decide +kernel
theorem dX2_isState_0 : decode cX2_isState 0 = .ok (.iload_n 1, 1) := by decide +kernel
theorem dX2_isState_1 : decode cX2_isState 1 = .ok (.ifCond .lt 17, 3) := by decide +kernel
theorem dX2_isState_4 : decode cX2_isState 4 = .ok (.iload_n 1, 1) := by decide +kernel
theorem dX2_isState_5 : decode cX2_isState 5 = .ok (.iconst 1, 1) := by decide +kernel
theorem dX2_isState_6 : decode cX2_isState 6 = .ok (.aload_n 0, 1) := by decide +kernel
theorem dX2_isState_7 : decode cX2_isState 7 = .ok (.getfield 19, 3) := by decide +kernel
theorem dX2_isState_10 : decode cX2_isState 10 = .ok (.ishl, 1) := by decide +kernel
theorem dX2_isState_11 : decode cX2_isState 11 = .ok (.if_icmp .ge 7, 3) := by decide +kernel
theorem dX2_isState_14 : decode cX2_isState 14 = .ok (.iconst 1, 1) := by decide +kernel
theorem dX2_isState_15 : decode cX2_isState 15 = .ok (.goto 4, 3) := by decide +kernel
theorem dX2_isState_18 : decode cX2_isState 18 = .ok (.iconst 0, 1) := by decide +kernel
theorem dX2_isState_19 : decode cX2_isState 19 = .ok (.ireturn, 1) := by decide +kernel
theorem dX2_want_0 : decode cX2_want 0 = .ok (.iload_n 1, 1) := by decide +kernel
theorem dX2_want_1 : decode cX2_want 1 = .ok (.ifCond .lt 28, 3) := by decide +kernel
theorem dX2_want_4 : decode cX2_want 4 = .ok (.iload_n 1, 1) := by decide +kernel
theorem dX2_want_5 : decode cX2_want 5 = .ok (.iconst 5, 1) := by decide +kernel
theorem dX2_want_6 : decode cX2_want 6 = .ok (.if_icmp .gt 23, 3) := by decide +kernel
theorem dX2_want_9 : decode cX2_want 9 = .ok (.aload_n 0, 1) := by decide +kernel
theorem dX2_want_10 : decode cX2_want 10 = .ok (.iload_n 2, 1) := by decide +kernel
theorem dX2_want_11 : decode cX2_want 11 = .ok (.iload_n 3, 1) := by decide +kernel
theorem dX2_want_12 : decode cX2_want 12 = .ok (.invokevirtual 30, 3) := by decide +kernel
theorem dX2_want_15 : decode cX2_want 15 = .ok (.ifCond .eq 14, 3) := by decide +kernel
theorem dX2_want_18 : decode cX2_want 18 = .ok (.iload 4, 2) := by decide +kernel
theorem dX2_want_20 : decode cX2_want 20 = .ok (.ifCond .lt 9, 3) := by decide +kernel
theorem dX2_want_23 : decode cX2_want 23 = .ok (.iload 4, 2) := by decide +kernel
theorem dX2_want_25 : decode cX2_want 25 = .ok (.iconst 2, 1) := by decide +kernel
theorem dX2_want_26 : decode cX2_want 26 = .ok (.if_icmp .le 5, 3) := by decide +kernel
theorem dX2_want_29 : decode cX2_want 29 = .ok (.iconst 0, 1) := by decide +kernel
theorem dX2_want_30 : decode cX2_want 30 = .ok (.ireturn, 1) := by decide +kernel
theorem dX2_want_31 : decode cX2_want 31 = .ok (.aload_n 0, 1) := by decide +kernel
theorem dX2_want_32 : decode cX2_want 32 = .ok (.getfield 13, 3) := by decide +kernel
theorem dX2_want_35 : decode cX2_want 35 = .ok (.bipush 64, 2) := by decide +kernel
theorem dX2_want_37 : decode cX2_want 37 = .ok (.iload_n 1, 1) := by decide +kernel
theorem dX2_want_38 : decode cX2_want 38 = .ok (.imul, 1) := by decide +kernel
theorem dX2_want_39 : decode cX2_want 39 = .ok (.iconst 4, 1) := by decide +kernel
theorem dX2_want_40 : decode cX2_want 40 = .ok (.iload_n 2, 1) := by decide +kernel
theorem dX2_want_41 : decode cX2_want 41 = .ok (.imul, 1) := by decide +kernel
theorem dX2_want_42 : decode cX2_want 42 = .ok (.iadd, 1) := by decide +kernel
theorem dX2_want_43 : decode cX2_want 43 = .ok (.iload_n 3, 1) := by decide +kernel
theorem dX2_want_44 : decode cX2_want 44 = .ok (.iadd, 1) := by decide +kernel
theorem dX2_want_45 : decode cX2_want 45 = .ok (.iload 4, 2) := by decide +kernel
theorem dX2_want_47 : decode cX2_want 47 = .ok (.iastore, 1) := by decide +kernel
theorem dX2_want_48 : decode cX2_want 48 = .ok (.iconst 1, 1) := by decide +kernel
theorem dX2_want_49 : decode cX2_want 49 = .ok (.ireturn, 1) := by decide +kernel
theorem dX2_isPlace_0 : decode cX2_isPlace 0 = .ok (.iload_n 1, 1) := by decide +kernel
theorem dX2_isPlace_1 : decode cX2_isPlace 1 = .ok (.ifCond .lt 22, 3) := by decide +kernel
theorem dX2_isPlace_4 : decode cX2_isPlace 4 = .ok (.iload_n 1, 1) := by decide +kernel
theorem dX2_isPlace_5 : decode cX2_isPlace 5 = .ok (.bipush 15, 2) := by decide +kernel
theorem dX2_isPlace_7 : decode cX2_isPlace 7 = .ok (.if_icmp .gt 16, 3) := by decide +kernel
theorem dX2_isPlace_10 : decode cX2_isPlace 10 = .ok (.iload_n 2, 1) := by decide +kernel
theorem dX2_isPlace_11 : decode cX2_isPlace 11 = .ok (.ifCond .lt 12, 3) := by decide +kernel
theorem dX2_isPlace_14 : decode cX2_isPlace 14 = .ok (.iload_n 2, 1) := by decide +kernel
theorem dX2_isPlace_15 : decode cX2_isPlace 15 = .ok (.iconst 3, 1) := by decide +kernel
theorem dX2_isPlace_16 : decode cX2_isPlace 16 = .ok (.if_icmp .gt 7, 3) := by decide +kernel
theorem dX2_isPlace_19 : decode cX2_isPlace 19 = .ok (.iconst 1, 1) := by decide +kernel
theorem dX2_isPlace_20 : decode cX2_isPlace 20 = .ok (.goto 4, 3) := by decide +kernel
theorem dX2_isPlace_23 : decode cX2_isPlace 23 = .ok (.iconst 0, 1) := by decide +kernel
theorem dX2_isPlace_24 : decode cX2_isPlace 24 = .ok (.ireturn, 1) := by decide +kernel
theorem dX2_expand_0 : decode cX2_expand 0 = .ok (.aload_n 0, 1) := by decide +kernel
theorem dX2_expand_1 : decode cX2_expand 1 = .ok (.iload_n 1, 1) := by decide +kernel
theorem dX2_expand_2 : decode cX2_expand 2 = .ok (.invokevirtual 26, 3) := by decide +kernel
theorem dX2_expand_5 : decode cX2_expand 5 = .ok (.ifCond .eq 12, 3) := by decide +kernel
theorem dX2_expand_8 : decode cX2_expand 8 = .ok (.aload_n 0, 1) := by decide +kernel
theorem dX2_expand_9 : decode cX2_expand 9 = .ok (.iload_n 2, 1) := by decide +kernel
theorem dX2_expand_10 : decode cX2_expand 10 = .ok (.iload_n 3, 1) := by decide +kernel
theorem dX2_expand_11 : decode cX2_expand 11 = .ok (.invokevirtual 30, 3) := by decide +kernel
theorem dX2_expand_14 : decode cX2_expand 14 = .ok (.ifCond .ne 5, 3) := by decide +kernel
theorem dX2_expand_17 : decode cX2_expand 17 = .ok (.iconst (-1), 1) := by decide +kernel
theorem dX2_expand_18 : decode cX2_expand 18 = .ok (.ireturn, 1) := by decide +kernel
theorem dX2_expand_19 : decode cX2_expand 19 = .ok (.aload_n 0, 1) := by decide +kernel
theorem dX2_expand_20 : decode cX2_expand 20 = .ok (.iload_n 1, 1) := by decide +kernel
theorem dX2_expand_21 : decode cX2_expand 21 = .ok (.iload_n 2, 1) := by decide +kernel
theorem dX2_expand_22 : decode cX2_expand 22 = .ok (.iload_n 3, 1) := by decide +kernel
theorem dX2_expand_23 : decode cX2_expand 23 = .ok (.invokevirtual 38, 3) := by decide +kernel
theorem dX2_expand_26 : decode cX2_expand 26 = .ok (.ireturn, 1) := by decide +kernel
theorem dX2_valueAt_0 : decode cX2_valueAt 0 = .ok (.iload_n 1, 1) := by decide +kernel
theorem dX2_valueAt_1 : decode cX2_valueAt 1 = .ok (.istore 4, 2) := by decide +kernel
theorem dX2_valueAt_3 : decode cX2_valueAt 3 = .ok (.iconst 0, 1) := by decide +kernel
theorem dX2_valueAt_4 : decode cX2_valueAt 4 = .ok (.istore 5, 2) := by decide +kernel
theorem dX2_valueAt_6 : decode cX2_valueAt 6 = .ok (.iload 5, 2) := by decide +kernel
theorem dX2_valueAt_8 : decode cX2_valueAt 8 = .ok (.iload_n 2, 1) := by decide +kernel
theorem dX2_valueAt_9 : decode cX2_valueAt 9 = .ok (.if_icmp .ge 38, 3) := by decide +kernel
theorem dX2_valueAt_12 : decode cX2_valueAt 12 = .ok (.aload_n 0, 1) := by decide +kernel
theorem dX2_valueAt_13 : decode cX2_valueAt 13 = .ok (.iload 4, 2) := by decide +kernel
theorem dX2_valueAt_15 : decode cX2_valueAt 15 = .ok (.aload_n 0, 1) := by decide +kernel
theorem dX2_valueAt_16 : decode cX2_valueAt 16 = .ok (.getfield 23, 3) := by decide +kernel
theorem dX2_valueAt_19 : decode cX2_valueAt 19 = .ok (.iand, 1) := by decide +kernel
theorem dX2_valueAt_20 : decode cX2_valueAt 20 = .ok (.invokevirtual 34, 3) := by decide +kernel
theorem dX2_valueAt_23 : decode cX2_valueAt 23 = .ok (.istore 6, 2) := by decide +kernel
theorem dX2_valueAt_25 : decode cX2_valueAt 25 = .ok (.iload 4, 2) := by decide +kernel
theorem dX2_valueAt_27 : decode cX2_valueAt 27 = .ok (.iconst 1, 1) := by decide +kernel
theorem dX2_valueAt_28 : decode cX2_valueAt 28 = .ok (.ishr, 1) := by decide +kernel
theorem dX2_valueAt_29 : decode cX2_valueAt 29 = .ok (.iload 6, 2) := by decide +kernel
theorem dX2_valueAt_31 : decode cX2_valueAt 31 = .ok (.aload_n 0, 1) := by decide +kernel
theorem dX2_valueAt_32 : decode cX2_valueAt 32 = .ok (.getfield 19, 3) := by decide +kernel
theorem dX2_valueAt_35 : decode cX2_valueAt 35 = .ok (.iconst 1, 1) := by decide +kernel
theorem dX2_valueAt_36 : decode cX2_valueAt 36 = .ok (.isub, 1) := by decide +kernel
theorem dX2_valueAt_37 : decode cX2_valueAt 37 = .ok (.ishl, 1) := by decide +kernel
theorem dX2_valueAt_38 : decode cX2_valueAt 38 = .ok (.ior, 1) := by decide +kernel
theorem dX2_valueAt_39 : decode cX2_valueAt 39 = .ok (.istore 4, 2) := by decide +kernel
theorem dX2_valueAt_41 : decode cX2_valueAt 41 = .ok (.iinc 5 1, 3) := by decide +kernel
theorem dX2_valueAt_44 : decode cX2_valueAt 44 = .ok (.goto (-38), 3) := by decide +kernel
theorem dX2_valueAt_47 : decode cX2_valueAt 47 = .ok (.aload_n 0, 1) := by decide +kernel
theorem dX2_valueAt_48 : decode cX2_valueAt 48 = .ok (.iload 4, 2) := by decide +kernel
theorem dX2_valueAt_50 : decode cX2_valueAt 50 = .ok (.aload_n 0, 1) := by decide +kernel
theorem dX2_valueAt_51 : decode cX2_valueAt 51 = .ok (.getfield 7, 3) := by decide +kernel
theorem dX2_valueAt_54 : decode cX2_valueAt 54 = .ok (.iload_n 3, 1) := by decide +kernel
theorem dX2_valueAt_55 : decode cX2_valueAt 55 = .ok (.iaload, 1) := by decide +kernel
theorem dX2_valueAt_56 : decode cX2_valueAt 56 = .ok (.iand, 1) := by decide +kernel
theorem dX2_valueAt_57 : decode cX2_valueAt 57 = .ok (.invokevirtual 34, 3) := by decide +kernel
theorem dX2_valueAt_60 : decode cX2_valueAt 60 = .ok (.ireturn, 1) := by decide +kernel
theorem dX2_parity_0 : decode cX2_parity 0 = .ok (.iconst 0, 1) := by decide +kernel
theorem dX2_parity_1 : decode cX2_parity 1 = .ok (.istore_n 2, 1) := by decide +kernel
theorem dX2_parity_2 : decode cX2_parity 2 = .ok (.iconst 0, 1) := by decide +kernel
theorem dX2_parity_3 : decode cX2_parity 3 = .ok (.istore_n 3, 1) := by decide +kernel
theorem dX2_parity_4 : decode cX2_parity 4 = .ok (.iload_n 3, 1) := by decide +kernel
theorem dX2_parity_5 : decode cX2_parity 5 = .ok (.bipush 8, 2) := by decide +kernel
theorem dX2_parity_7 : decode cX2_parity 7 = .ok (.if_icmp .ge 17, 3) := by decide +kernel
theorem dX2_parity_10 : decode cX2_parity 10 = .ok (.iload_n 2, 1) := by decide +kernel
theorem dX2_parity_11 : decode cX2_parity 11 = .ok (.iload_n 1, 1) := by decide +kernel
theorem dX2_parity_12 : decode cX2_parity 12 = .ok (.iload_n 3, 1) := by decide +kernel
theorem dX2_parity_13 : decode cX2_parity 13 = .ok (.ishr, 1) := by decide +kernel
theorem dX2_parity_14 : decode cX2_parity 14 = .ok (.iconst 1, 1) := by decide +kernel
theorem dX2_parity_15 : decode cX2_parity 15 = .ok (.iand, 1) := by decide +kernel
theorem dX2_parity_16 : decode cX2_parity 16 = .ok (.iadd, 1) := by decide +kernel
theorem dX2_parity_17 : decode cX2_parity 17 = .ok (.istore_n 2, 1) := by decide +kernel
theorem dX2_parity_18 : decode cX2_parity 18 = .ok (.iinc 3 1, 3) := by decide +kernel
theorem dX2_parity_21 : decode cX2_parity 21 = .ok (.goto (-17), 3) := by decide +kernel
theorem dX2_parity_24 : decode cX2_parity 24 = .ok (.iload_n 2, 1) := by decide +kernel
theorem dX2_parity_25 : decode cX2_parity 25 = .ok (.iconst 2, 1) := by decide +kernel
theorem dX2_parity_26 : decode cX2_parity 26 = .ok (.irem, 1) := by decide +kernel
theorem dX2_parity_27 : decode cX2_parity 27 = .ok (.ireturn, 1) := by decide +kernel
theorem dX2_seeds_0 : decode cX2_seeds 0 = .ok (.aload_n 0, 1) := by decide +kernel
theorem dX2_seeds_1 : decode cX2_seeds 1 = .ok (.iload_n 1, 1) := by decide +kernel
theorem dX2_seeds_2 : decode cX2_seeds 2 = .ok (.invokevirtual 42, 3) := by decide +kernel
theorem dX2_seeds_5 : decode cX2_seeds 5 = .ok (.ifCond .ne 5, 3) := by decide +kernel
theorem dX2_seeds_8 : decode cX2_seeds 8 = .ok (.iconst (-1), 1) := by decide +kernel
theorem dX2_seeds_9 : decode cX2_seeds 9 = .ok (.ireturn, 1) := by decide +kernel
theorem dX2_seeds_10 : decode cX2_seeds 10 = .ok (.iconst 0, 1) := by decide +kernel
theorem dX2_seeds_11 : decode cX2_seeds 11 = .ok (.istore_n 2, 1) := by decide +kernel
theorem dX2_seeds_12 : decode cX2_seeds 12 = .ok (.iconst 0, 1) := by decide +kernel
theorem dX2_seeds_13 : decode cX2_seeds 13 = .ok (.istore_n 3, 1) := by decide +kernel
theorem dX2_seeds_14 : decode cX2_seeds 14 = .ok (.iload_n 3, 1) := by decide +kernel
theorem dX2_seeds_15 : decode cX2_seeds 15 = .ok (.iconst 1, 1) := by decide +kernel
theorem dX2_seeds_16 : decode cX2_seeds 16 = .ok (.aload_n 0, 1) := by decide +kernel
theorem dX2_seeds_17 : decode cX2_seeds 17 = .ok (.getfield 19, 3) := by decide +kernel
theorem dX2_seeds_20 : decode cX2_seeds 20 = .ok (.ishl, 1) := by decide +kernel
theorem dX2_seeds_21 : decode cX2_seeds 21 = .ok (.if_icmp .ge 21, 3) := by decide +kernel
theorem dX2_seeds_24 : decode cX2_seeds 24 = .ok (.aload_n 0, 1) := by decide +kernel
theorem dX2_seeds_25 : decode cX2_seeds 25 = .ok (.iload_n 3, 1) := by decide +kernel
theorem dX2_seeds_26 : decode cX2_seeds 26 = .ok (.iload_n 1, 1) := by decide +kernel
theorem dX2_seeds_27 : decode cX2_seeds 27 = .ok (.invokevirtual 45, 3) := by decide +kernel
theorem dX2_seeds_30 : decode cX2_seeds 30 = .ok (.ifCond .eq 6, 3) := by decide +kernel
theorem dX2_seeds_33 : decode cX2_seeds 33 = .ok (.iinc 2 1, 3) := by decide +kernel
theorem dX2_seeds_36 : decode cX2_seeds 36 = .ok (.iinc 3 1, 3) := by decide +kernel
theorem dX2_seeds_39 : decode cX2_seeds 39 = .ok (.goto (-25), 3) := by decide +kernel
theorem dX2_seeds_42 : decode cX2_seeds 42 = .ok (.iload_n 2, 1) := by decide +kernel
theorem dX2_seeds_43 : decode cX2_seeds 43 = .ok (.ireturn, 1) := by decide +kernel
theorem dX2_isSet_0 : decode cX2_isSet 0 = .ok (.iload_n 1, 1) := by decide +kernel
theorem dX2_isSet_1 : decode cX2_isSet 1 = .ok (.ifCond .lt 13, 3) := by decide +kernel
theorem dX2_isSet_4 : decode cX2_isSet 4 = .ok (.iload_n 1, 1) := by decide +kernel
theorem dX2_isSet_5 : decode cX2_isSet 5 = .ok (.bipush 63, 2) := by decide +kernel
theorem dX2_isSet_7 : decode cX2_isSet 7 = .ok (.if_icmp .gt 7, 3) := by decide +kernel
theorem dX2_isSet_10 : decode cX2_isSet 10 = .ok (.iconst 1, 1) := by decide +kernel
theorem dX2_isSet_11 : decode cX2_isSet 11 = .ok (.goto 4, 3) := by decide +kernel
theorem dX2_isSet_14 : decode cX2_isSet 14 = .ok (.iconst 0, 1) := by decide +kernel
theorem dX2_isSet_15 : decode cX2_isSet 15 = .ok (.ireturn, 1) := by decide +kernel
theorem dX2_fits_0 : decode cX2_fits 0 = .ok (.iconst 0, 1) := by decide +kernel
theorem dX2_fits_1 : decode cX2_fits 1 = .ok (.istore_n 3, 1) := by decide +kernel
theorem dX2_fits_2 : decode cX2_fits 2 = .ok (.iload_n 3, 1) := by decide +kernel
theorem dX2_fits_3 : decode cX2_fits 3 = .ok (.bipush 6, 2) := by decide +kernel
theorem dX2_fits_5 : decode cX2_fits 5 = .ok (.if_icmp .ge 74, 3) := by decide +kernel
theorem dX2_fits_8 : decode cX2_fits 8 = .ok (.iconst 0, 1) := by decide +kernel
theorem dX2_fits_9 : decode cX2_fits 9 = .ok (.istore 4, 2) := by decide +kernel
theorem dX2_fits_11 : decode cX2_fits 11 = .ok (.iload 4, 2) := by decide +kernel
theorem dX2_fits_13 : decode cX2_fits 13 = .ok (.bipush 64, 2) := by decide +kernel
theorem dX2_fits_15 : decode cX2_fits 15 = .ok (.if_icmp .ge 58, 3) := by decide +kernel
theorem dX2_fits_18 : decode cX2_fits 18 = .ok (.aload_n 0, 1) := by decide +kernel
theorem dX2_fits_19 : decode cX2_fits 19 = .ok (.getfield 13, 3) := by decide +kernel
theorem dX2_fits_22 : decode cX2_fits 22 = .ok (.bipush 64, 2) := by decide +kernel
theorem dX2_fits_24 : decode cX2_fits 24 = .ok (.iload_n 3, 1) := by decide +kernel
theorem dX2_fits_25 : decode cX2_fits 25 = .ok (.imul, 1) := by decide +kernel
theorem dX2_fits_26 : decode cX2_fits 26 = .ok (.iload 4, 2) := by decide +kernel
theorem dX2_fits_28 : decode cX2_fits 28 = .ok (.iadd, 1) := by decide +kernel
theorem dX2_fits_29 : decode cX2_fits 29 = .ok (.iaload, 1) := by decide +kernel
theorem dX2_fits_30 : decode cX2_fits 30 = .ok (.istore 5, 2) := by decide +kernel
theorem dX2_fits_32 : decode cX2_fits 32 = .ok (.iload_n 2, 1) := by decide +kernel
theorem dX2_fits_33 : decode cX2_fits 33 = .ok (.iload_n 3, 1) := by decide +kernel
theorem dX2_fits_34 : decode cX2_fits 34 = .ok (.ishr, 1) := by decide +kernel
theorem dX2_fits_35 : decode cX2_fits 35 = .ok (.iconst 1, 1) := by decide +kernel
theorem dX2_fits_36 : decode cX2_fits 36 = .ok (.iand, 1) := by decide +kernel
theorem dX2_fits_37 : decode cX2_fits 37 = .ok (.iconst 1, 1) := by decide +kernel
theorem dX2_fits_38 : decode cX2_fits 38 = .ok (.if_icmp .ne 29, 3) := by decide +kernel
theorem dX2_fits_41 : decode cX2_fits 41 = .ok (.iload 5, 2) := by decide +kernel
theorem dX2_fits_43 : decode cX2_fits 43 = .ok (.iconst 2, 1) := by decide +kernel
theorem dX2_fits_44 : decode cX2_fits 44 = .ok (.if_icmp .eq 23, 3) := by decide +kernel
theorem dX2_fits_47 : decode cX2_fits 47 = .ok (.aload_n 0, 1) := by decide +kernel
theorem dX2_fits_48 : decode cX2_fits 48 = .ok (.iload_n 1, 1) := by decide +kernel
theorem dX2_fits_49 : decode cX2_fits 49 = .ok (.iload 4, 2) := by decide +kernel
theorem dX2_fits_51 : decode cX2_fits 51 = .ok (.iconst 4, 1) := by decide +kernel
theorem dX2_fits_52 : decode cX2_fits 52 = .ok (.idiv, 1) := by decide +kernel
theorem dX2_fits_53 : decode cX2_fits 53 = .ok (.iload 4, 2) := by decide +kernel
theorem dX2_fits_55 : decode cX2_fits 55 = .ok (.iconst 4, 1) := by decide +kernel
theorem dX2_fits_56 : decode cX2_fits 56 = .ok (.irem, 1) := by decide +kernel
theorem dX2_fits_57 : decode cX2_fits 57 = .ok (.invokevirtual 38, 3) := by decide +kernel
theorem dX2_fits_60 : decode cX2_fits 60 = .ok (.iload 5, 2) := by decide +kernel
theorem dX2_fits_62 : decode cX2_fits 62 = .ok (.if_icmp .eq 5, 3) := by decide +kernel
theorem dX2_fits_65 : decode cX2_fits 65 = .ok (.iconst 0, 1) := by decide +kernel
theorem dX2_fits_66 : decode cX2_fits 66 = .ok (.ireturn, 1) := by decide +kernel
theorem dX2_fits_67 : decode cX2_fits 67 = .ok (.iinc 4 1, 3) := by decide +kernel
theorem dX2_fits_70 : decode cX2_fits 70 = .ok (.goto (-59), 3) := by decide +kernel
theorem dX2_fits_73 : decode cX2_fits 73 = .ok (.iinc 3 1, 3) := by decide +kernel
theorem dX2_fits_76 : decode cX2_fits 76 = .ok (.goto (-74), 3) := by decide +kernel
theorem dX2_fits_79 : decode cX2_fits 79 = .ok (.iconst 1, 1) := by decide +kernel
theorem dX2_fits_80 : decode cX2_fits 80 = .ok (.ireturn, 1) := by decide +kernel
theorem dX2_leastSeed_0 : decode cX2_leastSeed 0 = .ok (.aload_n 0, 1) := by decide +kernel
theorem dX2_leastSeed_1 : decode cX2_leastSeed 1 = .ok (.iload_n 1, 1) := by decide +kernel
theorem dX2_leastSeed_2 : decode cX2_leastSeed 2 = .ok (.invokevirtual 42, 3) := by decide +kernel
theorem dX2_leastSeed_5 : decode cX2_leastSeed 5 = .ok (.ifCond .eq 11, 3) := by decide +kernel
theorem dX2_leastSeed_8 : decode cX2_leastSeed 8 = .ok (.aload_n 0, 1) := by decide +kernel
theorem dX2_leastSeed_9 : decode cX2_leastSeed 9 = .ok (.iload_n 1, 1) := by decide +kernel
theorem dX2_leastSeed_10 : decode cX2_leastSeed 10 = .ok (.invokevirtual 48, 3) := by decide +kernel
theorem dX2_leastSeed_13 : decode cX2_leastSeed 13 = .ok (.goto 4, 3) := by decide +kernel
theorem dX2_leastSeed_16 : decode cX2_leastSeed 16 = .ok (.iconst (-1), 1) := by decide +kernel
theorem dX2_leastSeed_17 : decode cX2_leastSeed 17 = .ok (.ireturn, 1) := by decide +kernel
theorem dX2_firstSeed_0 : decode cX2_firstSeed 0 = .ok (.iconst 0, 1) := by decide +kernel
theorem dX2_firstSeed_1 : decode cX2_firstSeed 1 = .ok (.istore_n 2, 1) := by decide +kernel
theorem dX2_firstSeed_2 : decode cX2_firstSeed 2 = .ok (.iload_n 2, 1) := by decide +kernel
theorem dX2_firstSeed_3 : decode cX2_firstSeed 3 = .ok (.iconst 1, 1) := by decide +kernel
theorem dX2_firstSeed_4 : decode cX2_firstSeed 4 = .ok (.aload_n 0, 1) := by decide +kernel
theorem dX2_firstSeed_5 : decode cX2_firstSeed 5 = .ok (.getfield 19, 3) := by decide +kernel
theorem dX2_firstSeed_8 : decode cX2_firstSeed 8 = .ok (.ishl, 1) := by decide +kernel
theorem dX2_firstSeed_9 : decode cX2_firstSeed 9 = .ok (.if_icmp .ge 20, 3) := by decide +kernel
theorem dX2_firstSeed_12 : decode cX2_firstSeed 12 = .ok (.aload_n 0, 1) := by decide +kernel
theorem dX2_firstSeed_13 : decode cX2_firstSeed 13 = .ok (.iload_n 2, 1) := by decide +kernel
theorem dX2_firstSeed_14 : decode cX2_firstSeed 14 = .ok (.iload_n 1, 1) := by decide +kernel
theorem dX2_firstSeed_15 : decode cX2_firstSeed 15 = .ok (.invokevirtual 45, 3) := by decide +kernel
theorem dX2_firstSeed_18 : decode cX2_firstSeed 18 = .ok (.ifCond .eq 5, 3) := by decide +kernel
theorem dX2_firstSeed_21 : decode cX2_firstSeed 21 = .ok (.iload_n 2, 1) := by decide +kernel
theorem dX2_firstSeed_22 : decode cX2_firstSeed 22 = .ok (.ireturn, 1) := by decide +kernel
theorem dX2_firstSeed_23 : decode cX2_firstSeed 23 = .ok (.iinc 2 1, 3) := by decide +kernel
theorem dX2_firstSeed_26 : decode cX2_firstSeed 26 = .ok (.goto (-24), 3) := by decide +kernel
theorem dX2_firstSeed_29 : decode cX2_firstSeed 29 = .ok (.bipush (-2), 2) := by decide +kernel
theorem dX2_firstSeed_31 : decode cX2_firstSeed 31 = .ok (.ireturn, 1) := by decide +kernel
theorem dX2_greatestSeed_0 : decode cX2_greatestSeed 0 = .ok (.aload_n 0, 1) := by decide +kernel
theorem dX2_greatestSeed_1 : decode cX2_greatestSeed 1 = .ok (.iload_n 1, 1) := by decide +kernel
theorem dX2_greatestSeed_2 : decode cX2_greatestSeed 2 = .ok (.invokevirtual 42, 3) := by decide +kernel
theorem dX2_greatestSeed_5 : decode cX2_greatestSeed 5 = .ok (.ifCond .ne 5, 3) := by decide +kernel
theorem dX2_greatestSeed_8 : decode cX2_greatestSeed 8 = .ok (.iconst (-1), 1) := by decide +kernel
theorem dX2_greatestSeed_9 : decode cX2_greatestSeed 9 = .ok (.ireturn, 1) := by decide +kernel
theorem dX2_greatestSeed_10 : decode cX2_greatestSeed 10 = .ok (.iconst 1, 1) := by decide +kernel
theorem dX2_greatestSeed_11 : decode cX2_greatestSeed 11 = .ok (.aload_n 0, 1) := by decide +kernel
theorem dX2_greatestSeed_12 : decode cX2_greatestSeed 12 = .ok (.getfield 19, 3) := by decide +kernel
theorem dX2_greatestSeed_15 : decode cX2_greatestSeed 15 = .ok (.ishl, 1) := by decide +kernel
theorem dX2_greatestSeed_16 : decode cX2_greatestSeed 16 = .ok (.iconst 1, 1) := by decide +kernel
theorem dX2_greatestSeed_17 : decode cX2_greatestSeed 17 = .ok (.isub, 1) := by decide +kernel
theorem dX2_greatestSeed_18 : decode cX2_greatestSeed 18 = .ok (.istore_n 2, 1) := by decide +kernel
theorem dX2_greatestSeed_19 : decode cX2_greatestSeed 19 = .ok (.iload_n 2, 1) := by decide +kernel
theorem dX2_greatestSeed_20 : decode cX2_greatestSeed 20 = .ok (.ifCond .lt 20, 3) := by decide +kernel
theorem dX2_greatestSeed_23 : decode cX2_greatestSeed 23 = .ok (.aload_n 0, 1) := by decide +kernel
theorem dX2_greatestSeed_24 : decode cX2_greatestSeed 24 = .ok (.iload_n 2, 1) := by decide +kernel
theorem dX2_greatestSeed_25 : decode cX2_greatestSeed 25 = .ok (.iload_n 1, 1) := by decide +kernel
theorem dX2_greatestSeed_26 : decode cX2_greatestSeed 26 = .ok (.invokevirtual 45, 3) := by decide +kernel
theorem dX2_greatestSeed_29 : decode cX2_greatestSeed 29 = .ok (.ifCond .eq 5, 3) := by decide +kernel
theorem dX2_greatestSeed_32 : decode cX2_greatestSeed 32 = .ok (.iload_n 2, 1) := by decide +kernel
theorem dX2_greatestSeed_33 : decode cX2_greatestSeed 33 = .ok (.ireturn, 1) := by decide +kernel
theorem dX2_greatestSeed_34 : decode cX2_greatestSeed 34 = .ok (.iinc 2 (-1), 3) := by decide +kernel
theorem dX2_greatestSeed_37 : decode cX2_greatestSeed 37 = .ok (.goto (-18), 3) := by decide +kernel
theorem dX2_greatestSeed_40 : decode cX2_greatestSeed 40 = .ok (.bipush (-2), 2) := by decide +kernel
theorem dX2_greatestSeed_42 : decode cX2_greatestSeed 42 = .ok (.ireturn, 1) := by decide +kernel
theorem dX2_forced_0 : decode cX2_forced 0 = .ok (.aload_n 0, 1) := by decide +kernel
theorem dX2_forced_1 : decode cX2_forced 1 = .ok (.iload_n 1, 1) := by decide +kernel
theorem dX2_forced_2 : decode cX2_forced 2 = .ok (.invokevirtual 42, 3) := by decide +kernel
theorem dX2_forced_5 : decode cX2_forced 5 = .ok (.ifCond .eq 12, 3) := by decide +kernel
theorem dX2_forced_8 : decode cX2_forced 8 = .ok (.aload_n 0, 1) := by decide +kernel
theorem dX2_forced_9 : decode cX2_forced 9 = .ok (.iload_n 2, 1) := by decide +kernel
theorem dX2_forced_10 : decode cX2_forced 10 = .ok (.iload_n 3, 1) := by decide +kernel
theorem dX2_forced_11 : decode cX2_forced 11 = .ok (.invokevirtual 30, 3) := by decide +kernel
theorem dX2_forced_14 : decode cX2_forced 14 = .ok (.ifCond .ne 5, 3) := by decide +kernel
theorem dX2_forced_17 : decode cX2_forced 17 = .ok (.iconst (-1), 1) := by decide +kernel
theorem dX2_forced_18 : decode cX2_forced 18 = .ok (.ireturn, 1) := by decide +kernel
theorem dX2_forced_19 : decode cX2_forced 19 = .ok (.bipush (-2), 2) := by decide +kernel
theorem dX2_forced_21 : decode cX2_forced 21 = .ok (.istore 4, 2) := by decide +kernel
theorem dX2_forced_23 : decode cX2_forced 23 = .ok (.iconst 0, 1) := by decide +kernel
theorem dX2_forced_24 : decode cX2_forced 24 = .ok (.istore 5, 2) := by decide +kernel
theorem dX2_forced_26 : decode cX2_forced 26 = .ok (.iload 5, 2) := by decide +kernel
theorem dX2_forced_28 : decode cX2_forced 28 = .ok (.iconst 1, 1) := by decide +kernel
theorem dX2_forced_29 : decode cX2_forced 29 = .ok (.aload_n 0, 1) := by decide +kernel
theorem dX2_forced_30 : decode cX2_forced 30 = .ok (.getfield 19, 3) := by decide +kernel
theorem dX2_forced_33 : decode cX2_forced 33 = .ok (.ishl, 1) := by decide +kernel
theorem dX2_forced_34 : decode cX2_forced 34 = .ok (.if_icmp .ge 53, 3) := by decide +kernel
theorem dX2_forced_37 : decode cX2_forced 37 = .ok (.aload_n 0, 1) := by decide +kernel
theorem dX2_forced_38 : decode cX2_forced 38 = .ok (.iload 5, 2) := by decide +kernel
theorem dX2_forced_40 : decode cX2_forced 40 = .ok (.iload_n 1, 1) := by decide +kernel
theorem dX2_forced_41 : decode cX2_forced 41 = .ok (.invokevirtual 45, 3) := by decide +kernel
theorem dX2_forced_44 : decode cX2_forced 44 = .ok (.ifCond .eq 37, 3) := by decide +kernel
theorem dX2_forced_47 : decode cX2_forced 47 = .ok (.aload_n 0, 1) := by decide +kernel
theorem dX2_forced_48 : decode cX2_forced 48 = .ok (.iload 5, 2) := by decide +kernel
theorem dX2_forced_50 : decode cX2_forced 50 = .ok (.iload_n 2, 1) := by decide +kernel
theorem dX2_forced_51 : decode cX2_forced 51 = .ok (.iload_n 3, 1) := by decide +kernel
theorem dX2_forced_52 : decode cX2_forced 52 = .ok (.invokevirtual 38, 3) := by decide +kernel
theorem dX2_forced_55 : decode cX2_forced 55 = .ok (.istore 6, 2) := by decide +kernel
theorem dX2_forced_57 : decode cX2_forced 57 = .ok (.iload 4, 2) := by decide +kernel
theorem dX2_forced_59 : decode cX2_forced 59 = .ok (.bipush (-2), 2) := by decide +kernel
theorem dX2_forced_61 : decode cX2_forced 61 = .ok (.if_icmp .ne 10, 3) := by decide +kernel
theorem dX2_forced_64 : decode cX2_forced 64 = .ok (.iload 6, 2) := by decide +kernel
theorem dX2_forced_66 : decode cX2_forced 66 = .ok (.istore 4, 2) := by decide +kernel
theorem dX2_forced_68 : decode cX2_forced 68 = .ok (.goto 13, 3) := by decide +kernel
theorem dX2_forced_71 : decode cX2_forced 71 = .ok (.iload 4, 2) := by decide +kernel
theorem dX2_forced_73 : decode cX2_forced 73 = .ok (.iload 6, 2) := by decide +kernel
theorem dX2_forced_75 : decode cX2_forced 75 = .ok (.if_icmp .eq 6, 3) := by decide +kernel
theorem dX2_forced_78 : decode cX2_forced 78 = .ok (.iconst 2, 1) := by decide +kernel
theorem dX2_forced_79 : decode cX2_forced 79 = .ok (.istore 4, 2) := by decide +kernel
theorem dX2_forced_81 : decode cX2_forced 81 = .ok (.iinc 5 1, 3) := by decide +kernel
theorem dX2_forced_84 : decode cX2_forced 84 = .ok (.goto (-58), 3) := by decide +kernel
theorem dX2_forced_87 : decode cX2_forced 87 = .ok (.iload 4, 2) := by decide +kernel
theorem dX2_forced_89 : decode cX2_forced 89 = .ok (.ireturn, 1) := by decide +kernel
theorem dX2_seedsNeeded_0 : decode cX2_seedsNeeded 0 = .ok (.aload_n 0, 1) := by decide +kernel
theorem dX2_seedsNeeded_1 : decode cX2_seedsNeeded 1 = .ok (.iload_n 1, 1) := by decide +kernel
theorem dX2_seedsNeeded_2 : decode cX2_seedsNeeded 2 = .ok (.invokevirtual 42, 3) := by decide +kernel
theorem dX2_seedsNeeded_5 : decode cX2_seedsNeeded 5 = .ok (.ifCond .ne 5, 3) := by decide +kernel
theorem dX2_seedsNeeded_8 : decode cX2_seedsNeeded 8 = .ok (.iconst (-1), 1) := by decide +kernel
theorem dX2_seedsNeeded_9 : decode cX2_seedsNeeded 9 = .ok (.ireturn, 1) := by decide +kernel
theorem dX2_seedsNeeded_10 : decode cX2_seedsNeeded 10 = .ok (.iconst 0, 1) := by decide +kernel
theorem dX2_seedsNeeded_11 : decode cX2_seedsNeeded 11 = .ok (.istore_n 2, 1) := by decide +kernel
theorem dX2_seedsNeeded_12 : decode cX2_seedsNeeded 12 = .ok (.iload_n 2, 1) := by decide +kernel
theorem dX2_seedsNeeded_13 : decode cX2_seedsNeeded 13 = .ok (.bipush 64, 2) := by decide +kernel
theorem dX2_seedsNeeded_15 : decode cX2_seedsNeeded 15 = .ok (.if_icmp .ge 25, 3) := by decide +kernel
theorem dX2_seedsNeeded_18 : decode cX2_seedsNeeded 18 = .ok (.aload_n 0, 1) := by decide +kernel
theorem dX2_seedsNeeded_19 : decode cX2_seedsNeeded 19 = .ok (.getfield 16, 3) := by decide +kernel
theorem dX2_seedsNeeded_22 : decode cX2_seedsNeeded 22 = .ok (.iload_n 2, 1) := by decide +kernel
theorem dX2_seedsNeeded_23 : decode cX2_seedsNeeded 23 = .ok (.iload_n 2, 1) := by decide +kernel
theorem dX2_seedsNeeded_24 : decode cX2_seedsNeeded 24 = .ok (.ifCond .ne 7, 3) := by decide +kernel
theorem dX2_seedsNeeded_27 : decode cX2_seedsNeeded 27 = .ok (.iconst 0, 1) := by decide +kernel
theorem dX2_seedsNeeded_28 : decode cX2_seedsNeeded 28 = .ok (.goto 5, 3) := by decide +kernel
theorem dX2_seedsNeeded_31 : decode cX2_seedsNeeded 31 = .ok (.bipush 100, 2) := by decide +kernel
theorem dX2_seedsNeeded_33 : decode cX2_seedsNeeded 33 = .ok (.iastore, 1) := by decide +kernel
theorem dX2_seedsNeeded_34 : decode cX2_seedsNeeded 34 = .ok (.iinc 2 1, 3) := by decide +kernel
theorem dX2_seedsNeeded_37 : decode cX2_seedsNeeded 37 = .ok (.goto (-25), 3) := by decide +kernel
theorem dX2_seedsNeeded_40 : decode cX2_seedsNeeded 40 = .ok (.iconst 1, 1) := by decide +kernel
theorem dX2_seedsNeeded_41 : decode cX2_seedsNeeded 41 = .ok (.istore_n 2, 1) := by decide +kernel
theorem dX2_seedsNeeded_42 : decode cX2_seedsNeeded 42 = .ok (.iload_n 2, 1) := by decide +kernel
theorem dX2_seedsNeeded_43 : decode cX2_seedsNeeded 43 = .ok (.bipush 64, 2) := by decide +kernel
theorem dX2_seedsNeeded_45 : decode cX2_seedsNeeded 45 = .ok (.if_icmp .ge 99, 3) := by decide +kernel
theorem dX2_seedsNeeded_48 : decode cX2_seedsNeeded 48 = .ok (.iload_n 2, 1) := by decide +kernel
theorem dX2_seedsNeeded_49 : decode cX2_seedsNeeded 49 = .ok (.iload_n 1, 1) := by decide +kernel
theorem dX2_seedsNeeded_50 : decode cX2_seedsNeeded 50 = .ok (.iconst (-1), 1) := by decide +kernel
theorem dX2_seedsNeeded_51 : decode cX2_seedsNeeded 51 = .ok (.ixor, 1) := by decide +kernel
theorem dX2_seedsNeeded_52 : decode cX2_seedsNeeded 52 = .ok (.iand, 1) := by decide +kernel
theorem dX2_seedsNeeded_53 : decode cX2_seedsNeeded 53 = .ok (.ifCond .ne 17, 3) := by decide +kernel
theorem dX2_seedsNeeded_56 : decode cX2_seedsNeeded 56 = .ok (.aload_n 0, 1) := by decide +kernel
theorem dX2_seedsNeeded_57 : decode cX2_seedsNeeded 57 = .ok (.iload_n 2, 1) := by decide +kernel
theorem dX2_seedsNeeded_58 : decode cX2_seedsNeeded 58 = .ok (.invokevirtual 48, 3) := by decide +kernel
theorem dX2_seedsNeeded_61 : decode cX2_seedsNeeded 61 = .ok (.bipush (-2), 2) := by decide +kernel
theorem dX2_seedsNeeded_63 : decode cX2_seedsNeeded 63 = .ok (.if_icmp .eq 7, 3) := by decide +kernel
theorem dX2_seedsNeeded_66 : decode cX2_seedsNeeded 66 = .ok (.iconst 1, 1) := by decide +kernel
theorem dX2_seedsNeeded_67 : decode cX2_seedsNeeded 67 = .ok (.goto 4, 3) := by decide +kernel
theorem dX2_seedsNeeded_70 : decode cX2_seedsNeeded 70 = .ok (.iconst 0, 1) := by decide +kernel
theorem dX2_seedsNeeded_71 : decode cX2_seedsNeeded 71 = .ok (.istore_n 3, 1) := by decide +kernel
theorem dX2_seedsNeeded_72 : decode cX2_seedsNeeded 72 = .ok (.iconst 0, 1) := by decide +kernel
theorem dX2_seedsNeeded_73 : decode cX2_seedsNeeded 73 = .ok (.istore 4, 2) := by decide +kernel
theorem dX2_seedsNeeded_75 : decode cX2_seedsNeeded 75 = .ok (.iload 4, 2) := by decide +kernel
theorem dX2_seedsNeeded_77 : decode cX2_seedsNeeded 77 = .ok (.bipush 64, 2) := by decide +kernel
theorem dX2_seedsNeeded_79 : decode cX2_seedsNeeded 79 = .ok (.if_icmp .ge 59, 3) := by decide +kernel
theorem dX2_seedsNeeded_82 : decode cX2_seedsNeeded 82 = .ok (.iload_n 3, 1) := by decide +kernel
theorem dX2_seedsNeeded_83 : decode cX2_seedsNeeded 83 = .ok (.ifCond .eq 49, 3) := by decide +kernel
theorem dX2_seedsNeeded_86 : decode cX2_seedsNeeded 86 = .ok (.iload 4, 2) := by decide +kernel
theorem dX2_seedsNeeded_88 : decode cX2_seedsNeeded 88 = .ok (.iload_n 2, 1) := by decide +kernel
theorem dX2_seedsNeeded_89 : decode cX2_seedsNeeded 89 = .ok (.iand, 1) := by decide +kernel
theorem dX2_seedsNeeded_90 : decode cX2_seedsNeeded 90 = .ok (.ifCond .ne 42, 3) := by decide +kernel
theorem dX2_seedsNeeded_93 : decode cX2_seedsNeeded 93 = .ok (.aload_n 0, 1) := by decide +kernel
theorem dX2_seedsNeeded_94 : decode cX2_seedsNeeded 94 = .ok (.getfield 16, 3) := by decide +kernel
theorem dX2_seedsNeeded_97 : decode cX2_seedsNeeded 97 = .ok (.iload 4, 2) := by decide +kernel
theorem dX2_seedsNeeded_99 : decode cX2_seedsNeeded 99 = .ok (.iaload, 1) := by decide +kernel
theorem dX2_seedsNeeded_100 : decode cX2_seedsNeeded 100 = .ok (.iconst 1, 1) := by decide +kernel
theorem dX2_seedsNeeded_101 : decode cX2_seedsNeeded 101 = .ok (.iadd, 1) := by decide +kernel
theorem dX2_seedsNeeded_102 : decode cX2_seedsNeeded 102 = .ok (.aload_n 0, 1) := by decide +kernel
theorem dX2_seedsNeeded_103 : decode cX2_seedsNeeded 103 = .ok (.getfield 16, 3) := by decide +kernel
theorem dX2_seedsNeeded_106 : decode cX2_seedsNeeded 106 = .ok (.iload 4, 2) := by decide +kernel
theorem dX2_seedsNeeded_108 : decode cX2_seedsNeeded 108 = .ok (.iload_n 2, 1) := by decide +kernel
theorem dX2_seedsNeeded_109 : decode cX2_seedsNeeded 109 = .ok (.ior, 1) := by decide +kernel
theorem dX2_seedsNeeded_110 : decode cX2_seedsNeeded 110 = .ok (.iaload, 1) := by decide +kernel
theorem dX2_seedsNeeded_111 : decode cX2_seedsNeeded 111 = .ok (.if_icmp .ge 21, 3) := by decide +kernel
theorem dX2_seedsNeeded_114 : decode cX2_seedsNeeded 114 = .ok (.aload_n 0, 1) := by decide +kernel
theorem dX2_seedsNeeded_115 : decode cX2_seedsNeeded 115 = .ok (.getfield 16, 3) := by decide +kernel
theorem dX2_seedsNeeded_118 : decode cX2_seedsNeeded 118 = .ok (.iload 4, 2) := by decide +kernel
theorem dX2_seedsNeeded_120 : decode cX2_seedsNeeded 120 = .ok (.iload_n 2, 1) := by decide +kernel
theorem dX2_seedsNeeded_121 : decode cX2_seedsNeeded 121 = .ok (.ior, 1) := by decide +kernel
theorem dX2_seedsNeeded_122 : decode cX2_seedsNeeded 122 = .ok (.aload_n 0, 1) := by decide +kernel
theorem dX2_seedsNeeded_123 : decode cX2_seedsNeeded 123 = .ok (.getfield 16, 3) := by decide +kernel
theorem dX2_seedsNeeded_126 : decode cX2_seedsNeeded 126 = .ok (.iload 4, 2) := by decide +kernel
theorem dX2_seedsNeeded_128 : decode cX2_seedsNeeded 128 = .ok (.iaload, 1) := by decide +kernel
theorem dX2_seedsNeeded_129 : decode cX2_seedsNeeded 129 = .ok (.iconst 1, 1) := by decide +kernel
theorem dX2_seedsNeeded_130 : decode cX2_seedsNeeded 130 = .ok (.iadd, 1) := by decide +kernel
theorem dX2_seedsNeeded_131 : decode cX2_seedsNeeded 131 = .ok (.iastore, 1) := by decide +kernel
theorem dX2_seedsNeeded_132 : decode cX2_seedsNeeded 132 = .ok (.iinc 4 1, 3) := by decide +kernel
theorem dX2_seedsNeeded_135 : decode cX2_seedsNeeded 135 = .ok (.goto (-60), 3) := by decide +kernel
theorem dX2_seedsNeeded_138 : decode cX2_seedsNeeded 138 = .ok (.iinc 2 1, 3) := by decide +kernel
theorem dX2_seedsNeeded_141 : decode cX2_seedsNeeded 141 = .ok (.goto (-99), 3) := by decide +kernel
theorem dX2_seedsNeeded_144 : decode cX2_seedsNeeded 144 = .ok (.aload_n 0, 1) := by decide +kernel
theorem dX2_seedsNeeded_145 : decode cX2_seedsNeeded 145 = .ok (.getfield 16, 3) := by decide +kernel
theorem dX2_seedsNeeded_148 : decode cX2_seedsNeeded 148 = .ok (.iload_n 1, 1) := by decide +kernel
theorem dX2_seedsNeeded_149 : decode cX2_seedsNeeded 149 = .ok (.iaload, 1) := by decide +kernel
theorem dX2_seedsNeeded_150 : decode cX2_seedsNeeded 150 = .ok (.bipush 100, 2) := by decide +kernel
theorem dX2_seedsNeeded_152 : decode cX2_seedsNeeded 152 = .ok (.if_icmp .ne 8, 3) := by decide +kernel
theorem dX2_seedsNeeded_155 : decode cX2_seedsNeeded 155 = .ok (.bipush (-2), 2) := by decide +kernel
theorem dX2_seedsNeeded_157 : decode cX2_seedsNeeded 157 = .ok (.goto 9, 3) := by decide +kernel
theorem dX2_seedsNeeded_160 : decode cX2_seedsNeeded 160 = .ok (.aload_n 0, 1) := by decide +kernel
theorem dX2_seedsNeeded_161 : decode cX2_seedsNeeded 161 = .ok (.getfield 16, 3) := by decide +kernel
theorem dX2_seedsNeeded_164 : decode cX2_seedsNeeded 164 = .ok (.iload_n 1, 1) := by decide +kernel
theorem dX2_seedsNeeded_165 : decode cX2_seedsNeeded 165 = .ok (.iaload, 1) := by decide +kernel
theorem dX2_seedsNeeded_166 : decode cX2_seedsNeeded 166 = .ok (.ireturn, 1) := by decide +kernel
theorem dX2_forget_0 : decode cX2_forget 0 = .ok (.iload_n 1, 1) := by decide +kernel
theorem dX2_forget_1 : decode cX2_forget 1 = .ok (.ifCond .lt 8, 3) := by decide +kernel
theorem dX2_forget_4 : decode cX2_forget 4 = .ok (.iload_n 1, 1) := by decide +kernel
theorem dX2_forget_5 : decode cX2_forget 5 = .ok (.iconst 5, 1) := by decide +kernel
theorem dX2_forget_6 : decode cX2_forget 6 = .ok (.if_icmp .le 5, 3) := by decide +kernel
theorem dX2_forget_9 : decode cX2_forget 9 = .ok (.iconst 0, 1) := by decide +kernel
theorem dX2_forget_10 : decode cX2_forget 10 = .ok (.ireturn, 1) := by decide +kernel
theorem dX2_forget_11 : decode cX2_forget 11 = .ok (.iconst 0, 1) := by decide +kernel
theorem dX2_forget_12 : decode cX2_forget 12 = .ok (.istore_n 2, 1) := by decide +kernel
theorem dX2_forget_13 : decode cX2_forget 13 = .ok (.iload_n 2, 1) := by decide +kernel
theorem dX2_forget_14 : decode cX2_forget 14 = .ok (.bipush 64, 2) := by decide +kernel
theorem dX2_forget_16 : decode cX2_forget 16 = .ok (.if_icmp .ge 21, 3) := by decide +kernel
theorem dX2_forget_19 : decode cX2_forget 19 = .ok (.aload_n 0, 1) := by decide +kernel
theorem dX2_forget_20 : decode cX2_forget 20 = .ok (.getfield 13, 3) := by decide +kernel
theorem dX2_forget_23 : decode cX2_forget 23 = .ok (.bipush 64, 2) := by decide +kernel
theorem dX2_forget_25 : decode cX2_forget 25 = .ok (.iload_n 1, 1) := by decide +kernel
theorem dX2_forget_26 : decode cX2_forget 26 = .ok (.imul, 1) := by decide +kernel
theorem dX2_forget_27 : decode cX2_forget 27 = .ok (.iload_n 2, 1) := by decide +kernel
theorem dX2_forget_28 : decode cX2_forget 28 = .ok (.iadd, 1) := by decide +kernel
theorem dX2_forget_29 : decode cX2_forget 29 = .ok (.iconst 2, 1) := by decide +kernel
theorem dX2_forget_30 : decode cX2_forget 30 = .ok (.iastore, 1) := by decide +kernel
theorem dX2_forget_31 : decode cX2_forget 31 = .ok (.iinc 2 1, 3) := by decide +kernel
theorem dX2_forget_34 : decode cX2_forget 34 = .ok (.goto (-21), 3) := by decide +kernel
theorem dX2_forget_37 : decode cX2_forget 37 = .ok (.iconst 1, 1) := by decide +kernel
theorem dX2_forget_38 : decode cX2_forget 38 = .ok (.ireturn, 1) := by decide +kernel
end
section
/-! the law's own entry -/
set_option maxRecDepth 100000
abbrev cL_law : ByteArray := code
theorem dL_law_0 : decode cL_law 0 = .ok (.new 7, 3) := by decide +kernel
theorem dL_law_3 : decode cL_law 3 = .ok (.dup, 1) := by decide +kernel
theorem dL_law_4 : decode cL_law 4 = .ok (.aload_n 0, 1) := by decide +kernel
theorem dL_law_5 : decode cL_law 5 = .ok (.iconst 0, 1) := by decide +kernel
theorem dL_law_6 : decode cL_law 6 = .ok (.invokestatic 9, 3) := by decide +kernel
theorem dL_law_9 : decode cL_law 9 = .ok (.aload_n 0, 1) := by decide +kernel
theorem dL_law_10 : decode cL_law 10 = .ok (.iconst 1, 1) := by decide +kernel
theorem dL_law_11 : decode cL_law 11 = .ok (.invokestatic 9, 3) := by decide +kernel
theorem dL_law_14 : decode cL_law 14 = .ok (.invokespecial 15, 3) := by decide +kernel
theorem dL_law_17 : decode cL_law 17 = .ok (.astore_n 1, 1) := by decide +kernel
theorem dL_law_18 : decode cL_law 18 = .ok (.new 18, 3) := by decide +kernel
theorem dL_law_21 : decode cL_law 21 = .ok (.dup, 1) := by decide +kernel
theorem dL_law_22 : decode cL_law 22 = .ok (.aload_n 0, 1) := by decide +kernel
theorem dL_law_23 : decode cL_law 23 = .ok (.iconst 0, 1) := by decide +kernel
theorem dL_law_24 : decode cL_law 24 = .ok (.invokestatic 9, 3) := by decide +kernel
theorem dL_law_27 : decode cL_law 27 = .ok (.aload_n 0, 1) := by decide +kernel
theorem dL_law_28 : decode cL_law 28 = .ok (.iconst 1, 1) := by decide +kernel
theorem dL_law_29 : decode cL_law 29 = .ok (.invokestatic 9, 3) := by decide +kernel
theorem dL_law_32 : decode cL_law 32 = .ok (.invokespecial 20, 3) := by decide +kernel
theorem dL_law_35 : decode cL_law 35 = .ok (.astore_n 2, 1) := by decide +kernel
theorem dL_law_36 : decode cL_law 36 = .ok (.iconst 2, 1) := by decide +kernel
theorem dL_law_37 : decode cL_law 37 = .ok (.istore_n 3, 1) := by decide +kernel
theorem dL_law_38 : decode cL_law 38 = .ok (.iload_n 3, 1) := by decide +kernel
theorem dL_law_39 : decode cL_law 39 = .ok (.aload_n 0, 1) := by decide +kernel
theorem dL_law_40 : decode cL_law 40 = .ok (.arraylength, 1) := by decide +kernel
theorem dL_law_41 : decode cL_law 41 = .ok (.iconst 5, 1) := by decide +kernel
theorem dL_law_42 : decode cL_law 42 = .ok (.isub, 1) := by decide +kernel
theorem dL_law_43 : decode cL_law 43 = .ok (.if_icmp .gt 354, 3) := by decide +kernel
theorem dL_law_46 : decode cL_law 46 = .ok (.aload_n 0, 1) := by decide +kernel
theorem dL_law_47 : decode cL_law 47 = .ok (.iload_n 3, 1) := by decide +kernel
theorem dL_law_48 : decode cL_law 48 = .ok (.iaload, 1) := by decide +kernel
theorem dL_law_49 : decode cL_law 49 = .ok (.bipush 15, 2) := by decide +kernel
theorem dL_law_51 : decode cL_law 51 = .ok (.iand, 1) := by decide +kernel
theorem dL_law_52 : decode cL_law 52 = .ok (.tableswitch 339 0 8 #[52, 85, 138, 181, 204, 227, 250, 293, 316], 52) := by decide +kernel
theorem dL_law_104 : decode cL_law 104 = .ok (.aload_n 1, 1) := by decide +kernel
theorem dL_law_105 : decode cL_law 105 = .ok (.aload_n 0, 1) := by decide +kernel
theorem dL_law_106 : decode cL_law 106 = .ok (.iload_n 3, 1) := by decide +kernel
theorem dL_law_107 : decode cL_law 107 = .ok (.iconst 1, 1) := by decide +kernel
theorem dL_law_108 : decode cL_law 108 = .ok (.iadd, 1) := by decide +kernel
theorem dL_law_109 : decode cL_law 109 = .ok (.iaload, 1) := by decide +kernel
theorem dL_law_110 : decode cL_law 110 = .ok (.aload_n 0, 1) := by decide +kernel
theorem dL_law_111 : decode cL_law 111 = .ok (.iload_n 3, 1) := by decide +kernel
theorem dL_law_112 : decode cL_law 112 = .ok (.iconst 2, 1) := by decide +kernel
theorem dL_law_113 : decode cL_law 113 = .ok (.iadd, 1) := by decide +kernel
theorem dL_law_114 : decode cL_law 114 = .ok (.iaload, 1) := by decide +kernel
theorem dL_law_115 : decode cL_law 115 = .ok (.invokevirtual 21, 3) := by decide +kernel
theorem dL_law_118 : decode cL_law 118 = .ok (.aload_n 2, 1) := by decide +kernel
theorem dL_law_119 : decode cL_law 119 = .ok (.aload_n 0, 1) := by decide +kernel
theorem dL_law_120 : decode cL_law 120 = .ok (.iload_n 3, 1) := by decide +kernel
theorem dL_law_121 : decode cL_law 121 = .ok (.iconst 1, 1) := by decide +kernel
theorem dL_law_122 : decode cL_law 122 = .ok (.iadd, 1) := by decide +kernel
theorem dL_law_123 : decode cL_law 123 = .ok (.iaload, 1) := by decide +kernel
theorem dL_law_124 : decode cL_law 124 = .ok (.aload_n 0, 1) := by decide +kernel
theorem dL_law_125 : decode cL_law 125 = .ok (.iload_n 3, 1) := by decide +kernel
theorem dL_law_126 : decode cL_law 126 = .ok (.iconst 2, 1) := by decide +kernel
theorem dL_law_127 : decode cL_law 127 = .ok (.iadd, 1) := by decide +kernel
theorem dL_law_128 : decode cL_law 128 = .ok (.iaload, 1) := by decide +kernel
theorem dL_law_129 : decode cL_law 129 = .ok (.invokevirtual 25, 3) := by decide +kernel
theorem dL_law_132 : decode cL_law 132 = .ok (.if_icmp .eq 259, 3) := by decide +kernel
theorem dL_law_135 : decode cL_law 135 = .ok (.iconst 0, 1) := by decide +kernel
theorem dL_law_136 : decode cL_law 136 = .ok (.ireturn, 1) := by decide +kernel
theorem dL_law_137 : decode cL_law 137 = .ok (.aload_n 1, 1) := by decide +kernel
theorem dL_law_138 : decode cL_law 138 = .ok (.aload_n 0, 1) := by decide +kernel
theorem dL_law_139 : decode cL_law 139 = .ok (.iload_n 3, 1) := by decide +kernel
theorem dL_law_140 : decode cL_law 140 = .ok (.iconst 1, 1) := by decide +kernel
theorem dL_law_141 : decode cL_law 141 = .ok (.iadd, 1) := by decide +kernel
theorem dL_law_142 : decode cL_law 142 = .ok (.iaload, 1) := by decide +kernel
theorem dL_law_143 : decode cL_law 143 = .ok (.aload_n 0, 1) := by decide +kernel
theorem dL_law_144 : decode cL_law 144 = .ok (.iload_n 3, 1) := by decide +kernel
theorem dL_law_145 : decode cL_law 145 = .ok (.iconst 2, 1) := by decide +kernel
theorem dL_law_146 : decode cL_law 146 = .ok (.iadd, 1) := by decide +kernel
theorem dL_law_147 : decode cL_law 147 = .ok (.iaload, 1) := by decide +kernel
theorem dL_law_148 : decode cL_law 148 = .ok (.aload_n 0, 1) := by decide +kernel
theorem dL_law_149 : decode cL_law 149 = .ok (.iload_n 3, 1) := by decide +kernel
theorem dL_law_150 : decode cL_law 150 = .ok (.iconst 3, 1) := by decide +kernel
theorem dL_law_151 : decode cL_law 151 = .ok (.iadd, 1) := by decide +kernel
theorem dL_law_152 : decode cL_law 152 = .ok (.iaload, 1) := by decide +kernel
theorem dL_law_153 : decode cL_law 153 = .ok (.aload_n 0, 1) := by decide +kernel
theorem dL_law_154 : decode cL_law 154 = .ok (.iload_n 3, 1) := by decide +kernel
theorem dL_law_155 : decode cL_law 155 = .ok (.iconst 4, 1) := by decide +kernel
theorem dL_law_156 : decode cL_law 156 = .ok (.iadd, 1) := by decide +kernel
theorem dL_law_157 : decode cL_law 157 = .ok (.iaload, 1) := by decide +kernel
theorem dL_law_158 : decode cL_law 158 = .ok (.invokevirtual 26, 3) := by decide +kernel
theorem dL_law_161 : decode cL_law 161 = .ok (.aload_n 2, 1) := by decide +kernel
theorem dL_law_162 : decode cL_law 162 = .ok (.aload_n 0, 1) := by decide +kernel
theorem dL_law_163 : decode cL_law 163 = .ok (.iload_n 3, 1) := by decide +kernel
theorem dL_law_164 : decode cL_law 164 = .ok (.iconst 1, 1) := by decide +kernel
theorem dL_law_165 : decode cL_law 165 = .ok (.iadd, 1) := by decide +kernel
theorem dL_law_166 : decode cL_law 166 = .ok (.iaload, 1) := by decide +kernel
theorem dL_law_167 : decode cL_law 167 = .ok (.aload_n 0, 1) := by decide +kernel
theorem dL_law_168 : decode cL_law 168 = .ok (.iload_n 3, 1) := by decide +kernel
theorem dL_law_169 : decode cL_law 169 = .ok (.iconst 2, 1) := by decide +kernel
theorem dL_law_170 : decode cL_law 170 = .ok (.iadd, 1) := by decide +kernel
theorem dL_law_171 : decode cL_law 171 = .ok (.iaload, 1) := by decide +kernel
theorem dL_law_172 : decode cL_law 172 = .ok (.aload_n 0, 1) := by decide +kernel
theorem dL_law_173 : decode cL_law 173 = .ok (.iload_n 3, 1) := by decide +kernel
theorem dL_law_174 : decode cL_law 174 = .ok (.iconst 3, 1) := by decide +kernel
theorem dL_law_175 : decode cL_law 175 = .ok (.iadd, 1) := by decide +kernel
theorem dL_law_176 : decode cL_law 176 = .ok (.iaload, 1) := by decide +kernel
theorem dL_law_177 : decode cL_law 177 = .ok (.aload_n 0, 1) := by decide +kernel
theorem dL_law_178 : decode cL_law 178 = .ok (.iload_n 3, 1) := by decide +kernel
theorem dL_law_179 : decode cL_law 179 = .ok (.iconst 4, 1) := by decide +kernel
theorem dL_law_180 : decode cL_law 180 = .ok (.iadd, 1) := by decide +kernel
theorem dL_law_181 : decode cL_law 181 = .ok (.iaload, 1) := by decide +kernel
theorem dL_law_182 : decode cL_law 182 = .ok (.invokevirtual 30, 3) := by decide +kernel
theorem dL_law_185 : decode cL_law 185 = .ok (.if_icmp .eq 206, 3) := by decide +kernel
theorem dL_law_188 : decode cL_law 188 = .ok (.iconst 0, 1) := by decide +kernel
theorem dL_law_189 : decode cL_law 189 = .ok (.ireturn, 1) := by decide +kernel
theorem dL_law_190 : decode cL_law 190 = .ok (.aload_n 1, 1) := by decide +kernel
theorem dL_law_191 : decode cL_law 191 = .ok (.aload_n 0, 1) := by decide +kernel
theorem dL_law_192 : decode cL_law 192 = .ok (.iload_n 3, 1) := by decide +kernel
theorem dL_law_193 : decode cL_law 193 = .ok (.iconst 1, 1) := by decide +kernel
theorem dL_law_194 : decode cL_law 194 = .ok (.iadd, 1) := by decide +kernel
theorem dL_law_195 : decode cL_law 195 = .ok (.iaload, 1) := by decide +kernel
theorem dL_law_196 : decode cL_law 196 = .ok (.aload_n 0, 1) := by decide +kernel
theorem dL_law_197 : decode cL_law 197 = .ok (.iload_n 3, 1) := by decide +kernel
theorem dL_law_198 : decode cL_law 198 = .ok (.iconst 2, 1) := by decide +kernel
theorem dL_law_199 : decode cL_law 199 = .ok (.iadd, 1) := by decide +kernel
theorem dL_law_200 : decode cL_law 200 = .ok (.iaload, 1) := by decide +kernel
theorem dL_law_201 : decode cL_law 201 = .ok (.aload_n 0, 1) := by decide +kernel
theorem dL_law_202 : decode cL_law 202 = .ok (.iload_n 3, 1) := by decide +kernel
theorem dL_law_203 : decode cL_law 203 = .ok (.iconst 3, 1) := by decide +kernel
theorem dL_law_204 : decode cL_law 204 = .ok (.iadd, 1) := by decide +kernel
theorem dL_law_205 : decode cL_law 205 = .ok (.iaload, 1) := by decide +kernel
theorem dL_law_206 : decode cL_law 206 = .ok (.invokevirtual 31, 3) := by decide +kernel
theorem dL_law_209 : decode cL_law 209 = .ok (.aload_n 2, 1) := by decide +kernel
theorem dL_law_210 : decode cL_law 210 = .ok (.aload_n 0, 1) := by decide +kernel
theorem dL_law_211 : decode cL_law 211 = .ok (.iload_n 3, 1) := by decide +kernel
theorem dL_law_212 : decode cL_law 212 = .ok (.iconst 1, 1) := by decide +kernel
theorem dL_law_213 : decode cL_law 213 = .ok (.iadd, 1) := by decide +kernel
theorem dL_law_214 : decode cL_law 214 = .ok (.iaload, 1) := by decide +kernel
theorem dL_law_215 : decode cL_law 215 = .ok (.aload_n 0, 1) := by decide +kernel
theorem dL_law_216 : decode cL_law 216 = .ok (.iload_n 3, 1) := by decide +kernel
theorem dL_law_217 : decode cL_law 217 = .ok (.iconst 2, 1) := by decide +kernel
theorem dL_law_218 : decode cL_law 218 = .ok (.iadd, 1) := by decide +kernel
theorem dL_law_219 : decode cL_law 219 = .ok (.iaload, 1) := by decide +kernel
theorem dL_law_220 : decode cL_law 220 = .ok (.aload_n 0, 1) := by decide +kernel
theorem dL_law_221 : decode cL_law 221 = .ok (.iload_n 3, 1) := by decide +kernel
theorem dL_law_222 : decode cL_law 222 = .ok (.iconst 3, 1) := by decide +kernel
theorem dL_law_223 : decode cL_law 223 = .ok (.iadd, 1) := by decide +kernel
theorem dL_law_224 : decode cL_law 224 = .ok (.iaload, 1) := by decide +kernel
theorem dL_law_225 : decode cL_law 225 = .ok (.invokevirtual 35, 3) := by decide +kernel
theorem dL_law_228 : decode cL_law 228 = .ok (.if_icmp .eq 163, 3) := by decide +kernel
theorem dL_law_231 : decode cL_law 231 = .ok (.iconst 0, 1) := by decide +kernel
theorem dL_law_232 : decode cL_law 232 = .ok (.ireturn, 1) := by decide +kernel
theorem dL_law_233 : decode cL_law 233 = .ok (.aload_n 1, 1) := by decide +kernel
theorem dL_law_234 : decode cL_law 234 = .ok (.aload_n 0, 1) := by decide +kernel
theorem dL_law_235 : decode cL_law 235 = .ok (.iload_n 3, 1) := by decide +kernel
theorem dL_law_236 : decode cL_law 236 = .ok (.iconst 1, 1) := by decide +kernel
theorem dL_law_237 : decode cL_law 237 = .ok (.iadd, 1) := by decide +kernel
theorem dL_law_238 : decode cL_law 238 = .ok (.iaload, 1) := by decide +kernel
theorem dL_law_239 : decode cL_law 239 = .ok (.invokevirtual 36, 3) := by decide +kernel
theorem dL_law_242 : decode cL_law 242 = .ok (.aload_n 2, 1) := by decide +kernel
theorem dL_law_243 : decode cL_law 243 = .ok (.aload_n 0, 1) := by decide +kernel
theorem dL_law_244 : decode cL_law 244 = .ok (.iload_n 3, 1) := by decide +kernel
theorem dL_law_245 : decode cL_law 245 = .ok (.iconst 1, 1) := by decide +kernel
theorem dL_law_246 : decode cL_law 246 = .ok (.iadd, 1) := by decide +kernel
theorem dL_law_247 : decode cL_law 247 = .ok (.iaload, 1) := by decide +kernel
theorem dL_law_248 : decode cL_law 248 = .ok (.invokevirtual 40, 3) := by decide +kernel
theorem dL_law_251 : decode cL_law 251 = .ok (.if_icmp .eq 140, 3) := by decide +kernel
theorem dL_law_254 : decode cL_law 254 = .ok (.iconst 0, 1) := by decide +kernel
theorem dL_law_255 : decode cL_law 255 = .ok (.ireturn, 1) := by decide +kernel
theorem dL_law_256 : decode cL_law 256 = .ok (.aload_n 1, 1) := by decide +kernel
theorem dL_law_257 : decode cL_law 257 = .ok (.aload_n 0, 1) := by decide +kernel
theorem dL_law_258 : decode cL_law 258 = .ok (.iload_n 3, 1) := by decide +kernel
theorem dL_law_259 : decode cL_law 259 = .ok (.iconst 1, 1) := by decide +kernel
theorem dL_law_260 : decode cL_law 260 = .ok (.iadd, 1) := by decide +kernel
theorem dL_law_261 : decode cL_law 261 = .ok (.iaload, 1) := by decide +kernel
theorem dL_law_262 : decode cL_law 262 = .ok (.invokevirtual 41, 3) := by decide +kernel
theorem dL_law_265 : decode cL_law 265 = .ok (.aload_n 2, 1) := by decide +kernel
theorem dL_law_266 : decode cL_law 266 = .ok (.aload_n 0, 1) := by decide +kernel
theorem dL_law_267 : decode cL_law 267 = .ok (.iload_n 3, 1) := by decide +kernel
theorem dL_law_268 : decode cL_law 268 = .ok (.iconst 1, 1) := by decide +kernel
theorem dL_law_269 : decode cL_law 269 = .ok (.iadd, 1) := by decide +kernel
theorem dL_law_270 : decode cL_law 270 = .ok (.iaload, 1) := by decide +kernel
theorem dL_law_271 : decode cL_law 271 = .ok (.invokevirtual 44, 3) := by decide +kernel
theorem dL_law_274 : decode cL_law 274 = .ok (.if_icmp .eq 117, 3) := by decide +kernel
theorem dL_law_277 : decode cL_law 277 = .ok (.iconst 0, 1) := by decide +kernel
theorem dL_law_278 : decode cL_law 278 = .ok (.ireturn, 1) := by decide +kernel
theorem dL_law_279 : decode cL_law 279 = .ok (.aload_n 1, 1) := by decide +kernel
theorem dL_law_280 : decode cL_law 280 = .ok (.aload_n 0, 1) := by decide +kernel
theorem dL_law_281 : decode cL_law 281 = .ok (.iload_n 3, 1) := by decide +kernel
theorem dL_law_282 : decode cL_law 282 = .ok (.iconst 1, 1) := by decide +kernel
theorem dL_law_283 : decode cL_law 283 = .ok (.iadd, 1) := by decide +kernel
theorem dL_law_284 : decode cL_law 284 = .ok (.iaload, 1) := by decide +kernel
theorem dL_law_285 : decode cL_law 285 = .ok (.invokevirtual 45, 3) := by decide +kernel
theorem dL_law_288 : decode cL_law 288 = .ok (.aload_n 2, 1) := by decide +kernel
theorem dL_law_289 : decode cL_law 289 = .ok (.aload_n 0, 1) := by decide +kernel
theorem dL_law_290 : decode cL_law 290 = .ok (.iload_n 3, 1) := by decide +kernel
theorem dL_law_291 : decode cL_law 291 = .ok (.iconst 1, 1) := by decide +kernel
theorem dL_law_292 : decode cL_law 292 = .ok (.iadd, 1) := by decide +kernel
theorem dL_law_293 : decode cL_law 293 = .ok (.iaload, 1) := by decide +kernel
theorem dL_law_294 : decode cL_law 294 = .ok (.invokevirtual 48, 3) := by decide +kernel
theorem dL_law_297 : decode cL_law 297 = .ok (.if_icmp .eq 94, 3) := by decide +kernel
theorem dL_law_300 : decode cL_law 300 = .ok (.iconst 0, 1) := by decide +kernel
theorem dL_law_301 : decode cL_law 301 = .ok (.ireturn, 1) := by decide +kernel
theorem dL_law_302 : decode cL_law 302 = .ok (.aload_n 1, 1) := by decide +kernel
theorem dL_law_303 : decode cL_law 303 = .ok (.aload_n 0, 1) := by decide +kernel
theorem dL_law_304 : decode cL_law 304 = .ok (.iload_n 3, 1) := by decide +kernel
theorem dL_law_305 : decode cL_law 305 = .ok (.iconst 1, 1) := by decide +kernel
theorem dL_law_306 : decode cL_law 306 = .ok (.iadd, 1) := by decide +kernel
theorem dL_law_307 : decode cL_law 307 = .ok (.iaload, 1) := by decide +kernel
theorem dL_law_308 : decode cL_law 308 = .ok (.aload_n 0, 1) := by decide +kernel
theorem dL_law_309 : decode cL_law 309 = .ok (.iload_n 3, 1) := by decide +kernel
theorem dL_law_310 : decode cL_law 310 = .ok (.iconst 2, 1) := by decide +kernel
theorem dL_law_311 : decode cL_law 311 = .ok (.iadd, 1) := by decide +kernel
theorem dL_law_312 : decode cL_law 312 = .ok (.iaload, 1) := by decide +kernel
theorem dL_law_313 : decode cL_law 313 = .ok (.aload_n 0, 1) := by decide +kernel
theorem dL_law_314 : decode cL_law 314 = .ok (.iload_n 3, 1) := by decide +kernel
theorem dL_law_315 : decode cL_law 315 = .ok (.iconst 3, 1) := by decide +kernel
theorem dL_law_316 : decode cL_law 316 = .ok (.iadd, 1) := by decide +kernel
theorem dL_law_317 : decode cL_law 317 = .ok (.iaload, 1) := by decide +kernel
theorem dL_law_318 : decode cL_law 318 = .ok (.invokevirtual 49, 3) := by decide +kernel
theorem dL_law_321 : decode cL_law 321 = .ok (.aload_n 2, 1) := by decide +kernel
theorem dL_law_322 : decode cL_law 322 = .ok (.aload_n 0, 1) := by decide +kernel
theorem dL_law_323 : decode cL_law 323 = .ok (.iload_n 3, 1) := by decide +kernel
theorem dL_law_324 : decode cL_law 324 = .ok (.iconst 1, 1) := by decide +kernel
theorem dL_law_325 : decode cL_law 325 = .ok (.iadd, 1) := by decide +kernel
theorem dL_law_326 : decode cL_law 326 = .ok (.iaload, 1) := by decide +kernel
theorem dL_law_327 : decode cL_law 327 = .ok (.aload_n 0, 1) := by decide +kernel
theorem dL_law_328 : decode cL_law 328 = .ok (.iload_n 3, 1) := by decide +kernel
theorem dL_law_329 : decode cL_law 329 = .ok (.iconst 2, 1) := by decide +kernel
theorem dL_law_330 : decode cL_law 330 = .ok (.iadd, 1) := by decide +kernel
theorem dL_law_331 : decode cL_law 331 = .ok (.iaload, 1) := by decide +kernel
theorem dL_law_332 : decode cL_law 332 = .ok (.aload_n 0, 1) := by decide +kernel
theorem dL_law_333 : decode cL_law 333 = .ok (.iload_n 3, 1) := by decide +kernel
theorem dL_law_334 : decode cL_law 334 = .ok (.iconst 3, 1) := by decide +kernel
theorem dL_law_335 : decode cL_law 335 = .ok (.iadd, 1) := by decide +kernel
theorem dL_law_336 : decode cL_law 336 = .ok (.iaload, 1) := by decide +kernel
theorem dL_law_337 : decode cL_law 337 = .ok (.invokevirtual 52, 3) := by decide +kernel
theorem dL_law_340 : decode cL_law 340 = .ok (.if_icmp .eq 51, 3) := by decide +kernel
theorem dL_law_343 : decode cL_law 343 = .ok (.iconst 0, 1) := by decide +kernel
theorem dL_law_344 : decode cL_law 344 = .ok (.ireturn, 1) := by decide +kernel
theorem dL_law_345 : decode cL_law 345 = .ok (.aload_n 1, 1) := by decide +kernel
theorem dL_law_346 : decode cL_law 346 = .ok (.aload_n 0, 1) := by decide +kernel
theorem dL_law_347 : decode cL_law 347 = .ok (.iload_n 3, 1) := by decide +kernel
theorem dL_law_348 : decode cL_law 348 = .ok (.iconst 1, 1) := by decide +kernel
theorem dL_law_349 : decode cL_law 349 = .ok (.iadd, 1) := by decide +kernel
theorem dL_law_350 : decode cL_law 350 = .ok (.iaload, 1) := by decide +kernel
theorem dL_law_351 : decode cL_law 351 = .ok (.invokevirtual 53, 3) := by decide +kernel
theorem dL_law_354 : decode cL_law 354 = .ok (.aload_n 2, 1) := by decide +kernel
theorem dL_law_355 : decode cL_law 355 = .ok (.aload_n 0, 1) := by decide +kernel
theorem dL_law_356 : decode cL_law 356 = .ok (.iload_n 3, 1) := by decide +kernel
theorem dL_law_357 : decode cL_law 357 = .ok (.iconst 1, 1) := by decide +kernel
theorem dL_law_358 : decode cL_law 358 = .ok (.iadd, 1) := by decide +kernel
theorem dL_law_359 : decode cL_law 359 = .ok (.iaload, 1) := by decide +kernel
theorem dL_law_360 : decode cL_law 360 = .ok (.invokevirtual 56, 3) := by decide +kernel
theorem dL_law_363 : decode cL_law 363 = .ok (.if_icmp .eq 28, 3) := by decide +kernel
theorem dL_law_366 : decode cL_law 366 = .ok (.iconst 0, 1) := by decide +kernel
theorem dL_law_367 : decode cL_law 367 = .ok (.ireturn, 1) := by decide +kernel
theorem dL_law_368 : decode cL_law 368 = .ok (.aload_n 1, 1) := by decide +kernel
theorem dL_law_369 : decode cL_law 369 = .ok (.aload_n 0, 1) := by decide +kernel
theorem dL_law_370 : decode cL_law 370 = .ok (.iload_n 3, 1) := by decide +kernel
theorem dL_law_371 : decode cL_law 371 = .ok (.iconst 1, 1) := by decide +kernel
theorem dL_law_372 : decode cL_law 372 = .ok (.iadd, 1) := by decide +kernel
theorem dL_law_373 : decode cL_law 373 = .ok (.iaload, 1) := by decide +kernel
theorem dL_law_374 : decode cL_law 374 = .ok (.invokevirtual 57, 3) := by decide +kernel
theorem dL_law_377 : decode cL_law 377 = .ok (.aload_n 2, 1) := by decide +kernel
theorem dL_law_378 : decode cL_law 378 = .ok (.aload_n 0, 1) := by decide +kernel
theorem dL_law_379 : decode cL_law 379 = .ok (.iload_n 3, 1) := by decide +kernel
theorem dL_law_380 : decode cL_law 380 = .ok (.iconst 1, 1) := by decide +kernel
theorem dL_law_381 : decode cL_law 381 = .ok (.iadd, 1) := by decide +kernel
theorem dL_law_382 : decode cL_law 382 = .ok (.iaload, 1) := by decide +kernel
theorem dL_law_383 : decode cL_law 383 = .ok (.invokevirtual 61, 3) := by decide +kernel
theorem dL_law_386 : decode cL_law 386 = .ok (.if_icmp .eq 5, 3) := by decide +kernel
theorem dL_law_389 : decode cL_law 389 = .ok (.iconst 0, 1) := by decide +kernel
theorem dL_law_390 : decode cL_law 390 = .ok (.ireturn, 1) := by decide +kernel
theorem dL_law_391 : decode cL_law 391 = .ok (.iinc 3 5, 3) := by decide +kernel
theorem dL_law_394 : decode cL_law 394 = .ok (.goto (-356), 3) := by decide +kernel
theorem dL_law_397 : decode cL_law 397 = .ok (.iconst 1, 1) := by decide +kernel
theorem dL_law_398 : decode cL_law 398 = .ok (.ireturn, 1) := by decide +kernel
end
section
/-! pasted out of the kit: order and bits of ints, counts (NUMBERS, COUNTS, BITS to-paste) -/
theorem fa_lt (a b : Int32) : a < b ↔ a.toInt < b.toInt := Int32.lt_iff_toInt_lt
theorem fa_le (a b : Int32) : a ≤ b ↔ a.toInt ≤ b.toInt := Int32.le_iff_toInt_le
theorem fa_eq (a b : Int32) : a = b ↔ a.toInt = b.toInt := Int32.toInt_inj.symm
theorem fa_lit (n : Nat) : (OfNat.ofNat n : Int32) = nI n := rfl
theorem fa_and (a b : Nat) : nI a &&& nI b = nI (a &&& b) := by
  apply Int32.toBitVec_inj.1
  show BitVec.ofNat 32 a &&& BitVec.ofNat 32 b = BitVec.ofNat 32 (a &&& b)
  apply BitVec.eq_of_getLsbD_eq
  intro i hi
  simp [hi]
theorem fa_or (a b : Nat) : nI a ||| nI b = nI (a ||| b) := by
  apply Int32.toBitVec_inj.1
  show BitVec.ofNat 32 a ||| BitVec.ofNat 32 b = BitVec.ofNat 32 (a ||| b)
  apply BitVec.eq_of_getLsbD_eq
  intro i hi
  simp [hi]
theorem fa_mask (n k : Nat) : nI n &&& nI (2 ^ k - 1) = nI (n % 2 ^ k) := by rw [fa_and, Nat.and_two_pow_sub_one_eq_mod]
theorem fa_byte_small {n : Nat} (h : n < 128) : (nI n).toInt8.toInt32 = nI n := by
  have : ∀ j : Fin 128, (nI j.val).toInt8.toInt32 = nI j.val := by decide +kernel
  exact this ⟨n, h⟩
theorem fa_upd_same {f : Nat → Int32} {i : Nat} {x : Int32} (h : f i = x) : upd f i x = f := by
  funext k
  by_cases e : k = i
  · subst e
    rw [pk_us, h]
  · rw [pk_un e]
theorem fb_xorI (a b : Nat) : nI a ^^^ nI b = nI (a ^^^ b) := by
  apply Int32.toBitVec_inj.1
  show BitVec.ofNat 32 a ^^^ BitVec.ofNat 32 b = BitVec.ofNat 32 (a ^^^ b)
  apply BitVec.eq_of_getLsbD_eq
  intro i hi
  simp [hi]
theorem s_l : ∀ n, n < 32 → ((nI n &&& 31).toBitVec.smod 32).toNat = n := by decide +kernel
def fb_ct (p : Nat → Bool) : Nat → Nat
  | 0 => 0
  | n + 1 => fb_ct p n + (if p n then 1 else 0)
theorem fb_ct_succ (p : Nat → Bool) (n : Nat) : fb_ct p (n + 1) = fb_ct p n + (if p n then 1 else 0) := rfl
theorem fb_ct_le (p : Nat → Bool) : ∀ n, fb_ct p n ≤ n
  | 0 => Nat.le_refl _
  | n + 1 => by
    have h := fb_ct_le p n
    rw [fb_ct_succ]
    split <;> omega
theorem fb_ct_step (p : Nat → Bool) (m : Nat) : ∀ n, fb_ct p m ≤ fb_ct p (m + n)
  | 0 => Nat.le_refl _
  | n + 1 => by
    have h := fb_ct_step p m n
    show fb_ct p m ≤ fb_ct p (m + n + 1)
    rw [fb_ct_succ]
    omega
theorem fb_ct_mono (p : Nat → Bool) {m n : Nat} (h : m ≤ n) : fb_ct p m ≤ fb_ct p n := by
  have := fb_ct_step p m (n - m)
  rwa [Nat.add_sub_cancel' h] at this
theorem fb_ct_cong {p q : Nat → Bool} : ∀ {n : Nat}, (∀ k, k < n → p k = q k) → fb_ct p n = fb_ct q n
  | 0, _ => rfl
  | n + 1, h => by
    rw [fb_ct_succ, fb_ct_succ, fb_ct_cong (fun k hk => h k (by omega)), h n (by omega)]
/-- one place changed -/
theorem fb_ct_out (p : Nat → Bool) (b : Bool) {i n : Nat} (h : n ≤ i) : fb_ct (fun k => if k = i then b else p k) n = fb_ct p n :=
  fb_ct_cong fun k hk => if_neg (by omega)
theorem fb_ct_upd (p : Nat → Bool) (b : Bool) {i : Nat} : ∀ {n : Nat}, i < n → fb_ct (fun k => if k = i then b else p k) n + (if p i then 1 else 0) = fb_ct p n + (if b then 1 else 0)
  | 0, h => absurd h (Nat.not_lt_zero i)
  | n + 1, h => by
    rw [fb_ct_succ, fb_ct_succ]
    rcases Nat.lt_or_ge i n with q | q
    · have := fb_ct_upd p b q
      have e : (if n = i then b else p n) = p n := if_neg (by omega)
      rw [e]
      omega
    · have e : i = n := by omega
      subst e
      rw [fb_ct_out p b (Nat.le_refl _)]
      simp only [if_true]
      omega
theorem fb_ct_sub {p q : Nat → Bool} : ∀ {n : Nat}, (∀ k, k < n → p k = true → q k = true) → fb_ct p n ≤ fb_ct q n
  | 0, _ => Nat.le_refl _
  | n + 1, h => by
    have h1 := fb_ct_sub (n := n) (p := p) (q := q) (fun k hk => h k (by omega))
    have h2 := h n (by omega)
    rw [fb_ct_succ, fb_ct_succ]
    cases hp : p n <;> cases hq : q n <;> simp_all <;> omega
theorem fb_ct_or {p q : Nat → Bool} : ∀ {n : Nat}, (∀ k, k < n → ¬ (p k = true ∧ q k = true)) → fb_ct (fun k => p k || q k) n = fb_ct p n + fb_ct q n
  | 0, _ => rfl
  | n + 1, h => by
    have h1 := fb_ct_or (n := n) (p := p) (q := q) (fun k hk => h k (by omega))
    have h2 := h n (by omega)
    rw [fb_ct_succ, fb_ct_succ, fb_ct_succ, h1]
    cases hp : p n <;> cases hq : q n <;> simp_all <;> omega
theorem fb_ct_not (p : Nat → Bool) : ∀ n, fb_ct p n + fb_ct (fun k => !p k) n = n
  | 0 => rfl
  | n + 1 => by
    have h := fb_ct_not p n
    rw [fb_ct_succ, fb_ct_succ]
    cases p n <;> simp <;> omega
theorem fb_ct_split (p : Nat → Bool) (m : Nat) : ∀ n, fb_ct p (m + n) = fb_ct p m + fb_ct (fun k => p (m + k)) n
  | 0 => rfl
  | n + 1 => by
    have h := fb_ct_split p m n
    show fb_ct p (m + n + 1) = _
    rw [fb_ct_succ, fb_ct_succ, h, Nat.add_assoc]
theorem fb_ct_zero {p : Nat → Bool} : ∀ {n : Nat}, fb_ct p n = 0 ↔ ∀ k, k < n → p k = false
  | 0 => ⟨fun _ k hk => absurd hk (Nat.not_lt_zero k), fun _ => rfl⟩
  | n + 1 => by
    have h := fb_ct_zero (p := p) (n := n)
    rw [fb_ct_succ]
    constructor
    · intro e k hk
      have e1 : fb_ct p n = 0 := by omega
      rcases Nat.lt_or_ge k n with q | q
      · exact h.mp e1 k q
      · have ek : k = n := by omega
        subst ek
        cases hp : p k
        · rfl
        · simp [hp] at e
    · intro a
      rw [h.mpr (fun k hk => a k (by omega)), a n (by omega)]
      rfl
theorem fb_ct_pos {p : Nat → Bool} {n : Nat} : 0 < fb_ct p n ↔ ∃ k, k < n ∧ p k = true := by
  constructor
  · intro h
    refine Classical.byContradiction fun hx => ?_
    have := fb_ct_zero.mpr (fun k hk => by
      cases hp : p k
      · rfl
      · exact absurd ⟨k, hk, hp⟩ hx : ∀ k, k < n → p k = false)
    omega
  · rintro ⟨k, hk, hp⟩
    rcases Nat.eq_zero_or_pos (fb_ct p n) with e | e
    · have := fb_ct_zero.mp e k hk
      rw [this] at hp
      cases hp
    · exact e
end
section
/-! PLAIN LAW 1: xor sums, dot products, the register, forms, triangular systems -/
def sd_xs (f : Nat → Bool) : Nat → Bool
  | 0 => false
  | k + 1 => (sd_xs f k) ^^ (f k)
theorem sd_xs_succ (f : Nat → Bool) (k : Nat) : sd_xs f (k + 1) = ((sd_xs f k) ^^ (f k)) := rfl
theorem sd_xs_cong {f g : Nat → Bool} : ∀ {k : Nat}, (∀ b, b < k → f b = g b) → sd_xs f k = sd_xs g k
  | 0, _ => rfl
  | k + 1, h => by
    rw [sd_xs_succ, sd_xs_succ, sd_xs_cong (k := k) (fun b hb => h b (by omega)), h k (by omega)]
theorem sd_xs_xor (f g : Nat → Bool) : ∀ k, sd_xs (fun b => f b ^^ g b) k = (sd_xs f k ^^ sd_xs g k)
  | 0 => rfl
  | k + 1 => by
    rw [sd_xs_succ, sd_xs_succ, sd_xs_succ, sd_xs_xor f g k]
    cases sd_xs f k <;> cases sd_xs g k <;> cases f k <;> cases g k <;> rfl
theorem sd_xs_low {f : Nat → Bool} {j : Nat} : ∀ {k : Nat}, j ≤ k → (∀ b, j ≤ b → b < k → f b = false) → sd_xs f k = sd_xs f j
  | 0, h, _ => by
    have e : j = 0 := by omega
    subst e; rfl
  | k + 1, h, hf => by
    rcases Nat.lt_or_ge k j with q | q
    · have e : j = k + 1 := by omega
      subst e; rfl
    · rw [sd_xs_succ, hf k q (by omega), sd_xs_low q (fun b h1 h2 => hf b h1 (by omega))]
      cases sd_xs f j <;> rfl
theorem sd_xs_false {f : Nat → Bool} {k : Nat} (h : ∀ b, b < k → f b = false) : sd_xs f k = false := by
  rw [sd_xs_low (Nat.zero_le k) (fun b _ hb => h b hb)]; rfl
theorem sd_xs_one {f : Nat → Bool} {j k : Nat} (hj : j < k) (h : ∀ b, b < k → b ≠ j → f b = false) : sd_xs f k = f j := by
  rw [sd_xs_low (show j + 1 ≤ k from hj) (fun b h1 h2 => h b h2 (by omega)), sd_xs_succ, sd_xs_false (fun b hb => h b (by omega) (by omega))]
  cases f j <;> rfl
/-- the parity of the bits that two numbers have in common, below k -/
def sd_dt (k a x : Nat) : Bool := sd_xs (fun b => a.testBit b && x.testBit b) k
def sd_par (k m : Nat) : Bool := sd_xs (fun b => m.testBit b) k
theorem sd_par_succ (k m : Nat) : sd_par (k + 1) m = (sd_par k m ^^ m.testBit k) := rfl
theorem sd_dt_xor (k a b x : Nat) : sd_dt k (a ^^^ b) x = (sd_dt k a x ^^ sd_dt k b x) := by
  unfold sd_dt
  rw [← sd_xs_xor]
  apply sd_xs_cong
  intro i _
  rw [Nat.testBit_xor]
  cases a.testBit i <;> cases b.testBit i <;> cases x.testBit i <;> rfl
theorem sd_dt_zero (k x : Nat) : sd_dt k 0 x = false := sd_xs_false (fun b _ => by rw [Nat.zero_testBit, Bool.false_and])
theorem sd_bit_hi {a j b : Nat} (h : a < 2 ^ j) (hb : j ≤ b) : a.testBit b = false := Nat.testBit_lt_two_pow (Nat.lt_of_lt_of_le h (Nat.pow_le_pow_right (by decide) hb))
theorem sd_dt_low {j k a : Nat} (x : Nat) (hjk : j ≤ k) (h : a < 2 ^ j) : sd_dt k a x = sd_dt j a x :=
  sd_xs_low hjk (fun b h1 _ => by rw [sd_bit_hi h h1, Bool.false_and])
theorem sd_dt_pow {k b : Nat} (x : Nat) (hb : b < k) : sd_dt k (2 ^ b) x = x.testBit b := by
  unfold sd_dt
  rw [sd_xs_one hb (fun i _ hi => by rw [Nat.testBit_two_pow_of_ne (Ne.symm hi), Bool.false_and]), Nat.testBit_two_pow_self, Bool.true_and]
theorem sd_dt_bits {k a x y : Nat} (h : ∀ b, b < k → x.testBit b = y.testBit b) : sd_dt k a x = sd_dt k a y :=
  sd_xs_cong (fun b hb => by rw [h b hb])
theorem sd_par_and (k a x : Nat) : sd_par k (a &&& x) = sd_dt k a x := sd_xs_cong (fun b _ => Nat.testBit_and a x b)
theorem sd_dt_comm (k a x : Nat) : sd_dt k a x = sd_dt k x a := sd_xs_cong (fun b _ => Bool.and_comm _ _)
/-- the register: one step, t steps, what a chain gets -/
def sd_stp (n tp x : Nat) : Nat := (x >>> 1) ||| ((sd_par 8 (x &&& tp)).toNat <<< (n - 1))
def sd_st (n tp x : Nat) : Nat → Nat
  | 0 => x
  | t + 1 => sd_stp n tp (sd_st n tp x t)
def sd_vl (n tp : Nat) (sh : Nat → Nat) (x t c : Nat) : Bool := sd_par 8 (sd_st n tp x t &&& sh c)
theorem sd_stp_lt {n tp x : Nat} (hn : 0 < n) (hx : x < 2 ^ n) : sd_stp n tp x < 2 ^ n := by
  apply Nat.or_lt_two_pow
  · rw [Nat.shiftRight_eq_div_pow]
    exact Nat.lt_of_le_of_lt (Nat.div_le_self _ _) hx
  · rw [Nat.shiftLeft_eq]
    have h1 : (sd_par 8 (x &&& tp)).toNat ≤ 1 := Bool.toNat_le _
    have h2 : 2 ^ n = 2 ^ (n - 1) * 2 := by
      rw [← Nat.pow_succ]; congr 1; omega
    have h3 := Nat.mul_le_mul_right (2 ^ (n - 1)) h1
    have h4 := Nat.two_pow_pos (n - 1)
    omega
theorem sd_st_lt {n tp x : Nat} (hn : 0 < n) (hx : x < 2 ^ n) : ∀ t, sd_st n tp x t < 2 ^ n
  | 0 => hx
  | t + 1 => sd_stp_lt hn (sd_st_lt hn hx t)
theorem sd_stp_top {n tp x : Nat} (hn : 0 < n) (hx : x < 2 ^ n) : (sd_stp n tp x).testBit (n - 1) = sd_par 8 (x &&& tp) := by
  unfold sd_stp
  rw [Nat.testBit_or, Nat.testBit_shiftRight, Nat.testBit_shiftLeft, sd_bit_hi hx (by omega), Nat.sub_self, Nat.testBit_bool_toNat]
  simp
theorem sd_stp_bit {n tp x b : Nat} (hb : b + 1 < n) : (sd_stp n tp x).testBit b = x.testBit (b + 1) := by
  unfold sd_stp
  rw [Nat.testBit_or, Nat.testBit_shiftRight, Nat.testBit_shiftLeft, decide_eq_false (by omega), Bool.false_and, Bool.or_false, Nat.add_comm]
/-- a number whose dot product with every seed is a given function of the seed -/
def sd_form (n : Nat) (v : Int32) (g : Nat → Bool) : Prop := ∃ B : Nat, v = nI B ∧ B < 2 ^ n ∧ ∀ x, x < 2 ^ n → sd_dt n B x = g x
theorem sd_form_zero (n : Nat) : sd_form n 0 (fun _ => false) := ⟨0, rfl, Nat.two_pow_pos n, fun x _ => sd_dt_zero n x⟩
theorem sd_form_xor {n : Nat} {v w : Int32} {g h : Nat → Bool} (hv : sd_form n v g) (hw : sd_form n w h) : sd_form n (v ^^^ w) (fun x => g x ^^ h x) := by
  obtain ⟨A, rfl, hA, eA⟩ := hv
  obtain ⟨B, rfl, hB, eB⟩ := hw
  exact ⟨A ^^^ B, fb_xorI A B, Nat.xor_lt_two_pow hA hB, fun x hx => by rw [sd_dt_xor, eA x hx, eB x hx]⟩
theorem sd_form_cong {n : Nat} {v : Int32} {g h : Nat → Bool} (hv : sd_form n v g) (e : ∀ x, x < 2 ^ n → g x = h x) : sd_form n v h := by
  obtain ⟨A, hv, hA, eA⟩ := hv
  exact ⟨A, hv, hA, fun x hx => (eA x hx).trans (e x hx)⟩
theorem sd_form_bit {n b : Nat} (hb : b < n) : sd_form n (nI (2 ^ b)) (fun x => x.testBit b) := ⟨2 ^ b, rfl, Nat.pow_lt_pow_right (by decide) hb, fun x _ => sd_dt_pow x hb⟩
/-- the first m places' forms are right -/
def sd_FO (n tp : Nat) (sh : Nat → Nat) (fm : Nat → Int32) (m : Nat) : Prop := ∀ i, i < m → sd_form n (fm i) (fun x => sd_vl n tp sh x (i / 4) (i % 4))
/-- the sum of the bits' forms that a number picks, at step t, is the value of the chain that the number is -/
theorem sd_form_vl {n tp m t x : Nat} (hn : 0 < n) (h8 : n ≤ 8) (hx : x < 2 ^ n) : sd_xs (fun b => m.testBit b && (sd_st n tp x t).testBit b) n = sd_par 8 (sd_st n tp x t &&& m) := by
  rw [sd_par_and]
  show sd_dt n m (sd_st n tp x t) = _
  rw [sd_dt_comm n, sd_dt_low _ h8 (sd_st_lt hn hx t)]
/-! triangular systems: equation b has highest bit b; R b its right side -/
def sd_sl (E : Nat → Nat) (R : Nat → Bool) (x : Nat) : Nat → Bool
  | 0 => true
  | k + 1 => sd_sl E R x k && (E k == 0 || sd_dt (k + 1) (E k) x == R k)
theorem sd_sl_succ (E : Nat → Nat) (R : Nat → Bool) (x k : Nat) : sd_sl E R x (k + 1) = (sd_sl E R x k && (E k == 0 || sd_dt (k + 1) (E k) x == R k)) := rfl
theorem sd_sl_iff (E : Nat → Nat) (R : Nat → Bool) (x : Nat) : ∀ k, sd_sl E R x k = true ↔ ∀ b, b < k → E b ≠ 0 → sd_dt (b + 1) (E b) x = R b
  | 0 => ⟨fun _ b hb => absurd hb (Nat.not_lt_zero b), fun _ => rfl⟩
  | k + 1 => by
    rw [sd_sl_succ, Bool.and_eq_true, sd_sl_iff E R x k, Bool.or_eq_true, beq_iff_eq, beq_iff_eq]
    constructor
    · intro ⟨h1, h2⟩ b hb h0
      rcases Nat.lt_or_ge b k with q | q
      · exact h1 b q h0
      · have e : b = k := by omega
        subst e
        rcases h2 with h2 | h2
        · exact absurd h2 h0
        · exact h2
    · intro h
      refine ⟨fun b hb h0 => h b (by omega) h0, ?_⟩
      by_cases h0 : E k = 0
      · exact Or.inl h0
      · exact Or.inr (h k (by omega) h0)
theorem sd_sl_bits {E : Nat → Nat} {R : Nat → Bool} {x y : Nat} : ∀ {k : Nat}, (∀ b, b < k → x.testBit b = y.testBit b) → sd_sl E R x k = sd_sl E R y k
  | 0, _ => rfl
  | k + 1, h => by
    rw [sd_sl_succ, sd_sl_succ, sd_sl_bits (k := k) (fun b hb => h b (by omega)), sd_dt_bits h]
def sd_tri (E : Nat → Nat) (n : Nat) : Prop := ∀ b, b < n → E b ≠ 0 → (E b).testBit b = true ∧ E b < 2 ^ (b + 1)
def sd_fr (E : Nat → Nat) (n : Nat) : Nat := fb_ct (fun b => E b == 0) n
theorem sd_fr_succ (E : Nat → Nat) (k : Nat) : sd_fr E (k + 1) = sd_fr E k + (if E k = 0 then 1 else 0) := by
  unfold sd_fr
  rw [fb_ct_succ]
  by_cases h : E k = 0
  · simp [h]
  · simp [h]
/-- a triangular system has 2^(open bits) solutions -/
theorem sd_count {E : Nat → Nat} (R : Nat → Bool) : ∀ {k : Nat}, sd_tri E k → fb_ct (fun x => sd_sl E R x k) (2 ^ k) = 2 ^ (sd_fr E k)
  | 0, _ => rfl
  | k + 1, hE => by
    have ih := sd_count R (k := k) (fun b hb => hE b (by omega))
    rw [Nat.pow_succ, Nat.mul_two, fb_ct_split, sd_fr_succ]
    have e2 : ∀ x, x < 2 ^ k → sd_sl E R (2 ^ k + x) k = sd_sl E R x k := fun x _ => sd_sl_bits (fun b hb => Nat.testBit_two_pow_add_gt hb x)
    have d1 : ∀ x, x < 2 ^ k → sd_dt (k + 1) (E k) x = sd_dt k (E k) x := by
      intro x hx
      unfold sd_dt
      rw [sd_xs_succ, Nat.testBit_lt_two_pow hx, Bool.and_false, Bool.xor_false]
    have d2 : ∀ x, x < 2 ^ k → sd_dt (k + 1) (E k) (2 ^ k + x) = (sd_dt k (E k) x ^^ (E k).testBit k) := by
      intro x hx
      have e : sd_dt k (E k) (2 ^ k + x) = sd_dt k (E k) x := sd_dt_bits (fun b hb => Nat.testBit_two_pow_add_gt hb x)
      rw [← e]
      show (sd_dt k (E k) (2 ^ k + x) ^^ ((E k).testBit k && (2 ^ k + x).testBit k)) = _
      rw [Nat.testBit_two_pow_add_eq, Nat.testBit_lt_two_pow hx, Bool.not_false, Bool.and_true]
    by_cases h0 : E k = 0
    · rw [if_pos h0, Nat.pow_succ, ← ih, Nat.mul_two]
      congr 1
      · exact fb_ct_cong (fun x _ => by rw [sd_sl_succ]; simp [h0])
      · exact fb_ct_cong (fun x hx => by rw [sd_sl_succ, e2 x hx]; simp [h0])
    · rw [if_neg h0]
      show _ = 2 ^ (sd_fr E k)
      rw [← ih]
      have hb := (hE k (by omega) h0).1
      have hz : (E k == 0) = false := beq_eq_false_iff_ne.mpr h0
      have a1 : fb_ct (fun x => sd_sl E R x (k + 1)) (2 ^ k) = fb_ct (fun x => sd_sl E R x k && (sd_dt k (E k) x == R k)) (2 ^ k) := by
        refine fb_ct_cong (fun x hx => ?_)
        rw [sd_sl_succ, d1 x hx, hz, Bool.false_or]
      have a2 : fb_ct (fun x => sd_sl E R (2 ^ k + x) (k + 1)) (2 ^ k) = fb_ct (fun x => sd_sl E R x k && ((sd_dt k (E k) x ^^ true) == R k)) (2 ^ k) := by
        refine fb_ct_cong (fun x hx => ?_)
        rw [sd_sl_succ, e2 x hx, d2 x hx, hb, hz, Bool.false_or]
      rw [a1, a2, ← fb_ct_or]
      · refine fb_ct_cong (fun x _ => ?_)
        cases sd_sl E R x k <;> cases sd_dt k (E k) x <;> cases R k <;> rfl
      · intro x _
        cases sd_sl E R x k <;> cases sd_dt k (E k) x <;> cases R k <;> simp
theorem sd_ex {E : Nat → Nat} (R : Nat → Bool) {n : Nat} (hE : sd_tri E n) : ∃ x, x < 2 ^ n ∧ sd_sl E R x n = true := by
  have h := sd_count R hE
  exact fb_ct_pos.mp (by rw [h]; exact Nat.two_pow_pos _)
def sd_uN {α : Type} (f : Nat → α) (t : Nat) (v : α) : Nat → α := fun j => if j = t then v else f j
theorem sd_uN_s {α : Type} {f : Nat → α} {t : Nat} {v : α} : sd_uN f t v t = v := if_pos rfl
theorem sd_uN_n {α : Type} {f : Nat → α} {t j : Nat} {v : α} (h : j ≠ t) : sd_uN f t v j = f j := if_neg h
/-- one more equation, its highest bit open so far -/
theorem sd_add {E : Nat → Nat} {R : Nat → Bool} {n t r : Nat} (w : Bool) (hE : sd_tri E n) (ht : t < n) (h0 : E t = 0) (hb : r.testBit t = true) (hl : r < 2 ^ (t + 1)) :
    sd_tri (sd_uN E t r) n ∧ ∀ x, sd_sl (sd_uN E t r) (sd_uN R t w) x n = true ↔ sd_sl E R x n = true ∧ sd_dt n r x = w := by
  have hr : r ≠ 0 := by
    intro e
    rw [e, Nat.zero_testBit] at hb
    cases hb
  refine ⟨?_, fun x => ?_⟩
  · intro b hbn hb0
    by_cases e : b = t
    · subst e
      rw [sd_uN_s]
      exact ⟨hb, hl⟩
    · rw [sd_uN_n e] at hb0 ⊢
      exact hE b hbn hb0
  · rw [sd_sl_iff, sd_sl_iff, sd_dt_low x (show t + 1 ≤ n from ht) hl]
    constructor
    · intro h
      refine ⟨fun b hbn hb0 => ?_, ?_⟩
      · have e : b ≠ t := by
          intro e
          subst e
          exact hb0 h0
        have := h b hbn (by rw [sd_uN_n e]; exact hb0)
        rwa [sd_uN_n e, sd_uN_n e] at this
      · have := h t ht (by rw [sd_uN_s]; exact hr)
        rwa [sd_uN_s, sd_uN_s] at this
    · intro ⟨h1, h2⟩ b hbn hb0
      by_cases e : b = t
      · subst e
        rw [sd_uN_s, sd_uN_s]
        exact h2
      · rw [sd_uN_n e] at hb0
        rw [sd_uN_n e, sd_uN_n e]
        exact h1 b hbn hb0
/-- a form that isn't zero and has no pivot takes both values on the solutions -/
theorem sd_both {E : Nat → Nat} (R : Nat → Bool) {n r : Nat} (hE : sd_tri E n) (hr : r < 2 ^ n) (h0 : r ≠ 0) (hp : ∀ b, b < n → r.testBit b = true → E b = 0) (w : Bool) : ∃ x, x < 2 ^ n ∧ sd_sl E R x n = true ∧ sd_dt n r x = w := by
  have hb := Nat.testBit_log2 h0
  have ht : r.log2 < n := (Nat.log2_lt h0).mpr hr
  obtain ⟨a, c⟩ := sd_add (R := R) w hE ht (hp _ ht hb) hb Nat.lt_log2_self
  obtain ⟨x, hx, hs⟩ := sd_ex (sd_uN R r.log2 w) a
  exact ⟨x, hx, (c x).mp hs⟩
end
section
/-! PLAIN LAW 2: ints as numbers: one bit, powers, ranges -/
theorem sd_bit {m b : Nat} (hm : m < 2 ^ 31) (hb : b < 32) : (nI m >>> (nI b &&& 31)) &&& nI 1 = nI (m.testBit b).toNat := by
  rw [pk_shrN hm _ b (s_l b hb), fa_and, Nat.and_one_is_mod, Nat.toNat_testBit]
theorem sd_p31 {b : Nat} (hb : b < 31) : 2 ^ b < 2 ^ 31 := Nat.pow_lt_pow_right (by decide) hb
theorem sd_p8 {n : Nat} (h : n ≤ 8) : 2 ^ n ≤ 256 := Nat.pow_le_pow_right (n := 2) (by decide) h
theorem sd_shl1 {b : Nat} (hb : b < 31) : nI 1 <<< (nI b &&& 31) = nI (2 ^ b) := by
  have h := sd_p31 hb
  rw [pk_shlN _ b (s_l b (by omega)) (by omega), Nat.one_mul]
theorem sd_shlb {v b : Nat} (hb : b < 31) (hv : v ≤ 1) : nI v <<< (nI b &&& 31) = nI (v <<< b) := by
  have h := sd_p31 hb
  have h2 := Nat.mul_le_mul_right (2 ^ b) hv
  rw [pk_shlN _ b (s_l b (by omega)) (by omega), Nat.shiftLeft_eq]
theorem sd_shr {m b : Nat} (hm : m < 2 ^ 31) (hb : b < 32) : nI m >>> (nI b &&& 31) = nI (m >>> b) := by
  rw [pk_shrN hm _ b (s_l b hb), Nat.shiftRight_eq_div_pow]
theorem sd_b0 (b : Bool) : nI b.toNat = 0 ↔ b = false := by cases b <;> decide
theorem sd_b1 (b : Bool) : nI b.toNat = nI 1 ↔ b = true := by cases b <;> decide
theorem sd_m1 {i : Nat} (h : 0 < i) : nI i + Int32.ofInt (-1) = nI (i - 1) := by
  obtain ⟨j, rfl⟩ : ∃ j, i = j + 1 := ⟨i - 1, by omega⟩
  exact pk_m1 j
theorem sd_m1z : nI 0 + Int32.ofInt (-1) = -1 := by decide
theorem sd_mask (x : Int32) {n : Nat} (hn : n ≤ 8) : x &&& (nI (2 ^ n) - nI 1) = nI (x.toBitVec.toNat % 2 ^ n) := by
  have h := sd_p8 hn
  have h1 := Nat.two_pow_pos n
  rw [pk_sub h1]
  exact pk_and x n (pk_tn (by omega))
/-- p is one of the numbers below b -/
def sd_in (p : Int32) (b : Nat) : Prop := ∃ x : Nat, x < b ∧ p = nI x
theorem sd_in_lt {p : Int32} {b : Nat} (hb : b < 2 ^ 31) (h0 : ¬ p < 0) (h1 : ¬ nI b ≤ p) : sd_in p b := by
  rcases pk_ix p hb with h | h | h
  · exact absurd h h0
  · exact absurd h h1
  · exact h
theorem sd_in_lt' {p : Int32} {b : Nat} (hb : b < 2 ^ 31) (h0 : ¬ p < 0) (h1 : p < nI b) : sd_in p b := by
  refine sd_in_lt hb h0 (fun h => ?_)
  rw [fa_lt] at h1
  rw [fa_le] at h
  omega
theorem sd_in_le {p : Int32} {b : Nat} (hb : b + 1 < 2 ^ 31) (h0 : ¬ p < 0) (h1 : ¬ nI b < p) : sd_in p (b + 1) := by
  rcases pk_ix p hb with h | h | h
  · exact absurd h h0
  · rw [fa_le, nI_toInt hb] at h
    rw [fa_lt, nI_toInt (by omega)] at h1
    omega
  · exact h
theorem sd_in_le' {p : Int32} {b : Nat} (hb : b + 1 < 2 ^ 31) (h0 : ¬ p < 0) (h1 : p ≤ nI b) : sd_in p (b + 1) := by
  refine sd_in_le hb h0 (fun h => ?_)
  rw [fa_lt] at h
  rw [fa_le] at h1
  omega
theorem sd_out_neg {p : Int32} {b : Nat} (hb : b ≤ 2 ^ 31) (h : p < 0) : ¬ sd_in p b := by
  rintro ⟨x, hx, rfl⟩
  exact nI_pos (by omega) h
theorem sd_out_ge {p : Int32} {b : Nat} (hb : b < 2 ^ 31) (h : nI b ≤ p) : ¬ sd_in p b := by
  rintro ⟨x, hx, rfl⟩
  exact nI_ge hx hb h
theorem sd_out_nlt {p : Int32} {b : Nat} (hb : b < 2 ^ 31) (h : ¬ p < nI b) : ¬ sd_in p b := by
  rintro ⟨x, hx, rfl⟩
  exact h (nI_lt hx hb)
theorem sd_out_gt {p : Int32} {b : Nat} (hb : b + 1 < 2 ^ 31) (h : nI b < p) : ¬ sd_in p (b + 1) := by
  rintro ⟨x, hx, rfl⟩
  rw [fa_lt, nI_toInt (by omega), nI_toInt (by omega)] at h
  omega
theorem sd_out_nle {p : Int32} {b : Nat} (hb : b + 1 < 2 ^ 31) (h : ¬ p ≤ nI b) : ¬ sd_in p (b + 1) := by
  rintro ⟨x, hx, rfl⟩
  exact h (nI_le (by omega) (by omega))
theorem sd_in_nn {p : Int32} {b : Nat} (hb : b ≤ 2 ^ 31) (h : sd_in p b) : ¬ p < 0 := fun q => sd_out_neg hb q h
/-- a boolean answer -/
def sd_yn (r : Int32) (P : Prop) : Prop := (r = 1 ∧ P) ∨ (r = 0 ∧ ¬ P)
theorem sd_yn_ne {r : Int32} {P : Prop} (h : sd_yn r P) (h0 : ¬ r = 0) : P := by
  rcases h with ⟨_, h⟩ | ⟨h, _⟩
  · exact h
  · exact absurd h h0
theorem sd_yn_eq {r : Int32} {P : Prop} (h : sd_yn r P) (h0 : r = 0) : ¬ P := by
  rcases h with ⟨h, _⟩ | ⟨_, h⟩
  · rw [h0] at h
    exact absurd h (by decide)
  · exact h
theorem sd_yn_one {r r' : Int32} {P : Prop} (h : sd_yn r P) (h' : sd_yn r' P) : r = r' := by
  rcases h with ⟨h, hP⟩ | ⟨h, hP⟩ <;> rcases h' with ⟨h', hP'⟩ | ⟨h', hP'⟩
  · rw [h, h']
  · exact absurd hP hP'
  · exact absurd hP' hP
  · rw [h, h']
theorem sd_yn_nar {r : Int32} {P : Prop} (h : sd_yn r P) : narrow .boolean (.int r) = .int r := by
  rcases h with ⟨h, _⟩ | ⟨h, _⟩ <;> rw [h] <;> rfl
theorem sd_parN {mm b cN : Nat} (h : cN % 2 = (sd_par b mm).toNat) : (cN + (mm.testBit b).toNat) % 2 = (sd_par (b + 1) mm).toNat := by
  rw [sd_par_succ, Nat.add_mod, h]
  cases sd_par b mm <;> cases mm.testBit b <;> rfl
end
section
/-! PLAIN LAW 3: the equations as the arrays hold them, one reduction, one demand, the greedy seed; what a set of cubes wants -/
/-- the arrays eq, rs hold the triangular system E, R -/
def sd_eqs (n : Nat) (eq rs : Nat → Int32) (E : Nat → Nat) (R : Nat → Bool) : Prop := sd_tri E n ∧ ∀ b, b < n → eq b = nI (E b) ∧ (E b ≠ 0 → rs b = nI (R b).toNat)
theorem sd_tri_lt {E : Nat → Nat} {n b : Nat} (h : sd_tri E n) (hb : b < n) : E b < 2 ^ n := by
  by_cases h0 : E b = 0
  · rw [h0]; exact Nat.two_pow_pos n
  · exact Nat.lt_of_lt_of_le (h b hb h0).2 (Nat.pow_le_pow_right (by decide) hb)
/-- a reduction down to bit j: what is left of the form a and the value v -/
def sd_rd (n : Nat) (E : Nat → Nat) (R : Nat → Bool) (a : Nat) (v : Bool) (j r : Nat) (w : Bool) : Prop :=
  r < 2 ^ n ∧ (∀ b, j ≤ b → b < n → r.testBit b = true → E b = 0) ∧ ∀ x, sd_sl E R x n = true → (sd_dt n a x ^^ v) = (sd_dt n r x ^^ w)
theorem sd_rd_0 {n : Nat} {E : Nat → Nat} {R : Nat → Bool} {a : Nat} {v : Bool} (ha : a < 2 ^ n) : sd_rd n E R a v n a v :=
  ⟨ha, fun b h1 h2 => absurd h2 (by omega), fun _ _ => rfl⟩
theorem sd_rd_skip {n : Nat} {E : Nat → Nat} {R : Nat → Bool} {a : Nat} {v : Bool} {j r : Nat} {w : Bool} (h : sd_rd n E R a v (j + 1) r w) (hs : r.testBit j = true → E j = 0) : sd_rd n E R a v j r w := by
  refine ⟨h.1, fun b h1 h2 h3 => ?_, h.2.2⟩
  by_cases e : b = j
  · subst e; exact hs h3
  · exact h.2.1 b (by omega) h2 h3
theorem sd_rd_take {n : Nat} {E : Nat → Nat} {R : Nat → Bool} {a : Nat} {v : Bool} {j r : Nat} {w : Bool} (hE : sd_tri E n) (hj : j < n) (h : sd_rd n E R a v (j + 1) r w) (h0 : E j ≠ 0) (hb : r.testBit j = true) : sd_rd n E R a v j (r ^^^ E j) (w ^^ R j) := by
  have hT := hE j hj h0
  refine ⟨Nat.xor_lt_two_pow h.1 (sd_tri_lt hE hj), fun b h1 h2 h3 => ?_, fun x hx => ?_⟩
  · by_cases e : b = j
    · subst e
      rw [Nat.testBit_xor, hb, hT.1] at h3
      cases h3
    · rw [Nat.testBit_xor, sd_bit_hi hT.2 (show j + 1 ≤ b by omega), Bool.xor_false] at h3
      exact h.2.1 b (by omega) h2 h3
  · rw [h.2.2 x hx, sd_dt_xor, sd_dt_low x (show j + 1 ≤ n from hj) hT.2, (sd_sl_iff E R x n).mp hx j hj h0]
    cases sd_dt n r x <;> cases w <;> cases R j <;> rfl
/-- a store of a new equation -/
theorem sd_eqs_add {n : Nat} {eq rs : Nat → Int32} {E : Nat → Nat} {R : Nat → Bool} {t r : Nat} {w : Bool} (h : sd_eqs n eq rs E R) (ht : t < n) (h0 : E t = 0) (hb : r.testBit t = true) (hl : r < 2 ^ (t + 1)) :
    sd_eqs n (upd eq t (nI r)) (upd rs t (nI w.toNat)) (sd_uN E t r) (sd_uN R t w) ∧ ∀ x, sd_sl (sd_uN E t r) (sd_uN R t w) x n = true ↔ sd_sl E R x n = true ∧ sd_dt n r x = w := by
  obtain ⟨h1, h2⟩ := sd_add (R := R) w h.1 ht h0 hb hl
  refine ⟨⟨h1, fun b hbn => ?_⟩, h2⟩
  by_cases e : b = t
  · subst e
    rw [pk_us, pk_us, sd_uN_s, sd_uN_s]
    exact ⟨rfl, fun _ => rfl⟩
  · rw [pk_un e, pk_un e, sd_uN_n e, sd_uN_n e]
    exact h.2 b hbn
/-- what one demand does -/
def sd_dm (n : Nat) (E : Nat → Nat) (R : Nat → Bool) (a : Nat) (v : Bool) (r : Int32) (eq rs : Nat → Int32) : Prop :=
  (r = 1 ∧ ∃ E' R', sd_eqs n eq rs E' R' ∧ ∀ x, sd_sl E' R' x n = true ↔ sd_sl E R x n = true ∧ sd_dt n a x = v) ∨ (r = 0 ∧ ∀ x, sd_sl E R x n = true → ¬ sd_dt n a x = v)
theorem sd_xor_eq {a v d w : Bool} (h : (a ^^ v) = (d ^^ w)) : a = v ↔ d = w := by
  revert h
  cases a <;> cases v <;> cases d <;> cases w <;> simp
theorem sd_dm_add {n : Nat} {eq rs : Nat → Int32} {E : Nat → Nat} {R : Nat → Bool} {a t r : Nat} {v w : Bool} (h : sd_eqs n eq rs E R) (hr : sd_rd n E R a v 0 r w) (ht : t < n) (hb : r.testBit t = true) (hl : r < 2 ^ (t + 1)) : sd_dm n E R a v 1 (upd eq t (nI r)) (upd rs t (nI w.toNat)) := by
  obtain ⟨h1, h2⟩ := sd_eqs_add (w := w) h ht (hr.2.1 t (Nat.zero_le _) ht hb) hb hl
  refine Or.inl ⟨rfl, _, _, h1, fun x => ?_⟩
  rw [h2 x]
  constructor
  · intro ⟨a1, a2⟩
    exact ⟨a1, (sd_xor_eq (hr.2.2 x a1)).mpr a2⟩
  · intro ⟨a1, a2⟩
    exact ⟨a1, (sd_xor_eq (hr.2.2 x a1)).mp a2⟩
theorem sd_dm_z1 {n : Nat} {eq rs : Nat → Int32} {E : Nat → Nat} {R : Nat → Bool} {a : Nat} {v : Bool} (h : sd_eqs n eq rs E R) (hr : sd_rd n E R a v 0 0 false) : sd_dm n E R a v 1 eq rs := by
  refine Or.inl ⟨rfl, E, R, h, fun x => ⟨fun a1 => ⟨a1, ?_⟩, fun a1 => a1.1⟩⟩
  refine (sd_xor_eq (hr.2.2 x a1)).mpr ?_
  exact sd_dt_zero n x
theorem sd_dm_z0 {n : Nat} {eq rs : Nat → Int32} {E : Nat → Nat} {R : Nat → Bool} {a : Nat} {v : Bool} (hr : sd_rd n E R a v 0 0 true) : sd_dm n E R a v 0 eq rs := by
  refine Or.inr ⟨rfl, fun x a1 a2 => ?_⟩
  have := (sd_xor_eq (hr.2.2 x a1)).mp a2
  rw [sd_dt_zero] at this
  cases this
/-- a seed fits what the first i places want, of the cubes in S -/
def sd_fit (n tp : Nat) (sh wt : Nat → Nat) (S x : Nat) : Nat → Bool
  | 0 => true
  | i + 1 => sd_fit n tp sh wt S x i && (!(S.testBit (i / 64)) || wt i == 2 || (sd_vl n tp sh x (i % 64 / 4) (i % 4)).toNat == wt i)
theorem sd_fit_succ (n tp : Nat) (sh wt : Nat → Nat) (S x i : Nat) : sd_fit n tp sh wt S x (i + 1) = (sd_fit n tp sh wt S x i && (!(S.testBit (i / 64)) || wt i == 2 || (sd_vl n tp sh x (i % 64 / 4) (i % 4)).toNat == wt i)) := rfl
theorem sd_fit_skip {n tp : Nat} {sh wt : Nat → Nat} {S x i : Nat} (h : S.testBit (i / 64) = false ∨ wt i = 2) : sd_fit n tp sh wt S x (i + 1) = sd_fit n tp sh wt S x i := by
  rw [sd_fit_succ]
  rcases h with h | h <;> simp [h]
theorem sd_fit_want {n tp : Nat} {sh wt : Nat → Nat} {S x i : Nat} (h : S.testBit (i / 64) = true) (h2 : wt i ≠ 2) : sd_fit n tp sh wt S x (i + 1) = (sd_fit n tp sh wt S x i && ((sd_vl n tp sh x (i % 64 / 4) (i % 4)).toNat == wt i)) := by
  rw [sd_fit_succ, h, beq_eq_false_iff_ne.mpr h2]
  rfl
theorem sd_fit_mono {n tp : Nat} {sh wt : Nat → Nat} {S x : Nat} {i : Nat} : ∀ {j : Nat}, i ≤ j → sd_fit n tp sh wt S x j = true → sd_fit n tp sh wt S x i = true
  | 0, h, hj => by
    have e : i = 0 := by omega
    subst e; exact hj
  | j + 1, h, hj => by
    by_cases e : i = j + 1
    · subst e; exact hj
    · rw [sd_fit_succ, Bool.and_eq_true] at hj
      exact sd_fit_mono (by omega) hj.1
/-- a seed fits -/
def sd_ft (n tp : Nat) (sh wt : Nat → Nat) (S x : Nat) : Bool := sd_fit n tp sh wt S x 384
/-- behind the first i places the system has just the seeds that fit so far -/
def sd_sv (n tp : Nat) (sh wt : Nat → Nat) (S i : Nat) (eq rs : Nat → Int32) : Prop := ∃ E R, sd_eqs n eq rs E R ∧ ∀ x, x < 2 ^ n → (sd_sl E R x n = true ↔ sd_fit n tp sh wt S x i = true)
theorem sd_sv_0 {n tp : Nat} {sh wt : Nat → Nat} {S : Nat} {eq rs : Nat → Int32} (h : ∀ b, b < n → eq b = 0) : sd_sv n tp sh wt S 0 eq rs :=
  ⟨fun _ => 0, fun _ => false, ⟨fun b _ h0 => absurd rfl h0, fun b hb => ⟨h b hb, fun h0 => absurd rfl h0⟩⟩, fun x _ => ⟨fun _ => rfl, fun _ => (sd_sl_iff _ _ x n).mpr (fun b _ h0 => absurd rfl h0)⟩⟩
theorem sd_sv_skip {n tp : Nat} {sh wt : Nat → Nat} {S i : Nat} {eq rs : Nat → Int32} (h : sd_sv n tp sh wt S i eq rs) (hs : S.testBit (i / 64) = false ∨ wt i = 2) : sd_sv n tp sh wt S (i + 1) eq rs := by
  obtain ⟨E, R, h1, h2⟩ := h
  exact ⟨E, R, h1, fun x hx => by rw [sd_fit_skip hs]; exact h2 x hx⟩
theorem sd_toNat_eq {a : Bool} {k : Nat} {v : Bool} (hk : k = v.toNat) : (a.toNat == k) = true ↔ a = v := by
  subst hk
  cases a <;> cases v <;> decide
theorem sd_mod4 (i : Nat) : i % 64 % 4 = i % 4 := by omega
/-- one more place wanted: the demand of its form and value -/
theorem sd_sv_want {n tp : Nat} {sh wt : Nat → Nat} {S i : Nat} {eq' rs' : Nat → Int32} {E : Nat → Nat} {R : Nat → Bool} {a : Nat} {v : Bool} {r : Int32}
    (h2 : ∀ x, x < 2 ^ n → (sd_sl E R x n = true ↔ sd_fit n tp sh wt S x i = true)) (ha : ∀ x, x < 2 ^ n → sd_dt n a x = sd_vl n tp sh x (i % 64 / 4) (i % 64 % 4)) (hv : wt i = v.toNat) (hS : S.testBit (i / 64) = true) (hd : sd_dm n E R a v r eq' rs') :
    (r = 1 ∧ sd_sv n tp sh wt S (i + 1) eq' rs') ∨ (r = 0 ∧ ∀ x, x < 2 ^ n → sd_fit n tp sh wt S x (i + 1) = false) := by
  have hw : wt i ≠ 2 := by
    rw [hv]
    cases v <;> decide
  rcases hd with ⟨hr, E', R', a1, a2⟩ | ⟨hr, a1⟩
  · refine Or.inl ⟨hr, E', R', a1, fun x hx => ?_⟩
    rw [a2 x, h2 x hx, sd_fit_want hS hw, Bool.and_eq_true, sd_toNat_eq hv, ha x hx, sd_mod4]
  · refine Or.inr ⟨hr, fun x hx => ?_⟩
    rw [sd_fit_want hS hw]
    cases hf : sd_fit n tp sh wt S x i
    · rfl
    · have h3 := a1 x ((h2 x hx).mpr hf)
      rw [ha x hx, sd_mod4] at h3
      rw [Bool.true_and]
      cases hq : ((sd_vl n tp sh x (i % 64 / 4) (i % 4)).toNat == wt i)
      · rfl
      · exact absurd ((sd_toNat_eq hv).mp hq) h3
/-- what solve answers -/
def sd_so (n tp : Nat) (sh wt : Nat → Nat) (S : Nat) (r : Int32) (eq rs : Nat → Int32) : Prop := (r = 1 ∧ sd_sv n tp sh wt S 384 eq rs) ∨ (r = 0 ∧ ∀ x, x < 2 ^ n → sd_ft n tp sh wt S x = false)
theorem sd_so_no {n tp : Nat} {sh wt : Nat → Nat} {S i : Nat} {eq rs : Nat → Int32} (hi : i ≤ 384) (h : ∀ x, x < 2 ^ n → sd_fit n tp sh wt S x i = false) : sd_so n tp sh wt S 0 eq rs := by
  refine Or.inr ⟨rfl, fun x hx => ?_⟩
  cases hf : sd_ft n tp sh wt S x
  · rfl
  · have := sd_fit_mono hi hf
    rw [h x hx] at this
    cases this
theorem sd_so_ex {n tp : Nat} {sh wt : Nat → Nat} {S : Nat} {r : Int32} {eq rs : Nat → Int32} (h : sd_so n tp sh wt S r eq rs) : sd_yn r (∃ x, x < 2 ^ n ∧ sd_ft n tp sh wt S x = true) := by
  rcases h with ⟨h, E, R, h1, h2⟩ | ⟨h, h1⟩
  · obtain ⟨x, hx, hs⟩ := sd_ex R h1.1
    exact Or.inl ⟨h, x, hx, (h2 x hx).mp hs⟩
  · refine Or.inr ⟨h, ?_⟩
    rintro ⟨x, hx, hf⟩
    rw [h1 x hx] at hf
    cases hf
/-- ANSWERS. seeds: how many seeds fit -/
def sd_Aseeds (n tp : Nat) (sh wt : Nat → Nat) (p r : Int32) : Prop := (∃ S, S < 64 ∧ p = nI S ∧ r = nI (fb_ct (fun x => sd_ft n tp sh wt S x) (2 ^ n))) ∨ (¬ sd_in p 64 ∧ r = -1)
theorem sd_set_one {p : Int32} {S S' : Nat} (h : S < 64) (h' : S' < 64) (e : p = nI S) (e' : p = nI S') : S = S' := (nI_eq (by omega) (by omega)).mp (e.symm.trans e')
theorem sd_Aseeds_one {n tp : Nat} {sh wt : Nat → Nat} {p r r' : Int32} (h : sd_Aseeds n tp sh wt p r) (h' : sd_Aseeds n tp sh wt p r') : r = r' := by
  rcases h with ⟨S, hS, e, h⟩ | ⟨hp, h⟩ <;> rcases h' with ⟨S', hS', e', h'⟩ | ⟨hp', h'⟩
  · have := sd_set_one hS hS' e e'
    subst this
    rw [h, h']
  · exact absurd ⟨S, hS, e⟩ hp'
  · exact absurd ⟨S', hS', e'⟩ hp
  · rw [h, h']
theorem sd_seeds_of {n tp : Nat} {sh wt : Nat → Nat} {S : Nat} {eq rs : Nat → Int32} {E : Nat → Nat} {R : Nat → Bool} (h1 : sd_eqs n eq rs E R) (h2 : ∀ x, x < 2 ^ n → (sd_sl E R x n = true ↔ sd_ft n tp sh wt S x = true)) : 2 ^ (sd_fr E n) = fb_ct (fun x => sd_ft n tp sh wt S x) (2 ^ n) := by
  rw [← sd_count R h1.1]
  refine fb_ct_cong (fun x hx => ?_)
  have := h2 x hx
  cases h3 : sd_sl E R x n <;> cases h4 : sd_ft n tp sh wt S x <;> simp_all
/-- leastSeed, greatestSeed (up := true) -/
def sd_best (n : Nat) (f : Nat → Bool) (up : Bool) (r : Int32) : Prop := (∃ x, x < 2 ^ n ∧ f x = true ∧ (∀ y, y < 2 ^ n → f y = true → if up then y ≤ x else x ≤ y) ∧ r = nI x) ∨ ((∀ x, x < 2 ^ n → f x = false) ∧ r = -2)
theorem sd_best_one {n : Nat} {f : Nat → Bool} {up : Bool} {r r' : Int32} (h : sd_best n f up r) (h' : sd_best n f up r') : r = r' := by
  rcases h with ⟨x, hx, fx, m, e⟩ | ⟨no, e⟩ <;> rcases h' with ⟨y, hy, fy, m', e'⟩ | ⟨no', e'⟩
  · have a := m y hy fy
    have b := m' x hx fx
    have : x = y := by
      cases up
      · exact Nat.le_antisymm a b
      · exact Nat.le_antisymm b a
    rw [e, e', this]
  · rw [no' x hx] at fx
    cases fx
  · rw [no y hy] at fy
    cases fy
  · rw [e, e']
def sd_Abest (n tp : Nat) (sh wt : Nat → Nat) (up : Bool) (p r : Int32) : Prop := (∃ S, S < 64 ∧ p = nI S ∧ sd_best n (fun x => sd_ft n tp sh wt S x) up r) ∨ (¬ sd_in p 64 ∧ r = -1)
theorem sd_Abest_one {n tp : Nat} {sh wt : Nat → Nat} {up : Bool} {p r r' : Int32} (h : sd_Abest n tp sh wt up p r) (h' : sd_Abest n tp sh wt up p r') : r = r' := by
  rcases h with ⟨S, hS, e, h⟩ | ⟨hp, h⟩ <;> rcases h' with ⟨S', hS', e', h'⟩ | ⟨hp', h'⟩
  · have := sd_set_one hS hS' e e'
    subst this
    exact sd_best_one h h'
  · exact absurd ⟨S, hS, e⟩ hp'
  · exact absurd ⟨S', hS', e'⟩ hp
  · rw [h, h']
/-- forced: what the seeds below m that fit say of a place -/
def sd_frc (f g : Nat → Bool) (m : Nat) (r : Int32) : Prop :=
  ((∀ x, x < m → f x = false) ∧ r = -2) ∨ (∃ v : Bool, (∃ x, x < m ∧ f x = true) ∧ (∀ x, x < m → f x = true → g x = v) ∧ r = nI v.toNat) ∨ ((∃ x, x < m ∧ f x = true ∧ g x = true) ∧ (∃ x, x < m ∧ f x = true ∧ g x = false) ∧ r = nI 2)
theorem sd_frc_one {f g : Nat → Bool} {m : Nat} {r r' : Int32} (h : sd_frc f g m r) (h' : sd_frc f g m r') : r = r' := by
  rcases h with ⟨a, e⟩ | ⟨v, ⟨x, hx, fx⟩, a, e⟩ | ⟨⟨x, hx, fx, gx⟩, ⟨y, hy, fy, gy⟩, e⟩ <;> rcases h' with ⟨a', e'⟩ | ⟨v', ⟨x', hx', fx'⟩, a', e'⟩ | ⟨⟨x', hx', fx', gx'⟩, ⟨y', hy', fy', gy'⟩, e'⟩
  · rw [e, e']
  · rw [a x' hx'] at fx'; cases fx'
  · rw [a x' hx'] at fx'; cases fx'
  · rw [a' x hx] at fx; cases fx
  · rw [e, e', ← a x hx fx, ← a' x hx fx]
  · have h1 := a x' hx' fx'
    have h2 := a y' hy' fy'
    rw [gx'] at h1
    rw [gy', ← h1] at h2
    cases h2
  · rw [a' x hx] at fx; cases fx
  · have h1 := a' x hx fx
    have h2 := a' y hy fy
    rw [gx] at h1
    rw [gy, ← h1] at h2
    cases h2
  · rw [e, e']
def sd_Afrc (n tp : Nat) (sh wt : Nat → Nat) (p0 p1 p2 r : Int32) : Prop := (∃ S t c, S < 64 ∧ p0 = nI S ∧ t < 16 ∧ p1 = nI t ∧ c < 4 ∧ p2 = nI c ∧ sd_frc (fun x => sd_ft n tp sh wt S x) (fun x => sd_vl n tp sh x t c) (2 ^ n) r) ∨ (¬ (sd_in p0 64 ∧ sd_in p1 16 ∧ sd_in p2 4) ∧ r = -1)
theorem sd_nI_one {p : Int32} {a b : Nat} (ha : a < 2 ^ 31) (hb : b < 2 ^ 31) (e : p = nI a) (e' : p = nI b) : a = b := (nI_eq ha hb).mp (e.symm.trans e')
theorem sd_Afrc_one {n tp : Nat} {sh wt : Nat → Nat} {p0 p1 p2 r r' : Int32} (h : sd_Afrc n tp sh wt p0 p1 p2 r) (h' : sd_Afrc n tp sh wt p0 p1 p2 r') : r = r' := by
  rcases h with ⟨S, t, c, hS, e0, ht, e1, hc, e2, h⟩ | ⟨hp, h⟩ <;> rcases h' with ⟨S', t', c', hS', e0', ht', e1', hc', e2', h'⟩ | ⟨hp', h'⟩
  · have a := sd_nI_one (by omega) (by omega) e0 e0'
    have b := sd_nI_one (by omega) (by omega) e1 e1'
    have d := sd_nI_one (by omega) (by omega) e2 e2'
    subst a; subst b; subst d
    exact sd_frc_one h h'
  · exact absurd ⟨⟨S, hS, e0⟩, ⟨t, ht, e1⟩, ⟨c, hc, e2⟩⟩ hp'
  · exact absurd ⟨⟨S', hS', e0'⟩, ⟨t', ht', e1'⟩, ⟨c', hc', e2'⟩⟩ hp
  · rw [h, h']
/-- expand -/
def sd_Aexp (n tp : Nat) (sh : Nat → Nat) (p0 p1 p2 r : Int32) : Prop := (∃ x t c, x < 2 ^ n ∧ p0 = nI x ∧ t < 16 ∧ p1 = nI t ∧ c < 4 ∧ p2 = nI c ∧ r = nI (sd_vl n tp sh x t c).toNat) ∨ (¬ (sd_in p0 (2 ^ n) ∧ sd_in p1 16 ∧ sd_in p2 4) ∧ r = -1)
theorem sd_Aexp_one {n tp : Nat} {sh : Nat → Nat} {p0 p1 p2 r r' : Int32} (h8 : n ≤ 8) (h : sd_Aexp n tp sh p0 p1 p2 r) (h' : sd_Aexp n tp sh p0 p1 p2 r') : r = r' := by
  have hh := sd_p8 h8
  rcases h with ⟨S, t, c, hS, e0, ht, e1, hc, e2, h⟩ | ⟨hp, h⟩ <;> rcases h' with ⟨S', t', c', hS', e0', ht', e1', hc', e2', h'⟩ | ⟨hp', h'⟩
  · have a := sd_nI_one (by omega) (by omega) e0 e0'
    have b := sd_nI_one (by omega) (by omega) e1 e1'
    have d := sd_nI_one (by omega) (by omega) e2 e2'
    subst a; subst b; subst d
    rw [h, h']
  · exact absurd ⟨⟨S, hS, e0⟩, ⟨t, ht, e1⟩, ⟨c, hc, e2⟩⟩ hp'
  · exact absurd ⟨⟨S', hS', e0'⟩, ⟨t', ht', e1'⟩, ⟨c', hc', e2'⟩⟩ hp
  · rw [h, h']
end
section
/-! PLAIN LAW 4: the state of both objects as numbers; what the setters do -/
/-- n, taps, shifters and what is wanted, as numbers -/
def sd_ST (nn tpn : Nat) (shn wtn : Nat → Nat) (sh wt : Nat → Int32) : Prop := 3 ≤ nn ∧ nn ≤ 8 ∧ tpn < 2 ^ nn ∧ (∀ c, c < 4 → sh c = nI (shn c) ∧ shn c < 2 ^ nn) ∧ (∀ i, i < 384 → wt i = nI (wtn i) ∧ wtn i ≤ 2)
theorem sd_ST_sh {nn tpn : Nat} {shn wtn : Nat → Nat} {sh wt : Nat → Int32} (h : sd_ST nn tpn shn wtn sh wt) {c x : Nat} (hx : x < 2 ^ nn) : sd_ST nn tpn (sd_uN shn c x) wtn (upd sh c (nI x)) wt := by
  refine ⟨h.1, h.2.1, h.2.2.1, fun i hi => ?_, h.2.2.2.2⟩
  by_cases e : i = c
  · subst e
    rw [pk_us, sd_uN_s]
    exact ⟨rfl, hx⟩
  · rw [pk_un e, sd_uN_n e]
    exact h.2.2.2.1 i hi
theorem sd_ST_wt {nn tpn : Nat} {shn wtn : Nat → Nat} {sh wt : Nat → Int32} (h : sd_ST nn tpn shn wtn sh wt) {c x : Nat} (hx : x ≤ 2) : sd_ST nn tpn shn (sd_uN wtn c x) sh (upd wt c (nI x)) := by
  refine ⟨h.1, h.2.1, h.2.2.1, h.2.2.2.1, fun i hi => ?_⟩
  by_cases e : i = c
  · subst e
    rw [pk_us, sd_uN_s]
    exact ⟨rfl, hx⟩
  · rw [pk_un e, sd_uN_n e]
    exact h.2.2.2.2 i hi
/-- what is wanted, the first i places of cube k forgotten -/
def sd_fg (wtn : Nat → Nat) (k i : Nat) : Nat → Nat := fun j => if 64 * k ≤ j ∧ j < 64 * k + i then 2 else wtn j
theorem sd_fg_0 {wtn : Nat → Nat} {wt : Nat → Int32} {k : Nat} (h : ∀ i, i < 384 → wt i = nI (wtn i) ∧ wtn i ≤ 2) : ∀ i, i < 384 → wt i = nI (sd_fg wtn k 0 i) ∧ sd_fg wtn k 0 i ≤ 2 := by
  intro i hi
  have e : sd_fg wtn k 0 i = wtn i := if_neg (by omega)
  rw [e]
  exact h i hi
theorem sd_fg_s {wtn : Nat → Nat} {wt : Nat → Int32} {k i : Nat} (h : ∀ j, j < 384 → wt j = nI (sd_fg wtn k i j) ∧ sd_fg wtn k i j ≤ 2) : ∀ j, j < 384 → upd wt (64 * k + i) (nI 2) j = nI (sd_fg wtn k (i + 1) j) ∧ sd_fg wtn k (i + 1) j ≤ 2 := by
  intro j hj
  by_cases e : j = 64 * k + i
  · subst e
    have e2 : sd_fg wtn k (i + 1) (64 * k + i) = 2 := if_pos (by omega)
    rw [pk_us, e2]
    exact ⟨rfl, Nat.le_refl 2⟩
  · have e2 : sd_fg wtn k (i + 1) j = sd_fg wtn k i j := by
      unfold sd_fg
      by_cases q : 64 * k ≤ j ∧ j < 64 * k + i
      · rw [if_pos q, if_pos (by omega)]
      · rw [if_neg q, if_neg (by omega)]
    rw [pk_un e, e2]
    exact h j hj
/-- shifter, want, forget: the answer and the new numbers -/
def sd_Ash (nn : Nat) (shn : Nat → Nat) (p0 p1 r : Int32) (shn' : Nat → Nat) : Prop := (∃ c x, c < 4 ∧ p0 = nI c ∧ x < 2 ^ nn ∧ p1 = nI x ∧ r = 1 ∧ shn' = sd_uN shn c x) ∨ (¬ (sd_in p0 4 ∧ sd_in p1 (2 ^ nn)) ∧ r = 0 ∧ shn' = shn)
def sd_Awt (wtn : Nat → Nat) (p0 p1 p2 p3 r : Int32) (wtn' : Nat → Nat) : Prop := (∃ k t c v, k < 6 ∧ p0 = nI k ∧ t < 16 ∧ p1 = nI t ∧ c < 4 ∧ p2 = nI c ∧ v < 3 ∧ p3 = nI v ∧ r = 1 ∧ wtn' = sd_uN wtn (64 * k + 4 * t + c) v) ∨ (¬ (sd_in p0 6 ∧ sd_in p1 16 ∧ sd_in p2 4 ∧ sd_in p3 3) ∧ r = 0 ∧ wtn' = wtn)
def sd_Afg (wtn : Nat → Nat) (p0 r : Int32) (wtn' : Nat → Nat) : Prop := (∃ k, k < 6 ∧ p0 = nI k ∧ r = 1 ∧ wtn' = sd_fg wtn k 64) ∨ (¬ sd_in p0 6 ∧ r = 0 ∧ wtn' = wtn)
theorem sd_Ash_one {nn : Nat} {shn : Nat → Nat} {p0 p1 r r' : Int32} {a b : Nat → Nat} (h8 : nn ≤ 8) (h : sd_Ash nn shn p0 p1 r a) (h' : sd_Ash nn shn p0 p1 r' b) : r = r' ∧ a = b := by
  have hh := sd_p8 h8
  rcases h with ⟨c, x, hc, e0, hx, e1, h, g⟩ | ⟨hp, h, g⟩ <;> rcases h' with ⟨c', x', hc', e0', hx', e1', h', g'⟩ | ⟨hp', h', g'⟩
  · have a := sd_nI_one (by omega) (by omega) e0 e0'
    have b := sd_nI_one (by omega) (by omega) e1 e1'
    subst a; subst b
    exact ⟨by rw [h, h'], by rw [g, g']⟩
  · exact absurd ⟨⟨c, hc, e0⟩, ⟨x, hx, e1⟩⟩ hp'
  · exact absurd ⟨⟨c', hc', e0'⟩, ⟨x', hx', e1'⟩⟩ hp
  · exact ⟨by rw [h, h'], by rw [g, g']⟩
theorem sd_Awt_one {wtn : Nat → Nat} {p0 p1 p2 p3 r r' : Int32} {a b : Nat → Nat} (h : sd_Awt wtn p0 p1 p2 p3 r a) (h' : sd_Awt wtn p0 p1 p2 p3 r' b) : r = r' ∧ a = b := by
  rcases h with ⟨k, t, c, v, hk, e0, ht, e1, hc, e2, hv, e3, h, g⟩ | ⟨hp, h, g⟩ <;> rcases h' with ⟨k', t', c', v', hk', e0', ht', e1', hc', e2', hv', e3', h', g'⟩ | ⟨hp', h', g'⟩
  · have a0 := sd_nI_one (by omega) (by omega) e0 e0'
    have a1 := sd_nI_one (by omega) (by omega) e1 e1'
    have a2 := sd_nI_one (by omega) (by omega) e2 e2'
    have a3 := sd_nI_one (by omega) (by omega) e3 e3'
    subst a0; subst a1; subst a2; subst a3
    exact ⟨by rw [h, h'], by rw [g, g']⟩
  · exact absurd ⟨⟨k, hk, e0⟩, ⟨t, ht, e1⟩, ⟨c, hc, e2⟩, ⟨v, hv, e3⟩⟩ hp'
  · exact absurd ⟨⟨k', hk', e0'⟩, ⟨t', ht', e1'⟩, ⟨c', hc', e2'⟩, ⟨v', hv', e3'⟩⟩ hp
  · exact ⟨by rw [h, h'], by rw [g, g']⟩
theorem sd_Afg_one {wtn : Nat → Nat} {p0 r r' : Int32} {a b : Nat → Nat} (h : sd_Afg wtn p0 r a) (h' : sd_Afg wtn p0 r' b) : r = r' ∧ a = b := by
  rcases h with ⟨k, hk, e0, h, g⟩ | ⟨hp, h, g⟩ <;> rcases h' with ⟨k', hk', e0', h', g'⟩ | ⟨hp', h', g'⟩
  · have a0 := sd_nI_one (by omega) (by omega) e0 e0'
    subst a0
    exact ⟨by rw [h, h'], by rw [g, g']⟩
  · exact absurd ⟨k, hk, e0⟩ hp'
  · exact absurd ⟨k', hk', e0'⟩ hp
  · exact ⟨by rw [h, h'], by rw [g, g']⟩
theorem sd_ft_no {n tp : Nat} {sh wt : Nat → Nat} {S x i : Nat} (hi : i ≤ 384) (h : sd_fit n tp sh wt S x i = false) : ¬ sd_ft n tp sh wt S x = true := by
  intro hf
  have := sd_fit_mono hi hf
  rw [h] at this
  cases this
/-- one place more, in the model's counting: place pl of cube k -/
theorem sd_fit_place {n tp : Nat} {sh wt : Nat → Nat} {S x k pl : Nat} (hpl : pl < 64) : sd_fit n tp sh wt S x (64 * k + (pl + 1)) = (sd_fit n tp sh wt S x (64 * k + pl) && (!(S.testBit k) || wt (64 * k + pl) == 2 || (sd_vl n tp sh x (pl / 4) (pl % 4)).toNat == wt (64 * k + pl))) := by
  have e1 : (64 * k + pl) / 64 = k := by omega
  have e2 : (64 * k + pl) % 64 = pl := by omega
  have e3 : (64 * k + pl) % 4 = pl % 4 := by omega
  show sd_fit n tp sh wt S x (64 * k + pl + 1) = _
  rw [sd_fit_succ, e1, e2, e3]
end
section
/-! PLAIN LAW 5: steps of the model's searches -/
theorem sd_fit_place_t {n tp : Nat} {sh wt : Nat → Nat} {S x k pl : Nat} (hpl : pl < 64) (h : sd_fit n tp sh wt S x (64 * k + pl) = true) (hc : S.testBit k = false ∨ wt (64 * k + pl) = 2 ∨ (sd_vl n tp sh x (pl / 4) (pl % 4)).toNat = wt (64 * k + pl)) : sd_fit n tp sh wt S x (64 * k + (pl + 1)) = true := by
  rw [sd_fit_place hpl, h]
  rcases hc with q | q | q
  · rw [q]; rfl
  · rw [q]; simp
  · rw [q]; simp
theorem sd_fit_place_f {n tp : Nat} {sh wt : Nat → Nat} {S x k pl : Nat} (hpl : pl < 64) (h1 : S.testBit k = true) (h2 : ¬ wt (64 * k + pl) = 2) (h3 : ¬ (sd_vl n tp sh x (pl / 4) (pl % 4)).toNat = wt (64 * k + pl)) : sd_fit n tp sh wt S x (64 * k + (pl + 1)) = false := by
  rw [sd_fit_place hpl, h1, beq_eq_false_iff_ne.mpr h2, beq_eq_false_iff_ne.mpr h3]
  cases sd_fit n tp sh wt S x (64 * k + pl) <;> rfl
theorem sd_nf {b : Bool} (h : ¬ b = true) : b = false := by
  cases b
  · rfl
  · exact absurd rfl h
theorem sd_ct_t {f : Nat → Bool} {b : Nat} (h : f b = true) : fb_ct f (b + 1) = fb_ct f b + 1 := by rw [fb_ct_succ, h]; rfl
theorem sd_ct_f {f : Nat → Bool} {b : Nat} (h : f b = false) : fb_ct f (b + 1) = fb_ct f b := by rw [fb_ct_succ, h]; rfl
theorem sd_lt_s {b : Nat} {P : Nat → Prop} (h : ∀ y, y < b → P y) (hb : P b) : ∀ y, y < b + 1 → P y := by
  intro y hy
  by_cases e : y = b
  · subst e; exact hb
  · exact h y (by omega)
theorem sd_ge_s {b n : Nat} {P : Nat → Prop} (h : ∀ y, b + 1 ≤ y → y < n → P y) (hb : P b) : ∀ y, b ≤ y → y < n → P y := by
  intro y hy hn
  by_cases e : y = b
  · subst e; exact hb
  · exact h y (by omega) hn
theorem sd_best_lo {n b : Nat} {f : Nat → Bool} (hb : b < 2 ^ n) (h : ∀ y, y < b → f y = false) (hf : f b = true) : sd_best n f false (nI b) := by
  refine Or.inl ⟨b, hb, hf, fun y _ fy => ?_, rfl⟩
  show b ≤ y
  rcases Nat.lt_or_ge y b with q | q
  · rw [h y q] at fy; cases fy
  · exact q
theorem sd_best_hi {n b : Nat} {f : Nat → Bool} (hb : b < 2 ^ n) (h : ∀ y, b + 1 ≤ y → y < 2 ^ n → f y = false) (hf : f b = true) : sd_best n f true (nI b) := by
  refine Or.inl ⟨b, hb, hf, fun y hy fy => ?_, rfl⟩
  show y ≤ b
  rcases Nat.lt_or_ge b y with q | q
  · rw [h y q hy] at fy; cases fy
  · exact q
theorem sd_dec (j : Nat) : nI j + Int32.ofInt (-1) = nI j - nI 1 := by
  rw [Int32.sub_eq_add_neg]; rfl
theorem sd_inc (j : Nat) : nI (j + 1) - nI 1 = nI j := pk_sub (Nat.le_add_left 1 j)
theorem sd_neg : nI 0 - nI 1 < 0 := by decide
/-- forced, seed by seed -/
theorem sd_m2 (v : Bool) : ¬ nI v.toNat = -2 := by cases v <;> decide
theorem sd_frc_0 {f g : Nat → Bool} : sd_frc f g 0 (-2) := Or.inl ⟨fun x hx => absurd hx (Nat.not_lt_zero x), rfl⟩
theorem sd_frc_skip {f g : Nat → Bool} {b : Nat} {v : Int32} (hf : f b = false) (h : sd_frc f g b v) : sd_frc f g (b + 1) v := by
  rcases h with ⟨a, e⟩ | ⟨v, ⟨x, hx, fx⟩, a, e⟩ | ⟨⟨x, hx, fx⟩, ⟨y, hy, fy⟩, e⟩
  · exact Or.inl ⟨sd_lt_s a hf, e⟩
  · exact Or.inr (Or.inl ⟨v, ⟨x, by omega, fx⟩, sd_lt_s a (fun q => by rw [hf] at q; cases q), e⟩)
  · exact Or.inr (Or.inr ⟨⟨x, by omega, fx⟩, ⟨y, by omega, fy⟩, e⟩)
theorem sd_frc_first {f g : Nat → Bool} {b : Nat} {v : Int32} (hf : f b = true) (h : sd_frc f g b v) (e : v = -2) : sd_frc f g (b + 1) (nI (g b).toNat) := by
  rcases h with ⟨a, -⟩ | ⟨v, -, -, e2⟩ | ⟨-, -, e2⟩
  · exact Or.inr (Or.inl ⟨g b, ⟨b, by omega, hf⟩, sd_lt_s (fun y hy q => by rw [a y hy] at q; cases q) (fun _ => rfl), rfl⟩)
  · exact absurd (e2.symm.trans e) (sd_m2 v)
  · exact absurd (e2.symm.trans e) (by decide)
theorem sd_frc_same {f g : Nat → Bool} {b : Nat} {v : Int32} (hf : f b = true) (h : sd_frc f g b v) (e : ¬ v = -2) (e2 : v = nI (g b).toNat) : sd_frc f g (b + 1) v := by
  rcases h with ⟨-, e3⟩ | ⟨w, ⟨x, hx, fx⟩, a, e3⟩ | ⟨-, -, e3⟩
  · exact absurd e3 e
  · have ew : g b = w := by
      have := e3.symm.trans e2
      revert this
      cases w <;> cases g b <;> simp <;> decide
    exact Or.inr (Or.inl ⟨w, ⟨x, by omega, fx⟩, sd_lt_s a (fun _ => ew), e3⟩)
  · have := e3.symm.trans e2
    revert this
    cases g b <;> exact fun q => absurd q (by decide)
theorem sd_frc_diff {f g : Nat → Bool} {b : Nat} {v : Int32} (hf : f b = true) (h : sd_frc f g b v) (e : ¬ v = -2) (e2 : ¬ v = nI (g b).toNat) : sd_frc f g (b + 1) (nI 2) := by
  rcases h with ⟨-, e3⟩ | ⟨w, ⟨x, hx, fx⟩, a, e3⟩ | ⟨⟨x, hx, fx⟩, ⟨y, hy, fy⟩, e3⟩
  · exact absurd e3 e
  · have gx := a x hx fx
    have ne : ¬ g b = w := fun q => e2 (by rw [e3, q])
    cases hw : w
    · rw [hw] at gx ne
      exact Or.inr (Or.inr ⟨⟨b, by omega, hf, by cases hg : g b; exact absurd hg ne; rfl⟩, ⟨x, by omega, fx, gx⟩, rfl⟩)
    · rw [hw] at gx ne
      exact Or.inr (Or.inr ⟨⟨x, by omega, fx, gx⟩, ⟨b, by omega, hf, sd_nf ne⟩, rfl⟩)
  · exact Or.inr (Or.inr ⟨⟨x, by omega, fx⟩, ⟨y, by omega, fy⟩, rfl⟩)
end
section
/-! PLAIN LAW 6: groups of cubes: sets as numbers, families of parts, the least number -/
/-- t without g -/
def sd_df (t g : Nat) : Nat := t ^^^ (t &&& g)
theorem sd_df_bit (t g i : Nat) : (sd_df t g).testBit i = (t.testBit i && !(g.testBit i)) := by
  unfold sd_df
  rw [Nat.testBit_xor, Nat.testBit_and]
  cases t.testBit i <;> cases g.testBit i <;> rfl
theorem sd_sub_bit {g t : Nat} (h : g &&& t = g) (i : Nat) : g.testBit i = true → t.testBit i = true := by
  intro hg
  rw [← h, Nat.testBit_and, Bool.and_eq_true] at hg
  exact hg.2
theorem sd_sub_of {g t : Nat} (h : ∀ i, g.testBit i = true → t.testBit i = true) : g &&& t = g := by
  apply Nat.eq_of_testBit_eq
  intro i
  rw [Nat.testBit_and]
  cases hg : g.testBit i
  · rfl
  · rw [h i hg]; rfl
theorem sd_sub_trans {a b c : Nat} (h1 : a &&& b = a) (h2 : b &&& c = b) : a &&& c = a := sd_sub_of (fun i h => sd_sub_bit h2 i (sd_sub_bit h1 i h))
theorem sd_df_sub (t g : Nat) : sd_df t g &&& t = sd_df t g := sd_sub_of (fun i h => by
  rw [sd_df_bit, Bool.and_eq_true] at h
  exact h.1)
theorem sd_sub_le {a b : Nat} (h : a &&& b = a) : a ≤ b := Nat.le_of_testBit (fun i hi => sd_sub_bit h i hi)
theorem sd_df_le (t g : Nat) : sd_df t g ≤ t := sd_sub_le (sd_df_sub t g)
theorem sd_df_lt {t g i : Nat} (ht : t.testBit i = true) (hg : g.testBit i = true) : sd_df t g < t := by
  refine Nat.lt_of_le_of_ne (sd_df_le t g) (fun e => ?_)
  have h := sd_df_bit t g i
  rw [e, ht, hg] at h
  cases h
theorem sd_or_df {g t : Nat} (h : g &&& t = g) : sd_df t g ||| g = t := by
  apply Nat.eq_of_testBit_eq
  intro i
  have := sd_sub_bit h i
  rw [Nat.testBit_or, sd_df_bit]
  revert this
  cases t.testBit i <;> cases g.testBit i <;> simp
theorem sd_dis_bit {s g : Nat} (h : s &&& g = 0) (i : Nat) : (s.testBit i && g.testBit i) = false := by
  rw [← Nat.testBit_and, h, Nat.zero_testBit]
theorem sd_df_or {s g : Nat} (h : s &&& g = 0) : sd_df (s ||| g) g = s := by
  apply Nat.eq_of_testBit_eq
  intro i
  have := sd_dis_bit h i
  rw [sd_df_bit, Nat.testBit_or]
  revert this
  cases s.testBit i <;> cases g.testBit i <;> simp
theorem sd_sub_or (s g : Nat) : g &&& (s ||| g) = g := sd_sub_of (fun i h => by rw [Nat.testBit_or, h, Bool.or_true])
theorem sd_df_dis (t g : Nat) : sd_df t g &&& g = 0 := by
  apply Nat.eq_of_testBit_eq
  intro i
  rw [Nat.testBit_and, sd_df_bit, Nat.zero_testBit]
  cases t.testBit i <;> cases g.testBit i <;> rfl
theorem sd_df_df {t a g : Nat} : sd_df (sd_df t a) g = sd_df (sd_df t g) a := by
  apply Nat.eq_of_testBit_eq
  intro i
  rw [sd_df_bit, sd_df_bit, sd_df_bit, sd_df_bit]
  cases t.testBit i <;> cases a.testBit i <;> cases g.testBit i <;> rfl
/-- a family of k different parts out of 1 .. p, apart, each ok, that make t -/
def sd_F (ok : Nat → Prop) : Nat → Nat → Nat → Prop
  | 0, k, t => k = 0 ∧ t = 0
  | p + 1, k, t => sd_F ok p k t ∨ ∃ k', k = k' + 1 ∧ ok (p + 1) ∧ (p + 1) &&& t = p + 1 ∧ sd_F ok p k' (sd_df t (p + 1))
theorem sd_F_le {ok : Nat → Prop} : ∀ {p k t : Nat}, sd_F ok p k t → k ≤ p
  | 0, k, t, h => Nat.le_of_eq h.1
  | p + 1, k, t, h => by
    rcases h with h | ⟨k', e, -, -, h⟩
    · exact Nat.le_succ_of_le (sd_F_le h)
    · have := sd_F_le h
      omega
/-- one more part, apart from all, at any place of the order -/
theorem sd_F_ins {ok : Nat → Prop} : ∀ {p k t g : Nat}, sd_F ok p k t → 0 < g → g ≤ p → ok g → t &&& g = 0 → sd_F ok p (k + 1) (t ||| g)
  | 0, k, t, g, h, h0, hg, _, _ => absurd hg (by omega)
  | p + 1, k, t, g, h, h0, hg, ho, hd => by
    rcases h with h | ⟨k', e, h1, h2, h3⟩
    · by_cases eg : g = p + 1
      · subst eg
        exact Or.inr ⟨k, rfl, ho, sd_sub_or t (p + 1), by rw [sd_df_or hd]; exact h⟩
      · exact Or.inl (sd_F_ins h h0 (by omega) ho hd)
    · have hne : g ≠ p + 1 := by
        intro eg
        subst eg
        have e2 : (p + 1) &&& t = 0 := by rw [Nat.and_comm]; exact hd
        rw [h2] at e2
        omega
      have hd2 : sd_df t (p + 1) &&& g = 0 := by
        apply Nat.eq_of_testBit_eq
        intro i
        have := sd_dis_bit hd i
        rw [Nat.testBit_and, sd_df_bit, Nat.zero_testBit]
        revert this
        cases t.testBit i <;> cases g.testBit i <;> simp
      have ih := sd_F_ins h3 h0 (by omega) ho hd2
      subst e
      refine Or.inr ⟨k' + 1, rfl, h1, ?_, ?_⟩
      · exact sd_sub_of (fun i hi => by rw [Nat.testBit_or, sd_sub_bit h2 i hi]; rfl)
      · have e3 : sd_df (t ||| g) (p + 1) = sd_df t (p + 1) ||| g := by
          apply Nat.eq_of_testBit_eq
          intro i
          have a := sd_dis_bit hd i
          have b := sd_sub_bit h2 i
          rw [sd_df_bit, Nat.testBit_or, Nat.testBit_or, sd_df_bit]
          revert a b
          cases t.testBit i <;> cases g.testBit i <;> cases (p + 1).testBit i <;> simp
        rw [e3]
        exact ih
/-- the part that has a given bit taken out -/
theorem sd_F_out {ok : Nat → Prop} {b : Nat} : ∀ {p k t : Nat}, sd_F ok p k t → t.testBit b = true → ∃ g k', 0 < g ∧ g ≤ p ∧ ok g ∧ g &&& t = g ∧ g.testBit b = true ∧ k = k' + 1 ∧ sd_F ok p k' (sd_df t g)
  | 0, k, t, h, hb => by
    rw [h.2, Nat.zero_testBit] at hb
    cases hb
  | p + 1, k, t, h, hb => by
    rcases h with h | ⟨k', e, h1, h2, h3⟩
    · obtain ⟨g, k', a1, a2, a3, a4, a5, a6, a7⟩ := sd_F_out h hb
      exact ⟨g, k', a1, by omega, a3, a4, a5, a6, Or.inl a7⟩
    · by_cases hp : (p + 1).testBit b = true
      · exact ⟨p + 1, k', by omega, Nat.le_refl _, h1, h2, hp, e, Or.inl h3⟩
      · have hb2 : (sd_df t (p + 1)).testBit b = true := by
          rw [sd_df_bit, hb, sd_nf hp]; rfl
        obtain ⟨g, k2, a1, a2, a3, a4, a5, a6, a7⟩ := sd_F_out h3 hb2
        refine ⟨g, k2 + 1, a1, by omega, a3, sd_sub_trans a4 (sd_df_sub t (p + 1)), a5, by omega, Or.inr ⟨k2, rfl, h1, ?_, by rw [sd_df_df]; exact a7⟩⟩
        refine sd_sub_of (fun i hi => ?_)
        rw [sd_df_bit, sd_sub_bit h2 i hi]
        cases hg : g.testBit i
        · rfl
        · have := sd_sub_bit a4 i hg
          rw [sd_df_bit, hi] at this
          simp at this
theorem sd_F_pick {ok : Nat → Prop} {p k S b : Nat} (hb : S.testBit b = true) (hS : S ≤ p) : sd_F ok p k S ↔ ∃ g k', 0 < g ∧ ok g ∧ g &&& S = g ∧ g.testBit b = true ∧ k = k' + 1 ∧ sd_F ok p k' (sd_df S g) := by
  constructor
  · intro h
    obtain ⟨g, k', a1, a2, a3, a4, a5, a6, a7⟩ := sd_F_out h hb
    exact ⟨g, k', a1, a3, a4, a5, a6, a7⟩
  · rintro ⟨g, k', a1, a3, a4, a5, a6, a7⟩
    have := sd_F_ins a7 a1 (Nat.le_trans (sd_sub_le a4) hS) a3 (sd_df_dis S g)
    rw [sd_or_df a4] at this
    rw [a6]
    exact this
/-- parts that lie in S alone count for what lies in S -/
theorem sd_F_in {ok : Nat → Prop} {S : Nat} : ∀ {p k t : Nat}, t &&& S = t → (sd_F (fun g => g &&& S = g ∧ ok g) p k t ↔ sd_F ok p k t)
  | 0, k, t, _ => Iff.rfl
  | p + 1, k, t, h => by
    constructor
    · rintro (q | ⟨k', e, h1, h2, h3⟩)
      · exact Or.inl ((sd_F_in h).mp q)
      · exact Or.inr ⟨k', e, h1.2, h2, (sd_F_in (sd_sub_trans (sd_df_sub t (p + 1)) h)).mp h3⟩
    · rintro (q | ⟨k', e, h1, h2, h3⟩)
      · exact Or.inl ((sd_F_in h).mpr q)
      · exact Or.inr ⟨k', e, ⟨sd_sub_trans h2 h, h1⟩, h2, (sd_F_in (sd_sub_trans (sd_df_sub t (p + 1)) h)).mpr h3⟩
/-- the least k with P k, -2 if there is none -/
def sd_min (P : Nat → Prop) (v : Int32) : Prop := (∃ k, P k ∧ (∀ j, P j → k ≤ j) ∧ v = nI k) ∨ ((∀ k, ¬ P k) ∧ v = -2)
theorem sd_min_one {P : Nat → Prop} {v v' : Int32} (h : sd_min P v) (h' : sd_min P v') : v = v' := by
  rcases h with ⟨k, pk, m, e⟩ | ⟨no, e⟩ <;> rcases h' with ⟨k', pk', m', e'⟩ | ⟨no', e'⟩
  · rw [e, e', Nat.le_antisymm (m k' pk') (m' k pk)]
  · exact absurd pk (no' k)
  · exact absurd pk' (no k')
  · rw [e, e']
theorem sd_min_iff {P Q : Nat → Prop} {v : Int32} (h : sd_min P v) (e : ∀ k, P k ↔ Q k) : sd_min Q v := by
  have : P = Q := funext fun k => propext (e k)
  rw [← this]; exact h
/-- a set of cubes that one seed serves -/
def sd_ok (n tp : Nat) (sh wt : Nat → Nat) (g : Nat) : Prop := ∃ x, x < 2 ^ n ∧ sd_ft n tp sh wt g x = true
def sd_Aneed (n tp : Nat) (sh wt : Nat → Nat) (p r : Int32) : Prop := (∃ S, S < 64 ∧ p = nI S ∧ sd_min (fun k => sd_F (sd_ok n tp sh wt) 63 k S) r) ∨ (¬ sd_in p 64 ∧ r = -1)
theorem sd_Aneed_one {n tp : Nat} {sh wt : Nat → Nat} {p r r' : Int32} (h : sd_Aneed n tp sh wt p r) (h' : sd_Aneed n tp sh wt p r') : r = r' := by
  rcases h with ⟨S, hS, e, h⟩ | ⟨hp, h⟩ <;> rcases h' with ⟨S', hS', e', h'⟩ | ⟨hp', h'⟩
  · have := sd_set_one hS hS' e e'
    subst this
    exact sd_min_one h h'
  · exact absurd ⟨S, hS, e⟩ hp'
  · exact absurd ⟨S', hS', e'⟩ hp
  · rw [h, h']
/-! the model's table: L is the least k, 100 if there is none -/
def sd_M (P : Nat → Prop) (L : Nat) : Prop := (P L ∧ (∀ j, P j → L ≤ j) ∧ L ≤ 63) ∨ (L = 100 ∧ ∀ j, ¬ P j)
theorem sd_M_le {P : Nat → Prop} {L : Nat} (h : sd_M P L) : L ≤ 100 := by
  rcases h with ⟨_, _, h⟩ | ⟨h, _⟩ <;> omega
theorem sd_M_0 {ok : Nat → Prop} (t : Nat) : sd_M (fun k => sd_F ok 0 k t) (if t = 0 then 0 else 100) := by
  by_cases h : t = 0
  · rw [if_pos h]
    exact Or.inl ⟨⟨rfl, h⟩, fun j _ => Nat.zero_le j, by omega⟩
  · rw [if_neg h]
    exact Or.inr ⟨rfl, fun j q => h q.2⟩
theorem sd_M_skip {ok : Nat → Prop} {p t L : Nat} (hn : ¬ (ok (p + 1) ∧ (p + 1) &&& t = p + 1)) (h : sd_M (fun k => sd_F ok p k t) L) : sd_M (fun k => sd_F ok (p + 1) k t) L := by
  have e : (fun k => sd_F ok (p + 1) k t) = fun k => sd_F ok p k t := by
    funext k
    apply propext
    constructor
    · rintro (q | ⟨k', -, a, b, -⟩)
      · exact q
      · exact absurd ⟨a, b⟩ hn
    · exact fun q => Or.inl q
  rw [e]; exact h
theorem sd_M_step {ok : Nat → Prop} {p t a b : Nat} (hp : p + 1 ≤ 63) (ho : ok (p + 1)) (hs : (p + 1) &&& t = p + 1) (ha : sd_M (fun k => sd_F ok p k t) a) (hb : sd_M (fun k => sd_F ok p k (sd_df t (p + 1))) b) : sd_M (fun k => sd_F ok (p + 1) k t) (if b + 1 < a then b + 1 else a) := by
  rcases hb with ⟨b1, b2, b3⟩ | ⟨b1, b2⟩
  · have hF : sd_F ok (p + 1) (b + 1) t := Or.inr ⟨b, rfl, ho, hs, b1⟩
    have hbl : b + 1 ≤ 63 := by
      have := sd_F_le hF
      omega
    by_cases q : b + 1 < a
    · rw [if_pos q]
      refine Or.inl ⟨hF, fun j hj => ?_, hbl⟩
      rcases hj with hj | ⟨k', e, -, -, hj⟩
      · rcases ha with ⟨_, a2, _⟩ | ⟨_, a2⟩
        · have := a2 j hj
          omega
        · exact absurd hj (a2 j)
      · have := b2 k' hj
        omega
    · rw [if_neg q]
      rcases ha with ⟨a1, a2, a3⟩ | ⟨a1, a2⟩
      · refine Or.inl ⟨Or.inl a1, fun j hj => ?_, a3⟩
        rcases hj with hj | ⟨k', e, -, -, hj⟩
        · exact a2 j hj
        · have := b2 k' hj
          omega
      · omega
  · have q : ¬ b + 1 < a := by
      have : a ≤ 100 := sd_M_le ha
      omega
    rw [if_neg q]
    rcases ha with ⟨a1, a2, a3⟩ | ⟨a1, a2⟩
    · refine Or.inl ⟨Or.inl a1, fun j hj => ?_, a3⟩
      rcases hj with hj | ⟨k', e, -, -, hj⟩
      · exact a2 j hj
      · exact absurd hj (b2 k')
    · refine Or.inr ⟨a1, fun j hj => ?_⟩
      rcases hj with hj | ⟨k', e, -, -, hj⟩
      · exact a2 j hj
      · exact b2 k' hj
theorem sd_M_min {P : Nat → Prop} {L : Nat} (h : sd_M P L) : sd_min P (if L = 100 then -2 else nI L) := by
  rcases h with ⟨a1, a2, a3⟩ | ⟨a1, a2⟩
  · rw [if_neg (by omega)]
    exact Or.inl ⟨L, a1, a2, rfl⟩
  · rw [if_pos a1]
    exact Or.inr ⟨a2, rfl⟩
/-- the table while part is put to the sets s < m that it is apart from -/
def sd_V (one : Bool) (part : Nat) (L : Nat → Nat) (m t : Nat) : Nat := if one = true ∧ part &&& t = part ∧ sd_df t part < m then (if L (sd_df t part) + 1 < L t then L (sd_df t part) + 1 else L t) else L t
theorem sd_V_0 (one : Bool) (part : Nat) (L : Nat → Nat) (t : Nat) : sd_V one part L 0 t = L t := if_neg (by omega)
theorem sd_V_off {part m t : Nat} {L : Nat → Nat} : sd_V false part L m t = L t := if_neg (fun h => by cases h.1)
theorem sd_V_same {one : Bool} {part m t : Nat} {L : Nat → Nat} (h : ¬ (part &&& t = part ∧ sd_df t part = m)) : sd_V one part L (m + 1) t = sd_V one part L m t := by
  unfold sd_V
  by_cases q : one = true ∧ part &&& t = part ∧ sd_df t part < m
  · rw [if_pos q, if_pos ⟨q.1, q.2.1, by omega⟩]
  · rw [if_neg q, if_neg]
    rintro ⟨a, b, c⟩
    by_cases e : sd_df t part = m
    · exact h ⟨b, e⟩
    · exact q ⟨a, b, by omega⟩
theorem sd_V_meet {one : Bool} {part m t : Nat} {L : Nat → Nat} (h : ¬ m &&& part = 0) : sd_V one part L (m + 1) t = sd_V one part L m t :=
  sd_V_same (fun q => h (by rw [← q.2]; exact sd_df_dis t part))
theorem sd_V_self {one : Bool} {part m : Nat} {L : Nat → Nat} (h0 : 0 < part) (h : m &&& part = 0) : sd_V one part L m m = L m := by
  refine if_neg ?_
  rintro ⟨-, b, -⟩
  rw [Nat.and_comm] at h
  omega
theorem sd_V_at {one : Bool} {part m : Nat} {L : Nat → Nat} (h : m &&& part = 0) : sd_V one part L m (m ||| part) = L (m ||| part) := by
  refine if_neg ?_
  rintro ⟨-, -, c⟩
  rw [sd_df_or h] at c
  omega
theorem sd_V_new {part m : Nat} {L : Nat → Nat} (h : m &&& part = 0) : sd_V true part L (m + 1) (m ||| part) = if L m + 1 < L (m ||| part) then L m + 1 else L (m ||| part) := by
  unfold sd_V
  rw [sd_df_or h, if_pos ⟨rfl, sd_sub_or m part, Nat.lt_succ_self m⟩]
theorem sd_V_else {one : Bool} {part m t : Nat} {L : Nat → Nat} (ht : t ≠ m ||| part) : sd_V one part L (m + 1) t = sd_V one part L m t :=
  sd_V_same (fun q => ht (by rw [← q.2, sd_or_df q.1]))
/-- all sets done: one part more -/
theorem sd_V_all {ok : Nat → Prop} {p : Nat} {one : Bool} {L : Nat → Nat} (hp : p + 1 ≤ 63) (ho : one = true ↔ ok (p + 1)) (h : ∀ t, t < 64 → sd_M (fun k => sd_F ok p k t) (L t)) : ∀ t, t < 64 → sd_M (fun k => sd_F ok (p + 1) k t) (sd_V one (p + 1) L 64 t) := by
  intro t ht
  have hle := sd_df_le t (p + 1)
  unfold sd_V
  by_cases q : one = true ∧ (p + 1) &&& t = p + 1 ∧ sd_df t (p + 1) < 64
  · rw [if_pos q]
    exact sd_M_step hp (ho.mp q.1) q.2.1 (h t ht) (h _ q.2.2)
  · rw [if_neg q]
    exact sd_M_skip (fun a => q ⟨ho.mpr a.1, a.2, by omega⟩) (h t ht)
end
section
/-! PLAIN LAW 7: the model's table in its array; sets as ints -/
theorem sd_V_up {part m : Nat} {L : Nat → Nat} {le : Nat → Int32} (h : m &&& part = 0) (hI : ∀ t, t < 64 → le t = nI (sd_V true part L m t)) (hc : L m + 1 < L (m ||| part)) : ∀ t, t < 64 → upd le (m ||| part) (nI (L m + 1)) t = nI (sd_V true part L (m + 1) t) := by
  intro t ht
  by_cases e : t = m ||| part
  · subst e
    rw [pk_us, sd_V_new h, if_pos hc]
  · rw [pk_un e, sd_V_else e]
    exact hI t ht
theorem sd_V_st {part m : Nat} {L : Nat → Nat} {le : Nat → Int32} (h : m &&& part = 0) (hI : ∀ t, t < 64 → le t = nI (sd_V true part L m t)) (hc : ¬ L m + 1 < L (m ||| part)) : ∀ t, t < 64 → le t = nI (sd_V true part L (m + 1) t) := by
  intro t ht
  rw [hI t ht]
  by_cases e : t = m ||| part
  · subst e
    rw [sd_V_new h, if_neg hc, sd_V_at h]
  · rw [sd_V_else e]
theorem sd_V_me {one : Bool} {part m : Nat} {L : Nat → Nat} {le : Nat → Int32} (h : ¬ m &&& part = 0) (hI : ∀ t, t < 64 → le t = nI (sd_V one part L m t)) : ∀ t, t < 64 → le t = nI (sd_V one part L (m + 1) t) := by
  intro t ht
  rw [hI t ht, sd_V_meet h]
theorem sd_V_no {part m : Nat} {L : Nat → Nat} {le : Nat → Int32} (hI : ∀ t, t < 64 → le t = nI (sd_V false part L m t)) : ∀ t, t < 64 → le t = nI (sd_V false part L (m + 1) t) := by
  intro t ht
  rw [hI t ht, sd_V_off, sd_V_off]
theorem sd_m1bits : ∀ i, i < 32 → (-1 : Int32).toBitVec.getLsbD i = true := by decide +kernel
theorem sd_not (a b : Nat) : nI a &&& (nI b ^^^ (-1)) = nI (sd_df a b) := by
  apply Int32.toBitVec_inj.1
  rw [Int32.toBitVec_and, Int32.toBitVec_xor]
  show BitVec.ofNat 32 a &&& (BitVec.ofNat 32 b ^^^ (-1 : Int32).toBitVec) = BitVec.ofNat 32 (sd_df a b)
  apply BitVec.eq_of_getLsbD_eq
  intro i hi
  rw [BitVec.getLsbD_and, BitVec.getLsbD_xor, sd_m1bits i hi]
  simp only [BitVec.getLsbD_ofNat, hi, decide_true, Bool.true_and, sd_df_bit]
  cases a.testBit i <;> cases b.testBit i <;> rfl
theorem sd_df_zero {a b : Nat} : sd_df a b = 0 ↔ a &&& b = a := by
  constructor
  · intro h
    refine sd_sub_of (fun i hi => ?_)
    have := sd_df_bit a b i
    rw [h, Nat.zero_testBit, hi] at this
    cases hb : b.testBit i
    · rw [hb] at this; cases this
    · rfl
  · intro h
    apply Nat.eq_of_testBit_eq
    intro i
    have := sd_sub_bit h i
    rw [sd_df_bit, Nat.zero_testBit]
    revert this
    cases a.testBit i <;> cases b.testBit i <;> simp
theorem sd_df_lt64 {a b : Nat} (h : a < 64) : sd_df a b < 64 := Nat.lt_of_le_of_lt (sd_df_le a b) h
theorem sd_or64 {a b : Nat} (ha : a < 64) (hb : b < 64) : a ||| b < 64 := Nat.or_lt_two_pow (n := 6) ha hb
theorem sd_and64 {a b : Nat} (ha : a < 64) : a &&& b < 64 := Nat.lt_of_le_of_lt Nat.and_le_left ha
theorem sd_best_ok {n : Nat} {f : Nat → Bool} {up : Bool} {r : Int32} (h8 : n ≤ 8) (h : sd_best n f up r) : (¬ r = -2) ↔ ∃ x, x < 2 ^ n ∧ f x = true := by
  have hh := sd_p8 h8
  rcases h with ⟨x, hx, fx, -, e⟩ | ⟨no, e⟩
  · refine ⟨fun _ => ⟨x, hx, fx⟩, fun _ q => ?_⟩
    rw [e] at q
    have : ¬ nI x < 0 := nI_pos (by omega)
    rw [q] at this
    exact this (by decide)
  · refine ⟨fun q => absurd e q, ?_⟩
    rintro ⟨x, hx, fx⟩
    rw [no x hx] at fx
    cases fx
/-- the table at its start, the first i places filled -/
theorem sd_I0_s {le : Nat → Int32} {i : Nat} {v : Int32} (h : ∀ t, t < i → le t = nI (if t = 0 then 0 else 100)) (hv : v = nI (if i = 0 then 0 else 100)) : ∀ t, t < i + 1 → upd le i v t = nI (if t = 0 then 0 else 100) := by
  intro t ht
  by_cases e : t = i
  · subst e
    rw [pk_us, hv]
  · rw [pk_un e]
    exact h t (by omega)
end
section
/-! PLAIN LAW 8: steps of the solver's walks: forms, reductions, the greedy seed -/
theorem sd_form_0 {nn : Nat} {ph : Nat → Nat → Bool} {mm : Nat} : sd_form nn (nI 0) (fun x => sd_xs (fun b => mm.testBit b && ph b x) 0) := sd_form_zero nn
theorem sd_form_skip {nn b mm : Nat} {v : Int32} {ph : Nat → Nat → Bool} (h : sd_form nn v (fun x => sd_xs (fun b => mm.testBit b && ph b x) b)) (hb : mm.testBit b = false) : sd_form nn v (fun x => sd_xs (fun b => mm.testBit b && ph b x) (b + 1)) :=
  sd_form_cong h (fun x _ => by rw [sd_xs_succ, hb, Bool.false_and, Bool.xor_false])
theorem sd_form_take {nn b mm : Nat} {v w : Int32} {ph : Nat → Nat → Bool} (h : sd_form nn v (fun x => sd_xs (fun b => mm.testBit b && ph b x) b)) (hw : sd_form nn w (ph b)) (hb : mm.testBit b = true) : sd_form nn (v ^^^ w) (fun x => sd_xs (fun b => mm.testBit b && ph b x) (b + 1)) :=
  sd_form_cong (sd_form_xor h hw) (fun x _ => by rw [sd_xs_succ, hb, Bool.true_and])
/-- the bits' forms at step t -/
def sd_BF (nn tpn t : Nat) (bf : Nat → Int32) : Prop := ∀ b, b < nn → sd_form nn (bf b) (fun x => (sd_st nn tpn x t).testBit b)
theorem sd_BF_0 {nn tpn : Nat} {bf : Nat → Int32} (h : ∀ b, b < nn → bf b = nI (2 ^ b)) : sd_BF nn tpn 0 bf := by
  intro b hb
  rw [h b hb]
  exact sd_form_bit hb
theorem sd_FO_s {nn tpn t c : Nat} {shn : Nat → Nat} {fm : Nat → Int32} {v : Int32} (h0 : 0 < nn) (h8 : nn ≤ 8) (hc : c < 4) (h : sd_FO nn tpn shn fm (4 * t + c)) (hv : sd_form nn v (fun x => sd_xs (fun b => (shn c).testBit b && (sd_st nn tpn x t).testBit b) nn)) : sd_FO nn tpn shn (upd fm (4 * t + c) v) (4 * t + (c + 1)) := by
  intro i hi
  by_cases e : i = 4 * t + c
  · subst e
    rw [pk_us]
    have e1 : (4 * t + c) / 4 = t := by omega
    have e2 : (4 * t + c) % 4 = c := by omega
    rw [e1, e2]
    exact sd_form_cong hv (fun x hx => sd_form_vl h0 h8 hx)
  · rw [pk_un e]
    exact h i (by omega)
/-- the forms moved down by one: the first b of them -/
def sd_SH (bf0 bf : Nat → Int32) (nn b : Nat) : Prop := ∀ j, j ≤ nn → bf j = if j < b then bf0 (j + 1) else bf0 j
theorem sd_SH_0 {bf0 : Nat → Int32} {nn : Nat} : sd_SH bf0 bf0 nn 0 := fun j _ => (if_neg (Nat.not_lt_zero j)).symm
theorem sd_SH_s {bf0 bf : Nat → Int32} {nn b : Nat} (hb : b < nn) (h : sd_SH bf0 bf nn b) : sd_SH bf0 (upd bf b (bf (b + 1))) nn (b + 1) := by
  intro j hj
  by_cases e : j = b
  · subst e
    rw [pk_us, h (j + 1) (by omega), if_neg (by omega), if_pos (by omega)]
  · rw [pk_un e, h j hj]
    by_cases q : j < b
    · rw [if_pos q, if_pos (by omega)]
    · rw [if_neg q, if_neg (by omega)]
theorem sd_BF_s {nn tpn t : Nat} {bf0 bf : Nat → Int32} {v : Int32} (h0 : 0 < nn) (h8 : nn ≤ 8) (h : sd_BF nn tpn t bf0) (hv : sd_form nn v (fun x => sd_xs (fun b => tpn.testBit b && (sd_st nn tpn x t).testBit b) nn)) (hs : sd_SH (upd bf0 nn v) bf nn nn) : sd_BF nn tpn (t + 1) bf := by
  intro b hb
  rw [hs b (by omega), if_pos hb]
  by_cases e : b + 1 = nn
  · rw [e, pk_us]
    refine sd_form_cong hv (fun x hx => ?_)
    have eb : b = nn - 1 := by omega
    rw [eb, sd_form_vl h0 h8 hx]
    exact (sd_stp_top h0 (sd_st_lt h0 hx t)).symm
  · rw [pk_un e]
    refine sd_form_cong (h (b + 1) (by omega)) (fun x _ => ?_)
    exact (sd_stp_bit (by omega)).symm
theorem sd_xorb (a b : Bool) : nI a.toNat ^^^ nI b.toNat = nI (a ^^ b).toNat := by
  rw [fb_xorI]
  cases a <;> cases b <;> rfl
/-- the search for the highest bit -/
theorem sd_top_dn {r t : Nat} (h : r < 2 ^ (t + 1)) (hb : r.testBit t = false) : r < 2 ^ t := by
  apply Nat.lt_pow_two_of_testBit
  intro i hi
  by_cases e : i = t
  · subst e; exact hb
  · exact sd_bit_hi h (by omega)
/-! the greedy seed: bits from j on are decided, q of them -/
def sd_gr (n : Nat) (E : Nat → Nat) (R : Nat → Bool) (lk : Bool) (j q : Nat) (E' : Nat → Nat) (R' : Nat → Bool) : Prop :=
  (∀ x, sd_sl E' R' x n = true → sd_sl E R x n = true) ∧ (∀ x, x < 2 ^ n → sd_sl E' R' x n = true → x / 2 ^ j = q) ∧ ∀ y, y < 2 ^ n → sd_sl E R y n = true → sd_sl E' R' y n = true ∨ (if lk then y / 2 ^ j < q else q < y / 2 ^ j)
theorem sd_gr_0 {n : Nat} {E : Nat → Nat} {R : Nat → Bool} {lk : Bool} : sd_gr n E R lk n 0 E R :=
  ⟨fun _ h => h, fun x hx _ => Nat.div_eq_of_lt hx, fun y _ h => Or.inl h⟩
theorem sd_div_bit (y b : Nat) : y / 2 ^ b = 2 * (y / 2 ^ (b + 1)) + (y.testBit b).toNat := by
  have h1 : y / 2 ^ (b + 1) = y / 2 ^ b / 2 := by rw [Nat.pow_succ, Nat.div_div_eq_div_mul]
  rw [Nat.toNat_testBit, h1]
  omega
theorem sd_gr_s {n : Nat} {E : Nat → Nat} {R : Nat → Bool} {lk : Bool} {b q : Nat} {E' E2 : Nat → Nat} {R' R2 : Nat → Bool} {bit : Bool} (h : sd_gr n E R lk (b + 1) q E' R') (h1 : ∀ x, sd_sl E2 R2 x n = true → sd_sl E' R' x n = true) (h2 : ∀ x, x < 2 ^ n → sd_sl E2 R2 x n = true → x.testBit b = bit)
    (h3 : ∀ y, y < 2 ^ n → sd_sl E' R' y n = true → sd_sl E2 R2 y n = true ∨ (bit = lk ∧ ¬ y.testBit b = bit)) : sd_gr n E R lk b (2 * q + bit.toNat) E2 R2 := by
  refine ⟨fun x hx => h.1 x (h1 x hx), fun x hx hs => ?_, fun y hy hs => ?_⟩
  · rw [sd_div_bit, h.2.1 x hx (h1 x hs), h2 x hx hs]
  · rcases h.2.2 y hy hs with a | a
    · rcases h3 y hy a with c | ⟨c1, c2⟩
      · exact Or.inl c
      · right
        have e := h.2.1 y hy a
        rw [sd_div_bit, e]
        subst c1
        revert c2
        cases bit <;> cases y.testBit b <;> simp
    · right
      rw [sd_div_bit]
      have hb1 : (y.testBit b).toNat ≤ 1 := Bool.toNat_le _
      have hb2 : bit.toNat ≤ 1 := Bool.toNat_le _
      cases lk
      · have a : q < y / 2 ^ (b + 1) := a
        show 2 * q + bit.toNat < _
        omega
      · have a : y / 2 ^ (b + 1) < q := a
        show _ < 2 * q + bit.toNat
        omega
theorem sd_gr_or (q b : Nat) (v : Bool) : q * 2 ^ (b + 1) ||| v.toNat <<< b = (2 * q + v.toNat) * 2 ^ b := by
  have hv : v.toNat <<< b < 2 ^ (b + 1) := by
    have h1 : v.toNat ≤ 1 := Bool.toNat_le _
    have h2 := Nat.mul_le_mul_right (2 ^ b) h1
    have h3 := Nat.two_pow_pos b
    rw [Nat.shiftLeft_eq, Nat.pow_succ]
    omega
  rw [Nat.mul_comm q, ← Nat.two_pow_add_eq_or_of_lt hv, Nat.shiftLeft_eq, Nat.pow_succ, Nat.add_mul, Nat.mul_comm (2 ^ b) 2, Nat.mul_assoc, Nat.mul_assoc, Nat.mul_comm q]
theorem sd_gr_end {n : Nat} {E : Nat → Nat} {R : Nat → Bool} {lk : Bool} {q : Nat} {E' : Nat → Nat} {R' : Nat → Bool} (h : sd_gr n E R lk 0 q E' R') (hE : sd_tri E' n) : q < 2 ^ n ∧ sd_sl E R q n = true ∧ ∀ y, y < 2 ^ n → sd_sl E R y n = true → if lk then y ≤ q else q ≤ y := by
  obtain ⟨x, hx, hs⟩ := sd_ex R' hE
  have e := h.2.1 x hx hs
  rw [Nat.pow_zero, Nat.div_one] at e
  subst e
  refine ⟨hx, h.1 x hs, fun y hy hy2 => ?_⟩
  rcases h.2.2 y hy hy2 with a | a
  · have e2 := h.2.1 y hy a
    rw [Nat.pow_zero, Nat.div_one] at e2
    subst e2
    cases lk <;> exact Nat.le_refl _
  · rw [Nat.pow_zero, Nat.div_one] at a
    cases lk
    · exact Nat.le_of_lt a
    · exact Nat.le_of_lt a
/-- a bit that the equations decide -/
theorem sd_gr_z {n : Nat} {E : Nat → Nat} {R : Nat → Bool} {lk : Bool} {b q : Nat} {E' : Nat → Nat} {R' : Nat → Bool} {w : Bool} (hb : b < n) (h : sd_gr n E R lk (b + 1) q E' R') (hr : sd_rd n E' R' (2 ^ b) false 0 0 w) : sd_gr n E R lk b (2 * q + w.toNat) E' R' := by
  refine sd_gr_s h (fun _ a => a) (fun x _ a => ?_) (fun _ _ a => Or.inl a)
  have := hr.2.2 x a
  rw [sd_dt_pow x hb, sd_dt_zero, Bool.xor_false, Bool.false_xor] at this
  exact this
/-- a bit that they leave open -/
theorem sd_gr_o {n : Nat} {E : Nat → Nat} {R : Nat → Bool} {lk : Bool} {b q : Nat} {E' : Nat → Nat} {R' : Nat → Bool} {eq rs eq2 rs2 : Nat → Int32} {r0 : Nat} {w : Bool} {r : Int32} (hb : b < n) (h : sd_gr n E R lk (b + 1) q E' R') (he : sd_eqs n eq rs E' R') (hr : sd_rd n E' R' (2 ^ b) false 0 r0 w) (h0 : r0 ≠ 0) (hd : sd_dm n E' R' (2 ^ b) lk r eq2 rs2) : ∃ E2 R2, sd_eqs n eq2 rs2 E2 R2 ∧ sd_gr n E R lk b (2 * q + lk.toNat) E2 R2 := by
  rcases hd with ⟨-, E2, R2, a1, a2⟩ | ⟨-, a1⟩
  · refine ⟨E2, R2, a1, sd_gr_s h (fun x a => ((a2 x).mp a).1) (fun x _ a => ?_) (fun y _ a => ?_)⟩
    · rw [← sd_dt_pow x hb]
      exact ((a2 x).mp a).2
    · by_cases e : y.testBit b = lk
      · exact Or.inl ((a2 y).mpr ⟨a, by rw [sd_dt_pow y hb]; exact e⟩)
      · exact Or.inr ⟨rfl, e⟩
  · obtain ⟨x, hx, hs, hv⟩ := sd_both R' he.1 hr.1 h0 (fun b hb1 hb2 => hr.2.1 b (Nat.zero_le b) hb1 hb2) (lk ^^ w)
    have := hr.2.2 x hs
    rw [hv] at this
    refine absurd ?_ (a1 x hs)
    revert this
    cases sd_dt n (2 ^ b) x <;> cases lk <;> cases w <;> simp
/-- forced, out of a reduction -/
theorem sd_frc_of {n tp : Nat} {sh wt : Nat → Nat} {S t c a r0 : Nat} {w : Bool} {eq rs : Nat → Int32} {E : Nat → Nat} {R : Nat → Bool} (he : sd_eqs n eq rs E R) (h2 : ∀ x, x < 2 ^ n → (sd_sl E R x n = true ↔ sd_ft n tp sh wt S x = true)) (ha : ∀ x, x < 2 ^ n → sd_dt n a x = sd_vl n tp sh x t c) (hr : sd_rd n E R a false 0 r0 w) :
    sd_frc (fun x => sd_ft n tp sh wt S x) (fun x => sd_vl n tp sh x t c) (2 ^ n) (if r0 = 0 then nI w.toNat else nI 2) := by
  have key : ∀ x, x < 2 ^ n → sd_ft n tp sh wt S x = true → sd_vl n tp sh x t c = (sd_dt n r0 x ^^ w) := by
    intro x hx hf
    have := hr.2.2 x ((h2 x hx).mpr hf)
    rw [ha x hx, Bool.xor_false] at this
    exact this
  by_cases h0 : r0 = 0
  · rw [if_pos h0]
    obtain ⟨x, hx, hs⟩ := sd_ex R he.1
    refine Or.inr (Or.inl ⟨w, ⟨x, hx, (h2 x hx).mp hs⟩, fun y hy hf => ?_, rfl⟩)
    have := key y hy hf
    rw [h0, sd_dt_zero, Bool.false_xor] at this
    exact this
  · rw [if_neg h0]
    have hb := fun v => sd_both R he.1 hr.1 h0 (fun b hb1 hb2 => hr.2.1 b (Nat.zero_le b) hb1 hb2) v
    refine Or.inr (Or.inr ⟨?_, ?_, rfl⟩)
    · obtain ⟨x, hx, hs, hv⟩ := hb (!w)
      refine ⟨x, hx, (h2 x hx).mp hs, ?_⟩
      show sd_vl n tp sh x t c = true
      rw [key x hx ((h2 x hx).mp hs), hv]
      cases w <;> rfl
    · obtain ⟨x, hx, hs, hv⟩ := hb w
      refine ⟨x, hx, (h2 x hx).mp hs, ?_⟩
      show sd_vl n tp sh x t c = false
      rw [key x hx ((h2 x hx).mp hs), hv]
      cases w <;> rfl
/-- leastSeed, greatestSeed out of the greedy seed -/
theorem sd_best_of {n tp : Nat} {sh wt : Nat → Nat} {S s : Nat} {lk : Bool} {E : Nat → Nat} {R : Nat → Bool} (h2 : ∀ x, x < 2 ^ n → (sd_sl E R x n = true ↔ sd_ft n tp sh wt S x = true)) (h : s < 2 ^ n ∧ sd_sl E R s n = true ∧ ∀ y, y < 2 ^ n → sd_sl E R y n = true → if lk then y ≤ s else s ≤ y) : sd_best n (fun x => sd_ft n tp sh wt S x) lk (nI s) :=
  Or.inl ⟨s, h.1, (h2 s h.1).mp h.2.1, fun y hy hf => h.2.2 y hy ((h2 y hy).mpr hf), rfl⟩
end
section
/-! PLAIN LAW 9: solve's places; the groups of a set, one by one -/
theorem sd_v2 {k : Nat} (h : k ≤ 2) (h2 : ¬ nI k = nI 2) : ∃ v : Bool, k = v.toNat := by
  have h3 : k ≠ 2 := fun e => h2 (by rw [e])
  rcases (show k = 0 ∨ k = 1 by omega) with e | e
  · exact ⟨false, e⟩
  · exact ⟨true, e⟩
theorem sd_so_yes {n tp : Nat} {sh wt : Nat → Nat} {S i : Nat} {r : Int32} {eq rs : Nat → Int32} (h : (r = 1 ∧ sd_sv n tp sh wt S (i + 1) eq rs) ∨ (r = 0 ∧ ∀ x, x < 2 ^ n → sd_fit n tp sh wt S x (i + 1) = false)) (h0 : ¬ r = 0) : sd_sv n tp sh wt S (i + 1) eq rs := by
  rcases h with h | h
  · exact h.2
  · exact absurd h.1 h0
theorem sd_so_nay {n tp : Nat} {sh wt : Nat → Nat} {S i : Nat} {r : Int32} {eq rs : Nat → Int32} (h : (r = 1 ∧ sd_sv n tp sh wt S (i + 1) eq rs) ∨ (r = 0 ∧ ∀ x, x < 2 ^ n → sd_fit n tp sh wt S x (i + 1) = false)) (h0 : r = 0) : ∀ x, x < 2 ^ n → sd_fit n tp sh wt S x (i + 1) = false := by
  rcases h with h | h
  · rw [h0] at h
    exact absurd h.1 (by decide)
  · exact h.2
/-- the forms are right, or not yet made -/
def sd_fP (nn tpn : Nat) (shn : Nat → Nat) (fr : Int32) (fm : Nat → Int32) : Prop := fr = 0 ∨ (fr = 1 ∧ sd_FO nn tpn shn fm 64)
/-! the lowest cube of a set -/
theorem sd_low : ∀ s, s < 64 → nI s &&& (-nI s) = nI (s &&& (64 - s)) := by decide +kernel
theorem sd_lowbit : ∀ s, s < 64 → 0 < s → ∃ b, b < 6 ∧ s &&& (64 - s) = 2 ^ b ∧ s.testBit b = true := by decide +kernel
theorem sd_and_pow (n j : Nat) : n &&& 2 ^ j = 0 ↔ n.testBit j = false := by
  constructor
  · intro h
    have h1 : (n &&& 2 ^ j).testBit j = false := by rw [h]; simp
    rw [Nat.testBit_and, Nat.testBit_two_pow_self, Bool.and_true] at h1
    exact h1
  · intro h
    apply Nat.eq_of_testBit_eq
    intro i
    rw [Nat.testBit_and, Nat.zero_testBit]
    by_cases e : j = i
    · subst e; rw [h]; rfl
    · rw [Nat.testBit_two_pow_of_ne e, Bool.and_false]
/-! the next smaller subset -/
def sd_chk : Bool := (List.range 64).all fun s => (List.range 64).all fun g => !(g &&& s == g) || g == 0 || ((List.range 64).all fun h => !(h &&& s == h) || !(decide (h < g)) || decide (h ≤ (g - 1) &&& s))
theorem sd_chk_ok : sd_chk = true := by decide +kernel
theorem sd_next {s g h : Nat} (hs : s < 64) (hg : g &&& s = g) (h0 : 0 < g) (hh : h &&& s = h) (hl : h < g) : h ≤ (g - 1) &&& s := by
  have hgs := sd_sub_le hg
  have a := List.all_eq_true.mp sd_chk_ok s (List.mem_range.mpr hs)
  have b := List.all_eq_true.mp a g (List.mem_range.mpr (by omega))
  rw [Bool.or_eq_true, Bool.or_eq_true] at b
  rcases b with (b | b) | b
  · rw [hg] at b; simp at b
  · rw [beq_iff_eq] at b; omega
  · have c := List.all_eq_true.mp b h (List.mem_range.mpr (by omega))
    rw [hh] at c
    simpa [hl] using c
theorem sd_next_lt {s g : Nat} (h0 : 0 < g) : (g - 1) &&& s < g := Nat.lt_of_le_of_lt Nat.and_le_left (by omega)
theorem sd_next_sub (s g : Nat) : ((g - 1) &&& s) &&& s = (g - 1) &&& s := by rw [Nat.and_assoc, Nat.and_self]
/-- groups above gm that have the lowest cube, and the fewest for the rest -/
def sd_P (ok : Nat → Prop) (S b gm k : Nat) : Prop := ∃ g k', gm < g ∧ g &&& S = g ∧ ok g ∧ g.testBit b = true ∧ k = k' + 1 ∧ sd_F ok 63 k' (sd_df S g)
def sd_C (ok : Nat → Prop) (S b g k : Nat) : Prop := ok g ∧ g.testBit b = true ∧ ∃ k', k = k' + 1 ∧ sd_F ok 63 k' (sd_df S g)
theorem sd_P_next {ok : Nat → Prop} {S b g k : Nat} (hs : S < 64) (hg : g &&& S = g) (h0 : 0 < g) : sd_P ok S b ((g - 1) &&& S) k ↔ (sd_P ok S b g k ∨ sd_C ok S b g k) := by
  constructor
  · rintro ⟨h, k', a1, a2, a3, a4, a5, a6⟩
    rcases Nat.lt_trichotomy h g with q | q | q
    · have := sd_next hs hg h0 a2 q
      omega
    · subst q
      exact Or.inr ⟨a3, a4, k', a5, a6⟩
    · exact Or.inl ⟨h, k', q, a2, a3, a4, a5, a6⟩
  · rintro (⟨h, k', a1, a2, a3, a4, a5, a6⟩ | ⟨a3, a4, k', a5, a6⟩)
    · exact ⟨h, k', Nat.lt_trans (sd_next_lt h0) a1, a2, a3, a4, a5, a6⟩
    · exact ⟨g, k', sd_next_lt h0, hg, a3, a4, a5, a6⟩
theorem sd_P_top {ok : Nat → Prop} {S b : Nat} : sd_min (sd_P ok S b S) (-2) := by
  refine Or.inr ⟨?_, rfl⟩
  rintro k ⟨g, k', a1, a2, -⟩
  have := sd_sub_le a2
  omega
theorem sd_P_end {ok : Nat → Prop} {S b : Nat} {v : Int32} (hs : S < 64) (hb : S.testBit b = true) (h : sd_min (sd_P ok S b 0) v) : sd_min (fun k => sd_F ok 63 k S) v := by
  refine sd_min_iff h (fun k => ?_)
  rw [sd_F_pick hb (show S ≤ 63 by omega)]
  constructor
  · rintro ⟨g, k', a1, a2, a3, a4, a5, a6⟩
    exact ⟨g, k', a1, a3, a2, a4, a5, a6⟩
  · rintro ⟨g, k', a1, a3, a2, a4, a5, a6⟩
    exact ⟨g, k', a1, a2, a3, a4, a5, a6⟩
theorem sd_P_skip {ok : Nat → Prop} {S b g : Nat} {v : Int32} (hs : S < 64) (hg : g &&& S = g) (h0 : 0 < g) (h : sd_min (sd_P ok S b g) v) (hc : ∀ k, ¬ sd_C ok S b g k) : sd_min (sd_P ok S b ((g - 1) &&& S)) v := by
  refine sd_min_iff h (fun k => ?_)
  rw [sd_P_next hs hg h0]
  exact ⟨fun a => Or.inl a, fun a => a.elim id (fun z => absurd z (hc k))⟩
/-- rest: the fewest for what the group leaves -/
theorem sd_P_none {ok : Nat → Prop} {S b g : Nat} {v rest : Int32} (hs : S < 64) (hg : g &&& S = g) (h0 : 0 < g) (h : sd_min (sd_P ok S b g) v) (hr : sd_min (fun k => sd_F ok 63 k (sd_df S g)) rest) (hn : rest < 0) : sd_min (sd_P ok S b ((g - 1) &&& S)) v := by
  refine sd_P_skip hs hg h0 h ?_
  rintro k ⟨-, -, k', -, hF⟩
  rcases hr with ⟨k2, a1, -, e⟩ | ⟨no, -⟩
  · have := sd_F_le a1
    rw [e] at hn
    exact nI_pos (by omega) hn
  · exact no k' hF
theorem sd_min_nn {P : Nat → Prop} {v : Int32} (h : sd_min P v) (hn : ¬ v < 0) : ∃ k, P k ∧ (∀ j, P j → k ≤ j) ∧ v = nI k := by
  rcases h with h | ⟨-, e⟩
  · exact h
  · rw [e] at hn
    exact absurd (by decide) hn
theorem sd_min_ng {P : Nat → Prop} {v : Int32} (hb : ∀ k, P k → k < 2 ^ 31) (h : sd_min P v) (hn : v < 0) : ∀ k, ¬ P k := by
  rcases h with ⟨k, a, -, e⟩ | ⟨no, -⟩
  · rw [e] at hn
    exact absurd hn (nI_pos (hb k a))
  · exact no
theorem sd_P_bd {ok : Nat → Prop} {S b g k : Nat} (h : sd_P ok S b g k) : k ≤ 64 := by
  obtain ⟨_, k', -, -, -, -, e, hF⟩ := h
  have := sd_F_le hF
  omega
theorem sd_P_take {ok : Nat → Prop} {S b g k0 : Nat} {v : Int32} (hs : S < 64) (hg : g &&& S = g) (h0 : 0 < g) (hok : ok g) (hb : g.testBit b = true) (h : sd_min (sd_P ok S b g) v) (h1 : sd_F ok 63 k0 (sd_df S g)) (h2 : ∀ j, sd_F ok 63 j (sd_df S g) → k0 ≤ j) (hv : v < 0 ∨ ¬ v ≤ nI (k0 + 1)) : sd_min (sd_P ok S b ((g - 1) &&& S)) (nI (k0 + 1)) := by
  have hk := sd_F_le h1
  refine Or.inl ⟨k0 + 1, (sd_P_next hs hg h0).mpr (Or.inr ⟨hok, hb, k0, rfl, h1⟩), fun j hj => ?_, rfl⟩
  rcases (sd_P_next hs hg h0).mp hj with q | ⟨-, -, k', e, q⟩
  · have hjb := sd_P_bd q
    rcases hv with hv | hv
    · exact absurd q (sd_min_ng (fun k hk => by have := sd_P_bd hk; omega) h hv j)
    · rcases h with ⟨k, a1, a2, e⟩ | ⟨no, -⟩
      · have hkb := sd_P_bd a1
        have a3 := a2 j q
        rw [e] at hv
        have : ¬ k ≤ k0 + 1 := fun z => hv (nI_le z (by omega))
        omega
      · exact absurd q (no j)
  · have := h2 k' q
    omega
theorem sd_P_keep {ok : Nat → Prop} {S b g k0 : Nat} {v : Int32} (hs : S < 64) (hg : g &&& S = g) (h0 : 0 < g) (h : sd_min (sd_P ok S b g) v) (h2 : ∀ j, sd_F ok 63 j (sd_df S g) → k0 ≤ j) (hk : k0 ≤ 63) (hn : ¬ v < 0) (hv : v ≤ nI (k0 + 1)) : sd_min (sd_P ok S b ((g - 1) &&& S)) v := by
  obtain ⟨k, a1, a2, e⟩ := sd_min_nn h hn
  have hkb := sd_P_bd a1
  rw [e] at hv
  have hv2 := (nI_leI (by omega) (by omega)).mp hv
  refine Or.inl ⟨k, (sd_P_next hs hg h0).mpr (Or.inl a1), fun j hj => ?_, e⟩
  rcases (sd_P_next hs hg h0).mp hj with q | ⟨-, -, k', e2, q⟩
  · exact a2 j q
  · have := h2 k' q
    omega
theorem sd_F_00 {ok : Nat → Prop} : ∀ p, sd_F ok p 0 0
  | 0 => ⟨rfl, rfl⟩
  | p + 1 => Or.inl (sd_F_00 p)
theorem sd_min_00 {ok : Nat → Prop} : sd_min (fun k => sd_F ok 63 k 0) (nI 0) := Or.inl ⟨0, sd_F_00 63, fun j _ => Nat.zero_le j, rfl⟩
theorem sd_min_byte {ok : Nat → Prop} {s : Nat} {v : Int32} (h : sd_min (fun k => sd_F ok 63 k s) v) : v.toInt8.toInt32 = v := by
  rcases h with ⟨k, a, -, e⟩ | ⟨-, e⟩
  · have := sd_F_le a
    rw [e]
    exact fa_byte_small (by omega)
  · rw [e]; decide
theorem sd_min_nar {ok : Nat → Prop} {s : Nat} {v : Int32} (h : sd_min (fun k => sd_F ok 63 k s) v) : vp_nar .byte v = v := by
  rw [vp_nar_byte]
  exact sd_min_byte h
theorem sd_yn_vz {r : Int32} {P : Prop} (h : sd_yn r P) : vp_nar .boolean r = r := by
  rcases h with ⟨h, _⟩ | ⟨h, _⟩ <;> rw [h] <;> rfl
/-- the tables of groups: right below s -/
def sd_GP (nn tpn : Nat) (shn wtn : Nat → Nat) (s : Nat) (gd nd : Nat → Int32) : Prop := (∀ g, 0 < g → g < s → sd_yn (gd g) (sd_ok nn tpn shn wtn g)) ∧ ∀ t, t < s → sd_min (fun k => sd_F (sd_ok nn tpn shn wtn) 63 k t) (nd t)
theorem sd_GP_1 {nn tpn : Nat} {shn wtn : Nat → Nat} {gd nd : Nat → Int32} {v : Int32} : sd_GP nn tpn shn wtn 1 (upd gd 0 v) (upd nd 0 (nI 0)) := by
  refine ⟨fun g h1 h2 => absurd h1 (by omega), fun t ht => ?_⟩
  have e : t = 0 := by omega
  subst e
  rw [pk_us]
  exact sd_min_00
theorem sd_GP_s {nn tpn : Nat} {shn wtn : Nat → Nat} {s : Nat} {gd nd : Nat → Int32} {r v : Int32} (h : sd_GP nn tpn shn wtn s gd nd) (hr : sd_yn r (sd_ok nn tpn shn wtn s)) (hv : sd_min (fun k => sd_F (sd_ok nn tpn shn wtn) 63 k s) v) : sd_GP nn tpn shn wtn (s + 1) (upd gd s r) (upd nd s v) := by
  refine ⟨fun g h1 h2 => ?_, fun t ht => ?_⟩
  · by_cases e : g = s
    · subst e; rw [pk_us]; exact hr
    · rw [pk_un e]; exact h.1 g h1 (by omega)
  · by_cases e : t = s
    · subst e; rw [pk_us]; exact hv
    · rw [pk_un e]; exact h.2 t (by omega)
theorem sd_GP_g {nn tpn : Nat} {shn wtn : Nat → Nat} {s g : Nat} {gd nd : Nat → Int32} {r : Int32} (h : sd_GP nn tpn shn wtn s gd nd) (hr : sd_yn r (sd_ok nn tpn shn wtn s)) (h0 : 0 < g) (hg : g ≤ s) : sd_yn (upd gd s r g) (sd_ok nn tpn shn wtn g) := by
  by_cases e : g = s
  · subst e; rw [pk_us]; exact hr
  · rw [pk_un e]; exact h.1 g h0 (by omega)
/-- the groups' table is right, or not yet made -/
def sd_gP (nn tpn : Nat) (shn wtn : Nat → Nat) (gr : Int32) (nd : Nat → Int32) : Prop := gr = 0 ∨ (gr = 1 ∧ ∀ t, t < 64 → sd_min (fun k => sd_F (sd_ok nn tpn shn wtn) 63 k t) (nd t))
end
section
/-! BASE: the two classes' worlds, a method's context, contracts of one world, rows over them -/
set_option maxRecDepth 100000
abbrev vwCl : List vw_C := [(RX1, TX1, 13), (RX2, TX2, 5)]
/-- a SeedSolver: the object and its eight arrays -/
abbrev svW (ad : Nat → Nat) (dA : Nat → ClassId) (n tp fr rv gr : Int32) (sh wt fm bf eq rs gd nd : Nat → Int32) : va_W :=
  [(ad 0, .inr (0, [.int n, .int tp, .ref (ad 1), .ref (ad 2), .int fr, .ref (ad 3), .ref (ad 4), .ref (ad 5), .ref (ad 6), .int rv, .int gr, .ref (ad 7), .ref (ad 8)])),
   (ad 1, .inl (dA 1, 4, .inl sh)), (ad 2, .inl (dA 2, 384, .inl wt)), (ad 3, .inl (dA 3, 64, .inl fm)), (ad 4, .inl (dA 4, 9, .inl bf)), (ad 5, .inl (dA 5, 8, .inl eq)), (ad 6, .inl (dA 6, 8, .inl rs)), (ad 7, .inl (dA 7, 64, .inl gd)), (ad 8, .inl (dA 8, 64, .inl nd))]
abbrev svT (dA : Nat → ClassId) : List (ClassId × FieldType) := [(dA 1, .int), (dA 2, .byte), (dA 3, .int), (dA 4, .int), (dA 5, .int), (dA 6, .int), (dA 7, .boolean), (dA 8, .byte)]
/-- a SeedSolverModel: the object and its three arrays -/
abbrev moW (ad : Nat → Nat) (dA : Nat → ClassId) (n tp : Int32) (sh wt le : Nat → Int32) : va_W :=
  [(ad 0, .inr (1, [.int n, .int tp, .ref (ad 1), .ref (ad 2), .ref (ad 3)])), (ad 1, .inl (dA 1, 4, .inl sh)), (ad 2, .inl (dA 2, 384, .inl wt)), (ad 3, .inl (dA 3, 64, .inl le))]
abbrev moT (dA : Nat → ClassId) : List (ClassId × FieldType) := [(dA 1, .int), (dA 2, .int), (dA 3, .int)]
/-- room of level k: k frames below -/
abbrev rmK (k : Nat) : Room := { frames := k, cells := 0, slots := 0, locals := 30 * k }
/-- the world w stands in H; since H0 nothing outside A has changed -/
def wd (D : va_G) (A : Nat → Prop) (H0 : Heap) (w : va_W) (H : Heap) (locs : List Loc) : Prop := va_P D vwCl w H ∧ va_D A w ∧ va_S A H0 H locs ∧ ∀ q, H0.size ≤ q → A q
/-- what a method's walk keeps all along -/
def bx (p : Program) (s : State) (m : MethodId) (meth : Method) (c : Code) (cc : ByteArray) (nL : Nat) (ret : Option FieldType) (args : Array Value) (own : String) (D : va_G) (tys : List (ClassId × FieldType)) : Prop :=
  CallFix p m c cc nL s args lw_all own ∧ meth.locks = false ∧ meth.sig.returnType = ret ∧ va_K D vwCl tys s
/-- the world behind a method -/
def wE (D : va_G) (tys : List (ClassId × FieldType)) (A : Nat → Prop) (w : va_W) (t : State) : Prop := va_P D vwCl w t.heap ∧ va_K D vwCl tys t ∧ va_D A w
def wS (D : va_G) (tys : List (ClassId × FieldType)) (w : va_W) (sz : Nat) (U : State) : Prop := U.heap.size = sz ∧ va_P D vwCl w U.heap ∧ va_K D vwCl tys U ∧ va_D (fun _ => True) w
/-- CONTRACT of a method that answers an int or a boolean: in the world w, with the arguments av, it answers r and leaves the world w' u, with 'post r u'; no cell is made -/
def ctI (l : Launch) (y : MethodName) (cc : ByteArray) (nL : Nat) (ret : Option FieldType) (rm : Room) (D : va_G) (tys : List (ClassId × FieldType)) (w : va_W) (av : List Value) {S : Type} (post : Int32 → S → Prop) (w' : S → va_W) : Prop :=
  ∀ sz : Nat, Met l y (ws_ y cc nL ret) rm (va_Pc av (wS D tys w sz)) (va_Qi post (fun u t => wE D tys (va_A w sz) (w' u) t) (va_A w sz)) 0 0 (va_A w sz)
/-- the same of a void method -/
def ctV (l : Launch) (y : MethodName) (cc : ByteArray) (nL : Nat) (rm : Room) (D : va_G) (tys : List (ClassId × FieldType)) (w : va_W) (av : List Value) {S : Type} (post : S → Prop) (w' : S → va_W) : Prop :=
  ∀ sz : Nat, Met l y (ws_ y cc nL none) rm (va_Pc av (wS D tys w sz)) (va_Qv post (fun u t => wE D tys (va_A w sz) (w' u) t) (va_A w sz)) 0 0 (va_A w sz)
/-- what a walk is to come to -/
def qI (below : List Frame) (D : va_G) (tys : List (ClassId × FieldType)) (A : Nat → Prop) {S : Type} (post : Int32 → S → Prop) (w' : S → va_W) (args : Array Value) (s : State) : State → Prop :=
  MQ below (va_Qi post (fun u t => wE D tys A (w' u) t) A) args s 0 0 A
def qV (below : List Frame) (D : va_G) (tys : List (ClassId × FieldType)) (A : Nat → Prop) {S : Type} (post : S → Prop) (w' : S → va_W) (args : Array Value) (s : State) : State → Prop :=
  MQ below (va_Qv post (fun u t => wE D tys A (w' u) t) A) args s 0 0 A
theorem fm_of {α β : Type} {f : α → Option β} : ∀ {is : List α} {w : List β}, is.map f = w.map some → is.filterMap f = w
  | [], [], _ => rfl
  | [], _ :: _, h => by cases h
  | _ :: _, [], h => by cases h
  | i :: is, x :: w, h => by
    have h1 : f i = some x := (List.cons.inj h).1
    have h2 : is.map f = w.map some := (List.cons.inj h).2
    rw [List.filterMap_cons_some h1, fm_of h2]
theorem ctI.of {l : Launch} {y : MethodName} {cc : ByteArray} {nL : Nat} {ret : Option FieldType} {rm : Room} {D : va_G} {tys : List (ClassId × FieldType)} {w : va_W} {av : List Value} {S : Type} {post : Int32 → S → Prop} {w' : S → va_W}
    (hy : plainName y.cls = true) (hn : (lg_sl av).length ≤ nL)
    (hb : ∀ (p : Program) (e : Env) (s : State) (m : MethodId) (below : List Frame) (meth : Method) (c : Code) (A : Nat → Prop) (ls : Array Slot), bx p s m meth c cc nL ret av.toArray y.cls D tys → wd D A s.heap w s.heap [] → lv_has ls nL (lv_args 0 av) →
      W p l e rm s m av.toArray below meth c s.heap [] 0 0 (qI below D tys A post w' av.toArray s) (F0 m 0 ls [])) : ctI l y cc nL ret rm D tys w av post w' := by
  intro sz
  refine Met.ofW (cc := cc) (maxL := nL) (ret := ret) hy rfl ?_
  intro p e s m args below meth c s₁ B hml hv
  obtain ⟨rfl, hsz, hP, hK, hD0⟩ := hv
  have hts := atoms_spec (ws := ws_ y cc nL ret) B.pre
  have hts : ∀ w ∈ lw_all, w.before _ s = true := fun w h => hts w (List.mem_cons_of_mem _ h)
  subst hsz
  rw [lg_entry_eq]
  exact hb p e s m below meth c (va_A w s.heap.size) _ ⟨⟨B.exec, B.bytes, hml, findClass_of_methodNamed B.named, hts⟩, B.notSynchronized, B.returns, hK⟩ ⟨hP, hD0.self (sz := s.heap.size), va_S.rf, fun q h => Or.inr h⟩ (lv_entry av hn)
theorem ctV.of {l : Launch} {y : MethodName} {cc : ByteArray} {nL : Nat} {rm : Room} {D : va_G} {tys : List (ClassId × FieldType)} {w : va_W} {av : List Value} {S : Type} {post : S → Prop} {w' : S → va_W}
    (hy : plainName y.cls = true) (hn : (lg_sl av).length ≤ nL)
    (hb : ∀ (p : Program) (e : Env) (s : State) (m : MethodId) (below : List Frame) (meth : Method) (c : Code) (A : Nat → Prop) (ls : Array Slot), bx p s m meth c cc nL none av.toArray y.cls D tys → wd D A s.heap w s.heap [] → lv_has ls nL (lv_args 0 av) →
      W p l e rm s m av.toArray below meth c s.heap [] 0 0 (qV below D tys A post w' av.toArray s) (F0 m 0 ls [])) : ctV l y cc nL rm D tys w av post w' := by
  intro sz
  refine Met.ofW (cc := cc) (maxL := nL) (ret := none) hy rfl ?_
  intro p e s m args below meth c s₁ B hml hv
  obtain ⟨rfl, hsz, hP, hK, hD0⟩ := hv
  have hts := atoms_spec (ws := ws_ y cc nL none) B.pre
  have hts : ∀ w ∈ lw_all, w.before _ s = true := fun w h => hts w (List.mem_cons_of_mem _ h)
  subst hsz
  rw [lg_entry_eq]
  exact hb p e s m below meth c (va_A w s.heap.size) _ ⟨⟨B.exec, B.bytes, hml, findClass_of_methodNamed B.named, hts⟩, B.notSynchronized, B.returns, hK⟩ ⟨hP, hD0.self (sz := s.heap.size), va_S.rf, fun q h => Or.inr h⟩ (lv_entry av hn)
section
variable {p : Program} {l : Launch} {e : Env} {R : Room} {s : State} {m : MethodId} {args : Array Value} {below : List Frame} {meth : Method} {c : Code} {H : Heap} {locs : List Loc} {cells slots : Nat} {Q : State → Prop}
variable {cc : ByteArray} {nL : Nat} {ret : Option FieldType} {own : String} {pc : Nat} {ls : Array Slot} {rest : List Value} {D : va_G} {A : Nat → Prop} {H0 : Heap} {tys : List (ClassId × FieldType)} {w : va_W} {a : Nat}
theorem s_top {x y : Int32} (h : x = y) (k : W p l e R s m args below meth c H locs cells slots Q (F0 m pc ls (.int y :: rest))) : W p l e R s m args below meth c H locs cells slots Q (F0 m pc ls (.int x :: rest)) := by
  rw [h]; exact k
theorem s_top2 {v : Value} {x y : Int32} (h : x = y) (k : W p l e R s m args below meth c H locs cells slots Q (F0 m pc ls (v :: .int y :: rest))) : W p l e R s m args below meth c H locs cells slots Q (F0 m pc ls (v :: .int x :: rest)) := by
  rw [h]; exact k
theorem s_get1 (B : bx p s m meth c cc nL ret args RX1 D tys) (hw : wd D A H0 w H locs) (k : Nat) (hk : k < 13) {index : Nat} (hq : Cond.fieldLink RX1 index (TX1 k).1 (TX1 k).2.1 (TX1 k).2.2.1 ∈ lw_all) {fs : List Value} (he : w[0]? = some (a, .inr (0, fs))) {v : Value} (hv : fs[k]? = some v) (hdg : decode cc pc = .ok (.getfield index, 3))
    (kk : W p l e R s m args below meth c H locs cells slots Q (F0 m (pc + 3) ls (v :: rest))) : W p l e R s m args below meth c H locs cells slots Q (F0 m pc ls (.ref a :: rest)) :=
  va_get (D := D) (ci := 0) (C := RX1) (T := TX1) (N := 13) B.1.1 B.1.2.1 B.1.2.2.2.2 in_X1 B.1.2.2.2.1 B.2.2.2 hw.1 0 he rfl k hk (B.1.2.2.2.2 _ hq) (fun _ h => h) hv hdg kk
theorem s_get2 (B : bx p s m meth c cc nL ret args RX2 D tys) (hw : wd D A H0 w H locs) (k : Nat) (hk : k < 5) {index : Nat} (hq : Cond.fieldLink RX2 index (TX2 k).1 (TX2 k).2.1 (TX2 k).2.2.1 ∈ lw_all) {fs : List Value} (he : w[0]? = some (a, .inr (1, fs))) {v : Value} (hv : fs[k]? = some v) (hdg : decode cc pc = .ok (.getfield index, 3))
    (kk : W p l e R s m args below meth c H locs cells slots Q (F0 m (pc + 3) ls (v :: rest))) : W p l e R s m args below meth c H locs cells slots Q (F0 m pc ls (.ref a :: rest)) :=
  va_get (D := D) (ci := 1) (C := RX2) (T := TX2) (N := 5) B.1.1 B.1.2.1 B.1.2.2.2.2 in_X2 B.1.2.2.2.1 B.2.2.2 hw.1 0 he rfl k hk (B.1.2.2.2.2 _ hq) (fun _ h => h) hv hdg kk
theorem s_put1 (B : bx p s m meth c cc nL ret args RX1 D tys) (hw : wd D A H0 w H locs) (k : Nat) (hk : k < 13) {index : Nat} (hq : Cond.fieldLink RX1 index (TX1 k).1 (TX1 k).2.1 (TX1 k).2.2.1 ∈ lw_all) {fs : List Value} (he : w[0]? = some (a, .inr (0, fs))) (hfin : (TX1 k).2.2.2 = false) {ty : FieldType} {v : Value} (hd : parseFieldDescriptor (TX1 k).2.2.1 = some ty) (hn : narrow ty v = v) (hfit : fits ty v = true) (hl : k < fs.length) (hdg : decode cc pc = .ok (.putfield index, 3))
    (kk : ∀ (H1 : Heap) (locs1 : List Loc), wd D A H0 (w.set 0 (a, .inr (0, fs.set k v))) H1 locs1 → W p l e R s m args below meth c H1 locs1 cells slots Q (F0 m (pc + 3) ls rest)) : W p l e R s m args below meth c H locs cells slots Q (F0 m pc ls (v :: .ref a :: rest)) :=
  va_put (D := D) (ci := 0) (C := RX1) (T := TX1) (N := 13) B.1.1 B.1.2.1 B.1.2.2.2.2 in_X1 tyX1 tyX1_ok nmX1 B.1.2.2.2.1 B.2.2.2 hw.1 hw.2.1 hw.2.2.1 0 he rfl k hk (B.1.2.2.2.2 _ hq) (fun _ h => h) hfin hd hn hfit hl hdg (fun H1 l1 h1 h2 h3 => kk H1 l1 ⟨h1, h2, h3, hw.2.2.2⟩)
theorem s_put2 (B : bx p s m meth c cc nL ret args RX2 D tys) (hw : wd D A H0 w H locs) (k : Nat) (hk : k < 5) {index : Nat} (hq : Cond.fieldLink RX2 index (TX2 k).1 (TX2 k).2.1 (TX2 k).2.2.1 ∈ lw_all) {fs : List Value} (he : w[0]? = some (a, .inr (1, fs))) (hfin : (TX2 k).2.2.2 = false) {ty : FieldType} {v : Value} (hd : parseFieldDescriptor (TX2 k).2.2.1 = some ty) (hn : narrow ty v = v) (hfit : fits ty v = true) (hl : k < fs.length) (hdg : decode cc pc = .ok (.putfield index, 3))
    (kk : ∀ (H1 : Heap) (locs1 : List Loc), wd D A H0 (w.set 0 (a, .inr (1, fs.set k v))) H1 locs1 → W p l e R s m args below meth c H1 locs1 cells slots Q (F0 m (pc + 3) ls rest)) : W p l e R s m args below meth c H locs cells slots Q (F0 m pc ls (v :: .ref a :: rest)) :=
  va_put (D := D) (ci := 1) (C := RX2) (T := TX2) (N := 5) B.1.1 B.1.2.1 B.1.2.2.2.2 in_X2 tyX2 tyX2_ok nmX2 B.1.2.2.2.1 B.2.2.2 hw.1 hw.2.1 hw.2.2.1 0 he rfl k hk (B.1.2.2.2.2 _ hq) (fun _ h => h) hfin hd hn hfit hl hdg (fun H1 l1 h1 h2 h3 => kk H1 l1 ⟨h1, h2, h3, hw.2.2.2⟩)
theorem s_iald (B : bx p s m meth c cc nL ret args own D tys) (hw : wd D A H0 w H locs) (q0 t0 : Nat) {cA : ClassId} {n : Nat} {f : Nat → Int32} (ha : w[q0]? = some (a, .inl (cA, n, .inl f))) (ht : tys[t0]? = some (cA, .int)) {i : Nat} (hi : i < n) (hn : n < 2 ^ 31) (hdg : decode cc pc = .ok (.iaload, 1))
    (kk : W p l e R s m args below meth c H locs cells slots Q (F0 m (pc + 1) ls (.int (f i) :: rest))) : W p l e R s m args below meth c H locs cells slots Q (F0 m pc ls (.int (nI i) :: .ref a :: rest)) :=
  va_iald B.1.1 B.1.2.1 B.2.2.2 hw.1 q0 t0 ha ht (vp_in_nI hi hn) hdg (by rw [nI_clamp (Nat.lt_trans hi hn)]; exact kk)
theorem s_bald (B : bx p s m meth c cc nL ret args own D tys) (hw : wd D A H0 w H locs) (q0 t0 : Nat) {cA : ClassId} {n : Nat} {f : Nat → Int32} (ha : w[q0]? = some (a, .inl (cA, n, .inl f))) (ht : tys[t0]? = some (cA, .byte)) {i : Nat} (hi : i < n) (hn : n < 2 ^ 31) (hdg : decode cc pc = .ok (.baload, 1))
    (kk : W p l e R s m args below meth c H locs cells slots Q (F0 m (pc + 1) ls (.int (f i) :: rest))) : W p l e R s m args below meth c H locs cells slots Q (F0 m pc ls (.int (nI i) :: .ref a :: rest)) :=
  va_bald B.1.1 B.1.2.1 B.2.2.2 hw.1 q0 t0 ha ht (vp_in_nI hi hn) hdg (by rw [nI_clamp (Nat.lt_trans hi hn)]; exact kk)
theorem s_zald (B : bx p s m meth c cc nL ret args own D tys) (hw : wd D A H0 w H locs) (q0 t0 : Nat) {cA : ClassId} {n : Nat} {f : Nat → Int32} (ha : w[q0]? = some (a, .inl (cA, n, .inl f))) (ht : tys[t0]? = some (cA, .boolean)) {i : Nat} (hi : i < n) (hn : n < 2 ^ 31) (hdg : decode cc pc = .ok (.baload, 1))
    (kk : W p l e R s m args below meth c H locs cells slots Q (F0 m (pc + 1) ls (.int (f i) :: rest))) : W p l e R s m args below meth c H locs cells slots Q (F0 m pc ls (.int (nI i) :: .ref a :: rest)) :=
  va_zald B.1.1 B.1.2.1 B.2.2.2 hw.1 q0 t0 ha ht (vp_in_nI hi hn) hdg (by rw [nI_clamp (Nat.lt_trans hi hn)]; exact kk)
theorem s_iast (B : bx p s m meth c cc nL ret args own D tys) (hw : wd D A H0 w H locs) (q0 t0 : Nat) {cA : ClassId} {n : Nat} {f : Nat → Int32} (ha : w[q0]? = some (a, .inl (cA, n, .inl f))) (ht : tys[t0]? = some (cA, .int)) {i : Nat} {x : Int32} (hi : i < n) (hn : n < 2 ^ 31) (hdg : decode cc pc = .ok (.iastore, 1))
    (kk : ∀ (H1 : Heap) (locs1 : List Loc), wd D A H0 (w.set q0 (a, .inl (cA, n, .inl (upd f i x)))) H1 locs1 → W p l e R s m args below meth c H1 locs1 cells slots Q (F0 m (pc + 1) ls rest)) : W p l e R s m args below meth c H locs cells slots Q (F0 m pc ls (.int x :: .int (nI i) :: .ref a :: rest)) :=
  va_iast B.1.1 B.1.2.1 B.2.2.2 hw.1 hw.2.1 hw.2.2.1 q0 t0 ha ht (vp_in_nI hi hn) hdg (by rw [nI_clamp (Nat.lt_trans hi hn)]; exact fun H1 l1 h1 h2 h3 => kk H1 l1 ⟨h1, h2, h3, hw.2.2.2⟩)
theorem s_bast (B : bx p s m meth c cc nL ret args own D tys) (hw : wd D A H0 w H locs) (q0 t0 : Nat) {cA : ClassId} {n : Nat} {f : Nat → Int32} (ha : w[q0]? = some (a, .inl (cA, n, .inl f))) (ht : tys[t0]? = some (cA, .byte)) {i : Nat} {x : Int32} (hi : i < n) (hn : n < 2 ^ 31) (hv : vp_nar .byte x = x) (hdg : decode cc pc = .ok (.bastore, 1))
    (kk : ∀ (H1 : Heap) (locs1 : List Loc), wd D A H0 (w.set q0 (a, .inl (cA, n, .inl (upd f i x)))) H1 locs1 → W p l e R s m args below meth c H1 locs1 cells slots Q (F0 m (pc + 1) ls rest)) : W p l e R s m args below meth c H locs cells slots Q (F0 m pc ls (.int x :: .int (nI i) :: .ref a :: rest)) :=
  va_bast B.1.1 B.1.2.1 B.2.2.2 hw.1 hw.2.1 hw.2.2.1 q0 t0 ha ht (vp_in_nI hi hn) hdg (by rw [nI_clamp (Nat.lt_trans hi hn), hv]; exact fun H1 l1 h1 h2 h3 => kk H1 l1 ⟨h1, h2, h3, hw.2.2.2⟩)
theorem s_zast (B : bx p s m meth c cc nL ret args own D tys) (hw : wd D A H0 w H locs) (q0 t0 : Nat) {cA : ClassId} {n : Nat} {f : Nat → Int32} (ha : w[q0]? = some (a, .inl (cA, n, .inl f))) (ht : tys[t0]? = some (cA, .boolean)) {i : Nat} {x : Int32} (hi : i < n) (hn : n < 2 ^ 31) (hv : vp_nar .boolean x = x) (hdg : decode cc pc = .ok (.bastore, 1))
    (kk : ∀ (H1 : Heap) (locs1 : List Loc), wd D A H0 (w.set q0 (a, .inl (cA, n, .inl (upd f i x)))) H1 locs1 → W p l e R s m args below meth c H1 locs1 cells slots Q (F0 m (pc + 1) ls rest)) : W p l e R s m args below meth c H locs cells slots Q (F0 m pc ls (.int x :: .int (nI i) :: .ref a :: rest)) :=
  va_zast B.1.1 B.1.2.1 B.2.2.2 hw.1 hw.2.1 hw.2.2.1 q0 t0 ha ht (vp_in_nI hi hn) hdg (by rw [nI_clamp (Nat.lt_trans hi hn), hv]; exact fun H1 l1 h1 h2 h3 => kk H1 l1 ⟨h1, h2, h3, hw.2.2.2⟩)
/-- the end of a method that answers an int or a boolean -/
theorem s_ret {S : Type} {post : Int32 → S → Prop} {w' : S → va_W} {ty : FieldType} {v : Int32} (u : S) (B : bx p s m meth c cc nL (some ty) args own D tys) (hn : narrow ty (.int v) = .int v) (hw : wd D A s.heap (w' u) H locs) (hp : post v u) (hdg : decode cc pc = .ok (.ireturn, 1)) :
    W p l e R s m args below meth c H locs 0 0 (qI below D tys A post w' args s) (F0 m pc ls [.int v]) :=
  W.zret B.1.1 B.1.2.1 B.2.2.1 hn (fun t ht hW => ⟨⟨v, u, rfl, hp, by rw [ht]; exact hw.1, va_K.moved hW.alike B.2.2.2, hw.2.1⟩, hw.2.2.1.F ht⟩) hw.2.2.1.2.2 hdg B.2.1
theorem s_vret {S : Type} {post : S → Prop} {w' : S → va_W} (u : S) (B : bx p s m meth c cc nL none args own D tys) (hw : wd D A s.heap (w' u) H locs) (hp : post u) (hdg : decode cc pc = .ok (.return_, 1)) :
    W p l e R s m args below meth c H locs 0 0 (qV below D tys A post w' args s) (F0 m pc ls []) :=
  W.vret B.1.1 B.1.2.1 B.2.2.1 (fun t ht hW => ⟨⟨u, rfl, hp, by rw [ht]; exact hw.1, va_K.moved hW.alike B.2.2.2, hw.2.1⟩, hw.2.2.1.F ht⟩) hw.2.2.1.2.2 hdg B.2.1
/-- what a call asks of the callee's names and of the room left -/
def cOK (R : Room) (y : MethodName) (nL' : Nat) (rm' : Room) (n : Nat) : Prop :=
  (y.cls ≠ "java/lang/invoke/MethodHandle" ∧ y.cls ≠ "java/lang/invoke/VarHandle" ∧ (parseMethodDescriptor y.desc).map (fun d => d.parameters.length) = some n) ∧ rm'.cells = 0 ∧ rm'.slots = 0 ∧ rm'.frames + 1 ≤ R.frames ∧ 8 + (nL' + 11) + rm'.locals ≤ R.locals
/-- a call of a method on a world of its own inside the caller's -/
theorem s_callR {S : Type} {post : Int32 → S → Prop} {w' : S → va_W} {y : MethodName} {cc' : ByteArray} {nL' : Nat} {ret' : Option FieldType} {rm' : Room} {tysC : List (ClassId × FieldType)} {b : Nat} {As : List Value} {wc wr : va_W} {index ci : Nat} {q : vw_C} {fs : List Value}
    (hM : ctI l y cc' nL' ret' rm' D tysC wc (.ref b :: As) post w') (B : bx p s m meth c cc nL ret args own D tys) (hKc : va_K D vwCl tysC s) (hw : wd D A s.heap w H locs)
    (isC isR : List Nat) (hC : isC.map (fun i => w[i]?) = wc.map some) (hR : isR.map (fun i => w[i]?) = wr.map some) (hnC : va_nd isC = true) (hnR : va_nd isR = true) (hdis : ∀ i ∈ isR, i ∉ isC)
    (hG : GoodIn lw_all (wsV own index y.cls y (ws_ y cc' nL' ret'))) (hc : vwCl[ci]? = some q) (hqc : q.1 = y.cls) (he : wc[0]? = some (b, .inr (ci, fs)))
    (ok : cOK R y nL' rm' As.length) (hcells : cells ≤ R.cells ∧ slots ≤ R.slots) (hls : ls.size = nL) (hW : (rest.map fun v => v.category).sum ≤ 8) (hdg : decode cc pc = .ok (.invokevirtual index, 3))
    (kk : ∀ (r : Int32) (u : S) (H1 : Heap) (locs1 : List Loc), post r u → wd D A s.heap (wr ++ w' u) H1 locs1 → W p l e R s m args below meth c H1 locs1 cells slots Q (F0 m (pc + 3) ls (.int r :: rest))) :
    W p l e R s m args below meth c H locs cells slots Q (F0 m pc ls (As.reverse ++ .ref b :: rest)) := by
  obtain ⟨hP, hD, hS, hA⟩ := hw
  have hPc : va_P D vwCl wc H := hP.sub isC (fm_of hC)
  have hDc : va_D A wc := hD.sub isC hnC hC
  have hFc := va_free (wc := wc) hD hS hA isC hC
  have hrv := va_recv hKc hPc hc he
  rw [hqc] at hrv
  refine va_calli (va_runV (As := As) (rest := rest) B.1 (hM H.size) (cwV As.length B.1.2.2.2.2 hG rfl ok.2.1 ok.2.2.1 ⟨rfl, ok.1⟩ ok.2.2.2) ⟨fun a U g mk h => ?_, hrv, fun U hU hW => ⟨rfl, by rw [hU], by rw [hU]; exact hPc, va_K.moved hW.alike hKc, hDc.weaken (fun _ _ _ _ => trivial)⟩⟩ rfl rfl hls rfl (lv_room hW) hdg hcells) hS (fun q _ h => hFc q h) hFc (fun r u t H1 locs1 ht hvm hp hB hz1 hk1 hS1 => ?_)
  · obtain ⟨h0, h1, h2, h3, h4⟩ := h
    exact ⟨h0, h1, h2, va_K.moved (u := U) (U := U.calling g mk a) (Vm.Alike.refl U.vm) h3, h4⟩
  · obtain ⟨hP1, -, hD1⟩ := hB
    rw [ht] at hP1
    obtain ⟨hP2, hD2⟩ := va_join (wr := wr) (w1 := w' u) hP hD isC isR hC hR hnR hdis hk1 hFc hP1 hD1
    exact kk r u H1 locs1 hp ⟨hP2, hD2, hS1, hA⟩
/-- a call of a method on the caller's whole world -/
theorem s_call {S : Type} {post : Int32 → S → Prop} {w' : S → va_W} {y : MethodName} {cc' : ByteArray} {nL' : Nat} {ret' : Option FieldType} {rm' : Room} {b : Nat} {As : List Value} {index ci : Nat} {q : vw_C} {fs : List Value}
    (hM : ctI l y cc' nL' ret' rm' D tys w (.ref b :: As) post w') (B : bx p s m meth c cc nL ret args own D tys) (hw : wd D A s.heap w H locs)
    (hG : GoodIn lw_all (wsV own index y.cls y (ws_ y cc' nL' ret'))) (hc : vwCl[ci]? = some q) (hqc : q.1 = y.cls) (he : w[0]? = some (b, .inr (ci, fs)))
    (ok : cOK R y nL' rm' As.length) (hcells : cells ≤ R.cells ∧ slots ≤ R.slots) (hls : ls.size = nL) (hW : (rest.map fun v => v.category).sum ≤ 8) (hdg : decode cc pc = .ok (.invokevirtual index, 3))
    (kk : ∀ (r : Int32) (u : S) (H1 : Heap) (locs1 : List Loc), post r u → wd D A s.heap (w' u) H1 locs1 → W p l e R s m args below meth c H1 locs1 cells slots Q (F0 m (pc + 3) ls (.int r :: rest))) :
    W p l e R s m args below meth c H locs cells slots Q (F0 m pc ls (As.reverse ++ .ref b :: rest)) := by
  obtain ⟨hP, hD, hS, hA⟩ := hw
  have hFc : ∀ q, va_A w H.size q → A q := fun q h => by
    rcases h with ⟨k, e, h⟩ | h
    · exact hD.2 k (q, e) h
    · exact hA q (Nat.le_trans hS.1 h)
  have hrv := va_recv B.2.2.2 hP hc he
  rw [hqc] at hrv
  refine va_calli (va_runV (As := As) (rest := rest) B.1 (hM H.size) (cwV As.length B.1.2.2.2.2 hG rfl ok.2.1 ok.2.2.1 ⟨rfl, ok.1⟩ ok.2.2.2) ⟨fun a U g mk h => ?_, hrv, fun U hU hW => ⟨rfl, by rw [hU], by rw [hU]; exact hP, va_K.moved hW.alike B.2.2.2, hD.weaken (fun _ _ _ _ => trivial)⟩⟩ rfl rfl hls rfl (lv_room hW) hdg hcells) hS (fun q _ h => hFc q h) hFc (fun r u t H1 locs1 ht hvm hp hB hz1 hk1 hS1 => ?_)
  · obtain ⟨h0, h1, h2, h3, h4⟩ := h
    exact ⟨h0, h1, h2, va_K.moved (u := U) (U := U.calling g mk a) (Vm.Alike.refl U.vm) h3, h4⟩
  · obtain ⟨hP1, -, hD1⟩ := hB
    rw [ht] at hP1
    exact kk r u H1 locs1 hp ⟨hP1, hD1.weaken (fun k q _ h => hFc q.1 h), hS1, hA⟩
theorem s_callv {S : Type} {post : S → Prop} {w' : S → va_W} {y : MethodName} {cc' : ByteArray} {nL' : Nat} {rm' : Room} {b : Nat} {As : List Value} {index ci : Nat} {q : vw_C} {fs : List Value}
    (hM : ctV l y cc' nL' rm' D tys w (.ref b :: As) post w') (B : bx p s m meth c cc nL ret args own D tys) (hw : wd D A s.heap w H locs)
    (hG : GoodIn lw_all (wsV own index y.cls y (ws_ y cc' nL' none))) (hc : vwCl[ci]? = some q) (hqc : q.1 = y.cls) (he : w[0]? = some (b, .inr (ci, fs)))
    (ok : cOK R y nL' rm' As.length) (hcells : cells ≤ R.cells ∧ slots ≤ R.slots) (hls : ls.size = nL) (hW : (rest.map fun v => v.category).sum ≤ 8) (hdg : decode cc pc = .ok (.invokevirtual index, 3))
    (kk : ∀ (u : S) (H1 : Heap) (locs1 : List Loc), post u → wd D A s.heap (w' u) H1 locs1 → W p l e R s m args below meth c H1 locs1 cells slots Q (F0 m (pc + 3) ls rest)) :
    W p l e R s m args below meth c H locs cells slots Q (F0 m pc ls (As.reverse ++ .ref b :: rest)) := by
  obtain ⟨hP, hD, hS, hA⟩ := hw
  have hFc : ∀ q, va_A w H.size q → A q := fun q h => by
    rcases h with ⟨k, e, h⟩ | h
    · exact hD.2 k (q, e) h
    · exact hA q (Nat.le_trans hS.1 h)
  have hrv := va_recv B.2.2.2 hP hc he
  rw [hqc] at hrv
  refine va_callv (va_runV (As := As) (rest := rest) B.1 (hM H.size) (cwV As.length B.1.2.2.2.2 hG rfl ok.2.1 ok.2.2.1 ⟨rfl, ok.1⟩ ok.2.2.2) ⟨fun a U g mk h => ?_, hrv, fun U hU hW => ⟨rfl, by rw [hU], by rw [hU]; exact hP, va_K.moved hW.alike B.2.2.2, hD.weaken (fun _ _ _ _ => trivial)⟩⟩ rfl rfl hls rfl (lv_room hW) hdg hcells) hS (fun q _ h => hFc q h) hFc (fun u t H1 locs1 ht hvm hp hB hz1 hk1 hS1 => ?_)
  · obtain ⟨h0, h1, h2, h3, h4⟩ := h
    exact ⟨h0, h1, h2, va_K.moved (u := U) (U := U.calling g mk a) (Vm.Alike.refl U.vm) h3, h4⟩
  · obtain ⟨hP1, -, hD1⟩ := hB
    rw [ht] at hP1
    exact kk u H1 locs1 hp ⟨hP1, hD1.weaken (fun k q _ h => hFc q.1 h), hS1, hA⟩
end
end
section
/-! the callees: their classes and how many parameters (printed by gen/cn.py) -/
set_option maxRecDepth 100000
theorem cn0_cell : yX0_cell.cls ≠ "java/lang/invoke/MethodHandle" ∧ yX0_cell.cls ≠ "java/lang/invoke/VarHandle" ∧ (parseMethodDescriptor yX0_cell.desc).map (fun d => d.parameters.length) = some 2 := by decide +kernel
theorem cn1_init : yX1_init.cls ≠ "java/lang/invoke/MethodHandle" ∧ yX1_init.cls ≠ "java/lang/invoke/VarHandle" ∧ (parseMethodDescriptor yX1_init.desc).map (fun d => d.parameters.length) = some 2 := by decide +kernel
theorem cn1_shifter : yX1_shifter.cls ≠ "java/lang/invoke/MethodHandle" ∧ yX1_shifter.cls ≠ "java/lang/invoke/VarHandle" ∧ (parseMethodDescriptor yX1_shifter.desc).map (fun d => d.parameters.length) = some 2 := by decide +kernel
theorem cn1_want : yX1_want.cls ≠ "java/lang/invoke/MethodHandle" ∧ yX1_want.cls ≠ "java/lang/invoke/VarHandle" ∧ (parseMethodDescriptor yX1_want.desc).map (fun d => d.parameters.length) = some 4 := by decide +kernel
theorem cn1_isPlace : yX1_isPlace.cls ≠ "java/lang/invoke/MethodHandle" ∧ yX1_isPlace.cls ≠ "java/lang/invoke/VarHandle" ∧ (parseMethodDescriptor yX1_isPlace.desc).map (fun d => d.parameters.length) = some 2 := by decide +kernel
theorem cn1_expand : yX1_expand.cls ≠ "java/lang/invoke/MethodHandle" ∧ yX1_expand.cls ≠ "java/lang/invoke/VarHandle" ∧ (parseMethodDescriptor yX1_expand.desc).map (fun d => d.parameters.length) = some 3 := by decide +kernel
theorem cn1_makeForms : yX1_makeForms.cls ≠ "java/lang/invoke/MethodHandle" ∧ yX1_makeForms.cls ≠ "java/lang/invoke/VarHandle" ∧ (parseMethodDescriptor yX1_makeForms.desc).map (fun d => d.parameters.length) = some 0 := by decide +kernel
theorem cn1_sumOfForms : yX1_sumOfForms.cls ≠ "java/lang/invoke/MethodHandle" ∧ yX1_sumOfForms.cls ≠ "java/lang/invoke/VarHandle" ∧ (parseMethodDescriptor yX1_sumOfForms.desc).map (fun d => d.parameters.length) = some 1 := by decide +kernel
theorem cn1_parity : yX1_parity.cls ≠ "java/lang/invoke/MethodHandle" ∧ yX1_parity.cls ≠ "java/lang/invoke/VarHandle" ∧ (parseMethodDescriptor yX1_parity.desc).map (fun d => d.parameters.length) = some 1 := by decide +kernel
theorem cn1_seeds : yX1_seeds.cls ≠ "java/lang/invoke/MethodHandle" ∧ yX1_seeds.cls ≠ "java/lang/invoke/VarHandle" ∧ (parseMethodDescriptor yX1_seeds.desc).map (fun d => d.parameters.length) = some 1 := by decide +kernel
theorem cn1_isCubeSet : yX1_isCubeSet.cls ≠ "java/lang/invoke/MethodHandle" ∧ yX1_isCubeSet.cls ≠ "java/lang/invoke/VarHandle" ∧ (parseMethodDescriptor yX1_isCubeSet.desc).map (fun d => d.parameters.length) = some 1 := by decide +kernel
theorem cn1_solve : yX1_solve.cls ≠ "java/lang/invoke/MethodHandle" ∧ yX1_solve.cls ≠ "java/lang/invoke/VarHandle" ∧ (parseMethodDescriptor yX1_solve.desc).map (fun d => d.parameters.length) = some 1 := by decide +kernel
theorem cn1_demand : yX1_demand.cls ≠ "java/lang/invoke/MethodHandle" ∧ yX1_demand.cls ≠ "java/lang/invoke/VarHandle" ∧ (parseMethodDescriptor yX1_demand.desc).map (fun d => d.parameters.length) = some 2 := by decide +kernel
theorem cn1_reduce : yX1_reduce.cls ≠ "java/lang/invoke/MethodHandle" ∧ yX1_reduce.cls ≠ "java/lang/invoke/VarHandle" ∧ (parseMethodDescriptor yX1_reduce.desc).map (fun d => d.parameters.length) = some 2 := by decide +kernel
theorem cn1_leastSeed : yX1_leastSeed.cls ≠ "java/lang/invoke/MethodHandle" ∧ yX1_leastSeed.cls ≠ "java/lang/invoke/VarHandle" ∧ (parseMethodDescriptor yX1_leastSeed.desc).map (fun d => d.parameters.length) = some 1 := by decide +kernel
theorem cn1_complete : yX1_complete.cls ≠ "java/lang/invoke/MethodHandle" ∧ yX1_complete.cls ≠ "java/lang/invoke/VarHandle" ∧ (parseMethodDescriptor yX1_complete.desc).map (fun d => d.parameters.length) = some 1 := by decide +kernel
theorem cn1_greatestSeed : yX1_greatestSeed.cls ≠ "java/lang/invoke/MethodHandle" ∧ yX1_greatestSeed.cls ≠ "java/lang/invoke/VarHandle" ∧ (parseMethodDescriptor yX1_greatestSeed.desc).map (fun d => d.parameters.length) = some 1 := by decide +kernel
theorem cn1_forced : yX1_forced.cls ≠ "java/lang/invoke/MethodHandle" ∧ yX1_forced.cls ≠ "java/lang/invoke/VarHandle" ∧ (parseMethodDescriptor yX1_forced.desc).map (fun d => d.parameters.length) = some 3 := by decide +kernel
theorem cn1_seedsNeeded : yX1_seedsNeeded.cls ≠ "java/lang/invoke/MethodHandle" ∧ yX1_seedsNeeded.cls ≠ "java/lang/invoke/VarHandle" ∧ (parseMethodDescriptor yX1_seedsNeeded.desc).map (fun d => d.parameters.length) = some 1 := by decide +kernel
theorem cn1_groupCubes : yX1_groupCubes.cls ≠ "java/lang/invoke/MethodHandle" ∧ yX1_groupCubes.cls ≠ "java/lang/invoke/VarHandle" ∧ (parseMethodDescriptor yX1_groupCubes.desc).map (fun d => d.parameters.length) = some 0 := by decide +kernel
theorem cn1_forget : yX1_forget.cls ≠ "java/lang/invoke/MethodHandle" ∧ yX1_forget.cls ≠ "java/lang/invoke/VarHandle" ∧ (parseMethodDescriptor yX1_forget.desc).map (fun d => d.parameters.length) = some 1 := by decide +kernel
theorem cn2_init : yX2_init.cls ≠ "java/lang/invoke/MethodHandle" ∧ yX2_init.cls ≠ "java/lang/invoke/VarHandle" ∧ (parseMethodDescriptor yX2_init.desc).map (fun d => d.parameters.length) = some 2 := by decide +kernel
theorem cn2_shifter : yX2_shifter.cls ≠ "java/lang/invoke/MethodHandle" ∧ yX2_shifter.cls ≠ "java/lang/invoke/VarHandle" ∧ (parseMethodDescriptor yX2_shifter.desc).map (fun d => d.parameters.length) = some 2 := by decide +kernel
theorem cn2_isState : yX2_isState.cls ≠ "java/lang/invoke/MethodHandle" ∧ yX2_isState.cls ≠ "java/lang/invoke/VarHandle" ∧ (parseMethodDescriptor yX2_isState.desc).map (fun d => d.parameters.length) = some 1 := by decide +kernel
theorem cn2_want : yX2_want.cls ≠ "java/lang/invoke/MethodHandle" ∧ yX2_want.cls ≠ "java/lang/invoke/VarHandle" ∧ (parseMethodDescriptor yX2_want.desc).map (fun d => d.parameters.length) = some 4 := by decide +kernel
theorem cn2_isPlace : yX2_isPlace.cls ≠ "java/lang/invoke/MethodHandle" ∧ yX2_isPlace.cls ≠ "java/lang/invoke/VarHandle" ∧ (parseMethodDescriptor yX2_isPlace.desc).map (fun d => d.parameters.length) = some 2 := by decide +kernel
theorem cn2_expand : yX2_expand.cls ≠ "java/lang/invoke/MethodHandle" ∧ yX2_expand.cls ≠ "java/lang/invoke/VarHandle" ∧ (parseMethodDescriptor yX2_expand.desc).map (fun d => d.parameters.length) = some 3 := by decide +kernel
theorem cn2_valueAt : yX2_valueAt.cls ≠ "java/lang/invoke/MethodHandle" ∧ yX2_valueAt.cls ≠ "java/lang/invoke/VarHandle" ∧ (parseMethodDescriptor yX2_valueAt.desc).map (fun d => d.parameters.length) = some 3 := by decide +kernel
theorem cn2_parity : yX2_parity.cls ≠ "java/lang/invoke/MethodHandle" ∧ yX2_parity.cls ≠ "java/lang/invoke/VarHandle" ∧ (parseMethodDescriptor yX2_parity.desc).map (fun d => d.parameters.length) = some 1 := by decide +kernel
theorem cn2_seeds : yX2_seeds.cls ≠ "java/lang/invoke/MethodHandle" ∧ yX2_seeds.cls ≠ "java/lang/invoke/VarHandle" ∧ (parseMethodDescriptor yX2_seeds.desc).map (fun d => d.parameters.length) = some 1 := by decide +kernel
theorem cn2_isSet : yX2_isSet.cls ≠ "java/lang/invoke/MethodHandle" ∧ yX2_isSet.cls ≠ "java/lang/invoke/VarHandle" ∧ (parseMethodDescriptor yX2_isSet.desc).map (fun d => d.parameters.length) = some 1 := by decide +kernel
theorem cn2_fits : yX2_fits.cls ≠ "java/lang/invoke/MethodHandle" ∧ yX2_fits.cls ≠ "java/lang/invoke/VarHandle" ∧ (parseMethodDescriptor yX2_fits.desc).map (fun d => d.parameters.length) = some 2 := by decide +kernel
theorem cn2_leastSeed : yX2_leastSeed.cls ≠ "java/lang/invoke/MethodHandle" ∧ yX2_leastSeed.cls ≠ "java/lang/invoke/VarHandle" ∧ (parseMethodDescriptor yX2_leastSeed.desc).map (fun d => d.parameters.length) = some 1 := by decide +kernel
theorem cn2_firstSeed : yX2_firstSeed.cls ≠ "java/lang/invoke/MethodHandle" ∧ yX2_firstSeed.cls ≠ "java/lang/invoke/VarHandle" ∧ (parseMethodDescriptor yX2_firstSeed.desc).map (fun d => d.parameters.length) = some 1 := by decide +kernel
theorem cn2_greatestSeed : yX2_greatestSeed.cls ≠ "java/lang/invoke/MethodHandle" ∧ yX2_greatestSeed.cls ≠ "java/lang/invoke/VarHandle" ∧ (parseMethodDescriptor yX2_greatestSeed.desc).map (fun d => d.parameters.length) = some 1 := by decide +kernel
theorem cn2_forced : yX2_forced.cls ≠ "java/lang/invoke/MethodHandle" ∧ yX2_forced.cls ≠ "java/lang/invoke/VarHandle" ∧ (parseMethodDescriptor yX2_forced.desc).map (fun d => d.parameters.length) = some 3 := by decide +kernel
theorem cn2_seedsNeeded : yX2_seedsNeeded.cls ≠ "java/lang/invoke/MethodHandle" ∧ yX2_seedsNeeded.cls ≠ "java/lang/invoke/VarHandle" ∧ (parseMethodDescriptor yX2_seedsNeeded.desc).map (fun d => d.parameters.length) = some 1 := by decide +kernel
theorem cn2_forget : yX2_forget.cls ≠ "java/lang/invoke/MethodHandle" ∧ yX2_forget.cls ≠ "java/lang/invoke/VarHandle" ∧ (parseMethodDescriptor yX2_forget.desc).map (fun d => d.parameters.length) = some 1 := by decide +kernel
end
section
/-! PLAIN LAW 10: the solver's whole state; answers out of solve -/
/-- what of a SeedSolver changes: formsReady, reducedValue, groupsReady; shifters, wanted, forms, bitForms, equation, rightSide, grouped, needed -/
abbrev SvU : Type := Int32 × Int32 × Int32 × (Nat → Int32) × (Nat → Int32) × (Nat → Int32) × (Nat → Int32) × (Nat → Int32) × (Nat → Int32) × (Nat → Int32) × (Nat → Int32)
abbrev svWu (ad : Nat → Nat) (dA : Nat → ClassId) (n tp : Int32) (u : SvU) : va_W := svW ad dA n tp u.1 u.2.1 u.2.2.1 u.2.2.2.1 u.2.2.2.2.1 u.2.2.2.2.2.1 u.2.2.2.2.2.2.1 u.2.2.2.2.2.2.2.1 u.2.2.2.2.2.2.2.2.1 u.2.2.2.2.2.2.2.2.2.1 u.2.2.2.2.2.2.2.2.2.2
/-- the state is right: its numbers; forms and groups are right where they are said to be ready -/
def sd_SI (nn tpn : Nat) (shn wtn : Nat → Nat) (fr gr : Int32) (sh wt fm nd : Nat → Int32) : Prop := sd_ST nn tpn shn wtn sh wt ∧ sd_fP nn tpn shn fr fm ∧ sd_gP nn tpn shn wtn gr nd
abbrev sd_SIu (nn tpn : Nat) (shn wtn : Nat → Nat) (u : SvU) : Prop := sd_SI nn tpn shn wtn u.1 u.2.2.1 u.2.2.2.1 u.2.2.2.2.1 u.2.2.2.2.2.1 u.2.2.2.2.2.2.2.2.2.2
theorem sd_so_1 {n tp : Nat} {sh wt : Nat → Nat} {S : Nat} {r : Int32} {eq rs : Nat → Int32} (h : sd_so n tp sh wt S r eq rs) (h0 : ¬ r = 0) : ∃ E R, sd_eqs n eq rs E R ∧ ∀ x, x < 2 ^ n → (sd_sl E R x n = true ↔ sd_ft n tp sh wt S x = true) := by
  rcases h with h | h
  · exact h.2
  · exact absurd h.1 h0
theorem sd_so_0 {n tp : Nat} {sh wt : Nat → Nat} {S : Nat} {r : Int32} {eq rs : Nat → Int32} (h : sd_so n tp sh wt S r eq rs) (h0 : r = 0) : ∀ x, x < 2 ^ n → sd_ft n tp sh wt S x = false := by
  rcases h with h | h
  · rw [h0] at h
    exact absurd h.1 (by decide)
  · exact h.2
theorem sd_fr_le (E : Nat → Nat) (n : Nat) : sd_fr E n ≤ n := fb_ct_le _ n
theorem sd_fr_t {E : Nat → Nat} {b : Nat} (h : E b = 0) : sd_fr E (b + 1) = sd_fr E b + 1 := by rw [sd_fr_succ, if_pos h]
theorem sd_fr_f {E : Nat → Nat} {b : Nat} (h : E b ≠ 0) : sd_fr E (b + 1) = sd_fr E b := by rw [sd_fr_succ, if_neg h]; rfl
theorem sd_exp_vl {nn tpn : Nat} {shn : Nat → Nat} {x t ch a0 : Nat} (h8 : nn ≤ 8) (hc : ch < 4) (hx : x < 2 ^ nn) (ha : a0 < 2 ^ nn) (h : ∀ x, x < 2 ^ nn → sd_dt nn a0 x = sd_vl nn tpn shn x ((4 * t + ch) / 4) ((4 * t + ch) % 4)) : sd_par 8 (a0 &&& x) = sd_vl nn tpn shn x t ch := by
  have e1 : (4 * t + ch) / 4 = t := by omega
  have e2 : (4 * t + ch) % 4 = ch := by omega
  have := h x hx
  rw [e1, e2] at this
  rw [sd_par_and, sd_dt_low x h8 ha, this]
end
section
/-! SeedSolverModel: leaves (printed by gen/x2a.py) -/
set_option maxHeartbeats 4000000 in
set_option maxRecDepth 100000 in
/-- isState: a number below 2^n -/
theorem ct2_isState (l : Launch) (D : va_G) {ad : Nat → Nat} {dA : Nat → ClassId} {nn tpn : Nat} {sh wt le : Nat → Int32} (hn8 : nn ≤ 8) (p0 : Int32) : ctI l yX2_isState cX2_isState 2 (some .boolean) (rmK 0) D (moT dA) (moW ad dA (nI nn) (nI tpn) sh wt le) [.ref (ad 0), .int p0] (fun r (_ : Unit) => sd_yn r (sd_in p0 (2 ^ nn))) (fun _ => moW ad dA (nI nn) (nI tpn) sh wt le) := by
  refine ctI.of (by decide) (Nat.le_of_ble_eq_true rfl) ?_
  intro p e s m below meth c A ls B hw hl
  have hx := B.1.1
  have hb := B.1.2.1
  have hl : lv_has ls 2 [(0, .ref (ad 0)), (1, .int p0)] := hl
  have h8 := sd_p8 hn8
  refine lv_iload_n hx hb dX2_isState_0 rfl (lv_at hl 1 rfl) ?_
  refine lv_if_lt (tgt := 18) hx hb dX2_isState_1 (by decide) (fun c1 => ?_) (fun c1 => ?_)
  · refine lv_iconst (v := nI 0) hx hb dX2_isState_18 (by decide) ?_
    exact s_ret (v := nI 0) () B rfl hw (Or.inr ⟨rfl, sd_out_neg (by omega) c1⟩) dX2_isState_19
  · refine lv_iload_n hx hb dX2_isState_4 rfl (lv_at hl 1 rfl) ?_
    refine lv_iconst (v := nI 1) hx hb dX2_isState_5 (by decide) ?_
    refine lv_aload_n hx hb dX2_isState_6 rfl (lv_at hl 0 rfl) ?_
    refine s_get2 (v := .int (nI nn)) B hw 0 (by decide) q156 rfl rfl dX2_isState_7 ?_
    refine lv_ishl hx hb dX2_isState_10 ?_
    refine s_top (y := nI (2 ^ nn)) (sd_shl1 (by omega)) ?_
    refine lv_icmp_ge (tgt := 18) hx hb dX2_isState_11 (by decide) (fun c2 => ?_) (fun c2 => ?_)
    · refine lv_iconst (v := nI 0) hx hb dX2_isState_18 (by decide) ?_
      exact s_ret (v := nI 0) () B rfl hw (Or.inr ⟨rfl, sd_out_ge (by omega) c2⟩) dX2_isState_19
    · refine lv_iconst (v := nI 1) hx hb dX2_isState_14 (by decide) ?_
      refine lv_goto (tgt := 19) hx hb dX2_isState_15 (by decide) ?_
      exact s_ret (v := nI 1) () B rfl hw (Or.inl ⟨rfl, sd_in_lt (by omega) c1 c2⟩) dX2_isState_19
set_option maxHeartbeats 4000000 in
set_option maxRecDepth 100000 in
/-- isPlace: a cycle below 16, a chain below 4 -/
theorem ct2_isPlace (l : Launch) (D : va_G) {ad : Nat → Nat} {dA : Nat → ClassId} {nn tpn : Nat} {sh wt le : Nat → Int32} (p0 p1 : Int32) : ctI l yX2_isPlace cX2_isPlace 3 (some .boolean) (rmK 0) D (moT dA) (moW ad dA (nI nn) (nI tpn) sh wt le) [.ref (ad 0), .int p0, .int p1] (fun r (_ : Unit) => sd_yn r (sd_in p0 16 ∧ sd_in p1 4)) (fun _ => moW ad dA (nI nn) (nI tpn) sh wt le) := by
  refine ctI.of (by decide) (Nat.le_of_ble_eq_true rfl) ?_
  intro p e s m below meth c A ls B hw hl
  have hx := B.1.1
  have hb := B.1.2.1
  have hl : lv_has ls 3 [(0, .ref (ad 0)), (1, .int p0), (2, .int p1)] := hl
  refine lv_iload_n hx hb dX2_isPlace_0 rfl (lv_at hl 1 rfl) ?_
  refine lv_if_lt (tgt := 23) hx hb dX2_isPlace_1 (by decide) (fun c1 => ?_) (fun c1 => ?_)
  · refine lv_iconst (v := nI 0) hx hb dX2_isPlace_23 (by decide) ?_
    exact s_ret (v := nI 0) () B rfl hw (Or.inr ⟨rfl, fun h => sd_out_neg (by omega) c1 h.1⟩) dX2_isPlace_24
  · refine lv_iload_n hx hb dX2_isPlace_4 rfl (lv_at hl 1 rfl) ?_
    refine lv_bipush (v := nI 15) hx hb dX2_isPlace_5 (by decide) ?_
    refine lv_icmp_gt (tgt := 23) hx hb dX2_isPlace_7 (by decide) (fun c2 => ?_) (fun c2 => ?_)
    · refine lv_iconst (v := nI 0) hx hb dX2_isPlace_23 (by decide) ?_
      exact s_ret (v := nI 0) () B rfl hw (Or.inr ⟨rfl, fun h => sd_out_gt (b := 15) (by omega) c2 h.1⟩) dX2_isPlace_24
    · refine lv_iload_n hx hb dX2_isPlace_10 rfl (lv_at hl 2 rfl) ?_
      refine lv_if_lt (tgt := 23) hx hb dX2_isPlace_11 (by decide) (fun c3 => ?_) (fun c3 => ?_)
      · refine lv_iconst (v := nI 0) hx hb dX2_isPlace_23 (by decide) ?_
        exact s_ret (v := nI 0) () B rfl hw (Or.inr ⟨rfl, fun h => sd_out_neg (by omega) c3 h.2⟩) dX2_isPlace_24
      · refine lv_iload_n hx hb dX2_isPlace_14 rfl (lv_at hl 2 rfl) ?_
        refine lv_iconst (v := nI 3) hx hb dX2_isPlace_15 (by decide) ?_
        refine lv_icmp_gt (tgt := 23) hx hb dX2_isPlace_16 (by decide) (fun c4 => ?_) (fun c4 => ?_)
        · refine lv_iconst (v := nI 0) hx hb dX2_isPlace_23 (by decide) ?_
          exact s_ret (v := nI 0) () B rfl hw (Or.inr ⟨rfl, fun h => sd_out_gt (b := 3) (by omega) c4 h.2⟩) dX2_isPlace_24
        · refine lv_iconst (v := nI 1) hx hb dX2_isPlace_19 (by decide) ?_
          refine lv_goto (tgt := 24) hx hb dX2_isPlace_20 (by decide) ?_
          exact s_ret (v := nI 1) () B rfl hw (Or.inl ⟨rfl, sd_in_le (b := 15) (by omega) c1 c2, sd_in_le (b := 3) (by omega) c3 c4⟩) dX2_isPlace_24
set_option maxHeartbeats 4000000 in
set_option maxRecDepth 100000 in
/-- isSet: a number below 64 -/
theorem ct2_isSet (l : Launch) (D : va_G) {ad : Nat → Nat} {dA : Nat → ClassId} {nn tpn : Nat} {sh wt le : Nat → Int32} (p0 : Int32) : ctI l yX2_isSet cX2_isSet 2 (some .boolean) (rmK 0) D (moT dA) (moW ad dA (nI nn) (nI tpn) sh wt le) [.ref (ad 0), .int p0] (fun r (_ : Unit) => sd_yn r (sd_in p0 64)) (fun _ => moW ad dA (nI nn) (nI tpn) sh wt le) := by
  refine ctI.of (by decide) (Nat.le_of_ble_eq_true rfl) ?_
  intro p e s m below meth c A ls B hw hl
  have hx := B.1.1
  have hb := B.1.2.1
  have hl : lv_has ls 2 [(0, .ref (ad 0)), (1, .int p0)] := hl
  refine lv_iload_n hx hb dX2_isSet_0 rfl (lv_at hl 1 rfl) ?_
  refine lv_if_lt (tgt := 14) hx hb dX2_isSet_1 (by decide) (fun c1 => ?_) (fun c1 => ?_)
  · refine lv_iconst (v := nI 0) hx hb dX2_isSet_14 (by decide) ?_
    exact s_ret (v := nI 0) () B rfl hw (Or.inr ⟨rfl, sd_out_neg (by omega) c1⟩) dX2_isSet_15
  · refine lv_iload_n hx hb dX2_isSet_4 rfl (lv_at hl 1 rfl) ?_
    refine lv_bipush (v := nI 63) hx hb dX2_isSet_5 (by decide) ?_
    refine lv_icmp_gt (tgt := 14) hx hb dX2_isSet_7 (by decide) (fun c2 => ?_) (fun c2 => ?_)
    · refine lv_iconst (v := nI 0) hx hb dX2_isSet_14 (by decide) ?_
      exact s_ret (v := nI 0) () B rfl hw (Or.inr ⟨rfl, sd_out_gt (b := 63) (by omega) c2⟩) dX2_isSet_15
    · refine lv_iconst (v := nI 1) hx hb dX2_isSet_10 (by decide) ?_
      refine lv_goto (tgt := 15) hx hb dX2_isSet_11 (by decide) ?_
      exact s_ret (v := nI 1) () B rfl hw (Or.inl ⟨rfl, sd_in_le (b := 63) (by omega) c1 c2⟩) dX2_isSet_15
set_option maxHeartbeats 4000000 in
set_option maxRecDepth 100000 in
/-- parity: its loop -/
theorem lp2_parity {p : Program} {l : Launch} {e : Env} {s : State} {m : MethodId} {args : Array Value} {below : List Frame} {meth : Method} {c : Code} {Q : State → Prop} {D : va_G} {ad : Nat → Nat} {ret : Option FieldType} {R : Room} {H : Heap} {locs : List Loc} {tys : List (ClassId × FieldType)} {mm : Nat} (B : bx p s m meth c cX2_parity 4 ret args RX2 D tys) (hm : mm < 2 ^ 31)
    (kk : ∀ (cN : Nat) (ls : Array Slot), cN ≤ 8 → cN % 2 = (sd_par 8 mm).toNat → lv_has ls 4 [(0, .ref (ad 0)), (1, .int (nI mm)), (2, .int (nI cN)), (3, .int (nI 8))] → W p l e R s m args below meth c H locs 0 0 Q (F0 m 24 ls [])) :
    ∀ (k b cN : Nat) (ls : Array Slot), b + k = 8 → cN ≤ b → cN % 2 = (sd_par b mm).toNat → lv_has ls 4 [(0, .ref (ad 0)), (1, .int (nI mm)), (2, .int (nI cN)), (3, .int (nI b))] → W p l e R s m args below meth c H locs 0 0 Q (F0 m 4 ls []) := by
  have hx := B.1.1
  have hb := B.1.2.1
  intro k
  induction k with
  | zero =>
    intro b cN ls hk hc hp hl
    have eb : b = 8 := by omega
    subst eb
    refine lv_iload_n hx hb dX2_parity_4 rfl (lv_at hl 3 rfl) ?_
    refine lv_bipush (v := nI 8) hx hb dX2_parity_5 (by decide) ?_
    refine lv_icmp_ge (tgt := 24) hx hb dX2_parity_7 (by decide) (fun _ => ?_) (fun cc => absurd (nI_le (by omega) (by omega)) cc)
    exact kk cN ls hc hp (lv_sub hl [0, 1, 2, 3] rfl)
  | succ k ih =>
    intro b cN ls hk hc hp hl
    refine lv_iload_n hx hb dX2_parity_4 rfl (lv_at hl 3 rfl) ?_
    refine lv_bipush (v := nI 8) hx hb dX2_parity_5 (by decide) ?_
    refine lv_icmp_ge (tgt := 24) hx hb dX2_parity_7 (by decide) (fun cc => absurd cc (nI_ge (by omega) (by omega))) (fun _ => ?_)
    refine lv_iload_n hx hb dX2_parity_10 rfl (lv_at hl 2 rfl) ?_
    refine lv_iload_n hx hb dX2_parity_11 rfl (lv_at hl 1 rfl) ?_
    refine lv_iload_n hx hb dX2_parity_12 rfl (lv_at hl 3 rfl) ?_
    refine lv_ishr hx hb dX2_parity_13 ?_
    refine lv_iconst (v := nI 1) hx hb dX2_parity_14 (by decide) ?_
    refine lv_iand hx hb dX2_parity_15 ?_
    refine s_top (y := nI ((mm.testBit b).toNat)) (sd_bit hm (by omega)) ?_
    refine lv_iadd hx hb dX2_parity_16 ?_
    refine s_top (y := nI (cN + ((mm.testBit b).toNat))) (nI_add _ _) ?_
    refine lv_istore_n (lv' := [(2, .int (nI (cN + ((mm.testBit b).toNat)))), (0, .ref (ad 0)), (1, .int (nI mm)), (3, .int (nI b))]) hx hb dX2_parity_17 rfl hl (by decide) rfl (fun ls hl => ?_)
    refine lv_iinc (v := nI (b + 1)) (lv' := [(3, .int (nI (b + 1))), (2, .int (nI (cN + ((mm.testBit b).toNat)))), (0, .ref (ad 0)), (1, .int (nI mm))]) hx hb dX2_parity_18 hl (k := 3) rfl (nI_add b 1) (by decide) rfl (fun ls hl => ?_)
    refine lv_goto (tgt := 4) hx hb dX2_parity_21 (by decide) ?_
    have h1 : (mm.testBit b).toNat ≤ 1 := Bool.toNat_le _
    exact ih (b + 1) (cN + (mm.testBit b).toNat) ls (by omega) (by omega) (sd_parN hp) (lv_sub hl [2, 3, 1, 0] rfl)
set_option maxHeartbeats 4000000 in
set_option maxRecDepth 100000 in
/-- parity of the low eight bits -/
theorem ct2_parity (l : Launch) (D : va_G) {ad : Nat → Nat} {dA : Nat → ClassId} {nn tpn : Nat} {sh wt le : Nat → Int32} {mm : Nat} (hm : mm < 2 ^ 31) : ctI l yX2_parity cX2_parity 4 (some .int) (rmK 0) D (moT dA) (moW ad dA (nI nn) (nI tpn) sh wt le) [.ref (ad 0), .int (nI mm)] (fun r (_ : Unit) => r = nI (sd_par 8 mm).toNat) (fun _ => moW ad dA (nI nn) (nI tpn) sh wt le) := by
  refine ctI.of (by decide) (Nat.le_of_ble_eq_true rfl) ?_
  intro p e s m below meth c A ls B hw hl
  have hx := B.1.1
  have hb := B.1.2.1
  have hl : lv_has ls 4 [(0, .ref (ad 0)), (1, .int (nI mm))] := hl
  refine lv_iconst (v := nI 0) hx hb dX2_parity_0 (by decide) ?_
  refine lv_istore_n (lv' := [(2, .int (nI 0)), (0, .ref (ad 0)), (1, .int (nI mm))]) hx hb dX2_parity_1 rfl hl (by decide) rfl (fun ls hl => ?_)
  refine lv_iconst (v := nI 0) hx hb dX2_parity_2 (by decide) ?_
  refine lv_istore_n (lv' := [(3, .int (nI 0)), (2, .int (nI 0)), (0, .ref (ad 0)), (1, .int (nI mm))]) hx hb dX2_parity_3 rfl hl (by decide) rfl (fun ls hl => ?_)
  refine lp2_parity B hm (fun cN ls h1 h2 hl => ?_) 8 0 0 ls rfl (Nat.le_refl 0) rfl (lv_sub hl [2, 3, 1, 0] rfl)
  refine lv_iload_n hx hb dX2_parity_24 rfl (lv_at hl 2 rfl) ?_
  refine lv_iconst (v := nI 2) hx hb dX2_parity_25 (by decide) ?_
  refine lv_irem hx hb dX2_parity_26 (by decide) ?_
  refine s_top (y := nI (cN % 2)) (pk_rem (by omega) (by omega) (by omega)) ?_
  exact s_ret (v := nI (cN % 2)) () B rfl hw (by rw [h2]) dX2_parity_27
end
section
/-! SeedSolverModel: setters, valueAt, expand (printed by gen/x2b.py) -/
set_option maxHeartbeats 4000000 in
set_option maxRecDepth 100000 in
/-- shifter -/
theorem ct2_shifter (l : Launch) (D : va_G) {ad : Nat → Nat} {dA : Nat → ClassId} {nn tpn : Nat} {shn wtn : Nat → Nat} {sh wt le : Nat → Int32} (hst : sd_ST nn tpn shn wtn sh wt) (p0 p1 : Int32) : ctI l yX2_shifter cX2_shifter 3 (some .boolean) (rmK 1) D (moT dA) (moW ad dA (nI nn) (nI tpn) sh wt le) [.ref (ad 0), .int p0, .int p1] (fun r (u : Nat → Int32) => ∃ shn', sd_Ash nn shn p0 p1 r shn' ∧ sd_ST nn tpn shn' wtn u wt) (fun u => moW ad dA (nI nn) (nI tpn) u wt le) := by
  refine ctI.of (by decide) (Nat.le_of_ble_eq_true rfl) ?_
  intro p e s m below meth c A ls B hw hl
  have hx := B.1.1
  have hb := B.1.2.1
  have hl : lv_has ls 3 [(0, .ref (ad 0)), (1, .int p0), (2, .int p1)] := hl
  have h8 := sd_p8 hst.2.1
  have h3 := hst.1
  have hn8 := hst.2.1
  refine lv_iload_n hx hb dX2_shifter_0 rfl (lv_at hl 1 rfl) ?_
  refine lv_if_lt (tgt := 17) hx hb dX2_shifter_1 (by decide) (fun c1 => ?_) (fun c1 => ?_)
  · refine lv_iconst (v := nI 0) hx hb dX2_shifter_17 (by decide) ?_
    exact s_ret (v := nI 0) sh B rfl hw (⟨shn, Or.inr ⟨fun h => sd_out_neg (by omega) c1 h.1, rfl, rfl⟩, hst⟩) dX2_shifter_18
  · refine lv_iload_n hx hb dX2_shifter_4 rfl (lv_at hl 1 rfl) ?_
    refine lv_iconst (v := nI 3) hx hb dX2_shifter_5 (by decide) ?_
    refine lv_icmp_gt (tgt := 17) hx hb dX2_shifter_6 (by decide) (fun c2 => ?_) (fun c2 => ?_)
    · refine lv_iconst (v := nI 0) hx hb dX2_shifter_17 (by decide) ?_
      exact s_ret (v := nI 0) sh B rfl hw (⟨shn, Or.inr ⟨fun h => sd_out_gt (b := 3) (by omega) c2 h.1, rfl, rfl⟩, hst⟩) dX2_shifter_18
    · have hin0 := sd_in_le (b := 3) (by omega) c1 c2
      refine lv_aload_n hx hb dX2_shifter_9 rfl (lv_at hl 0 rfl) ?_
      refine lv_iload_n hx hb dX2_shifter_10 rfl (lv_at hl 2 rfl) ?_
      refine s_call (As := [.int p1]) (rest := []) (ci := 1) (ct2_isState l D hn8 p1) B hw (lw_V q176 q178 qs10 q19 q179) rfl rfl rfl ⟨cn2_isState, rfl, rfl, by decide, by decide⟩ ⟨Nat.zero_le _, Nat.zero_le _⟩ hl.1 (Nat.le_of_ble_eq_true rfl) dX2_shifter_11 (fun r _ H locs hp hw => ?_)
      have hw : wd D A _ (moW ad dA (nI nn) (nI tpn) sh wt le) H locs := hw
      refine lv_if_ne (tgt := 19) hx hb dX2_shifter_14 (by decide) (fun c3 => ?_) (fun c3 => ?_)
      · obtain ⟨c0, hc0, e0⟩ := hin0
        obtain ⟨x, hx1, e1⟩ := sd_yn_ne hp c3
        subst e0; subst e1
        refine lv_aload_n hx hb dX2_shifter_19 rfl (lv_at hl 0 rfl) ?_
        refine s_get2 (v := .ref (ad 1)) B hw 2 (by decide) q158 rfl rfl dX2_shifter_20 ?_
        refine lv_iload_n hx hb dX2_shifter_23 rfl (lv_at hl 1 rfl) ?_
        refine lv_iload_n hx hb dX2_shifter_24 rfl (lv_at hl 2 rfl) ?_
        refine s_iast B hw 1 0 rfl rfl (i := c0) (by omega) (by decide) dX2_shifter_25 (fun H locs (hw : wd D A _ (moW ad dA (nI nn) (nI tpn) (upd sh c0 (nI x)) wt le) H locs) => ?_)
        refine lv_iconst (v := nI 1) hx hb dX2_shifter_26 (by decide) ?_
        exact s_ret (v := nI 1) (upd sh c0 (nI x)) B rfl hw (⟨sd_uN shn c0 x, Or.inl ⟨c0, x, hc0, rfl, hx1, rfl, rfl, rfl⟩, sd_ST_sh hst hx1⟩) dX2_shifter_27
      · refine lv_iconst (v := nI 0) hx hb dX2_shifter_17 (by decide) ?_
        exact s_ret (v := nI 0) sh B rfl hw (⟨shn, Or.inr ⟨fun h => sd_yn_eq hp c3 h.2, rfl, rfl⟩, hst⟩) dX2_shifter_18
set_option maxHeartbeats 4000000 in
set_option maxRecDepth 100000 in
/-- want -/
theorem ct2_want (l : Launch) (D : va_G) {ad : Nat → Nat} {dA : Nat → ClassId} {nn tpn : Nat} {shn wtn : Nat → Nat} {sh wt le : Nat → Int32} (hst : sd_ST nn tpn shn wtn sh wt) (p0 p1 p2 p3 : Int32) : ctI l yX2_want cX2_want 5 (some .boolean) (rmK 1) D (moT dA) (moW ad dA (nI nn) (nI tpn) sh wt le) [.ref (ad 0), .int p0, .int p1, .int p2, .int p3] (fun r (u : Nat → Int32) => ∃ wtn', sd_Awt wtn p0 p1 p2 p3 r wtn' ∧ sd_ST nn tpn shn wtn' sh u) (fun u => moW ad dA (nI nn) (nI tpn) sh u le) := by
  refine ctI.of (by decide) (Nat.le_of_ble_eq_true rfl) ?_
  intro p e s m below meth c A ls B hw hl
  have hx := B.1.1
  have hb := B.1.2.1
  have hl : lv_has ls 5 [(0, .ref (ad 0)), (1, .int p0), (2, .int p1), (3, .int p2), (4, .int p3)] := hl
  have h8 := sd_p8 hst.2.1
  have h3 := hst.1
  have hn8 := hst.2.1
  refine lv_iload_n hx hb dX2_want_0 rfl (lv_at hl 1 rfl) ?_
  refine lv_if_lt (tgt := 29) hx hb dX2_want_1 (by decide) (fun c1 => ?_) (fun c1 => ?_)
  · refine lv_iconst (v := nI 0) hx hb dX2_want_29 (by decide) ?_
    exact s_ret (v := nI 0) wt B rfl hw (⟨wtn, Or.inr ⟨fun h => sd_out_neg (by omega) c1 h.1, rfl, rfl⟩, hst⟩) dX2_want_30
  · refine lv_iload_n hx hb dX2_want_4 rfl (lv_at hl 1 rfl) ?_
    refine lv_iconst (v := nI 5) hx hb dX2_want_5 (by decide) ?_
    refine lv_icmp_gt (tgt := 29) hx hb dX2_want_6 (by decide) (fun c2 => ?_) (fun c2 => ?_)
    · refine lv_iconst (v := nI 0) hx hb dX2_want_29 (by decide) ?_
      exact s_ret (v := nI 0) wt B rfl hw (⟨wtn, Or.inr ⟨fun h => sd_out_gt (b := 5) (by omega) c2 h.1, rfl, rfl⟩, hst⟩) dX2_want_30
    · have hin0 := sd_in_le (b := 5) (by omega) c1 c2
      refine lv_aload_n hx hb dX2_want_9 rfl (lv_at hl 0 rfl) ?_
      refine lv_iload_n hx hb dX2_want_10 rfl (lv_at hl 2 rfl) ?_
      refine lv_iload_n hx hb dX2_want_11 rfl (lv_at hl 3 rfl) ?_
      refine s_call (As := [.int p1, .int p2]) (rest := []) (ci := 1) (ct2_isPlace l D p1 p2) B hw (lw_V q184 q186 qs11 q19 q187) rfl rfl rfl ⟨cn2_isPlace, rfl, rfl, by decide, by decide⟩ ⟨Nat.zero_le _, Nat.zero_le _⟩ hl.1 (Nat.le_of_ble_eq_true rfl) dX2_want_12 (fun r _ H locs hp hw => ?_)
      have hw : wd D A _ (moW ad dA (nI nn) (nI tpn) sh wt le) H locs := hw
      refine lv_if_eq (tgt := 29) hx hb dX2_want_15 (by decide) (fun c3 => ?_) (fun c3 => ?_)
      · refine lv_iconst (v := nI 0) hx hb dX2_want_29 (by decide) ?_
        exact s_ret (v := nI 0) wt B rfl hw (⟨wtn, Or.inr ⟨fun h => sd_yn_eq hp c3 ⟨h.2.1, h.2.2.1⟩, rfl, rfl⟩, hst⟩) dX2_want_30
      · refine lv_iload hx hb dX2_want_18 (lv_at hl 4 rfl) ?_
        refine lv_if_lt (tgt := 29) hx hb dX2_want_20 (by decide) (fun c4 => ?_) (fun c4 => ?_)
        · refine lv_iconst (v := nI 0) hx hb dX2_want_29 (by decide) ?_
          exact s_ret (v := nI 0) wt B rfl hw (⟨wtn, Or.inr ⟨fun h => sd_out_neg (by omega) c4 h.2.2.2, rfl, rfl⟩, hst⟩) dX2_want_30
        · refine lv_iload hx hb dX2_want_23 (lv_at hl 4 rfl) ?_
          refine lv_iconst (v := nI 2) hx hb dX2_want_25 (by decide) ?_
          refine lv_icmp_le (tgt := 31) hx hb dX2_want_26 (by decide) (fun c5 => ?_) (fun c5 => ?_)
          · obtain ⟨k0, hk0, e0⟩ := hin0
            obtain ⟨⟨t0, ht0, e1⟩, ⟨c0, hc0, e2⟩⟩ := sd_yn_ne hp c3
            obtain ⟨v0, hv0, e3⟩ := sd_in_le' (b := 2) (by omega) c4 c5
            subst e0; subst e1; subst e2; subst e3
            refine lv_aload_n hx hb dX2_want_31 rfl (lv_at hl 0 rfl) ?_
            refine s_get2 (v := .ref (ad 2)) B hw 3 (by decide) q159 rfl rfl dX2_want_32 ?_
            refine lv_bipush (v := nI 64) hx hb dX2_want_35 (by decide) ?_
            refine lv_iload_n hx hb dX2_want_37 rfl (lv_at hl 1 rfl) ?_
            refine lv_imul hx hb dX2_want_38 ?_
            refine s_top (y := nI (64 * k0)) (pk_mul _ _) ?_
            refine lv_iconst (v := nI 4) hx hb dX2_want_39 (by decide) ?_
            refine lv_iload_n hx hb dX2_want_40 rfl (lv_at hl 2 rfl) ?_
            refine lv_imul hx hb dX2_want_41 ?_
            refine s_top (y := nI (4 * t0)) (pk_mul _ _) ?_
            refine lv_iadd hx hb dX2_want_42 ?_
            refine s_top (y := nI ((64 * k0) + (4 * t0))) (nI_add _ _) ?_
            refine lv_iload_n hx hb dX2_want_43 rfl (lv_at hl 3 rfl) ?_
            refine lv_iadd hx hb dX2_want_44 ?_
            refine s_top (y := nI (((64 * k0) + (4 * t0)) + c0)) (nI_add _ _) ?_
            refine lv_iload hx hb dX2_want_45 (lv_at hl 4 rfl) ?_
            refine s_iast B hw 2 1 rfl rfl (i := (((64 * k0) + (4 * t0)) + c0)) (by omega) (by decide) dX2_want_47 (fun H locs (hw : wd D A _ (moW ad dA (nI nn) (nI tpn) sh (upd wt (((64 * k0) + (4 * t0)) + c0) (nI v0)) le) H locs) => ?_)
            refine lv_iconst (v := nI 1) hx hb dX2_want_48 (by decide) ?_
            exact s_ret (v := nI 1) (upd wt (64 * k0 + 4 * t0 + c0) (nI v0)) B rfl hw (⟨sd_uN wtn (64 * k0 + 4 * t0 + c0) v0, Or.inl ⟨k0, t0, c0, v0, hk0, rfl, ht0, rfl, hc0, rfl, hv0, rfl, rfl, rfl⟩, sd_ST_wt hst (by omega)⟩) dX2_want_49
          · refine lv_iconst (v := nI 0) hx hb dX2_want_29 (by decide) ?_
            exact s_ret (v := nI 0) wt B rfl hw (⟨wtn, Or.inr ⟨fun h => sd_out_nle (b := 2) (by omega) c5 h.2.2.2, rfl, rfl⟩, hst⟩) dX2_want_30
set_option maxHeartbeats 4000000 in
set_option maxRecDepth 100000 in
/-- forget: its loop -/
theorem lp2_forget {p : Program} {l : Launch} {e : Env} {s : State} {m : MethodId} {args : Array Value} {below : List Frame} {meth : Method} {c : Code} {Q : State → Prop} {D : va_G} {ad : Nat → Nat} {ret : Option FieldType} {A : Nat → Prop} {dA : Nat → ClassId} {R : Room} {nn tpn k0 : Nat} {wtn : Nat → Nat} {sh le : Nat → Int32} (hk0 : k0 < 6) (B : bx p s m meth c cX2_forget 3 ret args RX2 D (moT dA))
    (kk : ∀ (wt : Nat → Int32) (H : Heap) (locs : List Loc) (ls : Array Slot), (∀ j, j < 384 → wt j = nI (sd_fg wtn k0 64 j) ∧ sd_fg wtn k0 64 j ≤ 2) → wd D A s.heap (moW ad dA (nI nn) (nI tpn) sh wt le) H locs → lv_has ls 3 [(0, .ref (ad 0)), (1, .int (nI k0)), (2, .int (nI 64))] → W p l e R s m args below meth c H locs 0 0 Q (F0 m 37 ls [])) :
    ∀ (k i : Nat) (wt : Nat → Int32) (H : Heap) (locs : List Loc) (ls : Array Slot), i + k = 64 → (∀ j, j < 384 → wt j = nI (sd_fg wtn k0 i j) ∧ sd_fg wtn k0 i j ≤ 2) → wd D A s.heap (moW ad dA (nI nn) (nI tpn) sh wt le) H locs → lv_has ls 3 [(0, .ref (ad 0)), (1, .int (nI k0)), (2, .int (nI i))] → W p l e R s m args below meth c H locs 0 0 Q (F0 m 13 ls []) := by
  have hx := B.1.1
  have hb := B.1.2.1
  intro k
  induction k with
  | zero =>
    intro i wt H locs ls hk hI hw hl
    have ei : i = 64 := by omega
    subst ei
    refine lv_iload_n hx hb dX2_forget_13 rfl (lv_at hl 2 rfl) ?_
    refine lv_bipush (v := nI 64) hx hb dX2_forget_14 (by decide) ?_
    refine lv_icmp_ge (tgt := 37) hx hb dX2_forget_16 (by decide) (fun _ => ?_) (fun cc => absurd (nI_le (by omega) (by omega)) cc)
    exact kk wt H locs ls hI hw (lv_sub hl [0, 1, 2] rfl)
  | succ k ih =>
    intro i wt H locs ls hk hI hw hl
    refine lv_iload_n hx hb dX2_forget_13 rfl (lv_at hl 2 rfl) ?_
    refine lv_bipush (v := nI 64) hx hb dX2_forget_14 (by decide) ?_
    refine lv_icmp_ge (tgt := 37) hx hb dX2_forget_16 (by decide) (fun cc => absurd cc (nI_ge (by omega) (by omega))) (fun _ => ?_)
    refine lv_aload_n hx hb dX2_forget_19 rfl (lv_at hl 0 rfl) ?_
    refine s_get2 (v := .ref (ad 2)) B hw 3 (by decide) q159 rfl rfl dX2_forget_20 ?_
    refine lv_bipush (v := nI 64) hx hb dX2_forget_23 (by decide) ?_
    refine lv_iload_n hx hb dX2_forget_25 rfl (lv_at hl 1 rfl) ?_
    refine lv_imul hx hb dX2_forget_26 ?_
    refine s_top (y := nI (64 * k0)) (pk_mul _ _) ?_
    refine lv_iload_n hx hb dX2_forget_27 rfl (lv_at hl 2 rfl) ?_
    refine lv_iadd hx hb dX2_forget_28 ?_
    refine s_top (y := nI ((64 * k0) + i)) (nI_add _ _) ?_
    refine lv_iconst (v := nI 2) hx hb dX2_forget_29 (by decide) ?_
    refine s_iast B hw 2 1 rfl rfl (i := ((64 * k0) + i)) (by omega) (by decide) dX2_forget_30 (fun H locs (hw : wd D A _ (moW ad dA (nI nn) (nI tpn) sh (upd wt ((64 * k0) + i) (nI 2)) le) H locs) => ?_)
    refine lv_iinc (v := nI (i + 1)) (lv' := [(2, .int (nI (i + 1))), (0, .ref (ad 0)), (1, .int (nI k0))]) hx hb dX2_forget_31 hl (k := 2) rfl (nI_add i 1) (by decide) rfl (fun ls hl => ?_)
    refine lv_goto (tgt := 13) hx hb dX2_forget_34 (by decide) ?_
    exact ih (i + 1) _ H locs ls (by omega) (sd_fg_s hI) hw (lv_sub hl [1, 2, 0] rfl)
set_option maxHeartbeats 4000000 in
set_option maxRecDepth 100000 in
/-- forget -/
theorem ct2_forget (l : Launch) (D : va_G) {ad : Nat → Nat} {dA : Nat → ClassId} {nn tpn : Nat} {shn wtn : Nat → Nat} {sh wt le : Nat → Int32} (hst : sd_ST nn tpn shn wtn sh wt) (p0 : Int32) : ctI l yX2_forget cX2_forget 3 (some .boolean) (rmK 0) D (moT dA) (moW ad dA (nI nn) (nI tpn) sh wt le) [.ref (ad 0), .int p0] (fun r (u : Nat → Int32) => ∃ wtn', sd_Afg wtn p0 r wtn' ∧ sd_ST nn tpn shn wtn' sh u) (fun u => moW ad dA (nI nn) (nI tpn) sh u le) := by
  refine ctI.of (by decide) (Nat.le_of_ble_eq_true rfl) ?_
  intro p e s m below meth c A ls B hw hl
  have hx := B.1.1
  have hb := B.1.2.1
  have hl : lv_has ls 3 [(0, .ref (ad 0)), (1, .int p0)] := hl
  have h8 := sd_p8 hst.2.1
  have h3 := hst.1
  have hn8 := hst.2.1
  refine lv_iload_n hx hb dX2_forget_0 rfl (lv_at hl 1 rfl) ?_
  refine lv_if_lt (tgt := 9) hx hb dX2_forget_1 (by decide) (fun c1 => ?_) (fun c1 => ?_)
  · refine lv_iconst (v := nI 0) hx hb dX2_forget_9 (by decide) ?_
    exact s_ret (v := nI 0) wt B rfl hw (⟨wtn, Or.inr ⟨sd_out_neg (by omega) c1, rfl, rfl⟩, hst⟩) dX2_forget_10
  · refine lv_iload_n hx hb dX2_forget_4 rfl (lv_at hl 1 rfl) ?_
    refine lv_iconst (v := nI 5) hx hb dX2_forget_5 (by decide) ?_
    refine lv_icmp_le (tgt := 11) hx hb dX2_forget_6 (by decide) (fun c2 => ?_) (fun c2 => ?_)
    · obtain ⟨k0, hk0, e0⟩ := sd_in_le' (b := 5) (by omega) c1 c2
      subst e0
      refine lv_iconst (v := nI 0) hx hb dX2_forget_11 (by decide) ?_
      refine lv_istore_n (lv' := [(2, .int (nI 0)), (0, .ref (ad 0)), (1, .int (nI k0))]) hx hb dX2_forget_12 rfl hl (by decide) rfl (fun ls hl => ?_)
      refine lp2_forget hk0 B (fun wt2 H locs ls hI hw hl => ?_) 64 0 wt _ _ ls rfl (sd_fg_0 hst.2.2.2.2) hw (lv_sub hl [1, 2, 0] rfl)
      refine lv_iconst (v := nI 1) hx hb dX2_forget_37 (by decide) ?_
      exact s_ret (v := nI 1) wt2 B rfl hw (⟨sd_fg wtn k0 64, Or.inl ⟨k0, hk0, rfl, rfl, rfl⟩, hst.1, hst.2.1, hst.2.2.1, hst.2.2.2.1, hI⟩) dX2_forget_38
    · refine lv_iconst (v := nI 0) hx hb dX2_forget_9 (by decide) ?_
      exact s_ret (v := nI 0) wt B rfl hw (⟨wtn, Or.inr ⟨sd_out_nle (b := 5) (by omega) c2, rfl, rfl⟩, hst⟩) dX2_forget_10
set_option maxHeartbeats 4000000 in
set_option maxRecDepth 100000 in
/-- valueAt: its loop -/
theorem lp2_valueAt {p : Program} {l : Launch} {e : Env} {s : State} {m : MethodId} {args : Array Value} {below : List Frame} {meth : Method} {c : Code} {Q : State → Prop} {D : va_G} {ad : Nat → Nat} {ret : Option FieldType} {A : Nat → Prop} {dA : Nat → ClassId} {x t ch : Nat} {nn tpn : Nat} {shn wtn : Nat → Nat} {sh wt le : Nat → Int32} (hst : sd_ST nn tpn shn wtn sh wt) (hx1 : x < 2 ^ nn) (ht : t ≤ 16) (B : bx p s m meth c cX2_valueAt 7 ret args RX2 D (moT dA))
    (kk : ∀ (H : Heap) (locs : List Loc) (ls : Array Slot), wd D A s.heap (moW ad dA (nI nn) (nI tpn) sh wt le) H locs → lv_has ls 7 [(0, .ref (ad 0)), (1, .int (nI x)), (2, .int (nI t)), (3, .int (nI ch)), (4, .int (nI (sd_st nn tpn x t))), (5, .int (nI t))] → W p l e (rmK 1) s m args below meth c H locs 0 0 Q (F0 m 47 ls [])) :
    ∀ (k b : Nat) (H : Heap) (locs : List Loc) (ls : Array Slot), b + k = t → wd D A s.heap (moW ad dA (nI nn) (nI tpn) sh wt le) H locs → lv_has ls 7 [(0, .ref (ad 0)), (1, .int (nI x)), (2, .int (nI t)), (3, .int (nI ch)), (4, .int (nI (sd_st nn tpn x b))), (5, .int (nI b))] → W p l e (rmK 1) s m args below meth c H locs 0 0 Q (F0 m 6 ls []) := by
  have hx := B.1.1
  have hb := B.1.2.1
  have h8 := sd_p8 hst.2.1
  have h3 := hst.1
  have hn8 := hst.2.1
  intro k
  induction k with
  | zero =>
    intro b H locs ls hk hw hl
    have eb : b = t := by omega
    subst eb
    refine lv_iload hx hb dX2_valueAt_6 (lv_at hl 5 rfl) ?_
    refine lv_iload_n hx hb dX2_valueAt_8 rfl (lv_at hl 2 rfl) ?_
    refine lv_icmp_ge (tgt := 47) hx hb dX2_valueAt_9 (by decide) (fun _ => ?_) (fun cc => absurd (nI_le (by omega) (by omega)) cc)
    exact kk H locs ls hw (lv_sub hl [0, 1, 2, 3, 4, 5] rfl)
  | succ k ih =>
    intro b H locs ls hk hw hl
    have hs := sd_st_lt (tp := tpn) (show 0 < nn by omega) hx1 b
    refine lv_iload hx hb dX2_valueAt_6 (lv_at hl 5 rfl) ?_
    refine lv_iload_n hx hb dX2_valueAt_8 rfl (lv_at hl 2 rfl) ?_
    refine lv_icmp_ge (tgt := 47) hx hb dX2_valueAt_9 (by decide) (fun cc => absurd cc (nI_ge (by omega) (by omega))) (fun _ => ?_)
    have hs2 : sd_st nn tpn x b &&& tpn ≤ sd_st nn tpn x b := Nat.and_le_left
    refine lv_aload_n hx hb dX2_valueAt_12 rfl (lv_at hl 0 rfl) ?_
    refine lv_iload hx hb dX2_valueAt_13 (lv_at hl 4 rfl) ?_
    refine lv_aload_n hx hb dX2_valueAt_15 rfl (lv_at hl 0 rfl) ?_
    refine s_get2 (v := .int (nI tpn)) B hw 1 (by decide) q157 rfl rfl dX2_valueAt_16 ?_
    refine lv_iand hx hb dX2_valueAt_19 ?_
    refine s_top (y := nI ((sd_st nn tpn x b) &&& tpn)) (fa_and _ _) ?_
    refine s_call (As := [.int (nI ((sd_st nn tpn x b) &&& tpn))]) (rest := []) (ci := 1) (ct2_parity l D (mm := sd_st nn tpn x b &&& tpn) (by omega)) B hw (lw_V q196 q198 qs13 q19 q199) rfl rfl rfl ⟨cn2_parity, rfl, rfl, by decide, by decide⟩ ⟨Nat.zero_le _, Nat.zero_le _⟩ hl.1 (Nat.le_of_ble_eq_true rfl) dX2_valueAt_20 (fun r _ H locs hp hw => ?_)
    have hw : wd D A _ (moW ad dA (nI nn) (nI tpn) sh wt le) H locs := hw
    subst hp
    refine lv_istore (lv' := [(6, .int (nI ((sd_par 8 (sd_st nn tpn x b &&& tpn)).toNat))), (0, .ref (ad 0)), (1, .int (nI x)), (2, .int (nI t)), (3, .int (nI ch)), (4, .int (nI (sd_st nn tpn x b))), (5, .int (nI b))]) hx hb dX2_valueAt_23 hl (by decide) rfl (fun ls hl => ?_)
    refine lv_iload hx hb dX2_valueAt_25 (lv_at hl 5 rfl) ?_
    refine lv_iconst (v := nI 1) hx hb dX2_valueAt_27 (by decide) ?_
    refine lv_ishr hx hb dX2_valueAt_28 ?_
    refine s_top (y := nI (sd_st nn tpn x b >>> 1)) (sd_shr (by omega) (by omega)) ?_
    refine lv_iload hx hb dX2_valueAt_29 (lv_at hl 0 rfl) ?_
    refine lv_aload_n hx hb dX2_valueAt_31 rfl (lv_at hl 1 rfl) ?_
    refine s_get2 (v := .int (nI nn)) B hw 0 (by decide) q156 rfl rfl dX2_valueAt_32 ?_
    refine lv_iconst (v := nI 1) hx hb dX2_valueAt_35 (by decide) ?_
    refine lv_isub hx hb dX2_valueAt_36 ?_
    refine s_top (y := nI (nn - 1)) (pk_sub (by omega)) ?_
    refine lv_ishl hx hb dX2_valueAt_37 ?_
    refine s_top (y := nI ((sd_par 8 (sd_st nn tpn x b &&& tpn)).toNat <<< (nn - 1))) (sd_shlb (by omega) (Bool.toNat_le _)) ?_
    refine lv_ior hx hb dX2_valueAt_38 ?_
    refine s_top (y := nI (sd_st nn tpn x (b + 1))) (fa_or _ _) ?_
    refine lv_istore (lv' := [(4, .int (nI (sd_st nn tpn x (b + 1)))), (6, .int (nI ((sd_par 8 (sd_st nn tpn x b &&& tpn)).toNat))), (0, .ref (ad 0)), (1, .int (nI x)), (2, .int (nI t)), (3, .int (nI ch)), (5, .int (nI b))]) hx hb dX2_valueAt_39 hl (by decide) rfl (fun ls hl => ?_)
    refine lv_iinc (v := nI (b + 1)) (lv' := [(5, .int (nI (b + 1))), (4, .int (nI (sd_st nn tpn x (b + 1)))), (6, .int (nI ((sd_par 8 (sd_st nn tpn x b &&& tpn)).toNat))), (0, .ref (ad 0)), (1, .int (nI x)), (2, .int (nI t)), (3, .int (nI ch))]) hx hb dX2_valueAt_41 hl (k := 6) rfl (nI_add b 1) (by decide) rfl (fun ls hl => ?_)
    refine lv_goto (tgt := 6) hx hb dX2_valueAt_44 (by decide) ?_
    exact ih (b + 1) H locs ls (by omega) hw (lv_sub hl [3, 4, 5, 6, 1, 0] rfl)
set_option maxHeartbeats 4000000 in
set_option maxRecDepth 100000 in
/-- valueAt: what a chain gets -/
theorem ct2_valueAt (l : Launch) (D : va_G) {ad : Nat → Nat} {dA : Nat → ClassId} {nn tpn : Nat} {shn wtn : Nat → Nat} {sh wt le : Nat → Int32} {x t ch : Nat} (hst : sd_ST nn tpn shn wtn sh wt) (hx1 : x < 2 ^ nn) (ht : t ≤ 16) (hc : ch < 4) : ctI l yX2_valueAt cX2_valueAt 7 (some .int) (rmK 1) D (moT dA) (moW ad dA (nI nn) (nI tpn) sh wt le) [.ref (ad 0), .int (nI x), .int (nI t), .int (nI ch)] (fun r (_ : Unit) => r = nI (sd_vl nn tpn shn x t ch).toNat) (fun _ => moW ad dA (nI nn) (nI tpn) sh wt le) := by
  refine ctI.of (by decide) (Nat.le_of_ble_eq_true rfl) ?_
  intro p e s m below meth c A ls B hw hl
  have hx := B.1.1
  have hb := B.1.2.1
  have hl : lv_has ls 7 [(0, .ref (ad 0)), (1, .int (nI x)), (2, .int (nI t)), (3, .int (nI ch))] := hl
  have h8 := sd_p8 hst.2.1
  have h3 := hst.1
  have hn8 := hst.2.1
  refine lv_iload_n hx hb dX2_valueAt_0 rfl (lv_at hl 1 rfl) ?_
  refine lv_istore (lv' := [(4, .int (nI x)), (0, .ref (ad 0)), (1, .int (nI x)), (2, .int (nI t)), (3, .int (nI ch))]) hx hb dX2_valueAt_1 hl (by decide) rfl (fun ls hl => ?_)
  refine lv_iconst (v := nI 0) hx hb dX2_valueAt_3 (by decide) ?_
  refine lv_istore (lv' := [(5, .int (nI 0)), (4, .int (nI x)), (0, .ref (ad 0)), (1, .int (nI x)), (2, .int (nI t)), (3, .int (nI ch))]) hx hb dX2_valueAt_4 hl (by decide) rfl (fun ls hl => ?_)
  refine lp2_valueAt hst hx1 ht B (fun H locs ls hw hl => ?_) t 0 _ _ ls (by omega) hw (lv_sub hl [2, 3, 4, 5, 1, 0] rfl)
  have hs := sd_st_lt (tp := tpn) (show 0 < nn by omega) hx1 t
  have hs2 : sd_st nn tpn x t &&& shn ch ≤ sd_st nn tpn x t := Nat.and_le_left
  refine lv_aload_n hx hb dX2_valueAt_47 rfl (lv_at hl 0 rfl) ?_
  refine lv_iload hx hb dX2_valueAt_48 (lv_at hl 4 rfl) ?_
  refine lv_aload_n hx hb dX2_valueAt_50 rfl (lv_at hl 0 rfl) ?_
  refine s_get2 (v := .ref (ad 1)) B hw 2 (by decide) q158 rfl rfl dX2_valueAt_51 ?_
  refine lv_iload_n hx hb dX2_valueAt_54 rfl (lv_at hl 3 rfl) ?_
  refine s_iald B hw 1 0 rfl rfl (i := ch) (by omega) (by decide) dX2_valueAt_55 ?_
  refine s_top (y := nI (shn ch)) ((hst.2.2.2.1 ch hc).1) ?_
  refine lv_iand hx hb dX2_valueAt_56 ?_
  refine s_top (y := nI ((sd_st nn tpn x t) &&& (shn ch))) (fa_and _ _) ?_
  refine s_call (As := [.int (nI ((sd_st nn tpn x t) &&& (shn ch)))]) (rest := []) (ci := 1) (ct2_parity l D (mm := sd_st nn tpn x t &&& shn ch) (by omega)) B hw (lw_V q196 q198 qs13 q19 q199) rfl rfl rfl ⟨cn2_parity, rfl, rfl, by decide, by decide⟩ ⟨Nat.zero_le _, Nat.zero_le _⟩ hl.1 (Nat.le_of_ble_eq_true rfl) dX2_valueAt_57 (fun r _ H locs hp hw => ?_)
  have hw : wd D A _ (moW ad dA (nI nn) (nI tpn) sh wt le) H locs := hw
  exact s_ret (v := r) () B rfl hw (hp) dX2_valueAt_60
set_option maxHeartbeats 4000000 in
set_option maxRecDepth 100000 in
/-- expand -/
theorem ct2_expand (l : Launch) (D : va_G) {ad : Nat → Nat} {dA : Nat → ClassId} {nn tpn : Nat} {shn wtn : Nat → Nat} {sh wt le : Nat → Int32} (hst : sd_ST nn tpn shn wtn sh wt) (p0 p1 p2 : Int32) : ctI l yX2_expand cX2_expand 4 (some .int) (rmK 2) D (moT dA) (moW ad dA (nI nn) (nI tpn) sh wt le) [.ref (ad 0), .int p0, .int p1, .int p2] (fun r (_ : Unit) => sd_Aexp nn tpn shn p0 p1 p2 r) (fun _ => moW ad dA (nI nn) (nI tpn) sh wt le) := by
  refine ctI.of (by decide) (Nat.le_of_ble_eq_true rfl) ?_
  intro p e s m below meth c A ls B hw hl
  have hx := B.1.1
  have hb := B.1.2.1
  have hl : lv_has ls 4 [(0, .ref (ad 0)), (1, .int p0), (2, .int p1), (3, .int p2)] := hl
  have h8 := sd_p8 hst.2.1
  have h3 := hst.1
  have hn8 := hst.2.1
  refine lv_aload_n hx hb dX2_expand_0 rfl (lv_at hl 0 rfl) ?_
  refine lv_iload_n hx hb dX2_expand_1 rfl (lv_at hl 1 rfl) ?_
  refine s_call (As := [.int p0]) (rest := []) (ci := 1) (ct2_isState l D hn8 p0) B hw (lw_V q176 q178 qs10 q19 q179) rfl rfl rfl ⟨cn2_isState, rfl, rfl, by decide, by decide⟩ ⟨Nat.zero_le _, Nat.zero_le _⟩ hl.1 (Nat.le_of_ble_eq_true rfl) dX2_expand_2 (fun r0 _ H locs hp hw => ?_)
  have hw : wd D A _ (moW ad dA (nI nn) (nI tpn) sh wt le) H locs := hw
  refine lv_if_eq (tgt := 17) hx hb dX2_expand_5 (by decide) (fun c1 => ?_) (fun c1 => ?_)
  · refine lv_iconst (v := (-1)) hx hb dX2_expand_17 (by decide) ?_
    exact s_ret (v := (-1)) () B rfl hw (Or.inr ⟨fun h => sd_yn_eq hp c1 h.1, rfl⟩) dX2_expand_18
  · refine lv_aload_n hx hb dX2_expand_8 rfl (lv_at hl 0 rfl) ?_
    refine lv_iload_n hx hb dX2_expand_9 rfl (lv_at hl 2 rfl) ?_
    refine lv_iload_n hx hb dX2_expand_10 rfl (lv_at hl 3 rfl) ?_
    refine s_call (As := [.int p1, .int p2]) (rest := []) (ci := 1) (ct2_isPlace l D p1 p2) B hw (lw_V q184 q186 qs11 q19 q187) rfl rfl rfl ⟨cn2_isPlace, rfl, rfl, by decide, by decide⟩ ⟨Nat.zero_le _, Nat.zero_le _⟩ hl.1 (Nat.le_of_ble_eq_true rfl) dX2_expand_11 (fun r1 _ H locs hp1 hw => ?_)
    have hw : wd D A _ (moW ad dA (nI nn) (nI tpn) sh wt le) H locs := hw
    refine lv_if_ne (tgt := 19) hx hb dX2_expand_14 (by decide) (fun c2 => ?_) (fun c2 => ?_)
    · obtain ⟨x, hx1, e0⟩ := sd_yn_ne hp c1
      obtain ⟨⟨t, ht, e1⟩, ⟨ch, hc, e2⟩⟩ := sd_yn_ne hp1 c2
      subst e0; subst e1; subst e2
      refine lv_aload_n hx hb dX2_expand_19 rfl (lv_at hl 0 rfl) ?_
      refine lv_iload_n hx hb dX2_expand_20 rfl (lv_at hl 1 rfl) ?_
      refine lv_iload_n hx hb dX2_expand_21 rfl (lv_at hl 2 rfl) ?_
      refine lv_iload_n hx hb dX2_expand_22 rfl (lv_at hl 3 rfl) ?_
      refine s_call (As := [.int (nI x), .int (nI t), .int (nI ch)]) (rest := []) (ci := 1) (ct2_valueAt l D hst hx1 (Nat.le_of_lt ht) hc) B hw (lw_V q192 q194 qs12 q19 q195) rfl rfl rfl ⟨cn2_valueAt, rfl, rfl, by decide, by decide⟩ ⟨Nat.zero_le _, Nat.zero_le _⟩ hl.1 (Nat.le_of_ble_eq_true rfl) dX2_expand_23 (fun r _ H locs hr hw => ?_)
      have hw : wd D A _ (moW ad dA (nI nn) (nI tpn) sh wt le) H locs := hw
      exact s_ret (v := r) () B rfl hw (Or.inl ⟨x, t, ch, hx1, rfl, ht, rfl, hc, rfl, hr⟩) dX2_expand_26
    · refine lv_iconst (v := (-1)) hx hb dX2_expand_17 (by decide) ?_
      exact s_ret (v := (-1)) () B rfl hw (Or.inr ⟨fun h => sd_yn_eq hp1 c2 h.2, rfl⟩) dX2_expand_18
end
section
/-! SeedSolverModel: fits, seeds, firstSeed, leastSeed, greatestSeed, forced (printed by gen/x2c.py) -/
set_option maxHeartbeats 4000000 in
set_option maxRecDepth 100000 in
/-- fits: the places of a cube -/
theorem lp2_fits_in {p : Program} {l : Launch} {e : Env} {s : State} {m : MethodId} {args : Array Value} {below : List Frame} {meth : Method} {c : Code} {Q : State → Prop} {D : va_G} {ad : Nat → Nat} {ret : Option FieldType} {A : Nat → Prop} {dA : Nat → ClassId} {x S k0 : Nat} {nn tpn : Nat} {shn wtn : Nat → Nat} {sh wt le : Nat → Int32} (hst : sd_ST nn tpn shn wtn sh wt) (hx1 : x < 2 ^ nn) (hS : S < 64) (hk0 : k0 < 6) (B : bx p s m meth c cX2_fits 6 ret args RX2 D (moT dA))
    (kk : ∀ (H : Heap) (locs : List Loc) (ls : Array Slot), sd_fit nn tpn shn wtn S x (64 * k0 + 64) = true → wd D A s.heap (moW ad dA (nI nn) (nI tpn) sh wt le) H locs → lv_has ls 6 [(0, .ref (ad 0)), (1, .int (nI x)), (2, .int (nI S)), (3, .int (nI k0)), (4, .int (nI 64))] → W p l e (rmK 2) s m args below meth c H locs 0 0 Q (F0 m 73 ls []))
    (kn : ∀ (i : Nat) (H : Heap) (locs : List Loc) (ls : Array Slot), i ≤ 384 → sd_fit nn tpn shn wtn S x i = false → wd D A s.heap (moW ad dA (nI nn) (nI tpn) sh wt le) H locs → W p l e (rmK 2) s m args below meth c H locs 0 0 Q (F0 m 65 ls [])) :
    ∀ (k pl : Nat) (H : Heap) (locs : List Loc) (ls : Array Slot), pl + k = 64 → sd_fit nn tpn shn wtn S x (64 * k0 + pl) = true → wd D A s.heap (moW ad dA (nI nn) (nI tpn) sh wt le) H locs → lv_has ls 6 [(0, .ref (ad 0)), (1, .int (nI x)), (2, .int (nI S)), (3, .int (nI k0)), (4, .int (nI pl))] → W p l e (rmK 2) s m args below meth c H locs 0 0 Q (F0 m 11 ls []) := by
  have hx := B.1.1
  have hb := B.1.2.1
  have h8 := sd_p8 hst.2.1
  have h3 := hst.1
  have hn8 := hst.2.1
  intro k
  induction k with
  | zero =>
    intro pl H locs ls hk hf hw hl
    have ei : pl = 64 := by omega
    subst ei
    refine lv_iload hx hb dX2_fits_11 (lv_at hl 4 rfl) ?_
    refine lv_bipush (v := nI 64) hx hb dX2_fits_13 (by decide) ?_
    refine lv_icmp_ge (tgt := 73) hx hb dX2_fits_15 (by decide) (fun _ => ?_) (fun cc => absurd (nI_le (by omega) (by omega)) cc)
    exact kk H locs ls hf hw (lv_sub hl [0, 1, 2, 3, 4] rfl)
  | succ k ih =>
    intro pl H locs ls hk hf hw hl
    refine lv_iload hx hb dX2_fits_11 (lv_at hl 4 rfl) ?_
    refine lv_bipush (v := nI 64) hx hb dX2_fits_13 (by decide) ?_
    refine lv_icmp_ge (tgt := 73) hx hb dX2_fits_15 (by decide) (fun cc => absurd cc (nI_ge (by omega) (by omega))) (fun _ => ?_)
    have hwt := hst.2.2.2.2 (64 * k0 + pl) (by omega)
    refine lv_aload_n hx hb dX2_fits_18 rfl (lv_at hl 0 rfl) ?_
    refine s_get2 (v := .ref (ad 2)) B hw 3 (by decide) q159 rfl rfl dX2_fits_19 ?_
    refine lv_bipush (v := nI 64) hx hb dX2_fits_22 (by decide) ?_
    refine lv_iload_n hx hb dX2_fits_24 rfl (lv_at hl 3 rfl) ?_
    refine lv_imul hx hb dX2_fits_25 ?_
    refine s_top (y := nI (64 * k0)) (pk_mul _ _) ?_
    refine lv_iload hx hb dX2_fits_26 (lv_at hl 4 rfl) ?_
    refine lv_iadd hx hb dX2_fits_28 ?_
    refine s_top (y := nI ((64 * k0) + pl)) (nI_add _ _) ?_
    refine s_iald B hw 2 1 rfl rfl (i := ((64 * k0) + pl)) (by omega) (by decide) dX2_fits_29 ?_
    refine s_top (y := nI (wtn (64 * k0 + pl))) (hwt.1) ?_
    refine lv_istore (lv' := [(5, .int (nI (wtn (64 * k0 + pl)))), (0, .ref (ad 0)), (1, .int (nI x)), (2, .int (nI S)), (3, .int (nI k0)), (4, .int (nI pl))]) hx hb dX2_fits_30 hl (by decide) rfl (fun ls hl => ?_)
    refine lv_iload_n hx hb dX2_fits_32 rfl (lv_at hl 3 rfl) ?_
    refine lv_iload_n hx hb dX2_fits_33 rfl (lv_at hl 4 rfl) ?_
    refine lv_ishr hx hb dX2_fits_34 ?_
    refine lv_iconst (v := nI 1) hx hb dX2_fits_35 (by decide) ?_
    refine lv_iand hx hb dX2_fits_36 ?_
    refine s_top (y := nI ((S.testBit k0).toNat)) (sd_bit (by omega) (by omega)) ?_
    refine lv_iconst (v := nI 1) hx hb dX2_fits_37 (by decide) ?_
    refine lv_icmp_ne (tgt := 67) hx hb dX2_fits_38 (by decide) (fun c1 => ?_) (fun c1 => ?_)
    · refine lv_iinc (v := nI (pl + 1)) (lv' := [(4, .int (nI (pl + 1))), (5, .int (nI (wtn (64 * k0 + pl)))), (0, .ref (ad 0)), (1, .int (nI x)), (2, .int (nI S)), (3, .int (nI k0))]) hx hb dX2_fits_67 hl (k := 5) rfl (nI_add pl 1) (by decide) rfl (fun ls hl => ?_)
      refine lv_goto (tgt := 11) hx hb dX2_fits_70 (by decide) ?_
      exact ih (pl + 1) H locs ls (by omega) (sd_fit_place_t (by omega) hf (Or.inl (sd_nf (fun q => c1 ((sd_b1 _).mpr q))))) hw (lv_sub hl [2, 3, 4, 5, 0] rfl)
    · refine lv_iload hx hb dX2_fits_41 (lv_at hl 0 rfl) ?_
      refine lv_iconst (v := nI 2) hx hb dX2_fits_43 (by decide) ?_
      refine lv_icmp_eq (tgt := 67) hx hb dX2_fits_44 (by decide) (fun c2 => ?_) (fun c2 => ?_)
      · refine lv_iinc (v := nI (pl + 1)) (lv' := [(4, .int (nI (pl + 1))), (5, .int (nI (wtn (64 * k0 + pl)))), (0, .ref (ad 0)), (1, .int (nI x)), (2, .int (nI S)), (3, .int (nI k0))]) hx hb dX2_fits_67 hl (k := 5) rfl (nI_add pl 1) (by decide) rfl (fun ls hl => ?_)
        refine lv_goto (tgt := 11) hx hb dX2_fits_70 (by decide) ?_
        exact ih (pl + 1) H locs ls (by omega) (sd_fit_place_t (by omega) hf (Or.inr (Or.inl ((nI_eq (by omega) (by omega)).mp c2)))) hw (lv_sub hl [2, 3, 4, 5, 0] rfl)
      · have h4 : pl / 4 ≤ 16 := by omega
        have h5 : pl % 4 < 4 := by omega
        refine lv_aload_n hx hb dX2_fits_47 rfl (lv_at hl 1 rfl) ?_
        refine lv_iload_n hx hb dX2_fits_48 rfl (lv_at hl 2 rfl) ?_
        refine lv_iload hx hb dX2_fits_49 (lv_at hl 5 rfl) ?_
        refine lv_iconst (v := nI 4) hx hb dX2_fits_51 (by decide) ?_
        refine lv_idiv hx hb dX2_fits_52 (by decide) ?_
        refine s_top (y := nI (pl / 4)) (pk_div (by omega) (by omega) (by omega)) ?_
        refine lv_iload hx hb dX2_fits_53 (lv_at hl 5 rfl) ?_
        refine lv_iconst (v := nI 4) hx hb dX2_fits_55 (by decide) ?_
        refine lv_irem hx hb dX2_fits_56 (by decide) ?_
        refine s_top (y := nI (pl % 4)) (pk_rem (by omega) (by omega) (by omega)) ?_
        refine s_call (As := [.int (nI x), .int (nI (pl / 4)), .int (nI (pl % 4))]) (rest := []) (ci := 1) (ct2_valueAt l D hst hx1 h4 h5) B hw (lw_V q192 q194 qs12 q19 q195) rfl rfl rfl ⟨cn2_valueAt, rfl, rfl, by decide, by decide⟩ ⟨Nat.zero_le _, Nat.zero_le _⟩ hl.1 (Nat.le_of_ble_eq_true rfl) dX2_fits_57 (fun r _ H locs hp hw => ?_)
        have hw : wd D A _ (moW ad dA (nI nn) (nI tpn) sh wt le) H locs := hw
        subst hp
        refine lv_iload hx hb dX2_fits_60 (lv_at hl 0 rfl) ?_
        have hb1 : (sd_vl nn tpn shn x (pl / 4) (pl % 4)).toNat ≤ 1 := Bool.toNat_le _
        refine lv_icmp_eq (tgt := 67) hx hb dX2_fits_62 (by decide) (fun c3 => ?_) (fun c3 => ?_)
        · refine lv_iinc (v := nI (pl + 1)) (lv' := [(4, .int (nI (pl + 1))), (5, .int (nI (wtn (64 * k0 + pl)))), (0, .ref (ad 0)), (1, .int (nI x)), (2, .int (nI S)), (3, .int (nI k0))]) hx hb dX2_fits_67 hl (k := 5) rfl (nI_add pl 1) (by decide) rfl (fun ls hl => ?_)
          refine lv_goto (tgt := 11) hx hb dX2_fits_70 (by decide) ?_
          exact ih (pl + 1) H locs ls (by omega) (sd_fit_place_t (by omega) hf (Or.inr (Or.inr ((nI_eq (by omega) (by omega)).mp c3)))) hw (lv_sub hl [2, 3, 4, 5, 0] rfl)
        · exact kn (64 * k0 + (pl + 1)) H locs ls (by omega) (sd_fit_place_f (by omega) ((sd_b1 _).mp c1) (fun q => c2 (by rw [q])) (fun q => c3 (by rw [q]))) hw
set_option maxHeartbeats 4000000 in
set_option maxRecDepth 100000 in
/-- fits: the cubes -/
theorem lp2_fits {p : Program} {l : Launch} {e : Env} {s : State} {m : MethodId} {args : Array Value} {below : List Frame} {meth : Method} {c : Code} {Q : State → Prop} {D : va_G} {ad : Nat → Nat} {ret : Option FieldType} {A : Nat → Prop} {dA : Nat → ClassId} {x S : Nat} {nn tpn : Nat} {shn wtn : Nat → Nat} {sh wt le : Nat → Int32} (hst : sd_ST nn tpn shn wtn sh wt) (hx1 : x < 2 ^ nn) (hS : S < 64) (B : bx p s m meth c cX2_fits 6 ret args RX2 D (moT dA))
    (kk : ∀ (H : Heap) (locs : List Loc) (ls : Array Slot), sd_fit nn tpn shn wtn S x 384 = true → wd D A s.heap (moW ad dA (nI nn) (nI tpn) sh wt le) H locs → W p l e (rmK 2) s m args below meth c H locs 0 0 Q (F0 m 79 ls []))
    (kn : ∀ (i : Nat) (H : Heap) (locs : List Loc) (ls : Array Slot), i ≤ 384 → sd_fit nn tpn shn wtn S x i = false → wd D A s.heap (moW ad dA (nI nn) (nI tpn) sh wt le) H locs → W p l e (rmK 2) s m args below meth c H locs 0 0 Q (F0 m 65 ls [])) :
    ∀ (k k0 : Nat) (H : Heap) (locs : List Loc) (ls : Array Slot), k0 + k = 6 → sd_fit nn tpn shn wtn S x (64 * k0) = true → wd D A s.heap (moW ad dA (nI nn) (nI tpn) sh wt le) H locs → lv_has ls 6 [(0, .ref (ad 0)), (1, .int (nI x)), (2, .int (nI S)), (3, .int (nI k0))] → W p l e (rmK 2) s m args below meth c H locs 0 0 Q (F0 m 2 ls []) := by
  have hx := B.1.1
  have hb := B.1.2.1
  intro k
  induction k with
  | zero =>
    intro k0 H locs ls hk hf hw hl
    have ei : k0 = 6 := by omega
    subst ei
    refine lv_iload_n hx hb dX2_fits_2 rfl (lv_at hl 3 rfl) ?_
    refine lv_bipush (v := nI 6) hx hb dX2_fits_3 (by decide) ?_
    refine lv_icmp_ge (tgt := 79) hx hb dX2_fits_5 (by decide) (fun _ => ?_) (fun cc => absurd (nI_le (by omega) (by omega)) cc)
    exact kk H locs ls hf hw
  | succ k ih =>
    intro k0 H locs ls hk hf hw hl
    refine lv_iload_n hx hb dX2_fits_2 rfl (lv_at hl 3 rfl) ?_
    refine lv_bipush (v := nI 6) hx hb dX2_fits_3 (by decide) ?_
    refine lv_icmp_ge (tgt := 79) hx hb dX2_fits_5 (by decide) (fun cc => absurd cc (nI_ge (by omega) (by omega))) (fun _ => ?_)
    refine lv_iconst (v := nI 0) hx hb dX2_fits_8 (by decide) ?_
    refine lv_istore (lv' := [(4, .int (nI 0)), (0, .ref (ad 0)), (1, .int (nI x)), (2, .int (nI S)), (3, .int (nI k0))]) hx hb dX2_fits_9 hl (by decide) rfl (fun ls hl => ?_)
    refine lp2_fits_in hst hx1 hS (show k0 < 6 by omega) B (fun H locs ls hf hw hl => ?_) kn 64 0 H locs ls rfl hf hw (lv_sub hl [1, 2, 3, 4, 0] rfl)
    refine lv_iinc (v := nI (k0 + 1)) (lv' := [(3, .int (nI (k0 + 1))), (0, .ref (ad 0)), (1, .int (nI x)), (2, .int (nI S)), (4, .int (nI 64))]) hx hb dX2_fits_73 hl (k := 3) rfl (nI_add k0 1) (by decide) rfl (fun ls hl => ?_)
    refine lv_goto (tgt := 2) hx hb dX2_fits_76 (by decide) ?_
    exact ih (k0 + 1) H locs ls (by omega) hf hw (lv_sub hl [1, 2, 3, 0] rfl)
set_option maxHeartbeats 4000000 in
set_option maxRecDepth 100000 in
/-- fits: a seed gives all that the cubes of a set want -/
theorem ct2_fits (l : Launch) (D : va_G) {ad : Nat → Nat} {dA : Nat → ClassId} {nn tpn : Nat} {shn wtn : Nat → Nat} {sh wt le : Nat → Int32} {x S : Nat} (hst : sd_ST nn tpn shn wtn sh wt) (hx1 : x < 2 ^ nn) (hS : S < 64) : ctI l yX2_fits cX2_fits 6 (some .boolean) (rmK 2) D (moT dA) (moW ad dA (nI nn) (nI tpn) sh wt le) [.ref (ad 0), .int (nI x), .int (nI S)] (fun r (_ : Unit) => sd_yn r (sd_ft nn tpn shn wtn S x = true)) (fun _ => moW ad dA (nI nn) (nI tpn) sh wt le) := by
  refine ctI.of (by decide) (Nat.le_of_ble_eq_true rfl) ?_
  intro p e s m below meth c A ls B hw hl
  have hx := B.1.1
  have hb := B.1.2.1
  have hl : lv_has ls 6 [(0, .ref (ad 0)), (1, .int (nI x)), (2, .int (nI S))] := hl
  refine lv_iconst (v := nI 0) hx hb dX2_fits_0 (by decide) ?_
  refine lv_istore_n (lv' := [(3, .int (nI 0)), (0, .ref (ad 0)), (1, .int (nI x)), (2, .int (nI S))]) hx hb dX2_fits_1 rfl hl (by decide) rfl (fun ls hl => ?_)
  refine lp2_fits hst hx1 hS B (fun H locs ls hf hw => ?_) (fun i H locs ls hi hf hw => ?_) 6 0 _ _ ls rfl rfl hw (lv_sub hl [1, 2, 3, 0] rfl)
  · refine lv_iconst (v := nI 1) hx hb dX2_fits_79 (by decide) ?_
    exact s_ret (v := nI 1) () B rfl hw (Or.inl ⟨rfl, hf⟩) dX2_fits_80
  · refine lv_iconst (v := nI 0) hx hb dX2_fits_65 (by decide) ?_
    exact s_ret (v := nI 0) () B rfl hw (Or.inr ⟨rfl, sd_ft_no hi hf⟩) dX2_fits_66
set_option maxHeartbeats 4000000 in
set_option maxRecDepth 100000 in
/-- seeds: its loop -/
theorem lp2_seeds {p : Program} {l : Launch} {e : Env} {s : State} {m : MethodId} {args : Array Value} {below : List Frame} {meth : Method} {c : Code} {Q : State → Prop} {D : va_G} {ad : Nat → Nat} {ret : Option FieldType} {A : Nat → Prop} {dA : Nat → ClassId} {S : Nat} {nn tpn : Nat} {shn wtn : Nat → Nat} {sh wt le : Nat → Int32} (hst : sd_ST nn tpn shn wtn sh wt) (hS : S < 64) (B : bx p s m meth c cX2_seeds 4 ret args RX2 D (moT dA))
    (kk : ∀ (H : Heap) (locs : List Loc) (ls : Array Slot), wd D A s.heap (moW ad dA (nI nn) (nI tpn) sh wt le) H locs → lv_has ls 4 [(0, .ref (ad 0)), (1, .int (nI S)), (2, .int (nI (fb_ct (fun x => sd_ft nn tpn shn wtn S x) (2 ^ nn)))), (3, .int (nI (2 ^ nn)))] → W p l e (rmK 3) s m args below meth c H locs 0 0 Q (F0 m 42 ls [])) :
    ∀ (k b : Nat) (H : Heap) (locs : List Loc) (ls : Array Slot), b + k = 2 ^ nn → wd D A s.heap (moW ad dA (nI nn) (nI tpn) sh wt le) H locs → lv_has ls 4 [(0, .ref (ad 0)), (1, .int (nI S)), (2, .int (nI (fb_ct (fun x => sd_ft nn tpn shn wtn S x) b))), (3, .int (nI b))] → W p l e (rmK 3) s m args below meth c H locs 0 0 Q (F0 m 14 ls []) := by
  have hx := B.1.1
  have hb := B.1.2.1
  have h8 := sd_p8 hst.2.1
  have h3 := hst.1
  have hn8 := hst.2.1
  intro k
  induction k with
  | zero =>
    intro b H locs ls hk hw hl
    have ei : b = 2 ^ nn := by omega
    subst ei
    refine lv_iload_n hx hb dX2_seeds_14 rfl (lv_at hl 3 rfl) ?_
    refine lv_iconst (v := nI 1) hx hb dX2_seeds_15 (by decide) ?_
    refine lv_aload_n hx hb dX2_seeds_16 rfl (lv_at hl 0 rfl) ?_
    refine s_get2 (v := .int (nI nn)) B hw 0 (by decide) q156 rfl rfl dX2_seeds_17 ?_
    refine lv_ishl hx hb dX2_seeds_20 ?_
    refine s_top (y := nI (2 ^ nn)) (sd_shl1 (by omega)) ?_
    refine lv_icmp_ge (tgt := 42) hx hb dX2_seeds_21 (by decide) (fun _ => ?_) (fun cc => absurd (nI_le (by omega) (by omega)) cc)
    exact kk H locs ls hw (lv_sub hl [0, 1, 2, 3] rfl)
  | succ k ih =>
    intro b H locs ls hk hw hl
    refine lv_iload_n hx hb dX2_seeds_14 rfl (lv_at hl 3 rfl) ?_
    refine lv_iconst (v := nI 1) hx hb dX2_seeds_15 (by decide) ?_
    refine lv_aload_n hx hb dX2_seeds_16 rfl (lv_at hl 0 rfl) ?_
    refine s_get2 (v := .int (nI nn)) B hw 0 (by decide) q156 rfl rfl dX2_seeds_17 ?_
    refine lv_ishl hx hb dX2_seeds_20 ?_
    refine s_top (y := nI (2 ^ nn)) (sd_shl1 (by omega)) ?_
    refine lv_icmp_ge (tgt := 42) hx hb dX2_seeds_21 (by decide) (fun cc => absurd cc (nI_ge (by omega) (by omega))) (fun _ => ?_)
    refine lv_aload_n hx hb dX2_seeds_24 rfl (lv_at hl 0 rfl) ?_
    refine lv_iload_n hx hb dX2_seeds_25 rfl (lv_at hl 3 rfl) ?_
    refine lv_iload_n hx hb dX2_seeds_26 rfl (lv_at hl 1 rfl) ?_
    refine s_call (As := [.int (nI b), .int (nI S)]) (rest := []) (ci := 1) (ct2_fits l D hst (show b < 2 ^ nn by omega) hS) B hw (lw_V q208 q210 qs15 q19 q211) rfl rfl rfl ⟨cn2_fits, rfl, rfl, by decide, by decide⟩ ⟨Nat.zero_le _, Nat.zero_le _⟩ hl.1 (Nat.le_of_ble_eq_true rfl) dX2_seeds_27 (fun r _ H locs hp hw => ?_)
    have hw : wd D A _ (moW ad dA (nI nn) (nI tpn) sh wt le) H locs := hw
    refine lv_if_eq (tgt := 36) hx hb dX2_seeds_30 (by decide) (fun c1 => ?_) (fun c1 => ?_)
    · refine lv_iinc (v := nI (b + 1)) (lv' := [(3, .int (nI (b + 1))), (0, .ref (ad 0)), (1, .int (nI S)), (2, .int (nI (fb_ct (fun x => sd_ft nn tpn shn wtn S x) b)))]) hx hb dX2_seeds_36 hl (k := 3) rfl (nI_add b 1) (by decide) rfl (fun ls hl => ?_)
      refine lv_goto (tgt := 14) hx hb dX2_seeds_39 (by decide) ?_
      have e1 := sd_ct_f (f := fun x => sd_ft nn tpn shn wtn S x) (sd_nf (sd_yn_eq hp c1))
      rw [← e1] at hl
      exact ih (b + 1) H locs ls (by omega) hw (lv_sub hl [1, 2, 3, 0] rfl)
    · refine lv_iinc (v := nI (fb_ct (fun x => sd_ft nn tpn shn wtn S x) b + 1)) (lv' := [(2, .int (nI (fb_ct (fun x => sd_ft nn tpn shn wtn S x) b + 1))), (0, .ref (ad 0)), (1, .int (nI S)), (3, .int (nI b))]) hx hb dX2_seeds_33 hl (k := 2) rfl (nI_add (fb_ct (fun x => sd_ft nn tpn shn wtn S x) b) 1) (by decide) rfl (fun ls hl => ?_)
      refine lv_iinc (v := nI (b + 1)) (lv' := [(3, .int (nI (b + 1))), (2, .int (nI (fb_ct (fun x => sd_ft nn tpn shn wtn S x) b + 1))), (0, .ref (ad 0)), (1, .int (nI S))]) hx hb dX2_seeds_36 hl (k := 3) rfl (nI_add b 1) (by decide) rfl (fun ls hl => ?_)
      refine lv_goto (tgt := 14) hx hb dX2_seeds_39 (by decide) ?_
      have e1 := sd_ct_t (f := fun x => sd_ft nn tpn shn wtn S x) (sd_yn_ne hp c1)
      rw [← e1] at hl
      exact ih (b + 1) H locs ls (by omega) hw (lv_sub hl [2, 3, 1, 0] rfl)
set_option maxHeartbeats 4000000 in
set_option maxRecDepth 100000 in
/-- seeds: how many fit -/
theorem ct2_seeds (l : Launch) (D : va_G) {ad : Nat → Nat} {dA : Nat → ClassId} {nn tpn : Nat} {shn wtn : Nat → Nat} {sh wt le : Nat → Int32} (hst : sd_ST nn tpn shn wtn sh wt) (p0 : Int32) : ctI l yX2_seeds cX2_seeds 4 (some .int) (rmK 3) D (moT dA) (moW ad dA (nI nn) (nI tpn) sh wt le) [.ref (ad 0), .int p0] (fun r (_ : Unit) => sd_Aseeds nn tpn shn wtn p0 r) (fun _ => moW ad dA (nI nn) (nI tpn) sh wt le) := by
  refine ctI.of (by decide) (Nat.le_of_ble_eq_true rfl) ?_
  intro p e s m below meth c A ls B hw hl
  have hx := B.1.1
  have hb := B.1.2.1
  have hl : lv_has ls 4 [(0, .ref (ad 0)), (1, .int p0)] := hl
  have h8 := sd_p8 hst.2.1
  have h3 := hst.1
  have hn8 := hst.2.1
  refine lv_aload_n hx hb dX2_seeds_0 rfl (lv_at hl 0 rfl) ?_
  refine lv_iload_n hx hb dX2_seeds_1 rfl (lv_at hl 1 rfl) ?_
  refine s_call (As := [.int p0]) (rest := []) (ci := 1) (ct2_isSet l D p0) B hw (lw_V q204 q206 qs14 q19 q207) rfl rfl rfl ⟨cn2_isSet, rfl, rfl, by decide, by decide⟩ ⟨Nat.zero_le _, Nat.zero_le _⟩ hl.1 (Nat.le_of_ble_eq_true rfl) dX2_seeds_2 (fun r0 _ H locs hp hw => ?_)
  have hw : wd D A _ (moW ad dA (nI nn) (nI tpn) sh wt le) H locs := hw
  refine lv_if_ne (tgt := 10) hx hb dX2_seeds_5 (by decide) (fun c1 => ?_) (fun c1 => ?_)
  · obtain ⟨S, hS, e0⟩ := sd_yn_ne hp c1
    subst e0
    refine lv_iconst (v := nI 0) hx hb dX2_seeds_10 (by decide) ?_
    refine lv_istore_n (lv' := [(2, .int (nI 0)), (0, .ref (ad 0)), (1, .int (nI S))]) hx hb dX2_seeds_11 rfl hl (by decide) rfl (fun ls hl => ?_)
    refine lv_iconst (v := nI 0) hx hb dX2_seeds_12 (by decide) ?_
    refine lv_istore_n (lv' := [(3, .int (nI 0)), (2, .int (nI 0)), (0, .ref (ad 0)), (1, .int (nI S))]) hx hb dX2_seeds_13 rfl hl (by decide) rfl (fun ls hl => ?_)
    refine lp2_seeds hst hS B (fun H locs ls hw hl => ?_) (2 ^ nn) 0 _ _ ls (by omega) hw (lv_sub hl [2, 3, 1, 0] rfl)
    refine lv_iload_n hx hb dX2_seeds_42 rfl (lv_at hl 2 rfl) ?_
    exact s_ret (v := nI (fb_ct (fun x => sd_ft nn tpn shn wtn S x) (2 ^ nn))) () B rfl hw (Or.inl ⟨S, hS, rfl, rfl⟩) dX2_seeds_43
  · refine lv_iconst (v := (-1)) hx hb dX2_seeds_8 (by decide) ?_
    exact s_ret (v := (-1)) () B rfl hw (Or.inr ⟨sd_yn_eq hp c1, rfl⟩) dX2_seeds_9
set_option maxHeartbeats 4000000 in
set_option maxRecDepth 100000 in
/-- firstSeed: its loop -/
theorem lp2_firstSeed {p : Program} {l : Launch} {e : Env} {s : State} {m : MethodId} {args : Array Value} {below : List Frame} {meth : Method} {c : Code} {Q : State → Prop} {D : va_G} {ad : Nat → Nat} {ret : Option FieldType} {A : Nat → Prop} {dA : Nat → ClassId} {S : Nat} {nn tpn : Nat} {shn wtn : Nat → Nat} {sh wt le : Nat → Int32} (hst : sd_ST nn tpn shn wtn sh wt) (hS : S < 64) (B : bx p s m meth c cX2_firstSeed 3 ret args RX2 D (moT dA))
    (kk : ∀ (H : Heap) (locs : List Loc) (ls : Array Slot), (∀ y, y < 2 ^ nn → sd_ft nn tpn shn wtn S y = false) → wd D A s.heap (moW ad dA (nI nn) (nI tpn) sh wt le) H locs → W p l e (rmK 3) s m args below meth c H locs 0 0 Q (F0 m 29 ls []))
    (ky : ∀ (b : Nat) (H : Heap) (locs : List Loc) (ls : Array Slot), b < 2 ^ nn → (∀ y, y < b → sd_ft nn tpn shn wtn S y = false) → sd_ft nn tpn shn wtn S b = true → wd D A s.heap (moW ad dA (nI nn) (nI tpn) sh wt le) H locs → lv_has ls 3 [(0, .ref (ad 0)), (1, .int (nI S)), (2, .int (nI b))] → W p l e (rmK 3) s m args below meth c H locs 0 0 Q (F0 m 21 ls [])) :
    ∀ (k b : Nat) (H : Heap) (locs : List Loc) (ls : Array Slot), b + k = 2 ^ nn → (∀ y, y < b → sd_ft nn tpn shn wtn S y = false) → wd D A s.heap (moW ad dA (nI nn) (nI tpn) sh wt le) H locs → lv_has ls 3 [(0, .ref (ad 0)), (1, .int (nI S)), (2, .int (nI b))] → W p l e (rmK 3) s m args below meth c H locs 0 0 Q (F0 m 2 ls []) := by
  have hx := B.1.1
  have hb := B.1.2.1
  have h8 := sd_p8 hst.2.1
  have h3 := hst.1
  have hn8 := hst.2.1
  intro k
  induction k with
  | zero =>
    intro b H locs ls hk hN hw hl
    have ei : b = 2 ^ nn := by omega
    subst ei
    refine lv_iload_n hx hb dX2_firstSeed_2 rfl (lv_at hl 2 rfl) ?_
    refine lv_iconst (v := nI 1) hx hb dX2_firstSeed_3 (by decide) ?_
    refine lv_aload_n hx hb dX2_firstSeed_4 rfl (lv_at hl 0 rfl) ?_
    refine s_get2 (v := .int (nI nn)) B hw 0 (by decide) q156 rfl rfl dX2_firstSeed_5 ?_
    refine lv_ishl hx hb dX2_firstSeed_8 ?_
    refine s_top (y := nI (2 ^ nn)) (sd_shl1 (by omega)) ?_
    refine lv_icmp_ge (tgt := 29) hx hb dX2_firstSeed_9 (by decide) (fun _ => ?_) (fun cc => absurd (nI_le (by omega) (by omega)) cc)
    exact kk H locs ls hN hw
  | succ k ih =>
    intro b H locs ls hk hN hw hl
    refine lv_iload_n hx hb dX2_firstSeed_2 rfl (lv_at hl 2 rfl) ?_
    refine lv_iconst (v := nI 1) hx hb dX2_firstSeed_3 (by decide) ?_
    refine lv_aload_n hx hb dX2_firstSeed_4 rfl (lv_at hl 0 rfl) ?_
    refine s_get2 (v := .int (nI nn)) B hw 0 (by decide) q156 rfl rfl dX2_firstSeed_5 ?_
    refine lv_ishl hx hb dX2_firstSeed_8 ?_
    refine s_top (y := nI (2 ^ nn)) (sd_shl1 (by omega)) ?_
    refine lv_icmp_ge (tgt := 29) hx hb dX2_firstSeed_9 (by decide) (fun cc => absurd cc (nI_ge (by omega) (by omega))) (fun _ => ?_)
    refine lv_aload_n hx hb dX2_firstSeed_12 rfl (lv_at hl 0 rfl) ?_
    refine lv_iload_n hx hb dX2_firstSeed_13 rfl (lv_at hl 2 rfl) ?_
    refine lv_iload_n hx hb dX2_firstSeed_14 rfl (lv_at hl 1 rfl) ?_
    refine s_call (As := [.int (nI b), .int (nI S)]) (rest := []) (ci := 1) (ct2_fits l D hst (show b < 2 ^ nn by omega) hS) B hw (lw_V q208 q210 qs15 q19 q211) rfl rfl rfl ⟨cn2_fits, rfl, rfl, by decide, by decide⟩ ⟨Nat.zero_le _, Nat.zero_le _⟩ hl.1 (Nat.le_of_ble_eq_true rfl) dX2_firstSeed_15 (fun r _ H locs hp hw => ?_)
    have hw : wd D A _ (moW ad dA (nI nn) (nI tpn) sh wt le) H locs := hw
    refine lv_if_eq (tgt := 23) hx hb dX2_firstSeed_18 (by decide) (fun c1 => ?_) (fun c1 => ?_)
    · refine lv_iinc (v := nI (b + 1)) (lv' := [(2, .int (nI (b + 1))), (0, .ref (ad 0)), (1, .int (nI S))]) hx hb dX2_firstSeed_23 hl (k := 2) rfl (nI_add b 1) (by decide) rfl (fun ls hl => ?_)
      refine lv_goto (tgt := 2) hx hb dX2_firstSeed_26 (by decide) ?_
      exact ih (b + 1) H locs ls (by omega) (sd_lt_s hN (sd_nf (sd_yn_eq hp c1))) hw (lv_sub hl [1, 2, 0] rfl)
    · exact ky b H locs ls (by omega) hN (sd_yn_ne hp c1) hw (lv_sub hl [0, 1, 2] rfl)
set_option maxHeartbeats 4000000 in
set_option maxRecDepth 100000 in
/-- firstSeed: the least seed that fits, or -2 -/
theorem ct2_firstSeed (l : Launch) (D : va_G) {ad : Nat → Nat} {dA : Nat → ClassId} {nn tpn : Nat} {shn wtn : Nat → Nat} {sh wt le : Nat → Int32} {S : Nat} (hst : sd_ST nn tpn shn wtn sh wt) (hS : S < 64) : ctI l yX2_firstSeed cX2_firstSeed 3 (some .int) (rmK 3) D (moT dA) (moW ad dA (nI nn) (nI tpn) sh wt le) [.ref (ad 0), .int (nI S)] (fun r (_ : Unit) => sd_best nn (fun x => sd_ft nn tpn shn wtn S x) false r) (fun _ => moW ad dA (nI nn) (nI tpn) sh wt le) := by
  refine ctI.of (by decide) (Nat.le_of_ble_eq_true rfl) ?_
  intro p e s m below meth c A ls B hw hl
  have hx := B.1.1
  have hb := B.1.2.1
  have hl : lv_has ls 3 [(0, .ref (ad 0)), (1, .int (nI S))] := hl
  have h8 := sd_p8 hst.2.1
  have h3 := hst.1
  have hn8 := hst.2.1
  refine lv_iconst (v := nI 0) hx hb dX2_firstSeed_0 (by decide) ?_
  refine lv_istore_n (lv' := [(2, .int (nI 0)), (0, .ref (ad 0)), (1, .int (nI S))]) hx hb dX2_firstSeed_1 rfl hl (by decide) rfl (fun ls hl => ?_)
  refine lp2_firstSeed hst hS B (fun H locs ls hN hw => ?_) (fun b H locs ls hb1 hN hf hw hl => ?_) (2 ^ nn) 0 _ _ ls (by omega) (fun y hy => absurd hy (Nat.not_lt_zero y)) hw (lv_sub hl [1, 2, 0] rfl)
  · refine lv_bipush (v := (-2)) hx hb dX2_firstSeed_29 (by decide) ?_
    exact s_ret (v := (-2)) () B rfl hw (Or.inr ⟨hN, rfl⟩) dX2_firstSeed_31
  · refine lv_iload_n hx hb dX2_firstSeed_21 rfl (lv_at hl 2 rfl) ?_
    exact s_ret (v := nI b) () B rfl hw (sd_best_lo hb1 hN hf) dX2_firstSeed_22
set_option maxHeartbeats 4000000 in
set_option maxRecDepth 100000 in
/-- leastSeed -/
theorem ct2_leastSeed (l : Launch) (D : va_G) {ad : Nat → Nat} {dA : Nat → ClassId} {nn tpn : Nat} {shn wtn : Nat → Nat} {sh wt le : Nat → Int32} (hst : sd_ST nn tpn shn wtn sh wt) (p0 : Int32) : ctI l yX2_leastSeed cX2_leastSeed 2 (some .int) (rmK 4) D (moT dA) (moW ad dA (nI nn) (nI tpn) sh wt le) [.ref (ad 0), .int p0] (fun r (_ : Unit) => sd_Abest nn tpn shn wtn false p0 r) (fun _ => moW ad dA (nI nn) (nI tpn) sh wt le) := by
  refine ctI.of (by decide) (Nat.le_of_ble_eq_true rfl) ?_
  intro p e s m below meth c A ls B hw hl
  have hx := B.1.1
  have hb := B.1.2.1
  have hl : lv_has ls 2 [(0, .ref (ad 0)), (1, .int p0)] := hl
  refine lv_aload_n hx hb dX2_leastSeed_0 rfl (lv_at hl 0 rfl) ?_
  refine lv_iload_n hx hb dX2_leastSeed_1 rfl (lv_at hl 1 rfl) ?_
  refine s_call (As := [.int p0]) (rest := []) (ci := 1) (ct2_isSet l D p0) B hw (lw_V q204 q206 qs14 q19 q207) rfl rfl rfl ⟨cn2_isSet, rfl, rfl, by decide, by decide⟩ ⟨Nat.zero_le _, Nat.zero_le _⟩ hl.1 (Nat.le_of_ble_eq_true rfl) dX2_leastSeed_2 (fun r0 _ H locs hp hw => ?_)
  have hw : wd D A _ (moW ad dA (nI nn) (nI tpn) sh wt le) H locs := hw
  refine lv_if_eq (tgt := 16) hx hb dX2_leastSeed_5 (by decide) (fun c1 => ?_) (fun c1 => ?_)
  · refine lv_iconst (v := (-1)) hx hb dX2_leastSeed_16 (by decide) ?_
    exact s_ret (v := (-1)) () B rfl hw (Or.inr ⟨sd_yn_eq hp c1, rfl⟩) dX2_leastSeed_17
  · obtain ⟨S, hS, e0⟩ := sd_yn_ne hp c1
    subst e0
    refine lv_aload_n hx hb dX2_leastSeed_8 rfl (lv_at hl 0 rfl) ?_
    refine lv_iload_n hx hb dX2_leastSeed_9 rfl (lv_at hl 1 rfl) ?_
    refine s_call (As := [.int (nI S)]) (rest := []) (ci := 1) (ct2_firstSeed l D hst hS) B hw (lw_V q216 q218 qs16 q19 q219) rfl rfl rfl ⟨cn2_firstSeed, rfl, rfl, by decide, by decide⟩ ⟨Nat.zero_le _, Nat.zero_le _⟩ hl.1 (Nat.le_of_ble_eq_true rfl) dX2_leastSeed_10 (fun r _ H locs hr hw => ?_)
    have hw : wd D A _ (moW ad dA (nI nn) (nI tpn) sh wt le) H locs := hw
    refine lv_goto (tgt := 17) hx hb dX2_leastSeed_13 (by decide) ?_
    exact s_ret (v := r) () B rfl hw (Or.inl ⟨S, hS, rfl, hr⟩) dX2_leastSeed_17
set_option maxHeartbeats 4000000 in
set_option maxRecDepth 100000 in
/-- greatestSeed: its loop -/
theorem lp2_greatestSeed {p : Program} {l : Launch} {e : Env} {s : State} {m : MethodId} {args : Array Value} {below : List Frame} {meth : Method} {c : Code} {Q : State → Prop} {D : va_G} {ad : Nat → Nat} {ret : Option FieldType} {A : Nat → Prop} {dA : Nat → ClassId} {S : Nat} {nn tpn : Nat} {shn wtn : Nat → Nat} {sh wt le : Nat → Int32} (hst : sd_ST nn tpn shn wtn sh wt) (hS : S < 64) (B : bx p s m meth c cX2_greatestSeed 3 ret args RX2 D (moT dA))
    (kk : ∀ (H : Heap) (locs : List Loc) (ls : Array Slot), (∀ y, 0 ≤ y → y < 2 ^ nn → sd_ft nn tpn shn wtn S y = false) → wd D A s.heap (moW ad dA (nI nn) (nI tpn) sh wt le) H locs → W p l e (rmK 3) s m args below meth c H locs 0 0 Q (F0 m 40 ls []))
    (ky : ∀ (b : Nat) (H : Heap) (locs : List Loc) (ls : Array Slot), b < 2 ^ nn → (∀ y, b + 1 ≤ y → y < 2 ^ nn → sd_ft nn tpn shn wtn S y = false) → sd_ft nn tpn shn wtn S b = true → wd D A s.heap (moW ad dA (nI nn) (nI tpn) sh wt le) H locs → lv_has ls 3 [(0, .ref (ad 0)), (1, .int (nI S)), (2, .int (nI b))] → W p l e (rmK 3) s m args below meth c H locs 0 0 Q (F0 m 32 ls [])) :
    ∀ (j : Nat) (H : Heap) (locs : List Loc) (ls : Array Slot), j ≤ 2 ^ nn → (∀ y, j ≤ y → y < 2 ^ nn → sd_ft nn tpn shn wtn S y = false) → wd D A s.heap (moW ad dA (nI nn) (nI tpn) sh wt le) H locs → lv_has ls 3 [(0, .ref (ad 0)), (1, .int (nI S)), (2, .int (nI j - nI 1))] → W p l e (rmK 3) s m args below meth c H locs 0 0 Q (F0 m 19 ls []) := by
  have hx := B.1.1
  have hb := B.1.2.1
  have h8 := sd_p8 hst.2.1
  have h3 := hst.1
  have hn8 := hst.2.1
  intro j
  induction j with
  | zero =>
    intro H locs ls hk hN hw hl
    refine lv_iload_n hx hb dX2_greatestSeed_19 rfl (lv_at hl 2 rfl) ?_
    refine lv_if_lt (tgt := 40) hx hb dX2_greatestSeed_20 (by decide) (fun _ => ?_) (fun cc => absurd (sd_neg) cc)
    exact kk H locs ls hN hw
  | succ b ih =>
    intro H locs ls hk hN hw hl
    rw [sd_inc] at hl
    refine lv_iload_n hx hb dX2_greatestSeed_19 rfl (lv_at hl 2 rfl) ?_
    refine lv_if_lt (tgt := 40) hx hb dX2_greatestSeed_20 (by decide) (fun cc => absurd cc (nI_pos (by omega))) (fun _ => ?_)
    refine lv_aload_n hx hb dX2_greatestSeed_23 rfl (lv_at hl 0 rfl) ?_
    refine lv_iload_n hx hb dX2_greatestSeed_24 rfl (lv_at hl 2 rfl) ?_
    refine lv_iload_n hx hb dX2_greatestSeed_25 rfl (lv_at hl 1 rfl) ?_
    refine s_call (As := [.int (nI b), .int (nI S)]) (rest := []) (ci := 1) (ct2_fits l D hst (show b < 2 ^ nn by omega) hS) B hw (lw_V q208 q210 qs15 q19 q211) rfl rfl rfl ⟨cn2_fits, rfl, rfl, by decide, by decide⟩ ⟨Nat.zero_le _, Nat.zero_le _⟩ hl.1 (Nat.le_of_ble_eq_true rfl) dX2_greatestSeed_26 (fun r _ H locs hp hw => ?_)
    have hw : wd D A _ (moW ad dA (nI nn) (nI tpn) sh wt le) H locs := hw
    refine lv_if_eq (tgt := 34) hx hb dX2_greatestSeed_29 (by decide) (fun c1 => ?_) (fun c1 => ?_)
    · refine lv_iinc (v := nI b - nI 1) (lv' := [(2, .int (nI b - nI 1)), (0, .ref (ad 0)), (1, .int (nI S))]) hx hb dX2_greatestSeed_34 hl (k := 2) rfl (sd_dec b) (by decide) rfl (fun ls hl => ?_)
      refine lv_goto (tgt := 19) hx hb dX2_greatestSeed_37 (by decide) ?_
      exact ih H locs ls (by omega) (sd_ge_s hN (sd_nf (sd_yn_eq hp c1))) hw (lv_sub hl [1, 2, 0] rfl)
    · exact ky b H locs ls (by omega) hN (sd_yn_ne hp c1) hw (lv_sub hl [0, 1, 2] rfl)
set_option maxHeartbeats 4000000 in
set_option maxRecDepth 100000 in
/-- greatestSeed -/
theorem ct2_greatestSeed (l : Launch) (D : va_G) {ad : Nat → Nat} {dA : Nat → ClassId} {nn tpn : Nat} {shn wtn : Nat → Nat} {sh wt le : Nat → Int32} (hst : sd_ST nn tpn shn wtn sh wt) (p0 : Int32) : ctI l yX2_greatestSeed cX2_greatestSeed 3 (some .int) (rmK 3) D (moT dA) (moW ad dA (nI nn) (nI tpn) sh wt le) [.ref (ad 0), .int p0] (fun r (_ : Unit) => sd_Abest nn tpn shn wtn true p0 r) (fun _ => moW ad dA (nI nn) (nI tpn) sh wt le) := by
  refine ctI.of (by decide) (Nat.le_of_ble_eq_true rfl) ?_
  intro p e s m below meth c A ls B hw hl
  have hx := B.1.1
  have hb := B.1.2.1
  have hl : lv_has ls 3 [(0, .ref (ad 0)), (1, .int p0)] := hl
  have h8 := sd_p8 hst.2.1
  have h3 := hst.1
  have hn8 := hst.2.1
  refine lv_aload_n hx hb dX2_greatestSeed_0 rfl (lv_at hl 0 rfl) ?_
  refine lv_iload_n hx hb dX2_greatestSeed_1 rfl (lv_at hl 1 rfl) ?_
  refine s_call (As := [.int p0]) (rest := []) (ci := 1) (ct2_isSet l D p0) B hw (lw_V q204 q206 qs14 q19 q207) rfl rfl rfl ⟨cn2_isSet, rfl, rfl, by decide, by decide⟩ ⟨Nat.zero_le _, Nat.zero_le _⟩ hl.1 (Nat.le_of_ble_eq_true rfl) dX2_greatestSeed_2 (fun r0 _ H locs hp hw => ?_)
  have hw : wd D A _ (moW ad dA (nI nn) (nI tpn) sh wt le) H locs := hw
  refine lv_if_ne (tgt := 10) hx hb dX2_greatestSeed_5 (by decide) (fun c1 => ?_) (fun c1 => ?_)
  · obtain ⟨S, hS, e0⟩ := sd_yn_ne hp c1
    subst e0
    refine lv_iconst (v := nI 1) hx hb dX2_greatestSeed_10 (by decide) ?_
    refine lv_aload_n hx hb dX2_greatestSeed_11 rfl (lv_at hl 0 rfl) ?_
    refine s_get2 (v := .int (nI nn)) B hw 0 (by decide) q156 rfl rfl dX2_greatestSeed_12 ?_
    refine lv_ishl hx hb dX2_greatestSeed_15 ?_
    refine s_top (y := nI (2 ^ nn)) (sd_shl1 (by omega)) ?_
    refine lv_iconst (v := nI 1) hx hb dX2_greatestSeed_16 (by decide) ?_
    refine lv_isub hx hb dX2_greatestSeed_17 ?_
    refine lv_istore_n (lv' := [(2, .int ((nI (2 ^ nn)) - (nI 1))), (0, .ref (ad 0)), (1, .int (nI S))]) hx hb dX2_greatestSeed_18 rfl hl (by decide) rfl (fun ls hl => ?_)
    refine lp2_greatestSeed hst hS B (fun H locs ls hN hw => ?_) (fun b H locs ls hb1 hN hf hw hl => ?_) (2 ^ nn) _ _ ls (by omega) (fun y h1 h2 => absurd h2 (by omega)) hw (lv_sub hl [1, 2, 0] rfl)
    · refine lv_bipush (v := (-2)) hx hb dX2_greatestSeed_40 (by decide) ?_
      exact s_ret (v := (-2)) () B rfl hw (Or.inl ⟨S, hS, rfl, Or.inr ⟨fun x hx => hN x (Nat.zero_le x) hx, rfl⟩⟩) dX2_greatestSeed_42
    · refine lv_iload_n hx hb dX2_greatestSeed_32 rfl (lv_at hl 2 rfl) ?_
      exact s_ret (v := nI b) () B rfl hw (Or.inl ⟨S, hS, rfl, sd_best_hi hb1 hN hf⟩) dX2_greatestSeed_33
  · refine lv_iconst (v := (-1)) hx hb dX2_greatestSeed_8 (by decide) ?_
    exact s_ret (v := (-1)) () B rfl hw (Or.inr ⟨sd_yn_eq hp c1, rfl⟩) dX2_greatestSeed_9
set_option maxHeartbeats 4000000 in
set_option maxRecDepth 100000 in
/-- forced: its loop -/
theorem lp2_forced {p : Program} {l : Launch} {e : Env} {s : State} {m : MethodId} {args : Array Value} {below : List Frame} {meth : Method} {c : Code} {Q : State → Prop} {D : va_G} {ad : Nat → Nat} {ret : Option FieldType} {A : Nat → Prop} {dA : Nat → ClassId} {S t ch : Nat} {nn tpn : Nat} {shn wtn : Nat → Nat} {sh wt le : Nat → Int32} (hst : sd_ST nn tpn shn wtn sh wt) (hS : S < 64) (ht : t < 16) (hc : ch < 4) (B : bx p s m meth c cX2_forced 7 ret args RX2 D (moT dA))
    (kk : ∀ (v : Int32) (H : Heap) (locs : List Loc) (ls : Array Slot), sd_frc (fun x => sd_ft nn tpn shn wtn S x) (fun x => sd_vl nn tpn shn x t ch) (2 ^ nn) v → wd D A s.heap (moW ad dA (nI nn) (nI tpn) sh wt le) H locs → lv_has ls 7 [(0, .ref (ad 0)), (1, .int (nI S)), (2, .int (nI t)), (3, .int (nI ch)), (4, .int v), (5, .int (nI (2 ^ nn)))] → W p l e (rmK 3) s m args below meth c H locs 0 0 Q (F0 m 87 ls [])) :
    ∀ (k b : Nat) (v : Int32) (H : Heap) (locs : List Loc) (ls : Array Slot), b + k = 2 ^ nn → sd_frc (fun x => sd_ft nn tpn shn wtn S x) (fun x => sd_vl nn tpn shn x t ch) b v → wd D A s.heap (moW ad dA (nI nn) (nI tpn) sh wt le) H locs → lv_has ls 7 [(0, .ref (ad 0)), (1, .int (nI S)), (2, .int (nI t)), (3, .int (nI ch)), (4, .int v), (5, .int (nI b))] → W p l e (rmK 3) s m args below meth c H locs 0 0 Q (F0 m 26 ls []) := by
  have hx := B.1.1
  have hb := B.1.2.1
  have h8 := sd_p8 hst.2.1
  have h3 := hst.1
  have hn8 := hst.2.1
  intro k
  induction k with
  | zero =>
    intro b v H locs ls hk hF hw hl
    have ei : b = 2 ^ nn := by omega
    subst ei
    refine lv_iload hx hb dX2_forced_26 (lv_at hl 5 rfl) ?_
    refine lv_iconst (v := nI 1) hx hb dX2_forced_28 (by decide) ?_
    refine lv_aload_n hx hb dX2_forced_29 rfl (lv_at hl 0 rfl) ?_
    refine s_get2 (v := .int (nI nn)) B hw 0 (by decide) q156 rfl rfl dX2_forced_30 ?_
    refine lv_ishl hx hb dX2_forced_33 ?_
    refine s_top (y := nI (2 ^ nn)) (sd_shl1 (by omega)) ?_
    refine lv_icmp_ge (tgt := 87) hx hb dX2_forced_34 (by decide) (fun _ => ?_) (fun cc => absurd (nI_le (by omega) (by omega)) cc)
    exact kk v H locs ls hF hw (lv_sub hl [0, 1, 2, 3, 4, 5] rfl)
  | succ k ih =>
    intro b v H locs ls hk hF hw hl
    refine lv_iload hx hb dX2_forced_26 (lv_at hl 5 rfl) ?_
    refine lv_iconst (v := nI 1) hx hb dX2_forced_28 (by decide) ?_
    refine lv_aload_n hx hb dX2_forced_29 rfl (lv_at hl 0 rfl) ?_
    refine s_get2 (v := .int (nI nn)) B hw 0 (by decide) q156 rfl rfl dX2_forced_30 ?_
    refine lv_ishl hx hb dX2_forced_33 ?_
    refine s_top (y := nI (2 ^ nn)) (sd_shl1 (by omega)) ?_
    refine lv_icmp_ge (tgt := 87) hx hb dX2_forced_34 (by decide) (fun cc => absurd cc (nI_ge (by omega) (by omega))) (fun _ => ?_)
    refine lv_aload_n hx hb dX2_forced_37 rfl (lv_at hl 0 rfl) ?_
    refine lv_iload hx hb dX2_forced_38 (lv_at hl 5 rfl) ?_
    refine lv_iload_n hx hb dX2_forced_40 rfl (lv_at hl 1 rfl) ?_
    refine s_call (As := [.int (nI b), .int (nI S)]) (rest := []) (ci := 1) (ct2_fits l D hst (show b < 2 ^ nn by omega) hS) B hw (lw_V q208 q210 qs15 q19 q211) rfl rfl rfl ⟨cn2_fits, rfl, rfl, by decide, by decide⟩ ⟨Nat.zero_le _, Nat.zero_le _⟩ hl.1 (Nat.le_of_ble_eq_true rfl) dX2_forced_41 (fun r _ H locs hp hw => ?_)
    have hw : wd D A _ (moW ad dA (nI nn) (nI tpn) sh wt le) H locs := hw
    refine lv_if_eq (tgt := 81) hx hb dX2_forced_44 (by decide) (fun c1 => ?_) (fun c1 => ?_)
    · refine lv_iinc (v := nI (b + 1)) (lv' := [(5, .int (nI (b + 1))), (0, .ref (ad 0)), (1, .int (nI S)), (2, .int (nI t)), (3, .int (nI ch)), (4, .int v)]) hx hb dX2_forced_81 hl (k := 5) rfl (nI_add b 1) (by decide) rfl (fun ls hl => ?_)
      refine lv_goto (tgt := 26) hx hb dX2_forced_84 (by decide) ?_
      exact ih (b + 1) v H locs ls (by omega) (sd_frc_skip (sd_nf (sd_yn_eq hp c1)) hF) hw (lv_sub hl [1, 2, 3, 4, 5, 0] rfl)
    · refine lv_aload_n hx hb dX2_forced_47 rfl (lv_at hl 0 rfl) ?_
      refine lv_iload hx hb dX2_forced_48 (lv_at hl 5 rfl) ?_
      refine lv_iload_n hx hb dX2_forced_50 rfl (lv_at hl 2 rfl) ?_
      refine lv_iload_n hx hb dX2_forced_51 rfl (lv_at hl 3 rfl) ?_
      refine s_call (As := [.int (nI b), .int (nI t), .int (nI ch)]) (rest := []) (ci := 1) (ct2_valueAt l D hst (show b < 2 ^ nn by omega) (Nat.le_of_lt ht) hc) B hw (lw_V q192 q194 qs12 q19 q195) rfl rfl rfl ⟨cn2_valueAt, rfl, rfl, by decide, by decide⟩ ⟨Nat.zero_le _, Nat.zero_le _⟩ hl.1 (Nat.le_of_ble_eq_true rfl) dX2_forced_52 (fun r1 _ H locs hp1 hw => ?_)
      have hw : wd D A _ (moW ad dA (nI nn) (nI tpn) sh wt le) H locs := hw
      subst hp1
      refine lv_istore (lv' := [(6, .int (nI ((sd_vl nn tpn shn b t ch).toNat))), (0, .ref (ad 0)), (1, .int (nI S)), (2, .int (nI t)), (3, .int (nI ch)), (4, .int v), (5, .int (nI b))]) hx hb dX2_forced_55 hl (by decide) rfl (fun ls hl => ?_)
      refine lv_iload hx hb dX2_forced_57 (lv_at hl 5 rfl) ?_
      refine lv_bipush (v := (-2)) hx hb dX2_forced_59 (by decide) ?_
      refine lv_icmp_ne (tgt := 71) hx hb dX2_forced_61 (by decide) (fun c2 => ?_) (fun c2 => ?_)
      · refine lv_iload hx hb dX2_forced_71 (lv_at hl 5 rfl) ?_
        refine lv_iload hx hb dX2_forced_73 (lv_at hl 0 rfl) ?_
        refine lv_icmp_eq (tgt := 81) hx hb dX2_forced_75 (by decide) (fun c3 => ?_) (fun c3 => ?_)
        · refine lv_iinc (v := nI (b + 1)) (lv' := [(5, .int (nI (b + 1))), (6, .int (nI ((sd_vl nn tpn shn b t ch).toNat))), (0, .ref (ad 0)), (1, .int (nI S)), (2, .int (nI t)), (3, .int (nI ch)), (4, .int v)]) hx hb dX2_forced_81 hl (k := 6) rfl (nI_add b 1) (by decide) rfl (fun ls hl => ?_)
          refine lv_goto (tgt := 26) hx hb dX2_forced_84 (by decide) ?_
          exact ih (b + 1) v H locs ls (by omega) (sd_frc_same (sd_yn_ne hp c1) hF c2 c3) hw (lv_sub hl [2, 3, 4, 5, 6, 0] rfl)
        · refine lv_iconst (v := nI 2) hx hb dX2_forced_78 (by decide) ?_
          refine lv_istore (lv' := [(4, .int (nI 2)), (6, .int (nI ((sd_vl nn tpn shn b t ch).toNat))), (0, .ref (ad 0)), (1, .int (nI S)), (2, .int (nI t)), (3, .int (nI ch)), (5, .int (nI b))]) hx hb dX2_forced_79 hl (by decide) rfl (fun ls hl => ?_)
          refine lv_iinc (v := nI (b + 1)) (lv' := [(5, .int (nI (b + 1))), (4, .int (nI 2)), (6, .int (nI ((sd_vl nn tpn shn b t ch).toNat))), (0, .ref (ad 0)), (1, .int (nI S)), (2, .int (nI t)), (3, .int (nI ch))]) hx hb dX2_forced_81 hl (k := 6) rfl (nI_add b 1) (by decide) rfl (fun ls hl => ?_)
          refine lv_goto (tgt := 26) hx hb dX2_forced_84 (by decide) ?_
          exact ih (b + 1) (nI 2) H locs ls (by omega) (sd_frc_diff (sd_yn_ne hp c1) hF c2 c3) hw (lv_sub hl [3, 4, 5, 6, 1, 0] rfl)
      · refine lv_iload hx hb dX2_forced_64 (lv_at hl 0 rfl) ?_
        refine lv_istore (lv' := [(4, .int (nI ((sd_vl nn tpn shn b t ch).toNat))), (6, .int (nI ((sd_vl nn tpn shn b t ch).toNat))), (0, .ref (ad 0)), (1, .int (nI S)), (2, .int (nI t)), (3, .int (nI ch)), (5, .int (nI b))]) hx hb dX2_forced_66 hl (by decide) rfl (fun ls hl => ?_)
        refine lv_goto (tgt := 81) hx hb dX2_forced_68 (by decide) ?_
        refine lv_iinc (v := nI (b + 1)) (lv' := [(5, .int (nI (b + 1))), (4, .int (nI ((sd_vl nn tpn shn b t ch).toNat))), (6, .int (nI ((sd_vl nn tpn shn b t ch).toNat))), (0, .ref (ad 0)), (1, .int (nI S)), (2, .int (nI t)), (3, .int (nI ch))]) hx hb dX2_forced_81 hl (k := 6) rfl (nI_add b 1) (by decide) rfl (fun ls hl => ?_)
        refine lv_goto (tgt := 26) hx hb dX2_forced_84 (by decide) ?_
        exact ih (b + 1) _ H locs ls (by omega) (sd_frc_first (sd_yn_ne hp c1) hF c2) hw (lv_sub hl [3, 4, 5, 6, 1, 0] rfl)
set_option maxHeartbeats 4000000 in
set_option maxRecDepth 100000 in
/-- forced -/
theorem ct2_forced (l : Launch) (D : va_G) {ad : Nat → Nat} {dA : Nat → ClassId} {nn tpn : Nat} {shn wtn : Nat → Nat} {sh wt le : Nat → Int32} (hst : sd_ST nn tpn shn wtn sh wt) (p0 p1 p2 : Int32) : ctI l yX2_forced cX2_forced 7 (some .int) (rmK 3) D (moT dA) (moW ad dA (nI nn) (nI tpn) sh wt le) [.ref (ad 0), .int p0, .int p1, .int p2] (fun r (_ : Unit) => sd_Afrc nn tpn shn wtn p0 p1 p2 r) (fun _ => moW ad dA (nI nn) (nI tpn) sh wt le) := by
  refine ctI.of (by decide) (Nat.le_of_ble_eq_true rfl) ?_
  intro p e s m below meth c A ls B hw hl
  have hx := B.1.1
  have hb := B.1.2.1
  have hl : lv_has ls 7 [(0, .ref (ad 0)), (1, .int p0), (2, .int p1), (3, .int p2)] := hl
  have h8 := sd_p8 hst.2.1
  have h3 := hst.1
  have hn8 := hst.2.1
  refine lv_aload_n hx hb dX2_forced_0 rfl (lv_at hl 0 rfl) ?_
  refine lv_iload_n hx hb dX2_forced_1 rfl (lv_at hl 1 rfl) ?_
  refine s_call (As := [.int p0]) (rest := []) (ci := 1) (ct2_isSet l D p0) B hw (lw_V q204 q206 qs14 q19 q207) rfl rfl rfl ⟨cn2_isSet, rfl, rfl, by decide, by decide⟩ ⟨Nat.zero_le _, Nat.zero_le _⟩ hl.1 (Nat.le_of_ble_eq_true rfl) dX2_forced_2 (fun r0 _ H locs hp hw => ?_)
  have hw : wd D A _ (moW ad dA (nI nn) (nI tpn) sh wt le) H locs := hw
  refine lv_if_eq (tgt := 17) hx hb dX2_forced_5 (by decide) (fun c1 => ?_) (fun c1 => ?_)
  · refine lv_iconst (v := (-1)) hx hb dX2_forced_17 (by decide) ?_
    exact s_ret (v := (-1)) () B rfl hw (Or.inr ⟨fun h => sd_yn_eq hp c1 h.1, rfl⟩) dX2_forced_18
  · refine lv_aload_n hx hb dX2_forced_8 rfl (lv_at hl 0 rfl) ?_
    refine lv_iload_n hx hb dX2_forced_9 rfl (lv_at hl 2 rfl) ?_
    refine lv_iload_n hx hb dX2_forced_10 rfl (lv_at hl 3 rfl) ?_
    refine s_call (As := [.int p1, .int p2]) (rest := []) (ci := 1) (ct2_isPlace l D p1 p2) B hw (lw_V q184 q186 qs11 q19 q187) rfl rfl rfl ⟨cn2_isPlace, rfl, rfl, by decide, by decide⟩ ⟨Nat.zero_le _, Nat.zero_le _⟩ hl.1 (Nat.le_of_ble_eq_true rfl) dX2_forced_11 (fun r1 _ H locs hp1 hw => ?_)
    have hw : wd D A _ (moW ad dA (nI nn) (nI tpn) sh wt le) H locs := hw
    refine lv_if_ne (tgt := 19) hx hb dX2_forced_14 (by decide) (fun c2 => ?_) (fun c2 => ?_)
    · obtain ⟨S, hS, e0⟩ := sd_yn_ne hp c1
      obtain ⟨⟨t, ht, e1⟩, ⟨ch, hc, e2⟩⟩ := sd_yn_ne hp1 c2
      subst e0; subst e1; subst e2
      refine lv_bipush (v := (-2)) hx hb dX2_forced_19 (by decide) ?_
      refine lv_istore (lv' := [(4, .int (-2)), (0, .ref (ad 0)), (1, .int (nI S)), (2, .int (nI t)), (3, .int (nI ch))]) hx hb dX2_forced_21 hl (by decide) rfl (fun ls hl => ?_)
      refine lv_iconst (v := nI 0) hx hb dX2_forced_23 (by decide) ?_
      refine lv_istore (lv' := [(5, .int (nI 0)), (4, .int (-2)), (0, .ref (ad 0)), (1, .int (nI S)), (2, .int (nI t)), (3, .int (nI ch))]) hx hb dX2_forced_24 hl (by decide) rfl (fun ls hl => ?_)
      refine lp2_forced hst hS ht hc B (fun v H locs ls hF hw hl => ?_) (2 ^ nn) 0 _ _ _ ls (by omega) sd_frc_0 hw (lv_sub hl [2, 3, 4, 5, 1, 0] rfl)
      refine lv_iload hx hb dX2_forced_87 (lv_at hl 4 rfl) ?_
      exact s_ret (v := v) () B rfl hw (Or.inl ⟨S, t, ch, hS, rfl, ht, rfl, hc, rfl, hF⟩) dX2_forced_89
    · refine lv_iconst (v := (-1)) hx hb dX2_forced_17 (by decide) ?_
      exact s_ret (v := (-1)) () B rfl hw (Or.inr ⟨fun h => sd_yn_eq hp1 c2 h.2, rfl⟩) dX2_forced_18
end
section
/-! SeedSolverModel: seedsNeeded (printed by gen/x2d.py) -/
set_option maxHeartbeats 4000000 in
set_option maxRecDepth 100000 in
/-- seedsNeeded: the table at its start -/
theorem lp2_need0 {p : Program} {l : Launch} {e : Env} {s : State} {m : MethodId} {args : Array Value} {below : List Frame} {meth : Method} {c : Code} {Q : State → Prop} {D : va_G} {ad : Nat → Nat} {ret : Option FieldType} {A : Nat → Prop} {dA : Nat → ClassId} {R : Room} {S nn tpn : Nat} {sh wt : Nat → Int32} (B : bx p s m meth c cX2_seedsNeeded 5 ret args RX2 D (moT dA))
    (kk : ∀ (le : Nat → Int32) (H : Heap) (locs : List Loc) (ls : Array Slot), (∀ t, t < 64 → le t = nI (if t = 0 then 0 else 100)) → wd D A s.heap (moW ad dA (nI nn) (nI tpn) sh wt le) H locs → lv_has ls 5 [(0, .ref (ad 0)), (1, .int (nI S)), (2, .int (nI 64))] → W p l e R s m args below meth c H locs 0 0 Q (F0 m 40 ls [])) :
    ∀ (k i : Nat) (le : Nat → Int32) (H : Heap) (locs : List Loc) (ls : Array Slot), i + k = 64 → (∀ t, t < i → le t = nI (if t = 0 then 0 else 100)) → wd D A s.heap (moW ad dA (nI nn) (nI tpn) sh wt le) H locs → lv_has ls 5 [(0, .ref (ad 0)), (1, .int (nI S)), (2, .int (nI i))] → W p l e R s m args below meth c H locs 0 0 Q (F0 m 12 ls []) := by
  have hx := B.1.1
  have hb := B.1.2.1
  intro k
  induction k with
  | zero =>
    intro i le H locs ls hk hI hw hl
    have ei : i = 64 := by omega
    subst ei
    refine lv_iload_n hx hb dX2_seedsNeeded_12 rfl (lv_at hl 2 rfl) ?_
    refine lv_bipush (v := nI 64) hx hb dX2_seedsNeeded_13 (by decide) ?_
    refine lv_icmp_ge (tgt := 40) hx hb dX2_seedsNeeded_15 (by decide) (fun _ => ?_) (fun cc => absurd (nI_le (by omega) (by omega)) cc)
    exact kk le H locs ls hI hw (lv_sub hl [0, 1, 2] rfl)
  | succ k ih =>
    intro i le H locs ls hk hI hw hl
    refine lv_iload_n hx hb dX2_seedsNeeded_12 rfl (lv_at hl 2 rfl) ?_
    refine lv_bipush (v := nI 64) hx hb dX2_seedsNeeded_13 (by decide) ?_
    refine lv_icmp_ge (tgt := 40) hx hb dX2_seedsNeeded_15 (by decide) (fun cc => absurd cc (nI_ge (by omega) (by omega))) (fun _ => ?_)
    refine lv_aload_n hx hb dX2_seedsNeeded_18 rfl (lv_at hl 0 rfl) ?_
    refine s_get2 (v := .ref (ad 3)) B hw 4 (by decide) q160 rfl rfl dX2_seedsNeeded_19 ?_
    refine lv_iload_n hx hb dX2_seedsNeeded_22 rfl (lv_at hl 2 rfl) ?_
    refine lv_iload_n hx hb dX2_seedsNeeded_23 rfl (lv_at hl 2 rfl) ?_
    refine lv_if_ne (tgt := 31) hx hb dX2_seedsNeeded_24 (by decide) (fun c1 => ?_) (fun c1 => ?_)
    · refine lv_bipush (v := nI 100) hx hb dX2_seedsNeeded_31 (by decide) ?_
      refine s_iast B hw 3 2 rfl rfl (i := i) (by omega) (by decide) dX2_seedsNeeded_33 (fun H locs (hw : wd D A _ (moW ad dA (nI nn) (nI tpn) sh wt (upd le i (nI 100))) H locs) => ?_)
      refine lv_iinc (v := nI (i + 1)) (lv' := [(2, .int (nI (i + 1))), (0, .ref (ad 0)), (1, .int (nI S))]) hx hb dX2_seedsNeeded_34 hl (k := 2) rfl (nI_add i 1) (by decide) rfl (fun ls hl => ?_)
      refine lv_goto (tgt := 12) hx hb dX2_seedsNeeded_37 (by decide) ?_
      exact ih (i + 1) _ H locs ls (by omega) (sd_I0_s hI (by rw [if_neg (fun q => c1 (by rw [q]; rfl))])) hw (lv_sub hl [1, 2, 0] rfl)
    · refine lv_iconst (v := nI 0) hx hb dX2_seedsNeeded_27 (by decide) ?_
      refine lv_goto (tgt := 33) hx hb dX2_seedsNeeded_28 (by decide) ?_
      refine s_iast B hw 3 2 rfl rfl (i := i) (by omega) (by decide) dX2_seedsNeeded_33 (fun H locs (hw : wd D A _ (moW ad dA (nI nn) (nI tpn) sh wt (upd le i (nI 0))) H locs) => ?_)
      refine lv_iinc (v := nI (i + 1)) (lv' := [(2, .int (nI (i + 1))), (0, .ref (ad 0)), (1, .int (nI S))]) hx hb dX2_seedsNeeded_34 hl (k := 2) rfl (nI_add i 1) (by decide) rfl (fun ls hl => ?_)
      refine lv_goto (tgt := 12) hx hb dX2_seedsNeeded_37 (by decide) ?_
      exact ih (i + 1) _ H locs ls (by omega) (sd_I0_s hI (by rw [if_pos ((nI_eq (b := 0) (by omega) (by omega)).mp c1)])) hw (lv_sub hl [1, 2, 0] rfl)
set_option maxHeartbeats 4000000 in
set_option maxRecDepth 100000 in
/-- seedsNeeded: one part put to all sets -/
theorem lp2_need2 {p : Program} {l : Launch} {e : Env} {s : State} {m : MethodId} {args : Array Value} {below : List Frame} {meth : Method} {c : Code} {Q : State → Prop} {D : va_G} {ad : Nat → Nat} {ret : Option FieldType} {A : Nat → Prop} {dA : Nat → ClassId} {R : Room} {S nn tpn part : Nat} {one : Bool} {L : Nat → Nat} {sh wt : Nat → Int32} (hp0 : 0 < part) (hp : part < 64) (hL : ∀ t, t < 64 → L t ≤ 100) (B : bx p s m meth c cX2_seedsNeeded 5 ret args RX2 D (moT dA))
    (kk : ∀ (le : Nat → Int32) (H : Heap) (locs : List Loc) (ls : Array Slot), (∀ t, t < 64 → le t = nI (sd_V one part L 64 t)) → wd D A s.heap (moW ad dA (nI nn) (nI tpn) sh wt le) H locs → lv_has ls 5 [(0, .ref (ad 0)), (1, .int (nI S)), (2, .int (nI part)), (3, .int (nI one.toNat)), (4, .int (nI 64))] → W p l e R s m args below meth c H locs 0 0 Q (F0 m 138 ls [])) :
    ∀ (k i : Nat) (le : Nat → Int32) (H : Heap) (locs : List Loc) (ls : Array Slot), i + k = 64 → (∀ t, t < 64 → le t = nI (sd_V one part L i t)) → wd D A s.heap (moW ad dA (nI nn) (nI tpn) sh wt le) H locs → lv_has ls 5 [(0, .ref (ad 0)), (1, .int (nI S)), (2, .int (nI part)), (3, .int (nI one.toNat)), (4, .int (nI i))] → W p l e R s m args below meth c H locs 0 0 Q (F0 m 75 ls []) := by
  have hx := B.1.1
  have hb := B.1.2.1
  intro k
  induction k with
  | zero =>
    intro i le H locs ls hk hI hw hl
    have ei : i = 64 := by omega
    subst ei
    refine lv_iload hx hb dX2_seedsNeeded_75 (lv_at hl 4 rfl) ?_
    refine lv_bipush (v := nI 64) hx hb dX2_seedsNeeded_77 (by decide) ?_
    refine lv_icmp_ge (tgt := 138) hx hb dX2_seedsNeeded_79 (by decide) (fun _ => ?_) (fun cc => absurd (nI_le (by omega) (by omega)) cc)
    exact kk le H locs ls hI hw (lv_sub hl [0, 1, 2, 3, 4] rfl)
  | succ k ih =>
    intro i le H locs ls hk hI hw hl
    refine lv_iload hx hb dX2_seedsNeeded_75 (lv_at hl 4 rfl) ?_
    refine lv_bipush (v := nI 64) hx hb dX2_seedsNeeded_77 (by decide) ?_
    refine lv_icmp_ge (tgt := 138) hx hb dX2_seedsNeeded_79 (by decide) (fun cc => absurd cc (nI_ge (by omega) (by omega))) (fun _ => ?_)
    refine lv_iload_n hx hb dX2_seedsNeeded_82 rfl (lv_at hl 3 rfl) ?_
    refine lv_if_eq (tgt := 132) hx hb dX2_seedsNeeded_83 (by decide) (fun c1 => ?_) (fun c1 => ?_)
    · have eo := (sd_b0 one).mp c1
      subst eo
      refine lv_iinc (v := nI (i + 1)) (lv' := [(4, .int (nI (i + 1))), (0, .ref (ad 0)), (1, .int (nI S)), (2, .int (nI part)), (3, .int (nI false.toNat))]) hx hb dX2_seedsNeeded_132 hl (k := 4) rfl (nI_add i 1) (by decide) rfl (fun ls hl => ?_)
      refine lv_goto (tgt := 75) hx hb dX2_seedsNeeded_135 (by decide) ?_
      exact ih (i + 1) _ H locs ls (by omega) (sd_V_no hI) hw (lv_sub hl [1, 2, 3, 4, 0] rfl)
    · have eo : one = true := by
        cases one
        · exact absurd rfl c1
        · rfl
      subst eo
      refine lv_iload hx hb dX2_seedsNeeded_86 (lv_at hl 4 rfl) ?_
      refine lv_iload_n hx hb dX2_seedsNeeded_88 rfl (lv_at hl 2 rfl) ?_
      refine lv_iand hx hb dX2_seedsNeeded_89 ?_
      refine s_top (y := nI (i &&& part)) (fa_and _ _) ?_
      refine lv_if_ne (tgt := 132) hx hb dX2_seedsNeeded_90 (by decide) (fun c2 => ?_) (fun c2 => ?_)
      · refine lv_iinc (v := nI (i + 1)) (lv' := [(4, .int (nI (i + 1))), (0, .ref (ad 0)), (1, .int (nI S)), (2, .int (nI part)), (3, .int (nI true.toNat))]) hx hb dX2_seedsNeeded_132 hl (k := 4) rfl (nI_add i 1) (by decide) rfl (fun ls hl => ?_)
        refine lv_goto (tgt := 75) hx hb dX2_seedsNeeded_135 (by decide) ?_
        exact ih (i + 1) _ H locs ls (by omega) (sd_V_me (fun q => c2 (by rw [q]; rfl)) hI) hw (lv_sub hl [1, 2, 3, 4, 0] rfl)
      · have hd : i &&& part = 0 := (nI_eq (b := 0) (Nat.lt_trans (sd_and64 (show i < 64 by omega)) (by omega)) (by omega)).mp c2
        have ho := sd_or64 (show i < 64 by omega) hp
        have v1 := hI i (by omega)
        rw [sd_V_self hp0 hd] at v1
        have v2 := hI (i ||| part) ho
        rw [sd_V_at hd] at v2
        have l1 := hL i (by omega)
        have l2 := hL _ ho
        refine lv_aload_n hx hb dX2_seedsNeeded_93 rfl (lv_at hl 0 rfl) ?_
        refine s_get2 (v := .ref (ad 3)) B hw 4 (by decide) q160 rfl rfl dX2_seedsNeeded_94 ?_
        refine lv_iload hx hb dX2_seedsNeeded_97 (lv_at hl 4 rfl) ?_
        refine s_iald B hw 3 2 rfl rfl (i := i) (by omega) (by decide) dX2_seedsNeeded_99 ?_
        refine s_top (y := nI (L i)) (v1) ?_
        refine lv_iconst (v := nI 1) hx hb dX2_seedsNeeded_100 (by decide) ?_
        refine lv_iadd hx hb dX2_seedsNeeded_101 ?_
        refine s_top (y := nI ((L i) + 1)) (nI_add _ _) ?_
        refine lv_aload_n hx hb dX2_seedsNeeded_102 rfl (lv_at hl 0 rfl) ?_
        refine s_get2 (v := .ref (ad 3)) B hw 4 (by decide) q160 rfl rfl dX2_seedsNeeded_103 ?_
        refine lv_iload hx hb dX2_seedsNeeded_106 (lv_at hl 4 rfl) ?_
        refine lv_iload_n hx hb dX2_seedsNeeded_108 rfl (lv_at hl 2 rfl) ?_
        refine lv_ior hx hb dX2_seedsNeeded_109 ?_
        refine s_top (y := nI (i ||| part)) (fa_or _ _) ?_
        refine s_iald B hw 3 2 rfl rfl (i := (i ||| part)) (ho) (by decide) dX2_seedsNeeded_110 ?_
        refine s_top (y := nI (L (i ||| part))) (v2) ?_
        refine lv_icmp_ge (tgt := 132) hx hb dX2_seedsNeeded_111 (by decide) (fun c3 => ?_) (fun c3 => ?_)
        · refine lv_iinc (v := nI (i + 1)) (lv' := [(4, .int (nI (i + 1))), (0, .ref (ad 0)), (1, .int (nI S)), (2, .int (nI part)), (3, .int (nI true.toNat))]) hx hb dX2_seedsNeeded_132 hl (k := 4) rfl (nI_add i 1) (by decide) rfl (fun ls hl => ?_)
          refine lv_goto (tgt := 75) hx hb dX2_seedsNeeded_135 (by decide) ?_
          exact ih (i + 1) _ H locs ls (by omega) (sd_V_st hd hI (by have := (nI_leI (by omega) (by omega)).mp c3; omega)) hw (lv_sub hl [1, 2, 3, 4, 0] rfl)
        · refine lv_aload_n hx hb dX2_seedsNeeded_114 rfl (lv_at hl 0 rfl) ?_
          refine s_get2 (v := .ref (ad 3)) B hw 4 (by decide) q160 rfl rfl dX2_seedsNeeded_115 ?_
          refine lv_iload hx hb dX2_seedsNeeded_118 (lv_at hl 4 rfl) ?_
          refine lv_iload_n hx hb dX2_seedsNeeded_120 rfl (lv_at hl 2 rfl) ?_
          refine lv_ior hx hb dX2_seedsNeeded_121 ?_
          refine s_top (y := nI (i ||| part)) (fa_or _ _) ?_
          refine lv_aload_n hx hb dX2_seedsNeeded_122 rfl (lv_at hl 0 rfl) ?_
          refine s_get2 (v := .ref (ad 3)) B hw 4 (by decide) q160 rfl rfl dX2_seedsNeeded_123 ?_
          refine lv_iload hx hb dX2_seedsNeeded_126 (lv_at hl 4 rfl) ?_
          refine s_iald B hw 3 2 rfl rfl (i := i) (by omega) (by decide) dX2_seedsNeeded_128 ?_
          refine s_top (y := nI (L i)) (v1) ?_
          refine lv_iconst (v := nI 1) hx hb dX2_seedsNeeded_129 (by decide) ?_
          refine lv_iadd hx hb dX2_seedsNeeded_130 ?_
          refine s_top (y := nI ((L i) + 1)) (nI_add _ _) ?_
          refine s_iast B hw 3 2 rfl rfl (i := (i ||| part)) (ho) (by decide) dX2_seedsNeeded_131 (fun H locs (hw : wd D A _ (moW ad dA (nI nn) (nI tpn) sh wt (upd le (i ||| part) (nI ((L i) + 1)))) H locs) => ?_)
          refine lv_iinc (v := nI (i + 1)) (lv' := [(4, .int (nI (i + 1))), (0, .ref (ad 0)), (1, .int (nI S)), (2, .int (nI part)), (3, .int (nI true.toNat))]) hx hb dX2_seedsNeeded_132 hl (k := 4) rfl (nI_add i 1) (by decide) rfl (fun ls hl => ?_)
          refine lv_goto (tgt := 75) hx hb dX2_seedsNeeded_135 (by decide) ?_
          exact ih (i + 1) _ H locs ls (by omega) (sd_V_up hd hI (Nat.lt_of_not_le (fun q => c3 ((nI_leI (by omega) (by omega)).mpr q)))) hw (lv_sub hl [1, 2, 3, 4, 0] rfl)
set_option maxHeartbeats 4000000 in
set_option maxRecDepth 100000 in
/-- seedsNeeded: the parts, one by one -/
theorem lp2_need1 {p : Program} {l : Launch} {e : Env} {s : State} {m : MethodId} {args : Array Value} {below : List Frame} {meth : Method} {c : Code} {Q : State → Prop} {D : va_G} {ad : Nat → Nat} {ret : Option FieldType} {A : Nat → Prop} {dA : Nat → ClassId} {S : Nat} {nn tpn : Nat} {shn wtn : Nat → Nat} {sh wt : Nat → Int32} (hst : sd_ST nn tpn shn wtn sh wt) (hS : S < 64) (B : bx p s m meth c cX2_seedsNeeded 5 ret args RX2 D (moT dA))
    (kk : ∀ (L : Nat → Nat) (le : Nat → Int32) (H : Heap) (locs : List Loc) (ls : Array Slot), (∀ t, t < 64 → le t = nI (L t) ∧ sd_M (fun k => sd_F (fun g => g &&& S = g ∧ sd_ok nn tpn shn wtn g) 63 k t) (L t)) → wd D A s.heap (moW ad dA (nI nn) (nI tpn) sh wt le) H locs → lv_has ls 5 [(0, .ref (ad 0)), (1, .int (nI S)), (2, .int (nI 64))] → W p l e (rmK 4) s m args below meth c H locs 0 0 Q (F0 m 144 ls [])) :
    ∀ (k q : Nat) (L : Nat → Nat) (le : Nat → Int32) (H : Heap) (locs : List Loc) (ls : Array Slot), q + k = 63 → (∀ t, t < 64 → le t = nI (L t) ∧ sd_M (fun k => sd_F (fun g => g &&& S = g ∧ sd_ok nn tpn shn wtn g) q k t) (L t)) → wd D A s.heap (moW ad dA (nI nn) (nI tpn) sh wt le) H locs → lv_has ls 5 [(0, .ref (ad 0)), (1, .int (nI S)), (2, .int (nI (q + 1)))] → W p l e (rmK 4) s m args below meth c H locs 0 0 Q (F0 m 42 ls []) := by
  have hx := B.1.1
  have hb := B.1.2.1
  have h8 := sd_p8 hst.2.1
  have hn8 := hst.2.1
  intro k
  induction k with
  | zero =>
    intro q L le H locs ls hk hI hw hl
    have ei : q = 63 := by omega
    subst ei
    refine lv_iload_n hx hb dX2_seedsNeeded_42 rfl (lv_at hl 2 rfl) ?_
    refine lv_bipush (v := nI 64) hx hb dX2_seedsNeeded_43 (by decide) ?_
    refine lv_icmp_ge (tgt := 144) hx hb dX2_seedsNeeded_45 (by decide) (fun _ => ?_) (fun cc => absurd (nI_le (by omega) (by omega)) cc)
    exact kk L le H locs ls hI hw (lv_sub hl [0, 1, 2] rfl)
  | succ k ih =>
    intro q L le H locs ls hk hI hw hl
    refine lv_iload_n hx hb dX2_seedsNeeded_42 rfl (lv_at hl 2 rfl) ?_
    refine lv_bipush (v := nI 64) hx hb dX2_seedsNeeded_43 (by decide) ?_
    refine lv_icmp_ge (tgt := 144) hx hb dX2_seedsNeeded_45 (by decide) (fun cc => absurd cc (nI_ge (by omega) (by omega))) (fun _ => ?_)
    refine lv_iload_n hx hb dX2_seedsNeeded_48 rfl (lv_at hl 2 rfl) ?_
    refine lv_iload_n hx hb dX2_seedsNeeded_49 rfl (lv_at hl 1 rfl) ?_
    refine lv_iconst (v := (-1)) hx hb dX2_seedsNeeded_50 (by decide) ?_
    refine lv_ixor hx hb dX2_seedsNeeded_51 ?_
    refine lv_iand hx hb dX2_seedsNeeded_52 ?_
    refine s_top (y := nI (sd_df (q + 1) S)) (sd_not _ _) ?_
    refine lv_if_ne (tgt := 70) hx hb dX2_seedsNeeded_53 (by decide) (fun c1 => ?_) (fun c1 => ?_)
    · refine lv_iconst (v := nI 0) hx hb dX2_seedsNeeded_70 (by decide) ?_
      refine lv_istore_n (lv' := [(3, .int (nI 0)), (0, .ref (ad 0)), (1, .int (nI S)), (2, .int (nI (q + 1)))]) hx hb dX2_seedsNeeded_71 rfl hl (by decide) rfl (fun ls hl => ?_)
      refine lv_iconst (v := nI 0) hx hb dX2_seedsNeeded_72 (by decide) ?_
      refine lv_istore (lv' := [(4, .int (nI 0)), (3, .int (nI 0)), (0, .ref (ad 0)), (1, .int (nI S)), (2, .int (nI (q + 1)))]) hx hb dX2_seedsNeeded_73 hl (by decide) rfl (fun ls hl => ?_)
      refine lp2_need2 (one := false) (L := L) (show 0 < q + 1 by omega) (show q + 1 < 64 by omega) (fun t ht => sd_M_le (hI t ht).2) B (fun le2 H locs ls hI2 hw hl => ?_) 64 0 le H locs ls rfl (fun t ht => by rw [sd_V_0]; exact (hI t ht).1) hw (lv_sub hl [2, 3, 4, 1, 0] rfl)
      refine lv_iinc (v := nI (q + 1 + 1)) (lv' := [(2, .int (nI (q + 1 + 1))), (0, .ref (ad 0)), (1, .int (nI S)), (3, .int (nI false.toNat)), (4, .int (nI 64))]) hx hb dX2_seedsNeeded_138 hl (k := 2) rfl (nI_add (q + 1) 1) (by decide) rfl (fun ls hl => ?_)
      refine lv_goto (tgt := 42) hx hb dX2_seedsNeeded_141 (by decide) ?_
      have hA := sd_V_all (ok := (fun g => g &&& S = g ∧ sd_ok nn tpn shn wtn g)) (p := q) (one := false) (L := L) (by omega) (⟨fun z => (by cases z), fun z => absurd z (fun y => c1 (by rw [sd_df_zero.mpr y.1]; rfl))⟩) (fun t ht => (hI t ht).2)
      exact ih (q + 1) _ le2 H locs ls (by omega) (fun t ht => ⟨hI2 t ht, hA t ht⟩) hw (lv_sub hl [1, 2, 0] rfl)
    · have hsub := sd_df_zero.mp ((nI_eq (b := 0) (Nat.lt_trans (sd_df_lt64 (show q + 1 < 64 by omega)) (by omega)) (by omega)).mp c1)
      refine lv_aload_n hx hb dX2_seedsNeeded_56 rfl (lv_at hl 0 rfl) ?_
      refine lv_iload_n hx hb dX2_seedsNeeded_57 rfl (lv_at hl 2 rfl) ?_
      refine s_call (As := [.int (nI (q + 1))]) (rest := []) (ci := 1) (ct2_firstSeed l D hst (show q + 1 < 64 by omega)) B hw (lw_V q216 q218 qs16 q19 q219) rfl rfl rfl ⟨cn2_firstSeed, rfl, rfl, by decide, by decide⟩ ⟨Nat.zero_le _, Nat.zero_le _⟩ hl.1 (Nat.le_of_ble_eq_true rfl) dX2_seedsNeeded_58 (fun r _ H locs hp hw => ?_)
      have hw : wd D A _ (moW ad dA (nI nn) (nI tpn) sh wt le) H locs := hw
      refine lv_bipush (v := (-2)) hx hb dX2_seedsNeeded_61 (by decide) ?_
      refine lv_icmp_eq (tgt := 70) hx hb dX2_seedsNeeded_63 (by decide) (fun c2 => ?_) (fun c2 => ?_)
      · refine lv_iconst (v := nI 0) hx hb dX2_seedsNeeded_70 (by decide) ?_
        refine lv_istore_n (lv' := [(3, .int (nI 0)), (0, .ref (ad 0)), (1, .int (nI S)), (2, .int (nI (q + 1)))]) hx hb dX2_seedsNeeded_71 rfl hl (by decide) rfl (fun ls hl => ?_)
        refine lv_iconst (v := nI 0) hx hb dX2_seedsNeeded_72 (by decide) ?_
        refine lv_istore (lv' := [(4, .int (nI 0)), (3, .int (nI 0)), (0, .ref (ad 0)), (1, .int (nI S)), (2, .int (nI (q + 1)))]) hx hb dX2_seedsNeeded_73 hl (by decide) rfl (fun ls hl => ?_)
        refine lp2_need2 (one := false) (L := L) (show 0 < q + 1 by omega) (show q + 1 < 64 by omega) (fun t ht => sd_M_le (hI t ht).2) B (fun le2 H locs ls hI2 hw hl => ?_) 64 0 le H locs ls rfl (fun t ht => by rw [sd_V_0]; exact (hI t ht).1) hw (lv_sub hl [2, 3, 4, 1, 0] rfl)
        refine lv_iinc (v := nI (q + 1 + 1)) (lv' := [(2, .int (nI (q + 1 + 1))), (0, .ref (ad 0)), (1, .int (nI S)), (3, .int (nI false.toNat)), (4, .int (nI 64))]) hx hb dX2_seedsNeeded_138 hl (k := 2) rfl (nI_add (q + 1) 1) (by decide) rfl (fun ls hl => ?_)
        refine lv_goto (tgt := 42) hx hb dX2_seedsNeeded_141 (by decide) ?_
        have hA := sd_V_all (ok := (fun g => g &&& S = g ∧ sd_ok nn tpn shn wtn g)) (p := q) (one := false) (L := L) (by omega) (⟨fun z => (by cases z), fun z => absurd z (fun y => (sd_best_ok hn8 hp).mpr y.2 c2)⟩) (fun t ht => (hI t ht).2)
        exact ih (q + 1) _ le2 H locs ls (by omega) (fun t ht => ⟨hI2 t ht, hA t ht⟩) hw (lv_sub hl [1, 2, 0] rfl)
      · refine lv_iconst (v := nI 1) hx hb dX2_seedsNeeded_66 (by decide) ?_
        refine lv_goto (tgt := 71) hx hb dX2_seedsNeeded_67 (by decide) ?_
        refine lv_istore_n (lv' := [(3, .int (nI 1)), (0, .ref (ad 0)), (1, .int (nI S)), (2, .int (nI (q + 1)))]) hx hb dX2_seedsNeeded_71 rfl hl (by decide) rfl (fun ls hl => ?_)
        refine lv_iconst (v := nI 0) hx hb dX2_seedsNeeded_72 (by decide) ?_
        refine lv_istore (lv' := [(4, .int (nI 0)), (3, .int (nI 1)), (0, .ref (ad 0)), (1, .int (nI S)), (2, .int (nI (q + 1)))]) hx hb dX2_seedsNeeded_73 hl (by decide) rfl (fun ls hl => ?_)
        refine lp2_need2 (one := true) (L := L) (show 0 < q + 1 by omega) (show q + 1 < 64 by omega) (fun t ht => sd_M_le (hI t ht).2) B (fun le2 H locs ls hI2 hw hl => ?_) 64 0 le H locs ls rfl (fun t ht => by rw [sd_V_0]; exact (hI t ht).1) hw (lv_sub hl [2, 3, 4, 1, 0] rfl)
        refine lv_iinc (v := nI (q + 1 + 1)) (lv' := [(2, .int (nI (q + 1 + 1))), (0, .ref (ad 0)), (1, .int (nI S)), (3, .int (nI true.toNat)), (4, .int (nI 64))]) hx hb dX2_seedsNeeded_138 hl (k := 2) rfl (nI_add (q + 1) 1) (by decide) rfl (fun ls hl => ?_)
        refine lv_goto (tgt := 42) hx hb dX2_seedsNeeded_141 (by decide) ?_
        have hA := sd_V_all (ok := (fun g => g &&& S = g ∧ sd_ok nn tpn shn wtn g)) (p := q) (one := true) (L := L) (by omega) (⟨fun _ => ⟨hsub, (sd_best_ok hn8 hp).mp c2⟩, fun _ => rfl⟩) (fun t ht => (hI t ht).2)
        exact ih (q + 1) _ le2 H locs ls (by omega) (fun t ht => ⟨hI2 t ht, hA t ht⟩) hw (lv_sub hl [1, 2, 0] rfl)
set_option maxHeartbeats 4000000 in
set_option maxRecDepth 100000 in
/-- seedsNeeded: the fewest seeds that serve a set of cubes -/
theorem ct2_seedsNeeded (l : Launch) (D : va_G) {ad : Nat → Nat} {dA : Nat → ClassId} {nn tpn : Nat} {shn wtn : Nat → Nat} {sh wt le : Nat → Int32} (hst : sd_ST nn tpn shn wtn sh wt) (p0 : Int32) : ctI l yX2_seedsNeeded cX2_seedsNeeded 5 (some .int) (rmK 4) D (moT dA) (moW ad dA (nI nn) (nI tpn) sh wt le) [.ref (ad 0), .int p0] (fun r (_ : Nat → Int32) => sd_Aneed nn tpn shn wtn p0 r) (fun u => moW ad dA (nI nn) (nI tpn) sh wt u) := by
  refine ctI.of (by decide) (Nat.le_of_ble_eq_true rfl) ?_
  intro p e s m below meth c A ls B hw hl
  have hx := B.1.1
  have hb := B.1.2.1
  have hl : lv_has ls 5 [(0, .ref (ad 0)), (1, .int p0)] := hl
  have h8 := sd_p8 hst.2.1
  have h3 := hst.1
  have hn8 := hst.2.1
  refine lv_aload_n hx hb dX2_seedsNeeded_0 rfl (lv_at hl 0 rfl) ?_
  refine lv_iload_n hx hb dX2_seedsNeeded_1 rfl (lv_at hl 1 rfl) ?_
  refine s_call (As := [.int p0]) (rest := []) (ci := 1) (ct2_isSet l D p0) B hw (lw_V q204 q206 qs14 q19 q207) rfl rfl rfl ⟨cn2_isSet, rfl, rfl, by decide, by decide⟩ ⟨Nat.zero_le _, Nat.zero_le _⟩ hl.1 (Nat.le_of_ble_eq_true rfl) dX2_seedsNeeded_2 (fun r0 _ H locs hp hw => ?_)
  have hw : wd D A _ (moW ad dA (nI nn) (nI tpn) sh wt le) H locs := hw
  refine lv_if_ne (tgt := 10) hx hb dX2_seedsNeeded_5 (by decide) (fun c1 => ?_) (fun c1 => ?_)
  · obtain ⟨S, hS, e0⟩ := sd_yn_ne hp c1
    subst e0
    refine lv_iconst (v := nI 0) hx hb dX2_seedsNeeded_10 (by decide) ?_
    refine lv_istore_n (lv' := [(2, .int (nI 0)), (0, .ref (ad 0)), (1, .int (nI S))]) hx hb dX2_seedsNeeded_11 rfl hl (by decide) rfl (fun ls hl => ?_)
    refine lp2_need0 B (fun le1 H locs ls hI hw hl => ?_) 64 0 le _ _ ls rfl (fun t ht => absurd ht (Nat.not_lt_zero t)) hw (lv_sub hl [1, 2, 0] rfl)
    refine lv_iconst (v := nI 1) hx hb dX2_seedsNeeded_40 (by decide) ?_
    refine lv_istore_n (lv' := [(2, .int (nI 1)), (0, .ref (ad 0)), (1, .int (nI S))]) hx hb dX2_seedsNeeded_41 rfl hl (by decide) rfl (fun ls hl => ?_)
    refine lp2_need1 hst hS B (fun L le2 H locs ls hI hw hl => ?_) 63 0 (fun t => if t = 0 then 0 else 100) le1 _ _ ls rfl (fun t ht => ⟨hI t ht, sd_M_0 t⟩) hw (lv_sub hl [1, 2, 0] rfl)
    have hv := (hI S hS).1
    have hl1 := sd_M_le (hI S hS).2
    have hm := sd_min_iff (sd_M_min (hI S hS).2) (fun k => sd_F_in (Nat.and_self S))
    refine lv_aload_n hx hb dX2_seedsNeeded_144 rfl (lv_at hl 0 rfl) ?_
    refine s_get2 (v := .ref (ad 3)) B hw 4 (by decide) q160 rfl rfl dX2_seedsNeeded_145 ?_
    refine lv_iload_n hx hb dX2_seedsNeeded_148 rfl (lv_at hl 1 rfl) ?_
    refine s_iald B hw 3 2 rfl rfl (i := S) (by omega) (by decide) dX2_seedsNeeded_149 ?_
    refine s_top (y := nI (L S)) (hv) ?_
    refine lv_bipush (v := nI 100) hx hb dX2_seedsNeeded_150 (by decide) ?_
    refine lv_icmp_ne (tgt := 160) hx hb dX2_seedsNeeded_152 (by decide) (fun c2 => ?_) (fun c2 => ?_)
    · refine lv_aload_n hx hb dX2_seedsNeeded_160 rfl (lv_at hl 0 rfl) ?_
      refine s_get2 (v := .ref (ad 3)) B hw 4 (by decide) q160 rfl rfl dX2_seedsNeeded_161 ?_
      refine lv_iload_n hx hb dX2_seedsNeeded_164 rfl (lv_at hl 1 rfl) ?_
      refine s_iald B hw 3 2 rfl rfl (i := S) (by omega) (by decide) dX2_seedsNeeded_165 ?_
      refine s_top (y := nI (L S)) (hv) ?_
      exact s_ret (v := nI (L S)) le2 B rfl hw (Or.inl ⟨S, hS, rfl, by rw [if_neg (fun z => c2 (by rw [z]))] at hm; exact hm⟩) dX2_seedsNeeded_166
    · refine lv_bipush (v := (-2)) hx hb dX2_seedsNeeded_155 (by decide) ?_
      refine lv_goto (tgt := 166) hx hb dX2_seedsNeeded_157 (by decide) ?_
      exact s_ret (v := (-2)) le2 B rfl hw (Or.inl ⟨S, hS, rfl, by rw [if_pos ((nI_eq (by omega) (by omega)).mp c2)] at hm; exact hm⟩) dX2_seedsNeeded_166
  · refine lv_iconst (v := (-1)) hx hb dX2_seedsNeeded_8 (by decide) ?_
    exact s_ret (v := (-1)) le B rfl hw (Or.inr ⟨sd_yn_eq hp c1, rfl⟩) dX2_seedsNeeded_9
end
section
/-! SeedSolver: isPlace, isCubeSet, parity, sumOfForms, makeForms (printed by gen/x1a.py) -/
set_option maxHeartbeats 4000000 in
set_option maxRecDepth 100000 in
/-- isPlace: a cycle below 16, a chain below 4 -/
theorem ct1_isPlace (l : Launch) (D : va_G) {ad : Nat → Nat} {dA : Nat → ClassId} {nn tpn : Nat} {fr rv gr : Int32} {sh wt fm bf eq rs gd nd : Nat → Int32} (p0 p1 : Int32) : ctI l yX1_isPlace cX1_isPlace 3 (some .boolean) (rmK 0) D (svT dA) (svW ad dA (nI nn) (nI tpn) fr rv gr sh wt fm bf eq rs gd nd) [.ref (ad 0), .int p0, .int p1] (fun r (_ : Unit) => sd_yn r (sd_in p0 16 ∧ sd_in p1 4)) (fun _ => svW ad dA (nI nn) (nI tpn) fr rv gr sh wt fm bf eq rs gd nd) := by
  refine ctI.of (by decide) (Nat.le_of_ble_eq_true rfl) ?_
  intro p e s m below meth c A ls B hw hl
  have hx := B.1.1
  have hb := B.1.2.1
  have hl : lv_has ls 3 [(0, .ref (ad 0)), (1, .int p0), (2, .int p1)] := hl
  refine lv_iload_n hx hb dX1_isPlace_0 rfl (lv_at hl 1 rfl) ?_
  refine lv_if_lt (tgt := 23) hx hb dX1_isPlace_1 (by decide) (fun c1 => ?_) (fun c1 => ?_)
  · refine lv_iconst (v := nI 0) hx hb dX1_isPlace_23 (by decide) ?_
    exact s_ret (v := nI 0) () B rfl hw (Or.inr ⟨rfl, fun h => sd_out_neg (by omega) c1 h.1⟩) dX1_isPlace_24
  · refine lv_iload_n hx hb dX1_isPlace_4 rfl (lv_at hl 1 rfl) ?_
    refine lv_bipush (v := nI 15) hx hb dX1_isPlace_5 (by decide) ?_
    refine lv_icmp_gt (tgt := 23) hx hb dX1_isPlace_7 (by decide) (fun c2 => ?_) (fun c2 => ?_)
    · refine lv_iconst (v := nI 0) hx hb dX1_isPlace_23 (by decide) ?_
      exact s_ret (v := nI 0) () B rfl hw (Or.inr ⟨rfl, fun h => sd_out_gt (b := 15) (by omega) c2 h.1⟩) dX1_isPlace_24
    · refine lv_iload_n hx hb dX1_isPlace_10 rfl (lv_at hl 2 rfl) ?_
      refine lv_if_lt (tgt := 23) hx hb dX1_isPlace_11 (by decide) (fun c3 => ?_) (fun c3 => ?_)
      · refine lv_iconst (v := nI 0) hx hb dX1_isPlace_23 (by decide) ?_
        exact s_ret (v := nI 0) () B rfl hw (Or.inr ⟨rfl, fun h => sd_out_neg (by omega) c3 h.2⟩) dX1_isPlace_24
      · refine lv_iload_n hx hb dX1_isPlace_14 rfl (lv_at hl 2 rfl) ?_
        refine lv_iconst (v := nI 3) hx hb dX1_isPlace_15 (by decide) ?_
        refine lv_icmp_gt (tgt := 23) hx hb dX1_isPlace_16 (by decide) (fun c4 => ?_) (fun c4 => ?_)
        · refine lv_iconst (v := nI 0) hx hb dX1_isPlace_23 (by decide) ?_
          exact s_ret (v := nI 0) () B rfl hw (Or.inr ⟨rfl, fun h => sd_out_gt (b := 3) (by omega) c4 h.2⟩) dX1_isPlace_24
        · refine lv_iconst (v := nI 1) hx hb dX1_isPlace_19 (by decide) ?_
          refine lv_goto (tgt := 24) hx hb dX1_isPlace_20 (by decide) ?_
          exact s_ret (v := nI 1) () B rfl hw (Or.inl ⟨rfl, sd_in_le (b := 15) (by omega) c1 c2, sd_in_le (b := 3) (by omega) c3 c4⟩) dX1_isPlace_24
set_option maxHeartbeats 4000000 in
set_option maxRecDepth 100000 in
/-- isCubeSet: a number below 64 -/
theorem ct1_isCubeSet (l : Launch) (D : va_G) {ad : Nat → Nat} {dA : Nat → ClassId} {nn tpn : Nat} {fr rv gr : Int32} {sh wt fm bf eq rs gd nd : Nat → Int32} (p0 : Int32) : ctI l yX1_isCubeSet cX1_isCubeSet 2 (some .boolean) (rmK 0) D (svT dA) (svW ad dA (nI nn) (nI tpn) fr rv gr sh wt fm bf eq rs gd nd) [.ref (ad 0), .int p0] (fun r (_ : Unit) => sd_yn r (sd_in p0 64)) (fun _ => svW ad dA (nI nn) (nI tpn) fr rv gr sh wt fm bf eq rs gd nd) := by
  refine ctI.of (by decide) (Nat.le_of_ble_eq_true rfl) ?_
  intro p e s m below meth c A ls B hw hl
  have hx := B.1.1
  have hb := B.1.2.1
  have hl : lv_has ls 2 [(0, .ref (ad 0)), (1, .int p0)] := hl
  refine lv_iload_n hx hb dX1_isCubeSet_0 rfl (lv_at hl 1 rfl) ?_
  refine lv_if_lt (tgt := 14) hx hb dX1_isCubeSet_1 (by decide) (fun c1 => ?_) (fun c1 => ?_)
  · refine lv_iconst (v := nI 0) hx hb dX1_isCubeSet_14 (by decide) ?_
    exact s_ret (v := nI 0) () B rfl hw (Or.inr ⟨rfl, sd_out_neg (by omega) c1⟩) dX1_isCubeSet_15
  · refine lv_iload_n hx hb dX1_isCubeSet_4 rfl (lv_at hl 1 rfl) ?_
    refine lv_bipush (v := nI 63) hx hb dX1_isCubeSet_5 (by decide) ?_
    refine lv_icmp_gt (tgt := 14) hx hb dX1_isCubeSet_7 (by decide) (fun c2 => ?_) (fun c2 => ?_)
    · refine lv_iconst (v := nI 0) hx hb dX1_isCubeSet_14 (by decide) ?_
      exact s_ret (v := nI 0) () B rfl hw (Or.inr ⟨rfl, sd_out_gt (b := 63) (by omega) c2⟩) dX1_isCubeSet_15
    · refine lv_iconst (v := nI 1) hx hb dX1_isCubeSet_10 (by decide) ?_
      refine lv_goto (tgt := 15) hx hb dX1_isCubeSet_11 (by decide) ?_
      exact s_ret (v := nI 1) () B rfl hw (Or.inl ⟨rfl, sd_in_le (b := 63) (by omega) c1 c2⟩) dX1_isCubeSet_15
set_option maxHeartbeats 4000000 in
set_option maxRecDepth 100000 in
/-- parity: its loop -/
theorem lp1_parity {p : Program} {l : Launch} {e : Env} {s : State} {m : MethodId} {args : Array Value} {below : List Frame} {meth : Method} {c : Code} {Q : State → Prop} {D : va_G} {ad : Nat → Nat} {ret : Option FieldType} {R : Room} {H : Heap} {locs : List Loc} {dA : Nat → ClassId} {mm : Nat} (hm : mm < 2 ^ 31) (B : bx p s m meth c cX1_parity 4 ret args RX1 D (svT dA))
    (kk : ∀ (ls : Array Slot), lv_has ls 4 [(0, .ref (ad 0)), (1, .int (nI mm)), (2, .int (nI ((sd_par 8 mm).toNat))), (3, .int (nI 8))] → W p l e R s m args below meth c H locs 0 0 Q (F0 m 24 ls [])) :
    ∀ (k b : Nat) (ls : Array Slot), b + k = 8 → lv_has ls 4 [(0, .ref (ad 0)), (1, .int (nI mm)), (2, .int (nI ((sd_par b mm).toNat))), (3, .int (nI b))] → W p l e R s m args below meth c H locs 0 0 Q (F0 m 4 ls []) := by
  have hx := B.1.1
  have hb := B.1.2.1
  intro k
  induction k with
  | zero =>
    intro b ls hk hl
    have eb : b = 8 := by omega
    subst eb
    refine lv_iload_n hx hb dX1_parity_4 rfl (lv_at hl 3 rfl) ?_
    refine lv_bipush (v := nI 8) hx hb dX1_parity_5 (by decide) ?_
    refine lv_icmp_ge (tgt := 24) hx hb dX1_parity_7 (by decide) (fun _ => ?_) (fun cc => absurd (nI_le (by omega) (by omega)) cc)
    exact kk ls (lv_sub hl [0, 1, 2, 3] rfl)
  | succ k ih =>
    intro b ls hk hl
    refine lv_iload_n hx hb dX1_parity_4 rfl (lv_at hl 3 rfl) ?_
    refine lv_bipush (v := nI 8) hx hb dX1_parity_5 (by decide) ?_
    refine lv_icmp_ge (tgt := 24) hx hb dX1_parity_7 (by decide) (fun cc => absurd cc (nI_ge (by omega) (by omega))) (fun _ => ?_)
    refine lv_iload_n hx hb dX1_parity_10 rfl (lv_at hl 2 rfl) ?_
    refine lv_iload_n hx hb dX1_parity_11 rfl (lv_at hl 1 rfl) ?_
    refine lv_iload_n hx hb dX1_parity_12 rfl (lv_at hl 3 rfl) ?_
    refine lv_ishr hx hb dX1_parity_13 ?_
    refine lv_iconst (v := nI 1) hx hb dX1_parity_14 (by decide) ?_
    refine lv_iand hx hb dX1_parity_15 ?_
    refine s_top (y := nI ((mm.testBit b).toNat)) (sd_bit hm (by omega)) ?_
    refine lv_ixor hx hb dX1_parity_16 ?_
    refine s_top (y := nI ((sd_par (b + 1) mm).toNat)) (sd_xorb _ _) ?_
    refine lv_istore_n (lv' := [(2, .int (nI ((sd_par (b + 1) mm).toNat))), (0, .ref (ad 0)), (1, .int (nI mm)), (3, .int (nI b))]) hx hb dX1_parity_17 rfl hl (by decide) rfl (fun ls hl => ?_)
    refine lv_iinc (v := nI (b + 1)) (lv' := [(3, .int (nI (b + 1))), (2, .int (nI ((sd_par (b + 1) mm).toNat))), (0, .ref (ad 0)), (1, .int (nI mm))]) hx hb dX1_parity_18 hl (k := 3) rfl (nI_add b 1) (by decide) rfl (fun ls hl => ?_)
    refine lv_goto (tgt := 4) hx hb dX1_parity_21 (by decide) ?_
    exact ih (b + 1) ls (by omega) (lv_sub hl [2, 3, 1, 0] rfl)
set_option maxHeartbeats 4000000 in
set_option maxRecDepth 100000 in
/-- parity of the low eight bits -/
theorem ct1_parity (l : Launch) (D : va_G) {ad : Nat → Nat} {dA : Nat → ClassId} {nn tpn : Nat} {fr rv gr : Int32} {sh wt fm bf eq rs gd nd : Nat → Int32} {mm : Nat} (hm : mm < 2 ^ 31) : ctI l yX1_parity cX1_parity 4 (some .int) (rmK 0) D (svT dA) (svW ad dA (nI nn) (nI tpn) fr rv gr sh wt fm bf eq rs gd nd) [.ref (ad 0), .int (nI mm)] (fun r (_ : Unit) => r = nI (sd_par 8 mm).toNat) (fun _ => svW ad dA (nI nn) (nI tpn) fr rv gr sh wt fm bf eq rs gd nd) := by
  refine ctI.of (by decide) (Nat.le_of_ble_eq_true rfl) ?_
  intro p e s m below meth c A ls B hw hl
  have hx := B.1.1
  have hb := B.1.2.1
  have hl : lv_has ls 4 [(0, .ref (ad 0)), (1, .int (nI mm))] := hl
  refine lv_iconst (v := nI 0) hx hb dX1_parity_0 (by decide) ?_
  refine lv_istore_n (lv' := [(2, .int (nI 0)), (0, .ref (ad 0)), (1, .int (nI mm))]) hx hb dX1_parity_1 rfl hl (by decide) rfl (fun ls hl => ?_)
  refine lv_iconst (v := nI 0) hx hb dX1_parity_2 (by decide) ?_
  refine lv_istore_n (lv' := [(3, .int (nI 0)), (2, .int (nI 0)), (0, .ref (ad 0)), (1, .int (nI mm))]) hx hb dX1_parity_3 rfl hl (by decide) rfl (fun ls hl => ?_)
  refine lp1_parity hm B (fun ls hl => ?_) 8 0 ls rfl (lv_sub hl [2, 3, 1, 0] rfl)
  refine lv_iload_n hx hb dX1_parity_24 rfl (lv_at hl 2 rfl) ?_
  exact s_ret (v := nI ((sd_par 8 mm).toNat)) () B rfl hw (rfl) dX1_parity_25
set_option maxHeartbeats 4000000 in
set_option maxRecDepth 100000 in
/-- sumOfForms: its loop -/
theorem lp1_sumOfForms {p : Program} {l : Launch} {e : Env} {s : State} {m : MethodId} {args : Array Value} {below : List Frame} {meth : Method} {c : Code} {Q : State → Prop} {D : va_G} {ad : Nat → Nat} {ret : Option FieldType} {A : Nat → Prop} {dA : Nat → ClassId} {R : Room} {H : Heap} {locs : List Loc} {nn tpn : Nat} {fr rv gr : Int32} {sh wt fm bf eq rs gd nd : Nat → Int32} {mm : Nat} {ph : Nat → Nat → Bool} (hn8 : nn ≤ 8) (hm : mm < 2 ^ 31) (hbf : ∀ b, b < nn → sd_form nn (bf b) (ph b)) (hw : wd D A s.heap (svW ad dA (nI nn) (nI tpn) fr rv gr sh wt fm bf eq rs gd nd) H locs) (B : bx p s m meth c cX1_sumOfForms 4 ret args RX1 D (svT dA))
    (kk : ∀ (v : Int32) (ls : Array Slot), sd_form nn v (fun x => sd_xs (fun b => mm.testBit b && ph b x) nn) → lv_has ls 4 [(0, .ref (ad 0)), (1, .int (nI mm)), (2, .int v), (3, .int (nI nn))] → W p l e R s m args below meth c H locs 0 0 Q (F0 m 35 ls [])) :
    ∀ (k b : Nat) (v : Int32) (ls : Array Slot), b + k = nn → sd_form nn v (fun x => sd_xs (fun b => mm.testBit b && ph b x) b) → lv_has ls 4 [(0, .ref (ad 0)), (1, .int (nI mm)), (2, .int v), (3, .int (nI b))] → W p l e R s m args below meth c H locs 0 0 Q (F0 m 4 ls []) := by
  have hx := B.1.1
  have hb := B.1.2.1
  intro k
  induction k with
  | zero =>
    intro b v ls hk hv hl
    have eb : b = nn := by omega
    subst eb
    refine lv_iload_n hx hb dX1_sumOfForms_4 rfl (lv_at hl 3 rfl) ?_
    refine lv_aload_n hx hb dX1_sumOfForms_5 rfl (lv_at hl 0 rfl) ?_
    refine s_get1 (v := .int (nI b)) B hw 0 (by decide) q28 rfl rfl dX1_sumOfForms_6 ?_
    refine lv_icmp_ge (tgt := 35) hx hb dX1_sumOfForms_9 (by decide) (fun _ => ?_) (fun cc => absurd (nI_le (by omega) (by omega)) cc)
    exact kk v ls hv (lv_sub hl [0, 1, 2, 3] rfl)
  | succ k ih =>
    intro b v ls hk hv hl
    refine lv_iload_n hx hb dX1_sumOfForms_4 rfl (lv_at hl 3 rfl) ?_
    refine lv_aload_n hx hb dX1_sumOfForms_5 rfl (lv_at hl 0 rfl) ?_
    refine s_get1 (v := .int (nI nn)) B hw 0 (by decide) q28 rfl rfl dX1_sumOfForms_6 ?_
    refine lv_icmp_ge (tgt := 35) hx hb dX1_sumOfForms_9 (by decide) (fun cc => absurd cc (nI_ge (by omega) (by omega))) (fun _ => ?_)
    refine lv_iload_n hx hb dX1_sumOfForms_12 rfl (lv_at hl 1 rfl) ?_
    refine lv_iload_n hx hb dX1_sumOfForms_13 rfl (lv_at hl 3 rfl) ?_
    refine lv_ishr hx hb dX1_sumOfForms_14 ?_
    refine lv_iconst (v := nI 1) hx hb dX1_sumOfForms_15 (by decide) ?_
    refine lv_iand hx hb dX1_sumOfForms_16 ?_
    refine s_top (y := nI ((mm.testBit b).toNat)) (sd_bit hm (by omega)) ?_
    refine lv_if_eq (tgt := 29) hx hb dX1_sumOfForms_17 (by decide) (fun c1 => ?_) (fun c1 => ?_)
    · refine lv_iinc (v := nI (b + 1)) (lv' := [(3, .int (nI (b + 1))), (0, .ref (ad 0)), (1, .int (nI mm)), (2, .int v)]) hx hb dX1_sumOfForms_29 hl (k := 3) rfl (nI_add b 1) (by decide) rfl (fun ls hl => ?_)
      refine lv_goto (tgt := 4) hx hb dX1_sumOfForms_32 (by decide) ?_
      exact ih (b + 1) v ls (by omega) (sd_form_skip hv ((sd_b0 _).mp c1)) (lv_sub hl [1, 2, 3, 0] rfl)
    · refine lv_iload_n hx hb dX1_sumOfForms_20 rfl (lv_at hl 2 rfl) ?_
      refine lv_aload_n hx hb dX1_sumOfForms_21 rfl (lv_at hl 0 rfl) ?_
      refine s_get1 (v := .ref (ad 4)) B hw 6 (by decide) q34 rfl rfl dX1_sumOfForms_22 ?_
      refine lv_iload_n hx hb dX1_sumOfForms_25 rfl (lv_at hl 3 rfl) ?_
      refine s_iald B hw 4 3 rfl rfl (i := b) (by omega) (by decide) dX1_sumOfForms_26 ?_
      refine lv_ixor hx hb dX1_sumOfForms_27 ?_
      refine lv_istore_n (lv' := [(2, .int (v ^^^ (bf b))), (0, .ref (ad 0)), (1, .int (nI mm)), (3, .int (nI b))]) hx hb dX1_sumOfForms_28 rfl hl (by decide) rfl (fun ls hl => ?_)
      refine lv_iinc (v := nI (b + 1)) (lv' := [(3, .int (nI (b + 1))), (2, .int (v ^^^ (bf b))), (0, .ref (ad 0)), (1, .int (nI mm))]) hx hb dX1_sumOfForms_29 hl (k := 3) rfl (nI_add b 1) (by decide) rfl (fun ls hl => ?_)
      refine lv_goto (tgt := 4) hx hb dX1_sumOfForms_32 (by decide) ?_
      exact ih (b + 1) _ ls (by omega) (sd_form_take hv (hbf b (by omega)) (by cases hq : mm.testBit b; exact absurd ((sd_b0 _).mpr hq) c1; rfl)) (lv_sub hl [2, 3, 1, 0] rfl)
set_option maxHeartbeats 4000000 in
set_option maxRecDepth 100000 in
/-- sumOfForms: the sum of the forms that a number picks -/
theorem ct1_sumOfForms (l : Launch) (D : va_G) {ad : Nat → Nat} {dA : Nat → ClassId} {nn tpn : Nat} {fr rv gr : Int32} {sh wt fm bf eq rs gd nd : Nat → Int32} {mm : Nat} {ph : Nat → Nat → Bool} (hn8 : nn ≤ 8) (hm : mm < 2 ^ 31) (hbf : ∀ b, b < nn → sd_form nn (bf b) (ph b)) : ctI l yX1_sumOfForms cX1_sumOfForms 4 (some .int) (rmK 0) D (svT dA) (svW ad dA (nI nn) (nI tpn) fr rv gr sh wt fm bf eq rs gd nd) [.ref (ad 0), .int (nI mm)] (fun r (_ : Unit) => sd_form nn r (fun x => sd_xs (fun b => mm.testBit b && ph b x) nn)) (fun _ => svW ad dA (nI nn) (nI tpn) fr rv gr sh wt fm bf eq rs gd nd) := by
  refine ctI.of (by decide) (Nat.le_of_ble_eq_true rfl) ?_
  intro p e s m below meth c A ls B hw hl
  have hx := B.1.1
  have hb := B.1.2.1
  have hl : lv_has ls 4 [(0, .ref (ad 0)), (1, .int (nI mm))] := hl
  refine lv_iconst (v := nI 0) hx hb dX1_sumOfForms_0 (by decide) ?_
  refine lv_istore_n (lv' := [(2, .int (nI 0)), (0, .ref (ad 0)), (1, .int (nI mm))]) hx hb dX1_sumOfForms_1 rfl hl (by decide) rfl (fun ls hl => ?_)
  refine lv_iconst (v := nI 0) hx hb dX1_sumOfForms_2 (by decide) ?_
  refine lv_istore_n (lv' := [(3, .int (nI 0)), (2, .int (nI 0)), (0, .ref (ad 0)), (1, .int (nI mm))]) hx hb dX1_sumOfForms_3 rfl hl (by decide) rfl (fun ls hl => ?_)
  refine lp1_sumOfForms hn8 hm hbf hw B (fun v ls hv hl => ?_) nn 0 _ ls (by omega) sd_form_0 (lv_sub hl [2, 3, 1, 0] rfl)
  refine lv_iload_n hx hb dX1_sumOfForms_35 rfl (lv_at hl 2 rfl) ?_
  exact s_ret (v := v) () B rfl hw (hv) dX1_sumOfForms_36
set_option maxHeartbeats 4000000 in
set_option maxRecDepth 100000 in
/-- makeForms: the bits at the start -/
theorem lp1_mfA {p : Program} {l : Launch} {e : Env} {s : State} {m : MethodId} {args : Array Value} {below : List Frame} {meth : Method} {c : Code} {Q : State → Prop} {D : va_G} {ad : Nat → Nat} {ret : Option FieldType} {A : Nat → Prop} {dA : Nat → ClassId} {R : Room} {nn tpn : Nat} {fr rv gr : Int32} {sh wt fm eq rs gd nd : Nat → Int32} (hn8 : nn ≤ 8) (B : bx p s m meth c cX1_makeForms 3 ret args RX1 D (svT dA))
    (kk : ∀ (bf : Nat → Int32) (H : Heap) (locs : List Loc) (ls : Array Slot), (∀ j, j < nn → bf j = nI (2 ^ j)) → wd D A s.heap (svW ad dA (nI nn) (nI tpn) fr rv gr sh wt fm bf eq rs gd nd) H locs → lv_has ls 3 [(0, .ref (ad 0)), (1, .int (nI nn))] → W p l e R s m args below meth c H locs 0 0 Q (F0 m 33 ls [])) :
    ∀ (k b : Nat) (bf : Nat → Int32) (H : Heap) (locs : List Loc) (ls : Array Slot), b + k = nn → (∀ j, j < b → bf j = nI (2 ^ j)) → wd D A s.heap (svW ad dA (nI nn) (nI tpn) fr rv gr sh wt fm bf eq rs gd nd) H locs → lv_has ls 3 [(0, .ref (ad 0)), (1, .int (nI b))] → W p l e R s m args below meth c H locs 0 0 Q (F0 m 10 ls []) := by
  have hx := B.1.1
  have hb := B.1.2.1
  intro k
  induction k with
  | zero =>
    intro b bf H locs ls hk hI hw hl
    have eb : b = nn := by omega
    subst eb
    refine lv_iload_n hx hb dX1_makeForms_10 rfl (lv_at hl 1 rfl) ?_
    refine lv_aload_n hx hb dX1_makeForms_11 rfl (lv_at hl 0 rfl) ?_
    refine s_get1 (v := .int (nI b)) B hw 0 (by decide) q28 rfl rfl dX1_makeForms_12 ?_
    refine lv_icmp_ge (tgt := 33) hx hb dX1_makeForms_15 (by decide) (fun _ => ?_) (fun cc => absurd (nI_le (by omega) (by omega)) cc)
    exact kk bf H locs ls hI hw (lv_sub hl [0, 1] rfl)
  | succ k ih =>
    intro b bf H locs ls hk hI hw hl
    refine lv_iload_n hx hb dX1_makeForms_10 rfl (lv_at hl 1 rfl) ?_
    refine lv_aload_n hx hb dX1_makeForms_11 rfl (lv_at hl 0 rfl) ?_
    refine s_get1 (v := .int (nI nn)) B hw 0 (by decide) q28 rfl rfl dX1_makeForms_12 ?_
    refine lv_icmp_ge (tgt := 33) hx hb dX1_makeForms_15 (by decide) (fun cc => absurd cc (nI_ge (by omega) (by omega))) (fun _ => ?_)
    refine lv_aload_n hx hb dX1_makeForms_18 rfl (lv_at hl 0 rfl) ?_
    refine s_get1 (v := .ref (ad 4)) B hw 6 (by decide) q34 rfl rfl dX1_makeForms_19 ?_
    refine lv_iload_n hx hb dX1_makeForms_22 rfl (lv_at hl 1 rfl) ?_
    refine lv_iconst (v := nI 1) hx hb dX1_makeForms_23 (by decide) ?_
    refine lv_iload_n hx hb dX1_makeForms_24 rfl (lv_at hl 1 rfl) ?_
    refine lv_ishl hx hb dX1_makeForms_25 ?_
    refine s_top (y := nI (2 ^ b)) (sd_shl1 (by omega)) ?_
    refine s_iast B hw 4 3 rfl rfl (i := b) (by omega) (by decide) dX1_makeForms_26 (fun H locs (hw : wd D A _ (svW ad dA (nI nn) (nI tpn) fr rv gr sh wt fm (upd bf b (nI (2 ^ b))) eq rs gd nd) H locs) => ?_)
    refine lv_iinc (v := nI (b + 1)) (lv' := [(1, .int (nI (b + 1))), (0, .ref (ad 0))]) hx hb dX1_makeForms_27 hl (k := 1) rfl (nI_add b 1) (by decide) rfl (fun ls hl => ?_)
    refine lv_goto (tgt := 10) hx hb dX1_makeForms_30 (by decide) ?_
    exact ih (b + 1) _ H locs ls (by omega) (fun j hj => by
      by_cases e : j = b
      · subst e; exact pk_us
      · rw [pk_un e]; exact hI j (by omega)) hw (lv_sub hl [1, 0] rfl)
set_option maxHeartbeats 4000000 in
set_option maxRecDepth 100000 in
/-- makeForms: the chains of a cycle -/
theorem lp1_mfC {p : Program} {l : Launch} {e : Env} {s : State} {m : MethodId} {args : Array Value} {below : List Frame} {meth : Method} {c : Code} {Q : State → Prop} {D : va_G} {ad : Nat → Nat} {ret : Option FieldType} {A : Nat → Prop} {dA : Nat → ClassId} {t : Nat} {nn tpn : Nat} {shn wtn : Nat → Nat} {fr rv gr : Int32} {sh wt eq rs gd nd : Nat → Int32} {bf : Nat → Int32} (hst : sd_ST nn tpn shn wtn sh wt) (ht : t < 16) (hbf : sd_BF nn tpn t bf) (B : bx p s m meth c cX1_makeForms 3 ret args RX1 D (svT dA))
    (kk : ∀ (fm : Nat → Int32) (H : Heap) (locs : List Loc) (ls : Array Slot), sd_FO nn tpn shn fm (4 * t + 4) → wd D A s.heap (svW ad dA (nI nn) (nI tpn) fr rv gr sh wt fm bf eq rs gd nd) H locs → lv_has ls 3 [(0, .ref (ad 0)), (1, .int (nI t)), (2, .int (nI 4))] → W p l e (rmK 1) s m args below meth c H locs 0 0 Q (F0 m 74 ls [])) :
    ∀ (k ch : Nat) (fm : Nat → Int32) (H : Heap) (locs : List Loc) (ls : Array Slot), ch + k = 4 → sd_FO nn tpn shn fm (4 * t + ch) → wd D A s.heap (svW ad dA (nI nn) (nI tpn) fr rv gr sh wt fm bf eq rs gd nd) H locs → lv_has ls 3 [(0, .ref (ad 0)), (1, .int (nI t)), (2, .int (nI ch))] → W p l e (rmK 1) s m args below meth c H locs 0 0 Q (F0 m 43 ls []) := by
  have hx := B.1.1
  have hb := B.1.2.1
  have h8 := sd_p8 hst.2.1
  have h3 := hst.1
  have hn8 := hst.2.1
  intro k
  induction k with
  | zero =>
    intro ch fm H locs ls hk hI hw hl
    have eb : ch = 4 := by omega
    subst eb
    refine lv_iload_n hx hb dX1_makeForms_43 rfl (lv_at hl 2 rfl) ?_
    refine lv_iconst (v := nI 4) hx hb dX1_makeForms_44 (by decide) ?_
    refine lv_icmp_ge (tgt := 74) hx hb dX1_makeForms_45 (by decide) (fun _ => ?_) (fun cc => absurd (nI_le (by omega) (by omega)) cc)
    exact kk fm H locs ls hI hw (lv_sub hl [0, 1, 2] rfl)
  | succ k ih =>
    intro ch fm H locs ls hk hI hw hl
    have hsh := hst.2.2.2.1 ch (by omega)
    refine lv_iload_n hx hb dX1_makeForms_43 rfl (lv_at hl 2 rfl) ?_
    refine lv_iconst (v := nI 4) hx hb dX1_makeForms_44 (by decide) ?_
    refine lv_icmp_ge (tgt := 74) hx hb dX1_makeForms_45 (by decide) (fun cc => absurd cc (nI_ge (by omega) (by omega))) (fun _ => ?_)
    refine lv_aload_n hx hb dX1_makeForms_48 rfl (lv_at hl 0 rfl) ?_
    refine s_get1 (v := .ref (ad 3)) B hw 5 (by decide) q33 rfl rfl dX1_makeForms_49 ?_
    refine lv_iconst (v := nI 4) hx hb dX1_makeForms_52 (by decide) ?_
    refine lv_iload_n hx hb dX1_makeForms_53 rfl (lv_at hl 1 rfl) ?_
    refine lv_imul hx hb dX1_makeForms_54 ?_
    refine s_top (y := nI (4 * t)) (pk_mul _ _) ?_
    refine lv_iload_n hx hb dX1_makeForms_55 rfl (lv_at hl 2 rfl) ?_
    refine lv_iadd hx hb dX1_makeForms_56 ?_
    refine s_top (y := nI ((4 * t) + ch)) (nI_add _ _) ?_
    refine lv_aload_n hx hb dX1_makeForms_57 rfl (lv_at hl 0 rfl) ?_
    refine lv_aload_n hx hb dX1_makeForms_58 rfl (lv_at hl 0 rfl) ?_
    refine s_get1 (v := .ref (ad 1)) B hw 2 (by decide) q30 rfl rfl dX1_makeForms_59 ?_
    refine lv_iload_n hx hb dX1_makeForms_62 rfl (lv_at hl 2 rfl) ?_
    refine s_iald B hw 1 0 rfl rfl (i := ch) (by omega) (by decide) dX1_makeForms_63 ?_
    refine s_top (y := nI (shn ch)) (hsh.1) ?_
    refine s_call (As := [.int (nI (shn ch))]) (rest := [.int (nI ((4 * t) + ch)), .ref (ad 3)]) (ci := 0) (ct1_sumOfForms l D hn8 (show shn ch < 2 ^ 31 by omega) hbf) B hw (lw_V q91 q93 qs2 q18 q94) rfl rfl rfl ⟨cn1_sumOfForms, rfl, rfl, by decide, by decide⟩ ⟨Nat.zero_le _, Nat.zero_le _⟩ hl.1 (Nat.le_of_ble_eq_true rfl) dX1_makeForms_64 (fun r _ H locs hp hw => ?_)
    have hw : wd D A _ (svW ad dA (nI nn) (nI tpn) fr rv gr sh wt fm bf eq rs gd nd) H locs := hw
    refine s_iast B hw 3 2 rfl rfl (i := ((4 * t) + ch)) (by omega) (by decide) dX1_makeForms_67 (fun H locs (hw : wd D A _ (svW ad dA (nI nn) (nI tpn) fr rv gr sh wt (upd fm ((4 * t) + ch) r) bf eq rs gd nd) H locs) => ?_)
    refine lv_iinc (v := nI (ch + 1)) (lv' := [(2, .int (nI (ch + 1))), (0, .ref (ad 0)), (1, .int (nI t))]) hx hb dX1_makeForms_68 hl (k := 2) rfl (nI_add ch 1) (by decide) rfl (fun ls hl => ?_)
    refine lv_goto (tgt := 43) hx hb dX1_makeForms_71 (by decide) ?_
    exact ih (ch + 1) _ H locs ls (by omega) (sd_FO_s (by omega) hn8 (by omega) hI hp) hw (lv_sub hl [1, 2, 0] rfl)
set_option maxHeartbeats 4000000 in
set_option maxRecDepth 100000 in
/-- makeForms: the forms move down -/
theorem lp1_mfD {p : Program} {l : Launch} {e : Env} {s : State} {m : MethodId} {args : Array Value} {below : List Frame} {meth : Method} {c : Code} {Q : State → Prop} {D : va_G} {ad : Nat → Nat} {ret : Option FieldType} {A : Nat → Prop} {dA : Nat → ClassId} {R : Room} {nn tpn t : Nat} {fr rv gr : Int32} {sh wt fm eq rs gd nd bf0 : Nat → Int32} (hn8 : nn ≤ 8) (B : bx p s m meth c cX1_makeForms 3 ret args RX1 D (svT dA))
    (kk : ∀ (bf : Nat → Int32) (H : Heap) (locs : List Loc) (ls : Array Slot), sd_SH bf0 bf nn nn → wd D A s.heap (svW ad dA (nI nn) (nI tpn) fr rv gr sh wt fm bf eq rs gd nd) H locs → lv_has ls 3 [(0, .ref (ad 0)), (1, .int (nI t)), (2, .int (nI nn))] → W p l e R s m args below meth c H locs 0 0 Q (F0 m 121 ls [])) :
    ∀ (k b : Nat) (bf : Nat → Int32) (H : Heap) (locs : List Loc) (ls : Array Slot), b + k = nn → sd_SH bf0 bf nn b → wd D A s.heap (svW ad dA (nI nn) (nI tpn) fr rv gr sh wt fm bf eq rs gd nd) H locs → lv_has ls 3 [(0, .ref (ad 0)), (1, .int (nI t)), (2, .int (nI b))] → W p l e R s m args below meth c H locs 0 0 Q (F0 m 93 ls []) := by
  have hx := B.1.1
  have hb := B.1.2.1
  intro k
  induction k with
  | zero =>
    intro b bf H locs ls hk hI hw hl
    have eb : b = nn := by omega
    subst eb
    refine lv_iload_n hx hb dX1_makeForms_93 rfl (lv_at hl 2 rfl) ?_
    refine lv_aload_n hx hb dX1_makeForms_94 rfl (lv_at hl 0 rfl) ?_
    refine s_get1 (v := .int (nI b)) B hw 0 (by decide) q28 rfl rfl dX1_makeForms_95 ?_
    refine lv_icmp_ge (tgt := 121) hx hb dX1_makeForms_98 (by decide) (fun _ => ?_) (fun cc => absurd (nI_le (by omega) (by omega)) cc)
    exact kk bf H locs ls hI hw (lv_sub hl [0, 1, 2] rfl)
  | succ k ih =>
    intro b bf H locs ls hk hI hw hl
    refine lv_iload_n hx hb dX1_makeForms_93 rfl (lv_at hl 2 rfl) ?_
    refine lv_aload_n hx hb dX1_makeForms_94 rfl (lv_at hl 0 rfl) ?_
    refine s_get1 (v := .int (nI nn)) B hw 0 (by decide) q28 rfl rfl dX1_makeForms_95 ?_
    refine lv_icmp_ge (tgt := 121) hx hb dX1_makeForms_98 (by decide) (fun cc => absurd cc (nI_ge (by omega) (by omega))) (fun _ => ?_)
    refine lv_aload_n hx hb dX1_makeForms_101 rfl (lv_at hl 0 rfl) ?_
    refine s_get1 (v := .ref (ad 4)) B hw 6 (by decide) q34 rfl rfl dX1_makeForms_102 ?_
    refine lv_iload_n hx hb dX1_makeForms_105 rfl (lv_at hl 2 rfl) ?_
    refine lv_aload_n hx hb dX1_makeForms_106 rfl (lv_at hl 0 rfl) ?_
    refine s_get1 (v := .ref (ad 4)) B hw 6 (by decide) q34 rfl rfl dX1_makeForms_107 ?_
    refine lv_iload_n hx hb dX1_makeForms_110 rfl (lv_at hl 2 rfl) ?_
    refine lv_iconst (v := nI 1) hx hb dX1_makeForms_111 (by decide) ?_
    refine lv_iadd hx hb dX1_makeForms_112 ?_
    refine s_top (y := nI (b + 1)) (nI_add _ _) ?_
    refine s_iald B hw 4 3 rfl rfl (i := (b + 1)) (by omega) (by decide) dX1_makeForms_113 ?_
    refine s_iast B hw 4 3 rfl rfl (i := b) (by omega) (by decide) dX1_makeForms_114 (fun H locs (hw : wd D A _ (svW ad dA (nI nn) (nI tpn) fr rv gr sh wt fm (upd bf b (bf (b + 1))) eq rs gd nd) H locs) => ?_)
    refine lv_iinc (v := nI (b + 1)) (lv' := [(2, .int (nI (b + 1))), (0, .ref (ad 0)), (1, .int (nI t))]) hx hb dX1_makeForms_115 hl (k := 2) rfl (nI_add b 1) (by decide) rfl (fun ls hl => ?_)
    refine lv_goto (tgt := 93) hx hb dX1_makeForms_118 (by decide) ?_
    exact ih (b + 1) _ H locs ls (by omega) (sd_SH_s (by omega) hI) hw (lv_sub hl [1, 2, 0] rfl)
set_option maxHeartbeats 4000000 in
set_option maxRecDepth 100000 in
/-- makeForms: the cycles -/
theorem lp1_mfB {p : Program} {l : Launch} {e : Env} {s : State} {m : MethodId} {args : Array Value} {below : List Frame} {meth : Method} {c : Code} {Q : State → Prop} {D : va_G} {ad : Nat → Nat} {ret : Option FieldType} {A : Nat → Prop} {dA : Nat → ClassId} {nn tpn : Nat} {shn wtn : Nat → Nat} {fr rv gr : Int32} {sh wt eq rs gd nd : Nat → Int32} (hst : sd_ST nn tpn shn wtn sh wt) (B : bx p s m meth c cX1_makeForms 3 ret args RX1 D (svT dA))
    (kk : ∀ (fm bf : Nat → Int32) (H : Heap) (locs : List Loc) (ls : Array Slot), sd_FO nn tpn shn fm 64 → wd D A s.heap (svW ad dA (nI nn) (nI tpn) fr rv gr sh wt fm bf eq rs gd nd) H locs → lv_has ls 3 [(0, .ref (ad 0)), (1, .int (nI 16))] → W p l e (rmK 1) s m args below meth c H locs 0 0 Q (F0 m 127 ls [])) :
    ∀ (k t : Nat) (fm bf : Nat → Int32) (H : Heap) (locs : List Loc) (ls : Array Slot), t + k = 16 → sd_FO nn tpn shn fm (4 * t) → sd_BF nn tpn t bf → wd D A s.heap (svW ad dA (nI nn) (nI tpn) fr rv gr sh wt fm bf eq rs gd nd) H locs → lv_has ls 3 [(0, .ref (ad 0)), (1, .int (nI t))] → W p l e (rmK 1) s m args below meth c H locs 0 0 Q (F0 m 35 ls []) := by
  have hx := B.1.1
  have hb := B.1.2.1
  have h8 := sd_p8 hst.2.1
  have h3 := hst.1
  have hn8 := hst.2.1
  have htp := hst.2.2.1
  intro k
  induction k with
  | zero =>
    intro t fm bf H locs ls hk hI hB hw hl
    have eb : t = 16 := by omega
    subst eb
    refine lv_iload_n hx hb dX1_makeForms_35 rfl (lv_at hl 1 rfl) ?_
    refine lv_bipush (v := nI 16) hx hb dX1_makeForms_36 (by decide) ?_
    refine lv_icmp_ge (tgt := 127) hx hb dX1_makeForms_38 (by decide) (fun _ => ?_) (fun cc => absurd (nI_le (by omega) (by omega)) cc)
    exact kk fm bf H locs ls hI hw (lv_sub hl [0, 1] rfl)
  | succ k ih =>
    intro t fm bf H locs ls hk hI hB hw hl
    refine lv_iload_n hx hb dX1_makeForms_35 rfl (lv_at hl 1 rfl) ?_
    refine lv_bipush (v := nI 16) hx hb dX1_makeForms_36 (by decide) ?_
    refine lv_icmp_ge (tgt := 127) hx hb dX1_makeForms_38 (by decide) (fun cc => absurd cc (nI_ge (by omega) (by omega))) (fun _ => ?_)
    refine lv_iconst (v := nI 0) hx hb dX1_makeForms_41 (by decide) ?_
    refine lv_istore_n (lv' := [(2, .int (nI 0)), (0, .ref (ad 0)), (1, .int (nI t))]) hx hb dX1_makeForms_42 rfl hl (by decide) rfl (fun ls hl => ?_)
    refine lp1_mfC hst (show t < 16 by omega) hB B (fun fm1 H locs ls hI hw hl => ?_) 4 0 fm H locs ls rfl hI hw (lv_sub hl [1, 2, 0] rfl)
    refine lv_aload_n hx hb dX1_makeForms_74 rfl (lv_at hl 0 rfl) ?_
    refine s_get1 (v := .ref (ad 4)) B hw 6 (by decide) q34 rfl rfl dX1_makeForms_75 ?_
    refine lv_aload_n hx hb dX1_makeForms_78 rfl (lv_at hl 0 rfl) ?_
    refine s_get1 (v := .int (nI nn)) B hw 0 (by decide) q28 rfl rfl dX1_makeForms_79 ?_
    refine lv_aload_n hx hb dX1_makeForms_82 rfl (lv_at hl 0 rfl) ?_
    refine lv_aload_n hx hb dX1_makeForms_83 rfl (lv_at hl 0 rfl) ?_
    refine s_get1 (v := .int (nI tpn)) B hw 1 (by decide) q29 rfl rfl dX1_makeForms_84 ?_
    refine s_call (As := [.int (nI tpn)]) (rest := [.int (nI nn), .ref (ad 4)]) (ci := 0) (ct1_sumOfForms l D hn8 (show tpn < 2 ^ 31 by omega) hB) B hw (lw_V q91 q93 qs2 q18 q94) rfl rfl rfl ⟨cn1_sumOfForms, rfl, rfl, by decide, by decide⟩ ⟨Nat.zero_le _, Nat.zero_le _⟩ hl.1 (Nat.le_of_ble_eq_true rfl) dX1_makeForms_87 (fun r _ H locs hp hw => ?_)
    have hw : wd D A _ (svW ad dA (nI nn) (nI tpn) fr rv gr sh wt fm1 bf eq rs gd nd) H locs := hw
    refine s_iast B hw 4 3 rfl rfl (i := nn) (by omega) (by decide) dX1_makeForms_90 (fun H locs (hw : wd D A _ (svW ad dA (nI nn) (nI tpn) fr rv gr sh wt fm1 (upd bf nn r) eq rs gd nd) H locs) => ?_)
    refine lv_iconst (v := nI 0) hx hb dX1_makeForms_91 (by decide) ?_
    refine lv_istore_n (lv' := [(2, .int (nI 0)), (0, .ref (ad 0)), (1, .int (nI t))]) hx hb dX1_makeForms_92 rfl hl (by decide) rfl (fun ls hl => ?_)
    refine lp1_mfD (bf0 := upd bf nn r) hn8 B (fun bf1 H locs ls hS hw hl => ?_) nn 0 _ H locs ls (by omega) sd_SH_0 hw (lv_sub hl [1, 2, 0] rfl)
    refine lv_iinc (v := nI (t + 1)) (lv' := [(1, .int (nI (t + 1))), (0, .ref (ad 0)), (2, .int (nI nn))]) hx hb dX1_makeForms_121 hl (k := 1) rfl (nI_add t 1) (by decide) rfl (fun ls hl => ?_)
    refine lv_goto (tgt := 35) hx hb dX1_makeForms_124 (by decide) ?_
    exact ih (t + 1) fm1 bf1 H locs ls (by omega) hI (sd_BF_s (by omega) hn8 hB hp hS) hw (lv_sub hl [1, 0] rfl)
set_option maxHeartbeats 4000000 in
set_option maxRecDepth 100000 in
/-- makeForms: for each place the set of seed bits whose parity the chain gets -/
theorem ct1_makeForms (l : Launch) (D : va_G) {ad : Nat → Nat} {dA : Nat → ClassId} {nn tpn : Nat} {shn wtn : Nat → Nat} {fr rv gr : Int32} {sh wt fm bf eq rs gd nd : Nat → Int32} (hst : sd_ST nn tpn shn wtn sh wt) (hfr : fr = 0 ∨ (fr = 1 ∧ sd_FO nn tpn shn fm 64)) : ctV l yX1_makeForms cX1_makeForms 3 (rmK 1) D (svT dA) (svW ad dA (nI nn) (nI tpn) fr rv gr sh wt fm bf eq rs gd nd) [.ref (ad 0)] (fun (u : Int32 × (Nat → Int32) × (Nat → Int32)) => u.1 = 1 ∧ sd_FO nn tpn shn u.2.1 64) (fun u => svW ad dA (nI nn) (nI tpn) u.1 rv gr sh wt u.2.1 u.2.2 eq rs gd nd) := by
  refine ctV.of (by decide) (Nat.le_of_ble_eq_true rfl) ?_
  intro p e s m below meth c A ls B hw hl
  have hx := B.1.1
  have hb := B.1.2.1
  have hl : lv_has ls 3 [(0, .ref (ad 0))] := hl
  have h8 := sd_p8 hst.2.1
  have h3 := hst.1
  have hn8 := hst.2.1
  refine lv_aload_n hx hb dX1_makeForms_0 rfl (lv_at hl 0 rfl) ?_
  refine s_get1 (v := .int fr) B hw 4 (by decide) q32 rfl rfl dX1_makeForms_1 ?_
  refine lv_if_eq (tgt := 8) hx hb dX1_makeForms_4 (by decide) (fun c1 => ?_) (fun c1 => ?_)
  · refine lv_iconst (v := nI 0) hx hb dX1_makeForms_8 (by decide) ?_
    refine lv_istore_n (lv' := [(1, .int (nI 0)), (0, .ref (ad 0))]) hx hb dX1_makeForms_9 rfl hl (by decide) rfl (fun ls hl => ?_)
    refine lp1_mfA hn8 B (fun bf1 H locs ls hI hw hl => ?_) nn 0 bf _ _ ls (by omega) (fun j hj => absurd hj (Nat.not_lt_zero j)) hw (lv_sub hl [1, 0] rfl)
    refine lv_iconst (v := nI 0) hx hb dX1_makeForms_33 (by decide) ?_
    refine lv_istore_n (lv' := [(1, .int (nI 0)), (0, .ref (ad 0))]) hx hb dX1_makeForms_34 rfl hl (by decide) rfl (fun ls hl => ?_)
    refine lp1_mfB hst B (fun fm2 bf2 H locs ls hI hw hl => ?_) 16 0 fm bf1 _ _ ls rfl (fun i hi => absurd hi (Nat.not_lt_zero i)) (sd_BF_0 hI) hw (lv_sub hl [1, 0] rfl)
    refine lv_aload_n hx hb dX1_makeForms_127 rfl (lv_at hl 0 rfl) ?_
    refine lv_iconst (v := nI 1) hx hb dX1_makeForms_128 (by decide) ?_
    refine s_put1 (ty := .boolean) B hw 4 (by decide) q32 rfl rfl (by decide +kernel) rfl rfl (Nat.le_of_ble_eq_true rfl) dX1_makeForms_129 (fun H locs (hw : wd D A _ (svW ad dA (nI nn) (nI tpn) (nI 1) rv gr sh wt fm2 bf2 eq rs gd nd) H locs) => ?_)
    exact s_vret (nI 1, fm2, bf2) B hw (⟨rfl, hI⟩) dX1_makeForms_132
  · exact s_vret (fr, fm, bf) B hw (by
          rcases hfr with q | q
          · exact absurd q c1
          · exact q) dX1_makeForms_7
end
section
/-! SeedSolver: reduce, demand, complete (printed by gen/x1b.py) -/
set_option maxHeartbeats 4000000 in
set_option maxRecDepth 100000 in
/-- reduce: its loop -/
theorem lp1_reduce {p : Program} {l : Launch} {e : Env} {s : State} {m : MethodId} {args : Array Value} {below : List Frame} {meth : Method} {c : Code} {Q : State → Prop} {D : va_G} {ad : Nat → Nat} {ret : Option FieldType} {A : Nat → Prop} {dA : Nat → ClassId} {Rm : Room} {nn tpn : Nat} {fr gr : Int32} {sh wt fm bf eq rs gd nd : Nat → Int32} {a0 : Nat} {v0 : Bool} {E : Nat → Nat} {R : Nat → Bool} (hn8 : nn ≤ 8) (he : sd_eqs nn eq rs E R) (B : bx p s m meth c cX1_reduce 5 ret args RX1 D (svT dA))
    (kk : ∀ (r0 : Nat) (wv : Bool) (H : Heap) (locs : List Loc) (ls : Array Slot), sd_rd nn E R a0 v0 0 r0 wv → wd D A s.heap (svW ad dA (nI nn) (nI tpn) fr (nI wv.toNat) gr sh wt fm bf eq rs gd nd) H locs → lv_has ls 5 [(0, .ref (ad 0)), (1, .int (nI a0)), (2, .int (nI v0.toNat)), (3, .int (nI r0)), (4, .int (nI 0 - nI 1))] → W p l e Rm s m args below meth c H locs 0 0 Q (F0 m 74 ls [])) :
    ∀ (j r0 : Nat) (wv : Bool) (H : Heap) (locs : List Loc) (ls : Array Slot), j ≤ nn → sd_rd nn E R a0 v0 j r0 wv → wd D A s.heap (svW ad dA (nI nn) (nI tpn) fr (nI wv.toNat) gr sh wt fm bf eq rs gd nd) H locs → lv_has ls 5 [(0, .ref (ad 0)), (1, .int (nI a0)), (2, .int (nI v0.toNat)), (3, .int (nI r0)), (4, .int (nI j - nI 1))] → W p l e Rm s m args below meth c H locs 0 0 Q (F0 m 15 ls []) := by
  have hx := B.1.1
  have hb := B.1.2.1
  have h8 := sd_p8 hn8
  intro j
  induction j with
  | zero =>
    intro r0 wv H locs ls hj hr hw hl
    refine lv_iload hx hb dX1_reduce_15 (lv_at hl 4 rfl) ?_
    refine lv_if_lt (tgt := 74) hx hb dX1_reduce_17 (by decide) (fun _ => ?_) (fun cc => absurd (sd_neg) cc)
    exact kk r0 wv H locs ls hr hw (lv_sub hl [0, 1, 2, 3, 4] rfl)
  | succ b ih =>
    intro r0 wv H locs ls hj hr hw hl
    rw [sd_inc] at hl
    have hr1 := hr.1
    have heb := he.2 b (by omega)
    refine lv_iload hx hb dX1_reduce_15 (lv_at hl 4 rfl) ?_
    refine lv_if_lt (tgt := 74) hx hb dX1_reduce_17 (by decide) (fun cc => absurd cc (nI_pos (by omega))) (fun _ => ?_)
    refine lv_iload_n hx hb dX1_reduce_20 rfl (lv_at hl 3 rfl) ?_
    refine lv_iload hx hb dX1_reduce_21 (lv_at hl 4 rfl) ?_
    refine lv_ishr hx hb dX1_reduce_23 ?_
    refine lv_iconst (v := nI 1) hx hb dX1_reduce_24 (by decide) ?_
    refine lv_iand hx hb dX1_reduce_25 ?_
    refine s_top (y := nI ((r0.testBit b).toNat)) (sd_bit (by omega) (by omega)) ?_
    refine lv_if_eq (tgt := 68) hx hb dX1_reduce_26 (by decide) (fun c1 => ?_) (fun c1 => ?_)
    · refine lv_iinc (v := nI b - nI 1) (lv' := [(4, .int (nI b - nI 1)), (0, .ref (ad 0)), (1, .int (nI a0)), (2, .int (nI v0.toNat)), (3, .int (nI r0))]) hx hb dX1_reduce_68 hl (k := 4) rfl (sd_dec b) (by decide) rfl (fun ls hl => ?_)
      refine lv_goto (tgt := 15) hx hb dX1_reduce_71 (by decide) ?_
      exact ih r0 wv H locs ls (by omega) (sd_rd_skip hr (fun q => by rw [(sd_b0 _).mp c1] at q; cases q)) hw (lv_sub hl [1, 2, 3, 4, 0] rfl)
    · refine lv_aload_n hx hb dX1_reduce_29 rfl (lv_at hl 0 rfl) ?_
      refine s_get1 (v := .ref (ad 5)) B hw 7 (by decide) q35 rfl rfl dX1_reduce_30 ?_
      refine lv_iload hx hb dX1_reduce_33 (lv_at hl 4 rfl) ?_
      refine s_iald B hw 5 4 rfl rfl (i := b) (by omega) (by decide) dX1_reduce_35 ?_
      refine s_top (y := nI (E b)) (heb.1) ?_
      refine lv_if_ne (tgt := 42) hx hb dX1_reduce_36 (by decide) (fun c2 => ?_) (fun c2 => ?_)
      · have h0 : E b ≠ 0 := fun q => c2 (by rw [q]; rfl)
        have hbt : r0.testBit b = true := by
          cases hq : r0.testBit b
          · exact absurd ((sd_b0 _).mpr hq) c1
          · rfl
        refine lv_iload_n hx hb dX1_reduce_42 rfl (lv_at hl 3 rfl) ?_
        refine lv_aload_n hx hb dX1_reduce_43 rfl (lv_at hl 0 rfl) ?_
        refine s_get1 (v := .ref (ad 5)) B hw 7 (by decide) q35 rfl rfl dX1_reduce_44 ?_
        refine lv_iload hx hb dX1_reduce_47 (lv_at hl 4 rfl) ?_
        refine s_iald B hw 5 4 rfl rfl (i := b) (by omega) (by decide) dX1_reduce_49 ?_
        refine s_top (y := nI (E b)) (heb.1) ?_
        refine lv_ixor hx hb dX1_reduce_50 ?_
        refine s_top (y := nI (r0 ^^^ (E b))) (fb_xorI _ _) ?_
        refine lv_istore_n (lv' := [(3, .int (nI (r0 ^^^ (E b)))), (0, .ref (ad 0)), (1, .int (nI a0)), (2, .int (nI v0.toNat)), (4, .int (nI b))]) hx hb dX1_reduce_51 rfl hl (by decide) rfl (fun ls hl => ?_)
        refine lv_aload_n hx hb dX1_reduce_52 rfl (lv_at hl 1 rfl) ?_
        refine lv_dup hx hb dX1_reduce_53 rfl ?_
        refine s_get1 (v := .int (nI (wv.toNat))) B hw 9 (by decide) q37 rfl rfl dX1_reduce_54 ?_
        refine lv_aload_n hx hb dX1_reduce_57 rfl (lv_at hl 1 rfl) ?_
        refine s_get1 (v := .ref (ad 6)) B hw 8 (by decide) q36 rfl rfl dX1_reduce_58 ?_
        refine lv_iload hx hb dX1_reduce_61 (lv_at hl 4 rfl) ?_
        refine s_iald B hw 6 5 rfl rfl (i := b) (by omega) (by decide) dX1_reduce_63 ?_
        refine s_top (y := nI ((R b).toNat)) (heb.2 h0) ?_
        refine lv_ixor hx hb dX1_reduce_64 ?_
        refine s_top (y := nI ((wv ^^ R b).toNat)) (sd_xorb _ _) ?_
        refine s_put1 (ty := .int) B hw 9 (by decide) q37 rfl rfl (by decide +kernel) rfl rfl (Nat.le_of_ble_eq_true rfl) dX1_reduce_65 (fun H locs (hw : wd D A _ (svW ad dA (nI nn) (nI tpn) fr (nI ((wv ^^ R b).toNat)) gr sh wt fm bf eq rs gd nd) H locs) => ?_)
        refine lv_iinc (v := nI b - nI 1) (lv' := [(4, .int (nI b - nI 1)), (3, .int (nI (r0 ^^^ (E b)))), (0, .ref (ad 0)), (1, .int (nI a0)), (2, .int (nI v0.toNat))]) hx hb dX1_reduce_68 hl (k := 4) rfl (sd_dec b) (by decide) rfl (fun ls hl => ?_)
        refine lv_goto (tgt := 15) hx hb dX1_reduce_71 (by decide) ?_
        exact ih (r0 ^^^ E b) (wv ^^ R b) H locs ls (by omega) (sd_rd_take he.1 (by omega) hr h0 hbt) hw (lv_sub hl [2, 3, 4, 1, 0] rfl)
      · refine lv_goto (tgt := 68) hx hb dX1_reduce_39 (by decide) ?_
        refine lv_iinc (v := nI b - nI 1) (lv' := [(4, .int (nI b - nI 1)), (0, .ref (ad 0)), (1, .int (nI a0)), (2, .int (nI v0.toNat)), (3, .int (nI r0))]) hx hb dX1_reduce_68 hl (k := 4) rfl (sd_dec b) (by decide) rfl (fun ls hl => ?_)
        refine lv_goto (tgt := 15) hx hb dX1_reduce_71 (by decide) ?_
        exact ih r0 wv H locs ls (by omega) (sd_rd_skip hr (fun _ => (nI_eq (b := 0) (Nat.lt_of_lt_of_le (sd_tri_lt he.1 (show b < nn by omega)) (by omega)) (by omega)).mp c2)) hw (lv_sub hl [1, 2, 3, 4, 0] rfl)
set_option maxHeartbeats 4000000 in
set_option maxRecDepth 100000 in
/-- reduce: takes the known equations off a form -/
theorem ct1_reduce (l : Launch) (D : va_G) {ad : Nat → Nat} {dA : Nat → ClassId} {nn tpn : Nat} {fr rv gr : Int32} {sh wt fm bf eq rs gd nd : Nat → Int32} {a0 : Nat} {v0 : Bool} {E : Nat → Nat} {R : Nat → Bool} (hn8 : nn ≤ 8) (he : sd_eqs nn eq rs E R) (ha : a0 < 2 ^ nn) : ctI l yX1_reduce cX1_reduce 5 (some .int) (rmK 0) D (svT dA) (svW ad dA (nI nn) (nI tpn) fr rv gr sh wt fm bf eq rs gd nd) [.ref (ad 0), .int (nI a0), .int (nI v0.toNat)] (fun r (u : Int32) => ∃ (r0 : Nat) (wv : Bool), r = nI r0 ∧ u = nI wv.toNat ∧ sd_rd nn E R a0 v0 0 r0 wv) (fun u => svW ad dA (nI nn) (nI tpn) fr u gr sh wt fm bf eq rs gd nd) := by
  refine ctI.of (by decide) (Nat.le_of_ble_eq_true rfl) ?_
  intro p e s m below meth c A ls B hw hl
  have hx := B.1.1
  have hb := B.1.2.1
  have hl : lv_has ls 5 [(0, .ref (ad 0)), (1, .int (nI a0)), (2, .int (nI v0.toNat))] := hl
  refine lv_iload_n hx hb dX1_reduce_0 rfl (lv_at hl 1 rfl) ?_
  refine lv_istore_n (lv' := [(3, .int (nI a0)), (0, .ref (ad 0)), (1, .int (nI a0)), (2, .int (nI v0.toNat))]) hx hb dX1_reduce_1 rfl hl (by decide) rfl (fun ls hl => ?_)
  refine lv_aload_n hx hb dX1_reduce_2 rfl (lv_at hl 1 rfl) ?_
  refine lv_iload_n hx hb dX1_reduce_3 rfl (lv_at hl 3 rfl) ?_
  refine s_put1 (ty := .int) B hw 9 (by decide) q37 rfl rfl (by decide +kernel) rfl rfl (Nat.le_of_ble_eq_true rfl) dX1_reduce_4 (fun H locs (hw : wd D A _ (svW ad dA (nI nn) (nI tpn) fr (nI v0.toNat) gr sh wt fm bf eq rs gd nd) H locs) => ?_)
  refine lv_aload_n hx hb dX1_reduce_7 rfl (lv_at hl 1 rfl) ?_
  refine s_get1 (v := .int (nI nn)) B hw 0 (by decide) q28 rfl rfl dX1_reduce_8 ?_
  refine lv_iconst (v := nI 1) hx hb dX1_reduce_11 (by decide) ?_
  refine lv_isub hx hb dX1_reduce_12 ?_
  refine lv_istore (lv' := [(4, .int ((nI nn) - (nI 1))), (3, .int (nI a0)), (0, .ref (ad 0)), (1, .int (nI a0)), (2, .int (nI v0.toNat))]) hx hb dX1_reduce_13 hl (by decide) rfl (fun ls hl => ?_)
  refine lp1_reduce hn8 he B (fun r0 wv H locs ls hr hw hl => ?_) nn a0 v0 _ _ ls (Nat.le_refl nn) (sd_rd_0 ha) hw (lv_sub hl [2, 3, 4, 1, 0] rfl)
  refine lv_iload_n hx hb dX1_reduce_74 rfl (lv_at hl 3 rfl) ?_
  exact s_ret (v := nI r0) (nI wv.toNat) B rfl hw (⟨r0, wv, rfl, rfl, hr⟩) dX1_reduce_75
set_option maxHeartbeats 4000000 in
set_option maxRecDepth 100000 in
/-- demand: the search for the highest bit -/
theorem lp1_demand {p : Program} {l : Launch} {e : Env} {s : State} {m : MethodId} {args : Array Value} {below : List Frame} {meth : Method} {c : Code} {Q : State → Prop} {D : va_G} {ad : Nat → Nat} {ret : Option FieldType} {Rm : Room} {H : Heap} {locs : List Loc} {dA : Nat → ClassId} {nn r0 a0 : Nat} {v0 : Bool} (hn8 : nn ≤ 8) (h0 : r0 ≠ 0) (B : bx p s m meth c cX1_demand 5 ret args RX1 D (svT dA))
    (kk : ∀ (t : Nat) (ls : Array Slot), t < nn → r0.testBit t = true → r0 < 2 ^ (t + 1) → lv_has ls 5 [(0, .ref (ad 0)), (1, .int (nI a0)), (2, .int (nI v0.toNat)), (3, .int (nI r0)), (4, .int (nI t))] → W p l e Rm s m args below meth c H locs 0 0 Q (F0 m 47 ls [])) :
    ∀ (t : Nat) (ls : Array Slot), t < nn → r0 < 2 ^ (t + 1) → lv_has ls 5 [(0, .ref (ad 0)), (1, .int (nI a0)), (2, .int (nI v0.toNat)), (3, .int (nI r0)), (4, .int (nI t))] → W p l e Rm s m args below meth c H locs 0 0 Q (F0 m 32 ls []) := by
  have hx := B.1.1
  have hb := B.1.2.1
  intro t
  induction t with
  | zero =>
    intro ls ht hlt hl
    have h31 : r0 < 2 ^ 31 := Nat.lt_of_lt_of_le hlt (Nat.pow_le_pow_right (by decide) (by omega))
    refine lv_iload_n hx hb dX1_demand_32 rfl (lv_at hl 3 rfl) ?_
    refine lv_iload hx hb dX1_demand_33 (lv_at hl 4 rfl) ?_
    refine lv_ishr hx hb dX1_demand_35 ?_
    refine lv_iconst (v := nI 1) hx hb dX1_demand_36 (by decide) ?_
    refine lv_iand hx hb dX1_demand_37 ?_
    refine s_top (y := nI ((r0.testBit (0)).toNat)) (sd_bit h31 (by omega)) ?_
    refine lv_if_ne (tgt := 47) hx hb dX1_demand_38 (by decide) (fun c1 => ?_) (fun c1 => ?_)
    · exact kk (0) ls ht (by cases hq : r0.testBit (0); exact absurd ((sd_b0 _).mpr hq) c1; rfl) hlt (lv_sub hl [0, 1, 2, 3, 4] rfl)
    · have hd := sd_top_dn hlt ((sd_b0 _).mp c1)
      exact absurd (show r0 = 0 by omega) h0
  | succ t ih =>
    intro ls ht hlt hl
    have h31 : r0 < 2 ^ 31 := Nat.lt_of_lt_of_le hlt (Nat.pow_le_pow_right (by decide) (by omega))
    refine lv_iload_n hx hb dX1_demand_32 rfl (lv_at hl 3 rfl) ?_
    refine lv_iload hx hb dX1_demand_33 (lv_at hl 4 rfl) ?_
    refine lv_ishr hx hb dX1_demand_35 ?_
    refine lv_iconst (v := nI 1) hx hb dX1_demand_36 (by decide) ?_
    refine lv_iand hx hb dX1_demand_37 ?_
    refine s_top (y := nI ((r0.testBit (t + 1)).toNat)) (sd_bit h31 (by omega)) ?_
    refine lv_if_ne (tgt := 47) hx hb dX1_demand_38 (by decide) (fun c1 => ?_) (fun c1 => ?_)
    · exact kk (t + 1) ls ht (by cases hq : r0.testBit (t + 1); exact absurd ((sd_b0 _).mpr hq) c1; rfl) hlt (lv_sub hl [0, 1, 2, 3, 4] rfl)
    · have hd := sd_top_dn hlt ((sd_b0 _).mp c1)
      refine lv_iinc (v := nI t) (lv' := [(4, .int (nI t)), (0, .ref (ad 0)), (1, .int (nI a0)), (2, .int (nI v0.toNat)), (3, .int (nI r0))]) hx hb dX1_demand_41 hl (k := 4) rfl (pk_m1 t) (by decide) rfl (fun ls hl => ?_)
      refine lv_goto (tgt := 32) hx hb dX1_demand_44 (by decide) ?_
      exact ih ls (by omega) hd (lv_sub hl [1, 2, 3, 4, 0] rfl)
set_option maxHeartbeats 4000000 in
set_option maxRecDepth 100000 in
/-- demand: one equation more -/
theorem ct1_demand (l : Launch) (D : va_G) {ad : Nat → Nat} {dA : Nat → ClassId} {nn tpn : Nat} {fr rv gr : Int32} {sh wt fm bf eq rs gd nd : Nat → Int32} {a0 : Nat} {v0 : Bool} {E : Nat → Nat} {R : Nat → Bool} (hn8 : nn ≤ 8) (he : sd_eqs nn eq rs E R) (ha : a0 < 2 ^ nn) : ctI l yX1_demand cX1_demand 5 (some .boolean) (rmK 1) D (svT dA) (svW ad dA (nI nn) (nI tpn) fr rv gr sh wt fm bf eq rs gd nd) [.ref (ad 0), .int (nI a0), .int (nI v0.toNat)] (fun r (u : Int32 × (Nat → Int32) × (Nat → Int32)) => sd_dm nn E R a0 v0 r u.2.1 u.2.2) (fun u => svW ad dA (nI nn) (nI tpn) fr u.1 gr sh wt fm bf u.2.1 u.2.2 gd nd) := by
  refine ctI.of (by decide) (Nat.le_of_ble_eq_true rfl) ?_
  intro p e s m below meth c A ls B hw hl
  have hx := B.1.1
  have hb := B.1.2.1
  have hl : lv_has ls 5 [(0, .ref (ad 0)), (1, .int (nI a0)), (2, .int (nI v0.toNat))] := hl
  have h8 := sd_p8 hn8
  refine lv_aload_n hx hb dX1_demand_0 rfl (lv_at hl 0 rfl) ?_
  refine lv_iload_n hx hb dX1_demand_1 rfl (lv_at hl 1 rfl) ?_
  refine lv_iload_n hx hb dX1_demand_2 rfl (lv_at hl 2 rfl) ?_
  refine s_call (As := [.int (nI a0), .int (nI v0.toNat)]) (rest := []) (ci := 0) (ct1_reduce l D hn8 he ha) B hw (lw_V q115 q117 qs7 q18 q118) rfl rfl rfl ⟨cn1_reduce, rfl, rfl, by decide, by decide⟩ ⟨Nat.zero_le _, Nat.zero_le _⟩ hl.1 (Nat.le_of_ble_eq_true rfl) dX1_demand_3 (fun r rv1 H locs hp hw => ?_)
  have hw : wd D A _ (svW ad dA (nI nn) (nI tpn) fr rv1 gr sh wt fm bf eq rs gd nd) H locs := hw
  obtain ⟨r0, wv, e1, e2, hr⟩ := hp
  subst e1; subst e2
  have hr1 := hr.1
  refine lv_istore_n (lv' := [(3, .int (nI r0)), (0, .ref (ad 0)), (1, .int (nI a0)), (2, .int (nI v0.toNat))]) hx hb dX1_demand_6 rfl hl (by decide) rfl (fun ls hl => ?_)
  refine lv_iload_n hx hb dX1_demand_7 rfl (lv_at hl 0 rfl) ?_
  refine lv_if_ne (tgt := 24) hx hb dX1_demand_8 (by decide) (fun c1 => ?_) (fun c1 => ?_)
  · have h0 : r0 ≠ 0 := fun q => c1 (by rw [q]; rfl)
    have hn0 : 0 < nn := by
      rcases Nat.eq_zero_or_pos nn with q | q
      · rw [q] at hr1; omega
      · exact q
    refine lv_aload_n hx hb dX1_demand_24 rfl (lv_at hl 1 rfl) ?_
    refine s_get1 (v := .int (nI nn)) B hw 0 (by decide) q28 rfl rfl dX1_demand_25 ?_
    refine lv_iconst (v := nI 1) hx hb dX1_demand_28 (by decide) ?_
    refine lv_isub hx hb dX1_demand_29 ?_
    refine s_top (y := nI (nn - 1)) (pk_sub hn0) ?_
    refine lv_istore (lv' := [(4, .int (nI (nn - 1))), (3, .int (nI r0)), (0, .ref (ad 0)), (1, .int (nI a0)), (2, .int (nI v0.toNat))]) hx hb dX1_demand_30 hl (by decide) rfl (fun ls hl => ?_)
    refine lp1_demand hn8 h0 B (fun t ls ht hbt hlt hl => ?_) (nn - 1) ls (by omega) (by rw [Nat.sub_add_cancel hn0]; exact hr1) (lv_sub hl [2, 3, 4, 1, 0] rfl)
    refine lv_aload_n hx hb dX1_demand_47 rfl (lv_at hl 0 rfl) ?_
    refine s_get1 (v := .ref (ad 5)) B hw 7 (by decide) q35 rfl rfl dX1_demand_48 ?_
    refine lv_iload hx hb dX1_demand_51 (lv_at hl 4 rfl) ?_
    refine lv_iload_n hx hb dX1_demand_53 rfl (lv_at hl 3 rfl) ?_
    refine s_iast B hw 5 4 rfl rfl (i := t) (by omega) (by decide) dX1_demand_54 (fun H locs (hw : wd D A _ (svW ad dA (nI nn) (nI tpn) fr (nI (wv.toNat)) gr sh wt fm bf (upd eq t (nI r0)) rs gd nd) H locs) => ?_)
    refine lv_aload_n hx hb dX1_demand_55 rfl (lv_at hl 0 rfl) ?_
    refine s_get1 (v := .ref (ad 6)) B hw 8 (by decide) q36 rfl rfl dX1_demand_56 ?_
    refine lv_iload hx hb dX1_demand_59 (lv_at hl 4 rfl) ?_
    refine lv_aload_n hx hb dX1_demand_61 rfl (lv_at hl 0 rfl) ?_
    refine s_get1 (v := .int (nI (wv.toNat))) B hw 9 (by decide) q37 rfl rfl dX1_demand_62 ?_
    refine s_iast B hw 6 5 rfl rfl (i := t) (by omega) (by decide) dX1_demand_65 (fun H locs (hw : wd D A _ (svW ad dA (nI nn) (nI tpn) fr (nI (wv.toNat)) gr sh wt fm bf (upd eq t (nI r0)) (upd rs t (nI (wv.toNat))) gd nd) H locs) => ?_)
    refine lv_iconst (v := nI 1) hx hb dX1_demand_66 (by decide) ?_
    exact s_ret (v := nI 1) (nI wv.toNat, upd eq t (nI r0), upd rs t (nI wv.toNat)) B rfl hw (sd_dm_add he hr ht hbt hlt) dX1_demand_67
  · have ez : r0 = 0 := (nI_eq (b := 0) (by omega) (by omega)).mp c1
    subst ez
    refine lv_aload_n hx hb dX1_demand_11 rfl (lv_at hl 1 rfl) ?_
    refine s_get1 (v := .int (nI (wv.toNat))) B hw 9 (by decide) q37 rfl rfl dX1_demand_12 ?_
    refine lv_if_ne (tgt := 22) hx hb dX1_demand_15 (by decide) (fun c2 => ?_) (fun c2 => ?_)
    · refine lv_iconst (v := nI 0) hx hb dX1_demand_22 (by decide) ?_
      exact s_ret (v := nI 0) (nI wv.toNat, eq, rs) B rfl hw (by
            have ew : wv = true := by
              cases wv
              · exact absurd rfl c2
              · rfl
            subst ew
            exact sd_dm_z0 hr) dX1_demand_23
    · refine lv_iconst (v := nI 1) hx hb dX1_demand_18 (by decide) ?_
      refine lv_goto (tgt := 23) hx hb dX1_demand_19 (by decide) ?_
      exact s_ret (v := nI 1) (nI wv.toNat, eq, rs) B rfl hw (by
            have ew := (sd_b0 wv).mp c2
            subst ew
            exact sd_dm_z1 he hr) dX1_demand_23
set_option maxHeartbeats 4000000 in
set_option maxRecDepth 100000 in
/-- complete: its loop -/
theorem lp1_complete {p : Program} {l : Launch} {e : Env} {s : State} {m : MethodId} {args : Array Value} {below : List Frame} {meth : Method} {c : Code} {Q : State → Prop} {D : va_G} {ad : Nat → Nat} {ret : Option FieldType} {A : Nat → Prop} {dA : Nat → ClassId} {nn tpn : Nat} {fr gr : Int32} {sh wt fm bf gd nd : Nat → Int32} {lk : Bool} {E : Nat → Nat} {R : Nat → Bool} (hn8 : nn ≤ 8) (B : bx p s m meth c cX1_complete 6 ret args RX1 D (svT dA))
    (kk : ∀ (q : Nat) (E' : Nat → Nat) (R' : Nat → Bool) (rv : Int32) (eq rs : Nat → Int32) (H : Heap) (locs : List Loc) (ls : Array Slot), sd_eqs nn eq rs E' R' → sd_gr nn E R lk 0 q E' R' → wd D A s.heap (svW ad dA (nI nn) (nI tpn) fr rv gr sh wt fm bf eq rs gd nd) H locs → lv_has ls 6 [(0, .ref (ad 0)), (1, .int (nI lk.toNat)), (2, .int (nI (q * 2 ^ 0))), (3, .int (nI 0 - nI 1))] → W p l e (rmK 2) s m args below meth c H locs 0 0 Q (F0 m 65 ls [])) :
    ∀ (j q : Nat) (E' : Nat → Nat) (R' : Nat → Bool) (rv : Int32) (eq rs : Nat → Int32) (H : Heap) (locs : List Loc) (ls : Array Slot), j ≤ nn → sd_eqs nn eq rs E' R' → sd_gr nn E R lk j q E' R' → wd D A s.heap (svW ad dA (nI nn) (nI tpn) fr rv gr sh wt fm bf eq rs gd nd) H locs → lv_has ls 6 [(0, .ref (ad 0)), (1, .int (nI lk.toNat)), (2, .int (nI (q * 2 ^ j))), (3, .int (nI j - nI 1))] → W p l e (rmK 2) s m args below meth c H locs 0 0 Q (F0 m 9 ls []) := by
  have hx := B.1.1
  have hb := B.1.2.1
  have h8 := sd_p8 hn8
  intro j
  induction j with
  | zero =>
    intro q E' R' rv eq rs H locs ls hj he hg hw hl
    refine lv_iload_n hx hb dX1_complete_9 rfl (lv_at hl 3 rfl) ?_
    refine lv_if_lt (tgt := 65) hx hb dX1_complete_10 (by decide) (fun _ => ?_) (fun cc => absurd (sd_neg) cc)
    exact kk q E' R' rv eq rs H locs ls he hg hw (lv_sub hl [0, 1, 2, 3] rfl)
  | succ b ih =>
    intro q E' R' rv eq rs H locs ls hj he hg hw hl
    rw [sd_inc] at hl
    have hpb : 2 ^ b < 2 ^ nn := Nat.pow_lt_pow_right (by decide) (by omega)
    refine lv_iload_n hx hb dX1_complete_9 rfl (lv_at hl 3 rfl) ?_
    refine lv_if_lt (tgt := 65) hx hb dX1_complete_10 (by decide) (fun cc => absurd cc (nI_pos (by omega))) (fun _ => ?_)
    refine lv_aload_n hx hb dX1_complete_13 rfl (lv_at hl 0 rfl) ?_
    refine lv_iconst (v := nI 1) hx hb dX1_complete_14 (by decide) ?_
    refine lv_iload_n hx hb dX1_complete_15 rfl (lv_at hl 3 rfl) ?_
    refine lv_ishl hx hb dX1_complete_16 ?_
    refine s_top (y := nI (2 ^ b)) (sd_shl1 (by omega)) ?_
    refine lv_iconst (v := nI 0) hx hb dX1_complete_17 (by decide) ?_
    refine s_call (As := [.int (nI (2 ^ b)), .int (nI 0)]) (rest := []) (ci := 0) (ct1_reduce l D (v0 := false) hn8 he hpb) B hw (lw_V q115 q117 qs7 q18 q118) rfl rfl rfl ⟨cn1_reduce, rfl, rfl, by decide, by decide⟩ ⟨Nat.zero_le _, Nat.zero_le _⟩ hl.1 (Nat.le_of_ble_eq_true rfl) dX1_complete_18 (fun r rv1 H locs hp hw => ?_)
    have hw : wd D A _ (svW ad dA (nI nn) (nI tpn) fr rv1 gr sh wt fm bf eq rs gd nd) H locs := hw
    obtain ⟨r0, wv, e1, e2, hr⟩ := hp
    subst e1; subst e2
    have hr1 := hr.1
    refine lv_istore (lv' := [(4, .int (nI r0)), (0, .ref (ad 0)), (1, .int (nI lk.toNat)), (2, .int (nI (q * 2 ^ (b + 1)))), (3, .int (nI b))]) hx hb dX1_complete_21 hl (by decide) rfl (fun ls hl => ?_)
    refine lv_iload hx hb dX1_complete_23 (lv_at hl 0 rfl) ?_
    refine lv_if_ne (tgt := 35) hx hb dX1_complete_25 (by decide) (fun c1 => ?_) (fun c1 => ?_)
    · have h0 : r0 ≠ 0 := fun z => c1 (by rw [z]; rfl)
      refine lv_iload_n hx hb dX1_complete_35 rfl (lv_at hl 2 rfl) ?_
      refine lv_istore (lv' := [(5, .int (nI lk.toNat)), (4, .int (nI r0)), (0, .ref (ad 0)), (1, .int (nI lk.toNat)), (2, .int (nI (q * 2 ^ (b + 1)))), (3, .int (nI b))]) hx hb dX1_complete_36 hl (by decide) rfl (fun ls hl => ?_)
      refine lv_iload hx hb dX1_complete_38 (lv_at hl 1 rfl) ?_
      refine lv_if_eq (tgt := 52) hx hb dX1_complete_40 (by decide) (fun cc => absurd cc (c1)) (fun _ => ?_)
      refine lv_aload_n hx hb dX1_complete_43 rfl (lv_at hl 2 rfl) ?_
      refine lv_iconst (v := nI 1) hx hb dX1_complete_44 (by decide) ?_
      refine lv_iload_n hx hb dX1_complete_45 rfl (lv_at hl 5 rfl) ?_
      refine lv_ishl hx hb dX1_complete_46 ?_
      refine s_top (y := nI (2 ^ b)) (sd_shl1 (by omega)) ?_
      refine lv_iload_n hx hb dX1_complete_47 rfl (lv_at hl 3 rfl) ?_
      refine s_call (As := [.int (nI (2 ^ b)), .int (nI lk.toNat)]) (rest := []) (ci := 0) (ct1_demand l D (v0 := lk) hn8 he hpb) B hw (lw_V q111 q113 qs6 q18 q114) rfl rfl rfl ⟨cn1_demand, rfl, rfl, by decide, by decide⟩ ⟨Nat.zero_le _, Nat.zero_le _⟩ hl.1 (Nat.le_of_ble_eq_true rfl) dX1_complete_48 (fun r u H locs hd hw => ?_)
      obtain ⟨rv2, eq2, rs2⟩ := u
      try dsimp only at hd
      have hw : wd D A _ (svW ad dA (nI nn) (nI tpn) fr rv2 gr sh wt fm bf eq2 rs2 gd nd) H locs := hw
      obtain ⟨E2, R2, he2, hg2⟩ := sd_gr_o (show b < nn by omega) hg he hr h0 hd
      refine lv_pop hx hb dX1_complete_51 rfl ?_
      refine lv_iload_n hx hb dX1_complete_52 rfl (lv_at hl 4 rfl) ?_
      refine lv_iload hx hb dX1_complete_53 (lv_at hl 0 rfl) ?_
      refine lv_iload_n hx hb dX1_complete_55 rfl (lv_at hl 5 rfl) ?_
      refine lv_ishl hx hb dX1_complete_56 ?_
      refine s_top (y := nI (lk.toNat <<< b)) (sd_shlb (by omega) (Bool.toNat_le _)) ?_
      refine lv_ior hx hb dX1_complete_57 ?_
      refine s_top (y := nI ((2 * q + lk.toNat) * 2 ^ b)) ((fa_or _ _).trans (congrArg nI (sd_gr_or q b lk))) ?_
      refine lv_istore_n (lv' := [(2, .int (nI ((2 * q + lk.toNat) * 2 ^ b))), (5, .int (nI lk.toNat)), (4, .int (nI r0)), (0, .ref (ad 0)), (1, .int (nI lk.toNat)), (3, .int (nI b))]) hx hb dX1_complete_58 rfl hl (by decide) rfl (fun ls hl => ?_)
      refine lv_iinc (v := nI b - nI 1) (lv' := [(3, .int (nI b - nI 1)), (2, .int (nI ((2 * q + lk.toNat) * 2 ^ b))), (5, .int (nI lk.toNat)), (4, .int (nI r0)), (0, .ref (ad 0)), (1, .int (nI lk.toNat))]) hx hb dX1_complete_59 hl (k := 5) rfl (sd_dec b) (by decide) rfl (fun ls hl => ?_)
      refine lv_goto (tgt := 9) hx hb dX1_complete_62 (by decide) ?_
      exact ih (2 * q + lk.toNat) E2 R2 _ _ _ H locs ls (by omega) he2 (hg2) hw (lv_sub hl [4, 5, 1, 0] rfl)
    · have ez : r0 = 0 := (nI_eq (b := 0) (by omega) (by omega)).mp c1
      subst ez
      refine lv_aload_n hx hb dX1_complete_28 rfl (lv_at hl 1 rfl) ?_
      refine s_get1 (v := .int (nI (wv.toNat))) B hw 9 (by decide) q37 rfl rfl dX1_complete_29 ?_
      refine lv_goto (tgt := 36) hx hb dX1_complete_32 (by decide) ?_
      refine lv_istore (lv' := [(5, .int (nI (wv.toNat))), (4, .int (nI 0)), (0, .ref (ad 0)), (1, .int (nI lk.toNat)), (2, .int (nI (q * 2 ^ (b + 1)))), (3, .int (nI b))]) hx hb dX1_complete_36 hl (by decide) rfl (fun ls hl => ?_)
      refine lv_iload hx hb dX1_complete_38 (lv_at hl 1 rfl) ?_
      refine lv_if_eq (tgt := 52) hx hb dX1_complete_40 (by decide) (fun _ => ?_) (fun cc => absurd (rfl) cc)
      refine lv_iload_n hx hb dX1_complete_52 rfl (lv_at hl 4 rfl) ?_
      refine lv_iload hx hb dX1_complete_53 (lv_at hl 0 rfl) ?_
      refine lv_iload_n hx hb dX1_complete_55 rfl (lv_at hl 5 rfl) ?_
      refine lv_ishl hx hb dX1_complete_56 ?_
      refine s_top (y := nI (wv.toNat <<< b)) (sd_shlb (by omega) (Bool.toNat_le _)) ?_
      refine lv_ior hx hb dX1_complete_57 ?_
      refine s_top (y := nI ((2 * q + wv.toNat) * 2 ^ b)) ((fa_or _ _).trans (congrArg nI (sd_gr_or q b wv))) ?_
      refine lv_istore_n (lv' := [(2, .int (nI ((2 * q + wv.toNat) * 2 ^ b))), (5, .int (nI (wv.toNat))), (4, .int (nI 0)), (0, .ref (ad 0)), (1, .int (nI lk.toNat)), (3, .int (nI b))]) hx hb dX1_complete_58 rfl hl (by decide) rfl (fun ls hl => ?_)
      refine lv_iinc (v := nI b - nI 1) (lv' := [(3, .int (nI b - nI 1)), (2, .int (nI ((2 * q + wv.toNat) * 2 ^ b))), (5, .int (nI (wv.toNat))), (4, .int (nI 0)), (0, .ref (ad 0)), (1, .int (nI lk.toNat))]) hx hb dX1_complete_59 hl (k := 5) rfl (sd_dec b) (by decide) rfl (fun ls hl => ?_)
      refine lv_goto (tgt := 9) hx hb dX1_complete_62 (by decide) ?_
      exact ih (2 * q + wv.toNat) E' R' _ _ _ H locs ls (by omega) he (sd_gr_z (by omega) hg hr) hw (lv_sub hl [4, 5, 1, 0] rfl)
set_option maxHeartbeats 4000000 in
set_option maxRecDepth 100000 in
/-- complete: the seed that takes the liked value wherever the equations leave a bit open -/
theorem ct1_complete (l : Launch) (D : va_G) {ad : Nat → Nat} {dA : Nat → ClassId} {nn tpn : Nat} {fr rv gr : Int32} {sh wt fm bf eq rs gd nd : Nat → Int32} {lk : Bool} {E : Nat → Nat} {R : Nat → Bool} (hn8 : nn ≤ 8) (he : sd_eqs nn eq rs E R) : ctI l yX1_complete cX1_complete 6 (some .int) (rmK 2) D (svT dA) (svW ad dA (nI nn) (nI tpn) fr rv gr sh wt fm bf eq rs gd nd) [.ref (ad 0), .int (nI lk.toNat)] (fun r (_ : Int32 × (Nat → Int32) × (Nat → Int32)) => ∃ s0, r = nI s0 ∧ (s0 < 2 ^ nn ∧ sd_sl E R s0 nn = true ∧ ∀ y, y < 2 ^ nn → sd_sl E R y nn = true → if lk then y ≤ s0 else s0 ≤ y)) (fun u => svW ad dA (nI nn) (nI tpn) fr u.1 gr sh wt fm bf u.2.1 u.2.2 gd nd) := by
  refine ctI.of (by decide) (Nat.le_of_ble_eq_true rfl) ?_
  intro p e s m below meth c A ls B hw hl
  have hx := B.1.1
  have hb := B.1.2.1
  have hl : lv_has ls 6 [(0, .ref (ad 0)), (1, .int (nI lk.toNat))] := hl
  refine lv_iconst (v := nI 0) hx hb dX1_complete_0 (by decide) ?_
  refine lv_istore_n (lv' := [(2, .int (nI 0)), (0, .ref (ad 0)), (1, .int (nI lk.toNat))]) hx hb dX1_complete_1 rfl hl (by decide) rfl (fun ls hl => ?_)
  refine lv_aload_n hx hb dX1_complete_2 rfl (lv_at hl 1 rfl) ?_
  refine s_get1 (v := .int (nI nn)) B hw 0 (by decide) q28 rfl rfl dX1_complete_3 ?_
  refine lv_iconst (v := nI 1) hx hb dX1_complete_6 (by decide) ?_
  refine lv_isub hx hb dX1_complete_7 ?_
  refine lv_istore_n (lv' := [(3, .int ((nI nn) - (nI 1))), (2, .int (nI 0)), (0, .ref (ad 0)), (1, .int (nI lk.toNat))]) hx hb dX1_complete_8 rfl hl (by decide) rfl (fun ls hl => ?_)
  refine lp1_complete hn8 B (fun q E' R' rv1 eq1 rs1 H locs ls he1 hg hw hl => ?_) nn 0 E R rv eq rs _ _ ls (Nat.le_refl nn) he sd_gr_0 hw (lv_sub (show lv_has ls 6 [(3, .int (nI nn - nI 1)), (2, .int (nI (0 * 2 ^ nn))), (0, .ref (ad 0)), (1, .int (nI lk.toNat))] by rw [Nat.zero_mul]; exact hl) [2, 3, 1, 0] rfl)
  refine lv_iload_n hx hb dX1_complete_65 rfl (lv_at hl 2 rfl) ?_
  exact s_ret (v := nI (q * 2 ^ 0)) (rv1, eq1, rs1) B rfl hw (⟨q, by rw [Nat.pow_zero, Nat.mul_one], sd_gr_end hg he1.1⟩) dX1_complete_66
end
section
/-! SeedSolver: solve, groupCubes (printed by gen/x1c.py) -/
set_option maxHeartbeats 4000000 in
set_option maxRecDepth 100000 in
/-- solve: no equation at the start -/
theorem lp1_solve0 {p : Program} {l : Launch} {e : Env} {s : State} {m : MethodId} {args : Array Value} {below : List Frame} {meth : Method} {c : Code} {Q : State → Prop} {D : va_G} {ad : Nat → Nat} {ret : Option FieldType} {A : Nat → Prop} {dA : Nat → ClassId} {Rm : Room} {S nn tpn : Nat} {fr rv gr : Int32} {sh wt fm bf rs gd nd : Nat → Int32} (B : bx p s m meth c cX1_solve 3 ret args RX1 D (svT dA))
    (kk : ∀ (eq : Nat → Int32) (H : Heap) (locs : List Loc) (ls : Array Slot), (∀ j, j < 8 → eq j = 0) → wd D A s.heap (svW ad dA (nI nn) (nI tpn) fr rv gr sh wt fm bf eq rs gd nd) H locs → lv_has ls 3 [(0, .ref (ad 0)), (1, .int (nI S)), (2, .int (nI 8))] → W p l e Rm s m args below meth c H locs 0 0 Q (F0 m 25 ls [])) :
    ∀ (k b : Nat) (eq : Nat → Int32) (H : Heap) (locs : List Loc) (ls : Array Slot), b + k = 8 → (∀ j, j < b → eq j = 0) → wd D A s.heap (svW ad dA (nI nn) (nI tpn) fr rv gr sh wt fm bf eq rs gd nd) H locs → lv_has ls 3 [(0, .ref (ad 0)), (1, .int (nI S)), (2, .int (nI b))] → W p l e Rm s m args below meth c H locs 0 0 Q (F0 m 6 ls []) := by
  have hx := B.1.1
  have hb := B.1.2.1
  intro k
  induction k with
  | zero =>
    intro b eq H locs ls hk hI hw hl
    have eb : b = 8 := by omega
    subst eb
    refine lv_iload_n hx hb dX1_solve_6 rfl (lv_at hl 2 rfl) ?_
    refine lv_bipush (v := nI 8) hx hb dX1_solve_7 (by decide) ?_
    refine lv_icmp_ge (tgt := 25) hx hb dX1_solve_9 (by decide) (fun _ => ?_) (fun cc => absurd (nI_le (by omega) (by omega)) cc)
    exact kk eq H locs ls hI hw (lv_sub hl [0, 1, 2] rfl)
  | succ k ih =>
    intro b eq H locs ls hk hI hw hl
    refine lv_iload_n hx hb dX1_solve_6 rfl (lv_at hl 2 rfl) ?_
    refine lv_bipush (v := nI 8) hx hb dX1_solve_7 (by decide) ?_
    refine lv_icmp_ge (tgt := 25) hx hb dX1_solve_9 (by decide) (fun cc => absurd cc (nI_ge (by omega) (by omega))) (fun _ => ?_)
    refine lv_aload_n hx hb dX1_solve_12 rfl (lv_at hl 0 rfl) ?_
    refine s_get1 (v := .ref (ad 5)) B hw 7 (by decide) q35 rfl rfl dX1_solve_13 ?_
    refine lv_iload_n hx hb dX1_solve_16 rfl (lv_at hl 2 rfl) ?_
    refine lv_iconst (v := nI 0) hx hb dX1_solve_17 (by decide) ?_
    refine s_iast B hw 5 4 rfl rfl (i := b) (by omega) (by decide) dX1_solve_18 (fun H locs (hw : wd D A _ (svW ad dA (nI nn) (nI tpn) fr rv gr sh wt fm bf (upd eq b (nI 0)) rs gd nd) H locs) => ?_)
    refine lv_iinc (v := nI (b + 1)) (lv' := [(2, .int (nI (b + 1))), (0, .ref (ad 0)), (1, .int (nI S))]) hx hb dX1_solve_19 hl (k := 2) rfl (nI_add b 1) (by decide) rfl (fun ls hl => ?_)
    refine lv_goto (tgt := 6) hx hb dX1_solve_22 (by decide) ?_
    exact ih (b + 1) _ H locs ls (by omega) (fun j hj => by
      by_cases e : j = b
      · subst e; exact pk_us
      · rw [pk_un e]; exact hI j (by omega)) hw (lv_sub hl [1, 2, 0] rfl)
set_option maxHeartbeats 4000000 in
set_option maxRecDepth 100000 in
/-- solve: the places, one by one -/
theorem lp1_solve1 {p : Program} {l : Launch} {e : Env} {s : State} {m : MethodId} {args : Array Value} {below : List Frame} {meth : Method} {c : Code} {Q : State → Prop} {D : va_G} {ad : Nat → Nat} {ret : Option FieldType} {A : Nat → Prop} {dA : Nat → ClassId} {S : Nat} {nn tpn : Nat} {shn wtn : Nat → Nat} {fr gr : Int32} {sh wt fm bf gd nd : Nat → Int32} (hst : sd_ST nn tpn shn wtn sh wt) (hS : S < 64) (hfm : sd_FO nn tpn shn fm 64) (B : bx p s m meth c cX1_solve 3 ret args RX1 D (svT dA))
    (kk : ∀ (rv : Int32) (eq rs : Nat → Int32) (H : Heap) (locs : List Loc) (ls : Array Slot), sd_sv nn tpn shn wtn S 384 eq rs → wd D A s.heap (svW ad dA (nI nn) (nI tpn) fr rv gr sh wt fm bf eq rs gd nd) H locs → W p l e (rmK 2) s m args below meth c H locs 0 0 Q (F0 m 88 ls []))
    (kn : ∀ (i : Nat) (rv : Int32) (eq rs : Nat → Int32) (H : Heap) (locs : List Loc) (ls : Array Slot), i ≤ 384 → (∀ x, x < 2 ^ nn → sd_fit nn tpn shn wtn S x i = false) → wd D A s.heap (svW ad dA (nI nn) (nI tpn) fr rv gr sh wt fm bf eq rs gd nd) H locs → W p l e (rmK 2) s m args below meth c H locs 0 0 Q (F0 m 80 ls [])) :
    ∀ (k i : Nat) (rv : Int32) (eq rs : Nat → Int32) (H : Heap) (locs : List Loc) (ls : Array Slot), i + k = 384 → sd_sv nn tpn shn wtn S i eq rs → wd D A s.heap (svW ad dA (nI nn) (nI tpn) fr rv gr sh wt fm bf eq rs gd nd) H locs → lv_has ls 3 [(0, .ref (ad 0)), (1, .int (nI S)), (2, .int (nI i))] → W p l e (rmK 2) s m args below meth c H locs 0 0 Q (F0 m 27 ls []) := by
  have hx := B.1.1
  have hb := B.1.2.1
  have h8 := sd_p8 hst.2.1
  have h3 := hst.1
  have hn8 := hst.2.1
  intro k
  induction k with
  | zero =>
    intro i rv eq rs H locs ls hk hI hw hl
    have ei : i = 384 := by omega
    subst ei
    refine lv_iload_n hx hb dX1_solve_27 rfl (lv_at hl 2 rfl) ?_
    refine lv_sipush (v := nI 384) hx hb dX1_solve_28 (by decide) ?_
    refine lv_icmp_ge (tgt := 88) hx hb dX1_solve_31 (by decide) (fun _ => ?_) (fun cc => absurd (nI_le (by omega) (by omega)) cc)
    exact kk rv eq rs H locs ls hI hw
  | succ k ih =>
    intro i rv eq rs H locs ls hk hI hw hl
    have hwt := hst.2.2.2.2 i (by omega)
    refine lv_iload_n hx hb dX1_solve_27 rfl (lv_at hl 2 rfl) ?_
    refine lv_sipush (v := nI 384) hx hb dX1_solve_28 (by decide) ?_
    refine lv_icmp_ge (tgt := 88) hx hb dX1_solve_31 (by decide) (fun cc => absurd cc (nI_ge (by omega) (by omega))) (fun _ => ?_)
    refine lv_iload_n hx hb dX1_solve_34 rfl (lv_at hl 1 rfl) ?_
    refine lv_iload_n hx hb dX1_solve_35 rfl (lv_at hl 2 rfl) ?_
    refine lv_bipush (v := nI 6) hx hb dX1_solve_36 (by decide) ?_
    refine lv_ishr hx hb dX1_solve_38 ?_
    refine s_top (y := nI (i / 64)) (pk_shrN (by omega) _ 6 (s_l 6 (by omega))) ?_
    refine lv_ishr hx hb dX1_solve_39 ?_
    refine lv_iconst (v := nI 1) hx hb dX1_solve_40 (by decide) ?_
    refine lv_iand hx hb dX1_solve_41 ?_
    refine s_top (y := nI ((S.testBit (i / 64)).toNat)) (sd_bit (by omega) (by omega)) ?_
    refine lv_if_eq (tgt := 82) hx hb dX1_solve_42 (by decide) (fun c1 => ?_) (fun c1 => ?_)
    · refine lv_iinc (v := nI (i + 1)) (lv' := [(2, .int (nI (i + 1))), (0, .ref (ad 0)), (1, .int (nI S))]) hx hb dX1_solve_82 hl (k := 2) rfl (nI_add i 1) (by decide) rfl (fun ls hl => ?_)
      refine lv_goto (tgt := 27) hx hb dX1_solve_85 (by decide) ?_
      exact ih (i + 1) rv eq rs H locs ls (by omega) (sd_sv_skip hI (Or.inl ((sd_b0 _).mp c1))) hw (lv_sub hl [1, 2, 0] rfl)
    · have hSb : S.testBit (i / 64) = true := by
        cases hq : S.testBit (i / 64)
        · exact absurd ((sd_b0 _).mpr hq) c1
        · rfl
      refine lv_aload_n hx hb dX1_solve_45 rfl (lv_at hl 0 rfl) ?_
      refine s_get1 (v := .ref (ad 2)) B hw 3 (by decide) q31 rfl rfl dX1_solve_46 ?_
      refine lv_iload_n hx hb dX1_solve_49 rfl (lv_at hl 2 rfl) ?_
      refine s_bald B hw 2 1 rfl rfl (i := i) (by omega) (by decide) dX1_solve_50 ?_
      refine s_top (y := nI (wtn i)) (hwt.1) ?_
      refine lv_iconst (v := nI 2) hx hb dX1_solve_51 (by decide) ?_
      refine lv_icmp_ne (tgt := 58) hx hb dX1_solve_52 (by decide) (fun c2 => ?_) (fun c2 => ?_)
      · obtain ⟨v0, hv0⟩ := sd_v2 hwt.2 c2
        obtain ⟨a0, ea, ha, hph⟩ := hfm (i % 64) (by omega)
        obtain ⟨E, R, he, hfit⟩ := hI
        refine lv_aload_n hx hb dX1_solve_58 rfl (lv_at hl 0 rfl) ?_
        refine lv_aload_n hx hb dX1_solve_59 rfl (lv_at hl 0 rfl) ?_
        refine s_get1 (v := .ref (ad 3)) B hw 5 (by decide) q33 rfl rfl dX1_solve_60 ?_
        refine lv_iload_n hx hb dX1_solve_63 rfl (lv_at hl 2 rfl) ?_
        refine lv_bipush (v := nI 63) hx hb dX1_solve_64 (by decide) ?_
        refine lv_iand hx hb dX1_solve_66 ?_
        refine s_top (y := nI (i % 64)) (fa_mask i 6) ?_
        refine s_iald B hw 3 2 rfl rfl (i := (i % 64)) (by omega) (by decide) dX1_solve_67 ?_
        refine s_top (y := nI a0) (ea) ?_
        refine lv_aload_n hx hb dX1_solve_68 rfl (lv_at hl 0 rfl) ?_
        refine s_get1 (v := .ref (ad 2)) B hw 3 (by decide) q31 rfl rfl dX1_solve_69 ?_
        refine lv_iload_n hx hb dX1_solve_72 rfl (lv_at hl 2 rfl) ?_
        refine s_bald B hw 2 1 rfl rfl (i := i) (by omega) (by decide) dX1_solve_73 ?_
        refine s_top (y := nI v0.toNat) (hwt.1.trans (congrArg nI hv0)) ?_
        refine s_call (As := [.int (nI a0), .int (nI v0.toNat)]) (rest := []) (ci := 0) (ct1_demand l D hn8 he ha) B hw (lw_V q111 q113 qs6 q18 q114) rfl rfl rfl ⟨cn1_demand, rfl, rfl, by decide, by decide⟩ ⟨Nat.zero_le _, Nat.zero_le _⟩ hl.1 (Nat.le_of_ble_eq_true rfl) dX1_solve_74 (fun r u H locs hd hw => ?_)
        obtain ⟨rv2, eq2, rs2⟩ := u
        try dsimp only at hd
        have hw : wd D A _ (svW ad dA (nI nn) (nI tpn) fr rv2 gr sh wt fm bf eq2 rs2 gd nd) H locs := hw
        have hres := sd_sv_want hfit hph hv0 hSb hd
        refine lv_if_ne (tgt := 82) hx hb dX1_solve_77 (by decide) (fun c3 => ?_) (fun c3 => ?_)
        · refine lv_iinc (v := nI (i + 1)) (lv' := [(2, .int (nI (i + 1))), (0, .ref (ad 0)), (1, .int (nI S))]) hx hb dX1_solve_82 hl (k := 2) rfl (nI_add i 1) (by decide) rfl (fun ls hl => ?_)
          refine lv_goto (tgt := 27) hx hb dX1_solve_85 (by decide) ?_
          exact ih (i + 1) rv2 eq2 rs2 H locs ls (by omega) (sd_so_yes hres c3) hw (lv_sub hl [1, 2, 0] rfl)
        · exact kn (i + 1) rv2 eq2 rs2 H locs ls (by omega) (sd_so_nay hres c3) hw
      · refine lv_goto (tgt := 82) hx hb dX1_solve_55 (by decide) ?_
        refine lv_iinc (v := nI (i + 1)) (lv' := [(2, .int (nI (i + 1))), (0, .ref (ad 0)), (1, .int (nI S))]) hx hb dX1_solve_82 hl (k := 2) rfl (nI_add i 1) (by decide) rfl (fun ls hl => ?_)
        refine lv_goto (tgt := 27) hx hb dX1_solve_85 (by decide) ?_
        exact ih (i + 1) rv eq rs H locs ls (by omega) (sd_sv_skip hI (Or.inr ((nI_eq (by omega) (by omega)).mp c2))) hw (lv_sub hl [1, 2, 0] rfl)
set_option maxHeartbeats 4000000 in
set_option maxRecDepth 100000 in
/-- solve: the equations of all places that the cubes of a set want -/
theorem ct1_solve (l : Launch) (D : va_G) {ad : Nat → Nat} {dA : Nat → ClassId} {nn tpn : Nat} {shn wtn : Nat → Nat} {fr rv gr : Int32} {sh wt fm bf eq rs gd nd : Nat → Int32} {S : Nat} (hst : sd_ST nn tpn shn wtn sh wt) (hS : S < 64) (hfr : sd_fP nn tpn shn fr fm) : ctI l yX1_solve cX1_solve 3 (some .boolean) (rmK 2) D (svT dA) (svW ad dA (nI nn) (nI tpn) fr rv gr sh wt fm bf eq rs gd nd) [.ref (ad 0), .int (nI S)] (fun r (u : Int32 × Int32 × (Nat → Int32) × (Nat → Int32) × (Nat → Int32) × (Nat → Int32)) => u.1 = 1 ∧ sd_FO nn tpn shn u.2.2.1 64 ∧ sd_so nn tpn shn wtn S r u.2.2.2.2.1 u.2.2.2.2.2) (fun u => svW ad dA (nI nn) (nI tpn) u.1 u.2.1 gr sh wt u.2.2.1 u.2.2.2.1 u.2.2.2.2.1 u.2.2.2.2.2 gd nd) := by
  refine ctI.of (by decide) (Nat.le_of_ble_eq_true rfl) ?_
  intro p e s m below meth c A ls B hw hl
  have hx := B.1.1
  have hb := B.1.2.1
  have hl : lv_has ls 3 [(0, .ref (ad 0)), (1, .int (nI S))] := hl
  have h8 := sd_p8 hst.2.1
  have h3 := hst.1
  have hn8 := hst.2.1
  refine lv_aload_n hx hb dX1_solve_0 rfl (lv_at hl 0 rfl) ?_
  refine s_callv (As := []) (rest := []) (ci := 0) (ct1_makeForms l D hst hfr) B hw (lw_V q87 q89 qs1 q18 q90) rfl rfl rfl ⟨cn1_makeForms, rfl, rfl, by decide, by decide⟩ ⟨Nat.zero_le _, Nat.zero_le _⟩ hl.1 (Nat.le_of_ble_eq_true rfl) dX1_solve_1 (fun u H locs hp hw => ?_)
  obtain ⟨fr1, fm1, bf1⟩ := u
  try dsimp only at hp
  have hw : wd D A _ (svW ad dA (nI nn) (nI tpn) fr1 rv gr sh wt fm1 bf1 eq rs gd nd) H locs := hw
  refine lv_iconst (v := nI 0) hx hb dX1_solve_4 (by decide) ?_
  refine lv_istore_n (lv' := [(2, .int (nI 0)), (0, .ref (ad 0)), (1, .int (nI S))]) hx hb dX1_solve_5 rfl hl (by decide) rfl (fun ls hl => ?_)
  refine lp1_solve0 B (fun eq1 H locs ls hI hw hl => ?_) 8 0 eq _ _ ls rfl (fun j hj => absurd hj (Nat.not_lt_zero j)) hw (lv_sub hl [1, 2, 0] rfl)
  refine lv_iconst (v := nI 0) hx hb dX1_solve_25 (by decide) ?_
  refine lv_istore_n (lv' := [(2, .int (nI 0)), (0, .ref (ad 0)), (1, .int (nI S))]) hx hb dX1_solve_26 rfl hl (by decide) rfl (fun ls hl => ?_)
  refine lp1_solve1 hst hS hp.2 B (fun rv2 eq2 rs2 H locs ls hI hw => ?_) (fun i rv2 eq2 rs2 H locs ls hi hN hw => ?_) 384 0 rv eq1 rs _ _ ls rfl (sd_sv_0 (fun b hb => hI b (by omega))) hw (lv_sub hl [1, 2, 0] rfl)
  · refine lv_iconst (v := nI 1) hx hb dX1_solve_88 (by decide) ?_
    exact s_ret (v := nI 1) (fr1, rv2, fm1, bf1, eq2, rs2) B rfl hw (⟨hp.1, hp.2, Or.inl ⟨rfl, hI⟩⟩) dX1_solve_89
  · refine lv_iconst (v := nI 0) hx hb dX1_solve_80 (by decide) ?_
    exact s_ret (v := nI 0) (fr1, rv2, fm1, bf1, eq2, rs2) B rfl hw (⟨hp.1, hp.2, sd_so_no hi hN⟩) dX1_solve_81
set_option maxHeartbeats 4000000 in
set_option maxRecDepth 100000 in
/-- groupCubes: the groups of a set -/
theorem lp1_gcI {p : Program} {l : Launch} {e : Env} {s : State} {m : MethodId} {args : Array Value} {below : List Frame} {meth : Method} {c : Code} {Q : State → Prop} {D : va_G} {ad : Nat → Nat} {ret : Option FieldType} {A : Nat → Prop} {dA : Nat → ClassId} {Rm : Room} {H : Heap} {locs : List Loc} {S b : Nat} {nn tpn : Nat} {shn wtn : Nat → Nat} {fr rv gr : Int32} {sh wt fm bf eq rs gd nd : Nat → Int32} (hS : S < 64) (hS0 : 0 < S) (hbS : S.testBit b = true) (hgd : ∀ q, 0 < q → q ≤ S → sd_yn (gd q) (sd_ok nn tpn shn wtn q)) (hnd : ∀ t, t < S → sd_min (fun k => sd_F (sd_ok nn tpn shn wtn) 63 k t) (nd t)) (hw : wd D A s.heap (svW ad dA (nI nn) (nI tpn) fr rv gr sh wt fm bf eq rs gd nd) H locs) (B : bx p s m meth c cX1_groupCubes 6 ret args RX1 D (svT dA))
    (kk : ∀ (bst : Int32) (ls : Array Slot), sd_min (fun k => sd_F (sd_ok nn tpn shn wtn) 63 k S) bst → lv_has ls 6 [(0, .ref (ad 0)), (1, .int (nI S)), (2, .int (nI (2 ^ b))), (3, .int bst), (4, .int (nI 0))] → W p l e Rm s m args below meth c H locs 0 0 Q (F0 m 115 ls [])) :
    ∀ (k ga : Nat) (bst : Int32) (ls : Array Slot), ga ≤ k → ga &&& S = ga → sd_min (sd_P (sd_ok nn tpn shn wtn) S b ga) bst → lv_has ls 6 [(0, .ref (ad 0)), (1, .int (nI S)), (2, .int (nI (2 ^ b))), (3, .int bst), (4, .int (nI ga))] → W p l e Rm s m args below meth c H locs 0 0 Q (F0 m 44 ls []) := by
  have hx := B.1.1
  have hb := B.1.2.1
  intro k
  induction k with
  | zero =>
    intro ga bst ls hk hg hm hl
    have ei : ga = 0 := by omega
    subst ei
    refine lv_iload hx hb dX1_groupCubes_44 (lv_at hl 4 rfl) ?_
    refine lv_if_le (tgt := 115) hx hb dX1_groupCubes_46 (by decide) (fun _ => ?_) (fun cc => absurd (nI_le (Nat.le_refl 0) (by omega)) cc)
    exact kk bst ls (sd_P_end hS hbS hm) (lv_sub hl [0, 1, 2, 3, 4] rfl)
  | succ k ih =>
    intro ga bst ls hk hg hm hl
    have hgS := sd_sub_le hg
    refine lv_iload hx hb dX1_groupCubes_44 (lv_at hl 4 rfl) ?_
    refine lv_if_le (tgt := 115) hx hb dX1_groupCubes_46 (by decide) (fun c0 => ?_) (fun c0 => ?_)
    · have ei : ga = 0 := by
        have := (nI_leI (b := 0) (show ga < 2 ^ 31 by omega) (by omega)).mp c0
        omega
      subst ei
      exact kk bst ls (sd_P_end hS hbS hm) (lv_sub hl [0, 1, 2, 3, 4] rfl)
    · have h0 : 0 < ga := by
        rcases Nat.eq_zero_or_pos ga with q | q
        · subst q; exact absurd (Int32.le_refl 0) c0
        · exact q
      have hnl := sd_next_lt (s := S) h0
      refine lv_iload hx hb dX1_groupCubes_49 (lv_at hl 4 rfl) ?_
      refine lv_iload_n hx hb dX1_groupCubes_51 rfl (lv_at hl 2 rfl) ?_
      refine lv_iand hx hb dX1_groupCubes_52 ?_
      refine s_top (y := nI (ga &&& (2 ^ b))) (fa_and _ _) ?_
      refine lv_if_eq (tgt := 104) hx hb dX1_groupCubes_53 (by decide) (fun c1 => ?_) (fun c1 => ?_)
      · have hbn := (sd_and_pow ga b).mp ((nI_eq (b := 0) (Nat.lt_of_le_of_lt Nat.and_le_left (show ga < 2 ^ 31 by omega)) (by omega)).mp c1)
        refine lv_iload hx hb dX1_groupCubes_104 (lv_at hl 4 rfl) ?_
        refine lv_iconst (v := nI 1) hx hb dX1_groupCubes_106 (by decide) ?_
        refine lv_isub hx hb dX1_groupCubes_107 ?_
        refine s_top (y := nI (ga - 1)) (pk_sub h0) ?_
        refine lv_iload_n hx hb dX1_groupCubes_108 rfl (lv_at hl 1 rfl) ?_
        refine lv_iand hx hb dX1_groupCubes_109 ?_
        refine s_top (y := nI ((ga - 1) &&& S)) (fa_and _ _) ?_
        refine lv_istore (lv' := [(4, .int (nI ((ga - 1) &&& S))), (0, .ref (ad 0)), (1, .int (nI S)), (2, .int (nI (2 ^ b))), (3, .int bst)]) hx hb dX1_groupCubes_110 hl (by decide) rfl (fun ls hl => ?_)
        refine lv_goto (tgt := 44) hx hb dX1_groupCubes_112 (by decide) ?_
        exact ih ((ga - 1) &&& S) bst ls (by omega) (sd_next_sub S ga) (sd_P_skip hS hg h0 hm (fun k q => by have q2 := q.2.1; rw [hbn] at q2; cases q2)) (lv_sub hl [1, 2, 3, 4, 0] rfl)
      · have hbt : ga.testBit b = true := by
          cases hq : ga.testBit b
          · exact absurd (by rw [(sd_and_pow ga b).mpr hq]; rfl) c1
          · rfl
        refine lv_aload_n hx hb dX1_groupCubes_56 rfl (lv_at hl 0 rfl) ?_
        refine s_get1 (v := .ref (ad 7)) B hw 11 (by decide) q39 rfl rfl dX1_groupCubes_57 ?_
        refine lv_iload hx hb dX1_groupCubes_60 (lv_at hl 4 rfl) ?_
        refine s_zald B hw 7 6 rfl rfl (i := ga) (by omega) (by decide) dX1_groupCubes_62 ?_
        refine lv_if_ne (tgt := 69) hx hb dX1_groupCubes_63 (by decide) (fun c2 => ?_) (fun c2 => ?_)
        · have hok := sd_yn_ne (hgd ga h0 hgS) c2
          have hlt := sd_df_lt hbS hbt
          have hrm := hnd _ hlt
          refine lv_aload_n hx hb dX1_groupCubes_69 rfl (lv_at hl 0 rfl) ?_
          refine s_get1 (v := .ref (ad 8)) B hw 12 (by decide) q40 rfl rfl dX1_groupCubes_70 ?_
          refine lv_iload_n hx hb dX1_groupCubes_73 rfl (lv_at hl 1 rfl) ?_
          refine lv_iload hx hb dX1_groupCubes_74 (lv_at hl 4 rfl) ?_
          refine lv_iconst (v := (-1)) hx hb dX1_groupCubes_76 (by decide) ?_
          refine lv_ixor hx hb dX1_groupCubes_77 ?_
          refine lv_iand hx hb dX1_groupCubes_78 ?_
          refine s_top (y := nI (sd_df S ga)) (sd_not _ _) ?_
          refine s_bald B hw 8 7 rfl rfl (i := (sd_df S ga)) (by omega) (by decide) dX1_groupCubes_79 ?_
          refine lv_topi (fun rest erest => ?_)
          rw [← erest] at hrm
          refine lv_istore (lv' := [(5, .int rest), (0, .ref (ad 0)), (1, .int (nI S)), (2, .int (nI (2 ^ b))), (3, .int bst), (4, .int (nI ga))]) hx hb dX1_groupCubes_80 hl (by decide) rfl (fun ls hl => ?_)
          refine lv_iload hx hb dX1_groupCubes_82 (lv_at hl 0 rfl) ?_
          refine lv_if_lt (tgt := 104) hx hb dX1_groupCubes_84 (by decide) (fun c3 => ?_) (fun c3 => ?_)
          · refine lv_iload hx hb dX1_groupCubes_104 (lv_at hl 5 rfl) ?_
            refine lv_iconst (v := nI 1) hx hb dX1_groupCubes_106 (by decide) ?_
            refine lv_isub hx hb dX1_groupCubes_107 ?_
            refine s_top (y := nI (ga - 1)) (pk_sub h0) ?_
            refine lv_iload_n hx hb dX1_groupCubes_108 rfl (lv_at hl 2 rfl) ?_
            refine lv_iand hx hb dX1_groupCubes_109 ?_
            refine s_top (y := nI ((ga - 1) &&& S)) (fa_and _ _) ?_
            refine lv_istore (lv' := [(4, .int (nI ((ga - 1) &&& S))), (5, .int rest), (0, .ref (ad 0)), (1, .int (nI S)), (2, .int (nI (2 ^ b))), (3, .int bst)]) hx hb dX1_groupCubes_110 hl (by decide) rfl (fun ls hl => ?_)
            refine lv_goto (tgt := 44) hx hb dX1_groupCubes_112 (by decide) ?_
            exact ih ((ga - 1) &&& S) bst ls (by omega) (sd_next_sub S ga) (sd_P_none hS hg h0 hm hrm c3) (lv_sub hl [2, 3, 4, 5, 0] rfl)
          · obtain ⟨k0, hk1, hk2, ek⟩ := sd_min_nn hrm c3
            have hk63 := sd_F_le hk1
            have er : rest + nI 1 = nI (k0 + 1) := by rw [ek]; exact nI_add k0 1
            refine lv_iload_n hx hb dX1_groupCubes_87 rfl (lv_at hl 4 rfl) ?_
            refine lv_if_lt (tgt := 99) hx hb dX1_groupCubes_88 (by decide) (fun c4 => ?_) (fun c4 => ?_)
            · refine lv_iload hx hb dX1_groupCubes_99 (lv_at hl 0 rfl) ?_
              refine lv_iconst (v := nI 1) hx hb dX1_groupCubes_101 (by decide) ?_
              refine lv_iadd hx hb dX1_groupCubes_102 ?_
              refine s_top (y := nI (k0 + 1)) (er) ?_
              refine lv_istore_n (lv' := [(3, .int (nI (k0 + 1))), (5, .int rest), (0, .ref (ad 0)), (1, .int (nI S)), (2, .int (nI (2 ^ b))), (4, .int (nI ga))]) hx hb dX1_groupCubes_103 rfl hl (by decide) rfl (fun ls hl => ?_)
              refine lv_iload hx hb dX1_groupCubes_104 (lv_at hl 5 rfl) ?_
              refine lv_iconst (v := nI 1) hx hb dX1_groupCubes_106 (by decide) ?_
              refine lv_isub hx hb dX1_groupCubes_107 ?_
              refine s_top (y := nI (ga - 1)) (pk_sub h0) ?_
              refine lv_iload_n hx hb dX1_groupCubes_108 rfl (lv_at hl 3 rfl) ?_
              refine lv_iand hx hb dX1_groupCubes_109 ?_
              refine s_top (y := nI ((ga - 1) &&& S)) (fa_and _ _) ?_
              refine lv_istore (lv' := [(4, .int (nI ((ga - 1) &&& S))), (3, .int (nI (k0 + 1))), (5, .int rest), (0, .ref (ad 0)), (1, .int (nI S)), (2, .int (nI (2 ^ b)))]) hx hb dX1_groupCubes_110 hl (by decide) rfl (fun ls hl => ?_)
              refine lv_goto (tgt := 44) hx hb dX1_groupCubes_112 (by decide) ?_
              exact ih ((ga - 1) &&& S) _ ls (by omega) (sd_next_sub S ga) (sd_P_take hS hg h0 hok hbt hm hk1 hk2 (Or.inl c4)) (lv_sub hl [3, 4, 5, 1, 0] rfl)
            · refine lv_iload hx hb dX1_groupCubes_91 (lv_at hl 0 rfl) ?_
              refine lv_iconst (v := nI 1) hx hb dX1_groupCubes_93 (by decide) ?_
              refine lv_iadd hx hb dX1_groupCubes_94 ?_
              refine s_top (y := nI (k0 + 1)) (er) ?_
              refine lv_iload_n hx hb dX1_groupCubes_95 rfl (lv_at hl 4 rfl) ?_
              refine lv_icmp_ge (tgt := 104) hx hb dX1_groupCubes_96 (by decide) (fun c5 => ?_) (fun c5 => ?_)
              · refine lv_iload hx hb dX1_groupCubes_104 (lv_at hl 5 rfl) ?_
                refine lv_iconst (v := nI 1) hx hb dX1_groupCubes_106 (by decide) ?_
                refine lv_isub hx hb dX1_groupCubes_107 ?_
                refine s_top (y := nI (ga - 1)) (pk_sub h0) ?_
                refine lv_iload_n hx hb dX1_groupCubes_108 rfl (lv_at hl 2 rfl) ?_
                refine lv_iand hx hb dX1_groupCubes_109 ?_
                refine s_top (y := nI ((ga - 1) &&& S)) (fa_and _ _) ?_
                refine lv_istore (lv' := [(4, .int (nI ((ga - 1) &&& S))), (5, .int rest), (0, .ref (ad 0)), (1, .int (nI S)), (2, .int (nI (2 ^ b))), (3, .int bst)]) hx hb dX1_groupCubes_110 hl (by decide) rfl (fun ls hl => ?_)
                refine lv_goto (tgt := 44) hx hb dX1_groupCubes_112 (by decide) ?_
                exact ih ((ga - 1) &&& S) bst ls (by omega) (sd_next_sub S ga) (sd_P_keep hS hg h0 hm hk2 hk63 c4 c5) (lv_sub hl [2, 3, 4, 5, 0] rfl)
              · refine lv_iload hx hb dX1_groupCubes_99 (lv_at hl 0 rfl) ?_
                refine lv_iconst (v := nI 1) hx hb dX1_groupCubes_101 (by decide) ?_
                refine lv_iadd hx hb dX1_groupCubes_102 ?_
                refine s_top (y := nI (k0 + 1)) (er) ?_
                refine lv_istore_n (lv' := [(3, .int (nI (k0 + 1))), (5, .int rest), (0, .ref (ad 0)), (1, .int (nI S)), (2, .int (nI (2 ^ b))), (4, .int (nI ga))]) hx hb dX1_groupCubes_103 rfl hl (by decide) rfl (fun ls hl => ?_)
                refine lv_iload hx hb dX1_groupCubes_104 (lv_at hl 5 rfl) ?_
                refine lv_iconst (v := nI 1) hx hb dX1_groupCubes_106 (by decide) ?_
                refine lv_isub hx hb dX1_groupCubes_107 ?_
                refine s_top (y := nI (ga - 1)) (pk_sub h0) ?_
                refine lv_iload_n hx hb dX1_groupCubes_108 rfl (lv_at hl 3 rfl) ?_
                refine lv_iand hx hb dX1_groupCubes_109 ?_
                refine s_top (y := nI ((ga - 1) &&& S)) (fa_and _ _) ?_
                refine lv_istore (lv' := [(4, .int (nI ((ga - 1) &&& S))), (3, .int (nI (k0 + 1))), (5, .int rest), (0, .ref (ad 0)), (1, .int (nI S)), (2, .int (nI (2 ^ b)))]) hx hb dX1_groupCubes_110 hl (by decide) rfl (fun ls hl => ?_)
                refine lv_goto (tgt := 44) hx hb dX1_groupCubes_112 (by decide) ?_
                exact ih ((ga - 1) &&& S) _ ls (by omega) (sd_next_sub S ga) (sd_P_take hS hg h0 hok hbt hm hk1 hk2 (Or.inr c5)) (lv_sub hl [3, 4, 5, 1, 0] rfl)
        · refine lv_goto (tgt := 104) hx hb dX1_groupCubes_66 (by decide) ?_
          refine lv_iload hx hb dX1_groupCubes_104 (lv_at hl 4 rfl) ?_
          refine lv_iconst (v := nI 1) hx hb dX1_groupCubes_106 (by decide) ?_
          refine lv_isub hx hb dX1_groupCubes_107 ?_
          refine s_top (y := nI (ga - 1)) (pk_sub h0) ?_
          refine lv_iload_n hx hb dX1_groupCubes_108 rfl (lv_at hl 1 rfl) ?_
          refine lv_iand hx hb dX1_groupCubes_109 ?_
          refine s_top (y := nI ((ga - 1) &&& S)) (fa_and _ _) ?_
          refine lv_istore (lv' := [(4, .int (nI ((ga - 1) &&& S))), (0, .ref (ad 0)), (1, .int (nI S)), (2, .int (nI (2 ^ b))), (3, .int bst)]) hx hb dX1_groupCubes_110 hl (by decide) rfl (fun ls hl => ?_)
          refine lv_goto (tgt := 44) hx hb dX1_groupCubes_112 (by decide) ?_
          exact ih ((ga - 1) &&& S) bst ls (by omega) (sd_next_sub S ga) (sd_P_skip hS hg h0 hm (fun k q => sd_yn_eq (hgd ga h0 hgS) c2 q.1)) (lv_sub hl [1, 2, 3, 4, 0] rfl)
set_option maxHeartbeats 4000000 in
set_option maxRecDepth 100000 in
/-- groupCubes: the sets, smaller first -/
theorem lp1_gcO {p : Program} {l : Launch} {e : Env} {s : State} {m : MethodId} {args : Array Value} {below : List Frame} {meth : Method} {c : Code} {Q : State → Prop} {D : va_G} {ad : Nat → Nat} {ret : Option FieldType} {A : Nat → Prop} {dA : Nat → ClassId} {nn tpn : Nat} {shn wtn : Nat → Nat} {gr : Int32} {sh wt : Nat → Int32} (hst : sd_ST nn tpn shn wtn sh wt) (B : bx p s m meth c cX1_groupCubes 6 ret args RX1 D (svT dA))
    (kk : ∀ (fr rv : Int32) (fm bf eq rs gd nd : Nat → Int32) (H : Heap) (locs : List Loc) (ls : Array Slot), sd_fP nn tpn shn fr fm → sd_GP nn tpn shn wtn 64 gd nd → wd D A s.heap (svW ad dA (nI nn) (nI tpn) fr rv gr sh wt fm bf eq rs gd nd) H locs → lv_has ls 6 [(0, .ref (ad 0)), (1, .int (nI 64))] → W p l e (rmK 3) s m args below meth c H locs 0 0 Q (F0 m 129 ls [])) :
    ∀ (k S : Nat) (fr rv : Int32) (fm bf eq rs gd nd : Nat → Int32) (H : Heap) (locs : List Loc) (ls : Array Slot), S + k = 64 → 0 < S → sd_fP nn tpn shn fr fm → sd_GP nn tpn shn wtn S gd nd → wd D A s.heap (svW ad dA (nI nn) (nI tpn) fr rv gr sh wt fm bf eq rs gd nd) H locs → lv_has ls 6 [(0, .ref (ad 0)), (1, .int (nI S))] → W p l e (rmK 3) s m args below meth c H locs 0 0 Q (F0 m 16 ls []) := by
  have hx := B.1.1
  have hb := B.1.2.1
  intro k
  induction k with
  | zero =>
    intro S fr rv fm bf eq rs gd nd H locs ls hk h0 hf hI hw hl
    have ei : S = 64 := by omega
    subst ei
    refine lv_iload_n hx hb dX1_groupCubes_16 rfl (lv_at hl 1 rfl) ?_
    refine lv_bipush (v := nI 64) hx hb dX1_groupCubes_17 (by decide) ?_
    refine lv_icmp_ge (tgt := 129) hx hb dX1_groupCubes_19 (by decide) (fun _ => ?_) (fun cc => absurd (nI_le (by omega) (by omega)) cc)
    exact kk fr rv fm bf eq rs gd nd H locs ls hf hI hw (lv_sub hl [0, 1] rfl)
  | succ k ih =>
    intro S fr rv fm bf eq rs gd nd H locs ls hk h0 hf hI hw hl
    have hS : S < 64 := by omega
    obtain ⟨b, hb6, eb, hbS⟩ := sd_lowbit S hS h0
    refine lv_iload_n hx hb dX1_groupCubes_16 rfl (lv_at hl 1 rfl) ?_
    refine lv_bipush (v := nI 64) hx hb dX1_groupCubes_17 (by decide) ?_
    refine lv_icmp_ge (tgt := 129) hx hb dX1_groupCubes_19 (by decide) (fun cc => absurd cc (nI_ge (by omega) (by omega))) (fun _ => ?_)
    refine lv_aload_n hx hb dX1_groupCubes_22 rfl (lv_at hl 0 rfl) ?_
    refine s_get1 (v := .ref (ad 7)) B hw 11 (by decide) q39 rfl rfl dX1_groupCubes_23 ?_
    refine lv_iload_n hx hb dX1_groupCubes_26 rfl (lv_at hl 1 rfl) ?_
    refine lv_aload_n hx hb dX1_groupCubes_27 rfl (lv_at hl 0 rfl) ?_
    refine lv_iload_n hx hb dX1_groupCubes_28 rfl (lv_at hl 1 rfl) ?_
    refine s_call (As := [.int (nI S)]) (rest := [.int (nI S), .ref (ad 7)]) (ci := 0) (ct1_solve l D hst hS hf) B hw (lw_V q107 q109 qs5 q18 q110) rfl rfl rfl ⟨cn1_solve, rfl, rfl, by decide, by decide⟩ ⟨Nat.zero_le _, Nat.zero_le _⟩ hl.1 (Nat.le_of_ble_eq_true rfl) dX1_groupCubes_29 (fun r u H locs hp hw => ?_)
    obtain ⟨fr1, rv1, fm1, bf1, eq1, rs1⟩ := u
    try dsimp only at hp
    have hw : wd D A _ (svW ad dA (nI nn) (nI tpn) fr1 rv1 gr sh wt fm1 bf1 eq1 rs1 gd nd) H locs := hw
    have hyn := sd_so_ex hp.2.2
    refine s_zast B hw 7 6 rfl rfl (i := S) (by omega) (by decide) (sd_yn_vz hyn) dX1_groupCubes_32 (fun H locs (hw : wd D A _ (svW ad dA (nI nn) (nI tpn) fr1 rv1 gr sh wt fm1 bf1 eq1 rs1 (upd gd S r) nd) H locs) => ?_)
    refine lv_iload_n hx hb dX1_groupCubes_33 rfl (lv_at hl 1 rfl) ?_
    refine lv_iload_n hx hb dX1_groupCubes_34 rfl (lv_at hl 1 rfl) ?_
    refine lv_ineg hx hb dX1_groupCubes_35 ?_
    refine lv_iand hx hb dX1_groupCubes_36 ?_
    refine s_top (y := nI (2 ^ b)) ((sd_low S hS).trans (congrArg nI eb)) ?_
    refine lv_istore_n (lv' := [(2, .int (nI (2 ^ b))), (0, .ref (ad 0)), (1, .int (nI S))]) hx hb dX1_groupCubes_37 rfl hl (by decide) rfl (fun ls hl => ?_)
    refine lv_bipush (v := (-2)) hx hb dX1_groupCubes_38 (by decide) ?_
    refine lv_istore_n (lv' := [(3, .int (-2)), (2, .int (nI (2 ^ b))), (0, .ref (ad 0)), (1, .int (nI S))]) hx hb dX1_groupCubes_40 rfl hl (by decide) rfl (fun ls hl => ?_)
    refine lv_iload_n hx hb dX1_groupCubes_41 rfl (lv_at hl 3 rfl) ?_
    refine lv_istore (lv' := [(4, .int (nI S)), (3, .int (-2)), (2, .int (nI (2 ^ b))), (0, .ref (ad 0)), (1, .int (nI S))]) hx hb dX1_groupCubes_42 hl (by decide) rfl (fun ls hl => ?_)
    refine lp1_gcI hS h0 hbS (fun q h1 h2 => sd_GP_g hI hyn h1 h2) hI.2 hw B (fun bst ls hm hl => ?_) S S _ ls (Nat.le_refl S) (Nat.and_self S) sd_P_top (lv_sub hl [3, 4, 2, 1, 0] rfl)
    refine lv_aload_n hx hb dX1_groupCubes_115 rfl (lv_at hl 0 rfl) ?_
    refine s_get1 (v := .ref (ad 8)) B hw 12 (by decide) q40 rfl rfl dX1_groupCubes_116 ?_
    refine lv_iload_n hx hb dX1_groupCubes_119 rfl (lv_at hl 1 rfl) ?_
    refine lv_iload_n hx hb dX1_groupCubes_120 rfl (lv_at hl 3 rfl) ?_
    refine lv_i2b (v := bst) hx hb dX1_groupCubes_121 (sd_min_byte hm) ?_
    refine s_bast B hw 8 7 rfl rfl (i := S) (by omega) (by decide) (sd_min_nar hm) dX1_groupCubes_122 (fun H locs (hw : wd D A _ (svW ad dA (nI nn) (nI tpn) fr1 rv1 gr sh wt fm1 bf1 eq1 rs1 (upd gd S r) (upd nd S bst)) H locs) => ?_)
    refine lv_iinc (v := nI (S + 1)) (lv' := [(1, .int (nI (S + 1))), (0, .ref (ad 0)), (2, .int (nI (2 ^ b))), (3, .int bst), (4, .int (nI 0))]) hx hb dX1_groupCubes_123 hl (k := 1) rfl (nI_add S 1) (by decide) rfl (fun ls hl => ?_)
    refine lv_goto (tgt := 16) hx hb dX1_groupCubes_126 (by decide) ?_
    exact ih (S + 1) fr1 rv1 fm1 bf1 eq1 rs1 _ _ H locs ls (by omega) (by omega) (Or.inr ⟨hp.1, hp.2.1⟩) (sd_GP_s hI hyn hm) hw (lv_sub hl [1, 0] rfl)
set_option maxHeartbeats 4000000 in
set_option maxRecDepth 100000 in
/-- groupCubes: for every set of cubes the fewest seeds that serve it -/
theorem ct1_groupCubes (l : Launch) (D : va_G) {ad : Nat → Nat} {dA : Nat → ClassId} {nn tpn : Nat} {shn wtn : Nat → Nat} {fr rv gr : Int32} {sh wt fm bf eq rs gd nd : Nat → Int32} (hst : sd_ST nn tpn shn wtn sh wt) (hfr : sd_fP nn tpn shn fr fm) : ctV l yX1_groupCubes cX1_groupCubes 6 (rmK 3) D (svT dA) (svW ad dA (nI nn) (nI tpn) fr rv gr sh wt fm bf eq rs gd nd) [.ref (ad 0)] (fun (u : Int32 × Int32 × Int32 × (Nat → Int32) × (Nat → Int32) × (Nat → Int32) × (Nat → Int32) × (Nat → Int32) × (Nat → Int32)) => sd_fP nn tpn shn u.1 u.2.2.2.1 ∧ sd_gP nn tpn shn wtn u.2.2.1 u.2.2.2.2.2.2.2.2 ∧ u.2.2.1 = 1) (fun u => svW ad dA (nI nn) (nI tpn) u.1 u.2.1 u.2.2.1 sh wt u.2.2.2.1 u.2.2.2.2.1 u.2.2.2.2.2.1 u.2.2.2.2.2.2.1 u.2.2.2.2.2.2.2.1 u.2.2.2.2.2.2.2.2) := by
  refine ctV.of (by decide) (Nat.le_of_ble_eq_true rfl) ?_
  intro p e s m below meth c A ls B hw hl
  have hx := B.1.1
  have hb := B.1.2.1
  have hl : lv_has ls 6 [(0, .ref (ad 0))] := hl
  refine lv_aload_n hx hb dX1_groupCubes_0 rfl (lv_at hl 0 rfl) ?_
  refine s_get1 (v := .ref (ad 7)) B hw 11 (by decide) q39 rfl rfl dX1_groupCubes_1 ?_
  refine lv_iconst (v := nI 0) hx hb dX1_groupCubes_4 (by decide) ?_
  refine lv_iconst (v := nI 0) hx hb dX1_groupCubes_5 (by decide) ?_
  refine s_zast B hw 7 6 rfl rfl (i := 0) (by omega) (by decide) (rfl) dX1_groupCubes_6 (fun H locs (hw : wd D A _ (svW ad dA (nI nn) (nI tpn) fr rv gr sh wt fm bf eq rs (upd gd 0 (nI 0)) nd) H locs) => ?_)
  refine lv_aload_n hx hb dX1_groupCubes_7 rfl (lv_at hl 0 rfl) ?_
  refine s_get1 (v := .ref (ad 8)) B hw 12 (by decide) q40 rfl rfl dX1_groupCubes_8 ?_
  refine lv_iconst (v := nI 0) hx hb dX1_groupCubes_11 (by decide) ?_
  refine lv_iconst (v := nI 0) hx hb dX1_groupCubes_12 (by decide) ?_
  refine s_bast B hw 8 7 rfl rfl (i := 0) (by omega) (by decide) (by decide) dX1_groupCubes_13 (fun H locs (hw : wd D A _ (svW ad dA (nI nn) (nI tpn) fr rv gr sh wt fm bf eq rs (upd gd 0 (nI 0)) (upd nd 0 (nI 0))) H locs) => ?_)
  refine lv_iconst (v := nI 1) hx hb dX1_groupCubes_14 (by decide) ?_
  refine lv_istore_n (lv' := [(1, .int (nI 1)), (0, .ref (ad 0))]) hx hb dX1_groupCubes_15 rfl hl (by decide) rfl (fun ls hl => ?_)
  refine lp1_gcO hst B (fun fr1 rv1 fm1 bf1 eq1 rs1 gd1 nd1 H locs ls hf hI hw hl => ?_) 63 1 fr rv fm bf eq rs _ _ _ _ ls rfl (by decide) hfr sd_GP_1 hw (lv_sub hl [1, 0] rfl)
  refine lv_aload_n hx hb dX1_groupCubes_129 rfl (lv_at hl 0 rfl) ?_
  refine lv_iconst (v := nI 1) hx hb dX1_groupCubes_130 (by decide) ?_
  refine s_put1 (ty := .boolean) B hw 10 (by decide) q38 rfl rfl (by decide +kernel) rfl rfl (Nat.le_of_ble_eq_true rfl) dX1_groupCubes_131 (fun H locs (hw : wd D A _ (svW ad dA (nI nn) (nI tpn) fr1 rv1 (nI 1) sh wt fm1 bf1 eq1 rs1 gd1 nd1) H locs) => ?_)
  exact s_vret (fr1, rv1, nI 1, fm1, bf1, eq1, rs1, gd1, nd1) B hw (⟨hf, Or.inr ⟨rfl, hI.2⟩, rfl⟩) dX1_groupCubes_134
end
section
/-! SeedSolver: the public methods (printed by gen/x1d.py) -/
set_option maxHeartbeats 4000000 in
set_option maxRecDepth 100000 in
/-- shifter -/
theorem ct1_shifter (l : Launch) (D : va_G) {ad : Nat → Nat} {dA : Nat → ClassId} {nn tpn : Nat} {shn wtn : Nat → Nat} {fr rv gr : Int32} {sh wt fm bf eq rs gd nd : Nat → Int32} (hsi : sd_SI nn tpn shn wtn fr gr sh wt fm nd) (p0 p1 : Int32) : ctI l yX1_shifter cX1_shifter 3 (some .boolean) (rmK 0) D (svT dA) (svW ad dA (nI nn) (nI tpn) fr rv gr sh wt fm bf eq rs gd nd) [.ref (ad 0), .int p0, .int p1] (fun r (u : SvU) => ∃ shn', sd_Ash nn shn p0 p1 r shn' ∧ sd_SIu nn tpn shn' wtn u) (fun u => svWu ad dA (nI nn) (nI tpn) u) := by
  refine ctI.of (by decide) (Nat.le_of_ble_eq_true rfl) ?_
  intro p e s m below meth c A ls B hw hl
  have hx := B.1.1
  have hb := B.1.2.1
  have hl : lv_has ls 3 [(0, .ref (ad 0)), (1, .int p0), (2, .int p1)] := hl
  have hst := hsi.1
  have h8 := sd_p8 hst.2.1
  have h3 := hst.1
  have hn8 := hst.2.1
  refine lv_iload_n hx hb dX1_shifter_0 rfl (lv_at hl 1 rfl) ?_
  refine lv_if_lt (tgt := 9) hx hb dX1_shifter_1 (by decide) (fun c1 => ?_) (fun c1 => ?_)
  · refine lv_iconst (v := nI 0) hx hb dX1_shifter_9 (by decide) ?_
    exact s_ret (v := nI 0) (fr, rv, gr, sh, wt, fm, bf, eq, rs, gd, nd) B rfl hw (⟨shn, Or.inr ⟨fun h => sd_out_neg (by omega) c1 h.1, rfl, rfl⟩, hsi⟩) dX1_shifter_10
  · refine lv_iload_n hx hb dX1_shifter_4 rfl (lv_at hl 1 rfl) ?_
    refine lv_iconst (v := nI 3) hx hb dX1_shifter_5 (by decide) ?_
    refine lv_icmp_le (tgt := 11) hx hb dX1_shifter_6 (by decide) (fun c2 => ?_) (fun c2 => ?_)
    · obtain ⟨c0, hc0, e0⟩ := sd_in_le' (b := 3) (by omega) c1 c2
      subst e0
      refine lv_iload_n hx hb dX1_shifter_11 rfl (lv_at hl 2 rfl) ?_
      refine lv_if_lt (tgt := 25) hx hb dX1_shifter_12 (by decide) (fun c3 => ?_) (fun c3 => ?_)
      · refine lv_iconst (v := nI 0) hx hb dX1_shifter_25 (by decide) ?_
        exact s_ret (v := nI 0) (fr, rv, gr, sh, wt, fm, bf, eq, rs, gd, nd) B rfl hw (⟨shn, Or.inr ⟨fun h => sd_out_neg (by omega) c3 h.2, rfl, rfl⟩, hsi⟩) dX1_shifter_26
      · refine lv_iload_n hx hb dX1_shifter_15 rfl (lv_at hl 2 rfl) ?_
        refine lv_iconst (v := nI 1) hx hb dX1_shifter_16 (by decide) ?_
        refine lv_aload_n hx hb dX1_shifter_17 rfl (lv_at hl 0 rfl) ?_
        refine s_get1 (v := .int (nI nn)) B hw 0 (by decide) q28 rfl rfl dX1_shifter_18 ?_
        refine lv_ishl hx hb dX1_shifter_21 ?_
        refine s_top (y := nI (2 ^ nn)) (sd_shl1 (by omega)) ?_
        refine lv_icmp_lt (tgt := 27) hx hb dX1_shifter_22 (by decide) (fun c4 => ?_) (fun c4 => ?_)
        · obtain ⟨x, hx1, e1⟩ := sd_in_lt' (by omega) c3 c4
          subst e1
          refine lv_aload_n hx hb dX1_shifter_27 rfl (lv_at hl 0 rfl) ?_
          refine s_get1 (v := .ref (ad 1)) B hw 2 (by decide) q30 rfl rfl dX1_shifter_28 ?_
          refine lv_iload_n hx hb dX1_shifter_31 rfl (lv_at hl 1 rfl) ?_
          refine lv_iload_n hx hb dX1_shifter_32 rfl (lv_at hl 2 rfl) ?_
          refine s_iast B hw 1 0 rfl rfl (i := c0) (by omega) (by decide) dX1_shifter_33 (fun H locs (hw : wd D A _ (svW ad dA (nI nn) (nI tpn) fr rv gr (upd sh c0 (nI x)) wt fm bf eq rs gd nd) H locs) => ?_)
          refine lv_aload_n hx hb dX1_shifter_34 rfl (lv_at hl 0 rfl) ?_
          refine lv_iconst (v := nI 0) hx hb dX1_shifter_35 (by decide) ?_
          refine s_put1 (ty := .boolean) B hw 4 (by decide) q32 rfl rfl (by decide +kernel) rfl rfl (Nat.le_of_ble_eq_true rfl) dX1_shifter_36 (fun H locs (hw : wd D A _ (svW ad dA (nI nn) (nI tpn) (nI 0) rv gr (upd sh c0 (nI x)) wt fm bf eq rs gd nd) H locs) => ?_)
          refine lv_aload_n hx hb dX1_shifter_39 rfl (lv_at hl 0 rfl) ?_
          refine lv_iconst (v := nI 0) hx hb dX1_shifter_40 (by decide) ?_
          refine s_put1 (ty := .boolean) B hw 10 (by decide) q38 rfl rfl (by decide +kernel) rfl rfl (Nat.le_of_ble_eq_true rfl) dX1_shifter_41 (fun H locs (hw : wd D A _ (svW ad dA (nI nn) (nI tpn) (nI 0) rv (nI 0) (upd sh c0 (nI x)) wt fm bf eq rs gd nd) H locs) => ?_)
          refine lv_iconst (v := nI 1) hx hb dX1_shifter_44 (by decide) ?_
          exact s_ret (v := nI 1) (nI 0, rv, nI 0, upd sh c0 (nI x), wt, fm, bf, eq, rs, gd, nd) B rfl hw (⟨sd_uN shn c0 x, Or.inl ⟨c0, x, hc0, rfl, hx1, rfl, rfl, rfl⟩, sd_ST_sh hst hx1, Or.inl rfl, Or.inl rfl⟩) dX1_shifter_45
        · refine lv_iconst (v := nI 0) hx hb dX1_shifter_25 (by decide) ?_
          exact s_ret (v := nI 0) (fr, rv, gr, sh, wt, fm, bf, eq, rs, gd, nd) B rfl hw (⟨shn, Or.inr ⟨fun h => sd_out_nlt (by omega) c4 h.2, rfl, rfl⟩, hsi⟩) dX1_shifter_26
    · refine lv_iconst (v := nI 0) hx hb dX1_shifter_9 (by decide) ?_
      exact s_ret (v := nI 0) (fr, rv, gr, sh, wt, fm, bf, eq, rs, gd, nd) B rfl hw (⟨shn, Or.inr ⟨fun h => sd_out_nle (b := 3) (by omega) c2 h.1, rfl, rfl⟩, hsi⟩) dX1_shifter_10
set_option maxHeartbeats 4000000 in
set_option maxRecDepth 100000 in
/-- want -/
theorem ct1_want (l : Launch) (D : va_G) {ad : Nat → Nat} {dA : Nat → ClassId} {nn tpn : Nat} {shn wtn : Nat → Nat} {fr rv gr : Int32} {sh wt fm bf eq rs gd nd : Nat → Int32} (hsi : sd_SI nn tpn shn wtn fr gr sh wt fm nd) (p0 p1 p2 p3 : Int32) : ctI l yX1_want cX1_want 5 (some .boolean) (rmK 1) D (svT dA) (svW ad dA (nI nn) (nI tpn) fr rv gr sh wt fm bf eq rs gd nd) [.ref (ad 0), .int p0, .int p1, .int p2, .int p3] (fun r (u : SvU) => ∃ wtn', sd_Awt wtn p0 p1 p2 p3 r wtn' ∧ sd_SIu nn tpn shn wtn' u) (fun u => svWu ad dA (nI nn) (nI tpn) u) := by
  refine ctI.of (by decide) (Nat.le_of_ble_eq_true rfl) ?_
  intro p e s m below meth c A ls B hw hl
  have hx := B.1.1
  have hb := B.1.2.1
  have hl : lv_has ls 5 [(0, .ref (ad 0)), (1, .int p0), (2, .int p1), (3, .int p2), (4, .int p3)] := hl
  have hst := hsi.1
  have h8 := sd_p8 hst.2.1
  have h3 := hst.1
  have hn8 := hst.2.1
  refine lv_iload_n hx hb dX1_want_0 rfl (lv_at hl 1 rfl) ?_
  refine lv_if_lt (tgt := 18) hx hb dX1_want_1 (by decide) (fun c1 => ?_) (fun c1 => ?_)
  · refine lv_iconst (v := nI 0) hx hb dX1_want_18 (by decide) ?_
    exact s_ret (v := nI 0) (fr, rv, gr, sh, wt, fm, bf, eq, rs, gd, nd) B rfl hw (⟨wtn, Or.inr ⟨fun h => sd_out_neg (by omega) c1 h.1, rfl, rfl⟩, hsi⟩) dX1_want_19
  · refine lv_iload_n hx hb dX1_want_4 rfl (lv_at hl 1 rfl) ?_
    refine lv_iconst (v := nI 5) hx hb dX1_want_5 (by decide) ?_
    refine lv_icmp_gt (tgt := 18) hx hb dX1_want_6 (by decide) (fun c2 => ?_) (fun c2 => ?_)
    · refine lv_iconst (v := nI 0) hx hb dX1_want_18 (by decide) ?_
      exact s_ret (v := nI 0) (fr, rv, gr, sh, wt, fm, bf, eq, rs, gd, nd) B rfl hw (⟨wtn, Or.inr ⟨fun h => sd_out_gt (b := 5) (by omega) c2 h.1, rfl, rfl⟩, hsi⟩) dX1_want_19
    · have hin0 := sd_in_le (b := 5) (by omega) c1 c2
      refine lv_aload_n hx hb dX1_want_9 rfl (lv_at hl 0 rfl) ?_
      refine lv_iload_n hx hb dX1_want_10 rfl (lv_at hl 2 rfl) ?_
      refine lv_iload_n hx hb dX1_want_11 rfl (lv_at hl 3 rfl) ?_
      refine s_call (As := [.int p1, .int p2]) (rest := []) (ci := 0) (ct1_isPlace l D p1 p2) B hw (lw_V q79 q81 qs0 q18 q82) rfl rfl rfl ⟨cn1_isPlace, rfl, rfl, by decide, by decide⟩ ⟨Nat.zero_le _, Nat.zero_le _⟩ hl.1 (Nat.le_of_ble_eq_true rfl) dX1_want_12 (fun r _ H locs hp hw => ?_)
      have hw : wd D A _ (svW ad dA (nI nn) (nI tpn) fr rv gr sh wt fm bf eq rs gd nd) H locs := hw
      refine lv_if_ne (tgt := 20) hx hb dX1_want_15 (by decide) (fun c3 => ?_) (fun c3 => ?_)
      · refine lv_iload hx hb dX1_want_20 (lv_at hl 4 rfl) ?_
        refine lv_if_lt (tgt := 31) hx hb dX1_want_22 (by decide) (fun c4 => ?_) (fun c4 => ?_)
        · refine lv_iconst (v := nI 0) hx hb dX1_want_31 (by decide) ?_
          exact s_ret (v := nI 0) (fr, rv, gr, sh, wt, fm, bf, eq, rs, gd, nd) B rfl hw (⟨wtn, Or.inr ⟨fun h => sd_out_neg (by omega) c4 h.2.2.2, rfl, rfl⟩, hsi⟩) dX1_want_32
        · refine lv_iload hx hb dX1_want_25 (lv_at hl 4 rfl) ?_
          refine lv_iconst (v := nI 2) hx hb dX1_want_27 (by decide) ?_
          refine lv_icmp_le (tgt := 33) hx hb dX1_want_28 (by decide) (fun c5 => ?_) (fun c5 => ?_)
          · obtain ⟨k0, hk0, e0⟩ := hin0
            obtain ⟨⟨t0, ht0, e1⟩, ⟨c0, hc0, e2⟩⟩ := sd_yn_ne hp c3
            obtain ⟨v0, hv0, e3⟩ := sd_in_le' (b := 2) (by omega) c4 c5
            subst e0; subst e1; subst e2; subst e3
            refine lv_aload_n hx hb dX1_want_33 rfl (lv_at hl 0 rfl) ?_
            refine s_get1 (v := .ref (ad 2)) B hw 3 (by decide) q31 rfl rfl dX1_want_34 ?_
            refine lv_bipush (v := nI 64) hx hb dX1_want_37 (by decide) ?_
            refine lv_iload_n hx hb dX1_want_39 rfl (lv_at hl 1 rfl) ?_
            refine lv_imul hx hb dX1_want_40 ?_
            refine s_top (y := nI (64 * k0)) (pk_mul _ _) ?_
            refine lv_iconst (v := nI 4) hx hb dX1_want_41 (by decide) ?_
            refine lv_iload_n hx hb dX1_want_42 rfl (lv_at hl 2 rfl) ?_
            refine lv_imul hx hb dX1_want_43 ?_
            refine s_top (y := nI (4 * t0)) (pk_mul _ _) ?_
            refine lv_iadd hx hb dX1_want_44 ?_
            refine s_top (y := nI ((64 * k0) + (4 * t0))) (nI_add _ _) ?_
            refine lv_iload_n hx hb dX1_want_45 rfl (lv_at hl 3 rfl) ?_
            refine lv_iadd hx hb dX1_want_46 ?_
            refine s_top (y := nI (((64 * k0) + (4 * t0)) + c0)) (nI_add _ _) ?_
            refine lv_iload hx hb dX1_want_47 (lv_at hl 4 rfl) ?_
            refine lv_i2b (v := nI v0) hx hb dX1_want_49 (fa_byte_small (by omega)) ?_
            refine s_bast B hw 2 1 rfl rfl (i := (((64 * k0) + (4 * t0)) + c0)) (by omega) (by decide) ((vp_nar_byte _).trans (fa_byte_small (by omega))) dX1_want_50 (fun H locs (hw : wd D A _ (svW ad dA (nI nn) (nI tpn) fr rv gr sh (upd wt (((64 * k0) + (4 * t0)) + c0) (nI v0)) fm bf eq rs gd nd) H locs) => ?_)
            refine lv_aload_n hx hb dX1_want_51 rfl (lv_at hl 0 rfl) ?_
            refine lv_iconst (v := nI 0) hx hb dX1_want_52 (by decide) ?_
            refine s_put1 (ty := .boolean) B hw 10 (by decide) q38 rfl rfl (by decide +kernel) rfl rfl (Nat.le_of_ble_eq_true rfl) dX1_want_53 (fun H locs (hw : wd D A _ (svW ad dA (nI nn) (nI tpn) fr rv (nI 0) sh (upd wt (((64 * k0) + (4 * t0)) + c0) (nI v0)) fm bf eq rs gd nd) H locs) => ?_)
            refine lv_iconst (v := nI 1) hx hb dX1_want_56 (by decide) ?_
            exact s_ret (v := nI 1) (fr, rv, nI 0, sh, upd wt (((64 * k0) + (4 * t0)) + c0) (nI v0), fm, bf, eq, rs, gd, nd) B rfl hw (⟨sd_uN wtn (64 * k0 + 4 * t0 + c0) v0, Or.inl ⟨k0, t0, c0, v0, hk0, rfl, ht0, rfl, hc0, rfl, hv0, rfl, rfl, rfl⟩, sd_ST_wt hst (by omega), hsi.2.1, Or.inl rfl⟩) dX1_want_57
          · refine lv_iconst (v := nI 0) hx hb dX1_want_31 (by decide) ?_
            exact s_ret (v := nI 0) (fr, rv, gr, sh, wt, fm, bf, eq, rs, gd, nd) B rfl hw (⟨wtn, Or.inr ⟨fun h => sd_out_nle (b := 2) (by omega) c5 h.2.2.2, rfl, rfl⟩, hsi⟩) dX1_want_32
      · refine lv_iconst (v := nI 0) hx hb dX1_want_18 (by decide) ?_
        exact s_ret (v := nI 0) (fr, rv, gr, sh, wt, fm, bf, eq, rs, gd, nd) B rfl hw (⟨wtn, Or.inr ⟨fun h => sd_yn_eq hp c3 ⟨h.2.1, h.2.2.1⟩, rfl, rfl⟩, hsi⟩) dX1_want_19
set_option maxHeartbeats 4000000 in
set_option maxRecDepth 100000 in
/-- forget: its loop -/
theorem lp1_forget {p : Program} {l : Launch} {e : Env} {s : State} {m : MethodId} {args : Array Value} {below : List Frame} {meth : Method} {c : Code} {Q : State → Prop} {D : va_G} {ad : Nat → Nat} {ret : Option FieldType} {A : Nat → Prop} {dA : Nat → ClassId} {Rm : Room} {nn tpn k0 : Nat} {wtn : Nat → Nat} {fr rv gr : Int32} {sh fm bf eq rs gd nd : Nat → Int32} (hk0 : k0 < 6) (B : bx p s m meth c cX1_forget 3 ret args RX1 D (svT dA))
    (kk : ∀ (wt : Nat → Int32) (H : Heap) (locs : List Loc) (ls : Array Slot), (∀ j, j < 384 → wt j = nI (sd_fg wtn k0 64 j) ∧ sd_fg wtn k0 64 j ≤ 2) → wd D A s.heap (svW ad dA (nI nn) (nI tpn) fr rv gr sh wt fm bf eq rs gd nd) H locs → lv_has ls 3 [(0, .ref (ad 0)), (1, .int (nI k0)), (2, .int (nI 64))] → W p l e Rm s m args below meth c H locs 0 0 Q (F0 m 37 ls [])) :
    ∀ (k i : Nat) (wt : Nat → Int32) (H : Heap) (locs : List Loc) (ls : Array Slot), i + k = 64 → (∀ j, j < 384 → wt j = nI (sd_fg wtn k0 i j) ∧ sd_fg wtn k0 i j ≤ 2) → wd D A s.heap (svW ad dA (nI nn) (nI tpn) fr rv gr sh wt fm bf eq rs gd nd) H locs → lv_has ls 3 [(0, .ref (ad 0)), (1, .int (nI k0)), (2, .int (nI i))] → W p l e Rm s m args below meth c H locs 0 0 Q (F0 m 13 ls []) := by
  have hx := B.1.1
  have hb := B.1.2.1
  intro k
  induction k with
  | zero =>
    intro i wt H locs ls hk hI hw hl
    have ei : i = 64 := by omega
    subst ei
    refine lv_iload_n hx hb dX1_forget_13 rfl (lv_at hl 2 rfl) ?_
    refine lv_bipush (v := nI 64) hx hb dX1_forget_14 (by decide) ?_
    refine lv_icmp_ge (tgt := 37) hx hb dX1_forget_16 (by decide) (fun _ => ?_) (fun cc => absurd (nI_le (by omega) (by omega)) cc)
    exact kk wt H locs ls hI hw (lv_sub hl [0, 1, 2] rfl)
  | succ k ih =>
    intro i wt H locs ls hk hI hw hl
    refine lv_iload_n hx hb dX1_forget_13 rfl (lv_at hl 2 rfl) ?_
    refine lv_bipush (v := nI 64) hx hb dX1_forget_14 (by decide) ?_
    refine lv_icmp_ge (tgt := 37) hx hb dX1_forget_16 (by decide) (fun cc => absurd cc (nI_ge (by omega) (by omega))) (fun _ => ?_)
    refine lv_aload_n hx hb dX1_forget_19 rfl (lv_at hl 0 rfl) ?_
    refine s_get1 (v := .ref (ad 2)) B hw 3 (by decide) q31 rfl rfl dX1_forget_20 ?_
    refine lv_bipush (v := nI 64) hx hb dX1_forget_23 (by decide) ?_
    refine lv_iload_n hx hb dX1_forget_25 rfl (lv_at hl 1 rfl) ?_
    refine lv_imul hx hb dX1_forget_26 ?_
    refine s_top (y := nI (64 * k0)) (pk_mul _ _) ?_
    refine lv_iload_n hx hb dX1_forget_27 rfl (lv_at hl 2 rfl) ?_
    refine lv_iadd hx hb dX1_forget_28 ?_
    refine s_top (y := nI ((64 * k0) + i)) (nI_add _ _) ?_
    refine lv_iconst (v := nI 2) hx hb dX1_forget_29 (by decide) ?_
    refine s_bast B hw 2 1 rfl rfl (i := ((64 * k0) + i)) (by omega) (by decide) (by decide) dX1_forget_30 (fun H locs (hw : wd D A _ (svW ad dA (nI nn) (nI tpn) fr rv gr sh (upd wt ((64 * k0) + i) (nI 2)) fm bf eq rs gd nd) H locs) => ?_)
    refine lv_iinc (v := nI (i + 1)) (lv' := [(2, .int (nI (i + 1))), (0, .ref (ad 0)), (1, .int (nI k0))]) hx hb dX1_forget_31 hl (k := 2) rfl (nI_add i 1) (by decide) rfl (fun ls hl => ?_)
    refine lv_goto (tgt := 13) hx hb dX1_forget_34 (by decide) ?_
    exact ih (i + 1) _ H locs ls (by omega) (sd_fg_s hI) hw (lv_sub hl [1, 2, 0] rfl)
set_option maxHeartbeats 4000000 in
set_option maxRecDepth 100000 in
/-- forget -/
theorem ct1_forget (l : Launch) (D : va_G) {ad : Nat → Nat} {dA : Nat → ClassId} {nn tpn : Nat} {shn wtn : Nat → Nat} {fr rv gr : Int32} {sh wt fm bf eq rs gd nd : Nat → Int32} (hsi : sd_SI nn tpn shn wtn fr gr sh wt fm nd) (p0 : Int32) : ctI l yX1_forget cX1_forget 3 (some .boolean) (rmK 0) D (svT dA) (svW ad dA (nI nn) (nI tpn) fr rv gr sh wt fm bf eq rs gd nd) [.ref (ad 0), .int p0] (fun r (u : SvU) => ∃ wtn', sd_Afg wtn p0 r wtn' ∧ sd_SIu nn tpn shn wtn' u) (fun u => svWu ad dA (nI nn) (nI tpn) u) := by
  refine ctI.of (by decide) (Nat.le_of_ble_eq_true rfl) ?_
  intro p e s m below meth c A ls B hw hl
  have hx := B.1.1
  have hb := B.1.2.1
  have hl : lv_has ls 3 [(0, .ref (ad 0)), (1, .int p0)] := hl
  have hst := hsi.1
  have h8 := sd_p8 hst.2.1
  have h3 := hst.1
  have hn8 := hst.2.1
  refine lv_iload_n hx hb dX1_forget_0 rfl (lv_at hl 1 rfl) ?_
  refine lv_if_lt (tgt := 9) hx hb dX1_forget_1 (by decide) (fun c1 => ?_) (fun c1 => ?_)
  · refine lv_iconst (v := nI 0) hx hb dX1_forget_9 (by decide) ?_
    exact s_ret (v := nI 0) (fr, rv, gr, sh, wt, fm, bf, eq, rs, gd, nd) B rfl hw (⟨wtn, Or.inr ⟨sd_out_neg (by omega) c1, rfl, rfl⟩, hsi⟩) dX1_forget_10
  · refine lv_iload_n hx hb dX1_forget_4 rfl (lv_at hl 1 rfl) ?_
    refine lv_iconst (v := nI 5) hx hb dX1_forget_5 (by decide) ?_
    refine lv_icmp_le (tgt := 11) hx hb dX1_forget_6 (by decide) (fun c2 => ?_) (fun c2 => ?_)
    · obtain ⟨k0, hk0, e0⟩ := sd_in_le' (b := 5) (by omega) c1 c2
      subst e0
      refine lv_iconst (v := nI 0) hx hb dX1_forget_11 (by decide) ?_
      refine lv_istore_n (lv' := [(2, .int (nI 0)), (0, .ref (ad 0)), (1, .int (nI k0))]) hx hb dX1_forget_12 rfl hl (by decide) rfl (fun ls hl => ?_)
      refine lp1_forget hk0 B (fun wt2 H locs ls hI hw hl => ?_) 64 0 wt _ _ ls rfl (sd_fg_0 hst.2.2.2.2) hw (lv_sub hl [1, 2, 0] rfl)
      refine lv_aload_n hx hb dX1_forget_37 rfl (lv_at hl 0 rfl) ?_
      refine lv_iconst (v := nI 0) hx hb dX1_forget_38 (by decide) ?_
      refine s_put1 (ty := .boolean) B hw 10 (by decide) q38 rfl rfl (by decide +kernel) rfl rfl (Nat.le_of_ble_eq_true rfl) dX1_forget_39 (fun H locs (hw : wd D A _ (svW ad dA (nI nn) (nI tpn) fr rv (nI 0) sh wt2 fm bf eq rs gd nd) H locs) => ?_)
      refine lv_iconst (v := nI 1) hx hb dX1_forget_42 (by decide) ?_
      exact s_ret (v := nI 1) (fr, rv, nI 0, sh, wt2, fm, bf, eq, rs, gd, nd) B rfl hw (⟨sd_fg wtn k0 64, Or.inl ⟨k0, hk0, rfl, rfl, rfl⟩, ⟨hst.1, hst.2.1, hst.2.2.1, hst.2.2.2.1, hI⟩, hsi.2.1, Or.inl rfl⟩) dX1_forget_43
    · refine lv_iconst (v := nI 0) hx hb dX1_forget_9 (by decide) ?_
      exact s_ret (v := nI 0) (fr, rv, gr, sh, wt, fm, bf, eq, rs, gd, nd) B rfl hw (⟨wtn, Or.inr ⟨sd_out_nle (b := 5) (by omega) c2, rfl, rfl⟩, hsi⟩) dX1_forget_10
set_option maxHeartbeats 4000000 in
set_option maxRecDepth 100000 in
/-- expand -/
theorem ct1_expand (l : Launch) (D : va_G) {ad : Nat → Nat} {dA : Nat → ClassId} {nn tpn : Nat} {shn wtn : Nat → Nat} {fr rv gr : Int32} {sh wt fm bf eq rs gd nd : Nat → Int32} (hsi : sd_SI nn tpn shn wtn fr gr sh wt fm nd) (p0 p1 p2 : Int32) : ctI l yX1_expand cX1_expand 4 (some .int) (rmK 2) D (svT dA) (svW ad dA (nI nn) (nI tpn) fr rv gr sh wt fm bf eq rs gd nd) [.ref (ad 0), .int p0, .int p1, .int p2] (fun r (u : SvU) => sd_Aexp nn tpn shn p0 p1 p2 r ∧ sd_SIu nn tpn shn wtn u) (fun u => svWu ad dA (nI nn) (nI tpn) u) := by
  refine ctI.of (by decide) (Nat.le_of_ble_eq_true rfl) ?_
  intro p e s m below meth c A ls B hw hl
  have hx := B.1.1
  have hb := B.1.2.1
  have hl : lv_has ls 4 [(0, .ref (ad 0)), (1, .int p0), (2, .int p1), (3, .int p2)] := hl
  have hst := hsi.1
  have h8 := sd_p8 hst.2.1
  have h3 := hst.1
  have hn8 := hst.2.1
  refine lv_iload_n hx hb dX1_expand_0 rfl (lv_at hl 1 rfl) ?_
  refine lv_if_lt (tgt := 23) hx hb dX1_expand_1 (by decide) (fun c1 => ?_) (fun c1 => ?_)
  · refine lv_iconst (v := (-1)) hx hb dX1_expand_23 (by decide) ?_
    exact s_ret (v := (-1)) (fr, rv, gr, sh, wt, fm, bf, eq, rs, gd, nd) B rfl hw (⟨Or.inr ⟨fun h => sd_out_neg (by omega) c1 h.1, rfl⟩, hsi⟩) dX1_expand_24
  · refine lv_iload_n hx hb dX1_expand_4 rfl (lv_at hl 1 rfl) ?_
    refine lv_iconst (v := nI 1) hx hb dX1_expand_5 (by decide) ?_
    refine lv_aload_n hx hb dX1_expand_6 rfl (lv_at hl 0 rfl) ?_
    refine s_get1 (v := .int (nI nn)) B hw 0 (by decide) q28 rfl rfl dX1_expand_7 ?_
    refine lv_ishl hx hb dX1_expand_10 ?_
    refine s_top (y := nI (2 ^ nn)) (sd_shl1 (by omega)) ?_
    refine lv_icmp_ge (tgt := 23) hx hb dX1_expand_11 (by decide) (fun c2 => ?_) (fun c2 => ?_)
    · refine lv_iconst (v := (-1)) hx hb dX1_expand_23 (by decide) ?_
      exact s_ret (v := (-1)) (fr, rv, gr, sh, wt, fm, bf, eq, rs, gd, nd) B rfl hw (⟨Or.inr ⟨fun h => sd_out_ge (by omega) c2 h.1, rfl⟩, hsi⟩) dX1_expand_24
    · refine lv_aload_n hx hb dX1_expand_14 rfl (lv_at hl 0 rfl) ?_
      refine lv_iload_n hx hb dX1_expand_15 rfl (lv_at hl 2 rfl) ?_
      refine lv_iload_n hx hb dX1_expand_16 rfl (lv_at hl 3 rfl) ?_
      refine s_call (As := [.int p1, .int p2]) (rest := []) (ci := 0) (ct1_isPlace l D p1 p2) B hw (lw_V q79 q81 qs0 q18 q82) rfl rfl rfl ⟨cn1_isPlace, rfl, rfl, by decide, by decide⟩ ⟨Nat.zero_le _, Nat.zero_le _⟩ hl.1 (Nat.le_of_ble_eq_true rfl) dX1_expand_17 (fun r0 _ H locs hp hw => ?_)
      have hw : wd D A _ (svW ad dA (nI nn) (nI tpn) fr rv gr sh wt fm bf eq rs gd nd) H locs := hw
      refine lv_if_ne (tgt := 25) hx hb dX1_expand_20 (by decide) (fun c3 => ?_) (fun c3 => ?_)
      · obtain ⟨x, hx1, e0⟩ := sd_in_lt (by omega) c1 c2
        obtain ⟨⟨t, ht, e1⟩, ⟨ch, hc, e2⟩⟩ := sd_yn_ne hp c3
        subst e0; subst e1; subst e2
        refine lv_aload_n hx hb dX1_expand_25 rfl (lv_at hl 0 rfl) ?_
        refine s_callv (As := []) (rest := []) (ci := 0) (ct1_makeForms l D hst hsi.2.1) B hw (lw_V q87 q89 qs1 q18 q90) rfl rfl rfl ⟨cn1_makeForms, rfl, rfl, by decide, by decide⟩ ⟨Nat.zero_le _, Nat.zero_le _⟩ hl.1 (Nat.le_of_ble_eq_true rfl) dX1_expand_26 (fun u H locs hf hw => ?_)
        obtain ⟨fr1, fm1, bf1⟩ := u
        try dsimp only at hf
        have hw : wd D A _ (svW ad dA (nI nn) (nI tpn) fr1 rv gr sh wt fm1 bf1 eq rs gd nd) H locs := hw
        obtain ⟨a0, ea, ha, hph⟩ := hf.2 (4 * t + ch) (by omega)
        have hle : a0 &&& x ≤ a0 := Nat.and_le_left
        refine lv_aload_n hx hb dX1_expand_29 rfl (lv_at hl 0 rfl) ?_
        refine lv_aload_n hx hb dX1_expand_30 rfl (lv_at hl 0 rfl) ?_
        refine s_get1 (v := .ref (ad 3)) B hw 5 (by decide) q33 rfl rfl dX1_expand_31 ?_
        refine lv_iconst (v := nI 4) hx hb dX1_expand_34 (by decide) ?_
        refine lv_iload_n hx hb dX1_expand_35 rfl (lv_at hl 2 rfl) ?_
        refine lv_imul hx hb dX1_expand_36 ?_
        refine s_top (y := nI (4 * t)) (pk_mul _ _) ?_
        refine lv_iload_n hx hb dX1_expand_37 rfl (lv_at hl 3 rfl) ?_
        refine lv_iadd hx hb dX1_expand_38 ?_
        refine s_top (y := nI ((4 * t) + ch)) (nI_add _ _) ?_
        refine s_iald B hw 3 2 rfl rfl (i := ((4 * t) + ch)) (by omega) (by decide) dX1_expand_39 ?_
        refine s_top (y := nI a0) (ea) ?_
        refine lv_iload_n hx hb dX1_expand_40 rfl (lv_at hl 1 rfl) ?_
        refine lv_iand hx hb dX1_expand_41 ?_
        refine s_top (y := nI (a0 &&& x)) (fa_and _ _) ?_
        refine s_call (As := [.int (nI (a0 &&& x))]) (rest := []) (ci := 0) (ct1_parity l D (mm := a0 &&& x) (by omega)) B hw (lw_V q95 q97 qs3 q18 q98) rfl rfl rfl ⟨cn1_parity, rfl, rfl, by decide, by decide⟩ ⟨Nat.zero_le _, Nat.zero_le _⟩ hl.1 (Nat.le_of_ble_eq_true rfl) dX1_expand_42 (fun r _ H locs hr hw => ?_)
        have hw : wd D A _ (svW ad dA (nI nn) (nI tpn) fr1 rv gr sh wt fm1 bf1 eq rs gd nd) H locs := hw
        exact s_ret (v := r) (fr1, rv, gr, sh, wt, fm1, bf1, eq, rs, gd, nd) B rfl hw (⟨Or.inl ⟨x, t, ch, hx1, rfl, ht, rfl, hc, rfl, by rw [hr, sd_exp_vl hn8 hc hx1 ha hph]⟩, hst, Or.inr hf, hsi.2.2⟩) dX1_expand_45
      · refine lv_iconst (v := (-1)) hx hb dX1_expand_23 (by decide) ?_
        exact s_ret (v := (-1)) (fr, rv, gr, sh, wt, fm, bf, eq, rs, gd, nd) B rfl hw (⟨Or.inr ⟨fun h => sd_yn_eq hp c3 h.2, rfl⟩, hsi⟩) dX1_expand_24
set_option maxHeartbeats 4000000 in
set_option maxRecDepth 100000 in
/-- seeds: the open bits counted -/
theorem lp1_seeds {p : Program} {l : Launch} {e : Env} {s : State} {m : MethodId} {args : Array Value} {below : List Frame} {meth : Method} {c : Code} {Q : State → Prop} {D : va_G} {ad : Nat → Nat} {ret : Option FieldType} {A : Nat → Prop} {dA : Nat → ClassId} {Rm : Room} {H : Heap} {locs : List Loc} {S : Nat} {E : Nat → Nat} {R : Nat → Bool} {nn tpn : Nat} {fr rv gr : Int32} {sh wt fm bf eq rs gd nd : Nat → Int32} (hn8 : nn ≤ 8) (he : sd_eqs nn eq rs E R) (hw : wd D A s.heap (svW ad dA (nI nn) (nI tpn) fr rv gr sh wt fm bf eq rs gd nd) H locs) (B : bx p s m meth c cX1_seeds 4 ret args RX1 D (svT dA))
    (kk : ∀ (ls : Array Slot), lv_has ls 4 [(0, .ref (ad 0)), (1, .int (nI S)), (2, .int (nI (sd_fr E nn))), (3, .int (nI nn))] → W p l e Rm s m args below meth c H locs 0 0 Q (F0 m 50 ls [])) :
    ∀ (k b : Nat) (ls : Array Slot), b + k = nn → lv_has ls 4 [(0, .ref (ad 0)), (1, .int (nI S)), (2, .int (nI (sd_fr E b))), (3, .int (nI b))] → W p l e Rm s m args below meth c H locs 0 0 Q (F0 m 24 ls []) := by
  have hx := B.1.1
  have hb := B.1.2.1
  have h8 := sd_p8 hn8
  intro k
  induction k with
  | zero =>
    intro b ls hk hl
    have eb : b = nn := by omega
    subst eb
    refine lv_iload_n hx hb dX1_seeds_24 rfl (lv_at hl 3 rfl) ?_
    refine lv_aload_n hx hb dX1_seeds_25 rfl (lv_at hl 0 rfl) ?_
    refine s_get1 (v := .int (nI b)) B hw 0 (by decide) q28 rfl rfl dX1_seeds_26 ?_
    refine lv_icmp_ge (tgt := 50) hx hb dX1_seeds_29 (by decide) (fun _ => ?_) (fun cc => absurd (nI_le (by omega) (by omega)) cc)
    exact kk ls (lv_sub hl [0, 1, 2, 3] rfl)
  | succ k ih =>
    intro b ls hk hl
    have heb := (he.2 b (by omega)).1
    refine lv_iload_n hx hb dX1_seeds_24 rfl (lv_at hl 3 rfl) ?_
    refine lv_aload_n hx hb dX1_seeds_25 rfl (lv_at hl 0 rfl) ?_
    refine s_get1 (v := .int (nI nn)) B hw 0 (by decide) q28 rfl rfl dX1_seeds_26 ?_
    refine lv_icmp_ge (tgt := 50) hx hb dX1_seeds_29 (by decide) (fun cc => absurd cc (nI_ge (by omega) (by omega))) (fun _ => ?_)
    refine lv_aload_n hx hb dX1_seeds_32 rfl (lv_at hl 0 rfl) ?_
    refine s_get1 (v := .ref (ad 5)) B hw 7 (by decide) q35 rfl rfl dX1_seeds_33 ?_
    refine lv_iload_n hx hb dX1_seeds_36 rfl (lv_at hl 3 rfl) ?_
    refine s_iald B hw 5 4 rfl rfl (i := b) (by omega) (by decide) dX1_seeds_37 ?_
    refine s_top (y := nI (E b)) (heb) ?_
    refine lv_if_ne (tgt := 44) hx hb dX1_seeds_38 (by decide) (fun c1 => ?_) (fun c1 => ?_)
    · refine lv_iinc (v := nI (b + 1)) (lv' := [(3, .int (nI (b + 1))), (0, .ref (ad 0)), (1, .int (nI S)), (2, .int (nI (sd_fr E b)))]) hx hb dX1_seeds_44 hl (k := 3) rfl (nI_add b 1) (by decide) rfl (fun ls hl => ?_)
      refine lv_goto (tgt := 24) hx hb dX1_seeds_47 (by decide) ?_
      rw [← sd_fr_f (E := E) (b := b) (fun q => c1 (by rw [q]; rfl))] at hl
      exact ih (b + 1) ls (by omega) (lv_sub hl [1, 2, 3, 0] rfl)
    · refine lv_iinc (v := nI (sd_fr E b + 1)) (lv' := [(2, .int (nI (sd_fr E b + 1))), (0, .ref (ad 0)), (1, .int (nI S)), (3, .int (nI b))]) hx hb dX1_seeds_41 hl (k := 2) rfl (nI_add (sd_fr E b) 1) (by decide) rfl (fun ls hl => ?_)
      refine lv_iinc (v := nI (b + 1)) (lv' := [(3, .int (nI (b + 1))), (2, .int (nI (sd_fr E b + 1))), (0, .ref (ad 0)), (1, .int (nI S))]) hx hb dX1_seeds_44 hl (k := 3) rfl (nI_add b 1) (by decide) rfl (fun ls hl => ?_)
      refine lv_goto (tgt := 24) hx hb dX1_seeds_47 (by decide) ?_
      rw [← sd_fr_t (E := E) (b := b) ((nI_eq (b := 0) (Nat.lt_of_lt_of_le (sd_tri_lt he.1 (show b < nn by omega)) (by omega)) (by omega)).mp c1)] at hl
      exact ih (b + 1) ls (by omega) (lv_sub hl [2, 3, 1, 0] rfl)
set_option maxHeartbeats 4000000 in
set_option maxRecDepth 100000 in
/-- seeds -/
theorem ct1_seeds (l : Launch) (D : va_G) {ad : Nat → Nat} {dA : Nat → ClassId} {nn tpn : Nat} {shn wtn : Nat → Nat} {fr rv gr : Int32} {sh wt fm bf eq rs gd nd : Nat → Int32} (hsi : sd_SI nn tpn shn wtn fr gr sh wt fm nd) (p0 : Int32) : ctI l yX1_seeds cX1_seeds 4 (some .int) (rmK 3) D (svT dA) (svW ad dA (nI nn) (nI tpn) fr rv gr sh wt fm bf eq rs gd nd) [.ref (ad 0), .int p0] (fun r (u : SvU) => sd_Aseeds nn tpn shn wtn p0 r ∧ sd_SIu nn tpn shn wtn u) (fun u => svWu ad dA (nI nn) (nI tpn) u) := by
  refine ctI.of (by decide) (Nat.le_of_ble_eq_true rfl) ?_
  intro p e s m below meth c A ls B hw hl
  have hx := B.1.1
  have hb := B.1.2.1
  have hl : lv_has ls 4 [(0, .ref (ad 0)), (1, .int p0)] := hl
  have hst := hsi.1
  have h8 := sd_p8 hst.2.1
  have h3 := hst.1
  have hn8 := hst.2.1
  refine lv_aload_n hx hb dX1_seeds_0 rfl (lv_at hl 0 rfl) ?_
  refine lv_iload_n hx hb dX1_seeds_1 rfl (lv_at hl 1 rfl) ?_
  refine s_call (As := [.int p0]) (rest := []) (ci := 0) (ct1_isCubeSet l D p0) B hw (lw_V q103 q105 qs4 q18 q106) rfl rfl rfl ⟨cn1_isCubeSet, rfl, rfl, by decide, by decide⟩ ⟨Nat.zero_le _, Nat.zero_le _⟩ hl.1 (Nat.le_of_ble_eq_true rfl) dX1_seeds_2 (fun r0 _ H locs hp hw => ?_)
  have hw : wd D A _ (svW ad dA (nI nn) (nI tpn) fr rv gr sh wt fm bf eq rs gd nd) H locs := hw
  refine lv_if_ne (tgt := 10) hx hb dX1_seeds_5 (by decide) (fun c1 => ?_) (fun c1 => ?_)
  · obtain ⟨S, hS, e0⟩ := sd_yn_ne hp c1
    subst e0
    refine lv_aload_n hx hb dX1_seeds_10 rfl (lv_at hl 0 rfl) ?_
    refine lv_iload_n hx hb dX1_seeds_11 rfl (lv_at hl 1 rfl) ?_
    refine s_call (As := [.int (nI S)]) (rest := []) (ci := 0) (ct1_solve l D hst hS hsi.2.1) B hw (lw_V q107 q109 qs5 q18 q110) rfl rfl rfl ⟨cn1_solve, rfl, rfl, by decide, by decide⟩ ⟨Nat.zero_le _, Nat.zero_le _⟩ hl.1 (Nat.le_of_ble_eq_true rfl) dX1_seeds_12 (fun r1 u H locs hv hw => ?_)
    obtain ⟨fr1, rv1, fm1, bf1, eq1, rs1⟩ := u
    try dsimp only at hv
    have hw : wd D A _ (svW ad dA (nI nn) (nI tpn) fr1 rv1 gr sh wt fm1 bf1 eq1 rs1 gd nd) H locs := hw
    have hsi1 : sd_SI nn tpn shn wtn fr1 gr sh wt fm1 nd := ⟨hst, Or.inr ⟨hv.1, hv.2.1⟩, hsi.2.2⟩
    refine lv_if_ne (tgt := 20) hx hb dX1_seeds_15 (by decide) (fun c2 => ?_) (fun c2 => ?_)
    · obtain ⟨E, R, he, hfit⟩ := sd_so_1 hv.2.2 c2
      have hfl := sd_fr_le E nn
      refine lv_iconst (v := nI 0) hx hb dX1_seeds_20 (by decide) ?_
      refine lv_istore_n (lv' := [(2, .int (nI 0)), (0, .ref (ad 0)), (1, .int (nI S))]) hx hb dX1_seeds_21 rfl hl (by decide) rfl (fun ls hl => ?_)
      refine lv_iconst (v := nI 0) hx hb dX1_seeds_22 (by decide) ?_
      refine lv_istore_n (lv' := [(3, .int (nI 0)), (2, .int (nI 0)), (0, .ref (ad 0)), (1, .int (nI S))]) hx hb dX1_seeds_23 rfl hl (by decide) rfl (fun ls hl => ?_)
      refine lp1_seeds (E := E) hn8 he hw B (fun ls hl => ?_) nn 0 ls (by omega) (lv_sub hl [2, 3, 1, 0] rfl)
      refine lv_iconst (v := nI 1) hx hb dX1_seeds_50 (by decide) ?_
      refine lv_iload_n hx hb dX1_seeds_51 rfl (lv_at hl 2 rfl) ?_
      refine lv_ishl hx hb dX1_seeds_52 ?_
      refine s_top (y := nI (2 ^ (sd_fr E nn))) (sd_shl1 (by omega)) ?_
      exact s_ret (v := nI (2 ^ (sd_fr E nn))) (fr1, rv1, gr, sh, wt, fm1, bf1, eq1, rs1, gd, nd) B rfl hw (⟨Or.inl ⟨S, hS, rfl, by rw [sd_seeds_of he hfit]⟩, hsi1⟩) dX1_seeds_53
    · refine lv_iconst (v := nI 0) hx hb dX1_seeds_18 (by decide) ?_
      exact s_ret (v := nI 0) (fr1, rv1, gr, sh, wt, fm1, bf1, eq1, rs1, gd, nd) B rfl hw (⟨Or.inl ⟨S, hS, rfl, by rw [fb_ct_zero.mpr (sd_so_0 hv.2.2 c2)]⟩, hsi1⟩) dX1_seeds_19
  · refine lv_iconst (v := (-1)) hx hb dX1_seeds_8 (by decide) ?_
    exact s_ret (v := (-1)) (fr, rv, gr, sh, wt, fm, bf, eq, rs, gd, nd) B rfl hw (⟨Or.inr ⟨sd_yn_eq hp c1, rfl⟩, hsi⟩) dX1_seeds_9
set_option maxHeartbeats 4000000 in
set_option maxRecDepth 100000 in
/-- leastSeed -/
theorem ct1_leastSeed (l : Launch) (D : va_G) {ad : Nat → Nat} {dA : Nat → ClassId} {nn tpn : Nat} {shn wtn : Nat → Nat} {fr rv gr : Int32} {sh wt fm bf eq rs gd nd : Nat → Int32} (hsi : sd_SI nn tpn shn wtn fr gr sh wt fm nd) (p0 : Int32) : ctI l yX1_leastSeed cX1_leastSeed 2 (some .int) (rmK 3) D (svT dA) (svW ad dA (nI nn) (nI tpn) fr rv gr sh wt fm bf eq rs gd nd) [.ref (ad 0), .int p0] (fun r (u : SvU) => sd_Abest nn tpn shn wtn false p0 r ∧ sd_SIu nn tpn shn wtn u) (fun u => svWu ad dA (nI nn) (nI tpn) u) := by
  refine ctI.of (by decide) (Nat.le_of_ble_eq_true rfl) ?_
  intro p e s m below meth c A ls B hw hl
  have hx := B.1.1
  have hb := B.1.2.1
  have hl : lv_has ls 2 [(0, .ref (ad 0)), (1, .int p0)] := hl
  have hst := hsi.1
  have h8 := sd_p8 hst.2.1
  have h3 := hst.1
  have hn8 := hst.2.1
  refine lv_aload_n hx hb dX1_leastSeed_0 rfl (lv_at hl 0 rfl) ?_
  refine lv_iload_n hx hb dX1_leastSeed_1 rfl (lv_at hl 1 rfl) ?_
  refine s_call (As := [.int p0]) (rest := []) (ci := 0) (ct1_isCubeSet l D p0) B hw (lw_V q103 q105 qs4 q18 q106) rfl rfl rfl ⟨cn1_isCubeSet, rfl, rfl, by decide, by decide⟩ ⟨Nat.zero_le _, Nat.zero_le _⟩ hl.1 (Nat.le_of_ble_eq_true rfl) dX1_leastSeed_2 (fun r0 _ H locs hp hw => ?_)
  have hw : wd D A _ (svW ad dA (nI nn) (nI tpn) fr rv gr sh wt fm bf eq rs gd nd) H locs := hw
  refine lv_if_ne (tgt := 10) hx hb dX1_leastSeed_5 (by decide) (fun c1 => ?_) (fun c1 => ?_)
  · obtain ⟨S, hS, e0⟩ := sd_yn_ne hp c1
    subst e0
    refine lv_aload_n hx hb dX1_leastSeed_10 rfl (lv_at hl 0 rfl) ?_
    refine lv_iload_n hx hb dX1_leastSeed_11 rfl (lv_at hl 1 rfl) ?_
    refine s_call (As := [.int (nI S)]) (rest := []) (ci := 0) (ct1_solve l D hst hS hsi.2.1) B hw (lw_V q107 q109 qs5 q18 q110) rfl rfl rfl ⟨cn1_solve, rfl, rfl, by decide, by decide⟩ ⟨Nat.zero_le _, Nat.zero_le _⟩ hl.1 (Nat.le_of_ble_eq_true rfl) dX1_leastSeed_12 (fun r1 u H locs hv hw => ?_)
    obtain ⟨fr1, rv1, fm1, bf1, eq1, rs1⟩ := u
    try dsimp only at hv
    have hw : wd D A _ (svW ad dA (nI nn) (nI tpn) fr1 rv1 gr sh wt fm1 bf1 eq1 rs1 gd nd) H locs := hw
    have hsi1 : sd_SI nn tpn shn wtn fr1 gr sh wt fm1 nd := ⟨hst, Or.inr ⟨hv.1, hv.2.1⟩, hsi.2.2⟩
    refine lv_if_eq (tgt := 26) hx hb dX1_leastSeed_15 (by decide) (fun c2 => ?_) (fun c2 => ?_)
    · refine lv_bipush (v := (-2)) hx hb dX1_leastSeed_26 (by decide) ?_
      exact s_ret (v := (-2)) (fr1, rv1, gr, sh, wt, fm1, bf1, eq1, rs1, gd, nd) B rfl hw (⟨Or.inl ⟨S, hS, rfl, Or.inr ⟨sd_so_0 hv.2.2 c2, rfl⟩⟩, hsi1⟩) dX1_leastSeed_28
    · obtain ⟨E, R, he, hfit⟩ := sd_so_1 hv.2.2 c2
      refine lv_aload_n hx hb dX1_leastSeed_18 rfl (lv_at hl 0 rfl) ?_
      refine lv_iconst (v := nI 0) hx hb dX1_leastSeed_19 (by decide) ?_
      refine s_call (As := [.int (nI 0)]) (rest := []) (ci := 0) (ct1_complete l D (lk := false) hn8 he) B hw (lw_V q123 q125 qs8 q18 q126) rfl rfl rfl ⟨cn1_complete, rfl, rfl, by decide, by decide⟩ ⟨Nat.zero_le _, Nat.zero_le _⟩ hl.1 (Nat.le_of_ble_eq_true rfl) dX1_leastSeed_20 (fun r2 u H locs hc hw => ?_)
      obtain ⟨rv2, eq2, rs2⟩ := u
      try dsimp only at hc
      have hw : wd D A _ (svW ad dA (nI nn) (nI tpn) fr1 rv2 gr sh wt fm1 bf1 eq2 rs2 gd nd) H locs := hw
      obtain ⟨s0, es, hc⟩ := hc
      subst es
      refine lv_goto (tgt := 28) hx hb dX1_leastSeed_23 (by decide) ?_
      exact s_ret (v := nI s0) (fr1, rv2, gr, sh, wt, fm1, bf1, eq2, rs2, gd, nd) B rfl hw (⟨Or.inl ⟨S, hS, rfl, sd_best_of hfit hc⟩, hsi1⟩) dX1_leastSeed_28
  · refine lv_iconst (v := (-1)) hx hb dX1_leastSeed_8 (by decide) ?_
    exact s_ret (v := (-1)) (fr, rv, gr, sh, wt, fm, bf, eq, rs, gd, nd) B rfl hw (⟨Or.inr ⟨sd_yn_eq hp c1, rfl⟩, hsi⟩) dX1_leastSeed_9
set_option maxHeartbeats 4000000 in
set_option maxRecDepth 100000 in
/-- greatestSeed -/
theorem ct1_greatestSeed (l : Launch) (D : va_G) {ad : Nat → Nat} {dA : Nat → ClassId} {nn tpn : Nat} {shn wtn : Nat → Nat} {fr rv gr : Int32} {sh wt fm bf eq rs gd nd : Nat → Int32} (hsi : sd_SI nn tpn shn wtn fr gr sh wt fm nd) (p0 : Int32) : ctI l yX1_greatestSeed cX1_greatestSeed 2 (some .int) (rmK 3) D (svT dA) (svW ad dA (nI nn) (nI tpn) fr rv gr sh wt fm bf eq rs gd nd) [.ref (ad 0), .int p0] (fun r (u : SvU) => sd_Abest nn tpn shn wtn true p0 r ∧ sd_SIu nn tpn shn wtn u) (fun u => svWu ad dA (nI nn) (nI tpn) u) := by
  refine ctI.of (by decide) (Nat.le_of_ble_eq_true rfl) ?_
  intro p e s m below meth c A ls B hw hl
  have hx := B.1.1
  have hb := B.1.2.1
  have hl : lv_has ls 2 [(0, .ref (ad 0)), (1, .int p0)] := hl
  have hst := hsi.1
  have h8 := sd_p8 hst.2.1
  have h3 := hst.1
  have hn8 := hst.2.1
  refine lv_aload_n hx hb dX1_greatestSeed_0 rfl (lv_at hl 0 rfl) ?_
  refine lv_iload_n hx hb dX1_greatestSeed_1 rfl (lv_at hl 1 rfl) ?_
  refine s_call (As := [.int p0]) (rest := []) (ci := 0) (ct1_isCubeSet l D p0) B hw (lw_V q103 q105 qs4 q18 q106) rfl rfl rfl ⟨cn1_isCubeSet, rfl, rfl, by decide, by decide⟩ ⟨Nat.zero_le _, Nat.zero_le _⟩ hl.1 (Nat.le_of_ble_eq_true rfl) dX1_greatestSeed_2 (fun r0 _ H locs hp hw => ?_)
  have hw : wd D A _ (svW ad dA (nI nn) (nI tpn) fr rv gr sh wt fm bf eq rs gd nd) H locs := hw
  refine lv_if_ne (tgt := 10) hx hb dX1_greatestSeed_5 (by decide) (fun c1 => ?_) (fun c1 => ?_)
  · obtain ⟨S, hS, e0⟩ := sd_yn_ne hp c1
    subst e0
    refine lv_aload_n hx hb dX1_greatestSeed_10 rfl (lv_at hl 0 rfl) ?_
    refine lv_iload_n hx hb dX1_greatestSeed_11 rfl (lv_at hl 1 rfl) ?_
    refine s_call (As := [.int (nI S)]) (rest := []) (ci := 0) (ct1_solve l D hst hS hsi.2.1) B hw (lw_V q107 q109 qs5 q18 q110) rfl rfl rfl ⟨cn1_solve, rfl, rfl, by decide, by decide⟩ ⟨Nat.zero_le _, Nat.zero_le _⟩ hl.1 (Nat.le_of_ble_eq_true rfl) dX1_greatestSeed_12 (fun r1 u H locs hv hw => ?_)
    obtain ⟨fr1, rv1, fm1, bf1, eq1, rs1⟩ := u
    try dsimp only at hv
    have hw : wd D A _ (svW ad dA (nI nn) (nI tpn) fr1 rv1 gr sh wt fm1 bf1 eq1 rs1 gd nd) H locs := hw
    have hsi1 : sd_SI nn tpn shn wtn fr1 gr sh wt fm1 nd := ⟨hst, Or.inr ⟨hv.1, hv.2.1⟩, hsi.2.2⟩
    refine lv_if_eq (tgt := 26) hx hb dX1_greatestSeed_15 (by decide) (fun c2 => ?_) (fun c2 => ?_)
    · refine lv_bipush (v := (-2)) hx hb dX1_greatestSeed_26 (by decide) ?_
      exact s_ret (v := (-2)) (fr1, rv1, gr, sh, wt, fm1, bf1, eq1, rs1, gd, nd) B rfl hw (⟨Or.inl ⟨S, hS, rfl, Or.inr ⟨sd_so_0 hv.2.2 c2, rfl⟩⟩, hsi1⟩) dX1_greatestSeed_28
    · obtain ⟨E, R, he, hfit⟩ := sd_so_1 hv.2.2 c2
      refine lv_aload_n hx hb dX1_greatestSeed_18 rfl (lv_at hl 0 rfl) ?_
      refine lv_iconst (v := nI 1) hx hb dX1_greatestSeed_19 (by decide) ?_
      refine s_call (As := [.int (nI 1)]) (rest := []) (ci := 0) (ct1_complete l D (lk := true) hn8 he) B hw (lw_V q123 q125 qs8 q18 q126) rfl rfl rfl ⟨cn1_complete, rfl, rfl, by decide, by decide⟩ ⟨Nat.zero_le _, Nat.zero_le _⟩ hl.1 (Nat.le_of_ble_eq_true rfl) dX1_greatestSeed_20 (fun r2 u H locs hc hw => ?_)
      obtain ⟨rv2, eq2, rs2⟩ := u
      try dsimp only at hc
      have hw : wd D A _ (svW ad dA (nI nn) (nI tpn) fr1 rv2 gr sh wt fm1 bf1 eq2 rs2 gd nd) H locs := hw
      obtain ⟨s0, es, hc⟩ := hc
      subst es
      refine lv_goto (tgt := 28) hx hb dX1_greatestSeed_23 (by decide) ?_
      exact s_ret (v := nI s0) (fr1, rv2, gr, sh, wt, fm1, bf1, eq2, rs2, gd, nd) B rfl hw (⟨Or.inl ⟨S, hS, rfl, sd_best_of hfit hc⟩, hsi1⟩) dX1_greatestSeed_28
  · refine lv_iconst (v := (-1)) hx hb dX1_greatestSeed_8 (by decide) ?_
    exact s_ret (v := (-1)) (fr, rv, gr, sh, wt, fm, bf, eq, rs, gd, nd) B rfl hw (⟨Or.inr ⟨sd_yn_eq hp c1, rfl⟩, hsi⟩) dX1_greatestSeed_9
set_option maxHeartbeats 4000000 in
set_option maxRecDepth 100000 in
/-- forced -/
theorem ct1_forced (l : Launch) (D : va_G) {ad : Nat → Nat} {dA : Nat → ClassId} {nn tpn : Nat} {shn wtn : Nat → Nat} {fr rv gr : Int32} {sh wt fm bf eq rs gd nd : Nat → Int32} (hsi : sd_SI nn tpn shn wtn fr gr sh wt fm nd) (p0 p1 p2 : Int32) : ctI l yX1_forced cX1_forced 5 (some .int) (rmK 3) D (svT dA) (svW ad dA (nI nn) (nI tpn) fr rv gr sh wt fm bf eq rs gd nd) [.ref (ad 0), .int p0, .int p1, .int p2] (fun r (u : SvU) => sd_Afrc nn tpn shn wtn p0 p1 p2 r ∧ sd_SIu nn tpn shn wtn u) (fun u => svWu ad dA (nI nn) (nI tpn) u) := by
  refine ctI.of (by decide) (Nat.le_of_ble_eq_true rfl) ?_
  intro p e s m below meth c A ls B hw hl
  have hx := B.1.1
  have hb := B.1.2.1
  have hl : lv_has ls 5 [(0, .ref (ad 0)), (1, .int p0), (2, .int p1), (3, .int p2)] := hl
  have hst := hsi.1
  have h8 := sd_p8 hst.2.1
  have h3 := hst.1
  have hn8 := hst.2.1
  refine lv_aload_n hx hb dX1_forced_0 rfl (lv_at hl 0 rfl) ?_
  refine lv_iload_n hx hb dX1_forced_1 rfl (lv_at hl 1 rfl) ?_
  refine s_call (As := [.int p0]) (rest := []) (ci := 0) (ct1_isCubeSet l D p0) B hw (lw_V q103 q105 qs4 q18 q106) rfl rfl rfl ⟨cn1_isCubeSet, rfl, rfl, by decide, by decide⟩ ⟨Nat.zero_le _, Nat.zero_le _⟩ hl.1 (Nat.le_of_ble_eq_true rfl) dX1_forced_2 (fun r0 _ H locs hp hw => ?_)
  have hw : wd D A _ (svW ad dA (nI nn) (nI tpn) fr rv gr sh wt fm bf eq rs gd nd) H locs := hw
  refine lv_if_eq (tgt := 17) hx hb dX1_forced_5 (by decide) (fun c1 => ?_) (fun c1 => ?_)
  · refine lv_iconst (v := (-1)) hx hb dX1_forced_17 (by decide) ?_
    exact s_ret (v := (-1)) (fr, rv, gr, sh, wt, fm, bf, eq, rs, gd, nd) B rfl hw (⟨Or.inr ⟨fun h => sd_yn_eq hp c1 h.1, rfl⟩, hsi⟩) dX1_forced_18
  · refine lv_aload_n hx hb dX1_forced_8 rfl (lv_at hl 0 rfl) ?_
    refine lv_iload_n hx hb dX1_forced_9 rfl (lv_at hl 2 rfl) ?_
    refine lv_iload_n hx hb dX1_forced_10 rfl (lv_at hl 3 rfl) ?_
    refine s_call (As := [.int p1, .int p2]) (rest := []) (ci := 0) (ct1_isPlace l D p1 p2) B hw (lw_V q79 q81 qs0 q18 q82) rfl rfl rfl ⟨cn1_isPlace, rfl, rfl, by decide, by decide⟩ ⟨Nat.zero_le _, Nat.zero_le _⟩ hl.1 (Nat.le_of_ble_eq_true rfl) dX1_forced_11 (fun ra _ H locs hp1 hw => ?_)
    have hw : wd D A _ (svW ad dA (nI nn) (nI tpn) fr rv gr sh wt fm bf eq rs gd nd) H locs := hw
    refine lv_if_ne (tgt := 19) hx hb dX1_forced_14 (by decide) (fun c2 => ?_) (fun c2 => ?_)
    · obtain ⟨S, hS, e0⟩ := sd_yn_ne hp c1
      obtain ⟨⟨t, ht, e1⟩, ⟨ch, hc, e2⟩⟩ := sd_yn_ne hp1 c2
      subst e0; subst e1; subst e2
      refine lv_aload_n hx hb dX1_forced_19 rfl (lv_at hl 0 rfl) ?_
      refine lv_iload_n hx hb dX1_forced_20 rfl (lv_at hl 1 rfl) ?_
      refine s_call (As := [.int (nI S)]) (rest := []) (ci := 0) (ct1_solve l D hst hS hsi.2.1) B hw (lw_V q107 q109 qs5 q18 q110) rfl rfl rfl ⟨cn1_solve, rfl, rfl, by decide, by decide⟩ ⟨Nat.zero_le _, Nat.zero_le _⟩ hl.1 (Nat.le_of_ble_eq_true rfl) dX1_forced_21 (fun r1 u H locs hv hw => ?_)
      obtain ⟨fr1, rv1, fm1, bf1, eq1, rs1⟩ := u
      try dsimp only at hv
      have hw : wd D A _ (svW ad dA (nI nn) (nI tpn) fr1 rv1 gr sh wt fm1 bf1 eq1 rs1 gd nd) H locs := hw
      have hsi1 : sd_SI nn tpn shn wtn fr1 gr sh wt fm1 nd := ⟨hst, Or.inr ⟨hv.1, hv.2.1⟩, hsi.2.2⟩
      refine lv_if_ne (tgt := 30) hx hb dX1_forced_24 (by decide) (fun c3 => ?_) (fun c3 => ?_)
      · obtain ⟨E, R, he, hfit⟩ := sd_so_1 hv.2.2 c3
        obtain ⟨a0, ea, ha, hph⟩ := hv.2.1 (4 * t + ch) (by omega)
        have hd4 : (4 * t + ch) / 4 = t := by omega
        have hm4 : (4 * t + ch) % 4 = ch := by omega
        rw [hd4, hm4] at hph
        refine lv_aload_n hx hb dX1_forced_30 rfl (lv_at hl 0 rfl) ?_
        refine lv_aload_n hx hb dX1_forced_31 rfl (lv_at hl 0 rfl) ?_
        refine s_get1 (v := .ref (ad 3)) B hw 5 (by decide) q33 rfl rfl dX1_forced_32 ?_
        refine lv_iconst (v := nI 4) hx hb dX1_forced_35 (by decide) ?_
        refine lv_iload_n hx hb dX1_forced_36 rfl (lv_at hl 2 rfl) ?_
        refine lv_imul hx hb dX1_forced_37 ?_
        refine s_top (y := nI (4 * t)) (pk_mul _ _) ?_
        refine lv_iload_n hx hb dX1_forced_38 rfl (lv_at hl 3 rfl) ?_
        refine lv_iadd hx hb dX1_forced_39 ?_
        refine s_top (y := nI ((4 * t) + ch)) (nI_add _ _) ?_
        refine s_iald B hw 3 2 rfl rfl (i := ((4 * t) + ch)) (by omega) (by decide) dX1_forced_40 ?_
        refine s_top (y := nI a0) (ea) ?_
        refine lv_iconst (v := nI 0) hx hb dX1_forced_41 (by decide) ?_
        refine s_call (As := [.int (nI a0), .int (nI 0)]) (rest := []) (ci := 0) (ct1_reduce l D (v0 := false) hn8 he ha) B hw (lw_V q115 q117 qs7 q18 q118) rfl rfl rfl ⟨cn1_reduce, rfl, rfl, by decide, by decide⟩ ⟨Nat.zero_le _, Nat.zero_le _⟩ hl.1 (Nat.le_of_ble_eq_true rfl) dX1_forced_42 (fun r2 rv2 H locs hr hw => ?_)
        have hw : wd D A _ (svW ad dA (nI nn) (nI tpn) fr1 rv2 gr sh wt fm1 bf1 eq1 rs1 gd nd) H locs := hw
        obtain ⟨q0, wv, e1, e2, hr⟩ := hr
        subst e1; subst e2
        have hq1 := hr.1
        have hfin := sd_frc_of he hfit hph hr
        refine lv_istore (lv' := [(4, .int (nI q0)), (0, .ref (ad 0)), (1, .int (nI S)), (2, .int (nI t)), (3, .int (nI ch))]) hx hb dX1_forced_45 hl (by decide) rfl (fun ls hl => ?_)
        refine lv_iload hx hb dX1_forced_47 (lv_at hl 0 rfl) ?_
        refine lv_if_ne (tgt := 59) hx hb dX1_forced_49 (by decide) (fun c4 => ?_) (fun c4 => ?_)
        · refine lv_iconst (v := nI 2) hx hb dX1_forced_59 (by decide) ?_
          exact s_ret (v := nI 2) (fr1, nI (wv.toNat), gr, sh, wt, fm1, bf1, eq1, rs1, gd, nd) B rfl hw (⟨Or.inl ⟨S, t, ch, hS, rfl, ht, rfl, hc, rfl, by rw [if_neg (fun z => c4 (by rw [z]; rfl))] at hfin; exact hfin⟩, hsi1⟩) dX1_forced_60
        · refine lv_aload_n hx hb dX1_forced_52 rfl (lv_at hl 1 rfl) ?_
          refine s_get1 (v := .int (nI (wv.toNat))) B hw 9 (by decide) q37 rfl rfl dX1_forced_53 ?_
          refine lv_goto (tgt := 60) hx hb dX1_forced_56 (by decide) ?_
          exact s_ret (v := nI (wv.toNat)) (fr1, nI (wv.toNat), gr, sh, wt, fm1, bf1, eq1, rs1, gd, nd) B rfl hw (⟨Or.inl ⟨S, t, ch, hS, rfl, ht, rfl, hc, rfl, by rw [if_pos ((nI_eq (b := 0) (by omega) (by omega)).mp c4)] at hfin; exact hfin⟩, hsi1⟩) dX1_forced_60
      · refine lv_bipush (v := (-2)) hx hb dX1_forced_27 (by decide) ?_
        exact s_ret (v := (-2)) (fr1, rv1, gr, sh, wt, fm1, bf1, eq1, rs1, gd, nd) B rfl hw (⟨Or.inl ⟨S, t, ch, hS, rfl, ht, rfl, hc, rfl, Or.inl ⟨sd_so_0 hv.2.2 c3, rfl⟩⟩, hsi1⟩) dX1_forced_29
    · refine lv_iconst (v := (-1)) hx hb dX1_forced_17 (by decide) ?_
      exact s_ret (v := (-1)) (fr, rv, gr, sh, wt, fm, bf, eq, rs, gd, nd) B rfl hw (⟨Or.inr ⟨fun h => sd_yn_eq hp1 c2 h.2, rfl⟩, hsi⟩) dX1_forced_18
set_option maxHeartbeats 4000000 in
set_option maxRecDepth 100000 in
/-- seedsNeeded -/
theorem ct1_seedsNeeded (l : Launch) (D : va_G) {ad : Nat → Nat} {dA : Nat → ClassId} {nn tpn : Nat} {shn wtn : Nat → Nat} {fr rv gr : Int32} {sh wt fm bf eq rs gd nd : Nat → Int32} (hsi : sd_SI nn tpn shn wtn fr gr sh wt fm nd) (p0 : Int32) : ctI l yX1_seedsNeeded cX1_seedsNeeded 2 (some .int) (rmK 4) D (svT dA) (svW ad dA (nI nn) (nI tpn) fr rv gr sh wt fm bf eq rs gd nd) [.ref (ad 0), .int p0] (fun r (u : SvU) => sd_Aneed nn tpn shn wtn p0 r ∧ sd_SIu nn tpn shn wtn u) (fun u => svWu ad dA (nI nn) (nI tpn) u) := by
  refine ctI.of (by decide) (Nat.le_of_ble_eq_true rfl) ?_
  intro p e s m below meth c A ls B hw hl
  have hx := B.1.1
  have hb := B.1.2.1
  have hl : lv_has ls 2 [(0, .ref (ad 0)), (1, .int p0)] := hl
  have hst := hsi.1
  have h8 := sd_p8 hst.2.1
  have h3 := hst.1
  have hn8 := hst.2.1
  refine lv_aload_n hx hb dX1_seedsNeeded_0 rfl (lv_at hl 0 rfl) ?_
  refine lv_iload_n hx hb dX1_seedsNeeded_1 rfl (lv_at hl 1 rfl) ?_
  refine s_call (As := [.int p0]) (rest := []) (ci := 0) (ct1_isCubeSet l D p0) B hw (lw_V q103 q105 qs4 q18 q106) rfl rfl rfl ⟨cn1_isCubeSet, rfl, rfl, by decide, by decide⟩ ⟨Nat.zero_le _, Nat.zero_le _⟩ hl.1 (Nat.le_of_ble_eq_true rfl) dX1_seedsNeeded_2 (fun r0 _ H locs hp hw => ?_)
  have hw : wd D A _ (svW ad dA (nI nn) (nI tpn) fr rv gr sh wt fm bf eq rs gd nd) H locs := hw
  refine lv_if_ne (tgt := 10) hx hb dX1_seedsNeeded_5 (by decide) (fun c1 => ?_) (fun c1 => ?_)
  · obtain ⟨S, hS, e0⟩ := sd_yn_ne hp c1
    subst e0
    refine lv_aload_n hx hb dX1_seedsNeeded_10 rfl (lv_at hl 0 rfl) ?_
    refine s_get1 (v := .int gr) B hw 10 (by decide) q38 rfl rfl dX1_seedsNeeded_11 ?_
    refine lv_if_ne (tgt := 21) hx hb dX1_seedsNeeded_14 (by decide) (fun c2 => ?_) (fun c2 => ?_)
    · refine lv_aload_n hx hb dX1_seedsNeeded_21 rfl (lv_at hl 0 rfl) ?_
      refine s_get1 (v := .ref (ad 8)) B hw 12 (by decide) q40 rfl rfl dX1_seedsNeeded_22 ?_
      refine lv_iload_n hx hb dX1_seedsNeeded_25 rfl (lv_at hl 1 rfl) ?_
      refine s_bald B hw 8 7 rfl rfl (i := S) (by omega) (by decide) dX1_seedsNeeded_26 ?_
      exact s_ret (v := nd S) (fr, rv, gr, sh, wt, fm, bf, eq, rs, gd, nd) B rfl hw (⟨Or.inl ⟨S, hS, rfl, by
              rcases hsi.2.2 with q | q
              · exact absurd q c2
              · exact q.2 S hS⟩, hsi⟩) dX1_seedsNeeded_27
    · refine lv_aload_n hx hb dX1_seedsNeeded_17 rfl (lv_at hl 0 rfl) ?_
      refine s_callv (As := []) (rest := []) (ci := 0) (ct1_groupCubes l D hst hsi.2.1) B hw (lw_V q139 q141 qs9 q18 q142) rfl rfl rfl ⟨cn1_groupCubes, rfl, rfl, by decide, by decide⟩ ⟨Nat.zero_le _, Nat.zero_le _⟩ hl.1 (Nat.le_of_ble_eq_true rfl) dX1_seedsNeeded_18 (fun u H locs hg hw => ?_)
      obtain ⟨fr1, rv1, gr1, fm1, bf1, eq1, rs1, gd1, nd1⟩ := u
      try dsimp only at hg
      have hw : wd D A _ (svW ad dA (nI nn) (nI tpn) fr1 rv1 gr1 sh wt fm1 bf1 eq1 rs1 gd1 nd1) H locs := hw
      refine lv_aload_n hx hb dX1_seedsNeeded_21 rfl (lv_at hl 0 rfl) ?_
      refine s_get1 (v := .ref (ad 8)) B hw 12 (by decide) q40 rfl rfl dX1_seedsNeeded_22 ?_
      refine lv_iload_n hx hb dX1_seedsNeeded_25 rfl (lv_at hl 1 rfl) ?_
      refine s_bald B hw 8 7 rfl rfl (i := S) (by omega) (by decide) dX1_seedsNeeded_26 ?_
      exact s_ret (v := nd1 S) (fr1, rv1, gr1, sh, wt, fm1, bf1, eq1, rs1, gd1, nd1) B rfl hw (⟨Or.inl ⟨S, hS, rfl, by
              rcases hg.2.1 with q | q
              · have q2 := hg.2.2; rw [q] at q2; exact absurd q2 (by decide)
              · exact q.2 S hS⟩, hst, hg.1, hg.2.1⟩) dX1_seedsNeeded_27
  · refine lv_iconst (v := (-1)) hx hb dX1_seedsNeeded_8 (by decide) ?_
    exact s_ret (v := (-1)) (fr, rv, gr, sh, wt, fm, bf, eq, rs, gd, nd) B rfl hw (⟨Or.inr ⟨sd_yn_eq hp c1, rfl⟩, hsi⟩) dX1_seedsNeeded_9
end
section
/-! CONSTRUCTORS: rows and the contracts' form -/
set_option maxRecDepth 100000
/-- n out of the first number, taps out of the second -/
def sd_cl (p : Int32) : Nat := if p < nI 3 then 3 else if nI 8 < p then 8 else p.toInt.toNat
def sd_tp (p : Int32) (nn : Nat) : Nat := p.toBitVec.toNat % 2 ^ nn
theorem sd_cl_lo {p : Int32} (h : ¬ nI 3 ≤ p) : sd_cl p = 3 := by
  refine if_pos ?_
  rw [fa_lt]
  rw [fa_le] at h
  omega
theorem sd_cl_hi {p : Int32} (h : nI 3 ≤ p) (h2 : ¬ p ≤ nI 8) : sd_cl p = 8 := by
  have e1 : ¬ p < nI 3 := by
    rw [fa_lt]
    rw [fa_le] at h
    omega
  have e2 : nI 8 < p := by
    rw [fa_lt]
    rw [fa_le] at h2
    omega
  unfold sd_cl
  rw [if_neg e1, if_pos e2]
theorem sd_cl_in {p : Int32} (h : nI 3 ≤ p) (h2 : p ≤ nI 8) : p = nI (sd_cl p) ∧ 3 ≤ sd_cl p ∧ sd_cl p ≤ 8 := by
  have e1 : ¬ p < nI 3 := by
    rw [fa_lt]
    rw [fa_le] at h
    omega
  have e2 : ¬ nI 8 < p := by
    rw [fa_lt]
    rw [fa_le] at h2
    omega
  have e3 : sd_cl p = p.toInt.toNat := by
    unfold sd_cl
    rw [if_neg e1, if_neg e2]
  have t3 : (nI 3).toInt = 3 := by decide
  have t8 : (nI 8).toInt = 8 := by decide
  rw [fa_le, t3] at h
  rw [fa_le, t8] at h2
  rw [e3]
  refine ⟨?_, by omega, by omega⟩
  rw [fa_eq, nI_toInt (by omega)]
  omega
/-- the addresses and array classes as functions -/
def adF (a0 a1 a2 a3 a4 a5 a6 a7 a8 : Nat) : Nat → Nat := fun k => match k with
  | 0 => a0 | 1 => a1 | 2 => a2 | 3 => a3 | 4 => a4 | 5 => a5 | 6 => a6 | 7 => a7 | _ => a8
def dAF (a1 a2 a3 a4 a5 a6 a7 a8 : ClassId) : Nat → ClassId := fun k => match k with
  | 1 => a1 | 2 => a2 | 3 => a3 | 4 => a4 | 5 => a5 | 6 => a6 | 7 => a7 | _ => a8
/-- CONTRACT of a constructor: in the world w it leaves the world w' u of the array classes ty u; mc cells of ms slots are new -/
def ctN (l : Launch) (y : MethodName) (cc : ByteArray) (nL : Nat) (rm : Room) (D : va_G) (w : va_W) (av : List Value) {S : Type} (post : S → Prop) (ty : S → List (ClassId × FieldType)) (w' : S → va_W) (mc ms : Nat) : Prop :=
  ∀ sz : Nat, Met l y (ws_ y cc nL none) rm (va_Pc av (wS D [] w sz)) (va_Qv post (fun u t => wE D (ty u) (va_A w sz) (w' u) t) (va_A w sz)) mc ms (va_A w sz)
def qN (below : List Frame) (D : va_G) (A : Nat → Prop) {S : Type} (post : S → Prop) (ty : S → List (ClassId × FieldType)) (w' : S → va_W) (mc ms : Nat) (args : Array Value) (s : State) : State → Prop :=
  MQ below (va_Qv post (fun u t => wE D (ty u) A (w' u) t) A) args s mc ms A
theorem ctN.of {l : Launch} {y : MethodName} {cc : ByteArray} {nL : Nat} {rm : Room} {D : va_G} {w : va_W} {av : List Value} {S : Type} {post : S → Prop} {ty : S → List (ClassId × FieldType)} {w' : S → va_W} {mc ms : Nat}
    (hy : plainName y.cls = true) (hyn : y.name = "<init>") (hn : (lg_sl av).length ≤ nL)
    (hb : ∀ (p : Program) (e : Env) (s : State) (m : MethodId) (below : List Frame) (meth : Method) (c : Code) (A : Nat → Prop) (ls : Array Slot), bx p s m meth c cc nL none av.toArray y.cls D [] → meth.name = "<init>" → wd D A s.heap w s.heap [] → lv_has ls nL (lv_args 0 av) →
      W p l e rm s m av.toArray below meth c s.heap [] 0 0 (qN below D A post ty w' mc ms av.toArray s) (F0 m 0 ls [])) : ctN l y cc nL rm D w av post ty w' mc ms := by
  intro sz
  refine Met.ofW (cc := cc) (maxL := nL) (ret := none) hy rfl ?_
  intro p e s m args below meth c s₁ B hml hv
  obtain ⟨rfl, hsz, hP, hK, hD0⟩ := hv
  have hts := atoms_spec (ws := ws_ y cc nL none) B.pre
  have hts : ∀ w ∈ lw_all, w.before _ s = true := fun w h => hts w (List.mem_cons_of_mem _ h)
  have hin : meth.name = "<init>" := by rw [(name_of_methodNamed B.named B.method).1]; exact hyn
  subst hsz
  rw [lg_entry_eq]
  exact hb p e s m below meth c (va_A w s.heap.size) _ ⟨⟨B.exec, B.bytes, hml, findClass_of_methodNamed B.named, hts⟩, B.notSynchronized, B.returns, hK⟩ hin ⟨hP, hD0.self (sz := s.heap.size), va_S.rf, fun q h => Or.inr h⟩ (lv_entry av hn)
section
variable {p : Program} {l : Launch} {e : Env} {R : Room} {s : State} {m : MethodId} {args : Array Value} {below : List Frame} {meth : Method} {c : Code} {H : Heap} {locs : List Loc} {cells slots : Nat} {Q : State → Prop}
variable {cc : ByteArray} {nL : Nat} {ret : Option FieldType} {own : String} {pc : Nat} {ls : Array Slot} {rest : List Value} {D : va_G} {A : Nat → Prop} {H0 : Heap} {tys : List (ClassId × FieldType)} {w : va_W} {a : Nat}
theorem s_newa {atype : ArrayType} {ty : FieldType} {N' : Nat} (B : bx p s m meth c cc nL ret args own D tys) (hw : wd D A H0 w H locs) (hq : Cond.arrayClass (newarray.typeOf atype) ∈ lw_all) (hty : newarray.typeOf atype = ty) (hdv : defaultValue ty = .int 0) (hN : N' < 2 ^ 31) (hbytes : N' * componentBytes ty ≤ 536870912) (hcells : cells + 1 ≤ R.cells) (hslots : slots + N' ≤ R.slots) (hdg : decode cc pc = .ok (.newarray atype, 2))
    (kk : ∀ (q : Nat) (cA : ClassId) (H1 : Heap), bx p s m meth c cc nL ret args own D (tys ++ [(cA, ty)]) → wd D A H0 (w ++ [(q, .inl (cA, N', .inl (fun _ => 0)))]) H1 locs → W p l e R s m args below meth c H1 locs (cells + 1) (slots + N') Q (F0 m (pc + 2) ls (.ref q :: rest))) : W p l e R s m args below meth c H locs cells slots Q (F0 m pc ls (.int (nI N') :: rest)) :=
  va_newa B.1.1 B.1.2.1 (B.1.2.2.2.2 _ hq) hty B.2.2.2 hw.1 hw.2.1 hw.2.2.1 hw.2.2.2 (a0 := (N', .inl (fun _ => 0))) (fun cA => by rw [vp_cell_i, hdv]) (nI_pos hN) (nI_clamp hN) hbytes hcells hslots hdg (fun q cA H1 h1 h2 h3 h4 => kk q cA H1 ⟨B.1, B.2.1, B.2.2.1, h1⟩ ⟨h2, h3, h4, hw.2.2.2⟩)
theorem s_putF1 (B : bx p s m meth c cc nL ret args RX1 D tys) (hin : meth.name = "<init>") (hw : wd D A H0 w H locs) (k : Nat) (hk : k < 13) {index : Nat} (hq : Cond.fieldLink RX1 index (TX1 k).1 (TX1 k).2.1 (TX1 k).2.2.1 ∈ lw_all) {fs : List Value} (he : w[0]? = some (a, .inr (0, fs))) (hfin : (TX1 k).2.2.2 = true) (hdecl : (TX1 k).1 = RX1) {ty : FieldType} {v : Value} (hd : parseFieldDescriptor (TX1 k).2.2.1 = some ty) (hn : narrow ty v = v) (hfit : fits ty v = true) (hl : k < fs.length) (hdg : decode cc pc = .ok (.putfield index, 3))
    (kk : ∀ (H1 : Heap) (locs1 : List Loc), wd D A H0 (w.set 0 (a, .inr (0, fs.set k v))) H1 locs1 → W p l e R s m args below meth c H1 locs1 cells slots Q (F0 m (pc + 3) ls rest)) : W p l e R s m args below meth c H locs cells slots Q (F0 m pc ls (v :: .ref a :: rest)) :=
  va_putF (D := D) (ci := 0) (C := RX1) (T := TX1) (N := 13) B.1.1 B.1.2.1 B.1.2.2.2.2 in_X1 tyX1 tyX1_ok nmX1 B.1.2.2.2.1 B.2.2.2 hw.1 hw.2.1 hw.2.2.1 0 he rfl k hk (B.1.2.2.2.2 _ hq) (fun _ h => h) hfin hin hdecl hd hn hfit hl hdg (fun H1 l1 h1 h2 h3 => kk H1 l1 ⟨h1, h2, h3, hw.2.2.2⟩)
theorem s_nret {S : Type} {post : S → Prop} {ty : S → List (ClassId × FieldType)} {w' : S → va_W} (u : S) (B : bx p s m meth c cc nL none args own D (ty u)) (hw : wd D A s.heap (w' u) H locs) (hp : post u) (hdg : decode cc pc = .ok (.return_, 1)) :
    W p l e R s m args below meth c H locs cells slots (qN below D A post ty w' cells slots args s) (F0 m pc ls []) :=
  W.vret B.1.1 B.1.2.1 B.2.2.1 (fun t ht hW => ⟨⟨u, rfl, hp, by rw [ht]; exact hw.1, va_K.moved hW.alike B.2.2.2, hw.2.1⟩, hw.2.2.1.F ht⟩) hw.2.2.1.2.2 hdg B.2.1
end
end
section
/-! the constructors (printed by gen/xinit.py) -/
set_option maxHeartbeats 4000000 in
set_option maxRecDepth 100000 in
/-- the constructor: shifters -/
theorem lp1_initS {p : Program} {l : Launch} {e : Env} {s : State} {m : MethodId} {args : Array Value} {below : List Frame} {meth : Method} {c : Code} {Q : State → Prop} {D : va_G} {ad : Nat → Nat} {ret : Option FieldType} {R : Room} {cells slots : Nat} {A : Nat → Prop} {dA : Nat → ClassId} {p0 p1 : Int32} {nn tpn : Nat} (h3 : 3 ≤ nn) (h8 : nn ≤ 8) (B : bx p s m meth c cX1_init 4 ret args RX1 D (svT dA))
    (kk : ∀ (sh : Nat → Int32) (H : Heap) (locs : List Loc) (ls : Array Slot), (∀ j, j < 4 → sh j = nI (2 ^ (j % nn))) → wd D A s.heap (svW ad dA (nI nn) (nI tpn) 0 0 0 sh (fun _ => 0) (fun _ => 0) (fun _ => 0) (fun _ => 0) (fun _ => 0) (fun _ => 0) (fun _ => 0)) H locs → lv_has ls 4 [(0, .ref (ad 0)), (1, .int p0), (2, .int p1), (3, .int (nI 4))] → W p l e R s m args below meth c H locs cells slots Q (F0 m 134 ls [])) :
    ∀ (k i : Nat) (sh : Nat → Int32) (H : Heap) (locs : List Loc) (ls : Array Slot), i + k = 4 → (∀ j, j < i → sh j = nI (2 ^ (j % nn))) → wd D A s.heap (svW ad dA (nI nn) (nI tpn) 0 0 0 sh (fun _ => 0) (fun _ => 0) (fun _ => 0) (fun _ => 0) (fun _ => 0) (fun _ => 0) (fun _ => 0)) H locs → lv_has ls 4 [(0, .ref (ad 0)), (1, .int p0), (2, .int p1), (3, .int (nI i))] → W p l e R s m args below meth c H locs cells slots Q (F0 m 109 ls []) := by
  have hx := B.1.1
  have hb := B.1.2.1
  intro k
  induction k with
  | zero =>
    intro i sh H locs ls hk hI hw hl
    have ei : i = 4 := by omega
    subst ei
    refine lv_iload_n hx hb dX1_init_109 rfl (lv_at hl 3 rfl) ?_
    refine lv_iconst (v := nI 4) hx hb dX1_init_110 (by decide) ?_
    refine lv_icmp_ge (tgt := 134) hx hb dX1_init_111 (by decide) (fun _ => ?_) (fun cc => absurd (nI_le (by omega) (by omega)) cc)
    exact kk sh H locs ls hI hw (lv_sub hl [0, 1, 2, 3] rfl)
  | succ k ih =>
    intro i sh H locs ls hk hI hw hl
    have hmod : i % nn < nn := Nat.mod_lt _ (by omega)
    refine lv_iload_n hx hb dX1_init_109 rfl (lv_at hl 3 rfl) ?_
    refine lv_iconst (v := nI 4) hx hb dX1_init_110 (by decide) ?_
    refine lv_icmp_ge (tgt := 134) hx hb dX1_init_111 (by decide) (fun cc => absurd cc (nI_ge (by omega) (by omega))) (fun _ => ?_)
    refine lv_aload_n hx hb dX1_init_114 rfl (lv_at hl 0 rfl) ?_
    refine s_get1 (v := .ref (ad 1)) B hw 2 (by decide) q30 rfl rfl dX1_init_115 ?_
    refine lv_iload_n hx hb dX1_init_118 rfl (lv_at hl 3 rfl) ?_
    refine lv_iconst (v := nI 1) hx hb dX1_init_119 (by decide) ?_
    refine lv_iload_n hx hb dX1_init_120 rfl (lv_at hl 3 rfl) ?_
    refine lv_aload_n hx hb dX1_init_121 rfl (lv_at hl 0 rfl) ?_
    refine s_get1 (v := .int (nI nn)) B hw 0 (by decide) q28 rfl rfl dX1_init_122 ?_
    refine lv_irem hx hb dX1_init_125 (nI_ne0 (by omega) (by omega)) ?_
    refine s_top (y := nI (i % nn)) (pk_rem (by omega) (by omega) (by omega)) ?_
    refine lv_ishl hx hb dX1_init_126 ?_
    refine s_top (y := nI (2 ^ (i % nn))) (sd_shl1 (by omega)) ?_
    refine s_iast B hw 1 0 rfl rfl (i := i) (by omega) (by decide) dX1_init_127 (fun H locs (hw : wd D A _ (svW ad dA (nI nn) (nI tpn) 0 0 0 (upd sh i (nI (2 ^ (i % nn)))) (fun _ => 0) (fun _ => 0) (fun _ => 0) (fun _ => 0) (fun _ => 0) (fun _ => 0) (fun _ => 0)) H locs) => ?_)
    refine lv_iinc (v := nI (i + 1)) (lv' := [(3, .int (nI (i + 1))), (0, .ref (ad 0)), (1, .int p0), (2, .int p1)]) hx hb dX1_init_128 hl (k := 3) rfl (nI_add i 1) (by decide) rfl (fun ls hl => ?_)
    refine lv_goto (tgt := 109) hx hb dX1_init_131 (by decide) ?_
    exact ih (i + 1) _ H locs ls (by omega) (fun j hj => by
      by_cases e : j = i
      · subst e; exact pk_us
      · rw [pk_un e]; exact hI j (by omega)) hw (lv_sub hl [1, 2, 3, 0] rfl)
set_option maxHeartbeats 4000000 in
set_option maxRecDepth 100000 in
/-- the constructor: wanted -/
theorem lp1_initW {p : Program} {l : Launch} {e : Env} {s : State} {m : MethodId} {args : Array Value} {below : List Frame} {meth : Method} {c : Code} {Q : State → Prop} {D : va_G} {ad : Nat → Nat} {ret : Option FieldType} {R : Room} {cells slots : Nat} {A : Nat → Prop} {dA : Nat → ClassId} {p0 p1 : Int32} {nn tpn : Nat} {sh : Nat → Int32} (B : bx p s m meth c cX1_init 4 ret args RX1 D (svT dA))
    (kk : ∀ (wt : Nat → Int32) (H : Heap) (locs : List Loc) (ls : Array Slot), (∀ j, j < 384 → wt j = nI 2) → wd D A s.heap (svW ad dA (nI nn) (nI tpn) 0 0 0 sh wt (fun _ => 0) (fun _ => 0) (fun _ => 0) (fun _ => 0) (fun _ => 0) (fun _ => 0)) H locs → W p l e R s m args below meth c H locs cells slots Q (F0 m 156 ls [])) :
    ∀ (k i : Nat) (wt : Nat → Int32) (H : Heap) (locs : List Loc) (ls : Array Slot), i + k = 384 → (∀ j, j < i → wt j = nI 2) → wd D A s.heap (svW ad dA (nI nn) (nI tpn) 0 0 0 sh wt (fun _ => 0) (fun _ => 0) (fun _ => 0) (fun _ => 0) (fun _ => 0) (fun _ => 0)) H locs → lv_has ls 4 [(0, .ref (ad 0)), (1, .int p0), (2, .int p1), (3, .int (nI i))] → W p l e R s m args below meth c H locs cells slots Q (F0 m 136 ls []) := by
  have hx := B.1.1
  have hb := B.1.2.1
  intro k
  induction k with
  | zero =>
    intro i wt H locs ls hk hI hw hl
    have ei : i = 384 := by omega
    subst ei
    refine lv_iload_n hx hb dX1_init_136 rfl (lv_at hl 3 rfl) ?_
    refine lv_sipush (v := nI 384) hx hb dX1_init_137 (by decide) ?_
    refine lv_icmp_ge (tgt := 156) hx hb dX1_init_140 (by decide) (fun _ => ?_) (fun cc => absurd (nI_le (by omega) (by omega)) cc)
    exact kk wt H locs ls hI hw
  | succ k ih =>
    intro i wt H locs ls hk hI hw hl
    refine lv_iload_n hx hb dX1_init_136 rfl (lv_at hl 3 rfl) ?_
    refine lv_sipush (v := nI 384) hx hb dX1_init_137 (by decide) ?_
    refine lv_icmp_ge (tgt := 156) hx hb dX1_init_140 (by decide) (fun cc => absurd cc (nI_ge (by omega) (by omega))) (fun _ => ?_)
    refine lv_aload_n hx hb dX1_init_143 rfl (lv_at hl 0 rfl) ?_
    refine s_get1 (v := .ref (ad 2)) B hw 3 (by decide) q31 rfl rfl dX1_init_144 ?_
    refine lv_iload_n hx hb dX1_init_147 rfl (lv_at hl 3 rfl) ?_
    refine lv_iconst (v := nI 2) hx hb dX1_init_148 (by decide) ?_
    refine s_bast B hw 2 1 rfl rfl (i := i) (by omega) (by decide) (by decide) dX1_init_149 (fun H locs (hw : wd D A _ (svW ad dA (nI nn) (nI tpn) 0 0 0 sh (upd wt i (nI 2)) (fun _ => 0) (fun _ => 0) (fun _ => 0) (fun _ => 0) (fun _ => 0) (fun _ => 0)) H locs) => ?_)
    refine lv_iinc (v := nI (i + 1)) (lv' := [(3, .int (nI (i + 1))), (0, .ref (ad 0)), (1, .int p0), (2, .int p1)]) hx hb dX1_init_150 hl (k := 3) rfl (nI_add i 1) (by decide) rfl (fun ls hl => ?_)
    refine lv_goto (tgt := 136) hx hb dX1_init_153 (by decide) ?_
    exact ih (i + 1) _ H locs ls (by omega) (fun j hj => by
      by_cases e : j = i
      · subst e; exact pk_us
      · rw [pk_un e]; exact hI j (by omega)) hw (lv_sub hl [1, 2, 3, 0] rfl)
set_option maxHeartbeats 4000000 in
set_option maxRecDepth 100000 in
/-- the constructor: the numbers, the shifters, what is wanted -/
theorem in1_rest {p : Program} {l : Launch} {e : Env} {s : State} {m : MethodId} {args : Array Value} {below : List Frame} {meth : Method} {c : Code} {Q : State → Prop} {D : va_G} {ad : Nat → Nat} {ret : Option FieldType} {R : Room} {cells slots : Nat} {A : Nat → Prop} {dA : Nat → ClassId} {p0 p1 : Int32} {H : Heap} {locs : List Loc} {ls : Array Slot} (B : bx p s m meth c cX1_init 4 ret args RX1 D (svT dA))
    (kk : ∀ (nn tpn : Nat) (sh wt : Nat → Int32) (H : Heap) (locs : List Loc) (ls : Array Slot), nn = sd_cl p0 → tpn = sd_tp p1 nn → sd_ST nn tpn (fun c => 2 ^ (c % nn)) (fun _ => 2) sh wt → wd D A s.heap (svW ad dA (nI nn) (nI tpn) 0 0 0 sh wt (fun _ => 0) (fun _ => 0) (fun _ => 0) (fun _ => 0) (fun _ => 0) (fun _ => 0)) H locs → W p l e R s m args below meth c H locs cells slots Q (F0 m 156 ls []))
    (hw : wd D A s.heap (svW ad dA 0 0 0 0 0 (fun _ => 0) (fun _ => 0) (fun _ => 0) (fun _ => 0) (fun _ => 0) (fun _ => 0) (fun _ => 0) (fun _ => 0)) H locs)
    (hl : lv_has ls 4 [(0, .ref (ad 0)), (1, .int p0), (2, .int p1)]) :
    W p l e R s m args below meth c H locs cells slots Q (F0 m 68 ls []) := by
  have hx := B.1.1
  have hb := B.1.2.1
  have key : ∀ (nn : Nat), nn = sd_cl p0 → 3 ≤ nn → nn ≤ 8 → W p l e R s m args below meth c H locs cells slots Q (F0 m 90 ls [.int (nI nn), .ref (ad 0)]) := by
    intro nn en h3 h8
    have hh := sd_p8 h8
    refine s_put1 (ty := .int) B hw 0 (by decide) q28 rfl rfl (by decide +kernel) rfl rfl (Nat.le_of_ble_eq_true rfl) dX1_init_90 (fun H locs (hw : wd D A _ (svW ad dA (nI nn) 0 0 0 0 (fun _ => 0) (fun _ => 0) (fun _ => 0) (fun _ => 0) (fun _ => 0) (fun _ => 0) (fun _ => 0) (fun _ => 0)) H locs) => ?_)
    refine lv_aload_n hx hb dX1_init_93 rfl (lv_at hl 0 rfl) ?_
    refine lv_iload_n hx hb dX1_init_94 rfl (lv_at hl 2 rfl) ?_
    refine lv_iconst (v := nI 1) hx hb dX1_init_95 (by decide) ?_
    refine lv_aload_n hx hb dX1_init_96 rfl (lv_at hl 0 rfl) ?_
    refine s_get1 (v := .int (nI nn)) B hw 0 (by decide) q28 rfl rfl dX1_init_97 ?_
    refine lv_ishl hx hb dX1_init_100 ?_
    refine s_top (y := nI (2 ^ nn)) (sd_shl1 (by omega)) ?_
    refine lv_iconst (v := nI 1) hx hb dX1_init_101 (by decide) ?_
    refine lv_isub hx hb dX1_init_102 ?_
    refine lv_iand hx hb dX1_init_103 ?_
    refine s_top (y := nI (sd_tp p1 nn)) (sd_mask p1 h8) ?_
    refine s_put1 (ty := .int) B hw 1 (by decide) q29 rfl rfl (by decide +kernel) rfl rfl (Nat.le_of_ble_eq_true rfl) dX1_init_104 (fun H locs (hw : wd D A _ (svW ad dA (nI nn) (nI (sd_tp p1 nn)) 0 0 0 (fun _ => 0) (fun _ => 0) (fun _ => 0) (fun _ => 0) (fun _ => 0) (fun _ => 0) (fun _ => 0) (fun _ => 0)) H locs) => ?_)
    refine lv_iconst (v := nI 0) hx hb dX1_init_107 (by decide) ?_
    refine lv_istore_n (lv' := [(3, .int (nI 0)), (0, .ref (ad 0)), (1, .int p0), (2, .int p1)]) hx hb dX1_init_108 rfl hl (by decide) rfl (fun ls hl => ?_)
    refine lp1_initS (nn := nn) (tpn := sd_tp p1 nn) h3 h8 B (fun sh H locs ls hI hw hl => ?_) 4 0 _ H locs ls rfl (fun j hj => absurd hj (Nat.not_lt_zero j)) hw (lv_sub hl [1, 2, 3, 0] rfl)
    refine lv_iconst (v := nI 0) hx hb dX1_init_134 (by decide) ?_
    refine lv_istore_n (lv' := [(3, .int (nI 0)), (0, .ref (ad 0)), (1, .int p0), (2, .int p1)]) hx hb dX1_init_135 rfl hl (by decide) rfl (fun ls hl => ?_)
    refine lp1_initW (nn := nn) (tpn := sd_tp p1 nn) B (fun wt H locs ls hJ hw => ?_) 384 0 _ H locs ls rfl (fun j hj => absurd hj (Nat.not_lt_zero j)) hw (lv_sub hl [1, 2, 3, 0] rfl)
    exact kk nn (sd_tp p1 nn) sh wt H locs ls en rfl ⟨h3, h8, Nat.mod_lt _ (Nat.two_pow_pos nn), fun c hc => ⟨hI c hc, Nat.pow_lt_pow_right (by decide) (Nat.mod_lt _ (by omega))⟩, fun i hi => ⟨hJ i hi, Nat.le_refl 2⟩⟩ hw
  refine lv_aload_n hx hb dX1_init_68 rfl (lv_at hl 0 rfl) ?_
  refine lv_iload_n hx hb dX1_init_69 rfl (lv_at hl 1 rfl) ?_
  refine lv_iconst (v := nI 3) hx hb dX1_init_70 (by decide) ?_
  refine lv_icmp_ge (tgt := 78) hx hb dX1_init_71 (by decide) (fun c1 => ?_) (fun c1 => ?_)
  · refine lv_iload_n hx hb dX1_init_78 rfl (lv_at hl 1 rfl) ?_
    refine lv_bipush (v := nI 8) hx hb dX1_init_79 (by decide) ?_
    refine lv_icmp_le (tgt := 89) hx hb dX1_init_81 (by decide) (fun c2 => ?_) (fun c2 => ?_)
    · refine lv_iload_n hx hb dX1_init_89 rfl (lv_at hl 1 rfl) ?_
      obtain ⟨e1, e2, e3⟩ := sd_cl_in c1 c2
      refine s_top (y := nI (sd_cl p0)) e1 ?_
      exact key _ rfl e2 e3
    · refine lv_bipush (v := nI 8) hx hb dX1_init_84 (by decide) ?_
      refine lv_goto (tgt := 90) hx hb dX1_init_86 (by decide) ?_
      exact key 8 (sd_cl_hi c1 c2).symm (by omega) (by omega)
  · refine lv_iconst (v := nI 3) hx hb dX1_init_74 (by decide) ?_
    refine lv_goto (tgt := 90) hx hb dX1_init_75 (by decide) ?_
    exact key 3 (sd_cl_lo c1).symm (by omega) (by omega)
set_option maxHeartbeats 4000000 in
set_option maxRecDepth 100000 in
/-- the constructor: the object, its arrays new -/
theorem ct1_init (l : Launch) (D : va_G) (h0 : Nat) (p0 p1 : Int32) : ctN l yX1_init cX1_init 4 ({ frames := 1, cells := 8, slots := 605, locals := 12 }) D ([(h0, .inr (0, [.int 0, .int 0, .null, .null, .int 0, .null, .null, .null, .null, .int 0, .int 0, .null, .null]))]) [.ref h0, .int p0, .int p1] (fun (u : (Nat → Nat) × (Nat → ClassId) × Nat × Nat × SvU) => u.1 0 = h0 ∧ u.2.2.1 = sd_cl p0 ∧ u.2.2.2.1 = sd_tp p1 u.2.2.1 ∧ sd_SIu u.2.2.1 u.2.2.2.1 (fun c => 2 ^ (c % u.2.2.1)) (fun _ => 2) u.2.2.2.2) (fun u => svT u.2.1) (fun u => svWu u.1 u.2.1 (nI u.2.2.1) (nI u.2.2.2.1) u.2.2.2.2) 8 605 := by
  refine ctN.of (by decide) rfl (Nat.le_of_ble_eq_true rfl) ?_
  intro p e s m below meth c A ls B hin hw hl
  have hx := B.1.1
  have hb := B.1.2.1
  have hl : lv_has ls 4 [(0, .ref h0), (1, .int p0), (2, .int p1)] := hl
  refine lv_aload_n hx hb dX1_init_0 rfl (lv_at hl 0 rfl) ?_
  refine W.objInit hx hb B.1.2.2.2.1 (B.1.2.2.2.2 _ q25) (B.1.2.2.2.2 _ q26) (B.1.2.2.2.2 _ q27) rfl (by rw [B.1.2.2.1]; exact hl.1) rfl dX1_init_1 (Nat.le_of_ble_eq_true rfl) (Nat.le_of_ble_eq_true rfl) ?_
  refine W.eq (g2 := F0 m 4 ls []) rfl ?_
  refine lv_aload_n hx hb dX1_init_4 rfl (lv_at hl 0 rfl) ?_
  refine lv_iconst (v := nI 4) hx hb dX1_init_5 (by decide) ?_
  refine s_newa (atype := .int) (ty := .int) B hw q68 rfl rfl (by decide) (by decide) (Nat.le_of_ble_eq_true rfl) (Nat.le_of_ble_eq_true rfl) dX1_init_6 (fun q_1 k_1 H (B : bx p s m meth c cX1_init 4 none _ _ D [(k_1, .int)]) (hw : wd D A _ [(h0, .inr (0, [.int 0, .int 0, .null, .null, .int 0, .null, .null, .null, .null, .int 0, .int 0, .null, .null])), (q_1, .inl (k_1, 4, .inl (fun _ => 0)))] H _) => ?_)
  refine s_putF1 (ty := .array .int) B hin hw 2 (by decide) q30 rfl rfl rfl (by decide +kernel) rfl rfl (Nat.le_of_ble_eq_true rfl) dX1_init_8 (fun H locs (hw : wd D A _ [(h0, .inr (0, [.int 0, .int 0, .ref q_1, .null, .int 0, .null, .null, .null, .null, .int 0, .int 0, .null, .null])), (q_1, .inl (k_1, 4, .inl (fun _ => 0)))] H locs) => ?_)
  refine lv_aload_n hx hb dX1_init_11 rfl (lv_at hl 0 rfl) ?_
  refine lv_sipush (v := nI 384) hx hb dX1_init_12 (by decide) ?_
  refine s_newa (atype := .byte) (ty := .byte) B hw q69 rfl rfl (by decide) (by decide) (Nat.le_of_ble_eq_true rfl) (Nat.le_of_ble_eq_true rfl) dX1_init_15 (fun q_2 k_2 H (B : bx p s m meth c cX1_init 4 none _ _ D [(k_1, .int), (k_2, .byte)]) (hw : wd D A _ [(h0, .inr (0, [.int 0, .int 0, .ref q_1, .null, .int 0, .null, .null, .null, .null, .int 0, .int 0, .null, .null])), (q_1, .inl (k_1, 4, .inl (fun _ => 0))), (q_2, .inl (k_2, 384, .inl (fun _ => 0)))] H _) => ?_)
  refine s_putF1 (ty := .array .byte) B hin hw 3 (by decide) q31 rfl rfl rfl (by decide +kernel) rfl rfl (Nat.le_of_ble_eq_true rfl) dX1_init_17 (fun H locs (hw : wd D A _ [(h0, .inr (0, [.int 0, .int 0, .ref q_1, .ref q_2, .int 0, .null, .null, .null, .null, .int 0, .int 0, .null, .null])), (q_1, .inl (k_1, 4, .inl (fun _ => 0))), (q_2, .inl (k_2, 384, .inl (fun _ => 0)))] H locs) => ?_)
  refine lv_aload_n hx hb dX1_init_20 rfl (lv_at hl 0 rfl) ?_
  refine lv_bipush (v := nI 64) hx hb dX1_init_21 (by decide) ?_
  refine s_newa (atype := .int) (ty := .int) B hw q68 rfl rfl (by decide) (by decide) (Nat.le_of_ble_eq_true rfl) (Nat.le_of_ble_eq_true rfl) dX1_init_23 (fun q_3 k_3 H (B : bx p s m meth c cX1_init 4 none _ _ D [(k_1, .int), (k_2, .byte), (k_3, .int)]) (hw : wd D A _ [(h0, .inr (0, [.int 0, .int 0, .ref q_1, .ref q_2, .int 0, .null, .null, .null, .null, .int 0, .int 0, .null, .null])), (q_1, .inl (k_1, 4, .inl (fun _ => 0))), (q_2, .inl (k_2, 384, .inl (fun _ => 0))), (q_3, .inl (k_3, 64, .inl (fun _ => 0)))] H _) => ?_)
  refine s_putF1 (ty := .array .int) B hin hw 5 (by decide) q33 rfl rfl rfl (by decide +kernel) rfl rfl (Nat.le_of_ble_eq_true rfl) dX1_init_25 (fun H locs (hw : wd D A _ [(h0, .inr (0, [.int 0, .int 0, .ref q_1, .ref q_2, .int 0, .ref q_3, .null, .null, .null, .int 0, .int 0, .null, .null])), (q_1, .inl (k_1, 4, .inl (fun _ => 0))), (q_2, .inl (k_2, 384, .inl (fun _ => 0))), (q_3, .inl (k_3, 64, .inl (fun _ => 0)))] H locs) => ?_)
  refine lv_aload_n hx hb dX1_init_28 rfl (lv_at hl 0 rfl) ?_
  refine lv_bipush (v := nI 9) hx hb dX1_init_29 (by decide) ?_
  refine s_newa (atype := .int) (ty := .int) B hw q68 rfl rfl (by decide) (by decide) (Nat.le_of_ble_eq_true rfl) (Nat.le_of_ble_eq_true rfl) dX1_init_31 (fun q_4 k_4 H (B : bx p s m meth c cX1_init 4 none _ _ D [(k_1, .int), (k_2, .byte), (k_3, .int), (k_4, .int)]) (hw : wd D A _ [(h0, .inr (0, [.int 0, .int 0, .ref q_1, .ref q_2, .int 0, .ref q_3, .null, .null, .null, .int 0, .int 0, .null, .null])), (q_1, .inl (k_1, 4, .inl (fun _ => 0))), (q_2, .inl (k_2, 384, .inl (fun _ => 0))), (q_3, .inl (k_3, 64, .inl (fun _ => 0))), (q_4, .inl (k_4, 9, .inl (fun _ => 0)))] H _) => ?_)
  refine s_putF1 (ty := .array .int) B hin hw 6 (by decide) q34 rfl rfl rfl (by decide +kernel) rfl rfl (Nat.le_of_ble_eq_true rfl) dX1_init_33 (fun H locs (hw : wd D A _ [(h0, .inr (0, [.int 0, .int 0, .ref q_1, .ref q_2, .int 0, .ref q_3, .ref q_4, .null, .null, .int 0, .int 0, .null, .null])), (q_1, .inl (k_1, 4, .inl (fun _ => 0))), (q_2, .inl (k_2, 384, .inl (fun _ => 0))), (q_3, .inl (k_3, 64, .inl (fun _ => 0))), (q_4, .inl (k_4, 9, .inl (fun _ => 0)))] H locs) => ?_)
  refine lv_aload_n hx hb dX1_init_36 rfl (lv_at hl 0 rfl) ?_
  refine lv_bipush (v := nI 8) hx hb dX1_init_37 (by decide) ?_
  refine s_newa (atype := .int) (ty := .int) B hw q68 rfl rfl (by decide) (by decide) (Nat.le_of_ble_eq_true rfl) (Nat.le_of_ble_eq_true rfl) dX1_init_39 (fun q_5 k_5 H (B : bx p s m meth c cX1_init 4 none _ _ D [(k_1, .int), (k_2, .byte), (k_3, .int), (k_4, .int), (k_5, .int)]) (hw : wd D A _ [(h0, .inr (0, [.int 0, .int 0, .ref q_1, .ref q_2, .int 0, .ref q_3, .ref q_4, .null, .null, .int 0, .int 0, .null, .null])), (q_1, .inl (k_1, 4, .inl (fun _ => 0))), (q_2, .inl (k_2, 384, .inl (fun _ => 0))), (q_3, .inl (k_3, 64, .inl (fun _ => 0))), (q_4, .inl (k_4, 9, .inl (fun _ => 0))), (q_5, .inl (k_5, 8, .inl (fun _ => 0)))] H _) => ?_)
  refine s_putF1 (ty := .array .int) B hin hw 7 (by decide) q35 rfl rfl rfl (by decide +kernel) rfl rfl (Nat.le_of_ble_eq_true rfl) dX1_init_41 (fun H locs (hw : wd D A _ [(h0, .inr (0, [.int 0, .int 0, .ref q_1, .ref q_2, .int 0, .ref q_3, .ref q_4, .ref q_5, .null, .int 0, .int 0, .null, .null])), (q_1, .inl (k_1, 4, .inl (fun _ => 0))), (q_2, .inl (k_2, 384, .inl (fun _ => 0))), (q_3, .inl (k_3, 64, .inl (fun _ => 0))), (q_4, .inl (k_4, 9, .inl (fun _ => 0))), (q_5, .inl (k_5, 8, .inl (fun _ => 0)))] H locs) => ?_)
  refine lv_aload_n hx hb dX1_init_44 rfl (lv_at hl 0 rfl) ?_
  refine lv_bipush (v := nI 8) hx hb dX1_init_45 (by decide) ?_
  refine s_newa (atype := .int) (ty := .int) B hw q68 rfl rfl (by decide) (by decide) (Nat.le_of_ble_eq_true rfl) (Nat.le_of_ble_eq_true rfl) dX1_init_47 (fun q_6 k_6 H (B : bx p s m meth c cX1_init 4 none _ _ D [(k_1, .int), (k_2, .byte), (k_3, .int), (k_4, .int), (k_5, .int), (k_6, .int)]) (hw : wd D A _ [(h0, .inr (0, [.int 0, .int 0, .ref q_1, .ref q_2, .int 0, .ref q_3, .ref q_4, .ref q_5, .null, .int 0, .int 0, .null, .null])), (q_1, .inl (k_1, 4, .inl (fun _ => 0))), (q_2, .inl (k_2, 384, .inl (fun _ => 0))), (q_3, .inl (k_3, 64, .inl (fun _ => 0))), (q_4, .inl (k_4, 9, .inl (fun _ => 0))), (q_5, .inl (k_5, 8, .inl (fun _ => 0))), (q_6, .inl (k_6, 8, .inl (fun _ => 0)))] H _) => ?_)
  refine s_putF1 (ty := .array .int) B hin hw 8 (by decide) q36 rfl rfl rfl (by decide +kernel) rfl rfl (Nat.le_of_ble_eq_true rfl) dX1_init_49 (fun H locs (hw : wd D A _ [(h0, .inr (0, [.int 0, .int 0, .ref q_1, .ref q_2, .int 0, .ref q_3, .ref q_4, .ref q_5, .ref q_6, .int 0, .int 0, .null, .null])), (q_1, .inl (k_1, 4, .inl (fun _ => 0))), (q_2, .inl (k_2, 384, .inl (fun _ => 0))), (q_3, .inl (k_3, 64, .inl (fun _ => 0))), (q_4, .inl (k_4, 9, .inl (fun _ => 0))), (q_5, .inl (k_5, 8, .inl (fun _ => 0))), (q_6, .inl (k_6, 8, .inl (fun _ => 0)))] H locs) => ?_)
  refine lv_aload_n hx hb dX1_init_52 rfl (lv_at hl 0 rfl) ?_
  refine lv_bipush (v := nI 64) hx hb dX1_init_53 (by decide) ?_
  refine s_newa (atype := .boolean) (ty := .boolean) B hw q70 rfl rfl (by decide) (by decide) (Nat.le_of_ble_eq_true rfl) (Nat.le_of_ble_eq_true rfl) dX1_init_55 (fun q_7 k_7 H (B : bx p s m meth c cX1_init 4 none _ _ D [(k_1, .int), (k_2, .byte), (k_3, .int), (k_4, .int), (k_5, .int), (k_6, .int), (k_7, .boolean)]) (hw : wd D A _ [(h0, .inr (0, [.int 0, .int 0, .ref q_1, .ref q_2, .int 0, .ref q_3, .ref q_4, .ref q_5, .ref q_6, .int 0, .int 0, .null, .null])), (q_1, .inl (k_1, 4, .inl (fun _ => 0))), (q_2, .inl (k_2, 384, .inl (fun _ => 0))), (q_3, .inl (k_3, 64, .inl (fun _ => 0))), (q_4, .inl (k_4, 9, .inl (fun _ => 0))), (q_5, .inl (k_5, 8, .inl (fun _ => 0))), (q_6, .inl (k_6, 8, .inl (fun _ => 0))), (q_7, .inl (k_7, 64, .inl (fun _ => 0)))] H _) => ?_)
  refine s_putF1 (ty := .array .boolean) B hin hw 11 (by decide) q39 rfl rfl rfl (by decide +kernel) rfl rfl (Nat.le_of_ble_eq_true rfl) dX1_init_57 (fun H locs (hw : wd D A _ [(h0, .inr (0, [.int 0, .int 0, .ref q_1, .ref q_2, .int 0, .ref q_3, .ref q_4, .ref q_5, .ref q_6, .int 0, .int 0, .ref q_7, .null])), (q_1, .inl (k_1, 4, .inl (fun _ => 0))), (q_2, .inl (k_2, 384, .inl (fun _ => 0))), (q_3, .inl (k_3, 64, .inl (fun _ => 0))), (q_4, .inl (k_4, 9, .inl (fun _ => 0))), (q_5, .inl (k_5, 8, .inl (fun _ => 0))), (q_6, .inl (k_6, 8, .inl (fun _ => 0))), (q_7, .inl (k_7, 64, .inl (fun _ => 0)))] H locs) => ?_)
  refine lv_aload_n hx hb dX1_init_60 rfl (lv_at hl 0 rfl) ?_
  refine lv_bipush (v := nI 64) hx hb dX1_init_61 (by decide) ?_
  refine s_newa (atype := .byte) (ty := .byte) B hw q69 rfl rfl (by decide) (by decide) (Nat.le_of_ble_eq_true rfl) (Nat.le_of_ble_eq_true rfl) dX1_init_63 (fun q_8 k_8 H (B : bx p s m meth c cX1_init 4 none _ _ D [(k_1, .int), (k_2, .byte), (k_3, .int), (k_4, .int), (k_5, .int), (k_6, .int), (k_7, .boolean), (k_8, .byte)]) (hw : wd D A _ [(h0, .inr (0, [.int 0, .int 0, .ref q_1, .ref q_2, .int 0, .ref q_3, .ref q_4, .ref q_5, .ref q_6, .int 0, .int 0, .ref q_7, .null])), (q_1, .inl (k_1, 4, .inl (fun _ => 0))), (q_2, .inl (k_2, 384, .inl (fun _ => 0))), (q_3, .inl (k_3, 64, .inl (fun _ => 0))), (q_4, .inl (k_4, 9, .inl (fun _ => 0))), (q_5, .inl (k_5, 8, .inl (fun _ => 0))), (q_6, .inl (k_6, 8, .inl (fun _ => 0))), (q_7, .inl (k_7, 64, .inl (fun _ => 0))), (q_8, .inl (k_8, 64, .inl (fun _ => 0)))] H _) => ?_)
  refine s_putF1 (ty := .array .byte) B hin hw 12 (by decide) q40 rfl rfl rfl (by decide +kernel) rfl rfl (Nat.le_of_ble_eq_true rfl) dX1_init_65 (fun H locs (hw : wd D A _ [(h0, .inr (0, [.int 0, .int 0, .ref q_1, .ref q_2, .int 0, .ref q_3, .ref q_4, .ref q_5, .ref q_6, .int 0, .int 0, .ref q_7, .ref q_8])), (q_1, .inl (k_1, 4, .inl (fun _ => 0))), (q_2, .inl (k_2, 384, .inl (fun _ => 0))), (q_3, .inl (k_3, 64, .inl (fun _ => 0))), (q_4, .inl (k_4, 9, .inl (fun _ => 0))), (q_5, .inl (k_5, 8, .inl (fun _ => 0))), (q_6, .inl (k_6, 8, .inl (fun _ => 0))), (q_7, .inl (k_7, 64, .inl (fun _ => 0))), (q_8, .inl (k_8, 64, .inl (fun _ => 0)))] H locs) => ?_)
  refine in1_rest (ad := (adF h0 q_1 q_2 q_3 q_4 q_5 q_6 q_7 q_8)) (dA := (dAF k_1 k_2 k_3 k_4 k_5 k_6 k_7 k_8)) B (fun nn tpn sh wt H locs ls e1 e2 hs hw => ?_) hw hl
  refine W.widen (k := 8) (n := 605) (Nat.le_of_ble_eq_true rfl) (Nat.le_of_ble_eq_true rfl) ?_
  exact s_nret (((adF h0 q_1 q_2 q_3 q_4 q_5 q_6 q_7 q_8), (dAF k_1 k_2 k_3 k_4 k_5 k_6 k_7 k_8), nn, tpn, 0, 0, 0, sh, wt, (fun _ => 0), (fun _ => 0), (fun _ => 0), (fun _ => 0), (fun _ => 0), (fun _ => 0)) : (Nat → Nat) × (Nat → ClassId) × Nat × Nat × SvU) B hw ⟨rfl, e1, e2, hs, Or.inl rfl, Or.inl rfl⟩ dX1_init_156
set_option maxHeartbeats 4000000 in
set_option maxRecDepth 100000 in
/-- the constructor: shifters -/
theorem lp2_initS {p : Program} {l : Launch} {e : Env} {s : State} {m : MethodId} {args : Array Value} {below : List Frame} {meth : Method} {c : Code} {Q : State → Prop} {D : va_G} {ad : Nat → Nat} {ret : Option FieldType} {R : Room} {cells slots : Nat} {A : Nat → Prop} {dA : Nat → ClassId} {p0 p1 : Int32} {nn tpn : Nat} (h3 : 3 ≤ nn) (h8 : nn ≤ 8) (B : bx p s m meth c cX2_init 4 ret args RX2 D (moT dA))
    (kk : ∀ (sh : Nat → Int32) (H : Heap) (locs : List Loc) (ls : Array Slot), (∀ j, j < 4 → sh j = nI (2 ^ (j % nn))) → wd D A s.heap (moW ad dA (nI nn) (nI tpn) sh (fun _ => 0) (fun _ => 0)) H locs → lv_has ls 4 [(0, .ref (ad 0)), (1, .int p0), (2, .int p1), (3, .int (nI 4))] → W p l e R s m args below meth c H locs cells slots Q (F0 m 94 ls [])) :
    ∀ (k i : Nat) (sh : Nat → Int32) (H : Heap) (locs : List Loc) (ls : Array Slot), i + k = 4 → (∀ j, j < i → sh j = nI (2 ^ (j % nn))) → wd D A s.heap (moW ad dA (nI nn) (nI tpn) sh (fun _ => 0) (fun _ => 0)) H locs → lv_has ls 4 [(0, .ref (ad 0)), (1, .int p0), (2, .int p1), (3, .int (nI i))] → W p l e R s m args below meth c H locs cells slots Q (F0 m 69 ls []) := by
  have hx := B.1.1
  have hb := B.1.2.1
  intro k
  induction k with
  | zero =>
    intro i sh H locs ls hk hI hw hl
    have ei : i = 4 := by omega
    subst ei
    refine lv_iload_n hx hb dX2_init_69 rfl (lv_at hl 3 rfl) ?_
    refine lv_iconst (v := nI 4) hx hb dX2_init_70 (by decide) ?_
    refine lv_icmp_ge (tgt := 94) hx hb dX2_init_71 (by decide) (fun _ => ?_) (fun cc => absurd (nI_le (by omega) (by omega)) cc)
    exact kk sh H locs ls hI hw (lv_sub hl [0, 1, 2, 3] rfl)
  | succ k ih =>
    intro i sh H locs ls hk hI hw hl
    have hmod : i % nn < nn := Nat.mod_lt _ (by omega)
    refine lv_iload_n hx hb dX2_init_69 rfl (lv_at hl 3 rfl) ?_
    refine lv_iconst (v := nI 4) hx hb dX2_init_70 (by decide) ?_
    refine lv_icmp_ge (tgt := 94) hx hb dX2_init_71 (by decide) (fun cc => absurd cc (nI_ge (by omega) (by omega))) (fun _ => ?_)
    refine lv_aload_n hx hb dX2_init_74 rfl (lv_at hl 0 rfl) ?_
    refine s_get2 (v := .ref (ad 1)) B hw 2 (by decide) q158 rfl rfl dX2_init_75 ?_
    refine lv_iload_n hx hb dX2_init_78 rfl (lv_at hl 3 rfl) ?_
    refine lv_iconst (v := nI 1) hx hb dX2_init_79 (by decide) ?_
    refine lv_iload_n hx hb dX2_init_80 rfl (lv_at hl 3 rfl) ?_
    refine lv_aload_n hx hb dX2_init_81 rfl (lv_at hl 0 rfl) ?_
    refine s_get2 (v := .int (nI nn)) B hw 0 (by decide) q156 rfl rfl dX2_init_82 ?_
    refine lv_irem hx hb dX2_init_85 (nI_ne0 (by omega) (by omega)) ?_
    refine s_top (y := nI (i % nn)) (pk_rem (by omega) (by omega) (by omega)) ?_
    refine lv_ishl hx hb dX2_init_86 ?_
    refine s_top (y := nI (2 ^ (i % nn))) (sd_shl1 (by omega)) ?_
    refine s_iast B hw 1 0 rfl rfl (i := i) (by omega) (by decide) dX2_init_87 (fun H locs (hw : wd D A _ (moW ad dA (nI nn) (nI tpn) (upd sh i (nI (2 ^ (i % nn)))) (fun _ => 0) (fun _ => 0)) H locs) => ?_)
    refine lv_iinc (v := nI (i + 1)) (lv' := [(3, .int (nI (i + 1))), (0, .ref (ad 0)), (1, .int p0), (2, .int p1)]) hx hb dX2_init_88 hl (k := 3) rfl (nI_add i 1) (by decide) rfl (fun ls hl => ?_)
    refine lv_goto (tgt := 69) hx hb dX2_init_91 (by decide) ?_
    exact ih (i + 1) _ H locs ls (by omega) (fun j hj => by
      by_cases e : j = i
      · subst e; exact pk_us
      · rw [pk_un e]; exact hI j (by omega)) hw (lv_sub hl [1, 2, 3, 0] rfl)
set_option maxHeartbeats 4000000 in
set_option maxRecDepth 100000 in
/-- the constructor: wanted -/
theorem lp2_initW {p : Program} {l : Launch} {e : Env} {s : State} {m : MethodId} {args : Array Value} {below : List Frame} {meth : Method} {c : Code} {Q : State → Prop} {D : va_G} {ad : Nat → Nat} {ret : Option FieldType} {R : Room} {cells slots : Nat} {A : Nat → Prop} {dA : Nat → ClassId} {p0 p1 : Int32} {nn tpn : Nat} {sh : Nat → Int32} (B : bx p s m meth c cX2_init 4 ret args RX2 D (moT dA))
    (kk : ∀ (wt : Nat → Int32) (H : Heap) (locs : List Loc) (ls : Array Slot), (∀ j, j < 384 → wt j = nI 2) → wd D A s.heap (moW ad dA (nI nn) (nI tpn) sh wt (fun _ => 0)) H locs → W p l e R s m args below meth c H locs cells slots Q (F0 m 116 ls [])) :
    ∀ (k i : Nat) (wt : Nat → Int32) (H : Heap) (locs : List Loc) (ls : Array Slot), i + k = 384 → (∀ j, j < i → wt j = nI 2) → wd D A s.heap (moW ad dA (nI nn) (nI tpn) sh wt (fun _ => 0)) H locs → lv_has ls 4 [(0, .ref (ad 0)), (1, .int p0), (2, .int p1), (3, .int (nI i))] → W p l e R s m args below meth c H locs cells slots Q (F0 m 96 ls []) := by
  have hx := B.1.1
  have hb := B.1.2.1
  intro k
  induction k with
  | zero =>
    intro i wt H locs ls hk hI hw hl
    have ei : i = 384 := by omega
    subst ei
    refine lv_iload_n hx hb dX2_init_96 rfl (lv_at hl 3 rfl) ?_
    refine lv_sipush (v := nI 384) hx hb dX2_init_97 (by decide) ?_
    refine lv_icmp_ge (tgt := 116) hx hb dX2_init_100 (by decide) (fun _ => ?_) (fun cc => absurd (nI_le (by omega) (by omega)) cc)
    exact kk wt H locs ls hI hw
  | succ k ih =>
    intro i wt H locs ls hk hI hw hl
    refine lv_iload_n hx hb dX2_init_96 rfl (lv_at hl 3 rfl) ?_
    refine lv_sipush (v := nI 384) hx hb dX2_init_97 (by decide) ?_
    refine lv_icmp_ge (tgt := 116) hx hb dX2_init_100 (by decide) (fun cc => absurd cc (nI_ge (by omega) (by omega))) (fun _ => ?_)
    refine lv_aload_n hx hb dX2_init_103 rfl (lv_at hl 0 rfl) ?_
    refine s_get2 (v := .ref (ad 2)) B hw 3 (by decide) q159 rfl rfl dX2_init_104 ?_
    refine lv_iload_n hx hb dX2_init_107 rfl (lv_at hl 3 rfl) ?_
    refine lv_iconst (v := nI 2) hx hb dX2_init_108 (by decide) ?_
    refine s_iast B hw 2 1 rfl rfl (i := i) (by omega) (by decide) dX2_init_109 (fun H locs (hw : wd D A _ (moW ad dA (nI nn) (nI tpn) sh (upd wt i (nI 2)) (fun _ => 0)) H locs) => ?_)
    refine lv_iinc (v := nI (i + 1)) (lv' := [(3, .int (nI (i + 1))), (0, .ref (ad 0)), (1, .int p0), (2, .int p1)]) hx hb dX2_init_110 hl (k := 3) rfl (nI_add i 1) (by decide) rfl (fun ls hl => ?_)
    refine lv_goto (tgt := 96) hx hb dX2_init_113 (by decide) ?_
    exact ih (i + 1) _ H locs ls (by omega) (fun j hj => by
      by_cases e : j = i
      · subst e; exact pk_us
      · rw [pk_un e]; exact hI j (by omega)) hw (lv_sub hl [1, 2, 3, 0] rfl)
set_option maxHeartbeats 4000000 in
set_option maxRecDepth 100000 in
/-- the constructor: the numbers, the shifters, what is wanted -/
theorem in2_rest {p : Program} {l : Launch} {e : Env} {s : State} {m : MethodId} {args : Array Value} {below : List Frame} {meth : Method} {c : Code} {Q : State → Prop} {D : va_G} {ad : Nat → Nat} {ret : Option FieldType} {R : Room} {cells slots : Nat} {A : Nat → Prop} {dA : Nat → ClassId} {p0 p1 : Int32} {H : Heap} {locs : List Loc} {ls : Array Slot} (B : bx p s m meth c cX2_init 4 ret args RX2 D (moT dA))
    (kk : ∀ (nn tpn : Nat) (sh wt : Nat → Int32) (H : Heap) (locs : List Loc) (ls : Array Slot), nn = sd_cl p0 → tpn = sd_tp p1 nn → sd_ST nn tpn (fun c => 2 ^ (c % nn)) (fun _ => 2) sh wt → wd D A s.heap (moW ad dA (nI nn) (nI tpn) sh wt (fun _ => 0)) H locs → W p l e R s m args below meth c H locs cells slots Q (F0 m 116 ls []))
    (hw : wd D A s.heap (moW ad dA 0 0 (fun _ => 0) (fun _ => 0) (fun _ => 0)) H locs)
    (hl : lv_has ls 4 [(0, .ref (ad 0)), (1, .int p0), (2, .int p1)]) :
    W p l e R s m args below meth c H locs cells slots Q (F0 m 28 ls []) := by
  have hx := B.1.1
  have hb := B.1.2.1
  have key : ∀ (nn : Nat), nn = sd_cl p0 → 3 ≤ nn → nn ≤ 8 → W p l e R s m args below meth c H locs cells slots Q (F0 m 50 ls [.int (nI nn), .ref (ad 0)]) := by
    intro nn en h3 h8
    have hh := sd_p8 h8
    refine s_put2 (ty := .int) B hw 0 (by decide) q156 rfl rfl (by decide +kernel) rfl rfl (Nat.le_of_ble_eq_true rfl) dX2_init_50 (fun H locs (hw : wd D A _ (moW ad dA (nI nn) 0 (fun _ => 0) (fun _ => 0) (fun _ => 0)) H locs) => ?_)
    refine lv_aload_n hx hb dX2_init_53 rfl (lv_at hl 0 rfl) ?_
    refine lv_iload_n hx hb dX2_init_54 rfl (lv_at hl 2 rfl) ?_
    refine lv_iconst (v := nI 1) hx hb dX2_init_55 (by decide) ?_
    refine lv_aload_n hx hb dX2_init_56 rfl (lv_at hl 0 rfl) ?_
    refine s_get2 (v := .int (nI nn)) B hw 0 (by decide) q156 rfl rfl dX2_init_57 ?_
    refine lv_ishl hx hb dX2_init_60 ?_
    refine s_top (y := nI (2 ^ nn)) (sd_shl1 (by omega)) ?_
    refine lv_iconst (v := nI 1) hx hb dX2_init_61 (by decide) ?_
    refine lv_isub hx hb dX2_init_62 ?_
    refine lv_iand hx hb dX2_init_63 ?_
    refine s_top (y := nI (sd_tp p1 nn)) (sd_mask p1 h8) ?_
    refine s_put2 (ty := .int) B hw 1 (by decide) q157 rfl rfl (by decide +kernel) rfl rfl (Nat.le_of_ble_eq_true rfl) dX2_init_64 (fun H locs (hw : wd D A _ (moW ad dA (nI nn) (nI (sd_tp p1 nn)) (fun _ => 0) (fun _ => 0) (fun _ => 0)) H locs) => ?_)
    refine lv_iconst (v := nI 0) hx hb dX2_init_67 (by decide) ?_
    refine lv_istore_n (lv' := [(3, .int (nI 0)), (0, .ref (ad 0)), (1, .int p0), (2, .int p1)]) hx hb dX2_init_68 rfl hl (by decide) rfl (fun ls hl => ?_)
    refine lp2_initS (nn := nn) (tpn := sd_tp p1 nn) h3 h8 B (fun sh H locs ls hI hw hl => ?_) 4 0 _ H locs ls rfl (fun j hj => absurd hj (Nat.not_lt_zero j)) hw (lv_sub hl [1, 2, 3, 0] rfl)
    refine lv_iconst (v := nI 0) hx hb dX2_init_94 (by decide) ?_
    refine lv_istore_n (lv' := [(3, .int (nI 0)), (0, .ref (ad 0)), (1, .int p0), (2, .int p1)]) hx hb dX2_init_95 rfl hl (by decide) rfl (fun ls hl => ?_)
    refine lp2_initW (nn := nn) (tpn := sd_tp p1 nn) B (fun wt H locs ls hJ hw => ?_) 384 0 _ H locs ls rfl (fun j hj => absurd hj (Nat.not_lt_zero j)) hw (lv_sub hl [1, 2, 3, 0] rfl)
    exact kk nn (sd_tp p1 nn) sh wt H locs ls en rfl ⟨h3, h8, Nat.mod_lt _ (Nat.two_pow_pos nn), fun c hc => ⟨hI c hc, Nat.pow_lt_pow_right (by decide) (Nat.mod_lt _ (by omega))⟩, fun i hi => ⟨hJ i hi, Nat.le_refl 2⟩⟩ hw
  refine lv_aload_n hx hb dX2_init_28 rfl (lv_at hl 0 rfl) ?_
  refine lv_iload_n hx hb dX2_init_29 rfl (lv_at hl 1 rfl) ?_
  refine lv_iconst (v := nI 3) hx hb dX2_init_30 (by decide) ?_
  refine lv_icmp_ge (tgt := 38) hx hb dX2_init_31 (by decide) (fun c1 => ?_) (fun c1 => ?_)
  · refine lv_iload_n hx hb dX2_init_38 rfl (lv_at hl 1 rfl) ?_
    refine lv_bipush (v := nI 8) hx hb dX2_init_39 (by decide) ?_
    refine lv_icmp_le (tgt := 49) hx hb dX2_init_41 (by decide) (fun c2 => ?_) (fun c2 => ?_)
    · refine lv_iload_n hx hb dX2_init_49 rfl (lv_at hl 1 rfl) ?_
      obtain ⟨e1, e2, e3⟩ := sd_cl_in c1 c2
      refine s_top (y := nI (sd_cl p0)) e1 ?_
      exact key _ rfl e2 e3
    · refine lv_bipush (v := nI 8) hx hb dX2_init_44 (by decide) ?_
      refine lv_goto (tgt := 50) hx hb dX2_init_46 (by decide) ?_
      exact key 8 (sd_cl_hi c1 c2).symm (by omega) (by omega)
  · refine lv_iconst (v := nI 3) hx hb dX2_init_34 (by decide) ?_
    refine lv_goto (tgt := 50) hx hb dX2_init_35 (by decide) ?_
    exact key 3 (sd_cl_lo c1).symm (by omega) (by omega)
set_option maxHeartbeats 4000000 in
set_option maxRecDepth 100000 in
/-- the constructor: the object, its arrays new -/
theorem ct2_init (l : Launch) (D : va_G) (h0 : Nat) (p0 p1 : Int32) : ctN l yX2_init cX2_init 4 ({ frames := 1, cells := 3, slots := 452, locals := 12 }) D ([(h0, .inr (1, [.int 0, .int 0, .null, .null, .null]))]) [.ref h0, .int p0, .int p1] (fun (u : (Nat → Nat) × (Nat → ClassId) × Nat × Nat × (Nat → Int32) × (Nat → Int32) × (Nat → Int32)) => u.1 0 = h0 ∧ u.2.2.1 = sd_cl p0 ∧ u.2.2.2.1 = sd_tp p1 u.2.2.1 ∧ sd_ST u.2.2.1 u.2.2.2.1 (fun c => 2 ^ (c % u.2.2.1)) (fun _ => 2) u.2.2.2.2.1 u.2.2.2.2.2.1) (fun u => moT u.2.1) (fun u => moW u.1 u.2.1 (nI u.2.2.1) (nI u.2.2.2.1) u.2.2.2.2.1 u.2.2.2.2.2.1 u.2.2.2.2.2.2) 3 452 := by
  refine ctN.of (by decide) rfl (Nat.le_of_ble_eq_true rfl) ?_
  intro p e s m below meth c A ls B hin hw hl
  have hx := B.1.1
  have hb := B.1.2.1
  have hl : lv_has ls 4 [(0, .ref h0), (1, .int p0), (2, .int p1)] := hl
  refine lv_aload_n hx hb dX2_init_0 rfl (lv_at hl 0 rfl) ?_
  refine W.objInit hx hb B.1.2.2.2.1 (B.1.2.2.2.2 _ q155) (B.1.2.2.2.2 _ q26) (B.1.2.2.2.2 _ q27) rfl (by rw [B.1.2.2.1]; exact hl.1) rfl dX2_init_1 (Nat.le_of_ble_eq_true rfl) (Nat.le_of_ble_eq_true rfl) ?_
  refine W.eq (g2 := F0 m 4 ls []) rfl ?_
  refine lv_aload_n hx hb dX2_init_4 rfl (lv_at hl 0 rfl) ?_
  refine lv_iconst (v := nI 4) hx hb dX2_init_5 (by decide) ?_
  refine s_newa (atype := .int) (ty := .int) B hw q68 rfl rfl (by decide) (by decide) (Nat.le_of_ble_eq_true rfl) (Nat.le_of_ble_eq_true rfl) dX2_init_6 (fun q_1 k_1 H (B : bx p s m meth c cX2_init 4 none _ _ D [(k_1, .int)]) (hw : wd D A _ [(h0, .inr (1, [.int 0, .int 0, .null, .null, .null])), (q_1, .inl (k_1, 4, .inl (fun _ => 0)))] H _) => ?_)
  refine s_put2 (ty := .array .int) B hw 2 (by decide) q158 rfl rfl (by decide +kernel) rfl rfl (Nat.le_of_ble_eq_true rfl) dX2_init_8 (fun H locs (hw : wd D A _ [(h0, .inr (1, [.int 0, .int 0, .ref q_1, .null, .null])), (q_1, .inl (k_1, 4, .inl (fun _ => 0)))] H locs) => ?_)
  refine lv_aload_n hx hb dX2_init_11 rfl (lv_at hl 0 rfl) ?_
  refine lv_sipush (v := nI 384) hx hb dX2_init_12 (by decide) ?_
  refine s_newa (atype := .int) (ty := .int) B hw q68 rfl rfl (by decide) (by decide) (Nat.le_of_ble_eq_true rfl) (Nat.le_of_ble_eq_true rfl) dX2_init_15 (fun q_2 k_2 H (B : bx p s m meth c cX2_init 4 none _ _ D [(k_1, .int), (k_2, .int)]) (hw : wd D A _ [(h0, .inr (1, [.int 0, .int 0, .ref q_1, .null, .null])), (q_1, .inl (k_1, 4, .inl (fun _ => 0))), (q_2, .inl (k_2, 384, .inl (fun _ => 0)))] H _) => ?_)
  refine s_put2 (ty := .array .int) B hw 3 (by decide) q159 rfl rfl (by decide +kernel) rfl rfl (Nat.le_of_ble_eq_true rfl) dX2_init_17 (fun H locs (hw : wd D A _ [(h0, .inr (1, [.int 0, .int 0, .ref q_1, .ref q_2, .null])), (q_1, .inl (k_1, 4, .inl (fun _ => 0))), (q_2, .inl (k_2, 384, .inl (fun _ => 0)))] H locs) => ?_)
  refine lv_aload_n hx hb dX2_init_20 rfl (lv_at hl 0 rfl) ?_
  refine lv_bipush (v := nI 64) hx hb dX2_init_21 (by decide) ?_
  refine s_newa (atype := .int) (ty := .int) B hw q68 rfl rfl (by decide) (by decide) (Nat.le_of_ble_eq_true rfl) (Nat.le_of_ble_eq_true rfl) dX2_init_23 (fun q_3 k_3 H (B : bx p s m meth c cX2_init 4 none _ _ D [(k_1, .int), (k_2, .int), (k_3, .int)]) (hw : wd D A _ [(h0, .inr (1, [.int 0, .int 0, .ref q_1, .ref q_2, .null])), (q_1, .inl (k_1, 4, .inl (fun _ => 0))), (q_2, .inl (k_2, 384, .inl (fun _ => 0))), (q_3, .inl (k_3, 64, .inl (fun _ => 0)))] H _) => ?_)
  refine s_put2 (ty := .array .int) B hw 4 (by decide) q160 rfl rfl (by decide +kernel) rfl rfl (Nat.le_of_ble_eq_true rfl) dX2_init_25 (fun H locs (hw : wd D A _ [(h0, .inr (1, [.int 0, .int 0, .ref q_1, .ref q_2, .ref q_3])), (q_1, .inl (k_1, 4, .inl (fun _ => 0))), (q_2, .inl (k_2, 384, .inl (fun _ => 0))), (q_3, .inl (k_3, 64, .inl (fun _ => 0)))] H locs) => ?_)
  refine in2_rest (ad := (adF h0 q_1 q_2 q_3 0 0 0 0 0)) (dA := (dAF k_1 k_2 k_3 0 0 0 0 0)) B (fun nn tpn sh wt H locs ls e1 e2 hs hw => ?_) hw hl
  refine W.widen (k := 3) (n := 452) (Nat.le_of_ble_eq_true rfl) (Nat.le_of_ble_eq_true rfl) ?_
  exact s_nret (((adF h0 q_1 q_2 q_3 0 0 0 0 0), (dAF k_1 k_2 k_3 0 0 0 0 0), nn, tpn, sh, wt, (fun _ => 0)) : (Nat → Nat) × (Nat → ClassId) × Nat × Nat × (Nat → Int32) × (Nat → Int32) × (Nat → Int32)) B hw ⟨rfl, e1, e2, hs⟩ dX2_init_116
end
section
set_option maxRecDepth 100000
/-! THE CLAIM OUT OF ONE WALK OF THE LAW'S BODY. Your part is whole_start (and what it stands on); all else here is the same for every law, but numbers. -/
def R_law : String := "SeedSolverLaw"
def lw_P (b : Addr) (xs : List Int32) (args : Array Value) (s : State) : Prop := args = #[.ref b] ∧ s.IntsAt b xs ∧ xs.length ≤ 322 ∧ (Jvm.Cond.and given_1 narrow_1).before args s = true
def lw_Q (_ : Array Value) (s : State) (o : Outcome) (t : State) : Prop := o = .returned (some (.int 1)) ∧ Framed s o t [] 600000 7290000
def lw_Z (below : List Frame) (a : Array Value) (s : State) : State → Prop := fun t => ∃ o, t.status = .running ∧ Ended t below o ∧ lw_Q a s o t
/-- the law's own end, with 1 on the stack, nothing written that was there before, its room as the claim has it -/
theorem lw_ret {p : Program} {l : Launch} {e : Env} {s : State} {m : MethodId} {below : List Frame} {meth : Method} {c : Code} {b : Nat} (hx : p.tables.exec = Jvm.exec) (hb : c.code = code) (hr : meth.sig.returnType = ret) (hlocks : meth.locks = false) {pc : Nat} {H : Heap} {ls : Array Slot} (hdg : decode code pc = .ok (.ireturn, 1)) : W p l e room_1 s m #[Value.ref b] below meth c H [] 600000 7290000 (lw_Z below #[Value.ref b] s) (F0 m pc ls [.int 1]) := by
  intro T hT X
  obtain ⟨fs, hret, hrun, hended, hW, hframe⟩ := X.leave (v := some (.int 1)) (hlocks := hlocks) (fun h => by rw [hr] at h; cases h)
  have hmeth' : T.vm.method? m = some meth := X.method'
  refine ⟨T.setFrames fs, ?_, .returned (some (.int 1)), hrun, hended, rfl, ⟨_, rfl⟩, hW, hframe⟩
  jvm_step X.here [X.here.top, hx, hb, hdg, hmeth', hr, ret, narrow_b1]
  (try refine ⟨rfl, ?_⟩); (try refine ⟨rfl, ?_⟩)
  first | (intro acts; rw [hret _ acts rfl rfl rfl]) | rw [hret _ _ rfl rfl rfl]
  exact Steps.refl _
/-- what holds at the law's entry: the machine, the code, the tables' words (any of lw_tbl by 'hts w (by decide +kernel)'), the script of L ints xs at the cell b, what the Statement gives of the start (any of its parts by flat_of_before) -/
def lw_At (p : Program) (s : State) (m : MethodId) (meth : Method) (c : Code) (b L : Nat) (xs : Nat → Int32) : Prop :=
  p.tables.exec = Jvm.exec ∧ c.code = code ∧ meth.sig.returnType = ret ∧ c.maxLocals = 4 ∧ s.vm.findClass R_law = some m.cls ∧ (∀ w ∈ lw_tbl, w.before #[Value.ref b] s = true) ∧ va_X b L xs s s.heap ∧ b < s.heap.size ∧ meth.locks = false ∧ (Jvm.Cond.and given_1 narrow_1).before #[Value.ref b] s = true
end
section
/-! THE LAW: rows: its script, its helper 'cell', new objects, calls on one of two objects -/
set_option maxRecDepth 100000
set_option maxHeartbeats 4000000 in
/-- cell(s, j): the script's j-th int, 0 behind its end -/
theorem ct0_cell (l : Launch) {b L : Nat} {xs : Nat → Int32} (hL : L ≤ 322) (j sz : Nat) (hj : j < 2 ^ 31) : Met l yX0_cell (ws_ yX0_cell cX0_cell 2 (some .int)) (rmK 0) (va_Pc [.ref b, .int (nI j)] (fun U => U.heap.size = sz ∧ va_X b L xs U U.heap ∧ b < sz)) (va_Qi (fun r (_ : Unit) => r = if j < L then xs j else 0) (fun _ _ => True) (fun q => sz ≤ q)) 0 0 (fun q => sz ≤ q) := by
  refine Met.ofW (cc := cX0_cell) (maxL := 2) (ret := some .int) (by decide) rfl ?_
  intro p e s m args below meth c s₁ B hml hv
  obtain ⟨rfl, hsz, hX, hbl⟩ := hv
  have hx := B.exec
  have hb := B.bytes
  have hr := B.returns
  subst hsz
  have hS : va_S (fun q => s.heap.size ≤ q) s.heap s.heap [] := va_S.rf
  have hbA : ¬ (fun q : Nat => s.heap.size ≤ q) b := Nat.not_le.mpr hbl
  have hl := lv_entry ([.ref b, .int (nI j)]) (n := 2) (Nat.le_of_ble_eq_true rfl)
  rw [lg_entry_eq]
  generalize (lg_sl ([.ref b, .int (nI j)]) ++ List.replicate (2 - (lg_sl ([.ref b, .int (nI j)])).length) Slot.unset).toArray = ls at hl ⊢
  have hl : lv_has ls 2 [(0, .ref b), (1, .int (nI j))] := hl
  refine lv_iload_n hx hb dX0_cell_0 rfl (lv_at hl 1 rfl) ?_
  refine lv_aload_n hx hb dX0_cell_1 rfl (lv_at hl 0 rfl) ?_
  refine va_slen hx hb hX hbl hbA hS dX0_cell_2 ?_
  refine lv_icmp_ge (tgt := 12) hx hb dX0_cell_3 (by decide) (fun c1 => ?_) (fun c1 => ?_)
  · have c2 : L ≤ j := (nI_leI (by omega) hj).mp c1
    refine lv_iconst (v := 0) hx hb dX0_cell_12 (by decide) ?_
    exact W.iret (v := 0) hx hb hr (fun t ht hW => ⟨⟨0, (), rfl, by rw [if_neg (by omega)], trivial⟩, hS.F ht⟩) hS.2.2 dX0_cell_13
  · have c2 : j < L := Nat.lt_of_not_le (fun q => c1 ((nI_leI (by omega) hj).mpr q))
    refine lv_aload_n hx hb dX0_cell_6 rfl (lv_at hl 0 rfl) ?_
    refine lv_iload_n hx hb dX0_cell_7 rfl (lv_at hl 1 rfl) ?_
    refine va_sld hx hb hX hbl hbA hS (vp_in_nI c2 (by omega)) dX0_cell_8 ?_
    refine lv_goto (tgt := 13) hx hb dX0_cell_9 (by decide) ?_
    exact W.iret (v := xs (nI j).toNatClampNeg) hx hb hr (fun t ht hW => ⟨⟨_, (), rfl, by rw [if_pos c2, nI_clamp hj], trivial⟩, hS.F ht⟩) hS.2.2 dX0_cell_13
section
variable {p : Program} {l : Launch} {e : Env} {R : Room} {s : State} {m : MethodId} {args : Array Value} {below : List Frame} {meth : Method} {c : Code} {H : Heap} {locs : List Loc} {cells slots : Nat} {Q : State → Prop}
variable {cc : ByteArray} {nL : Nat} {ret : Option FieldType} {own : String} {pc : Nat} {ls : Array Slot} {rest : List Value} {D : va_G} {A : Nat → Prop} {tys : List (ClassId × FieldType)} {w : va_W} {b L : Nat} {xs : Nat → Int32}
/-- the script's i-th int -/
theorem s_sld (B : bx p s m meth c cc nL ret args own D tys) (hX : va_X b L xs s s.heap) (hbl : b < s.heap.size) (hbA : ¬ A b) (hL : L ≤ 322) (hw : wd D A s.heap w H locs) {i : Nat} (hi : i < L) (hdg : decode cc pc = .ok (.iaload, 1))
    (kk : W p l e R s m args below meth c H locs cells slots Q (F0 m (pc + 1) ls (.int (xs i) :: rest))) : W p l e R s m args below meth c H locs cells slots Q (F0 m pc ls (.int (nI i) :: .ref b :: rest)) :=
  va_sld B.1.1 B.1.2.1 hX hbl hbA hw.2.2.1 (vp_in_nI hi (by omega)) hdg (by rw [nI_clamp (by omega)]; exact kk)
theorem s_slen (B : bx p s m meth c cc nL ret args own D tys) (hX : va_X b L xs s s.heap) (hbl : b < s.heap.size) (hbA : ¬ A b) (hw : wd D A s.heap w H locs) (hdg : decode cc pc = .ok (.arraylength, 1))
    (kk : W p l e R s m args below meth c H locs cells slots Q (F0 m (pc + 1) ls (.int (nI L) :: rest))) : W p l e R s m args below meth c H locs cells slots Q (F0 m pc ls (.ref b :: rest)) :=
  va_slen B.1.1 B.1.2.1 hX hbl hbA hw.2.2.1 hdg kk
/-- a call of cell -/
theorem s_cell (B : bx p s m meth c cc nL ret args RX0 D tys) (hX : va_X b L xs s s.heap) (hbl : b < s.heap.size) (hbA : ¬ A b) (hL : L ≤ 322) (hw : wd D A s.heap w H locs) {j : Nat} (hj : j < 2 ^ 31) (hroom : (rmK 0).frames + 1 ≤ R.frames ∧ 8 + (2 + 11) + (rmK 0).locals ≤ R.locals) (hcells : cells ≤ R.cells ∧ slots ≤ R.slots) (hls : ls.size = nL) (hW : (rest.map fun v => v.category).sum ≤ 8) (hdg : decode cc pc = .ok (.invokestatic 9, 3))
    (kk : ∀ (H1 : Heap) (locs1 : List Loc), wd D A s.heap w H1 locs1 → W p l e R s m args below meth c H1 locs1 cells slots Q (F0 m (pc + 3) ls (.int (if j < L then xs j else 0) :: rest))) : W p l e R s m args below meth c H locs cells slots Q (F0 m pc ls (.int (nI j) :: .ref b :: rest)) := by
  obtain ⟨hP, hD, hS, hA⟩ := hw
  have hXH : va_X b L xs s H := hX.kept (hS.2.1 b hbl hbA)
  have hbH : b < H.size := Nat.lt_of_lt_of_le hbl hS.1
  have hF : ∀ q, H.size ≤ q → A q := fun q h => hA q (Nat.le_trans hS.1 h)
  refine va_calli (va_runS (As := [.ref b, .int (nI j)]) (rest := rest) B.1 (ct0_cell l hL j H.size hj) (va_cwS 2 B.1.2.2.2.2 (lw_S q147 q148 q17 q149) rfl rfl rfl cn0_cell hroom) ⟨fun a U g mk h => ?_, fun U hU hWm => ⟨rfl, by rw [hU], by rw [hU]; exact hXH.moved hWm.alike, hbH⟩⟩ rfl rfl hls rfl (lv_room hW) hdg hcells) hS (fun q _ h => hF q h) hF (fun r u t H1 locs1 ht hvm hp hB hz1 hk1 hS1 => ?_)
  · obtain ⟨h0, h1, h2, h3⟩ := h
    exact ⟨h0, h1, va_X.moved (u := U) (U := U.calling g mk a) (Vm.Alike.refl U.vm) h2, h3⟩
  · have hp : r = if j < L then xs j else 0 := hp
    rw [hp]
    refine kk H1 locs1 ⟨hP.kept (fun k q hq => hk1 q.1 ((hP k q hq).lt) (Nat.not_le.mpr ((hP k q hq).lt))), hD, hS1, hA⟩
/-- a constructor's call -/
theorem s_callN {S : Type} {post : S → Prop} {ty : S → List (ClassId × FieldType)} {w' : S → va_W} {y : MethodName} {cc' : ByteArray} {nL' : Nat} {rm' : Room} {a mc ms : Nat} {As : List Value} {wc wr : va_W} {index : Nat}
    (hM : ctN l y cc' nL' rm' D wc (.ref a :: As) post ty w' mc ms) (B : bx p s m meth c cc nL ret args own D tys) (hw : wd D A s.heap w H locs)
    (isC isR : List Nat) (hC : isC.map (fun i => w[i]?) = wc.map some) (hR : isR.map (fun i => w[i]?) = wr.map some) (hnC : va_nd isC = true) (hnR : va_nd isR = true) (hdis : ∀ i ∈ isR, i ∉ isC)
    (hini : Cond.initialized y.cls ∈ lw_all) (hlk : Cond.methodLink own index y ∈ lw_all) (hinst : Cond.instanceMethod y ∈ lw_all) (hcode : Cond.code y cc' nL' none ∈ lw_all) (hyn : y.name = "<init>")
    (hd : y.cls ≠ "java/lang/invoke/MethodHandle" ∧ y.cls ≠ "java/lang/invoke/VarHandle" ∧ (parseMethodDescriptor y.desc).map (fun d => d.parameters.length) = some As.length) (hrm : rm'.cells = mc ∧ rm'.slots = ms ∧ rm'.frames + 1 ≤ R.frames ∧ 8 + (nL' + 11) + rm'.locals ≤ R.locals)
    (hcells : cells + mc ≤ R.cells ∧ slots + ms ≤ R.slots) (hls : ls.size = nL) (hW : (rest.map fun v => v.category).sum ≤ 8) (hdg : decode cc pc = .ok (.invokespecial index, 3))
    (kk : ∀ (u : S) (H1 : Heap) (locs1 : List Loc), post u → va_K D vwCl (ty u) s → wd D A s.heap (wr ++ w' u) H1 locs1 → W p l e R s m args below meth c H1 locs1 (cells + mc) (slots + ms) Q (F0 m (pc + 3) ls rest)) :
    W p l e R s m args below meth c H locs cells slots Q (F0 m pc ls (As.reverse ++ .ref a :: rest)) := by
  obtain ⟨hP, hD, hS, hA⟩ := hw
  have hPc : va_P D vwCl wc H := hP.sub isC (fm_of hC)
  have hDc : va_D A wc := hD.sub isC hnC hC
  have hFc := va_free (wc := wc) hD hS hA isC hC
  have hKc : va_K D vwCl [] s := B.2.2.2.sub (tys' := []) [] rfl
  have ht := B.1.2.2.2.2
  refine va_callv (va_runI (As := As) (rest := rest) B.1 (hM H.size) (cwI As.length ht (lw_meth hcode) rfl hrm.1 hrm.2.1 (ht _ hini) (ht _ hlk) (ht _ hinst) hyn hd hrm.2.2) ⟨fun a U g mk h => ?_, fun U hU hW => ⟨rfl, by rw [hU], by rw [hU]; exact hPc, va_K.moved hW.alike hKc, hDc.weaken (fun _ _ _ _ => trivial)⟩⟩ rfl rfl hls rfl (lv_room hW) hdg hcells) hS (fun q _ h => hFc q h) hFc (fun u t H1 locs1 ht hvm hp hB hz1 hk1 hS1 => ?_)
  · obtain ⟨h0, h1, h2, h3, h4⟩ := h
    exact ⟨h0, h1, h2, va_K.moved (u := U) (U := U.calling g mk a) (Vm.Alike.refl U.vm) h3, h4⟩
  · obtain ⟨hP1, hK1, hD1⟩ := hB
    rw [ht] at hP1
    obtain ⟨hP2, hD2⟩ := va_join (wr := wr) (w1 := w' u) hP hD isC isR hC hR hnR hdis hk1 hFc hP1 hD1
    exact kk u H1 locs1 hp (va_K.moved hvm.symm hK1) ⟨hP2, hD2, hS1, hA⟩
end
theorem sd_lp {L i : Nat} (hL : L ≤ 322) (hi : i ≤ 400) : nI L - nI 5 < nI i ↔ L < i + 5 := by
  rw [fa_lt, pk_sub_toInt (by omega) (by omega), nI_toInt (by omega)]
  omega
end
section
/-! the law's loop (printed by gen/law.py) -/
set_option maxHeartbeats 4000000 in
set_option maxRecDepth 100000 in
/-- THE LAW'S LOOP: at its head both objects hold the same numbers -/
theorem law_loop {p : Program} {l : Launch} {e : Env} {s : State} {m : MethodId} {below : List Frame} {meth : Method} {c : Code} {D : va_G} {ad am : Nat → Nat} {dA dM : Nat → ClassId} {b L : Nat} {xs : Nat → Int32} {nn tpn : Nat} (hL : L ≤ 322) (hX : va_X b L xs s s.heap) (hbl : b < s.heap.size) (B : bx p s m meth c code 4 ret #[Value.ref b] RX0 D (svT dA)) (hK2 : va_K D vwCl (moT dM) s) :
    ∀ (k i : Nat) (shn wtn : Nat → Nat) (u : SvU) (sh2 wt2 le : Nat → Int32) (H : Heap) (locs : List Loc) (ls : Array Slot), L < i + 5 + k → i ≤ 327 → sd_SIu nn tpn shn wtn u → sd_ST nn tpn shn wtn sh2 wt2 → wd D (fun q : Nat => s.heap.size ≤ q) s.heap (svWu ad dA (nI nn) (nI tpn) u ++ moW am dM (nI nn) (nI tpn) sh2 wt2 le) H locs → lv_has ls 4 [(0, .ref b), (1, .ref (ad 0)), (2, .ref (am 0)), (3, .int (nI i))] → W p l e room_1 s m #[Value.ref b] below meth c H locs 600000 7290000 (lw_Z below #[Value.ref b] s) (F0 m 38 ls []) := by
  have hx := B.1.1
  have hb := B.1.2.1
  have hbA : ¬ (fun q : Nat => s.heap.size ≤ q) b := Nat.not_le.mpr hbl
  intro k
  induction k with
  | zero =>
    intro i shn wtn u sh2 wt2 le H locs ls hk hi hsi hst hw hl
    refine lv_iload_n hx hb dL_law_38 rfl (lv_at hl 3 rfl) ?_
    refine lv_aload_n hx hb dL_law_39 rfl (lv_at hl 0 rfl) ?_
    refine s_slen B hX hbl hbA hw dL_law_40 ?_
    refine lv_iconst (v := nI 5) hx hb dL_law_41 (by decide) ?_
    refine lv_isub hx hb dL_law_42 ?_
    refine lv_icmp_gt (tgt := 397) hx hb dL_law_43 (by decide) (fun _ => ?_) (fun cc => absurd ((sd_lp hL (by omega)).mpr (by omega)) cc)
    refine lv_iconst (v := 1) hx hb dL_law_397 (by decide) ?_
    refine va_forget (fun q hq => hw.2.2.1.2.2 q hq) ?_
    exact lw_ret hx hb B.2.2.1 B.2.1 dL_law_398
  | succ k ih =>
    intro i shn wtn u sh2 wt2 le H locs ls hk hi hsi hst hw hl
    obtain ⟨fr, rv, gr, sh, wt, fm, bf, eq, rs, gd, nd⟩ := u
    have hsi : sd_SI nn tpn shn wtn fr gr sh wt fm nd := hsi
    have hw : wd D (fun q : Nat => s.heap.size ≤ q) _ (svW ad dA (nI nn) (nI tpn) fr rv gr sh wt fm bf eq rs gd nd ++ moW am dM (nI nn) (nI tpn) sh2 wt2 le) H locs := hw
    refine lv_iload_n hx hb dL_law_38 rfl (lv_at hl 3 rfl) ?_
    refine lv_aload_n hx hb dL_law_39 rfl (lv_at hl 0 rfl) ?_
    refine s_slen B hX hbl hbA hw dL_law_40 ?_
    refine lv_iconst (v := nI 5) hx hb dL_law_41 (by decide) ?_
    refine lv_isub hx hb dL_law_42 ?_
    refine lv_icmp_gt (tgt := 397) hx hb dL_law_43 (by decide) (fun c1 => ?_) (fun c1 => ?_)
    · refine lv_iconst (v := 1) hx hb dL_law_397 (by decide) ?_
      refine va_forget (fun q hq => hw.2.2.1.2.2 q hq) ?_
      exact lw_ret hx hb B.2.2.1 B.2.1 dL_law_398
    · have hiL : i + 5 ≤ L := Nat.le_of_not_lt (fun q => c1 ((sd_lp hL (by omega)).mpr q))
      have hn8 := hst.2.1
      refine lv_aload_n hx hb dL_law_46 rfl (lv_at hl 0 rfl) ?_
      refine lv_iload_n hx hb dL_law_47 rfl (lv_at hl 3 rfl) ?_
      refine s_sld B hX hbl hbA hL hw (i := i) (by omega) dL_law_48 ?_
      refine lv_bipush (v := nI 15) hx hb dL_law_49 (by decide) ?_
      refine lv_iand hx hb dL_law_51 ?_
      obtain ⟨z, hz, ez⟩ := pk_andE (xs i) (m := nI 15) 4 (by decide)
      refine s_top ez ?_
      rcases (show z = 0 ∨ z = 1 ∨ z = 2 ∨ z = 3 ∨ z = 4 ∨ z = 5 ∨ z = 6 ∨ z = 7 ∨ z = 8 ∨ 8 < z by omega) with rfl | rfl | rfl | rfl | rfl | rfl | rfl | rfl | rfl | hz8
      · refine lv_tableIn (off := 52) (tgt := 104) hx hb dL_law_52 (by decide) (by decide) (by decide) (by decide) ?_
        refine lv_aload_n hx hb dL_law_104 rfl (lv_at hl 1 rfl) ?_
        refine lv_aload_n hx hb dL_law_105 rfl (lv_at hl 0 rfl) ?_
        refine lv_iload_n hx hb dL_law_106 rfl (lv_at hl 3 rfl) ?_
        refine lv_iconst (v := nI 1) hx hb dL_law_107 (by decide) ?_
        refine lv_iadd hx hb dL_law_108 ?_
        refine s_top (y := nI (i + 1)) (nI_add _ _) ?_
        refine s_sld B hX hbl hbA hL hw (i := (i + 1)) (by omega) dL_law_109 ?_
        refine lv_aload_n hx hb dL_law_110 rfl (lv_at hl 0 rfl) ?_
        refine lv_iload_n hx hb dL_law_111 rfl (lv_at hl 3 rfl) ?_
        refine lv_iconst (v := nI 2) hx hb dL_law_112 (by decide) ?_
        refine lv_iadd hx hb dL_law_113 ?_
        refine s_top (y := nI (i + 2)) (nI_add _ _) ?_
        refine s_sld B hX hbl hbA hL hw (i := (i + 2)) (by omega) dL_law_114 ?_
        refine s_callR (As := [.int (xs (i + 1)), .int (xs (i + 2))]) (rest := []) (wr := moW am dM (nI nn) (nI tpn) sh2 wt2 le) (ci := 0) (ct1_shifter l D hsi (xs (i + 1)) (xs (i + 2))) B B.2.2.2 hw [0, 1, 2, 3, 4, 5, 6, 7, 8] [9, 10, 11, 12] rfl rfl (by decide) (by decide) (by decide) (lw_V q71 q72 q73 q18 q74) rfl rfl rfl ⟨cn1_shifter, rfl, rfl, by decide, by decide⟩ ⟨Nat.le_refl _, Nat.le_refl _⟩ hl.1 (Nat.le_of_ble_eq_true rfl) dL_law_115 (fun r1 u1 H locs hp1 (hw : wd D (fun q : Nat => s.heap.size ≤ q) _ (moW am dM (nI nn) (nI tpn) sh2 wt2 le ++ svWu ad dA (nI nn) (nI tpn) u1) H locs) => ?_)
        refine lv_aload_n hx hb dL_law_118 rfl (lv_at hl 2 rfl) ?_
        refine lv_aload_n hx hb dL_law_119 rfl (lv_at hl 0 rfl) ?_
        refine lv_iload_n hx hb dL_law_120 rfl (lv_at hl 3 rfl) ?_
        refine lv_iconst (v := nI 1) hx hb dL_law_121 (by decide) ?_
        refine lv_iadd hx hb dL_law_122 ?_
        refine s_top (y := nI (i + 1)) (nI_add _ _) ?_
        refine s_sld B hX hbl hbA hL hw (i := (i + 1)) (by omega) dL_law_123 ?_
        refine lv_aload_n hx hb dL_law_124 rfl (lv_at hl 0 rfl) ?_
        refine lv_iload_n hx hb dL_law_125 rfl (lv_at hl 3 rfl) ?_
        refine lv_iconst (v := nI 2) hx hb dL_law_126 (by decide) ?_
        refine lv_iadd hx hb dL_law_127 ?_
        refine s_top (y := nI (i + 2)) (nI_add _ _) ?_
        refine s_sld B hX hbl hbA hL hw (i := (i + 2)) (by omega) dL_law_128 ?_
        refine s_callR (As := [.int (xs (i + 1)), .int (xs (i + 2))]) (rest := [.int r1]) (wr := (svWu ad dA (nI nn) (nI tpn) u1)) (ci := 1) (ct2_shifter l D hst (xs (i + 1)) (xs (i + 2))) B hK2 hw [0, 1, 2, 3] [4, 5, 6, 7, 8, 9, 10, 11, 12] rfl rfl (by decide) (by decide) (by decide) (lw_V q172 q173 q174 q19 q175) rfl rfl rfl ⟨cn2_shifter, rfl, rfl, by decide, by decide⟩ ⟨Nat.le_refl _, Nat.le_refl _⟩ hl.1 (Nat.le_of_ble_eq_true rfl) dL_law_129 (fun r2 u2 H locs hp2 (hw : wd D (fun q : Nat => s.heap.size ≤ q) _ (svWu ad dA (nI nn) (nI tpn) u1 ++ moW am dM (nI nn) (nI tpn) u2 wt2 le) H locs) => ?_)
        obtain ⟨f1, ha1, hs1⟩ := hp1
        obtain ⟨f2, ha2, hs2⟩ := hp2
        obtain ⟨er, es⟩ := sd_Ash_one hn8 ha1 ha2
        subst es
        refine lv_icmp_eq (tgt := 391) hx hb dL_law_132 (by decide) (fun _ => ?_) (fun cc => absurd (er) cc)
        refine lv_iinc (v := nI (i + 5)) (lv' := [(3, .int (nI (i + 5))), (0, .ref b), (1, .ref (ad 0)), (2, .ref (am 0))]) hx hb dL_law_391 hl (k := 3) rfl (nI_add i 5) (by decide) rfl (fun ls hl => ?_)
        refine lv_goto (tgt := 38) hx hb dL_law_394 (by decide) ?_
        exact ih (i + 5) f1 wtn u1 u2 wt2 le H locs ls (by omega) (by omega) hs1 hs2 hw (lv_sub hl [1, 2, 3, 0] rfl)
      · refine lv_tableIn (off := 85) (tgt := 137) hx hb dL_law_52 (by decide) (by decide) (by decide) (by decide) ?_
        refine lv_aload_n hx hb dL_law_137 rfl (lv_at hl 1 rfl) ?_
        refine lv_aload_n hx hb dL_law_138 rfl (lv_at hl 0 rfl) ?_
        refine lv_iload_n hx hb dL_law_139 rfl (lv_at hl 3 rfl) ?_
        refine lv_iconst (v := nI 1) hx hb dL_law_140 (by decide) ?_
        refine lv_iadd hx hb dL_law_141 ?_
        refine s_top (y := nI (i + 1)) (nI_add _ _) ?_
        refine s_sld B hX hbl hbA hL hw (i := (i + 1)) (by omega) dL_law_142 ?_
        refine lv_aload_n hx hb dL_law_143 rfl (lv_at hl 0 rfl) ?_
        refine lv_iload_n hx hb dL_law_144 rfl (lv_at hl 3 rfl) ?_
        refine lv_iconst (v := nI 2) hx hb dL_law_145 (by decide) ?_
        refine lv_iadd hx hb dL_law_146 ?_
        refine s_top (y := nI (i + 2)) (nI_add _ _) ?_
        refine s_sld B hX hbl hbA hL hw (i := (i + 2)) (by omega) dL_law_147 ?_
        refine lv_aload_n hx hb dL_law_148 rfl (lv_at hl 0 rfl) ?_
        refine lv_iload_n hx hb dL_law_149 rfl (lv_at hl 3 rfl) ?_
        refine lv_iconst (v := nI 3) hx hb dL_law_150 (by decide) ?_
        refine lv_iadd hx hb dL_law_151 ?_
        refine s_top (y := nI (i + 3)) (nI_add _ _) ?_
        refine s_sld B hX hbl hbA hL hw (i := (i + 3)) (by omega) dL_law_152 ?_
        refine lv_aload_n hx hb dL_law_153 rfl (lv_at hl 0 rfl) ?_
        refine lv_iload_n hx hb dL_law_154 rfl (lv_at hl 3 rfl) ?_
        refine lv_iconst (v := nI 4) hx hb dL_law_155 (by decide) ?_
        refine lv_iadd hx hb dL_law_156 ?_
        refine s_top (y := nI (i + 4)) (nI_add _ _) ?_
        refine s_sld B hX hbl hbA hL hw (i := (i + 4)) (by omega) dL_law_157 ?_
        refine s_callR (As := [.int (xs (i + 1)), .int (xs (i + 2)), .int (xs (i + 3)), .int (xs (i + 4))]) (rest := []) (wr := moW am dM (nI nn) (nI tpn) sh2 wt2 le) (ci := 0) (ct1_want l D hsi (xs (i + 1)) (xs (i + 2)) (xs (i + 3)) (xs (i + 4))) B B.2.2.2 hw [0, 1, 2, 3, 4, 5, 6, 7, 8] [9, 10, 11, 12] rfl rfl (by decide) (by decide) (by decide) (lw_V q75 q76 q77 q18 q78) rfl rfl rfl ⟨cn1_want, rfl, rfl, by decide, by decide⟩ ⟨Nat.le_refl _, Nat.le_refl _⟩ hl.1 (Nat.le_of_ble_eq_true rfl) dL_law_158 (fun r1 u1 H locs hp1 (hw : wd D (fun q : Nat => s.heap.size ≤ q) _ (moW am dM (nI nn) (nI tpn) sh2 wt2 le ++ svWu ad dA (nI nn) (nI tpn) u1) H locs) => ?_)
        refine lv_aload_n hx hb dL_law_161 rfl (lv_at hl 2 rfl) ?_
        refine lv_aload_n hx hb dL_law_162 rfl (lv_at hl 0 rfl) ?_
        refine lv_iload_n hx hb dL_law_163 rfl (lv_at hl 3 rfl) ?_
        refine lv_iconst (v := nI 1) hx hb dL_law_164 (by decide) ?_
        refine lv_iadd hx hb dL_law_165 ?_
        refine s_top (y := nI (i + 1)) (nI_add _ _) ?_
        refine s_sld B hX hbl hbA hL hw (i := (i + 1)) (by omega) dL_law_166 ?_
        refine lv_aload_n hx hb dL_law_167 rfl (lv_at hl 0 rfl) ?_
        refine lv_iload_n hx hb dL_law_168 rfl (lv_at hl 3 rfl) ?_
        refine lv_iconst (v := nI 2) hx hb dL_law_169 (by decide) ?_
        refine lv_iadd hx hb dL_law_170 ?_
        refine s_top (y := nI (i + 2)) (nI_add _ _) ?_
        refine s_sld B hX hbl hbA hL hw (i := (i + 2)) (by omega) dL_law_171 ?_
        refine lv_aload_n hx hb dL_law_172 rfl (lv_at hl 0 rfl) ?_
        refine lv_iload_n hx hb dL_law_173 rfl (lv_at hl 3 rfl) ?_
        refine lv_iconst (v := nI 3) hx hb dL_law_174 (by decide) ?_
        refine lv_iadd hx hb dL_law_175 ?_
        refine s_top (y := nI (i + 3)) (nI_add _ _) ?_
        refine s_sld B hX hbl hbA hL hw (i := (i + 3)) (by omega) dL_law_176 ?_
        refine lv_aload_n hx hb dL_law_177 rfl (lv_at hl 0 rfl) ?_
        refine lv_iload_n hx hb dL_law_178 rfl (lv_at hl 3 rfl) ?_
        refine lv_iconst (v := nI 4) hx hb dL_law_179 (by decide) ?_
        refine lv_iadd hx hb dL_law_180 ?_
        refine s_top (y := nI (i + 4)) (nI_add _ _) ?_
        refine s_sld B hX hbl hbA hL hw (i := (i + 4)) (by omega) dL_law_181 ?_
        refine s_callR (As := [.int (xs (i + 1)), .int (xs (i + 2)), .int (xs (i + 3)), .int (xs (i + 4))]) (rest := [.int r1]) (wr := (svWu ad dA (nI nn) (nI tpn) u1)) (ci := 1) (ct2_want l D hst (xs (i + 1)) (xs (i + 2)) (xs (i + 3)) (xs (i + 4))) B hK2 hw [0, 1, 2, 3] [4, 5, 6, 7, 8, 9, 10, 11, 12] rfl rfl (by decide) (by decide) (by decide) (lw_V q180 q181 q182 q19 q183) rfl rfl rfl ⟨cn2_want, rfl, rfl, by decide, by decide⟩ ⟨Nat.le_refl _, Nat.le_refl _⟩ hl.1 (Nat.le_of_ble_eq_true rfl) dL_law_182 (fun r2 u2 H locs hp2 (hw : wd D (fun q : Nat => s.heap.size ≤ q) _ (svWu ad dA (nI nn) (nI tpn) u1 ++ moW am dM (nI nn) (nI tpn) sh2 u2 le) H locs) => ?_)
        obtain ⟨f1, ha1, hs1⟩ := hp1
        obtain ⟨f2, ha2, hs2⟩ := hp2
        obtain ⟨er, es⟩ := sd_Awt_one ha1 ha2
        subst es
        refine lv_icmp_eq (tgt := 391) hx hb dL_law_185 (by decide) (fun _ => ?_) (fun cc => absurd (er) cc)
        refine lv_iinc (v := nI (i + 5)) (lv' := [(3, .int (nI (i + 5))), (0, .ref b), (1, .ref (ad 0)), (2, .ref (am 0))]) hx hb dL_law_391 hl (k := 3) rfl (nI_add i 5) (by decide) rfl (fun ls hl => ?_)
        refine lv_goto (tgt := 38) hx hb dL_law_394 (by decide) ?_
        exact ih (i + 5) shn f1 u1 sh2 u2 le H locs ls (by omega) (by omega) hs1 hs2 hw (lv_sub hl [1, 2, 3, 0] rfl)
      · refine lv_tableIn (off := 138) (tgt := 190) hx hb dL_law_52 (by decide) (by decide) (by decide) (by decide) ?_
        refine lv_aload_n hx hb dL_law_190 rfl (lv_at hl 1 rfl) ?_
        refine lv_aload_n hx hb dL_law_191 rfl (lv_at hl 0 rfl) ?_
        refine lv_iload_n hx hb dL_law_192 rfl (lv_at hl 3 rfl) ?_
        refine lv_iconst (v := nI 1) hx hb dL_law_193 (by decide) ?_
        refine lv_iadd hx hb dL_law_194 ?_
        refine s_top (y := nI (i + 1)) (nI_add _ _) ?_
        refine s_sld B hX hbl hbA hL hw (i := (i + 1)) (by omega) dL_law_195 ?_
        refine lv_aload_n hx hb dL_law_196 rfl (lv_at hl 0 rfl) ?_
        refine lv_iload_n hx hb dL_law_197 rfl (lv_at hl 3 rfl) ?_
        refine lv_iconst (v := nI 2) hx hb dL_law_198 (by decide) ?_
        refine lv_iadd hx hb dL_law_199 ?_
        refine s_top (y := nI (i + 2)) (nI_add _ _) ?_
        refine s_sld B hX hbl hbA hL hw (i := (i + 2)) (by omega) dL_law_200 ?_
        refine lv_aload_n hx hb dL_law_201 rfl (lv_at hl 0 rfl) ?_
        refine lv_iload_n hx hb dL_law_202 rfl (lv_at hl 3 rfl) ?_
        refine lv_iconst (v := nI 3) hx hb dL_law_203 (by decide) ?_
        refine lv_iadd hx hb dL_law_204 ?_
        refine s_top (y := nI (i + 3)) (nI_add _ _) ?_
        refine s_sld B hX hbl hbA hL hw (i := (i + 3)) (by omega) dL_law_205 ?_
        refine s_callR (As := [.int (xs (i + 1)), .int (xs (i + 2)), .int (xs (i + 3))]) (rest := []) (wr := moW am dM (nI nn) (nI tpn) sh2 wt2 le) (ci := 0) (ct1_expand l D hsi (xs (i + 1)) (xs (i + 2)) (xs (i + 3))) B B.2.2.2 hw [0, 1, 2, 3, 4, 5, 6, 7, 8] [9, 10, 11, 12] rfl rfl (by decide) (by decide) (by decide) (lw_V q83 q84 q85 q18 q86) rfl rfl rfl ⟨cn1_expand, rfl, rfl, by decide, by decide⟩ ⟨Nat.le_refl _, Nat.le_refl _⟩ hl.1 (Nat.le_of_ble_eq_true rfl) dL_law_206 (fun r1 u1 H locs hp1 (hw : wd D (fun q : Nat => s.heap.size ≤ q) _ (moW am dM (nI nn) (nI tpn) sh2 wt2 le ++ svWu ad dA (nI nn) (nI tpn) u1) H locs) => ?_)
        refine lv_aload_n hx hb dL_law_209 rfl (lv_at hl 2 rfl) ?_
        refine lv_aload_n hx hb dL_law_210 rfl (lv_at hl 0 rfl) ?_
        refine lv_iload_n hx hb dL_law_211 rfl (lv_at hl 3 rfl) ?_
        refine lv_iconst (v := nI 1) hx hb dL_law_212 (by decide) ?_
        refine lv_iadd hx hb dL_law_213 ?_
        refine s_top (y := nI (i + 1)) (nI_add _ _) ?_
        refine s_sld B hX hbl hbA hL hw (i := (i + 1)) (by omega) dL_law_214 ?_
        refine lv_aload_n hx hb dL_law_215 rfl (lv_at hl 0 rfl) ?_
        refine lv_iload_n hx hb dL_law_216 rfl (lv_at hl 3 rfl) ?_
        refine lv_iconst (v := nI 2) hx hb dL_law_217 (by decide) ?_
        refine lv_iadd hx hb dL_law_218 ?_
        refine s_top (y := nI (i + 2)) (nI_add _ _) ?_
        refine s_sld B hX hbl hbA hL hw (i := (i + 2)) (by omega) dL_law_219 ?_
        refine lv_aload_n hx hb dL_law_220 rfl (lv_at hl 0 rfl) ?_
        refine lv_iload_n hx hb dL_law_221 rfl (lv_at hl 3 rfl) ?_
        refine lv_iconst (v := nI 3) hx hb dL_law_222 (by decide) ?_
        refine lv_iadd hx hb dL_law_223 ?_
        refine s_top (y := nI (i + 3)) (nI_add _ _) ?_
        refine s_sld B hX hbl hbA hL hw (i := (i + 3)) (by omega) dL_law_224 ?_
        refine s_callR (As := [.int (xs (i + 1)), .int (xs (i + 2)), .int (xs (i + 3))]) (rest := [.int r1]) (wr := (svWu ad dA (nI nn) (nI tpn) u1)) (ci := 1) (ct2_expand l D hst (xs (i + 1)) (xs (i + 2)) (xs (i + 3))) B hK2 hw [0, 1, 2, 3] [4, 5, 6, 7, 8, 9, 10, 11, 12] rfl rfl (by decide) (by decide) (by decide) (lw_V q188 q189 q190 q19 q191) rfl rfl rfl ⟨cn2_expand, rfl, rfl, by decide, by decide⟩ ⟨Nat.le_refl _, Nat.le_refl _⟩ hl.1 (Nat.le_of_ble_eq_true rfl) dL_law_225 (fun r2 u2 H locs hp2 (hw : wd D (fun q : Nat => s.heap.size ≤ q) _ (svWu ad dA (nI nn) (nI tpn) u1 ++ moW am dM (nI nn) (nI tpn) sh2 wt2 le) H locs) => ?_)
        have er := sd_Aexp_one hn8 hp1.1 hp2
        refine lv_icmp_eq (tgt := 391) hx hb dL_law_228 (by decide) (fun _ => ?_) (fun cc => absurd (er) cc)
        refine lv_iinc (v := nI (i + 5)) (lv' := [(3, .int (nI (i + 5))), (0, .ref b), (1, .ref (ad 0)), (2, .ref (am 0))]) hx hb dL_law_391 hl (k := 3) rfl (nI_add i 5) (by decide) rfl (fun ls hl => ?_)
        refine lv_goto (tgt := 38) hx hb dL_law_394 (by decide) ?_
        exact ih (i + 5) shn wtn u1 sh2 wt2 le H locs ls (by omega) (by omega) hp1.2 hst hw (lv_sub hl [1, 2, 3, 0] rfl)
      · refine lv_tableIn (off := 181) (tgt := 233) hx hb dL_law_52 (by decide) (by decide) (by decide) (by decide) ?_
        refine lv_aload_n hx hb dL_law_233 rfl (lv_at hl 1 rfl) ?_
        refine lv_aload_n hx hb dL_law_234 rfl (lv_at hl 0 rfl) ?_
        refine lv_iload_n hx hb dL_law_235 rfl (lv_at hl 3 rfl) ?_
        refine lv_iconst (v := nI 1) hx hb dL_law_236 (by decide) ?_
        refine lv_iadd hx hb dL_law_237 ?_
        refine s_top (y := nI (i + 1)) (nI_add _ _) ?_
        refine s_sld B hX hbl hbA hL hw (i := (i + 1)) (by omega) dL_law_238 ?_
        refine s_callR (As := [.int (xs (i + 1))]) (rest := []) (wr := moW am dM (nI nn) (nI tpn) sh2 wt2 le) (ci := 0) (ct1_seeds l D hsi (xs (i + 1))) B B.2.2.2 hw [0, 1, 2, 3, 4, 5, 6, 7, 8] [9, 10, 11, 12] rfl rfl (by decide) (by decide) (by decide) (lw_V q99 q100 q101 q18 q102) rfl rfl rfl ⟨cn1_seeds, rfl, rfl, by decide, by decide⟩ ⟨Nat.le_refl _, Nat.le_refl _⟩ hl.1 (Nat.le_of_ble_eq_true rfl) dL_law_239 (fun r1 u1 H locs hp1 (hw : wd D (fun q : Nat => s.heap.size ≤ q) _ (moW am dM (nI nn) (nI tpn) sh2 wt2 le ++ svWu ad dA (nI nn) (nI tpn) u1) H locs) => ?_)
        refine lv_aload_n hx hb dL_law_242 rfl (lv_at hl 2 rfl) ?_
        refine lv_aload_n hx hb dL_law_243 rfl (lv_at hl 0 rfl) ?_
        refine lv_iload_n hx hb dL_law_244 rfl (lv_at hl 3 rfl) ?_
        refine lv_iconst (v := nI 1) hx hb dL_law_245 (by decide) ?_
        refine lv_iadd hx hb dL_law_246 ?_
        refine s_top (y := nI (i + 1)) (nI_add _ _) ?_
        refine s_sld B hX hbl hbA hL hw (i := (i + 1)) (by omega) dL_law_247 ?_
        refine s_callR (As := [.int (xs (i + 1))]) (rest := [.int r1]) (wr := (svWu ad dA (nI nn) (nI tpn) u1)) (ci := 1) (ct2_seeds l D hst (xs (i + 1))) B hK2 hw [0, 1, 2, 3] [4, 5, 6, 7, 8, 9, 10, 11, 12] rfl rfl (by decide) (by decide) (by decide) (lw_V q200 q201 q202 q19 q203) rfl rfl rfl ⟨cn2_seeds, rfl, rfl, by decide, by decide⟩ ⟨Nat.le_refl _, Nat.le_refl _⟩ hl.1 (Nat.le_of_ble_eq_true rfl) dL_law_248 (fun r2 u2 H locs hp2 (hw : wd D (fun q : Nat => s.heap.size ≤ q) _ (svWu ad dA (nI nn) (nI tpn) u1 ++ moW am dM (nI nn) (nI tpn) sh2 wt2 le) H locs) => ?_)
        have er := sd_Aseeds_one hp1.1 hp2
        refine lv_icmp_eq (tgt := 391) hx hb dL_law_251 (by decide) (fun _ => ?_) (fun cc => absurd (er) cc)
        refine lv_iinc (v := nI (i + 5)) (lv' := [(3, .int (nI (i + 5))), (0, .ref b), (1, .ref (ad 0)), (2, .ref (am 0))]) hx hb dL_law_391 hl (k := 3) rfl (nI_add i 5) (by decide) rfl (fun ls hl => ?_)
        refine lv_goto (tgt := 38) hx hb dL_law_394 (by decide) ?_
        exact ih (i + 5) shn wtn u1 sh2 wt2 le H locs ls (by omega) (by omega) hp1.2 hst hw (lv_sub hl [1, 2, 3, 0] rfl)
      · refine lv_tableIn (off := 204) (tgt := 256) hx hb dL_law_52 (by decide) (by decide) (by decide) (by decide) ?_
        refine lv_aload_n hx hb dL_law_256 rfl (lv_at hl 1 rfl) ?_
        refine lv_aload_n hx hb dL_law_257 rfl (lv_at hl 0 rfl) ?_
        refine lv_iload_n hx hb dL_law_258 rfl (lv_at hl 3 rfl) ?_
        refine lv_iconst (v := nI 1) hx hb dL_law_259 (by decide) ?_
        refine lv_iadd hx hb dL_law_260 ?_
        refine s_top (y := nI (i + 1)) (nI_add _ _) ?_
        refine s_sld B hX hbl hbA hL hw (i := (i + 1)) (by omega) dL_law_261 ?_
        refine s_callR (As := [.int (xs (i + 1))]) (rest := []) (wr := moW am dM (nI nn) (nI tpn) sh2 wt2 le) (ci := 0) (ct1_leastSeed l D hsi (xs (i + 1))) B B.2.2.2 hw [0, 1, 2, 3, 4, 5, 6, 7, 8] [9, 10, 11, 12] rfl rfl (by decide) (by decide) (by decide) (lw_V q119 q120 q121 q18 q122) rfl rfl rfl ⟨cn1_leastSeed, rfl, rfl, by decide, by decide⟩ ⟨Nat.le_refl _, Nat.le_refl _⟩ hl.1 (Nat.le_of_ble_eq_true rfl) dL_law_262 (fun r1 u1 H locs hp1 (hw : wd D (fun q : Nat => s.heap.size ≤ q) _ (moW am dM (nI nn) (nI tpn) sh2 wt2 le ++ svWu ad dA (nI nn) (nI tpn) u1) H locs) => ?_)
        refine lv_aload_n hx hb dL_law_265 rfl (lv_at hl 2 rfl) ?_
        refine lv_aload_n hx hb dL_law_266 rfl (lv_at hl 0 rfl) ?_
        refine lv_iload_n hx hb dL_law_267 rfl (lv_at hl 3 rfl) ?_
        refine lv_iconst (v := nI 1) hx hb dL_law_268 (by decide) ?_
        refine lv_iadd hx hb dL_law_269 ?_
        refine s_top (y := nI (i + 1)) (nI_add _ _) ?_
        refine s_sld B hX hbl hbA hL hw (i := (i + 1)) (by omega) dL_law_270 ?_
        refine s_callR (As := [.int (xs (i + 1))]) (rest := [.int r1]) (wr := (svWu ad dA (nI nn) (nI tpn) u1)) (ci := 1) (ct2_leastSeed l D hst (xs (i + 1))) B hK2 hw [0, 1, 2, 3] [4, 5, 6, 7, 8, 9, 10, 11, 12] rfl rfl (by decide) (by decide) (by decide) (lw_V q212 q213 q214 q19 q215) rfl rfl rfl ⟨cn2_leastSeed, rfl, rfl, by decide, by decide⟩ ⟨Nat.le_refl _, Nat.le_refl _⟩ hl.1 (Nat.le_of_ble_eq_true rfl) dL_law_271 (fun r2 u2 H locs hp2 (hw : wd D (fun q : Nat => s.heap.size ≤ q) _ (svWu ad dA (nI nn) (nI tpn) u1 ++ moW am dM (nI nn) (nI tpn) sh2 wt2 le) H locs) => ?_)
        have er := sd_Abest_one hp1.1 hp2
        refine lv_icmp_eq (tgt := 391) hx hb dL_law_274 (by decide) (fun _ => ?_) (fun cc => absurd (er) cc)
        refine lv_iinc (v := nI (i + 5)) (lv' := [(3, .int (nI (i + 5))), (0, .ref b), (1, .ref (ad 0)), (2, .ref (am 0))]) hx hb dL_law_391 hl (k := 3) rfl (nI_add i 5) (by decide) rfl (fun ls hl => ?_)
        refine lv_goto (tgt := 38) hx hb dL_law_394 (by decide) ?_
        exact ih (i + 5) shn wtn u1 sh2 wt2 le H locs ls (by omega) (by omega) hp1.2 hst hw (lv_sub hl [1, 2, 3, 0] rfl)
      · refine lv_tableIn (off := 227) (tgt := 279) hx hb dL_law_52 (by decide) (by decide) (by decide) (by decide) ?_
        refine lv_aload_n hx hb dL_law_279 rfl (lv_at hl 1 rfl) ?_
        refine lv_aload_n hx hb dL_law_280 rfl (lv_at hl 0 rfl) ?_
        refine lv_iload_n hx hb dL_law_281 rfl (lv_at hl 3 rfl) ?_
        refine lv_iconst (v := nI 1) hx hb dL_law_282 (by decide) ?_
        refine lv_iadd hx hb dL_law_283 ?_
        refine s_top (y := nI (i + 1)) (nI_add _ _) ?_
        refine s_sld B hX hbl hbA hL hw (i := (i + 1)) (by omega) dL_law_284 ?_
        refine s_callR (As := [.int (xs (i + 1))]) (rest := []) (wr := moW am dM (nI nn) (nI tpn) sh2 wt2 le) (ci := 0) (ct1_greatestSeed l D hsi (xs (i + 1))) B B.2.2.2 hw [0, 1, 2, 3, 4, 5, 6, 7, 8] [9, 10, 11, 12] rfl rfl (by decide) (by decide) (by decide) (lw_V q127 q128 q129 q18 q130) rfl rfl rfl ⟨cn1_greatestSeed, rfl, rfl, by decide, by decide⟩ ⟨Nat.le_refl _, Nat.le_refl _⟩ hl.1 (Nat.le_of_ble_eq_true rfl) dL_law_285 (fun r1 u1 H locs hp1 (hw : wd D (fun q : Nat => s.heap.size ≤ q) _ (moW am dM (nI nn) (nI tpn) sh2 wt2 le ++ svWu ad dA (nI nn) (nI tpn) u1) H locs) => ?_)
        refine lv_aload_n hx hb dL_law_288 rfl (lv_at hl 2 rfl) ?_
        refine lv_aload_n hx hb dL_law_289 rfl (lv_at hl 0 rfl) ?_
        refine lv_iload_n hx hb dL_law_290 rfl (lv_at hl 3 rfl) ?_
        refine lv_iconst (v := nI 1) hx hb dL_law_291 (by decide) ?_
        refine lv_iadd hx hb dL_law_292 ?_
        refine s_top (y := nI (i + 1)) (nI_add _ _) ?_
        refine s_sld B hX hbl hbA hL hw (i := (i + 1)) (by omega) dL_law_293 ?_
        refine s_callR (As := [.int (xs (i + 1))]) (rest := [.int r1]) (wr := (svWu ad dA (nI nn) (nI tpn) u1)) (ci := 1) (ct2_greatestSeed l D hst (xs (i + 1))) B hK2 hw [0, 1, 2, 3] [4, 5, 6, 7, 8, 9, 10, 11, 12] rfl rfl (by decide) (by decide) (by decide) (lw_V q220 q221 q222 q19 q223) rfl rfl rfl ⟨cn2_greatestSeed, rfl, rfl, by decide, by decide⟩ ⟨Nat.le_refl _, Nat.le_refl _⟩ hl.1 (Nat.le_of_ble_eq_true rfl) dL_law_294 (fun r2 u2 H locs hp2 (hw : wd D (fun q : Nat => s.heap.size ≤ q) _ (svWu ad dA (nI nn) (nI tpn) u1 ++ moW am dM (nI nn) (nI tpn) sh2 wt2 le) H locs) => ?_)
        have er := sd_Abest_one hp1.1 hp2
        refine lv_icmp_eq (tgt := 391) hx hb dL_law_297 (by decide) (fun _ => ?_) (fun cc => absurd (er) cc)
        refine lv_iinc (v := nI (i + 5)) (lv' := [(3, .int (nI (i + 5))), (0, .ref b), (1, .ref (ad 0)), (2, .ref (am 0))]) hx hb dL_law_391 hl (k := 3) rfl (nI_add i 5) (by decide) rfl (fun ls hl => ?_)
        refine lv_goto (tgt := 38) hx hb dL_law_394 (by decide) ?_
        exact ih (i + 5) shn wtn u1 sh2 wt2 le H locs ls (by omega) (by omega) hp1.2 hst hw (lv_sub hl [1, 2, 3, 0] rfl)
      · refine lv_tableIn (off := 250) (tgt := 302) hx hb dL_law_52 (by decide) (by decide) (by decide) (by decide) ?_
        refine lv_aload_n hx hb dL_law_302 rfl (lv_at hl 1 rfl) ?_
        refine lv_aload_n hx hb dL_law_303 rfl (lv_at hl 0 rfl) ?_
        refine lv_iload_n hx hb dL_law_304 rfl (lv_at hl 3 rfl) ?_
        refine lv_iconst (v := nI 1) hx hb dL_law_305 (by decide) ?_
        refine lv_iadd hx hb dL_law_306 ?_
        refine s_top (y := nI (i + 1)) (nI_add _ _) ?_
        refine s_sld B hX hbl hbA hL hw (i := (i + 1)) (by omega) dL_law_307 ?_
        refine lv_aload_n hx hb dL_law_308 rfl (lv_at hl 0 rfl) ?_
        refine lv_iload_n hx hb dL_law_309 rfl (lv_at hl 3 rfl) ?_
        refine lv_iconst (v := nI 2) hx hb dL_law_310 (by decide) ?_
        refine lv_iadd hx hb dL_law_311 ?_
        refine s_top (y := nI (i + 2)) (nI_add _ _) ?_
        refine s_sld B hX hbl hbA hL hw (i := (i + 2)) (by omega) dL_law_312 ?_
        refine lv_aload_n hx hb dL_law_313 rfl (lv_at hl 0 rfl) ?_
        refine lv_iload_n hx hb dL_law_314 rfl (lv_at hl 3 rfl) ?_
        refine lv_iconst (v := nI 3) hx hb dL_law_315 (by decide) ?_
        refine lv_iadd hx hb dL_law_316 ?_
        refine s_top (y := nI (i + 3)) (nI_add _ _) ?_
        refine s_sld B hX hbl hbA hL hw (i := (i + 3)) (by omega) dL_law_317 ?_
        refine s_callR (As := [.int (xs (i + 1)), .int (xs (i + 2)), .int (xs (i + 3))]) (rest := []) (wr := moW am dM (nI nn) (nI tpn) sh2 wt2 le) (ci := 0) (ct1_forced l D hsi (xs (i + 1)) (xs (i + 2)) (xs (i + 3))) B B.2.2.2 hw [0, 1, 2, 3, 4, 5, 6, 7, 8] [9, 10, 11, 12] rfl rfl (by decide) (by decide) (by decide) (lw_V q131 q132 q133 q18 q134) rfl rfl rfl ⟨cn1_forced, rfl, rfl, by decide, by decide⟩ ⟨Nat.le_refl _, Nat.le_refl _⟩ hl.1 (Nat.le_of_ble_eq_true rfl) dL_law_318 (fun r1 u1 H locs hp1 (hw : wd D (fun q : Nat => s.heap.size ≤ q) _ (moW am dM (nI nn) (nI tpn) sh2 wt2 le ++ svWu ad dA (nI nn) (nI tpn) u1) H locs) => ?_)
        refine lv_aload_n hx hb dL_law_321 rfl (lv_at hl 2 rfl) ?_
        refine lv_aload_n hx hb dL_law_322 rfl (lv_at hl 0 rfl) ?_
        refine lv_iload_n hx hb dL_law_323 rfl (lv_at hl 3 rfl) ?_
        refine lv_iconst (v := nI 1) hx hb dL_law_324 (by decide) ?_
        refine lv_iadd hx hb dL_law_325 ?_
        refine s_top (y := nI (i + 1)) (nI_add _ _) ?_
        refine s_sld B hX hbl hbA hL hw (i := (i + 1)) (by omega) dL_law_326 ?_
        refine lv_aload_n hx hb dL_law_327 rfl (lv_at hl 0 rfl) ?_
        refine lv_iload_n hx hb dL_law_328 rfl (lv_at hl 3 rfl) ?_
        refine lv_iconst (v := nI 2) hx hb dL_law_329 (by decide) ?_
        refine lv_iadd hx hb dL_law_330 ?_
        refine s_top (y := nI (i + 2)) (nI_add _ _) ?_
        refine s_sld B hX hbl hbA hL hw (i := (i + 2)) (by omega) dL_law_331 ?_
        refine lv_aload_n hx hb dL_law_332 rfl (lv_at hl 0 rfl) ?_
        refine lv_iload_n hx hb dL_law_333 rfl (lv_at hl 3 rfl) ?_
        refine lv_iconst (v := nI 3) hx hb dL_law_334 (by decide) ?_
        refine lv_iadd hx hb dL_law_335 ?_
        refine s_top (y := nI (i + 3)) (nI_add _ _) ?_
        refine s_sld B hX hbl hbA hL hw (i := (i + 3)) (by omega) dL_law_336 ?_
        refine s_callR (As := [.int (xs (i + 1)), .int (xs (i + 2)), .int (xs (i + 3))]) (rest := [.int r1]) (wr := (svWu ad dA (nI nn) (nI tpn) u1)) (ci := 1) (ct2_forced l D hst (xs (i + 1)) (xs (i + 2)) (xs (i + 3))) B hK2 hw [0, 1, 2, 3] [4, 5, 6, 7, 8, 9, 10, 11, 12] rfl rfl (by decide) (by decide) (by decide) (lw_V q224 q225 q226 q19 q227) rfl rfl rfl ⟨cn2_forced, rfl, rfl, by decide, by decide⟩ ⟨Nat.le_refl _, Nat.le_refl _⟩ hl.1 (Nat.le_of_ble_eq_true rfl) dL_law_337 (fun r2 u2 H locs hp2 (hw : wd D (fun q : Nat => s.heap.size ≤ q) _ (svWu ad dA (nI nn) (nI tpn) u1 ++ moW am dM (nI nn) (nI tpn) sh2 wt2 le) H locs) => ?_)
        have er := sd_Afrc_one hp1.1 hp2
        refine lv_icmp_eq (tgt := 391) hx hb dL_law_340 (by decide) (fun _ => ?_) (fun cc => absurd (er) cc)
        refine lv_iinc (v := nI (i + 5)) (lv' := [(3, .int (nI (i + 5))), (0, .ref b), (1, .ref (ad 0)), (2, .ref (am 0))]) hx hb dL_law_391 hl (k := 3) rfl (nI_add i 5) (by decide) rfl (fun ls hl => ?_)
        refine lv_goto (tgt := 38) hx hb dL_law_394 (by decide) ?_
        exact ih (i + 5) shn wtn u1 sh2 wt2 le H locs ls (by omega) (by omega) hp1.2 hst hw (lv_sub hl [1, 2, 3, 0] rfl)
      · refine lv_tableIn (off := 293) (tgt := 345) hx hb dL_law_52 (by decide) (by decide) (by decide) (by decide) ?_
        refine lv_aload_n hx hb dL_law_345 rfl (lv_at hl 1 rfl) ?_
        refine lv_aload_n hx hb dL_law_346 rfl (lv_at hl 0 rfl) ?_
        refine lv_iload_n hx hb dL_law_347 rfl (lv_at hl 3 rfl) ?_
        refine lv_iconst (v := nI 1) hx hb dL_law_348 (by decide) ?_
        refine lv_iadd hx hb dL_law_349 ?_
        refine s_top (y := nI (i + 1)) (nI_add _ _) ?_
        refine s_sld B hX hbl hbA hL hw (i := (i + 1)) (by omega) dL_law_350 ?_
        refine s_callR (As := [.int (xs (i + 1))]) (rest := []) (wr := moW am dM (nI nn) (nI tpn) sh2 wt2 le) (ci := 0) (ct1_seedsNeeded l D hsi (xs (i + 1))) B B.2.2.2 hw [0, 1, 2, 3, 4, 5, 6, 7, 8] [9, 10, 11, 12] rfl rfl (by decide) (by decide) (by decide) (lw_V q135 q136 q137 q18 q138) rfl rfl rfl ⟨cn1_seedsNeeded, rfl, rfl, by decide, by decide⟩ ⟨Nat.le_refl _, Nat.le_refl _⟩ hl.1 (Nat.le_of_ble_eq_true rfl) dL_law_351 (fun r1 u1 H locs hp1 (hw : wd D (fun q : Nat => s.heap.size ≤ q) _ (moW am dM (nI nn) (nI tpn) sh2 wt2 le ++ svWu ad dA (nI nn) (nI tpn) u1) H locs) => ?_)
        refine lv_aload_n hx hb dL_law_354 rfl (lv_at hl 2 rfl) ?_
        refine lv_aload_n hx hb dL_law_355 rfl (lv_at hl 0 rfl) ?_
        refine lv_iload_n hx hb dL_law_356 rfl (lv_at hl 3 rfl) ?_
        refine lv_iconst (v := nI 1) hx hb dL_law_357 (by decide) ?_
        refine lv_iadd hx hb dL_law_358 ?_
        refine s_top (y := nI (i + 1)) (nI_add _ _) ?_
        refine s_sld B hX hbl hbA hL hw (i := (i + 1)) (by omega) dL_law_359 ?_
        refine s_callR (As := [.int (xs (i + 1))]) (rest := [.int r1]) (wr := (svWu ad dA (nI nn) (nI tpn) u1)) (ci := 1) (ct2_seedsNeeded l D hst (xs (i + 1))) B hK2 hw [0, 1, 2, 3] [4, 5, 6, 7, 8, 9, 10, 11, 12] rfl rfl (by decide) (by decide) (by decide) (lw_V q228 q229 q230 q19 q231) rfl rfl rfl ⟨cn2_seedsNeeded, rfl, rfl, by decide, by decide⟩ ⟨Nat.le_refl _, Nat.le_refl _⟩ hl.1 (Nat.le_of_ble_eq_true rfl) dL_law_360 (fun r2 u2 H locs hp2 (hw : wd D (fun q : Nat => s.heap.size ≤ q) _ (svWu ad dA (nI nn) (nI tpn) u1 ++ moW am dM (nI nn) (nI tpn) sh2 wt2 u2) H locs) => ?_)
        have er := sd_Aneed_one hp1.1 hp2
        refine lv_icmp_eq (tgt := 391) hx hb dL_law_363 (by decide) (fun _ => ?_) (fun cc => absurd (er) cc)
        refine lv_iinc (v := nI (i + 5)) (lv' := [(3, .int (nI (i + 5))), (0, .ref b), (1, .ref (ad 0)), (2, .ref (am 0))]) hx hb dL_law_391 hl (k := 3) rfl (nI_add i 5) (by decide) rfl (fun ls hl => ?_)
        refine lv_goto (tgt := 38) hx hb dL_law_394 (by decide) ?_
        exact ih (i + 5) shn wtn u1 sh2 wt2 u2 H locs ls (by omega) (by omega) hp1.2 hst hw (lv_sub hl [1, 2, 3, 0] rfl)
      · refine lv_tableIn (off := 316) (tgt := 368) hx hb dL_law_52 (by decide) (by decide) (by decide) (by decide) ?_
        refine lv_aload_n hx hb dL_law_368 rfl (lv_at hl 1 rfl) ?_
        refine lv_aload_n hx hb dL_law_369 rfl (lv_at hl 0 rfl) ?_
        refine lv_iload_n hx hb dL_law_370 rfl (lv_at hl 3 rfl) ?_
        refine lv_iconst (v := nI 1) hx hb dL_law_371 (by decide) ?_
        refine lv_iadd hx hb dL_law_372 ?_
        refine s_top (y := nI (i + 1)) (nI_add _ _) ?_
        refine s_sld B hX hbl hbA hL hw (i := (i + 1)) (by omega) dL_law_373 ?_
        refine s_callR (As := [.int (xs (i + 1))]) (rest := []) (wr := moW am dM (nI nn) (nI tpn) sh2 wt2 le) (ci := 0) (ct1_forget l D hsi (xs (i + 1))) B B.2.2.2 hw [0, 1, 2, 3, 4, 5, 6, 7, 8] [9, 10, 11, 12] rfl rfl (by decide) (by decide) (by decide) (lw_V q143 q144 q145 q18 q146) rfl rfl rfl ⟨cn1_forget, rfl, rfl, by decide, by decide⟩ ⟨Nat.le_refl _, Nat.le_refl _⟩ hl.1 (Nat.le_of_ble_eq_true rfl) dL_law_374 (fun r1 u1 H locs hp1 (hw : wd D (fun q : Nat => s.heap.size ≤ q) _ (moW am dM (nI nn) (nI tpn) sh2 wt2 le ++ svWu ad dA (nI nn) (nI tpn) u1) H locs) => ?_)
        refine lv_aload_n hx hb dL_law_377 rfl (lv_at hl 2 rfl) ?_
        refine lv_aload_n hx hb dL_law_378 rfl (lv_at hl 0 rfl) ?_
        refine lv_iload_n hx hb dL_law_379 rfl (lv_at hl 3 rfl) ?_
        refine lv_iconst (v := nI 1) hx hb dL_law_380 (by decide) ?_
        refine lv_iadd hx hb dL_law_381 ?_
        refine s_top (y := nI (i + 1)) (nI_add _ _) ?_
        refine s_sld B hX hbl hbA hL hw (i := (i + 1)) (by omega) dL_law_382 ?_
        refine s_callR (As := [.int (xs (i + 1))]) (rest := [.int r1]) (wr := (svWu ad dA (nI nn) (nI tpn) u1)) (ci := 1) (ct2_forget l D hst (xs (i + 1))) B hK2 hw [0, 1, 2, 3] [4, 5, 6, 7, 8, 9, 10, 11, 12] rfl rfl (by decide) (by decide) (by decide) (lw_V q232 q233 q234 q19 q235) rfl rfl rfl ⟨cn2_forget, rfl, rfl, by decide, by decide⟩ ⟨Nat.le_refl _, Nat.le_refl _⟩ hl.1 (Nat.le_of_ble_eq_true rfl) dL_law_383 (fun r2 u2 H locs hp2 (hw : wd D (fun q : Nat => s.heap.size ≤ q) _ (svWu ad dA (nI nn) (nI tpn) u1 ++ moW am dM (nI nn) (nI tpn) sh2 u2 le) H locs) => ?_)
        obtain ⟨f1, ha1, hs1⟩ := hp1
        obtain ⟨f2, ha2, hs2⟩ := hp2
        obtain ⟨er, es⟩ := sd_Afg_one ha1 ha2
        subst es
        refine lv_icmp_eq (tgt := 391) hx hb dL_law_386 (by decide) (fun _ => ?_) (fun cc => absurd (er) cc)
        refine lv_iinc (v := nI (i + 5)) (lv' := [(3, .int (nI (i + 5))), (0, .ref b), (1, .ref (ad 0)), (2, .ref (am 0))]) hx hb dL_law_391 hl (k := 3) rfl (nI_add i 5) (by decide) rfl (fun ls hl => ?_)
        refine lv_goto (tgt := 38) hx hb dL_law_394 (by decide) ?_
        exact ih (i + 5) shn f1 u1 sh2 u2 le H locs ls (by omega) (by omega) hs1 hs2 hw (lv_sub hl [1, 2, 3, 0] rfl)
      · refine lv_tableOut (tgt := 391) hx hb dL_law_52 (Or.inr (by rw [nI_toInt (by omega)]; omega)) (by decide) ?_
        refine lv_iinc (v := nI (i + 5)) (lv' := [(3, .int (nI (i + 5))), (0, .ref b), (1, .ref (ad 0)), (2, .ref (am 0))]) hx hb dL_law_391 hl (k := 3) rfl (nI_add i 5) (by decide) rfl (fun ls hl => ?_)
        refine lv_goto (tgt := 38) hx hb dL_law_394 (by decide) ?_
        exact ih (i + 5) shn wtn (fr, rv, gr, sh, wt, fm, bf, eq, rs, gd, nd) sh2 wt2 le H locs ls (by omega) (by omega) hsi hst hw (lv_sub hl [1, 2, 3, 0] rfl)
end
section
/-! the law from its entry (printed by gen/law.py) -/
set_option maxHeartbeats 4000000 in
set_option maxRecDepth 100000 in
/-- the classes, known at the law's entry -/
theorem classes_known {s0 : State} {b0 : Addr} (ht0 : ∀ w ∈ lw_tbl, w.before #[Value.ref b0] s0 = true) : ∃ (D : va_G), va_K D vwCl [] s0 := by
  obtain ⟨c0_, iS0, hKn0⟩ := u_known (C := RX1) (T := TX1) (N := 13) (n := 13) ht0 (fun w h => lw_all_tbl (in_X1 w h)) (ht0 _ (lw_all_tbl q21))
  obtain ⟨c1_, iS1, hKn1⟩ := u_known (C := RX2) (T := TX2) (N := 5) (n := 5) ht0 (fun w h => lw_all_tbl (in_X2 w h)) (ht0 _ (lw_all_tbl q151))
  refine ⟨(fun k => if k = 0 then c0_ else c1_, fun k => if k = 0 then iS0 else iS1), ?_, fun k q h => by simp at h⟩
  intro k q hq
  match k, hq with
  | 0, hq => cases hq; exact hKn0
  | 1, hq => cases hq; exact hKn1
  | k + 2, hq => simp [vwCl] at hq
set_option maxHeartbeats 4000000 in
set_option maxRecDepth 100000 in
/-- from the entry, for every script of at most 322 ints, the law comes to its end with true -/
theorem whole_start {p : Program} {e : Env} {s : State} {m : MethodId} {below : List Frame} {meth : Method} {c : Code} (l : Launch) {b L : Nat} {xs : Nat → Int32} (hL : L ≤ 322) (C0 : lw_At p s m meth c b L xs) : W p l e room_1 s m #[Value.ref b] below meth c s.heap [] 0 0 (lw_Z below #[Value.ref b] s) (entryFrame m ([Value.ref b] : List Value).toArray 4) := by
  obtain ⟨hx, hb, hr, hml, hown, hts0, hX, hbl, hlocks, hgv⟩ := C0
  have hts : ∀ w ∈ lw_all, w.before #[Value.ref b] s = true := fun w h => hts0 w (lw_all_tbl h)
  obtain ⟨D, hK⟩ := classes_known hts0
  have hbA : ¬ (fun q : Nat => s.heap.size ≤ q) b := Nat.not_le.mpr hbl
  have B : bx p s m meth c code 4 ret #[Value.ref b] RX0 D [] := ⟨⟨hx, hb, hml, hown, hts⟩, hlocks, hr, hK⟩
  have hw : wd D (fun q : Nat => s.heap.size ≤ q) s.heap [] s.heap [] := ⟨fun k q h => by simp at h, ⟨fun i j x y h => by simp at h, fun k q h => by simp at h⟩, va_S.rf, fun _ h => h⟩
  have hl := lv_entry ([.ref b]) (n := 4) (Nat.le_of_ble_eq_true rfl)
  rw [lg_entry_eq]
  generalize (lg_sl ([.ref b]) ++ List.replicate (4 - (lg_sl ([.ref b])).length) Slot.unset).toArray = ls at hl ⊢
  have hl : lv_has ls 4 [(0, .ref b)] := hl
  refine va_new (D := D) (ci := 0) (fs := [.int 0, .int 0, .null, .null, .int 0, .null, .null, .null, .null, .int 0, .int 0, .null, .null]) (C := RX1) (T := TX1) (N := 13) hx hb hts in_X1 tyX1 tyX1_ok B.1.2.2.2.1 (hts _ q20) (hts _ q21) (hts _ q18) hK hw.1 hw.2.1 hw.2.2.1 hw.2.2.2 rfl (fun j hj => by rcases (show j = 0 ∨ j = 1 ∨ j = 2 ∨ j = 3 ∨ j = 4 ∨ j = 5 ∨ j = 6 ∨ j = 7 ∨ j = 8 ∨ j = 9 ∨ j = 10 ∨ j = 11 ∨ j = 12 by omega) with rfl | rfl | rfl | rfl | rfl | rfl | rfl | rfl | rfl | rfl | rfl | rfl | rfl <;> rfl) (Nat.le_of_ble_eq_true rfl) (Nat.le_of_ble_eq_true rfl) dL_law_0 (fun q0 H hP hD hS => ?_)
  have hw : wd D (fun q : Nat => s.heap.size ≤ q) s.heap [(q0, .inr (0, [.int 0, .int 0, .null, .null, .int 0, .null, .null, .null, .null, .int 0, .int 0, .null, .null]))] H [] := ⟨hP, hD, hS, fun _ h => h⟩
  refine lv_dup hx hb dL_law_3 rfl ?_
  refine lv_aload_n hx hb dL_law_4 rfl (lv_at hl 0 rfl) ?_
  refine lv_iconst (v := nI 0) hx hb dL_law_5 (by decide) ?_
  refine s_cell (rest := [.ref q0, .ref q0]) B hX hbl hbA hL hw (j := 0) (by decide) ⟨by decide, by decide⟩ ⟨Nat.le_of_ble_eq_true rfl, Nat.le_of_ble_eq_true rfl⟩ hl.1 (Nat.le_of_ble_eq_true rfl) dL_law_6 (fun H locs hw => ?_)
  refine lv_aload_n hx hb dL_law_9 rfl (lv_at hl 0 rfl) ?_
  refine lv_iconst (v := nI 1) hx hb dL_law_10 (by decide) ?_
  refine s_cell (rest := [.int (if 0 < L then xs 0 else 0), .ref q0, .ref q0]) B hX hbl hbA hL hw (j := 1) (by decide) ⟨by decide, by decide⟩ ⟨Nat.le_of_ble_eq_true rfl, Nat.le_of_ble_eq_true rfl⟩ hl.1 (Nat.le_of_ble_eq_true rfl) dL_law_11 (fun H locs hw => ?_)
  generalize hp0 : (if 0 < L then xs 0 else 0) = p0
  generalize hp1 : (if 1 < L then xs 1 else 0) = p1
  refine s_callN (As := [.int p0, .int p1]) (rest := [.ref q0]) (wr := []) (ct1_init l D q0 p0 p1) B hw [0] [] rfl rfl (by decide) (by decide) (by decide) q18 q22 q23 q24 rfl cn1_init ⟨rfl, rfl, by decide, by decide⟩ ⟨Nat.le_of_ble_eq_true rfl, Nat.le_of_ble_eq_true rfl⟩ hl.1 (Nat.le_of_ble_eq_true rfl) dL_law_14 (fun u H locs hu hK1 hw1 => ?_)
  obtain ⟨ad, dA, nn, tpn, u⟩ := u
  obtain ⟨e0, e1, e2, hsi⟩ := hu
  have hK1 : va_K D vwCl (svT dA) s := hK1
  have e0 : ad 0 = q0 := e0
  have e1 : nn = sd_cl p0 := e1
  have e2 : tpn = sd_tp p1 nn := e2
  subst e0
  have B : bx p s m meth c code 4 ret #[Value.ref b] RX0 D (svT dA) := ⟨B.1, B.2.1, B.2.2.1, hK1⟩
  have hw : wd D (fun q : Nat => s.heap.size ≤ q) s.heap (svWu ad dA (nI nn) (nI tpn) u) H locs := hw1
  refine lv_astore_n (lv' := [(1, .ref (ad 0)), (0, .ref b)]) hx hb dL_law_17 rfl hl (by decide) rfl (fun ls hl => ?_)
  refine va_new (D := D) (ci := 1) (fs := [.int 0, .int 0, .null, .null, .null]) (C := RX2) (T := TX2) (N := 5) hx hb hts in_X2 tyX2 tyX2_ok B.1.2.2.2.1 (hts _ q150) (hts _ q151) (hts _ q19) hK1 hw.1 hw.2.1 hw.2.2.1 hw.2.2.2 rfl (fun j hj => by rcases (show j = 0 ∨ j = 1 ∨ j = 2 ∨ j = 3 ∨ j = 4 by omega) with rfl | rfl | rfl | rfl | rfl <;> rfl) (Nat.le_of_ble_eq_true rfl) (Nat.le_of_ble_eq_true rfl) dL_law_18 (fun q1 H hP hD hS => ?_)
  have hw : wd D (fun q : Nat => s.heap.size ≤ q) s.heap (svWu ad dA (nI nn) (nI tpn) u ++ [(q1, .inr (1, [.int 0, .int 0, .null, .null, .null]))]) H _ := ⟨hP, hD, hS, fun _ h => h⟩
  refine lv_dup hx hb dL_law_21 rfl ?_
  refine lv_aload_n hx hb dL_law_22 rfl (lv_at hl 1 rfl) ?_
  refine lv_iconst (v := nI 0) hx hb dL_law_23 (by decide) ?_
  refine s_cell (rest := [.ref q1, .ref q1]) B hX hbl hbA hL hw (j := 0) (by decide) ⟨by decide, by decide⟩ ⟨Nat.le_of_ble_eq_true rfl, Nat.le_of_ble_eq_true rfl⟩ hl.1 (Nat.le_of_ble_eq_true rfl) dL_law_24 (fun H locs hw => ?_)
  refine lv_aload_n hx hb dL_law_27 rfl (lv_at hl 1 rfl) ?_
  refine lv_iconst (v := nI 1) hx hb dL_law_28 (by decide) ?_
  refine s_cell (rest := [.int (if 0 < L then xs 0 else 0), .ref q1, .ref q1]) B hX hbl hbA hL hw (j := 1) (by decide) ⟨by decide, by decide⟩ ⟨Nat.le_of_ble_eq_true rfl, Nat.le_of_ble_eq_true rfl⟩ hl.1 (Nat.le_of_ble_eq_true rfl) dL_law_29 (fun H locs hw => ?_)
  rw [hp0, hp1]
  refine s_callN (As := [.int p0, .int p1]) (rest := [.ref q1]) (wr := (svWu ad dA (nI nn) (nI tpn) u)) (ct2_init l D q1 p0 p1) B hw [9] [0, 1, 2, 3, 4, 5, 6, 7, 8] rfl rfl (by decide) (by decide) (by decide) q19 q152 q153 q154 rfl cn2_init ⟨rfl, rfl, by decide, by decide⟩ ⟨Nat.le_of_ble_eq_true rfl, Nat.le_of_ble_eq_true rfl⟩ hl.1 (Nat.le_of_ble_eq_true rfl) dL_law_32 (fun u2 H locs hu hK2 hw2 => ?_)
  obtain ⟨am, dM, n2, t2, sh2, wt2, le⟩ := u2
  obtain ⟨f0, f1, f2, hst⟩ := hu
  have hK2 : va_K D vwCl (moT dM) s := hK2
  have f0 : am 0 = q1 := f0
  have f1 : n2 = sd_cl p0 := f1
  have f2 : t2 = sd_tp p1 n2 := f2
  have en : n2 = nn := by rw [f1, e1]
  subst en
  have et : t2 = tpn := by rw [f2, e2]
  subst et
  subst f0
  have hst : sd_ST n2 t2 (fun c => 2 ^ (c % n2)) (fun _ => 2) sh2 wt2 := hst
  have hw : wd D (fun q : Nat => s.heap.size ≤ q) s.heap (svWu ad dA (nI n2) (nI t2) u ++ moW am dM (nI n2) (nI t2) sh2 wt2 le) H locs := hw2
  refine lv_astore_n (lv' := [(2, .ref (am 0)), (1, .ref (ad 0)), (0, .ref b)]) hx hb dL_law_35 rfl hl (by decide) rfl (fun ls hl => ?_)
  refine lv_iconst (v := nI 2) hx hb dL_law_36 (by decide) ?_
  refine lv_istore_n (lv' := [(3, .int (nI 2)), (2, .ref (am 0)), (1, .ref (ad 0)), (0, .ref b)]) hx hb dL_law_37 rfl hl (by decide) rfl (fun ls hl => ?_)
  refine W.widen (k := 600000) (n := 7290000) (Nat.le_of_ble_eq_true rfl) (Nat.le_of_ble_eq_true rfl) ?_
  exact law_loop hL hX hbl B hK2 (L + 1) 2 _ _ u sh2 wt2 le H locs ls (by omega) (by omega) hsi hst hw (lv_sub hl [3, 2, 1, 0] rfl)
end
section
/-! THE CLAIM (skeleton) -/
set_option maxRecDepth 100000
set_option maxHeartbeats 4000000 in
theorem lw_walk (l : Launch) (b : Addr) (xs : List Int32) : MetFree l x (headSpec (Jvm.Cond.code x code maxLocals ret :: tables_1) room_1) (lw_P b xs) (fun _ _ _ _ _ => True) lw_Q := by
  refine MetFree.of_bodyS (code := code) (maxLocals := maxLocals) (ret := ret) (by decide) ?_ ?_
  · intro args s m h hn
    obtain ⟨meth, c, h1, h2, h3, h4, h5, h6, -, -⟩ := Cond.code_spec hn (atoms_spec (ws := Jvm.Cond.code x code maxLocals ret :: tables_1) h _ List.mem_cons_self)
    exact ⟨meth, c, h1, h2, h3, h4, h5, h6⟩
  · intro p e s m args below meth c s₁ B hml0 hP _
    obtain ⟨rfl, hx, hbd, hgv⟩ := hP
    obtain ⟨scr, harrAt, hlist, hof, hsmall⟩ := hx
    obtain ⟨hcb, hkn, -, -⟩ := State.arrayAt?_spec harrAt
    have hown : s.vm.findClass R_law = some m.cls := findClass_of_methodNamed B.named
    have hts0 : ∀ c ∈ (Jvm.Cond.code x code maxLocals ret :: tables_1), c.before #[Value.ref b] s = true := atoms_spec (ws := Jvm.Cond.code x code maxLocals ret :: tables_1) B.pre
    have hts : ∀ w ∈ lw_tbl, w.before #[Value.ref b] s = true := k2_hts_sels lw_privs (fun w hw => hts0 w (List.mem_cons_of_mem _ hw)) lw_privs_ok
    have hml : c.maxLocals = 4 := B.maxLocals_eq (hts0 _ List.mem_cons_self)
    have X₀ : Stand p l e room_1 s m #[Value.ref b] below meth c s₁ [] 0 0 := Stand.of_body B
    have hh0 : s₁.heap = s.heap := by rw [B.state]; rfl
    have hsz : scr.slots.size = xs.length := by rw [← Array.length_toList, hlist, List.length_map]
    have hval : ∀ j : Nat, j < xs.length → scr.slots[j]? = some (.int (xs.getD j 0)) := fun j hj => by
      rw [← Array.getElem?_toList, hlist]
      simp [hj]
    have hbl : b < s.heap.size := (Array.getElem?_eq_some_iff.mp hcb).1
    have hX : va_X b xs.length (fun j => xs.getD j 0) s s.heap := ⟨scr, hcb, hof, hkn, hsz, hval⟩
    have K : W p l e room_1 s m #[Value.ref b] below meth c s₁.heap [] 0 0 (lw_Z below #[Value.ref b] s) (entryFrame m ([Value.ref b] : List Value).toArray 4) := by
      rw [hh0]
      exact whole_start l hbd ⟨B.exec, B.bytes, B.returns, hml, hown, hts, hX, hbl, B.notSynchronized, hgv⟩
    obtain ⟨t, a1, o, b1, b2, b3⟩ := K s₁ rfl X₀
    exact ⟨t, o, a1, b1, b2, b3⟩
theorem lw_pre_spec {args : Array Value} {s : State} (h : (Jvm.Cond.and given_1 narrow_1).before args s = true) (hr : rest_1_c.before args s = true) : ∃ (b : Addr) (xs : List Int32), lw_P b xs args s := by
  have hs := flat_of_before _ h
  have hq := flat_of_before _ hr
  have hc : (Cond.count 1).before args s = true := hs _ (by decide +kernel)
  have harr : (Cond.arrayOf (.arg 0) .int).before args s = true := hs _ (by decide +kernel)
  have hle : (Cond.le (.length (.arg 0)) (.int 322)).before args s = true := hs _ (by decide +kernel)
  have hlen : (Cond.isInt (.length (.arg 0))).before args s = true := hq _ (by decide +kernel)
  have hall : (Cond.all (.arg 0) (.isInt (.elem (.arg 0) (.index 0)))).before args s = true := hq _ (by decide +kernel)
  obtain ⟨b, xs, hb, hx⟩ := State.ints_of_pre rfl harr hlen hall
  have hsm : xs.length < 2 ^ 31 := hx.choose_spec.2.2.2
  have hev : (Term.length (.arg 0)).eval args s none [] s = some (.int xs.length.toInt32) := hx.length_eval hb
  have hv := Cond.le_ints hev (show (Term.int 322).eval args s none [] s = some (.int 322) from rfl)
  have hd : xs.length.toInt32 ≤ 322 := by
    simpa [Cond.before, Cond.holds, hv] using hle
  have hN : xs.length ≤ 322 := (Int32.ofNat_le_ofNat hsm (by decide)).mp (show Int32.ofNat xs.length ≤ Int32.ofNat 322 from hd)
  exact ⟨b, xs, Cond.one_arg hc (show args[0]? = some (.ref b) from hb), hx, hN, h⟩
theorem lw_comes (l : Launch) : Comes l x (Jvm.Cond.code x code maxLocals ret :: tables_1) room_1 (fun tb e args s => Calls_1 tb e args s ∧ rest_1 tb e args s ∧ Pre_1 tb e args s)
    (fun _ _ args s o t => lw_Q args s o t) := by
  intro p e ha hc hk s m args below hf hfit hheap happ hpre
  obtain ⟨b, xs, hP⟩ := lw_pre_spec hpre.2.2 hpre.2.1
  obtain ⟨k, o, h1, h2, h3, hQ⟩ := lw_walk l b xs p e ha hc hk s m args below hf ((Spec.applies_iff_loose hf).mp happ).1 hP trivial
  exact ⟨k, o, h1, h2, h3, hQ⟩
theorem lw_frame {s t : State} {o : Outcome} {args : Array Value} (h : Framed s o t [] 600000 7290000) :
    Framed s o t (fieldLocs frame_1_writes args s ++ arrayLocs frame_1_arrays args s ++ staticLocs frame_1_statics s) 600000 7290000 := h
theorem lw_limb (L : Cond) (hL : ∀ (args : Array Value) (s t : State), L.after args s (.returned (some (.int 1))) t = true) :
    ArmFor flags0 classFile x code maxLocals ret World_1 tables_1 room_1 Calls_1 rest_1 Pre_1
      (fun tb e a s o t => postC L tb e a s o t ∧ Framed s o t (fieldLocs frame_1_writes a s ++ arrayLocs frame_1_arrays a s ++ staticLocs frame_1_statics s) 600000 7290000) := by
  intro l _ _ _ p e ha hc hk s m args below hf hfit hheap happ hpre
  obtain ⟨k, o, h1, h2, h3, rfl, hF⟩ := lw_comes l p e ha hc hk s m args below hf hfit hheap happ hpre
  exact ⟨k, _, h1, h2, h3, hL args s _, lw_frame hF⟩
theorem i_vc : Claimed_1_1 ∧ Claimed_1_2 := ⟨lw_limb limb_1_1 (fun args s t => by simp [limb_1_1, Cond.after, Cond.holds, Cond.value]), lw_limb limb_1_2 (fun args s t => Cond.after_iff.mpr (by
  first | (rw [show limb_1_2 = Cond.eq .result (.int 1) from rfl, Cond.eq_ints (x := 1) (y := 1) rfl rfl]; simp; done) | (simp [limb_1_2, Cond.value, Term.eval]; done)))⟩
end
