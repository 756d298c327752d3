section
-- ===== PART A: goes FIRST, ahead of the names: the tables' words, and 'selects' of the private methods out of them =====
/-- a private method of a class that the tables say can be made, by its rows of tables_1 -/
def lw_okq (q : MethodName × Nat) : Prop := (q.1.cls ≠ "java/lang/invoke/MethodHandle" ∧ q.1.cls ≠ "java/lang/invoke/VarHandle") ∧ Cond.instantiable q.1.cls q.2 ∈ tables_1 ∧ Cond.privateMethod q.1 ∈ tables_1 ∧ Cond.instanceMethod q.1 ∈ tables_1
set_option maxRecDepth 100000
theorem lw_t1 {w : Cond} (h : w ∈ tables_1_1) : w ∈ tables_1 := List.mem_append_left _ h
theorem lw_t2 {w : Cond} (h : w ∈ tables_1_2) : w ∈ tables_1 := List.mem_append_right _ h
theorem lw_p0 : lw_okq (⟨"CodeSearcher", "allowed", "(I)Z"⟩, 22) := ⟨⟨by decide +kernel, by decide +kernel⟩, lw_t1 (List.mem_of_getElem? (i := 4) rfl), lw_t1 (List.mem_of_getElem? (i := 85) rfl), lw_t1 (List.mem_of_getElem? (i := 86) rfl)⟩
theorem lw_p1 : lw_okq (⟨"CodeSearcher", "addWord", "(II)V"⟩, 22) := ⟨⟨by decide +kernel, by decide +kernel⟩, lw_t1 (List.mem_of_getElem? (i := 4) rfl), lw_t1 (List.mem_of_getElem? (i := 89) rfl), lw_t1 (List.mem_of_getElem? (i := 90) rfl)⟩
theorem lw_p2 : lw_okq (⟨"CodeSearcher", "patternChanged", "()V"⟩, 22) := ⟨⟨by decide +kernel, by decide +kernel⟩, lw_t1 (List.mem_of_getElem? (i := 4) rfl), lw_t1 (List.mem_of_getElem? (i := 101) rfl), lw_t1 (List.mem_of_getElem? (i := 102) rfl)⟩
theorem lw_p3 : lw_okq (⟨"CodeSearcher", "isWord", "(I)Z"⟩, 22) := ⟨⟨by decide +kernel, by decide +kernel⟩, lw_t1 (List.mem_of_getElem? (i := 4) rfl), lw_t1 (List.mem_of_getElem? (i := 125) rfl), lw_t1 (List.mem_of_getElem? (i := 126) rfl)⟩
theorem lw_p4 : lw_okq (⟨"CodeSearcher", "symbolIn", "(II)I"⟩, 22) := ⟨⟨by decide +kernel, by decide +kernel⟩, lw_t1 (List.mem_of_getElem? (i := 4) rfl), lw_t1 (List.mem_of_getElem? (i := 133) rfl), lw_t1 (List.mem_of_getElem? (i := 134) rfl)⟩
theorem lw_p5 : lw_okq (⟨"CodeSearcher", "scan", "()V"⟩, 22) := ⟨⟨by decide +kernel, by decide +kernel⟩, lw_t1 (List.mem_of_getElem? (i := 4) rfl), lw_t1 (List.mem_of_getElem? (i := 149) rfl), lw_t1 (List.mem_of_getElem? (i := 150) rfl)⟩
theorem lw_p6 : lw_okq (⟨"CodeSearcher", "fillTables", "()V"⟩, 22) := ⟨⟨by decide +kernel, by decide +kernel⟩, lw_t1 (List.mem_of_getElem? (i := 4) rfl), lw_t1 (List.mem_of_getElem? (i := 153) rfl), lw_t1 (List.mem_of_getElem? (i := 154) rfl)⟩
theorem lw_p7 : lw_okq (⟨"CodeSearcher", "buildMachine", "()V"⟩, 22) := ⟨⟨by decide +kernel, by decide +kernel⟩, lw_t1 (List.mem_of_getElem? (i := 4) rfl), lw_t1 (List.mem_of_getElem? (i := 157) rfl), lw_t1 (List.mem_of_getElem? (i := 158) rfl)⟩
theorem lw_p8 : lw_okq (⟨"CodeSearcher", "fillCell", "(II)V"⟩, 22) := ⟨⟨by decide +kernel, by decide +kernel⟩, lw_t1 (List.mem_of_getElem? (i := 4) rfl), lw_t1 (List.mem_of_getElem? (i := 161) rfl), lw_t1 (List.mem_of_getElem? (i := 162) rfl)⟩
theorem lw_p9 : lw_okq (⟨"CodeSearcher", "pass", "(II)V"⟩, 22) := ⟨⟨by decide +kernel, by decide +kernel⟩, lw_t1 (List.mem_of_getElem? (i := 4) rfl), lw_t1 (List.mem_of_getElem? (i := 165) rfl), lw_t1 (List.mem_of_getElem? (i := 166) rfl)⟩
theorem lw_p10 : lw_okq (⟨"CodeSearcherModel", "lengthOf", "(I)I"⟩, 9) := ⟨⟨by decide +kernel, by decide +kernel⟩, lw_t1 (List.mem_of_getElem? (i := 189) rfl), lw_t1 (List.mem_of_getElem? (i := 228) rfl), lw_t1 (List.mem_of_getElem? (i := 229) rfl)⟩
theorem lw_p11 : lw_okq (⟨"CodeSearcherModel", "symbolOf", "(II)I"⟩, 9) := ⟨⟨by decide +kernel, by decide +kernel⟩, lw_t1 (List.mem_of_getElem? (i := 189) rfl), lw_t1 (List.mem_of_getElem? (i := 232) rfl), lw_t1 (List.mem_of_getElem? (i := 233) rfl)⟩
theorem lw_p12 : lw_okq (⟨"CodeSearcherModel", "between", "(II)I"⟩, 9) := ⟨⟨by decide +kernel, by decide +kernel⟩, lw_t1 (List.mem_of_getElem? (i := 189) rfl), lw_t2 (List.mem_of_getElem? (i := 40) rfl), lw_t2 (List.mem_of_getElem? (i := 41) rfl)⟩
theorem lw_p13 : lw_okq (⟨"CodeSearcherModel", "at", "(I)Z"⟩, 9) := ⟨⟨by decide +kernel, by decide +kernel⟩, lw_t1 (List.mem_of_getElem? (i := 189) rfl), lw_t2 (List.mem_of_getElem? (i := 44) rfl), lw_t2 (List.mem_of_getElem? (i := 45) rfl)⟩
def lw_privs_1 : List (MethodName × Nat) := [(⟨"CodeSearcher", "allowed", "(I)Z"⟩, 22), (⟨"CodeSearcher", "addWord", "(II)V"⟩, 22), (⟨"CodeSearcher", "patternChanged", "()V"⟩, 22), (⟨"CodeSearcher", "isWord", "(I)Z"⟩, 22), (⟨"CodeSearcher", "symbolIn", "(II)I"⟩, 22), (⟨"CodeSearcher", "scan", "()V"⟩, 22), (⟨"CodeSearcher", "fillTables", "()V"⟩, 22), (⟨"CodeSearcher", "buildMachine", "()V"⟩, 22), (⟨"CodeSearcher", "fillCell", "(II)V"⟩, 22), (⟨"CodeSearcher", "pass", "(II)V"⟩, 22), (⟨"CodeSearcherModel", "lengthOf", "(I)I"⟩, 9), (⟨"CodeSearcherModel", "symbolOf", "(II)I"⟩, 9), (⟨"CodeSearcherModel", "between", "(II)I"⟩, 9), (⟨"CodeSearcherModel", "at", "(I)Z"⟩, 9)]
theorem lw_r1 : ∀ q ∈ lw_privs_1, lw_okq q := List.forall_mem_cons.mpr ⟨lw_p0, List.forall_mem_cons.mpr ⟨lw_p1, List.forall_mem_cons.mpr ⟨lw_p2, List.forall_mem_cons.mpr ⟨lw_p3, List.forall_mem_cons.mpr ⟨lw_p4, List.forall_mem_cons.mpr ⟨lw_p5, List.forall_mem_cons.mpr ⟨lw_p6, List.forall_mem_cons.mpr ⟨lw_p7, List.forall_mem_cons.mpr ⟨lw_p8, List.forall_mem_cons.mpr ⟨lw_p9, List.forall_mem_cons.mpr ⟨lw_p10, List.forall_mem_cons.mpr ⟨lw_p11, List.forall_mem_cons.mpr ⟨lw_p12, List.forall_mem_cons.mpr ⟨lw_p13, fun _ h => absurd h List.not_mem_nil⟩⟩⟩⟩⟩⟩⟩⟩⟩⟩⟩⟩⟩⟩
def lw_privs : List (MethodName × Nat) := lw_privs_1
def lw_tbl : List Cond := k2_sels lw_privs ++ tables_1
theorem lw_privs_ok : ∀ q ∈ lw_privs, lw_okq q := lw_r1
-- ===== ONE list of words for every method: the tables' words that hold all through a run =====
def lw_all : List Cond := lw_tbl.filter goodWord
/-- a word of the tables by its place: claim/WORDS.tsv -/
theorem lw_w {w : Cond} (i : Nat) (h : lw_tbl[i]? = some w) (g : goodWord w = true) : w ∈ lw_all := List.mem_filter.mpr ⟨List.mem_of_getElem? h, g⟩
theorem lw_all_tbl {w : Cond} (h : w ∈ lw_all) : w ∈ lw_tbl := (List.mem_filter.mp h).1
theorem lw_self : GoodIn lw_all lw_all := fun w h => ⟨h, good_of_word (List.mem_filter.mp h).2⟩
/-- a class's field words, by their places -/
theorem lw_in (ws : List Cond) (ps : List Nat) (hp : ws = ps.filterMap (fun i => lw_tbl[i]?)) (hg : ws.all goodWord = true) : ∀ w ∈ ws, w ∈ lw_all := by
  intro w h
  have h1 := List.all_eq_true.mp hg w h
  rw [hp] at h
  obtain ⟨i, -, hi⟩ := List.mem_filterMap.mp h
  exact lw_w i hi h1
/-- the words of a contract for the method y with code b, L locals, answer r -/
abbrev ws_ (y : MethodName) (b : ByteArray) (L : Nat) (r : Option FieldType) : List Cond := Cond.code y b L r :: lw_all
theorem lw_meth {y : MethodName} {b : ByteArray} {L : Nat} {r : Option FieldType} (h : Cond.code y b L r ∈ lw_all) : GoodIn lw_all (ws_ y b L r) := by
  intro w hw
  rcases List.mem_cons.mp hw with e | e
  · rw [e]
    exact lw_self _ h
  · exact lw_self _ e
theorem lw_app {a c : List Cond} (ha : ∀ w ∈ a, w ∈ lw_all) (hc : GoodIn lw_all c) : GoodIn lw_all (a ++ c) := by
  intro w hw
  rcases List.mem_append.mp hw with e | e
  · exact lw_self w (ha w e)
  · exact hc w e
/-- what a call through an object asks: cwV n hts (lw_V ..) -/
theorem lw_V {own : String} {idx : Nat} {C : String} {y : MethodName} {b : ByteArray} {L : Nat} {r : Option FieldType} (h1 : Cond.methodLink own idx y ∈ lw_all) (h2 : Cond.instanceMethod y ∈ lw_all) (h3 : Cond.selects C y y ∈ lw_all) (h4 : Cond.initialized C ∈ lw_all) (h5 : Cond.code y b L r ∈ lw_all) : GoodIn lw_all (wsV own idx C y (ws_ y b L r)) := by
  refine lw_app ?_ (lw_meth h5)
  intro w hw
  simp only [List.mem_cons, List.not_mem_nil, or_false] at hw
  rcases hw with e | e | e | e
  · rw [e]; exact h1
  · rw [e]; exact h2
  · rw [e]; exact h3
  · rw [e]; exact h4
/-- what a static call asks: va_cwS n hts (lw_S ..) -/
theorem lw_S {own : String} {idx : Nat} {y : MethodName} {b : ByteArray} {L : Nat} {r : Option FieldType} (h1 : Cond.methodLink own idx y ∈ lw_all) (h2 : Cond.static y ∈ lw_all) (h3 : Cond.initialized y.cls ∈ lw_all) (h4 : Cond.code y b L r ∈ lw_all) : GoodIn lw_all (va_wsS own idx y (ws_ y b L r)) := by
  refine lw_app ?_ (lw_meth h4)
  intro w hw
  simp only [List.mem_cons, List.not_mem_nil, or_false] at hw
  rcases hw with e | e | e
  · rw [e]; exact h1
  · rw [e]; exact h2
  · rw [e]; exact h3
/-- the words of a contract for a method WITH HANDLERS (hh: its table) -/
abbrev wsW_ (y : MethodName) (b : ByteArray) (L : Nat) (r : Option FieldType) (hh : List (Nat × Nat × Nat × Nat)) : List Cond := Cond.codeWith y b L r hh :: lw_all
theorem lw_methW {y : MethodName} {b : ByteArray} {L : Nat} {r : Option FieldType} {hh : List (Nat × Nat × Nat × Nat)} (h : Cond.codeWith y b L r hh ∈ lw_all) : GoodIn lw_all (wsW_ y b L r hh) := by
  intro w hw
  rcases List.mem_cons.mp hw with e | e
  · rw [e]
    exact lw_self _ h
  · exact lw_self _ e
/-- any list of words by their places (lw_in), good -/
theorem lw_good {ws : List Cond} (h : ∀ w ∈ ws, w ∈ lw_all) : GoodIn lw_all ws := fun w hw => lw_self w (h w hw)
/-- what a call of a method with handlers asks: vx_cwVW n hts (lw_VW ..), vx_cwSW n hts (lw_SW ..) -/
theorem lw_VW {own : String} {idx : Nat} {C : String} {y : MethodName} {b : ByteArray} {L : Nat} {r : Option FieldType} {hh : List (Nat × Nat × Nat × Nat)} (h1 : Cond.methodLink own idx y ∈ lw_all) (h2 : Cond.instanceMethod y ∈ lw_all) (h3 : Cond.selects C y y ∈ lw_all) (h4 : Cond.initialized C ∈ lw_all) (h5 : Cond.codeWith y b L r hh ∈ lw_all) : GoodIn lw_all (wsV own idx C y (wsW_ y b L r hh)) := by
  refine lw_app ?_ (lw_methW h5)
  intro w hw
  simp only [List.mem_cons, List.not_mem_nil, or_false] at hw
  rcases hw with e | e | e | e
  · rw [e]; exact h1
  · rw [e]; exact h2
  · rw [e]; exact h3
  · rw [e]; exact h4
theorem lw_SW {own : String} {idx : Nat} {y : MethodName} {b : ByteArray} {L : Nat} {r : Option FieldType} {hh : List (Nat × Nat × Nat × Nat)} (h1 : Cond.methodLink own idx y ∈ lw_all) (h2 : Cond.static y ∈ lw_all) (h3 : Cond.initialized y.cls ∈ lw_all) (h4 : Cond.codeWith y b L r hh ∈ lw_all) : GoodIn lw_all (va_wsS own idx y (wsW_ y b L r hh)) := by
  refine lw_app ?_ (lw_methW h4)
  intro w hw
  simp only [List.mem_cons, List.not_mem_nil, or_false] at hw
  rcases hw with e | e | e
  · rw [e]; exact h1
  · rw [e]; exact h2
  · rw [e]; exact h3
/-- a word by its place in its run of the tables -/
theorem lw_at {r : List Cond} (hr : ∀ w ∈ r, w ∈ lw_tbl) {w : Cond} (i : Nat) (h : r[i]? = some w) : w ∈ lw_tbl := hr w (List.mem_of_getElem? h)
theorem lw_g {w : Cond} (h : w ∈ lw_tbl) (g : goodWord w = true) : w ∈ lw_all := List.mem_filter.mpr ⟨h, g⟩
theorem lw_ms : ∀ w ∈ k2_sels lw_privs, w ∈ lw_tbl := fun w h => show w ∈ k2_sels lw_privs ++ tables_1 from List.mem_append_left _ h
theorem lw_m1 : ∀ w ∈ tables_1_1, w ∈ lw_tbl := fun w h => show w ∈ k2_sels lw_privs ++ tables_1 from List.mem_append_right (k2_sels lw_privs) (show w ∈ tables_1 from List.mem_append_left _ h)
theorem lw_m2 : ∀ w ∈ tables_1_2, w ∈ lw_tbl := fun w h => show w ∈ k2_sels lw_privs ++ tables_1 from List.mem_append_right (k2_sels lw_privs) (show w ∈ tables_1 from List.mem_append_right _ h)
theorem qs0 : (Cond.selects "CodeSearcher" ⟨"CodeSearcher", "allowed", "(I)Z"⟩ ⟨"CodeSearcher", "allowed", "(I)Z"⟩) ∈ lw_all := lw_g (lw_at lw_ms 0 rfl) rfl
theorem qs1 : (Cond.selects "CodeSearcher" ⟨"CodeSearcher", "addWord", "(II)V"⟩ ⟨"CodeSearcher", "addWord", "(II)V"⟩) ∈ lw_all := lw_g (lw_at lw_ms 1 rfl) rfl
theorem qs2 : (Cond.selects "CodeSearcher" ⟨"CodeSearcher", "patternChanged", "()V"⟩ ⟨"CodeSearcher", "patternChanged", "()V"⟩) ∈ lw_all := lw_g (lw_at lw_ms 2 rfl) rfl
theorem qs3 : (Cond.selects "CodeSearcher" ⟨"CodeSearcher", "isWord", "(I)Z"⟩ ⟨"CodeSearcher", "isWord", "(I)Z"⟩) ∈ lw_all := lw_g (lw_at lw_ms 3 rfl) rfl
theorem qs4 : (Cond.selects "CodeSearcher" ⟨"CodeSearcher", "symbolIn", "(II)I"⟩ ⟨"CodeSearcher", "symbolIn", "(II)I"⟩) ∈ lw_all := lw_g (lw_at lw_ms 4 rfl) rfl
theorem qs5 : (Cond.selects "CodeSearcher" ⟨"CodeSearcher", "scan", "()V"⟩ ⟨"CodeSearcher", "scan", "()V"⟩) ∈ lw_all := lw_g (lw_at lw_ms 5 rfl) rfl
theorem qs6 : (Cond.selects "CodeSearcher" ⟨"CodeSearcher", "fillTables", "()V"⟩ ⟨"CodeSearcher", "fillTables", "()V"⟩) ∈ lw_all := lw_g (lw_at lw_ms 6 rfl) rfl
theorem qs7 : (Cond.selects "CodeSearcher" ⟨"CodeSearcher", "buildMachine", "()V"⟩ ⟨"CodeSearcher", "buildMachine", "()V"⟩) ∈ lw_all := lw_g (lw_at lw_ms 7 rfl) rfl
theorem qs8 : (Cond.selects "CodeSearcher" ⟨"CodeSearcher", "fillCell", "(II)V"⟩ ⟨"CodeSearcher", "fillCell", "(II)V"⟩) ∈ lw_all := lw_g (lw_at lw_ms 8 rfl) rfl
theorem qs9 : (Cond.selects "CodeSearcher" ⟨"CodeSearcher", "pass", "(II)V"⟩ ⟨"CodeSearcher", "pass", "(II)V"⟩) ∈ lw_all := lw_g (lw_at lw_ms 9 rfl) rfl
theorem qs10 : (Cond.selects "CodeSearcherModel" ⟨"CodeSearcherModel", "lengthOf", "(I)I"⟩ ⟨"CodeSearcherModel", "lengthOf", "(I)I"⟩) ∈ lw_all := lw_g (lw_at lw_ms 10 rfl) rfl
theorem qs11 : (Cond.selects "CodeSearcherModel" ⟨"CodeSearcherModel", "symbolOf", "(II)I"⟩ ⟨"CodeSearcherModel", "symbolOf", "(II)I"⟩) ∈ lw_all := lw_g (lw_at lw_ms 11 rfl) rfl
theorem qs12 : (Cond.selects "CodeSearcherModel" ⟨"CodeSearcherModel", "between", "(II)I"⟩ ⟨"CodeSearcherModel", "between", "(II)I"⟩) ∈ lw_all := lw_g (lw_at lw_ms 12 rfl) rfl
theorem qs13 : (Cond.selects "CodeSearcherModel" ⟨"CodeSearcherModel", "at", "(I)Z"⟩ ⟨"CodeSearcherModel", "at", "(I)Z"⟩) ∈ lw_all := lw_g (lw_at lw_ms 13 rfl) rfl
end
section
set_option maxRecDepth 100000
/-! java/lang/Object -/
def RJ0 : String := "java/lang/Object"
abbrev cJ0_init : ByteArray := object_method_1_code
def yJ0_init : MethodName := ⟨RJ0, "<init>", "()V"⟩
theorem q23 : (Jvm.Cond.instanceMethod ({ cls := "java/lang/Object", name := "<init>", desc := "()V" } : Jvm.MethodName)) ∈ lw_all := lw_g (lw_at lw_m1 9 rfl) rfl
theorem q24 : (Jvm.Cond.code ({ cls := "java/lang/Object", name := "<init>", desc := "()V" } : Jvm.MethodName) object_method_1_code (1 : Nat) (Option.none : Option Jvm.ClassFile.FieldType)) ∈ lw_all := lw_g (lw_at lw_m1 10 rfl) rfl
theorem q14 : (Jvm.Cond.initialized "CodeSearcherLaw") ∈ lw_all := lw_g (lw_at lw_m1 0 rfl) rfl
theorem q17 : (Jvm.Cond.classLink "CodeSearcherLaw" (7 : Nat) "CodeSearcher") ∈ lw_all := lw_g (lw_at lw_m1 3 rfl) rfl
theorem q19 : (Jvm.Cond.methodLink "CodeSearcherLaw" (9 : Nat) ({ cls := "CodeSearcher", name := "<init>", desc := "()V" } : Jvm.MethodName)) ∈ lw_all := lw_g (lw_at lw_m1 5 rfl) rfl
theorem q94 : (Jvm.Cond.methodLink "CodeSearcherLaw" (13 : Nat) ({ cls := "CodeSearcher", name := "feed", desc := "(I)I" } : Jvm.MethodName)) ∈ lw_all := lw_g (lw_at lw_m1 80 rfl) rfl
theorem q106 : (Jvm.Cond.methodLink "CodeSearcherLaw" (18 : Nat) ({ cls := "CodeSearcher", name := "restart", desc := "()V" } : Jvm.MethodName)) ∈ lw_all := lw_g (lw_at lw_m1 92 rfl) rfl
theorem q110 : (Jvm.Cond.methodLink "CodeSearcherLaw" (22 : Nat) ({ cls := "CodeSearcher", name := "extend", desc := "(I)Z" } : Jvm.MethodName)) ∈ lw_all := lw_g (lw_at lw_m1 96 rfl) rfl
theorem q118 : (Jvm.Cond.methodLink "CodeSearcherLaw" (27 : Nat) ({ cls := "CodeSearcher", name := "shorten", desc := "()I" } : Jvm.MethodName)) ∈ lw_all := lw_g (lw_at lw_m1 104 rfl) rfl
theorem q122 : (Jvm.Cond.methodLink "CodeSearcherLaw" (32 : Nat) ({ cls := "CodeSearcher", name := "pattern", desc := "()I" } : Jvm.MethodName)) ∈ lw_all := lw_g (lw_at lw_m1 108 rfl) rfl
theorem q126 : (Jvm.Cond.methodLink "CodeSearcherLaw" (36 : Nat) ({ cls := "CodeSearcher", name := "codes", desc := "()I" } : Jvm.MethodName)) ∈ lw_all := lw_g (lw_at lw_m1 112 rfl) rfl
theorem q130 : (Jvm.Cond.methodLink "CodeSearcherLaw" (40 : Nat) ({ cls := "CodeSearcher", name := "words", desc := "()I" } : Jvm.MethodName)) ∈ lw_all := lw_g (lw_at lw_m1 116 rfl) rfl
theorem q134 : (Jvm.Cond.methodLink "CodeSearcherLaw" (44 : Nat) ({ cls := "CodeSearcher", name := "wordLength", desc := "(I)I" } : Jvm.MethodName)) ∈ lw_all := lw_g (lw_at lw_m1 120 rfl) rfl
theorem q142 : (Jvm.Cond.methodLink "CodeSearcherLaw" (48 : Nat) ({ cls := "CodeSearcher", name := "wordSymbol", desc := "(II)I" } : Jvm.MethodName)) ∈ lw_all := lw_g (lw_at lw_m1 128 rfl) rfl
theorem q150 : (Jvm.Cond.methodLink "CodeSearcherLaw" (53 : Nat) ({ cls := "CodeSearcher", name := "length", desc := "()I" } : Jvm.MethodName)) ∈ lw_all := lw_g (lw_at lw_m1 136 rfl) rfl
theorem q154 : (Jvm.Cond.methodLink "CodeSearcherLaw" (57 : Nat) ({ cls := "CodeSearcher", name := "symbol", desc := "(I)I" } : Jvm.MethodName)) ∈ lw_all := lw_g (lw_at lw_m1 140 rfl) rfl
theorem q158 : (Jvm.Cond.methodLink "CodeSearcherLaw" (61 : Nat) ({ cls := "CodeSearcher", name := "count", desc := "()I" } : Jvm.MethodName)) ∈ lw_all := lw_g (lw_at lw_m1 144 rfl) rfl
theorem q182 : (Jvm.Cond.methodLink "CodeSearcherLaw" (65 : Nat) ({ cls := "CodeSearcher", name := "first", desc := "()I" } : Jvm.MethodName)) ∈ lw_all := lw_g (lw_at lw_m1 168 rfl) rfl
theorem q186 : (Jvm.Cond.methodLink "CodeSearcherLaw" (69 : Nat) ({ cls := "CodeSearcher", name := "last", desc := "()I" } : Jvm.MethodName)) ∈ lw_all := lw_g (lw_at lw_m1 172 rfl) rfl
theorem q190 : (Jvm.Cond.methodLink "CodeSearcherLaw" (73 : Nat) ({ cls := "CodeSearcher", name := "tail", desc := "()I" } : Jvm.MethodName)) ∈ lw_all := lw_g (lw_at lw_m1 176 rfl) rfl
theorem q194 : (Jvm.Cond.methodLink "CodeSearcherLaw" (77 : Nat) ({ cls := "CodeSearcher", name := "within", desc := "()I" } : Jvm.MethodName)) ∈ lw_all := lw_g (lw_at lw_m1 180 rfl) rfl
theorem q198 : (Jvm.Cond.methodLink "CodeSearcherLaw" (81 : Nat) ({ cls := "CodeSearcher", name := "endingIn", desc := "(I)I" } : Jvm.MethodName)) ∈ lw_all := lw_g (lw_at lw_m1 184 rfl) rfl
theorem q202 : (Jvm.Cond.classLink "CodeSearcherLaw" (10 : Nat) "CodeSearcherModel") ∈ lw_all := lw_g (lw_at lw_m1 188 rfl) rfl
theorem q204 : (Jvm.Cond.methodLink "CodeSearcherLaw" (12 : Nat) ({ cls := "CodeSearcherModel", name := "<init>", desc := "()V" } : Jvm.MethodName)) ∈ lw_all := lw_g (lw_at lw_m1 190 rfl) rfl
theorem q237 : (Jvm.Cond.methodLink "CodeSearcherLaw" (17 : Nat) ({ cls := "CodeSearcherModel", name := "feed", desc := "(I)I" } : Jvm.MethodName)) ∈ lw_all := lw_g (lw_at lw_m1 223 rfl) rfl
theorem q249 : (Jvm.Cond.methodLink "CodeSearcherLaw" (21 : Nat) ({ cls := "CodeSearcherModel", name := "restart", desc := "()V" } : Jvm.MethodName)) ∈ lw_all := lw_g (lw_at lw_m1 235 rfl) rfl
theorem q253 : (Jvm.Cond.methodLink "CodeSearcherLaw" (26 : Nat) ({ cls := "CodeSearcherModel", name := "extend", desc := "(I)Z" } : Jvm.MethodName)) ∈ lw_all := lw_g (lw_at lw_m1 239 rfl) rfl
theorem q257 : (Jvm.Cond.methodLink "CodeSearcherLaw" (31 : Nat) ({ cls := "CodeSearcherModel", name := "shorten", desc := "()I" } : Jvm.MethodName)) ∈ lw_all := lw_g (lw_at lw_m2 3 rfl) rfl
theorem q261 : (Jvm.Cond.methodLink "CodeSearcherLaw" (35 : Nat) ({ cls := "CodeSearcherModel", name := "pattern", desc := "()I" } : Jvm.MethodName)) ∈ lw_all := lw_g (lw_at lw_m2 7 rfl) rfl
theorem q265 : (Jvm.Cond.methodLink "CodeSearcherLaw" (39 : Nat) ({ cls := "CodeSearcherModel", name := "codes", desc := "()I" } : Jvm.MethodName)) ∈ lw_all := lw_g (lw_at lw_m2 11 rfl) rfl
theorem q269 : (Jvm.Cond.methodLink "CodeSearcherLaw" (43 : Nat) ({ cls := "CodeSearcherModel", name := "words", desc := "()I" } : Jvm.MethodName)) ∈ lw_all := lw_g (lw_at lw_m2 15 rfl) rfl
theorem q273 : (Jvm.Cond.methodLink "CodeSearcherLaw" (47 : Nat) ({ cls := "CodeSearcherModel", name := "wordLength", desc := "(I)I" } : Jvm.MethodName)) ∈ lw_all := lw_g (lw_at lw_m2 19 rfl) rfl
theorem q277 : (Jvm.Cond.methodLink "CodeSearcherLaw" (52 : Nat) ({ cls := "CodeSearcherModel", name := "wordSymbol", desc := "(II)I" } : Jvm.MethodName)) ∈ lw_all := lw_g (lw_at lw_m2 23 rfl) rfl
theorem q281 : (Jvm.Cond.methodLink "CodeSearcherLaw" (56 : Nat) ({ cls := "CodeSearcherModel", name := "length", desc := "()I" } : Jvm.MethodName)) ∈ lw_all := lw_g (lw_at lw_m2 27 rfl) rfl
theorem q285 : (Jvm.Cond.methodLink "CodeSearcherLaw" (60 : Nat) ({ cls := "CodeSearcherModel", name := "symbol", desc := "(I)I" } : Jvm.MethodName)) ∈ lw_all := lw_g (lw_at lw_m2 31 rfl) rfl
theorem q289 : (Jvm.Cond.methodLink "CodeSearcherLaw" (64 : Nat) ({ cls := "CodeSearcherModel", name := "count", desc := "()I" } : Jvm.MethodName)) ∈ lw_all := lw_g (lw_at lw_m2 35 rfl) rfl
theorem q301 : (Jvm.Cond.methodLink "CodeSearcherLaw" (68 : Nat) ({ cls := "CodeSearcherModel", name := "first", desc := "()I" } : Jvm.MethodName)) ∈ lw_all := lw_g (lw_at lw_m2 47 rfl) rfl
theorem q305 : (Jvm.Cond.methodLink "CodeSearcherLaw" (72 : Nat) ({ cls := "CodeSearcherModel", name := "last", desc := "()I" } : Jvm.MethodName)) ∈ lw_all := lw_g (lw_at lw_m2 51 rfl) rfl
theorem q309 : (Jvm.Cond.methodLink "CodeSearcherLaw" (76 : Nat) ({ cls := "CodeSearcherModel", name := "tail", desc := "()I" } : Jvm.MethodName)) ∈ lw_all := lw_g (lw_at lw_m2 55 rfl) rfl
theorem q313 : (Jvm.Cond.methodLink "CodeSearcherLaw" (80 : Nat) ({ cls := "CodeSearcherModel", name := "within", desc := "()I" } : Jvm.MethodName)) ∈ lw_all := lw_g (lw_at lw_m2 59 rfl) rfl
theorem q317 : (Jvm.Cond.methodLink "CodeSearcherLaw" (84 : Nat) ({ cls := "CodeSearcherModel", name := "endingIn", desc := "(I)I" } : Jvm.MethodName)) ∈ lw_all := lw_g (lw_at lw_m2 63 rfl) rfl
theorem q92 : (Jvm.Cond.arrayClass Jvm.ClassFile.FieldType.byte) ∈ lw_all := lw_g (lw_at lw_m1 78 rfl) rfl
theorem q93 : (Jvm.Cond.arrayClass Jvm.ClassFile.FieldType.short) ∈ lw_all := lw_g (lw_at lw_m1 79 rfl) rfl
theorem q236 : (Jvm.Cond.arrayClass Jvm.ClassFile.FieldType.int) ∈ lw_all := lw_g (lw_at lw_m1 222 rfl) rfl
/-! CodeSearcher -/
def RX0 : String := "CodeSearcher"
def TX0 : u_T := fun k => match k with
  | 0 => ("CodeSearcher", "wordCount", "I", false)
  | 1 => ("CodeSearcher", "shorter", "[B", true)
  | 2 => ("CodeSearcher", "lastSymbol", "[B", true)
  | 3 => ("CodeSearcher", "firstSymbol", "[B", true)
  | 4 => ("CodeSearcher", "lengths", "[S", true)
  | 5 => ("CodeSearcher", "taken", "[B", true)
  | 6 => ("CodeSearcher", "takenCount", "I", false)
  | 7 => ("CodeSearcher", "textLength", "I", false)
  | 8 => ("CodeSearcher", "symbols", "[B", true)
  | 9 => ("CodeSearcher", "size", "I", false)
  | 10 => ("CodeSearcher", "step", "[B", true)
  | 11 => ("CodeSearcher", "after", "[B", true)
  | 12 => ("CodeSearcher", "meets", "[S", true)
  | 13 => ("CodeSearcher", "firstEnd", "[S", true)
  | 14 => ("CodeSearcher", "lastEnd", "[S", true)
  | 15 => ("CodeSearcher", "tabled", "I", false)
  | 16 => ("CodeSearcher", "known", "Z", false)
  | 17 => ("CodeSearcher", "endState", "I", false)
  | 18 => ("CodeSearcher", "matchCount", "I", false)
  | 19 => ("CodeSearcher", "firstPlace", "I", false)
  | 20 => ("CodeSearcher", "lastPlace", "I", false)
  | _ => ("CodeSearcher", "insideCount", "I", false)
def tyX0 : Nat → FieldType := fun k => match k with
  | 0 => .int
  | 1 => .array .byte
  | 2 => .array .byte
  | 3 => .array .byte
  | 4 => .array .short
  | 5 => .array .byte
  | 6 => .int
  | 7 => .int
  | 8 => .array .byte
  | 9 => .int
  | 10 => .array .byte
  | 11 => .array .byte
  | 12 => .array .short
  | 13 => .array .short
  | 14 => .array .short
  | 15 => .int
  | 16 => .boolean
  | 17 => .int
  | 18 => .int
  | 19 => .int
  | 20 => .int
  | _ => .int
abbrev wsX00 : List Cond := u_ws RX0 TX0 22
set_option maxRecDepth 100000 in
theorem nmX0 : ∀ a, a < 22 → ∀ b, b < 22 → a ≠ b → (TX0 a).2.1 ≠ (TX0 b).2.1 := by decide +kernel
set_option maxRecDepth 100000 in
theorem tyX0_ok : ∀ k, k < 22 → parseFieldDescriptor (TX0 k).2.2.1 = some (tyX0 k) := by decide +kernel
abbrev cX0_init : ByteArray := prog_1_method_1_code
def yX0_init : MethodName := ⟨RX0, "<init>", "()V"⟩
abbrev cX0_feed : ByteArray := prog_1_method_2_code
def yX0_feed : MethodName := ⟨RX0, "feed", "(I)I"⟩
abbrev cX0_allowed : ByteArray := prog_1_method_3_code
def yX0_allowed : MethodName := ⟨RX0, "allowed", "(I)Z"⟩
abbrev cX0_addWord : ByteArray := prog_1_method_4_code
def yX0_addWord : MethodName := ⟨RX0, "addWord", "(II)V"⟩
abbrev cX0_restart : ByteArray := prog_1_method_5_code
def yX0_restart : MethodName := ⟨RX0, "restart", "()V"⟩
abbrev cX0_extend : ByteArray := prog_1_method_7_code
def yX0_extend : MethodName := ⟨RX0, "extend", "(I)Z"⟩
abbrev cX0_patternChanged : ByteArray := prog_1_method_6_code
def yX0_patternChanged : MethodName := ⟨RX0, "patternChanged", "()V"⟩
abbrev cX0_shorten : ByteArray := prog_1_method_8_code
def yX0_shorten : MethodName := ⟨RX0, "shorten", "()I"⟩
abbrev cX0_pattern : ByteArray := prog_1_method_9_code
def yX0_pattern : MethodName := ⟨RX0, "pattern", "()I"⟩
abbrev cX0_codes : ByteArray := prog_1_method_15_code
def yX0_codes : MethodName := ⟨RX0, "codes", "()I"⟩
abbrev cX0_words : ByteArray := prog_1_method_16_code
def yX0_words : MethodName := ⟨RX0, "words", "()I"⟩
abbrev cX0_wordLength : ByteArray := prog_1_method_18_code
def yX0_wordLength : MethodName := ⟨RX0, "wordLength", "(I)I"⟩
abbrev cX0_isWord : ByteArray := prog_1_method_17_code
def yX0_isWord : MethodName := ⟨RX0, "isWord", "(I)Z"⟩
abbrev cX0_wordSymbol : ByteArray := prog_1_method_19_code
def yX0_wordSymbol : MethodName := ⟨RX0, "wordSymbol", "(II)I"⟩
abbrev cX0_symbolIn : ByteArray := prog_1_method_20_code
def yX0_symbolIn : MethodName := ⟨RX0, "symbolIn", "(II)I"⟩
abbrev cX0_length : ByteArray := prog_1_method_21_code
def yX0_length : MethodName := ⟨RX0, "length", "()I"⟩
abbrev cX0_symbol : ByteArray := prog_1_method_22_code
def yX0_symbol : MethodName := ⟨RX0, "symbol", "(I)I"⟩
abbrev cX0_count : ByteArray := prog_1_method_23_code
def yX0_count : MethodName := ⟨RX0, "count", "()I"⟩
abbrev cX0_scan : ByteArray := prog_1_method_13_code
def yX0_scan : MethodName := ⟨RX0, "scan", "()V"⟩
abbrev cX0_fillTables : ByteArray := prog_1_method_11_code
def yX0_fillTables : MethodName := ⟨RX0, "fillTables", "()V"⟩
abbrev cX0_buildMachine : ByteArray := prog_1_method_10_code
def yX0_buildMachine : MethodName := ⟨RX0, "buildMachine", "()V"⟩
abbrev cX0_fillCell : ByteArray := prog_1_method_12_code
def yX0_fillCell : MethodName := ⟨RX0, "fillCell", "(II)V"⟩
abbrev cX0_pass : ByteArray := prog_1_method_14_code
def yX0_pass : MethodName := ⟨RX0, "pass", "(II)V"⟩
abbrev cX0_first : ByteArray := prog_1_method_24_code
def yX0_first : MethodName := ⟨RX0, "first", "()I"⟩
abbrev cX0_last : ByteArray := prog_1_method_25_code
def yX0_last : MethodName := ⟨RX0, "last", "()I"⟩
abbrev cX0_tail : ByteArray := prog_1_method_26_code
def yX0_tail : MethodName := ⟨RX0, "tail", "()I"⟩
abbrev cX0_within : ByteArray := prog_1_method_27_code
def yX0_within : MethodName := ⟨RX0, "within", "()I"⟩
abbrev cX0_endingIn : ByteArray := prog_1_method_28_code
def yX0_endingIn : MethodName := ⟨RX0, "endingIn", "(I)I"⟩
theorem q15 : (Jvm.Cond.initialized "CodeSearcher") ∈ lw_all := lw_g (lw_at lw_m1 1 rfl) rfl
theorem q18 : (Jvm.Cond.instantiable "CodeSearcher" (22 : Nat)) ∈ lw_all := lw_g (lw_at lw_m1 4 rfl) rfl
theorem q20 : (Jvm.Cond.instanceMethod ({ cls := "CodeSearcher", name := "<init>", desc := "()V" } : Jvm.MethodName)) ∈ lw_all := lw_g (lw_at lw_m1 6 rfl) rfl
theorem q21 : (Jvm.Cond.code ({ cls := "CodeSearcher", name := "<init>", desc := "()V" } : Jvm.MethodName) prog_1_method_1_code (2 : Nat) (Option.none : Option Jvm.ClassFile.FieldType)) ∈ lw_all := lw_g (lw_at lw_m1 7 rfl) rfl
theorem q22 : (Jvm.Cond.methodLink "CodeSearcher" (1 : Nat) ({ cls := "java/lang/Object", name := "<init>", desc := "()V" } : Jvm.MethodName)) ∈ lw_all := lw_g (lw_at lw_m1 8 rfl) rfl
theorem q25 : (Jvm.Cond.fieldLink "CodeSearcher" (7 : Nat) "CodeSearcher" "wordCount" "I") ∈ lw_all := lw_g (lw_at lw_m1 11 rfl) rfl
theorem q26 : (Jvm.Cond.fieldLink "CodeSearcher" (13 : Nat) "CodeSearcher" "shorter" "[B") ∈ lw_all := lw_g (lw_at lw_m1 12 rfl) rfl
theorem q27 : (Jvm.Cond.fieldLink "CodeSearcher" (17 : Nat) "CodeSearcher" "lastSymbol" "[B") ∈ lw_all := lw_g (lw_at lw_m1 13 rfl) rfl
theorem q28 : (Jvm.Cond.fieldLink "CodeSearcher" (20 : Nat) "CodeSearcher" "firstSymbol" "[B") ∈ lw_all := lw_g (lw_at lw_m1 14 rfl) rfl
theorem q29 : (Jvm.Cond.fieldLink "CodeSearcher" (23 : Nat) "CodeSearcher" "lengths" "[S") ∈ lw_all := lw_g (lw_at lw_m1 15 rfl) rfl
theorem q30 : (Jvm.Cond.fieldLink "CodeSearcher" (27 : Nat) "CodeSearcher" "taken" "[B") ∈ lw_all := lw_g (lw_at lw_m1 16 rfl) rfl
theorem q31 : (Jvm.Cond.fieldLink "CodeSearcher" (52 : Nat) "CodeSearcher" "takenCount" "I") ∈ lw_all := lw_g (lw_at lw_m1 17 rfl) rfl
theorem q32 : (Jvm.Cond.fieldLink "CodeSearcher" (59 : Nat) "CodeSearcher" "textLength" "I") ∈ lw_all := lw_g (lw_at lw_m1 18 rfl) rfl
theorem q33 : (Jvm.Cond.fieldLink "CodeSearcher" (30 : Nat) "CodeSearcher" "symbols" "[B") ∈ lw_all := lw_g (lw_at lw_m1 19 rfl) rfl
theorem q34 : (Jvm.Cond.fieldLink "CodeSearcher" (69 : Nat) "CodeSearcher" "size" "I") ∈ lw_all := lw_g (lw_at lw_m1 20 rfl) rfl
theorem q35 : (Jvm.Cond.fieldLink "CodeSearcher" (33 : Nat) "CodeSearcher" "step" "[B") ∈ lw_all := lw_g (lw_at lw_m1 21 rfl) rfl
theorem q36 : (Jvm.Cond.fieldLink "CodeSearcher" (36 : Nat) "CodeSearcher" "after" "[B") ∈ lw_all := lw_g (lw_at lw_m1 22 rfl) rfl
theorem q37 : (Jvm.Cond.fieldLink "CodeSearcher" (39 : Nat) "CodeSearcher" "meets" "[S") ∈ lw_all := lw_g (lw_at lw_m1 23 rfl) rfl
theorem q38 : (Jvm.Cond.fieldLink "CodeSearcher" (42 : Nat) "CodeSearcher" "firstEnd" "[S") ∈ lw_all := lw_g (lw_at lw_m1 24 rfl) rfl
theorem q39 : (Jvm.Cond.fieldLink "CodeSearcher" (45 : Nat) "CodeSearcher" "lastEnd" "[S") ∈ lw_all := lw_g (lw_at lw_m1 25 rfl) rfl
theorem q40 : (Jvm.Cond.fieldLink "CodeSearcher" (66 : Nat) "CodeSearcher" "tabled" "I") ∈ lw_all := lw_g (lw_at lw_m1 26 rfl) rfl
theorem q41 : (Jvm.Cond.fieldLink "CodeSearcher" (62 : Nat) "CodeSearcher" "known" "Z") ∈ lw_all := lw_g (lw_at lw_m1 27 rfl) rfl
theorem q42 : (Jvm.Cond.fieldLink "CodeSearcher" (81 : Nat) "CodeSearcher" "endState" "I") ∈ lw_all := lw_g (lw_at lw_m1 28 rfl) rfl
theorem q43 : (Jvm.Cond.fieldLink "CodeSearcher" (84 : Nat) "CodeSearcher" "matchCount" "I") ∈ lw_all := lw_g (lw_at lw_m1 29 rfl) rfl
theorem q44 : (Jvm.Cond.fieldLink "CodeSearcher" (87 : Nat) "CodeSearcher" "firstPlace" "I") ∈ lw_all := lw_g (lw_at lw_m1 30 rfl) rfl
theorem q45 : (Jvm.Cond.fieldLink "CodeSearcher" (90 : Nat) "CodeSearcher" "lastPlace" "I") ∈ lw_all := lw_g (lw_at lw_m1 31 rfl) rfl
theorem q46 : (Jvm.Cond.fieldLink "CodeSearcher" (93 : Nat) "CodeSearcher" "insideCount" "I") ∈ lw_all := lw_g (lw_at lw_m1 32 rfl) rfl
theorem q47 : (Jvm.Cond.lays "CodeSearcher" "CodeSearcher" "wordCount" "I") ∈ lw_all := lw_g (lw_at lw_m1 33 rfl) rfl
theorem q48 : (Jvm.Cond.soleField "CodeSearcher" "wordCount") ∈ lw_all := lw_g (lw_at lw_m1 34 rfl) rfl
theorem q49 : (Jvm.Cond.laysFinal "CodeSearcher" "CodeSearcher" "shorter" "[B") ∈ lw_all := lw_g (lw_at lw_m1 35 rfl) rfl
theorem q50 : (Jvm.Cond.soleField "CodeSearcher" "shorter") ∈ lw_all := lw_g (lw_at lw_m1 36 rfl) rfl
theorem q51 : (Jvm.Cond.laysFinal "CodeSearcher" "CodeSearcher" "lastSymbol" "[B") ∈ lw_all := lw_g (lw_at lw_m1 37 rfl) rfl
theorem q52 : (Jvm.Cond.soleField "CodeSearcher" "lastSymbol") ∈ lw_all := lw_g (lw_at lw_m1 38 rfl) rfl
theorem q53 : (Jvm.Cond.laysFinal "CodeSearcher" "CodeSearcher" "firstSymbol" "[B") ∈ lw_all := lw_g (lw_at lw_m1 39 rfl) rfl
theorem q54 : (Jvm.Cond.soleField "CodeSearcher" "firstSymbol") ∈ lw_all := lw_g (lw_at lw_m1 40 rfl) rfl
theorem q55 : (Jvm.Cond.laysFinal "CodeSearcher" "CodeSearcher" "lengths" "[S") ∈ lw_all := lw_g (lw_at lw_m1 41 rfl) rfl
theorem q56 : (Jvm.Cond.soleField "CodeSearcher" "lengths") ∈ lw_all := lw_g (lw_at lw_m1 42 rfl) rfl
theorem q57 : (Jvm.Cond.laysFinal "CodeSearcher" "CodeSearcher" "taken" "[B") ∈ lw_all := lw_g (lw_at lw_m1 43 rfl) rfl
theorem q58 : (Jvm.Cond.soleField "CodeSearcher" "taken") ∈ lw_all := lw_g (lw_at lw_m1 44 rfl) rfl
theorem q59 : (Jvm.Cond.lays "CodeSearcher" "CodeSearcher" "takenCount" "I") ∈ lw_all := lw_g (lw_at lw_m1 45 rfl) rfl
theorem q60 : (Jvm.Cond.soleField "CodeSearcher" "takenCount") ∈ lw_all := lw_g (lw_at lw_m1 46 rfl) rfl
theorem q61 : (Jvm.Cond.lays "CodeSearcher" "CodeSearcher" "textLength" "I") ∈ lw_all := lw_g (lw_at lw_m1 47 rfl) rfl
theorem q62 : (Jvm.Cond.soleField "CodeSearcher" "textLength") ∈ lw_all := lw_g (lw_at lw_m1 48 rfl) rfl
theorem q63 : (Jvm.Cond.laysFinal "CodeSearcher" "CodeSearcher" "symbols" "[B") ∈ lw_all := lw_g (lw_at lw_m1 49 rfl) rfl
theorem q64 : (Jvm.Cond.soleField "CodeSearcher" "symbols") ∈ lw_all := lw_g (lw_at lw_m1 50 rfl) rfl
theorem q65 : (Jvm.Cond.lays "CodeSearcher" "CodeSearcher" "size" "I") ∈ lw_all := lw_g (lw_at lw_m1 51 rfl) rfl
theorem q66 : (Jvm.Cond.soleField "CodeSearcher" "size") ∈ lw_all := lw_g (lw_at lw_m1 52 rfl) rfl
theorem q67 : (Jvm.Cond.laysFinal "CodeSearcher" "CodeSearcher" "step" "[B") ∈ lw_all := lw_g (lw_at lw_m1 53 rfl) rfl
theorem q68 : (Jvm.Cond.soleField "CodeSearcher" "step") ∈ lw_all := lw_g (lw_at lw_m1 54 rfl) rfl
theorem q69 : (Jvm.Cond.laysFinal "CodeSearcher" "CodeSearcher" "after" "[B") ∈ lw_all := lw_g (lw_at lw_m1 55 rfl) rfl
theorem q70 : (Jvm.Cond.soleField "CodeSearcher" "after") ∈ lw_all := lw_g (lw_at lw_m1 56 rfl) rfl
theorem q71 : (Jvm.Cond.laysFinal "CodeSearcher" "CodeSearcher" "meets" "[S") ∈ lw_all := lw_g (lw_at lw_m1 57 rfl) rfl
theorem q72 : (Jvm.Cond.soleField "CodeSearcher" "meets") ∈ lw_all := lw_g (lw_at lw_m1 58 rfl) rfl
theorem q73 : (Jvm.Cond.laysFinal "CodeSearcher" "CodeSearcher" "firstEnd" "[S") ∈ lw_all := lw_g (lw_at lw_m1 59 rfl) rfl
theorem q74 : (Jvm.Cond.soleField "CodeSearcher" "firstEnd") ∈ lw_all := lw_g (lw_at lw_m1 60 rfl) rfl
theorem q75 : (Jvm.Cond.laysFinal "CodeSearcher" "CodeSearcher" "lastEnd" "[S") ∈ lw_all := lw_g (lw_at lw_m1 61 rfl) rfl
theorem q76 : (Jvm.Cond.soleField "CodeSearcher" "lastEnd") ∈ lw_all := lw_g (lw_at lw_m1 62 rfl) rfl
theorem q77 : (Jvm.Cond.lays "CodeSearcher" "CodeSearcher" "tabled" "I") ∈ lw_all := lw_g (lw_at lw_m1 63 rfl) rfl
theorem q78 : (Jvm.Cond.soleField "CodeSearcher" "tabled") ∈ lw_all := lw_g (lw_at lw_m1 64 rfl) rfl
theorem q79 : (Jvm.Cond.lays "CodeSearcher" "CodeSearcher" "known" "Z") ∈ lw_all := lw_g (lw_at lw_m1 65 rfl) rfl
theorem q80 : (Jvm.Cond.soleField "CodeSearcher" "known") ∈ lw_all := lw_g (lw_at lw_m1 66 rfl) rfl
theorem q81 : (Jvm.Cond.lays "CodeSearcher" "CodeSearcher" "endState" "I") ∈ lw_all := lw_g (lw_at lw_m1 67 rfl) rfl
theorem q82 : (Jvm.Cond.soleField "CodeSearcher" "endState") ∈ lw_all := lw_g (lw_at lw_m1 68 rfl) rfl
theorem q83 : (Jvm.Cond.lays "CodeSearcher" "CodeSearcher" "matchCount" "I") ∈ lw_all := lw_g (lw_at lw_m1 69 rfl) rfl
theorem q84 : (Jvm.Cond.soleField "CodeSearcher" "matchCount") ∈ lw_all := lw_g (lw_at lw_m1 70 rfl) rfl
theorem q85 : (Jvm.Cond.lays "CodeSearcher" "CodeSearcher" "firstPlace" "I") ∈ lw_all := lw_g (lw_at lw_m1 71 rfl) rfl
theorem q86 : (Jvm.Cond.soleField "CodeSearcher" "firstPlace") ∈ lw_all := lw_g (lw_at lw_m1 72 rfl) rfl
theorem q87 : (Jvm.Cond.lays "CodeSearcher" "CodeSearcher" "lastPlace" "I") ∈ lw_all := lw_g (lw_at lw_m1 73 rfl) rfl
theorem q88 : (Jvm.Cond.soleField "CodeSearcher" "lastPlace") ∈ lw_all := lw_g (lw_at lw_m1 74 rfl) rfl
theorem q89 : (Jvm.Cond.lays "CodeSearcher" "CodeSearcher" "insideCount" "I") ∈ lw_all := lw_g (lw_at lw_m1 75 rfl) rfl
theorem q90 : (Jvm.Cond.soleField "CodeSearcher" "insideCount") ∈ lw_all := lw_g (lw_at lw_m1 76 rfl) rfl
theorem q91 : (Jvm.Cond.superclass "CodeSearcher" "java/lang/Object") ∈ lw_all := lw_g (lw_at lw_m1 77 rfl) rfl
theorem q95 : (Jvm.Cond.instanceMethod ({ cls := "CodeSearcher", name := "feed", desc := "(I)I" } : Jvm.MethodName)) ∈ lw_all := lw_g (lw_at lw_m1 81 rfl) rfl
theorem q96 : (Jvm.Cond.selects "CodeSearcher" ({ cls := "CodeSearcher", name := "feed", desc := "(I)I" } : Jvm.MethodName) ({ cls := "CodeSearcher", name := "feed", desc := "(I)I" } : Jvm.MethodName)) ∈ lw_all := lw_g (lw_at lw_m1 82 rfl) rfl
theorem q97 : (Jvm.Cond.code ({ cls := "CodeSearcher", name := "feed", desc := "(I)I" } : Jvm.MethodName) prog_1_method_2_code (4 : Nat) (Option.some Jvm.ClassFile.FieldType.int)) ∈ lw_all := lw_g (lw_at lw_m1 83 rfl) rfl
theorem q98 : (Jvm.Cond.methodLink "CodeSearcher" (48 : Nat) ({ cls := "CodeSearcher", name := "allowed", desc := "(I)Z" } : Jvm.MethodName)) ∈ lw_all := lw_g (lw_at lw_m1 84 rfl) rfl
theorem q99 : (Jvm.Cond.privateMethod ({ cls := "CodeSearcher", name := "allowed", desc := "(I)Z" } : Jvm.MethodName)) ∈ lw_tbl := lw_at lw_m1 85 rfl
theorem q100 : (Jvm.Cond.instanceMethod ({ cls := "CodeSearcher", name := "allowed", desc := "(I)Z" } : Jvm.MethodName)) ∈ lw_all := lw_g (lw_at lw_m1 86 rfl) rfl
theorem q101 : (Jvm.Cond.code ({ cls := "CodeSearcher", name := "allowed", desc := "(I)Z" } : Jvm.MethodName) prog_1_method_3_code (3 : Nat) (Option.some Jvm.ClassFile.FieldType.boolean)) ∈ lw_all := lw_g (lw_at lw_m1 87 rfl) rfl
theorem q102 : (Jvm.Cond.methodLink "CodeSearcher" (55 : Nat) ({ cls := "CodeSearcher", name := "addWord", desc := "(II)V" } : Jvm.MethodName)) ∈ lw_all := lw_g (lw_at lw_m1 88 rfl) rfl
theorem q103 : (Jvm.Cond.privateMethod ({ cls := "CodeSearcher", name := "addWord", desc := "(II)V" } : Jvm.MethodName)) ∈ lw_tbl := lw_at lw_m1 89 rfl
theorem q104 : (Jvm.Cond.instanceMethod ({ cls := "CodeSearcher", name := "addWord", desc := "(II)V" } : Jvm.MethodName)) ∈ lw_all := lw_g (lw_at lw_m1 90 rfl) rfl
theorem q105 : (Jvm.Cond.code ({ cls := "CodeSearcher", name := "addWord", desc := "(II)V" } : Jvm.MethodName) prog_1_method_4_code (3 : Nat) (Option.none : Option Jvm.ClassFile.FieldType)) ∈ lw_all := lw_g (lw_at lw_m1 91 rfl) rfl
theorem q107 : (Jvm.Cond.instanceMethod ({ cls := "CodeSearcher", name := "restart", desc := "()V" } : Jvm.MethodName)) ∈ lw_all := lw_g (lw_at lw_m1 93 rfl) rfl
theorem q108 : (Jvm.Cond.selects "CodeSearcher" ({ cls := "CodeSearcher", name := "restart", desc := "()V" } : Jvm.MethodName) ({ cls := "CodeSearcher", name := "restart", desc := "()V" } : Jvm.MethodName)) ∈ lw_all := lw_g (lw_at lw_m1 94 rfl) rfl
theorem q109 : (Jvm.Cond.code ({ cls := "CodeSearcher", name := "restart", desc := "()V" } : Jvm.MethodName) prog_1_method_5_code (1 : Nat) (Option.none : Option Jvm.ClassFile.FieldType)) ∈ lw_all := lw_g (lw_at lw_m1 95 rfl) rfl
theorem q111 : (Jvm.Cond.instanceMethod ({ cls := "CodeSearcher", name := "extend", desc := "(I)Z" } : Jvm.MethodName)) ∈ lw_all := lw_g (lw_at lw_m1 97 rfl) rfl
theorem q112 : (Jvm.Cond.selects "CodeSearcher" ({ cls := "CodeSearcher", name := "extend", desc := "(I)Z" } : Jvm.MethodName) ({ cls := "CodeSearcher", name := "extend", desc := "(I)Z" } : Jvm.MethodName)) ∈ lw_all := lw_g (lw_at lw_m1 98 rfl) rfl
theorem q113 : (Jvm.Cond.code ({ cls := "CodeSearcher", name := "extend", desc := "(I)Z" } : Jvm.MethodName) prog_1_method_7_code (2 : Nat) (Option.some Jvm.ClassFile.FieldType.boolean)) ∈ lw_all := lw_g (lw_at lw_m1 99 rfl) rfl
theorem q114 : (Jvm.Cond.methodLink "CodeSearcher" (72 : Nat) ({ cls := "CodeSearcher", name := "patternChanged", desc := "()V" } : Jvm.MethodName)) ∈ lw_all := lw_g (lw_at lw_m1 100 rfl) rfl
theorem q115 : (Jvm.Cond.privateMethod ({ cls := "CodeSearcher", name := "patternChanged", desc := "()V" } : Jvm.MethodName)) ∈ lw_tbl := lw_at lw_m1 101 rfl
theorem q116 : (Jvm.Cond.instanceMethod ({ cls := "CodeSearcher", name := "patternChanged", desc := "()V" } : Jvm.MethodName)) ∈ lw_all := lw_g (lw_at lw_m1 102 rfl) rfl
theorem q117 : (Jvm.Cond.code ({ cls := "CodeSearcher", name := "patternChanged", desc := "()V" } : Jvm.MethodName) prog_1_method_6_code (1 : Nat) (Option.none : Option Jvm.ClassFile.FieldType)) ∈ lw_all := lw_g (lw_at lw_m1 103 rfl) rfl
theorem q119 : (Jvm.Cond.instanceMethod ({ cls := "CodeSearcher", name := "shorten", desc := "()I" } : Jvm.MethodName)) ∈ lw_all := lw_g (lw_at lw_m1 105 rfl) rfl
theorem q120 : (Jvm.Cond.selects "CodeSearcher" ({ cls := "CodeSearcher", name := "shorten", desc := "()I" } : Jvm.MethodName) ({ cls := "CodeSearcher", name := "shorten", desc := "()I" } : Jvm.MethodName)) ∈ lw_all := lw_g (lw_at lw_m1 106 rfl) rfl
theorem q121 : (Jvm.Cond.code ({ cls := "CodeSearcher", name := "shorten", desc := "()I" } : Jvm.MethodName) prog_1_method_8_code (3 : Nat) (Option.some Jvm.ClassFile.FieldType.int)) ∈ lw_all := lw_g (lw_at lw_m1 107 rfl) rfl
theorem q123 : (Jvm.Cond.instanceMethod ({ cls := "CodeSearcher", name := "pattern", desc := "()I" } : Jvm.MethodName)) ∈ lw_all := lw_g (lw_at lw_m1 109 rfl) rfl
theorem q124 : (Jvm.Cond.selects "CodeSearcher" ({ cls := "CodeSearcher", name := "pattern", desc := "()I" } : Jvm.MethodName) ({ cls := "CodeSearcher", name := "pattern", desc := "()I" } : Jvm.MethodName)) ∈ lw_all := lw_g (lw_at lw_m1 110 rfl) rfl
theorem q125 : (Jvm.Cond.code ({ cls := "CodeSearcher", name := "pattern", desc := "()I" } : Jvm.MethodName) prog_1_method_9_code (1 : Nat) (Option.some Jvm.ClassFile.FieldType.int)) ∈ lw_all := lw_g (lw_at lw_m1 111 rfl) rfl
theorem q127 : (Jvm.Cond.instanceMethod ({ cls := "CodeSearcher", name := "codes", desc := "()I" } : Jvm.MethodName)) ∈ lw_all := lw_g (lw_at lw_m1 113 rfl) rfl
theorem q128 : (Jvm.Cond.selects "CodeSearcher" ({ cls := "CodeSearcher", name := "codes", desc := "()I" } : Jvm.MethodName) ({ cls := "CodeSearcher", name := "codes", desc := "()I" } : Jvm.MethodName)) ∈ lw_all := lw_g (lw_at lw_m1 114 rfl) rfl
theorem q129 : (Jvm.Cond.code ({ cls := "CodeSearcher", name := "codes", desc := "()I" } : Jvm.MethodName) prog_1_method_15_code (1 : Nat) (Option.some Jvm.ClassFile.FieldType.int)) ∈ lw_all := lw_g (lw_at lw_m1 115 rfl) rfl
theorem q131 : (Jvm.Cond.instanceMethod ({ cls := "CodeSearcher", name := "words", desc := "()I" } : Jvm.MethodName)) ∈ lw_all := lw_g (lw_at lw_m1 117 rfl) rfl
theorem q132 : (Jvm.Cond.selects "CodeSearcher" ({ cls := "CodeSearcher", name := "words", desc := "()I" } : Jvm.MethodName) ({ cls := "CodeSearcher", name := "words", desc := "()I" } : Jvm.MethodName)) ∈ lw_all := lw_g (lw_at lw_m1 118 rfl) rfl
theorem q133 : (Jvm.Cond.code ({ cls := "CodeSearcher", name := "words", desc := "()I" } : Jvm.MethodName) prog_1_method_16_code (1 : Nat) (Option.some Jvm.ClassFile.FieldType.int)) ∈ lw_all := lw_g (lw_at lw_m1 119 rfl) rfl
theorem q135 : (Jvm.Cond.instanceMethod ({ cls := "CodeSearcher", name := "wordLength", desc := "(I)I" } : Jvm.MethodName)) ∈ lw_all := lw_g (lw_at lw_m1 121 rfl) rfl
theorem q136 : (Jvm.Cond.selects "CodeSearcher" ({ cls := "CodeSearcher", name := "wordLength", desc := "(I)I" } : Jvm.MethodName) ({ cls := "CodeSearcher", name := "wordLength", desc := "(I)I" } : Jvm.MethodName)) ∈ lw_all := lw_g (lw_at lw_m1 122 rfl) rfl
theorem q137 : (Jvm.Cond.code ({ cls := "CodeSearcher", name := "wordLength", desc := "(I)I" } : Jvm.MethodName) prog_1_method_18_code (2 : Nat) (Option.some Jvm.ClassFile.FieldType.int)) ∈ lw_all := lw_g (lw_at lw_m1 123 rfl) rfl
theorem q138 : (Jvm.Cond.methodLink "CodeSearcher" (102 : Nat) ({ cls := "CodeSearcher", name := "isWord", desc := "(I)Z" } : Jvm.MethodName)) ∈ lw_all := lw_g (lw_at lw_m1 124 rfl) rfl
theorem q139 : (Jvm.Cond.privateMethod ({ cls := "CodeSearcher", name := "isWord", desc := "(I)Z" } : Jvm.MethodName)) ∈ lw_tbl := lw_at lw_m1 125 rfl
theorem q140 : (Jvm.Cond.instanceMethod ({ cls := "CodeSearcher", name := "isWord", desc := "(I)Z" } : Jvm.MethodName)) ∈ lw_all := lw_g (lw_at lw_m1 126 rfl) rfl
theorem q141 : (Jvm.Cond.code ({ cls := "CodeSearcher", name := "isWord", desc := "(I)Z" } : Jvm.MethodName) prog_1_method_17_code (2 : Nat) (Option.some Jvm.ClassFile.FieldType.boolean)) ∈ lw_all := lw_g (lw_at lw_m1 127 rfl) rfl
theorem q143 : (Jvm.Cond.instanceMethod ({ cls := "CodeSearcher", name := "wordSymbol", desc := "(II)I" } : Jvm.MethodName)) ∈ lw_all := lw_g (lw_at lw_m1 129 rfl) rfl
theorem q144 : (Jvm.Cond.selects "CodeSearcher" ({ cls := "CodeSearcher", name := "wordSymbol", desc := "(II)I" } : Jvm.MethodName) ({ cls := "CodeSearcher", name := "wordSymbol", desc := "(II)I" } : Jvm.MethodName)) ∈ lw_all := lw_g (lw_at lw_m1 130 rfl) rfl
theorem q145 : (Jvm.Cond.code ({ cls := "CodeSearcher", name := "wordSymbol", desc := "(II)I" } : Jvm.MethodName) prog_1_method_19_code (3 : Nat) (Option.some Jvm.ClassFile.FieldType.int)) ∈ lw_all := lw_g (lw_at lw_m1 131 rfl) rfl
theorem q146 : (Jvm.Cond.methodLink "CodeSearcher" (105 : Nat) ({ cls := "CodeSearcher", name := "symbolIn", desc := "(II)I" } : Jvm.MethodName)) ∈ lw_all := lw_g (lw_at lw_m1 132 rfl) rfl
theorem q147 : (Jvm.Cond.privateMethod ({ cls := "CodeSearcher", name := "symbolIn", desc := "(II)I" } : Jvm.MethodName)) ∈ lw_tbl := lw_at lw_m1 133 rfl
theorem q148 : (Jvm.Cond.instanceMethod ({ cls := "CodeSearcher", name := "symbolIn", desc := "(II)I" } : Jvm.MethodName)) ∈ lw_all := lw_g (lw_at lw_m1 134 rfl) rfl
theorem q149 : (Jvm.Cond.code ({ cls := "CodeSearcher", name := "symbolIn", desc := "(II)I" } : Jvm.MethodName) prog_1_method_20_code (5 : Nat) (Option.some Jvm.ClassFile.FieldType.int)) ∈ lw_all := lw_g (lw_at lw_m1 135 rfl) rfl
theorem q151 : (Jvm.Cond.instanceMethod ({ cls := "CodeSearcher", name := "length", desc := "()I" } : Jvm.MethodName)) ∈ lw_all := lw_g (lw_at lw_m1 137 rfl) rfl
theorem q152 : (Jvm.Cond.selects "CodeSearcher" ({ cls := "CodeSearcher", name := "length", desc := "()I" } : Jvm.MethodName) ({ cls := "CodeSearcher", name := "length", desc := "()I" } : Jvm.MethodName)) ∈ lw_all := lw_g (lw_at lw_m1 138 rfl) rfl
theorem q153 : (Jvm.Cond.code ({ cls := "CodeSearcher", name := "length", desc := "()I" } : Jvm.MethodName) prog_1_method_21_code (1 : Nat) (Option.some Jvm.ClassFile.FieldType.int)) ∈ lw_all := lw_g (lw_at lw_m1 139 rfl) rfl
theorem q155 : (Jvm.Cond.instanceMethod ({ cls := "CodeSearcher", name := "symbol", desc := "(I)I" } : Jvm.MethodName)) ∈ lw_all := lw_g (lw_at lw_m1 141 rfl) rfl
theorem q156 : (Jvm.Cond.selects "CodeSearcher" ({ cls := "CodeSearcher", name := "symbol", desc := "(I)I" } : Jvm.MethodName) ({ cls := "CodeSearcher", name := "symbol", desc := "(I)I" } : Jvm.MethodName)) ∈ lw_all := lw_g (lw_at lw_m1 142 rfl) rfl
theorem q157 : (Jvm.Cond.code ({ cls := "CodeSearcher", name := "symbol", desc := "(I)I" } : Jvm.MethodName) prog_1_method_22_code (4 : Nat) (Option.some Jvm.ClassFile.FieldType.int)) ∈ lw_all := lw_g (lw_at lw_m1 143 rfl) rfl
theorem q159 : (Jvm.Cond.instanceMethod ({ cls := "CodeSearcher", name := "count", desc := "()I" } : Jvm.MethodName)) ∈ lw_all := lw_g (lw_at lw_m1 145 rfl) rfl
theorem q160 : (Jvm.Cond.selects "CodeSearcher" ({ cls := "CodeSearcher", name := "count", desc := "()I" } : Jvm.MethodName) ({ cls := "CodeSearcher", name := "count", desc := "()I" } : Jvm.MethodName)) ∈ lw_all := lw_g (lw_at lw_m1 146 rfl) rfl
theorem q161 : (Jvm.Cond.code ({ cls := "CodeSearcher", name := "count", desc := "()I" } : Jvm.MethodName) prog_1_method_23_code (1 : Nat) (Option.some Jvm.ClassFile.FieldType.int)) ∈ lw_all := lw_g (lw_at lw_m1 147 rfl) rfl
theorem q162 : (Jvm.Cond.methodLink "CodeSearcher" (109 : Nat) ({ cls := "CodeSearcher", name := "scan", desc := "()V" } : Jvm.MethodName)) ∈ lw_all := lw_g (lw_at lw_m1 148 rfl) rfl
theorem q163 : (Jvm.Cond.privateMethod ({ cls := "CodeSearcher", name := "scan", desc := "()V" } : Jvm.MethodName)) ∈ lw_tbl := lw_at lw_m1 149 rfl
theorem q164 : (Jvm.Cond.instanceMethod ({ cls := "CodeSearcher", name := "scan", desc := "()V" } : Jvm.MethodName)) ∈ lw_all := lw_g (lw_at lw_m1 150 rfl) rfl
theorem q165 : (Jvm.Cond.code ({ cls := "CodeSearcher", name := "scan", desc := "()V" } : Jvm.MethodName) prog_1_method_13_code (4 : Nat) (Option.none : Option Jvm.ClassFile.FieldType)) ∈ lw_all := lw_g (lw_at lw_m1 151 rfl) rfl
theorem q166 : (Jvm.Cond.methodLink "CodeSearcher" (96 : Nat) ({ cls := "CodeSearcher", name := "fillTables", desc := "()V" } : Jvm.MethodName)) ∈ lw_all := lw_g (lw_at lw_m1 152 rfl) rfl
theorem q167 : (Jvm.Cond.privateMethod ({ cls := "CodeSearcher", name := "fillTables", desc := "()V" } : Jvm.MethodName)) ∈ lw_tbl := lw_at lw_m1 153 rfl
theorem q168 : (Jvm.Cond.instanceMethod ({ cls := "CodeSearcher", name := "fillTables", desc := "()V" } : Jvm.MethodName)) ∈ lw_all := lw_g (lw_at lw_m1 154 rfl) rfl
theorem q169 : (Jvm.Cond.code ({ cls := "CodeSearcher", name := "fillTables", desc := "()V" } : Jvm.MethodName) prog_1_method_11_code (3 : Nat) (Option.none : Option Jvm.ClassFile.FieldType)) ∈ lw_all := lw_g (lw_at lw_m1 155 rfl) rfl
theorem q170 : (Jvm.Cond.methodLink "CodeSearcher" (75 : Nat) ({ cls := "CodeSearcher", name := "buildMachine", desc := "()V" } : Jvm.MethodName)) ∈ lw_all := lw_g (lw_at lw_m1 156 rfl) rfl
theorem q171 : (Jvm.Cond.privateMethod ({ cls := "CodeSearcher", name := "buildMachine", desc := "()V" } : Jvm.MethodName)) ∈ lw_tbl := lw_at lw_m1 157 rfl
theorem q172 : (Jvm.Cond.instanceMethod ({ cls := "CodeSearcher", name := "buildMachine", desc := "()V" } : Jvm.MethodName)) ∈ lw_all := lw_g (lw_at lw_m1 158 rfl) rfl
theorem q173 : (Jvm.Cond.code ({ cls := "CodeSearcher", name := "buildMachine", desc := "()V" } : Jvm.MethodName) prog_1_method_10_code (4 : Nat) (Option.none : Option Jvm.ClassFile.FieldType)) ∈ lw_all := lw_g (lw_at lw_m1 159 rfl) rfl
theorem q174 : (Jvm.Cond.methodLink "CodeSearcher" (78 : Nat) ({ cls := "CodeSearcher", name := "fillCell", desc := "(II)V" } : Jvm.MethodName)) ∈ lw_all := lw_g (lw_at lw_m1 160 rfl) rfl
theorem q175 : (Jvm.Cond.privateMethod ({ cls := "CodeSearcher", name := "fillCell", desc := "(II)V" } : Jvm.MethodName)) ∈ lw_tbl := lw_at lw_m1 161 rfl
theorem q176 : (Jvm.Cond.instanceMethod ({ cls := "CodeSearcher", name := "fillCell", desc := "(II)V" } : Jvm.MethodName)) ∈ lw_all := lw_g (lw_at lw_m1 162 rfl) rfl
theorem q177 : (Jvm.Cond.code ({ cls := "CodeSearcher", name := "fillCell", desc := "(II)V" } : Jvm.MethodName) prog_1_method_12_code (9 : Nat) (Option.none : Option Jvm.ClassFile.FieldType)) ∈ lw_all := lw_g (lw_at lw_m1 163 rfl) rfl
theorem q178 : (Jvm.Cond.methodLink "CodeSearcher" (99 : Nat) ({ cls := "CodeSearcher", name := "pass", desc := "(II)V" } : Jvm.MethodName)) ∈ lw_all := lw_g (lw_at lw_m1 164 rfl) rfl
theorem q179 : (Jvm.Cond.privateMethod ({ cls := "CodeSearcher", name := "pass", desc := "(II)V" } : Jvm.MethodName)) ∈ lw_tbl := lw_at lw_m1 165 rfl
theorem q180 : (Jvm.Cond.instanceMethod ({ cls := "CodeSearcher", name := "pass", desc := "(II)V" } : Jvm.MethodName)) ∈ lw_all := lw_g (lw_at lw_m1 166 rfl) rfl
theorem q181 : (Jvm.Cond.code ({ cls := "CodeSearcher", name := "pass", desc := "(II)V" } : Jvm.MethodName) prog_1_method_14_code (3 : Nat) (Option.none : Option Jvm.ClassFile.FieldType)) ∈ lw_all := lw_g (lw_at lw_m1 167 rfl) rfl
theorem q183 : (Jvm.Cond.instanceMethod ({ cls := "CodeSearcher", name := "first", desc := "()I" } : Jvm.MethodName)) ∈ lw_all := lw_g (lw_at lw_m1 169 rfl) rfl
theorem q184 : (Jvm.Cond.selects "CodeSearcher" ({ cls := "CodeSearcher", name := "first", desc := "()I" } : Jvm.MethodName) ({ cls := "CodeSearcher", name := "first", desc := "()I" } : Jvm.MethodName)) ∈ lw_all := lw_g (lw_at lw_m1 170 rfl) rfl
theorem q185 : (Jvm.Cond.code ({ cls := "CodeSearcher", name := "first", desc := "()I" } : Jvm.MethodName) prog_1_method_24_code (1 : Nat) (Option.some Jvm.ClassFile.FieldType.int)) ∈ lw_all := lw_g (lw_at lw_m1 171 rfl) rfl
theorem q187 : (Jvm.Cond.instanceMethod ({ cls := "CodeSearcher", name := "last", desc := "()I" } : Jvm.MethodName)) ∈ lw_all := lw_g (lw_at lw_m1 173 rfl) rfl
theorem q188 : (Jvm.Cond.selects "CodeSearcher" ({ cls := "CodeSearcher", name := "last", desc := "()I" } : Jvm.MethodName) ({ cls := "CodeSearcher", name := "last", desc := "()I" } : Jvm.MethodName)) ∈ lw_all := lw_g (lw_at lw_m1 174 rfl) rfl
theorem q189 : (Jvm.Cond.code ({ cls := "CodeSearcher", name := "last", desc := "()I" } : Jvm.MethodName) prog_1_method_25_code (1 : Nat) (Option.some Jvm.ClassFile.FieldType.int)) ∈ lw_all := lw_g (lw_at lw_m1 175 rfl) rfl
theorem q191 : (Jvm.Cond.instanceMethod ({ cls := "CodeSearcher", name := "tail", desc := "()I" } : Jvm.MethodName)) ∈ lw_all := lw_g (lw_at lw_m1 177 rfl) rfl
theorem q192 : (Jvm.Cond.selects "CodeSearcher" ({ cls := "CodeSearcher", name := "tail", desc := "()I" } : Jvm.MethodName) ({ cls := "CodeSearcher", name := "tail", desc := "()I" } : Jvm.MethodName)) ∈ lw_all := lw_g (lw_at lw_m1 178 rfl) rfl
theorem q193 : (Jvm.Cond.code ({ cls := "CodeSearcher", name := "tail", desc := "()I" } : Jvm.MethodName) prog_1_method_26_code (1 : Nat) (Option.some Jvm.ClassFile.FieldType.int)) ∈ lw_all := lw_g (lw_at lw_m1 179 rfl) rfl
theorem q195 : (Jvm.Cond.instanceMethod ({ cls := "CodeSearcher", name := "within", desc := "()I" } : Jvm.MethodName)) ∈ lw_all := lw_g (lw_at lw_m1 181 rfl) rfl
theorem q196 : (Jvm.Cond.selects "CodeSearcher" ({ cls := "CodeSearcher", name := "within", desc := "()I" } : Jvm.MethodName) ({ cls := "CodeSearcher", name := "within", desc := "()I" } : Jvm.MethodName)) ∈ lw_all := lw_g (lw_at lw_m1 182 rfl) rfl
theorem q197 : (Jvm.Cond.code ({ cls := "CodeSearcher", name := "within", desc := "()I" } : Jvm.MethodName) prog_1_method_27_code (1 : Nat) (Option.some Jvm.ClassFile.FieldType.int)) ∈ lw_all := lw_g (lw_at lw_m1 183 rfl) rfl
theorem q199 : (Jvm.Cond.instanceMethod ({ cls := "CodeSearcher", name := "endingIn", desc := "(I)I" } : Jvm.MethodName)) ∈ lw_all := lw_g (lw_at lw_m1 185 rfl) rfl
theorem q200 : (Jvm.Cond.selects "CodeSearcher" ({ cls := "CodeSearcher", name := "endingIn", desc := "(I)I" } : Jvm.MethodName) ({ cls := "CodeSearcher", name := "endingIn", desc := "(I)I" } : Jvm.MethodName)) ∈ lw_all := lw_g (lw_at lw_m1 186 rfl) rfl
theorem q201 : (Jvm.Cond.code ({ cls := "CodeSearcher", name := "endingIn", desc := "(I)I" } : Jvm.MethodName) prog_1_method_28_code (4 : Nat) (Option.some Jvm.ClassFile.FieldType.int)) ∈ lw_all := lw_g (lw_at lw_m1 187 rfl) rfl
theorem in_X0 : ∀ w ∈ wsX00, w ∈ lw_all := lw_in wsX00 [47, 49, 51, 53, 55, 57, 59, 61, 63, 65, 67, 69, 71, 73, 75, 77, 79, 81, 83, 85, 87, 89] (by decide +kernel) (by decide +kernel)
/-! CodeSearcherModel -/
def RX1 : String := "CodeSearcherModel"
def TX1 : u_T := fun k => match k with
  | 0 => ("CodeSearcherModel", "size", "I", false)
  | 1 => ("CodeSearcherModel", "text", "[I", false)
  | 2 => ("CodeSearcherModel", "count", "I", false)
  | 3 => ("CodeSearcherModel", "begin", "[I", false)
  | 4 => ("CodeSearcherModel", "words", "I", false)
  | 5 => ("CodeSearcherModel", "where", "[I", false)
  | 6 => ("CodeSearcherModel", "long1", "[I", false)
  | 7 => ("CodeSearcherModel", "wide", "I", false)
  | _ => ("CodeSearcherModel", "pattern", "[I", false)
def tyX1 : Nat → FieldType := fun k => match k with
  | 0 => .int
  | 1 => .array .int
  | 2 => .int
  | 3 => .array .int
  | 4 => .int
  | 5 => .array .int
  | 6 => .array .int
  | 7 => .int
  | _ => .array .int
abbrev wsX10 : List Cond := u_ws RX1 TX1 9
theorem nmX1 : ∀ a, a < 9 → ∀ b, b < 9 → a ≠ b → (TX1 a).2.1 ≠ (TX1 b).2.1 := by decide +kernel
theorem tyX1_ok : ∀ k, k < 9 → parseFieldDescriptor (TX1 k).2.2.1 = some (tyX1 k) := by decide +kernel
abbrev cX1_init : ByteArray := prog_3_method_1_code
def yX1_init : MethodName := ⟨RX1, "<init>", "()V"⟩
abbrev cX1_feed : ByteArray := prog_3_method_4_code
def yX1_feed : MethodName := ⟨RX1, "feed", "(I)I"⟩
abbrev cX1_lengthOf : ByteArray := prog_3_method_2_code
def yX1_lengthOf : MethodName := ⟨RX1, "lengthOf", "(I)I"⟩
abbrev cX1_symbolOf : ByteArray := prog_3_method_3_code
def yX1_symbolOf : MethodName := ⟨RX1, "symbolOf", "(II)I"⟩
abbrev cX1_restart : ByteArray := prog_3_method_5_code
def yX1_restart : MethodName := ⟨RX1, "restart", "()V"⟩
abbrev cX1_extend : ByteArray := prog_3_method_6_code
def yX1_extend : MethodName := ⟨RX1, "extend", "(I)Z"⟩
abbrev cX1_shorten : ByteArray := prog_3_method_7_code
def yX1_shorten : MethodName := ⟨RX1, "shorten", "()I"⟩
abbrev cX1_pattern : ByteArray := prog_3_method_8_code
def yX1_pattern : MethodName := ⟨RX1, "pattern", "()I"⟩
abbrev cX1_codes : ByteArray := prog_3_method_9_code
def yX1_codes : MethodName := ⟨RX1, "codes", "()I"⟩
abbrev cX1_words : ByteArray := prog_3_method_10_code
def yX1_words : MethodName := ⟨RX1, "words", "()I"⟩
abbrev cX1_wordLength : ByteArray := prog_3_method_11_code
def yX1_wordLength : MethodName := ⟨RX1, "wordLength", "(I)I"⟩
abbrev cX1_wordSymbol : ByteArray := prog_3_method_12_code
def yX1_wordSymbol : MethodName := ⟨RX1, "wordSymbol", "(II)I"⟩
abbrev cX1_length : ByteArray := prog_3_method_13_code
def yX1_length : MethodName := ⟨RX1, "length", "()I"⟩
abbrev cX1_symbol : ByteArray := prog_3_method_14_code
def yX1_symbol : MethodName := ⟨RX1, "symbol", "(I)I"⟩
abbrev cX1_count : ByteArray := prog_3_method_17_code
def yX1_count : MethodName := ⟨RX1, "count", "()I"⟩
abbrev cX1_between : ByteArray := prog_3_method_16_code
def yX1_between : MethodName := ⟨RX1, "between", "(II)I"⟩
abbrev cX1_at : ByteArray := prog_3_method_15_code
def yX1_at : MethodName := ⟨RX1, "at", "(I)Z"⟩
abbrev cX1_first : ByteArray := prog_3_method_18_code
def yX1_first : MethodName := ⟨RX1, "first", "()I"⟩
abbrev cX1_last : ByteArray := prog_3_method_19_code
def yX1_last : MethodName := ⟨RX1, "last", "()I"⟩
abbrev cX1_tail : ByteArray := prog_3_method_20_code
def yX1_tail : MethodName := ⟨RX1, "tail", "()I"⟩
abbrev cX1_within : ByteArray := prog_3_method_21_code
def yX1_within : MethodName := ⟨RX1, "within", "()I"⟩
abbrev cX1_endingIn : ByteArray := prog_3_method_22_code
def yX1_endingIn : MethodName := ⟨RX1, "endingIn", "(I)I"⟩
theorem q16 : (Jvm.Cond.initialized "CodeSearcherModel") ∈ lw_all := lw_g (lw_at lw_m1 2 rfl) rfl
theorem q203 : (Jvm.Cond.instantiable "CodeSearcherModel" (9 : Nat)) ∈ lw_all := lw_g (lw_at lw_m1 189 rfl) rfl
theorem q205 : (Jvm.Cond.instanceMethod ({ cls := "CodeSearcherModel", name := "<init>", desc := "()V" } : Jvm.MethodName)) ∈ lw_all := lw_g (lw_at lw_m1 191 rfl) rfl
theorem q206 : (Jvm.Cond.code ({ cls := "CodeSearcherModel", name := "<init>", desc := "()V" } : Jvm.MethodName) prog_3_method_1_code (1 : Nat) (Option.none : Option Jvm.ClassFile.FieldType)) ∈ lw_all := lw_g (lw_at lw_m1 192 rfl) rfl
theorem q207 : (Jvm.Cond.methodLink "CodeSearcherModel" (1 : Nat) ({ cls := "java/lang/Object", name := "<init>", desc := "()V" } : Jvm.MethodName)) ∈ lw_all := lw_g (lw_at lw_m1 193 rfl) rfl
theorem q208 : (Jvm.Cond.fieldLink "CodeSearcherModel" (36 : Nat) "CodeSearcherModel" "size" "I") ∈ lw_all := lw_g (lw_at lw_m1 194 rfl) rfl
theorem q209 : (Jvm.Cond.fieldLink "CodeSearcherModel" (7 : Nat) "CodeSearcherModel" "text" "[I") ∈ lw_all := lw_g (lw_at lw_m1 195 rfl) rfl
theorem q210 : (Jvm.Cond.fieldLink "CodeSearcherModel" (29 : Nat) "CodeSearcherModel" "count" "I") ∈ lw_all := lw_g (lw_at lw_m1 196 rfl) rfl
theorem q211 : (Jvm.Cond.fieldLink "CodeSearcherModel" (13 : Nat) "CodeSearcherModel" "begin" "[I") ∈ lw_all := lw_g (lw_at lw_m1 197 rfl) rfl
theorem q212 : (Jvm.Cond.fieldLink "CodeSearcherModel" (25 : Nat) "CodeSearcherModel" "words" "I") ∈ lw_all := lw_g (lw_at lw_m1 198 rfl) rfl
theorem q213 : (Jvm.Cond.fieldLink "CodeSearcherModel" (16 : Nat) "CodeSearcherModel" "where" "[I") ∈ lw_all := lw_g (lw_at lw_m1 199 rfl) rfl
theorem q214 : (Jvm.Cond.fieldLink "CodeSearcherModel" (19 : Nat) "CodeSearcherModel" "long1" "[I") ∈ lw_all := lw_g (lw_at lw_m1 200 rfl) rfl
theorem q215 : (Jvm.Cond.fieldLink "CodeSearcherModel" (43 : Nat) "CodeSearcherModel" "wide" "I") ∈ lw_all := lw_g (lw_at lw_m1 201 rfl) rfl
theorem q216 : (Jvm.Cond.fieldLink "CodeSearcherModel" (22 : Nat) "CodeSearcherModel" "pattern" "[I") ∈ lw_all := lw_g (lw_at lw_m1 202 rfl) rfl
theorem q217 : (Jvm.Cond.lays "CodeSearcherModel" "CodeSearcherModel" "size" "I") ∈ lw_all := lw_g (lw_at lw_m1 203 rfl) rfl
theorem q218 : (Jvm.Cond.soleField "CodeSearcherModel" "size") ∈ lw_all := lw_g (lw_at lw_m1 204 rfl) rfl
theorem q219 : (Jvm.Cond.lays "CodeSearcherModel" "CodeSearcherModel" "text" "[I") ∈ lw_all := lw_g (lw_at lw_m1 205 rfl) rfl
theorem q220 : (Jvm.Cond.soleField "CodeSearcherModel" "text") ∈ lw_all := lw_g (lw_at lw_m1 206 rfl) rfl
theorem q221 : (Jvm.Cond.lays "CodeSearcherModel" "CodeSearcherModel" "count" "I") ∈ lw_all := lw_g (lw_at lw_m1 207 rfl) rfl
theorem q222 : (Jvm.Cond.soleField "CodeSearcherModel" "count") ∈ lw_all := lw_g (lw_at lw_m1 208 rfl) rfl
theorem q223 : (Jvm.Cond.lays "CodeSearcherModel" "CodeSearcherModel" "begin" "[I") ∈ lw_all := lw_g (lw_at lw_m1 209 rfl) rfl
theorem q224 : (Jvm.Cond.soleField "CodeSearcherModel" "begin") ∈ lw_all := lw_g (lw_at lw_m1 210 rfl) rfl
theorem q225 : (Jvm.Cond.lays "CodeSearcherModel" "CodeSearcherModel" "words" "I") ∈ lw_all := lw_g (lw_at lw_m1 211 rfl) rfl
theorem q226 : (Jvm.Cond.soleField "CodeSearcherModel" "words") ∈ lw_all := lw_g (lw_at lw_m1 212 rfl) rfl
theorem q227 : (Jvm.Cond.lays "CodeSearcherModel" "CodeSearcherModel" "where" "[I") ∈ lw_all := lw_g (lw_at lw_m1 213 rfl) rfl
theorem q228 : (Jvm.Cond.soleField "CodeSearcherModel" "where") ∈ lw_all := lw_g (lw_at lw_m1 214 rfl) rfl
theorem q229 : (Jvm.Cond.lays "CodeSearcherModel" "CodeSearcherModel" "long1" "[I") ∈ lw_all := lw_g (lw_at lw_m1 215 rfl) rfl
theorem q230 : (Jvm.Cond.soleField "CodeSearcherModel" "long1") ∈ lw_all := lw_g (lw_at lw_m1 216 rfl) rfl
theorem q231 : (Jvm.Cond.lays "CodeSearcherModel" "CodeSearcherModel" "wide" "I") ∈ lw_all := lw_g (lw_at lw_m1 217 rfl) rfl
theorem q232 : (Jvm.Cond.soleField "CodeSearcherModel" "wide") ∈ lw_all := lw_g (lw_at lw_m1 218 rfl) rfl
theorem q233 : (Jvm.Cond.lays "CodeSearcherModel" "CodeSearcherModel" "pattern" "[I") ∈ lw_all := lw_g (lw_at lw_m1 219 rfl) rfl
theorem q234 : (Jvm.Cond.soleField "CodeSearcherModel" "pattern") ∈ lw_all := lw_g (lw_at lw_m1 220 rfl) rfl
theorem q235 : (Jvm.Cond.superclass "CodeSearcherModel" "java/lang/Object") ∈ lw_all := lw_g (lw_at lw_m1 221 rfl) rfl
theorem q238 : (Jvm.Cond.instanceMethod ({ cls := "CodeSearcherModel", name := "feed", desc := "(I)I" } : Jvm.MethodName)) ∈ lw_all := lw_g (lw_at lw_m1 224 rfl) rfl
theorem q239 : (Jvm.Cond.selects "CodeSearcherModel" ({ cls := "CodeSearcherModel", name := "feed", desc := "(I)I" } : Jvm.MethodName) ({ cls := "CodeSearcherModel", name := "feed", desc := "(I)I" } : Jvm.MethodName)) ∈ lw_all := lw_g (lw_at lw_m1 225 rfl) rfl
theorem q240 : (Jvm.Cond.code ({ cls := "CodeSearcherModel", name := "feed", desc := "(I)I" } : Jvm.MethodName) prog_3_method_4_code (6 : Nat) (Option.some Jvm.ClassFile.FieldType.int)) ∈ lw_all := lw_g (lw_at lw_m1 226 rfl) rfl
theorem q241 : (Jvm.Cond.methodLink "CodeSearcherModel" (32 : Nat) ({ cls := "CodeSearcherModel", name := "lengthOf", desc := "(I)I" } : Jvm.MethodName)) ∈ lw_all := lw_g (lw_at lw_m1 227 rfl) rfl
theorem q242 : (Jvm.Cond.privateMethod ({ cls := "CodeSearcherModel", name := "lengthOf", desc := "(I)I" } : Jvm.MethodName)) ∈ lw_tbl := lw_at lw_m1 228 rfl
theorem q243 : (Jvm.Cond.instanceMethod ({ cls := "CodeSearcherModel", name := "lengthOf", desc := "(I)I" } : Jvm.MethodName)) ∈ lw_all := lw_g (lw_at lw_m1 229 rfl) rfl
theorem q244 : (Jvm.Cond.code ({ cls := "CodeSearcherModel", name := "lengthOf", desc := "(I)I" } : Jvm.MethodName) prog_3_method_2_code (2 : Nat) (Option.some Jvm.ClassFile.FieldType.int)) ∈ lw_all := lw_g (lw_at lw_m1 230 rfl) rfl
theorem q245 : (Jvm.Cond.methodLink "CodeSearcherModel" (39 : Nat) ({ cls := "CodeSearcherModel", name := "symbolOf", desc := "(II)I" } : Jvm.MethodName)) ∈ lw_all := lw_g (lw_at lw_m1 231 rfl) rfl
theorem q246 : (Jvm.Cond.privateMethod ({ cls := "CodeSearcherModel", name := "symbolOf", desc := "(II)I" } : Jvm.MethodName)) ∈ lw_tbl := lw_at lw_m1 232 rfl
theorem q247 : (Jvm.Cond.instanceMethod ({ cls := "CodeSearcherModel", name := "symbolOf", desc := "(II)I" } : Jvm.MethodName)) ∈ lw_all := lw_g (lw_at lw_m1 233 rfl) rfl
theorem q248 : (Jvm.Cond.code ({ cls := "CodeSearcherModel", name := "symbolOf", desc := "(II)I" } : Jvm.MethodName) prog_3_method_3_code (3 : Nat) (Option.some Jvm.ClassFile.FieldType.int)) ∈ lw_all := lw_g (lw_at lw_m1 234 rfl) rfl
theorem q250 : (Jvm.Cond.instanceMethod ({ cls := "CodeSearcherModel", name := "restart", desc := "()V" } : Jvm.MethodName)) ∈ lw_all := lw_g (lw_at lw_m1 236 rfl) rfl
theorem q251 : (Jvm.Cond.selects "CodeSearcherModel" ({ cls := "CodeSearcherModel", name := "restart", desc := "()V" } : Jvm.MethodName) ({ cls := "CodeSearcherModel", name := "restart", desc := "()V" } : Jvm.MethodName)) ∈ lw_all := lw_g (lw_at lw_m1 237 rfl) rfl
theorem q252 : (Jvm.Cond.code ({ cls := "CodeSearcherModel", name := "restart", desc := "()V" } : Jvm.MethodName) prog_3_method_5_code (1 : Nat) (Option.none : Option Jvm.ClassFile.FieldType)) ∈ lw_all := lw_g (lw_at lw_m1 238 rfl) rfl
theorem q254 : (Jvm.Cond.instanceMethod ({ cls := "CodeSearcherModel", name := "extend", desc := "(I)Z" } : Jvm.MethodName)) ∈ lw_all := lw_g (lw_at lw_m2 0 rfl) rfl
theorem q255 : (Jvm.Cond.selects "CodeSearcherModel" ({ cls := "CodeSearcherModel", name := "extend", desc := "(I)Z" } : Jvm.MethodName) ({ cls := "CodeSearcherModel", name := "extend", desc := "(I)Z" } : Jvm.MethodName)) ∈ lw_all := lw_g (lw_at lw_m2 1 rfl) rfl
theorem q256 : (Jvm.Cond.code ({ cls := "CodeSearcherModel", name := "extend", desc := "(I)Z" } : Jvm.MethodName) prog_3_method_6_code (2 : Nat) (Option.some Jvm.ClassFile.FieldType.boolean)) ∈ lw_all := lw_g (lw_at lw_m2 2 rfl) rfl
theorem q258 : (Jvm.Cond.instanceMethod ({ cls := "CodeSearcherModel", name := "shorten", desc := "()I" } : Jvm.MethodName)) ∈ lw_all := lw_g (lw_at lw_m2 4 rfl) rfl
theorem q259 : (Jvm.Cond.selects "CodeSearcherModel" ({ cls := "CodeSearcherModel", name := "shorten", desc := "()I" } : Jvm.MethodName) ({ cls := "CodeSearcherModel", name := "shorten", desc := "()I" } : Jvm.MethodName)) ∈ lw_all := lw_g (lw_at lw_m2 5 rfl) rfl
theorem q260 : (Jvm.Cond.code ({ cls := "CodeSearcherModel", name := "shorten", desc := "()I" } : Jvm.MethodName) prog_3_method_7_code (3 : Nat) (Option.some Jvm.ClassFile.FieldType.int)) ∈ lw_all := lw_g (lw_at lw_m2 6 rfl) rfl
theorem q262 : (Jvm.Cond.instanceMethod ({ cls := "CodeSearcherModel", name := "pattern", desc := "()I" } : Jvm.MethodName)) ∈ lw_all := lw_g (lw_at lw_m2 8 rfl) rfl
theorem q263 : (Jvm.Cond.selects "CodeSearcherModel" ({ cls := "CodeSearcherModel", name := "pattern", desc := "()I" } : Jvm.MethodName) ({ cls := "CodeSearcherModel", name := "pattern", desc := "()I" } : Jvm.MethodName)) ∈ lw_all := lw_g (lw_at lw_m2 9 rfl) rfl
theorem q264 : (Jvm.Cond.code ({ cls := "CodeSearcherModel", name := "pattern", desc := "()I" } : Jvm.MethodName) prog_3_method_8_code (1 : Nat) (Option.some Jvm.ClassFile.FieldType.int)) ∈ lw_all := lw_g (lw_at lw_m2 10 rfl) rfl
theorem q266 : (Jvm.Cond.instanceMethod ({ cls := "CodeSearcherModel", name := "codes", desc := "()I" } : Jvm.MethodName)) ∈ lw_all := lw_g (lw_at lw_m2 12 rfl) rfl
theorem q267 : (Jvm.Cond.selects "CodeSearcherModel" ({ cls := "CodeSearcherModel", name := "codes", desc := "()I" } : Jvm.MethodName) ({ cls := "CodeSearcherModel", name := "codes", desc := "()I" } : Jvm.MethodName)) ∈ lw_all := lw_g (lw_at lw_m2 13 rfl) rfl
theorem q268 : (Jvm.Cond.code ({ cls := "CodeSearcherModel", name := "codes", desc := "()I" } : Jvm.MethodName) prog_3_method_9_code (1 : Nat) (Option.some Jvm.ClassFile.FieldType.int)) ∈ lw_all := lw_g (lw_at lw_m2 14 rfl) rfl
theorem q270 : (Jvm.Cond.instanceMethod ({ cls := "CodeSearcherModel", name := "words", desc := "()I" } : Jvm.MethodName)) ∈ lw_all := lw_g (lw_at lw_m2 16 rfl) rfl
theorem q271 : (Jvm.Cond.selects "CodeSearcherModel" ({ cls := "CodeSearcherModel", name := "words", desc := "()I" } : Jvm.MethodName) ({ cls := "CodeSearcherModel", name := "words", desc := "()I" } : Jvm.MethodName)) ∈ lw_all := lw_g (lw_at lw_m2 17 rfl) rfl
theorem q272 : (Jvm.Cond.code ({ cls := "CodeSearcherModel", name := "words", desc := "()I" } : Jvm.MethodName) prog_3_method_10_code (1 : Nat) (Option.some Jvm.ClassFile.FieldType.int)) ∈ lw_all := lw_g (lw_at lw_m2 18 rfl) rfl
theorem q274 : (Jvm.Cond.instanceMethod ({ cls := "CodeSearcherModel", name := "wordLength", desc := "(I)I" } : Jvm.MethodName)) ∈ lw_all := lw_g (lw_at lw_m2 20 rfl) rfl
theorem q275 : (Jvm.Cond.selects "CodeSearcherModel" ({ cls := "CodeSearcherModel", name := "wordLength", desc := "(I)I" } : Jvm.MethodName) ({ cls := "CodeSearcherModel", name := "wordLength", desc := "(I)I" } : Jvm.MethodName)) ∈ lw_all := lw_g (lw_at lw_m2 21 rfl) rfl
theorem q276 : (Jvm.Cond.code ({ cls := "CodeSearcherModel", name := "wordLength", desc := "(I)I" } : Jvm.MethodName) prog_3_method_11_code (2 : Nat) (Option.some Jvm.ClassFile.FieldType.int)) ∈ lw_all := lw_g (lw_at lw_m2 22 rfl) rfl
theorem q278 : (Jvm.Cond.instanceMethod ({ cls := "CodeSearcherModel", name := "wordSymbol", desc := "(II)I" } : Jvm.MethodName)) ∈ lw_all := lw_g (lw_at lw_m2 24 rfl) rfl
theorem q279 : (Jvm.Cond.selects "CodeSearcherModel" ({ cls := "CodeSearcherModel", name := "wordSymbol", desc := "(II)I" } : Jvm.MethodName) ({ cls := "CodeSearcherModel", name := "wordSymbol", desc := "(II)I" } : Jvm.MethodName)) ∈ lw_all := lw_g (lw_at lw_m2 25 rfl) rfl
theorem q280 : (Jvm.Cond.code ({ cls := "CodeSearcherModel", name := "wordSymbol", desc := "(II)I" } : Jvm.MethodName) prog_3_method_12_code (3 : Nat) (Option.some Jvm.ClassFile.FieldType.int)) ∈ lw_all := lw_g (lw_at lw_m2 26 rfl) rfl
theorem q282 : (Jvm.Cond.instanceMethod ({ cls := "CodeSearcherModel", name := "length", desc := "()I" } : Jvm.MethodName)) ∈ lw_all := lw_g (lw_at lw_m2 28 rfl) rfl
theorem q283 : (Jvm.Cond.selects "CodeSearcherModel" ({ cls := "CodeSearcherModel", name := "length", desc := "()I" } : Jvm.MethodName) ({ cls := "CodeSearcherModel", name := "length", desc := "()I" } : Jvm.MethodName)) ∈ lw_all := lw_g (lw_at lw_m2 29 rfl) rfl
theorem q284 : (Jvm.Cond.code ({ cls := "CodeSearcherModel", name := "length", desc := "()I" } : Jvm.MethodName) prog_3_method_13_code (1 : Nat) (Option.some Jvm.ClassFile.FieldType.int)) ∈ lw_all := lw_g (lw_at lw_m2 30 rfl) rfl
theorem q286 : (Jvm.Cond.instanceMethod ({ cls := "CodeSearcherModel", name := "symbol", desc := "(I)I" } : Jvm.MethodName)) ∈ lw_all := lw_g (lw_at lw_m2 32 rfl) rfl
theorem q287 : (Jvm.Cond.selects "CodeSearcherModel" ({ cls := "CodeSearcherModel", name := "symbol", desc := "(I)I" } : Jvm.MethodName) ({ cls := "CodeSearcherModel", name := "symbol", desc := "(I)I" } : Jvm.MethodName)) ∈ lw_all := lw_g (lw_at lw_m2 33 rfl) rfl
theorem q288 : (Jvm.Cond.code ({ cls := "CodeSearcherModel", name := "symbol", desc := "(I)I" } : Jvm.MethodName) prog_3_method_14_code (2 : Nat) (Option.some Jvm.ClassFile.FieldType.int)) ∈ lw_all := lw_g (lw_at lw_m2 34 rfl) rfl
theorem q290 : (Jvm.Cond.instanceMethod ({ cls := "CodeSearcherModel", name := "count", desc := "()I" } : Jvm.MethodName)) ∈ lw_all := lw_g (lw_at lw_m2 36 rfl) rfl
theorem q291 : (Jvm.Cond.selects "CodeSearcherModel" ({ cls := "CodeSearcherModel", name := "count", desc := "()I" } : Jvm.MethodName) ({ cls := "CodeSearcherModel", name := "count", desc := "()I" } : Jvm.MethodName)) ∈ lw_all := lw_g (lw_at lw_m2 37 rfl) rfl
theorem q292 : (Jvm.Cond.code ({ cls := "CodeSearcherModel", name := "count", desc := "()I" } : Jvm.MethodName) prog_3_method_17_code (1 : Nat) (Option.some Jvm.ClassFile.FieldType.int)) ∈ lw_all := lw_g (lw_at lw_m2 38 rfl) rfl
theorem q293 : (Jvm.Cond.methodLink "CodeSearcherModel" (50 : Nat) ({ cls := "CodeSearcherModel", name := "between", desc := "(II)I" } : Jvm.MethodName)) ∈ lw_all := lw_g (lw_at lw_m2 39 rfl) rfl
theorem q294 : (Jvm.Cond.privateMethod ({ cls := "CodeSearcherModel", name := "between", desc := "(II)I" } : Jvm.MethodName)) ∈ lw_tbl := lw_at lw_m2 40 rfl
theorem q295 : (Jvm.Cond.instanceMethod ({ cls := "CodeSearcherModel", name := "between", desc := "(II)I" } : Jvm.MethodName)) ∈ lw_all := lw_g (lw_at lw_m2 41 rfl) rfl
theorem q296 : (Jvm.Cond.code ({ cls := "CodeSearcherModel", name := "between", desc := "(II)I" } : Jvm.MethodName) prog_3_method_16_code (5 : Nat) (Option.some Jvm.ClassFile.FieldType.int)) ∈ lw_all := lw_g (lw_at lw_m2 42 rfl) rfl
theorem q297 : (Jvm.Cond.methodLink "CodeSearcherModel" (46 : Nat) ({ cls := "CodeSearcherModel", name := "at", desc := "(I)Z" } : Jvm.MethodName)) ∈ lw_all := lw_g (lw_at lw_m2 43 rfl) rfl
theorem q298 : (Jvm.Cond.privateMethod ({ cls := "CodeSearcherModel", name := "at", desc := "(I)Z" } : Jvm.MethodName)) ∈ lw_tbl := lw_at lw_m2 44 rfl
theorem q299 : (Jvm.Cond.instanceMethod ({ cls := "CodeSearcherModel", name := "at", desc := "(I)Z" } : Jvm.MethodName)) ∈ lw_all := lw_g (lw_at lw_m2 45 rfl) rfl
theorem q300 : (Jvm.Cond.code ({ cls := "CodeSearcherModel", name := "at", desc := "(I)Z" } : Jvm.MethodName) prog_3_method_15_code (4 : Nat) (Option.some Jvm.ClassFile.FieldType.boolean)) ∈ lw_all := lw_g (lw_at lw_m2 46 rfl) rfl
theorem q302 : (Jvm.Cond.instanceMethod ({ cls := "CodeSearcherModel", name := "first", desc := "()I" } : Jvm.MethodName)) ∈ lw_all := lw_g (lw_at lw_m2 48 rfl) rfl
theorem q303 : (Jvm.Cond.selects "CodeSearcherModel" ({ cls := "CodeSearcherModel", name := "first", desc := "()I" } : Jvm.MethodName) ({ cls := "CodeSearcherModel", name := "first", desc := "()I" } : Jvm.MethodName)) ∈ lw_all := lw_g (lw_at lw_m2 49 rfl) rfl
theorem q304 : (Jvm.Cond.code ({ cls := "CodeSearcherModel", name := "first", desc := "()I" } : Jvm.MethodName) prog_3_method_18_code (2 : Nat) (Option.some Jvm.ClassFile.FieldType.int)) ∈ lw_all := lw_g (lw_at lw_m2 50 rfl) rfl
theorem q306 : (Jvm.Cond.instanceMethod ({ cls := "CodeSearcherModel", name := "last", desc := "()I" } : Jvm.MethodName)) ∈ lw_all := lw_g (lw_at lw_m2 52 rfl) rfl
theorem q307 : (Jvm.Cond.selects "CodeSearcherModel" ({ cls := "CodeSearcherModel", name := "last", desc := "()I" } : Jvm.MethodName) ({ cls := "CodeSearcherModel", name := "last", desc := "()I" } : Jvm.MethodName)) ∈ lw_all := lw_g (lw_at lw_m2 53 rfl) rfl
theorem q308 : (Jvm.Cond.code ({ cls := "CodeSearcherModel", name := "last", desc := "()I" } : Jvm.MethodName) prog_3_method_19_code (2 : Nat) (Option.some Jvm.ClassFile.FieldType.int)) ∈ lw_all := lw_g (lw_at lw_m2 54 rfl) rfl
theorem q310 : (Jvm.Cond.instanceMethod ({ cls := "CodeSearcherModel", name := "tail", desc := "()I" } : Jvm.MethodName)) ∈ lw_all := lw_g (lw_at lw_m2 56 rfl) rfl
theorem q311 : (Jvm.Cond.selects "CodeSearcherModel" ({ cls := "CodeSearcherModel", name := "tail", desc := "()I" } : Jvm.MethodName) ({ cls := "CodeSearcherModel", name := "tail", desc := "()I" } : Jvm.MethodName)) ∈ lw_all := lw_g (lw_at lw_m2 57 rfl) rfl
theorem q312 : (Jvm.Cond.code ({ cls := "CodeSearcherModel", name := "tail", desc := "()I" } : Jvm.MethodName) prog_3_method_20_code (4 : Nat) (Option.some Jvm.ClassFile.FieldType.int)) ∈ lw_all := lw_g (lw_at lw_m2 58 rfl) rfl
theorem q314 : (Jvm.Cond.instanceMethod ({ cls := "CodeSearcherModel", name := "within", desc := "()I" } : Jvm.MethodName)) ∈ lw_all := lw_g (lw_at lw_m2 60 rfl) rfl
theorem q315 : (Jvm.Cond.selects "CodeSearcherModel" ({ cls := "CodeSearcherModel", name := "within", desc := "()I" } : Jvm.MethodName) ({ cls := "CodeSearcherModel", name := "within", desc := "()I" } : Jvm.MethodName)) ∈ lw_all := lw_g (lw_at lw_m2 61 rfl) rfl
theorem q316 : (Jvm.Cond.code ({ cls := "CodeSearcherModel", name := "within", desc := "()I" } : Jvm.MethodName) prog_3_method_21_code (3 : Nat) (Option.some Jvm.ClassFile.FieldType.int)) ∈ lw_all := lw_g (lw_at lw_m2 62 rfl) rfl
theorem q318 : (Jvm.Cond.instanceMethod ({ cls := "CodeSearcherModel", name := "endingIn", desc := "(I)I" } : Jvm.MethodName)) ∈ lw_all := lw_g (lw_at lw_m2 64 rfl) rfl
theorem q319 : (Jvm.Cond.selects "CodeSearcherModel" ({ cls := "CodeSearcherModel", name := "endingIn", desc := "(I)I" } : Jvm.MethodName) ({ cls := "CodeSearcherModel", name := "endingIn", desc := "(I)I" } : Jvm.MethodName)) ∈ lw_all := lw_g (lw_at lw_m2 65 rfl) rfl
theorem q320 : (Jvm.Cond.code ({ cls := "CodeSearcherModel", name := "endingIn", desc := "(I)I" } : Jvm.MethodName) prog_3_method_22_code (2 : Nat) (Option.some Jvm.ClassFile.FieldType.int)) ∈ lw_all := lw_g (lw_at lw_m2 66 rfl) rfl
theorem in_X1 : ∀ w ∈ wsX10, w ∈ lw_all := lw_in wsX10 [217, 219, 221, 223, 225, 227, 229, 231, 233] (by decide +kernel) (by decide +kernel)
/-! the law's own entry -/
abbrev cL_law : ByteArray := code
end
section
set_option maxRecDepth 100000
theorem dJ0_init_0 : decode cJ0_init 0 = .ok (.return_, 1) := by decide +kernel
theorem dX0_init_0 : decode cX0_init 0 = .ok (.aload_n 0, 1) := by decide +kernel
theorem dX0_init_1 : decode cX0_init 1 = .ok (.invokespecial 1, 3) := by decide +kernel
theorem dX0_init_4 : decode cX0_init 4 = .ok (.aload_n 0, 1) := by decide +kernel
theorem dX0_init_5 : decode cX0_init 5 = .ok (.iconst 4, 1) := by decide +kernel
theorem dX0_init_6 : decode cX0_init 6 = .ok (.putfield 7, 3) := by decide +kernel
theorem dX0_init_9 : decode cX0_init 9 = .ok (.aload_n 0, 1) := by decide +kernel
theorem dX0_init_10 : decode cX0_init 10 = .ok (.bipush 60, 2) := by decide +kernel
theorem dX0_init_12 : decode cX0_init 12 = .ok (.newarray .byte, 2) := by decide +kernel
theorem dX0_init_14 : decode cX0_init 14 = .ok (.putfield 13, 3) := by decide +kernel
theorem dX0_init_17 : decode cX0_init 17 = .ok (.aload_n 0, 1) := by decide +kernel
theorem dX0_init_18 : decode cX0_init 18 = .ok (.bipush 60, 2) := by decide +kernel
theorem dX0_init_20 : decode cX0_init 20 = .ok (.newarray .byte, 2) := by decide +kernel
theorem dX0_init_22 : decode cX0_init 22 = .ok (.putfield 17, 3) := by decide +kernel
theorem dX0_init_25 : decode cX0_init 25 = .ok (.aload_n 0, 1) := by decide +kernel
theorem dX0_init_26 : decode cX0_init 26 = .ok (.bipush 60, 2) := by decide +kernel
theorem dX0_init_28 : decode cX0_init 28 = .ok (.newarray .byte, 2) := by decide +kernel
theorem dX0_init_30 : decode cX0_init 30 = .ok (.putfield 20, 3) := by decide +kernel
theorem dX0_init_33 : decode cX0_init 33 = .ok (.aload_n 0, 1) := by decide +kernel
theorem dX0_init_34 : decode cX0_init 34 = .ok (.bipush 60, 2) := by decide +kernel
theorem dX0_init_36 : decode cX0_init 36 = .ok (.newarray .short, 2) := by decide +kernel
theorem dX0_init_38 : decode cX0_init 38 = .ok (.putfield 23, 3) := by decide +kernel
theorem dX0_init_41 : decode cX0_init 41 = .ok (.aload_n 0, 1) := by decide +kernel
theorem dX0_init_42 : decode cX0_init 42 = .ok (.sipush 250, 3) := by decide +kernel
theorem dX0_init_45 : decode cX0_init 45 = .ok (.newarray .byte, 2) := by decide +kernel
theorem dX0_init_47 : decode cX0_init 47 = .ok (.putfield 27, 3) := by decide +kernel
theorem dX0_init_50 : decode cX0_init 50 = .ok (.aload_n 0, 1) := by decide +kernel
theorem dX0_init_51 : decode cX0_init 51 = .ok (.bipush 6, 2) := by decide +kernel
theorem dX0_init_53 : decode cX0_init 53 = .ok (.newarray .byte, 2) := by decide +kernel
theorem dX0_init_55 : decode cX0_init 55 = .ok (.putfield 30, 3) := by decide +kernel
theorem dX0_init_58 : decode cX0_init 58 = .ok (.aload_n 0, 1) := by decide +kernel
theorem dX0_init_59 : decode cX0_init 59 = .ok (.bipush 28, 2) := by decide +kernel
theorem dX0_init_61 : decode cX0_init 61 = .ok (.newarray .byte, 2) := by decide +kernel
theorem dX0_init_63 : decode cX0_init 63 = .ok (.putfield 33, 3) := by decide +kernel
theorem dX0_init_66 : decode cX0_init 66 = .ok (.aload_n 0, 1) := by decide +kernel
theorem dX0_init_67 : decode cX0_init 67 = .ok (.sipush 420, 3) := by decide +kernel
theorem dX0_init_70 : decode cX0_init 70 = .ok (.newarray .byte, 2) := by decide +kernel
theorem dX0_init_72 : decode cX0_init 72 = .ok (.putfield 36, 3) := by decide +kernel
theorem dX0_init_75 : decode cX0_init 75 = .ok (.aload_n 0, 1) := by decide +kernel
theorem dX0_init_76 : decode cX0_init 76 = .ok (.sipush 420, 3) := by decide +kernel
theorem dX0_init_79 : decode cX0_init 79 = .ok (.newarray .short, 2) := by decide +kernel
theorem dX0_init_81 : decode cX0_init 81 = .ok (.putfield 39, 3) := by decide +kernel
theorem dX0_init_84 : decode cX0_init 84 = .ok (.aload_n 0, 1) := by decide +kernel
theorem dX0_init_85 : decode cX0_init 85 = .ok (.sipush 420, 3) := by decide +kernel
theorem dX0_init_88 : decode cX0_init 88 = .ok (.newarray .short, 2) := by decide +kernel
theorem dX0_init_90 : decode cX0_init 90 = .ok (.putfield 42, 3) := by decide +kernel
theorem dX0_init_93 : decode cX0_init 93 = .ok (.aload_n 0, 1) := by decide +kernel
theorem dX0_init_94 : decode cX0_init 94 = .ok (.sipush 420, 3) := by decide +kernel
theorem dX0_init_97 : decode cX0_init 97 = .ok (.newarray .short, 2) := by decide +kernel
theorem dX0_init_99 : decode cX0_init 99 = .ok (.putfield 45, 3) := by decide +kernel
theorem dX0_init_102 : decode cX0_init 102 = .ok (.iconst 0, 1) := by decide +kernel
theorem dX0_init_103 : decode cX0_init 103 = .ok (.istore_n 1, 1) := by decide +kernel
theorem dX0_init_104 : decode cX0_init 104 = .ok (.iload_n 1, 1) := by decide +kernel
theorem dX0_init_105 : decode cX0_init 105 = .ok (.iconst 4, 1) := by decide +kernel
theorem dX0_init_106 : decode cX0_init 106 = .ok (.if_icmp .ge 39, 3) := by decide +kernel
theorem dX0_init_109 : decode cX0_init 109 = .ok (.aload_n 0, 1) := by decide +kernel
theorem dX0_init_110 : decode cX0_init 110 = .ok (.getfield 13, 3) := by decide +kernel
theorem dX0_init_113 : decode cX0_init 113 = .ok (.iload_n 1, 1) := by decide +kernel
theorem dX0_init_114 : decode cX0_init 114 = .ok (.iconst (-1), 1) := by decide +kernel
theorem dX0_init_115 : decode cX0_init 115 = .ok (.bastore, 1) := by decide +kernel
theorem dX0_init_116 : decode cX0_init 116 = .ok (.aload_n 0, 1) := by decide +kernel
theorem dX0_init_117 : decode cX0_init 117 = .ok (.getfield 17, 3) := by decide +kernel
theorem dX0_init_120 : decode cX0_init 120 = .ok (.iload_n 1, 1) := by decide +kernel
theorem dX0_init_121 : decode cX0_init 121 = .ok (.iload_n 1, 1) := by decide +kernel
theorem dX0_init_122 : decode cX0_init 122 = .ok (.i2b, 1) := by decide +kernel
theorem dX0_init_123 : decode cX0_init 123 = .ok (.bastore, 1) := by decide +kernel
theorem dX0_init_124 : decode cX0_init 124 = .ok (.aload_n 0, 1) := by decide +kernel
theorem dX0_init_125 : decode cX0_init 125 = .ok (.getfield 20, 3) := by decide +kernel
theorem dX0_init_128 : decode cX0_init 128 = .ok (.iload_n 1, 1) := by decide +kernel
theorem dX0_init_129 : decode cX0_init 129 = .ok (.iload_n 1, 1) := by decide +kernel
theorem dX0_init_130 : decode cX0_init 130 = .ok (.i2b, 1) := by decide +kernel
theorem dX0_init_131 : decode cX0_init 131 = .ok (.bastore, 1) := by decide +kernel
theorem dX0_init_132 : decode cX0_init 132 = .ok (.aload_n 0, 1) := by decide +kernel
theorem dX0_init_133 : decode cX0_init 133 = .ok (.getfield 23, 3) := by decide +kernel
theorem dX0_init_136 : decode cX0_init 136 = .ok (.iload_n 1, 1) := by decide +kernel
theorem dX0_init_137 : decode cX0_init 137 = .ok (.iconst 1, 1) := by decide +kernel
theorem dX0_init_138 : decode cX0_init 138 = .ok (.sastore, 1) := by decide +kernel
theorem dX0_init_139 : decode cX0_init 139 = .ok (.iinc 1 1, 3) := by decide +kernel
theorem dX0_init_142 : decode cX0_init 142 = .ok (.goto (-38), 3) := by decide +kernel
theorem dX0_init_145 : decode cX0_init 145 = .ok (.return_, 1) := by decide +kernel
theorem dX0_feed_0 : decode cX0_feed 0 = .ok (.aload_n 0, 1) := by decide +kernel
theorem dX0_feed_1 : decode cX0_feed 1 = .ok (.iload_n 1, 1) := by decide +kernel
theorem dX0_feed_2 : decode cX0_feed 2 = .ok (.invokevirtual 48, 3) := by decide +kernel
theorem dX0_feed_5 : decode cX0_feed 5 = .ok (.ifCond .ne 5, 3) := by decide +kernel
theorem dX0_feed_8 : decode cX0_feed 8 = .ok (.iconst (-1), 1) := by decide +kernel
theorem dX0_feed_9 : decode cX0_feed 9 = .ok (.ireturn, 1) := by decide +kernel
theorem dX0_feed_10 : decode cX0_feed 10 = .ok (.aload_n 0, 1) := by decide +kernel
theorem dX0_feed_11 : decode cX0_feed 11 = .ok (.getfield 52, 3) := by decide +kernel
theorem dX0_feed_14 : decode cX0_feed 14 = .ok (.ifCond .le 17, 3) := by decide +kernel
theorem dX0_feed_17 : decode cX0_feed 17 = .ok (.aload_n 0, 1) := by decide +kernel
theorem dX0_feed_18 : decode cX0_feed 18 = .ok (.getfield 27, 3) := by decide +kernel
theorem dX0_feed_21 : decode cX0_feed 21 = .ok (.aload_n 0, 1) := by decide +kernel
theorem dX0_feed_22 : decode cX0_feed 22 = .ok (.getfield 52, 3) := by decide +kernel
theorem dX0_feed_25 : decode cX0_feed 25 = .ok (.iconst 1, 1) := by decide +kernel
theorem dX0_feed_26 : decode cX0_feed 26 = .ok (.isub, 1) := by decide +kernel
theorem dX0_feed_27 : decode cX0_feed 27 = .ok (.baload, 1) := by decide +kernel
theorem dX0_feed_28 : decode cX0_feed 28 = .ok (.goto 4, 3) := by decide +kernel
theorem dX0_feed_31 : decode cX0_feed 31 = .ok (.iconst (-1), 1) := by decide +kernel
theorem dX0_feed_32 : decode cX0_feed 32 = .ok (.istore_n 2, 1) := by decide +kernel
theorem dX0_feed_33 : decode cX0_feed 33 = .ok (.iload_n 2, 1) := by decide +kernel
theorem dX0_feed_34 : decode cX0_feed 34 = .ok (.ifCond .lt 42, 3) := by decide +kernel
theorem dX0_feed_37 : decode cX0_feed 37 = .ok (.aload_n 0, 1) := by decide +kernel
theorem dX0_feed_38 : decode cX0_feed 38 = .ok (.getfield 7, 3) := by decide +kernel
theorem dX0_feed_41 : decode cX0_feed 41 = .ok (.bipush 60, 2) := by decide +kernel
theorem dX0_feed_43 : decode cX0_feed 43 = .ok (.if_icmp .ge 33, 3) := by decide +kernel
theorem dX0_feed_46 : decode cX0_feed 46 = .ok (.iload_n 1, 1) := by decide +kernel
theorem dX0_feed_47 : decode cX0_feed 47 = .ok (.aload_n 0, 1) := by decide +kernel
theorem dX0_feed_48 : decode cX0_feed 48 = .ok (.getfield 7, 3) := by decide +kernel
theorem dX0_feed_51 : decode cX0_feed 51 = .ok (.if_icmp .ne 12, 3) := by decide +kernel
theorem dX0_feed_54 : decode cX0_feed 54 = .ok (.aload_n 0, 1) := by decide +kernel
theorem dX0_feed_55 : decode cX0_feed 55 = .ok (.getfield 20, 3) := by decide +kernel
theorem dX0_feed_58 : decode cX0_feed 58 = .ok (.iload_n 2, 1) := by decide +kernel
theorem dX0_feed_59 : decode cX0_feed 59 = .ok (.baload, 1) := by decide +kernel
theorem dX0_feed_60 : decode cX0_feed 60 = .ok (.goto 9, 3) := by decide +kernel
theorem dX0_feed_63 : decode cX0_feed 63 = .ok (.aload_n 0, 1) := by decide +kernel
theorem dX0_feed_64 : decode cX0_feed 64 = .ok (.getfield 20, 3) := by decide +kernel
theorem dX0_feed_67 : decode cX0_feed 67 = .ok (.iload_n 1, 1) := by decide +kernel
theorem dX0_feed_68 : decode cX0_feed 68 = .ok (.baload, 1) := by decide +kernel
theorem dX0_feed_69 : decode cX0_feed 69 = .ok (.istore_n 3, 1) := by decide +kernel
theorem dX0_feed_70 : decode cX0_feed 70 = .ok (.aload_n 0, 1) := by decide +kernel
theorem dX0_feed_71 : decode cX0_feed 71 = .ok (.iload_n 2, 1) := by decide +kernel
theorem dX0_feed_72 : decode cX0_feed 72 = .ok (.iload_n 3, 1) := by decide +kernel
theorem dX0_feed_73 : decode cX0_feed 73 = .ok (.invokevirtual 55, 3) := by decide +kernel
theorem dX0_feed_76 : decode cX0_feed 76 = .ok (.aload_n 0, 1) := by decide +kernel
theorem dX0_feed_77 : decode cX0_feed 77 = .ok (.getfield 27, 3) := by decide +kernel
theorem dX0_feed_80 : decode cX0_feed 80 = .ok (.aload_n 0, 1) := by decide +kernel
theorem dX0_feed_81 : decode cX0_feed 81 = .ok (.getfield 52, 3) := by decide +kernel
theorem dX0_feed_84 : decode cX0_feed 84 = .ok (.iload_n 1, 1) := by decide +kernel
theorem dX0_feed_85 : decode cX0_feed 85 = .ok (.i2b, 1) := by decide +kernel
theorem dX0_feed_86 : decode cX0_feed 86 = .ok (.bastore, 1) := by decide +kernel
theorem dX0_feed_87 : decode cX0_feed 87 = .ok (.aload_n 0, 1) := by decide +kernel
theorem dX0_feed_88 : decode cX0_feed 88 = .ok (.dup, 1) := by decide +kernel
theorem dX0_feed_89 : decode cX0_feed 89 = .ok (.getfield 52, 3) := by decide +kernel
theorem dX0_feed_92 : decode cX0_feed 92 = .ok (.iconst 1, 1) := by decide +kernel
theorem dX0_feed_93 : decode cX0_feed 93 = .ok (.iadd, 1) := by decide +kernel
theorem dX0_feed_94 : decode cX0_feed 94 = .ok (.putfield 52, 3) := by decide +kernel
theorem dX0_feed_97 : decode cX0_feed 97 = .ok (.aload_n 0, 1) := by decide +kernel
theorem dX0_feed_98 : decode cX0_feed 98 = .ok (.dup, 1) := by decide +kernel
theorem dX0_feed_99 : decode cX0_feed 99 = .ok (.getfield 59, 3) := by decide +kernel
theorem dX0_feed_102 : decode cX0_feed 102 = .ok (.aload_n 0, 1) := by decide +kernel
theorem dX0_feed_103 : decode cX0_feed 103 = .ok (.getfield 23, 3) := by decide +kernel
theorem dX0_feed_106 : decode cX0_feed 106 = .ok (.iload_n 1, 1) := by decide +kernel
theorem dX0_feed_107 : decode cX0_feed 107 = .ok (.saload, 1) := by decide +kernel
theorem dX0_feed_108 : decode cX0_feed 108 = .ok (.iadd, 1) := by decide +kernel
theorem dX0_feed_109 : decode cX0_feed 109 = .ok (.putfield 59, 3) := by decide +kernel
theorem dX0_feed_112 : decode cX0_feed 112 = .ok (.aload_n 0, 1) := by decide +kernel
theorem dX0_feed_113 : decode cX0_feed 113 = .ok (.iconst 0, 1) := by decide +kernel
theorem dX0_feed_114 : decode cX0_feed 114 = .ok (.putfield 62, 3) := by decide +kernel
theorem dX0_feed_117 : decode cX0_feed 117 = .ok (.aload_n 0, 1) := by decide +kernel
theorem dX0_feed_118 : decode cX0_feed 118 = .ok (.getfield 23, 3) := by decide +kernel
theorem dX0_feed_121 : decode cX0_feed 121 = .ok (.iload_n 1, 1) := by decide +kernel
theorem dX0_feed_122 : decode cX0_feed 122 = .ok (.saload, 1) := by decide +kernel
theorem dX0_feed_123 : decode cX0_feed 123 = .ok (.ireturn, 1) := by decide +kernel
theorem dX0_allowed_0 : decode cX0_allowed 0 = .ok (.iload_n 1, 1) := by decide +kernel
theorem dX0_allowed_1 : decode cX0_allowed 1 = .ok (.ifCond .lt 13, 3) := by decide +kernel
theorem dX0_allowed_4 : decode cX0_allowed 4 = .ok (.aload_n 0, 1) := by decide +kernel
theorem dX0_allowed_5 : decode cX0_allowed 5 = .ok (.getfield 52, 3) := by decide +kernel
theorem dX0_allowed_8 : decode cX0_allowed 8 = .ok (.sipush 250, 3) := by decide +kernel
theorem dX0_allowed_11 : decode cX0_allowed 11 = .ok (.if_icmp .lt 5, 3) := by decide +kernel
theorem dX0_allowed_14 : decode cX0_allowed 14 = .ok (.iconst 0, 1) := by decide +kernel
theorem dX0_allowed_15 : decode cX0_allowed 15 = .ok (.ireturn, 1) := by decide +kernel
theorem dX0_allowed_16 : decode cX0_allowed 16 = .ok (.aload_n 0, 1) := by decide +kernel
theorem dX0_allowed_17 : decode cX0_allowed 17 = .ok (.getfield 52, 3) := by decide +kernel
theorem dX0_allowed_20 : decode cX0_allowed 20 = .ok (.ifCond .ne 14, 3) := by decide +kernel
theorem dX0_allowed_23 : decode cX0_allowed 23 = .ok (.iload_n 1, 1) := by decide +kernel
theorem dX0_allowed_24 : decode cX0_allowed 24 = .ok (.iconst 4, 1) := by decide +kernel
theorem dX0_allowed_25 : decode cX0_allowed 25 = .ok (.if_icmp .ge 7, 3) := by decide +kernel
theorem dX0_allowed_28 : decode cX0_allowed 28 = .ok (.iconst 1, 1) := by decide +kernel
theorem dX0_allowed_29 : decode cX0_allowed 29 = .ok (.goto 4, 3) := by decide +kernel
theorem dX0_allowed_32 : decode cX0_allowed 32 = .ok (.iconst 0, 1) := by decide +kernel
theorem dX0_allowed_33 : decode cX0_allowed 33 = .ok (.ireturn, 1) := by decide +kernel
theorem dX0_allowed_34 : decode cX0_allowed 34 = .ok (.iload_n 1, 1) := by decide +kernel
theorem dX0_allowed_35 : decode cX0_allowed 35 = .ok (.aload_n 0, 1) := by decide +kernel
theorem dX0_allowed_36 : decode cX0_allowed 36 = .ok (.getfield 7, 3) := by decide +kernel
theorem dX0_allowed_39 : decode cX0_allowed 39 = .ok (.if_icmp .gt 20, 3) := by decide +kernel
theorem dX0_allowed_42 : decode cX0_allowed 42 = .ok (.iload_n 1, 1) := by decide +kernel
theorem dX0_allowed_43 : decode cX0_allowed 43 = .ok (.aload_n 0, 1) := by decide +kernel
theorem dX0_allowed_44 : decode cX0_allowed 44 = .ok (.getfield 7, 3) := by decide +kernel
theorem dX0_allowed_47 : decode cX0_allowed 47 = .ok (.if_icmp .ne 14, 3) := by decide +kernel
theorem dX0_allowed_50 : decode cX0_allowed 50 = .ok (.aload_n 0, 1) := by decide +kernel
theorem dX0_allowed_51 : decode cX0_allowed 51 = .ok (.getfield 7, 3) := by decide +kernel
theorem dX0_allowed_54 : decode cX0_allowed 54 = .ok (.bipush 60, 2) := by decide +kernel
theorem dX0_allowed_56 : decode cX0_allowed 56 = .ok (.if_icmp .ne 5, 3) := by decide +kernel
theorem dX0_allowed_59 : decode cX0_allowed 59 = .ok (.iconst 0, 1) := by decide +kernel
theorem dX0_allowed_60 : decode cX0_allowed 60 = .ok (.ireturn, 1) := by decide +kernel
theorem dX0_allowed_61 : decode cX0_allowed 61 = .ok (.iload_n 1, 1) := by decide +kernel
theorem dX0_allowed_62 : decode cX0_allowed 62 = .ok (.aload_n 0, 1) := by decide +kernel
theorem dX0_allowed_63 : decode cX0_allowed 63 = .ok (.getfield 7, 3) := by decide +kernel
theorem dX0_allowed_66 : decode cX0_allowed 66 = .ok (.if_icmp .ne 24, 3) := by decide +kernel
theorem dX0_allowed_69 : decode cX0_allowed 69 = .ok (.aload_n 0, 1) := by decide +kernel
theorem dX0_allowed_70 : decode cX0_allowed 70 = .ok (.getfield 23, 3) := by decide +kernel
theorem dX0_allowed_73 : decode cX0_allowed 73 = .ok (.aload_n 0, 1) := by decide +kernel
theorem dX0_allowed_74 : decode cX0_allowed 74 = .ok (.getfield 27, 3) := by decide +kernel
theorem dX0_allowed_77 : decode cX0_allowed 77 = .ok (.aload_n 0, 1) := by decide +kernel
theorem dX0_allowed_78 : decode cX0_allowed 78 = .ok (.getfield 52, 3) := by decide +kernel
theorem dX0_allowed_81 : decode cX0_allowed 81 = .ok (.iconst 1, 1) := by decide +kernel
theorem dX0_allowed_82 : decode cX0_allowed 82 = .ok (.isub, 1) := by decide +kernel
theorem dX0_allowed_83 : decode cX0_allowed 83 = .ok (.baload, 1) := by decide +kernel
theorem dX0_allowed_84 : decode cX0_allowed 84 = .ok (.saload, 1) := by decide +kernel
theorem dX0_allowed_85 : decode cX0_allowed 85 = .ok (.iconst 1, 1) := by decide +kernel
theorem dX0_allowed_86 : decode cX0_allowed 86 = .ok (.iadd, 1) := by decide +kernel
theorem dX0_allowed_87 : decode cX0_allowed 87 = .ok (.goto 9, 3) := by decide +kernel
theorem dX0_allowed_90 : decode cX0_allowed 90 = .ok (.aload_n 0, 1) := by decide +kernel
theorem dX0_allowed_91 : decode cX0_allowed 91 = .ok (.getfield 23, 3) := by decide +kernel
theorem dX0_allowed_94 : decode cX0_allowed 94 = .ok (.iload_n 1, 1) := by decide +kernel
theorem dX0_allowed_95 : decode cX0_allowed 95 = .ok (.saload, 1) := by decide +kernel
theorem dX0_allowed_96 : decode cX0_allowed 96 = .ok (.istore_n 2, 1) := by decide +kernel
theorem dX0_allowed_97 : decode cX0_allowed 97 = .ok (.aload_n 0, 1) := by decide +kernel
theorem dX0_allowed_98 : decode cX0_allowed 98 = .ok (.getfield 59, 3) := by decide +kernel
theorem dX0_allowed_101 : decode cX0_allowed 101 = .ok (.iload_n 2, 1) := by decide +kernel
theorem dX0_allowed_102 : decode cX0_allowed 102 = .ok (.iadd, 1) := by decide +kernel
theorem dX0_allowed_103 : decode cX0_allowed 103 = .ok (.sipush 250, 3) := by decide +kernel
theorem dX0_allowed_106 : decode cX0_allowed 106 = .ok (.if_icmp .gt 7, 3) := by decide +kernel
theorem dX0_allowed_109 : decode cX0_allowed 109 = .ok (.iconst 1, 1) := by decide +kernel
theorem dX0_allowed_110 : decode cX0_allowed 110 = .ok (.goto 4, 3) := by decide +kernel
theorem dX0_allowed_113 : decode cX0_allowed 113 = .ok (.iconst 0, 1) := by decide +kernel
theorem dX0_allowed_114 : decode cX0_allowed 114 = .ok (.ireturn, 1) := by decide +kernel
theorem dX0_addWord_0 : decode cX0_addWord 0 = .ok (.aload_n 0, 1) := by decide +kernel
theorem dX0_addWord_1 : decode cX0_addWord 1 = .ok (.getfield 13, 3) := by decide +kernel
theorem dX0_addWord_4 : decode cX0_addWord 4 = .ok (.aload_n 0, 1) := by decide +kernel
theorem dX0_addWord_5 : decode cX0_addWord 5 = .ok (.getfield 7, 3) := by decide +kernel
theorem dX0_addWord_8 : decode cX0_addWord 8 = .ok (.iload_n 1, 1) := by decide +kernel
theorem dX0_addWord_9 : decode cX0_addWord 9 = .ok (.i2b, 1) := by decide +kernel
theorem dX0_addWord_10 : decode cX0_addWord 10 = .ok (.bastore, 1) := by decide +kernel
theorem dX0_addWord_11 : decode cX0_addWord 11 = .ok (.aload_n 0, 1) := by decide +kernel
theorem dX0_addWord_12 : decode cX0_addWord 12 = .ok (.getfield 17, 3) := by decide +kernel
theorem dX0_addWord_15 : decode cX0_addWord 15 = .ok (.aload_n 0, 1) := by decide +kernel
theorem dX0_addWord_16 : decode cX0_addWord 16 = .ok (.getfield 7, 3) := by decide +kernel
theorem dX0_addWord_19 : decode cX0_addWord 19 = .ok (.iload_n 2, 1) := by decide +kernel
theorem dX0_addWord_20 : decode cX0_addWord 20 = .ok (.i2b, 1) := by decide +kernel
theorem dX0_addWord_21 : decode cX0_addWord 21 = .ok (.bastore, 1) := by decide +kernel
theorem dX0_addWord_22 : decode cX0_addWord 22 = .ok (.aload_n 0, 1) := by decide +kernel
theorem dX0_addWord_23 : decode cX0_addWord 23 = .ok (.getfield 20, 3) := by decide +kernel
theorem dX0_addWord_26 : decode cX0_addWord 26 = .ok (.aload_n 0, 1) := by decide +kernel
theorem dX0_addWord_27 : decode cX0_addWord 27 = .ok (.getfield 7, 3) := by decide +kernel
theorem dX0_addWord_30 : decode cX0_addWord 30 = .ok (.aload_n 0, 1) := by decide +kernel
theorem dX0_addWord_31 : decode cX0_addWord 31 = .ok (.getfield 20, 3) := by decide +kernel
theorem dX0_addWord_34 : decode cX0_addWord 34 = .ok (.iload_n 1, 1) := by decide +kernel
theorem dX0_addWord_35 : decode cX0_addWord 35 = .ok (.baload, 1) := by decide +kernel
theorem dX0_addWord_36 : decode cX0_addWord 36 = .ok (.bastore, 1) := by decide +kernel
theorem dX0_addWord_37 : decode cX0_addWord 37 = .ok (.aload_n 0, 1) := by decide +kernel
theorem dX0_addWord_38 : decode cX0_addWord 38 = .ok (.getfield 23, 3) := by decide +kernel
theorem dX0_addWord_41 : decode cX0_addWord 41 = .ok (.aload_n 0, 1) := by decide +kernel
theorem dX0_addWord_42 : decode cX0_addWord 42 = .ok (.getfield 7, 3) := by decide +kernel
theorem dX0_addWord_45 : decode cX0_addWord 45 = .ok (.aload_n 0, 1) := by decide +kernel
theorem dX0_addWord_46 : decode cX0_addWord 46 = .ok (.getfield 23, 3) := by decide +kernel
theorem dX0_addWord_49 : decode cX0_addWord 49 = .ok (.iload_n 1, 1) := by decide +kernel
theorem dX0_addWord_50 : decode cX0_addWord 50 = .ok (.saload, 1) := by decide +kernel
theorem dX0_addWord_51 : decode cX0_addWord 51 = .ok (.iconst 1, 1) := by decide +kernel
theorem dX0_addWord_52 : decode cX0_addWord 52 = .ok (.iadd, 1) := by decide +kernel
theorem dX0_addWord_53 : decode cX0_addWord 53 = .ok (.i2s, 1) := by decide +kernel
theorem dX0_addWord_54 : decode cX0_addWord 54 = .ok (.sastore, 1) := by decide +kernel
theorem dX0_addWord_55 : decode cX0_addWord 55 = .ok (.aload_n 0, 1) := by decide +kernel
theorem dX0_addWord_56 : decode cX0_addWord 56 = .ok (.dup, 1) := by decide +kernel
theorem dX0_addWord_57 : decode cX0_addWord 57 = .ok (.getfield 7, 3) := by decide +kernel
theorem dX0_addWord_60 : decode cX0_addWord 60 = .ok (.iconst 1, 1) := by decide +kernel
theorem dX0_addWord_61 : decode cX0_addWord 61 = .ok (.iadd, 1) := by decide +kernel
theorem dX0_addWord_62 : decode cX0_addWord 62 = .ok (.putfield 7, 3) := by decide +kernel
theorem dX0_addWord_65 : decode cX0_addWord 65 = .ok (.return_, 1) := by decide +kernel
theorem dX0_restart_0 : decode cX0_restart 0 = .ok (.aload_n 0, 1) := by decide +kernel
theorem dX0_restart_1 : decode cX0_restart 1 = .ok (.iconst 4, 1) := by decide +kernel
theorem dX0_restart_2 : decode cX0_restart 2 = .ok (.putfield 7, 3) := by decide +kernel
theorem dX0_restart_5 : decode cX0_restart 5 = .ok (.aload_n 0, 1) := by decide +kernel
theorem dX0_restart_6 : decode cX0_restart 6 = .ok (.iconst 0, 1) := by decide +kernel
theorem dX0_restart_7 : decode cX0_restart 7 = .ok (.putfield 52, 3) := by decide +kernel
theorem dX0_restart_10 : decode cX0_restart 10 = .ok (.aload_n 0, 1) := by decide +kernel
theorem dX0_restart_11 : decode cX0_restart 11 = .ok (.iconst 0, 1) := by decide +kernel
theorem dX0_restart_12 : decode cX0_restart 12 = .ok (.putfield 59, 3) := by decide +kernel
theorem dX0_restart_15 : decode cX0_restart 15 = .ok (.aload_n 0, 1) := by decide +kernel
theorem dX0_restart_16 : decode cX0_restart 16 = .ok (.getfield 66, 3) := by decide +kernel
theorem dX0_restart_19 : decode cX0_restart 19 = .ok (.iconst 4, 1) := by decide +kernel
theorem dX0_restart_20 : decode cX0_restart 20 = .ok (.if_icmp .le 8, 3) := by decide +kernel
theorem dX0_restart_23 : decode cX0_restart 23 = .ok (.aload_n 0, 1) := by decide +kernel
theorem dX0_restart_24 : decode cX0_restart 24 = .ok (.iconst 4, 1) := by decide +kernel
theorem dX0_restart_25 : decode cX0_restart 25 = .ok (.putfield 66, 3) := by decide +kernel
theorem dX0_restart_28 : decode cX0_restart 28 = .ok (.aload_n 0, 1) := by decide +kernel
theorem dX0_restart_29 : decode cX0_restart 29 = .ok (.iconst 0, 1) := by decide +kernel
theorem dX0_restart_30 : decode cX0_restart 30 = .ok (.putfield 62, 3) := by decide +kernel
theorem dX0_restart_33 : decode cX0_restart 33 = .ok (.return_, 1) := by decide +kernel
theorem dX0_extend_0 : decode cX0_extend 0 = .ok (.iload_n 1, 1) := by decide +kernel
theorem dX0_extend_1 : decode cX0_extend 1 = .ok (.ifCond .lt 17, 3) := by decide +kernel
theorem dX0_extend_4 : decode cX0_extend 4 = .ok (.iload_n 1, 1) := by decide +kernel
theorem dX0_extend_5 : decode cX0_extend 5 = .ok (.iconst 3, 1) := by decide +kernel
theorem dX0_extend_6 : decode cX0_extend 6 = .ok (.if_icmp .gt 12, 3) := by decide +kernel
theorem dX0_extend_9 : decode cX0_extend 9 = .ok (.aload_n 0, 1) := by decide +kernel
theorem dX0_extend_10 : decode cX0_extend 10 = .ok (.getfield 69, 3) := by decide +kernel
theorem dX0_extend_13 : decode cX0_extend 13 = .ok (.bipush 6, 2) := by decide +kernel
theorem dX0_extend_15 : decode cX0_extend 15 = .ok (.if_icmp .lt 5, 3) := by decide +kernel
theorem dX0_extend_18 : decode cX0_extend 18 = .ok (.iconst 0, 1) := by decide +kernel
theorem dX0_extend_19 : decode cX0_extend 19 = .ok (.ireturn, 1) := by decide +kernel
theorem dX0_extend_20 : decode cX0_extend 20 = .ok (.aload_n 0, 1) := by decide +kernel
theorem dX0_extend_21 : decode cX0_extend 21 = .ok (.getfield 30, 3) := by decide +kernel
theorem dX0_extend_24 : decode cX0_extend 24 = .ok (.aload_n 0, 1) := by decide +kernel
theorem dX0_extend_25 : decode cX0_extend 25 = .ok (.getfield 69, 3) := by decide +kernel
theorem dX0_extend_28 : decode cX0_extend 28 = .ok (.iload_n 1, 1) := by decide +kernel
theorem dX0_extend_29 : decode cX0_extend 29 = .ok (.i2b, 1) := by decide +kernel
theorem dX0_extend_30 : decode cX0_extend 30 = .ok (.bastore, 1) := by decide +kernel
theorem dX0_extend_31 : decode cX0_extend 31 = .ok (.aload_n 0, 1) := by decide +kernel
theorem dX0_extend_32 : decode cX0_extend 32 = .ok (.dup, 1) := by decide +kernel
theorem dX0_extend_33 : decode cX0_extend 33 = .ok (.getfield 69, 3) := by decide +kernel
theorem dX0_extend_36 : decode cX0_extend 36 = .ok (.iconst 1, 1) := by decide +kernel
theorem dX0_extend_37 : decode cX0_extend 37 = .ok (.iadd, 1) := by decide +kernel
theorem dX0_extend_38 : decode cX0_extend 38 = .ok (.putfield 69, 3) := by decide +kernel
theorem dX0_extend_41 : decode cX0_extend 41 = .ok (.aload_n 0, 1) := by decide +kernel
theorem dX0_extend_42 : decode cX0_extend 42 = .ok (.invokevirtual 72, 3) := by decide +kernel
theorem dX0_extend_45 : decode cX0_extend 45 = .ok (.iconst 1, 1) := by decide +kernel
theorem dX0_extend_46 : decode cX0_extend 46 = .ok (.ireturn, 1) := by decide +kernel
theorem dX0_patternChanged_0 : decode cX0_patternChanged 0 = .ok (.aload_n 0, 1) := by decide +kernel
theorem dX0_patternChanged_1 : decode cX0_patternChanged 1 = .ok (.iconst 0, 1) := by decide +kernel
theorem dX0_patternChanged_2 : decode cX0_patternChanged 2 = .ok (.putfield 66, 3) := by decide +kernel
theorem dX0_patternChanged_5 : decode cX0_patternChanged 5 = .ok (.aload_n 0, 1) := by decide +kernel
theorem dX0_patternChanged_6 : decode cX0_patternChanged 6 = .ok (.iconst 0, 1) := by decide +kernel
theorem dX0_patternChanged_7 : decode cX0_patternChanged 7 = .ok (.putfield 62, 3) := by decide +kernel
theorem dX0_patternChanged_10 : decode cX0_patternChanged 10 = .ok (.return_, 1) := by decide +kernel
theorem dX0_shorten_0 : decode cX0_shorten 0 = .ok (.aload_n 0, 1) := by decide +kernel
theorem dX0_shorten_1 : decode cX0_shorten 1 = .ok (.getfield 69, 3) := by decide +kernel
theorem dX0_shorten_4 : decode cX0_shorten 4 = .ok (.ifCond .ne 5, 3) := by decide +kernel
theorem dX0_shorten_7 : decode cX0_shorten 7 = .ok (.iconst (-1), 1) := by decide +kernel
theorem dX0_shorten_8 : decode cX0_shorten 8 = .ok (.ireturn, 1) := by decide +kernel
theorem dX0_shorten_9 : decode cX0_shorten 9 = .ok (.aload_n 0, 1) := by decide +kernel
theorem dX0_shorten_10 : decode cX0_shorten 10 = .ok (.getfield 30, 3) := by decide +kernel
theorem dX0_shorten_13 : decode cX0_shorten 13 = .ok (.iconst 0, 1) := by decide +kernel
theorem dX0_shorten_14 : decode cX0_shorten 14 = .ok (.baload, 1) := by decide +kernel
theorem dX0_shorten_15 : decode cX0_shorten 15 = .ok (.istore_n 1, 1) := by decide +kernel
theorem dX0_shorten_16 : decode cX0_shorten 16 = .ok (.iconst 1, 1) := by decide +kernel
theorem dX0_shorten_17 : decode cX0_shorten 17 = .ok (.istore_n 2, 1) := by decide +kernel
theorem dX0_shorten_18 : decode cX0_shorten 18 = .ok (.iload_n 2, 1) := by decide +kernel
theorem dX0_shorten_19 : decode cX0_shorten 19 = .ok (.aload_n 0, 1) := by decide +kernel
theorem dX0_shorten_20 : decode cX0_shorten 20 = .ok (.getfield 69, 3) := by decide +kernel
theorem dX0_shorten_23 : decode cX0_shorten 23 = .ok (.if_icmp .ge 23, 3) := by decide +kernel
theorem dX0_shorten_26 : decode cX0_shorten 26 = .ok (.aload_n 0, 1) := by decide +kernel
theorem dX0_shorten_27 : decode cX0_shorten 27 = .ok (.getfield 30, 3) := by decide +kernel
theorem dX0_shorten_30 : decode cX0_shorten 30 = .ok (.iload_n 2, 1) := by decide +kernel
theorem dX0_shorten_31 : decode cX0_shorten 31 = .ok (.iconst 1, 1) := by decide +kernel
theorem dX0_shorten_32 : decode cX0_shorten 32 = .ok (.isub, 1) := by decide +kernel
theorem dX0_shorten_33 : decode cX0_shorten 33 = .ok (.aload_n 0, 1) := by decide +kernel
theorem dX0_shorten_34 : decode cX0_shorten 34 = .ok (.getfield 30, 3) := by decide +kernel
theorem dX0_shorten_37 : decode cX0_shorten 37 = .ok (.iload_n 2, 1) := by decide +kernel
theorem dX0_shorten_38 : decode cX0_shorten 38 = .ok (.baload, 1) := by decide +kernel
theorem dX0_shorten_39 : decode cX0_shorten 39 = .ok (.bastore, 1) := by decide +kernel
theorem dX0_shorten_40 : decode cX0_shorten 40 = .ok (.iinc 2 1, 3) := by decide +kernel
theorem dX0_shorten_43 : decode cX0_shorten 43 = .ok (.goto (-25), 3) := by decide +kernel
theorem dX0_shorten_46 : decode cX0_shorten 46 = .ok (.aload_n 0, 1) := by decide +kernel
theorem dX0_shorten_47 : decode cX0_shorten 47 = .ok (.dup, 1) := by decide +kernel
theorem dX0_shorten_48 : decode cX0_shorten 48 = .ok (.getfield 69, 3) := by decide +kernel
theorem dX0_shorten_51 : decode cX0_shorten 51 = .ok (.iconst 1, 1) := by decide +kernel
theorem dX0_shorten_52 : decode cX0_shorten 52 = .ok (.isub, 1) := by decide +kernel
theorem dX0_shorten_53 : decode cX0_shorten 53 = .ok (.putfield 69, 3) := by decide +kernel
theorem dX0_shorten_56 : decode cX0_shorten 56 = .ok (.aload_n 0, 1) := by decide +kernel
theorem dX0_shorten_57 : decode cX0_shorten 57 = .ok (.invokevirtual 72, 3) := by decide +kernel
theorem dX0_shorten_60 : decode cX0_shorten 60 = .ok (.iload_n 1, 1) := by decide +kernel
theorem dX0_shorten_61 : decode cX0_shorten 61 = .ok (.ireturn, 1) := by decide +kernel
theorem dX0_pattern_0 : decode cX0_pattern 0 = .ok (.aload_n 0, 1) := by decide +kernel
theorem dX0_pattern_1 : decode cX0_pattern 1 = .ok (.getfield 69, 3) := by decide +kernel
theorem dX0_pattern_4 : decode cX0_pattern 4 = .ok (.ireturn, 1) := by decide +kernel
theorem dX0_codes_0 : decode cX0_codes 0 = .ok (.aload_n 0, 1) := by decide +kernel
theorem dX0_codes_1 : decode cX0_codes 1 = .ok (.getfield 52, 3) := by decide +kernel
theorem dX0_codes_4 : decode cX0_codes 4 = .ok (.ireturn, 1) := by decide +kernel
theorem dX0_words_0 : decode cX0_words 0 = .ok (.aload_n 0, 1) := by decide +kernel
theorem dX0_words_1 : decode cX0_words 1 = .ok (.getfield 7, 3) := by decide +kernel
theorem dX0_words_4 : decode cX0_words 4 = .ok (.ireturn, 1) := by decide +kernel
theorem dX0_wordLength_0 : decode cX0_wordLength 0 = .ok (.aload_n 0, 1) := by decide +kernel
theorem dX0_wordLength_1 : decode cX0_wordLength 1 = .ok (.iload_n 1, 1) := by decide +kernel
theorem dX0_wordLength_2 : decode cX0_wordLength 2 = .ok (.invokevirtual 102, 3) := by decide +kernel
theorem dX0_wordLength_5 : decode cX0_wordLength 5 = .ok (.ifCond .eq 12, 3) := by decide +kernel
theorem dX0_wordLength_8 : decode cX0_wordLength 8 = .ok (.aload_n 0, 1) := by decide +kernel
theorem dX0_wordLength_9 : decode cX0_wordLength 9 = .ok (.getfield 23, 3) := by decide +kernel
theorem dX0_wordLength_12 : decode cX0_wordLength 12 = .ok (.iload_n 1, 1) := by decide +kernel
theorem dX0_wordLength_13 : decode cX0_wordLength 13 = .ok (.saload, 1) := by decide +kernel
theorem dX0_wordLength_14 : decode cX0_wordLength 14 = .ok (.goto 4, 3) := by decide +kernel
theorem dX0_wordLength_17 : decode cX0_wordLength 17 = .ok (.iconst (-1), 1) := by decide +kernel
theorem dX0_wordLength_18 : decode cX0_wordLength 18 = .ok (.ireturn, 1) := by decide +kernel
theorem dX0_isWord_0 : decode cX0_isWord 0 = .ok (.iload_n 1, 1) := by decide +kernel
theorem dX0_isWord_1 : decode cX0_isWord 1 = .ok (.ifCond .lt 15, 3) := by decide +kernel
theorem dX0_isWord_4 : decode cX0_isWord 4 = .ok (.iload_n 1, 1) := by decide +kernel
theorem dX0_isWord_5 : decode cX0_isWord 5 = .ok (.aload_n 0, 1) := by decide +kernel
theorem dX0_isWord_6 : decode cX0_isWord 6 = .ok (.getfield 7, 3) := by decide +kernel
theorem dX0_isWord_9 : decode cX0_isWord 9 = .ok (.if_icmp .ge 7, 3) := by decide +kernel
theorem dX0_isWord_12 : decode cX0_isWord 12 = .ok (.iconst 1, 1) := by decide +kernel
theorem dX0_isWord_13 : decode cX0_isWord 13 = .ok (.goto 4, 3) := by decide +kernel
theorem dX0_isWord_16 : decode cX0_isWord 16 = .ok (.iconst 0, 1) := by decide +kernel
theorem dX0_isWord_17 : decode cX0_isWord 17 = .ok (.ireturn, 1) := by decide +kernel
theorem dX0_wordSymbol_0 : decode cX0_wordSymbol 0 = .ok (.aload_n 0, 1) := by decide +kernel
theorem dX0_wordSymbol_1 : decode cX0_wordSymbol 1 = .ok (.iload_n 1, 1) := by decide +kernel
theorem dX0_wordSymbol_2 : decode cX0_wordSymbol 2 = .ok (.invokevirtual 102, 3) := by decide +kernel
theorem dX0_wordSymbol_5 : decode cX0_wordSymbol 5 = .ok (.ifCond .eq 17, 3) := by decide +kernel
theorem dX0_wordSymbol_8 : decode cX0_wordSymbol 8 = .ok (.iload_n 2, 1) := by decide +kernel
theorem dX0_wordSymbol_9 : decode cX0_wordSymbol 9 = .ok (.ifCond .lt 13, 3) := by decide +kernel
theorem dX0_wordSymbol_12 : decode cX0_wordSymbol 12 = .ok (.iload_n 2, 1) := by decide +kernel
theorem dX0_wordSymbol_13 : decode cX0_wordSymbol 13 = .ok (.aload_n 0, 1) := by decide +kernel
theorem dX0_wordSymbol_14 : decode cX0_wordSymbol 14 = .ok (.getfield 23, 3) := by decide +kernel
theorem dX0_wordSymbol_17 : decode cX0_wordSymbol 17 = .ok (.iload_n 1, 1) := by decide +kernel
theorem dX0_wordSymbol_18 : decode cX0_wordSymbol 18 = .ok (.saload, 1) := by decide +kernel
theorem dX0_wordSymbol_19 : decode cX0_wordSymbol 19 = .ok (.if_icmp .lt 5, 3) := by decide +kernel
theorem dX0_wordSymbol_22 : decode cX0_wordSymbol 22 = .ok (.iconst (-1), 1) := by decide +kernel
theorem dX0_wordSymbol_23 : decode cX0_wordSymbol 23 = .ok (.ireturn, 1) := by decide +kernel
theorem dX0_wordSymbol_24 : decode cX0_wordSymbol 24 = .ok (.aload_n 0, 1) := by decide +kernel
theorem dX0_wordSymbol_25 : decode cX0_wordSymbol 25 = .ok (.iload_n 1, 1) := by decide +kernel
theorem dX0_wordSymbol_26 : decode cX0_wordSymbol 26 = .ok (.iload_n 2, 1) := by decide +kernel
theorem dX0_wordSymbol_27 : decode cX0_wordSymbol 27 = .ok (.invokevirtual 105, 3) := by decide +kernel
theorem dX0_wordSymbol_30 : decode cX0_wordSymbol 30 = .ok (.ireturn, 1) := by decide +kernel
theorem dX0_symbolIn_0 : decode cX0_symbolIn 0 = .ok (.iload_n 1, 1) := by decide +kernel
theorem dX0_symbolIn_1 : decode cX0_symbolIn 1 = .ok (.istore_n 3, 1) := by decide +kernel
theorem dX0_symbolIn_2 : decode cX0_symbolIn 2 = .ok (.aload_n 0, 1) := by decide +kernel
theorem dX0_symbolIn_3 : decode cX0_symbolIn 3 = .ok (.getfield 23, 3) := by decide +kernel
theorem dX0_symbolIn_6 : decode cX0_symbolIn 6 = .ok (.iload_n 1, 1) := by decide +kernel
theorem dX0_symbolIn_7 : decode cX0_symbolIn 7 = .ok (.saload, 1) := by decide +kernel
theorem dX0_symbolIn_8 : decode cX0_symbolIn 8 = .ok (.iconst 1, 1) := by decide +kernel
theorem dX0_symbolIn_9 : decode cX0_symbolIn 9 = .ok (.isub, 1) := by decide +kernel
theorem dX0_symbolIn_10 : decode cX0_symbolIn 10 = .ok (.istore 4, 2) := by decide +kernel
theorem dX0_symbolIn_12 : decode cX0_symbolIn 12 = .ok (.iload 4, 2) := by decide +kernel
theorem dX0_symbolIn_14 : decode cX0_symbolIn 14 = .ok (.iload_n 2, 1) := by decide +kernel
theorem dX0_symbolIn_15 : decode cX0_symbolIn 15 = .ok (.if_icmp .le 16, 3) := by decide +kernel
theorem dX0_symbolIn_18 : decode cX0_symbolIn 18 = .ok (.aload_n 0, 1) := by decide +kernel
theorem dX0_symbolIn_19 : decode cX0_symbolIn 19 = .ok (.getfield 13, 3) := by decide +kernel
theorem dX0_symbolIn_22 : decode cX0_symbolIn 22 = .ok (.iload_n 3, 1) := by decide +kernel
theorem dX0_symbolIn_23 : decode cX0_symbolIn 23 = .ok (.baload, 1) := by decide +kernel
theorem dX0_symbolIn_24 : decode cX0_symbolIn 24 = .ok (.istore_n 3, 1) := by decide +kernel
theorem dX0_symbolIn_25 : decode cX0_symbolIn 25 = .ok (.iinc 4 (-1), 3) := by decide +kernel
theorem dX0_symbolIn_28 : decode cX0_symbolIn 28 = .ok (.goto (-16), 3) := by decide +kernel
theorem dX0_symbolIn_31 : decode cX0_symbolIn 31 = .ok (.aload_n 0, 1) := by decide +kernel
theorem dX0_symbolIn_32 : decode cX0_symbolIn 32 = .ok (.getfield 17, 3) := by decide +kernel
theorem dX0_symbolIn_35 : decode cX0_symbolIn 35 = .ok (.iload_n 3, 1) := by decide +kernel
theorem dX0_symbolIn_36 : decode cX0_symbolIn 36 = .ok (.baload, 1) := by decide +kernel
theorem dX0_symbolIn_37 : decode cX0_symbolIn 37 = .ok (.ireturn, 1) := by decide +kernel
theorem dX0_length_0 : decode cX0_length 0 = .ok (.aload_n 0, 1) := by decide +kernel
theorem dX0_length_1 : decode cX0_length 1 = .ok (.getfield 59, 3) := by decide +kernel
theorem dX0_length_4 : decode cX0_length 4 = .ok (.ireturn, 1) := by decide +kernel
theorem dX0_symbol_0 : decode cX0_symbol 0 = .ok (.iload_n 1, 1) := by decide +kernel
theorem dX0_symbol_1 : decode cX0_symbol 1 = .ok (.ifCond .lt 11, 3) := by decide +kernel
theorem dX0_symbol_4 : decode cX0_symbol 4 = .ok (.iload_n 1, 1) := by decide +kernel
theorem dX0_symbol_5 : decode cX0_symbol 5 = .ok (.aload_n 0, 1) := by decide +kernel
theorem dX0_symbol_6 : decode cX0_symbol 6 = .ok (.getfield 59, 3) := by decide +kernel
theorem dX0_symbol_9 : decode cX0_symbol 9 = .ok (.if_icmp .lt 5, 3) := by decide +kernel
theorem dX0_symbol_12 : decode cX0_symbol 12 = .ok (.iconst (-1), 1) := by decide +kernel
theorem dX0_symbol_13 : decode cX0_symbol 13 = .ok (.ireturn, 1) := by decide +kernel
theorem dX0_symbol_14 : decode cX0_symbol 14 = .ok (.iload_n 1, 1) := by decide +kernel
theorem dX0_symbol_15 : decode cX0_symbol 15 = .ok (.istore_n 2, 1) := by decide +kernel
theorem dX0_symbol_16 : decode cX0_symbol 16 = .ok (.iconst 0, 1) := by decide +kernel
theorem dX0_symbol_17 : decode cX0_symbol 17 = .ok (.istore_n 3, 1) := by decide +kernel
theorem dX0_symbol_18 : decode cX0_symbol 18 = .ok (.iload_n 3, 1) := by decide +kernel
theorem dX0_symbol_19 : decode cX0_symbol 19 = .ok (.aload_n 0, 1) := by decide +kernel
theorem dX0_symbol_20 : decode cX0_symbol 20 = .ok (.getfield 52, 3) := by decide +kernel
end
section
set_option maxRecDepth 100000
theorem dX0_symbol_23 : decode cX0_symbol 23 = .ok (.iconst 1, 1) := by decide +kernel
theorem dX0_symbol_24 : decode cX0_symbol 24 = .ok (.isub, 1) := by decide +kernel
theorem dX0_symbol_25 : decode cX0_symbol 25 = .ok (.if_icmp .ge 38, 3) := by decide +kernel
theorem dX0_symbol_28 : decode cX0_symbol 28 = .ok (.iload_n 2, 1) := by decide +kernel
theorem dX0_symbol_29 : decode cX0_symbol 29 = .ok (.aload_n 0, 1) := by decide +kernel
theorem dX0_symbol_30 : decode cX0_symbol 30 = .ok (.getfield 23, 3) := by decide +kernel
theorem dX0_symbol_33 : decode cX0_symbol 33 = .ok (.aload_n 0, 1) := by decide +kernel
theorem dX0_symbol_34 : decode cX0_symbol 34 = .ok (.getfield 27, 3) := by decide +kernel
theorem dX0_symbol_37 : decode cX0_symbol 37 = .ok (.iload_n 3, 1) := by decide +kernel
theorem dX0_symbol_38 : decode cX0_symbol 38 = .ok (.baload, 1) := by decide +kernel
theorem dX0_symbol_39 : decode cX0_symbol 39 = .ok (.saload, 1) := by decide +kernel
theorem dX0_symbol_40 : decode cX0_symbol 40 = .ok (.if_icmp .lt 23, 3) := by decide +kernel
theorem dX0_symbol_43 : decode cX0_symbol 43 = .ok (.iload_n 2, 1) := by decide +kernel
theorem dX0_symbol_44 : decode cX0_symbol 44 = .ok (.aload_n 0, 1) := by decide +kernel
theorem dX0_symbol_45 : decode cX0_symbol 45 = .ok (.getfield 23, 3) := by decide +kernel
theorem dX0_symbol_48 : decode cX0_symbol 48 = .ok (.aload_n 0, 1) := by decide +kernel
theorem dX0_symbol_49 : decode cX0_symbol 49 = .ok (.getfield 27, 3) := by decide +kernel
theorem dX0_symbol_52 : decode cX0_symbol 52 = .ok (.iload_n 3, 1) := by decide +kernel
theorem dX0_symbol_53 : decode cX0_symbol 53 = .ok (.baload, 1) := by decide +kernel
theorem dX0_symbol_54 : decode cX0_symbol 54 = .ok (.saload, 1) := by decide +kernel
theorem dX0_symbol_55 : decode cX0_symbol 55 = .ok (.isub, 1) := by decide +kernel
theorem dX0_symbol_56 : decode cX0_symbol 56 = .ok (.istore_n 2, 1) := by decide +kernel
theorem dX0_symbol_57 : decode cX0_symbol 57 = .ok (.iinc 3 1, 3) := by decide +kernel
theorem dX0_symbol_60 : decode cX0_symbol 60 = .ok (.goto (-42), 3) := by decide +kernel
theorem dX0_symbol_63 : decode cX0_symbol 63 = .ok (.aload_n 0, 1) := by decide +kernel
theorem dX0_symbol_64 : decode cX0_symbol 64 = .ok (.aload_n 0, 1) := by decide +kernel
theorem dX0_symbol_65 : decode cX0_symbol 65 = .ok (.getfield 27, 3) := by decide +kernel
theorem dX0_symbol_68 : decode cX0_symbol 68 = .ok (.iload_n 3, 1) := by decide +kernel
theorem dX0_symbol_69 : decode cX0_symbol 69 = .ok (.baload, 1) := by decide +kernel
theorem dX0_symbol_70 : decode cX0_symbol 70 = .ok (.iload_n 2, 1) := by decide +kernel
theorem dX0_symbol_71 : decode cX0_symbol 71 = .ok (.invokevirtual 105, 3) := by decide +kernel
theorem dX0_symbol_74 : decode cX0_symbol 74 = .ok (.ireturn, 1) := by decide +kernel
theorem dX0_count_0 : decode cX0_count 0 = .ok (.aload_n 0, 1) := by decide +kernel
theorem dX0_count_1 : decode cX0_count 1 = .ok (.invokevirtual 109, 3) := by decide +kernel
theorem dX0_count_4 : decode cX0_count 4 = .ok (.aload_n 0, 1) := by decide +kernel
theorem dX0_count_5 : decode cX0_count 5 = .ok (.getfield 84, 3) := by decide +kernel
theorem dX0_count_8 : decode cX0_count 8 = .ok (.ireturn, 1) := by decide +kernel
theorem dX0_scan_0 : decode cX0_scan 0 = .ok (.aload_n 0, 1) := by decide +kernel
theorem dX0_scan_1 : decode cX0_scan 1 = .ok (.getfield 62, 3) := by decide +kernel
theorem dX0_scan_4 : decode cX0_scan 4 = .ok (.ifCond .eq 4, 3) := by decide +kernel
theorem dX0_scan_7 : decode cX0_scan 7 = .ok (.return_, 1) := by decide +kernel
theorem dX0_scan_8 : decode cX0_scan 8 = .ok (.aload_n 0, 1) := by decide +kernel
theorem dX0_scan_9 : decode cX0_scan 9 = .ok (.iconst 1, 1) := by decide +kernel
theorem dX0_scan_10 : decode cX0_scan 10 = .ok (.putfield 62, 3) := by decide +kernel
theorem dX0_scan_13 : decode cX0_scan 13 = .ok (.aload_n 0, 1) := by decide +kernel
theorem dX0_scan_14 : decode cX0_scan 14 = .ok (.iconst 0, 1) := by decide +kernel
theorem dX0_scan_15 : decode cX0_scan 15 = .ok (.putfield 81, 3) := by decide +kernel
theorem dX0_scan_18 : decode cX0_scan 18 = .ok (.aload_n 0, 1) := by decide +kernel
theorem dX0_scan_19 : decode cX0_scan 19 = .ok (.iconst 0, 1) := by decide +kernel
theorem dX0_scan_20 : decode cX0_scan 20 = .ok (.putfield 84, 3) := by decide +kernel
theorem dX0_scan_23 : decode cX0_scan 23 = .ok (.aload_n 0, 1) := by decide +kernel
theorem dX0_scan_24 : decode cX0_scan 24 = .ok (.iconst (-1), 1) := by decide +kernel
theorem dX0_scan_25 : decode cX0_scan 25 = .ok (.putfield 87, 3) := by decide +kernel
theorem dX0_scan_28 : decode cX0_scan 28 = .ok (.aload_n 0, 1) := by decide +kernel
theorem dX0_scan_29 : decode cX0_scan 29 = .ok (.iconst (-1), 1) := by decide +kernel
theorem dX0_scan_30 : decode cX0_scan 30 = .ok (.putfield 90, 3) := by decide +kernel
theorem dX0_scan_33 : decode cX0_scan 33 = .ok (.aload_n 0, 1) := by decide +kernel
theorem dX0_scan_34 : decode cX0_scan 34 = .ok (.iconst 0, 1) := by decide +kernel
theorem dX0_scan_35 : decode cX0_scan 35 = .ok (.putfield 93, 3) := by decide +kernel
theorem dX0_scan_38 : decode cX0_scan 38 = .ok (.aload_n 0, 1) := by decide +kernel
theorem dX0_scan_39 : decode cX0_scan 39 = .ok (.getfield 69, 3) := by decide +kernel
theorem dX0_scan_42 : decode cX0_scan 42 = .ok (.ifCond .ne 4, 3) := by decide +kernel
theorem dX0_scan_45 : decode cX0_scan 45 = .ok (.return_, 1) := by decide +kernel
theorem dX0_scan_46 : decode cX0_scan 46 = .ok (.aload_n 0, 1) := by decide +kernel
theorem dX0_scan_47 : decode cX0_scan 47 = .ok (.invokevirtual 96, 3) := by decide +kernel
theorem dX0_scan_50 : decode cX0_scan 50 = .ok (.iconst 0, 1) := by decide +kernel
theorem dX0_scan_51 : decode cX0_scan 51 = .ok (.istore_n 1, 1) := by decide +kernel
theorem dX0_scan_52 : decode cX0_scan 52 = .ok (.iconst 0, 1) := by decide +kernel
theorem dX0_scan_53 : decode cX0_scan 53 = .ok (.istore_n 2, 1) := by decide +kernel
theorem dX0_scan_54 : decode cX0_scan 54 = .ok (.iload_n 2, 1) := by decide +kernel
theorem dX0_scan_55 : decode cX0_scan 55 = .ok (.aload_n 0, 1) := by decide +kernel
theorem dX0_scan_56 : decode cX0_scan 56 = .ok (.getfield 52, 3) := by decide +kernel
theorem dX0_scan_59 : decode cX0_scan 59 = .ok (.if_icmp .ge 57, 3) := by decide +kernel
theorem dX0_scan_62 : decode cX0_scan 62 = .ok (.aload_n 0, 1) := by decide +kernel
theorem dX0_scan_63 : decode cX0_scan 63 = .ok (.getfield 27, 3) := by decide +kernel
theorem dX0_scan_66 : decode cX0_scan 66 = .ok (.iload_n 2, 1) := by decide +kernel
theorem dX0_scan_67 : decode cX0_scan 67 = .ok (.baload, 1) := by decide +kernel
theorem dX0_scan_68 : decode cX0_scan 68 = .ok (.istore_n 3, 1) := by decide +kernel
theorem dX0_scan_69 : decode cX0_scan 69 = .ok (.aload_n 0, 1) := by decide +kernel
theorem dX0_scan_70 : decode cX0_scan 70 = .ok (.iload_n 3, 1) := by decide +kernel
theorem dX0_scan_71 : decode cX0_scan 71 = .ok (.bipush 7, 2) := by decide +kernel
theorem dX0_scan_73 : decode cX0_scan 73 = .ok (.imul, 1) := by decide +kernel
theorem dX0_scan_74 : decode cX0_scan 74 = .ok (.aload_n 0, 1) := by decide +kernel
theorem dX0_scan_75 : decode cX0_scan 75 = .ok (.getfield 81, 3) := by decide +kernel
theorem dX0_scan_78 : decode cX0_scan 78 = .ok (.iadd, 1) := by decide +kernel
theorem dX0_scan_79 : decode cX0_scan 79 = .ok (.iload_n 1, 1) := by decide +kernel
theorem dX0_scan_80 : decode cX0_scan 80 = .ok (.invokevirtual 99, 3) := by decide +kernel
theorem dX0_scan_83 : decode cX0_scan 83 = .ok (.aload_n 0, 1) := by decide +kernel
theorem dX0_scan_84 : decode cX0_scan 84 = .ok (.dup, 1) := by decide +kernel
theorem dX0_scan_85 : decode cX0_scan 85 = .ok (.getfield 93, 3) := by decide +kernel
theorem dX0_scan_88 : decode cX0_scan 88 = .ok (.aload_n 0, 1) := by decide +kernel
theorem dX0_scan_89 : decode cX0_scan 89 = .ok (.getfield 39, 3) := by decide +kernel
theorem dX0_scan_92 : decode cX0_scan 92 = .ok (.iload_n 3, 1) := by decide +kernel
theorem dX0_scan_93 : decode cX0_scan 93 = .ok (.bipush 7, 2) := by decide +kernel
theorem dX0_scan_95 : decode cX0_scan 95 = .ok (.imul, 1) := by decide +kernel
theorem dX0_scan_96 : decode cX0_scan 96 = .ok (.saload, 1) := by decide +kernel
theorem dX0_scan_97 : decode cX0_scan 97 = .ok (.iadd, 1) := by decide +kernel
theorem dX0_scan_98 : decode cX0_scan 98 = .ok (.putfield 93, 3) := by decide +kernel
theorem dX0_scan_101 : decode cX0_scan 101 = .ok (.iload_n 1, 1) := by decide +kernel
theorem dX0_scan_102 : decode cX0_scan 102 = .ok (.aload_n 0, 1) := by decide +kernel
theorem dX0_scan_103 : decode cX0_scan 103 = .ok (.getfield 23, 3) := by decide +kernel
theorem dX0_scan_106 : decode cX0_scan 106 = .ok (.iload_n 3, 1) := by decide +kernel
theorem dX0_scan_107 : decode cX0_scan 107 = .ok (.saload, 1) := by decide +kernel
theorem dX0_scan_108 : decode cX0_scan 108 = .ok (.iadd, 1) := by decide +kernel
theorem dX0_scan_109 : decode cX0_scan 109 = .ok (.istore_n 1, 1) := by decide +kernel
theorem dX0_scan_110 : decode cX0_scan 110 = .ok (.iinc 2 1, 3) := by decide +kernel
theorem dX0_scan_113 : decode cX0_scan 113 = .ok (.goto (-59), 3) := by decide +kernel
theorem dX0_scan_116 : decode cX0_scan 116 = .ok (.return_, 1) := by decide +kernel
theorem dX0_fillTables_0 : decode cX0_fillTables 0 = .ok (.aload_n 0, 1) := by decide +kernel
theorem dX0_fillTables_1 : decode cX0_fillTables 1 = .ok (.getfield 66, 3) := by decide +kernel
theorem dX0_fillTables_4 : decode cX0_fillTables 4 = .ok (.ifCond .ne 7, 3) := by decide +kernel
theorem dX0_fillTables_7 : decode cX0_fillTables 7 = .ok (.aload_n 0, 1) := by decide +kernel
theorem dX0_fillTables_8 : decode cX0_fillTables 8 = .ok (.invokevirtual 75, 3) := by decide +kernel
theorem dX0_fillTables_11 : decode cX0_fillTables 11 = .ok (.aload_n 0, 1) := by decide +kernel
theorem dX0_fillTables_12 : decode cX0_fillTables 12 = .ok (.getfield 66, 3) := by decide +kernel
theorem dX0_fillTables_15 : decode cX0_fillTables 15 = .ok (.istore_n 1, 1) := by decide +kernel
theorem dX0_fillTables_16 : decode cX0_fillTables 16 = .ok (.iload_n 1, 1) := by decide +kernel
theorem dX0_fillTables_17 : decode cX0_fillTables 17 = .ok (.aload_n 0, 1) := by decide +kernel
theorem dX0_fillTables_18 : decode cX0_fillTables 18 = .ok (.getfield 7, 3) := by decide +kernel
theorem dX0_fillTables_21 : decode cX0_fillTables 21 = .ok (.if_icmp .ge 31, 3) := by decide +kernel
theorem dX0_fillTables_24 : decode cX0_fillTables 24 = .ok (.iconst 0, 1) := by decide +kernel
theorem dX0_fillTables_25 : decode cX0_fillTables 25 = .ok (.istore_n 2, 1) := by decide +kernel
theorem dX0_fillTables_26 : decode cX0_fillTables 26 = .ok (.iload_n 2, 1) := by decide +kernel
theorem dX0_fillTables_27 : decode cX0_fillTables 27 = .ok (.aload_n 0, 1) := by decide +kernel
theorem dX0_fillTables_28 : decode cX0_fillTables 28 = .ok (.getfield 69, 3) := by decide +kernel
theorem dX0_fillTables_31 : decode cX0_fillTables 31 = .ok (.if_icmp .gt 15, 3) := by decide +kernel
theorem dX0_fillTables_34 : decode cX0_fillTables 34 = .ok (.aload_n 0, 1) := by decide +kernel
theorem dX0_fillTables_35 : decode cX0_fillTables 35 = .ok (.iload_n 1, 1) := by decide +kernel
theorem dX0_fillTables_36 : decode cX0_fillTables 36 = .ok (.iload_n 2, 1) := by decide +kernel
theorem dX0_fillTables_37 : decode cX0_fillTables 37 = .ok (.invokevirtual 78, 3) := by decide +kernel
theorem dX0_fillTables_40 : decode cX0_fillTables 40 = .ok (.iinc 2 1, 3) := by decide +kernel
theorem dX0_fillTables_43 : decode cX0_fillTables 43 = .ok (.goto (-17), 3) := by decide +kernel
theorem dX0_fillTables_46 : decode cX0_fillTables 46 = .ok (.iinc 1 1, 3) := by decide +kernel
theorem dX0_fillTables_49 : decode cX0_fillTables 49 = .ok (.goto (-33), 3) := by decide +kernel
theorem dX0_fillTables_52 : decode cX0_fillTables 52 = .ok (.aload_n 0, 1) := by decide +kernel
theorem dX0_fillTables_53 : decode cX0_fillTables 53 = .ok (.aload_n 0, 1) := by decide +kernel
theorem dX0_fillTables_54 : decode cX0_fillTables 54 = .ok (.getfield 7, 3) := by decide +kernel
theorem dX0_fillTables_57 : decode cX0_fillTables 57 = .ok (.putfield 66, 3) := by decide +kernel
theorem dX0_fillTables_60 : decode cX0_fillTables 60 = .ok (.return_, 1) := by decide +kernel
theorem dX0_buildMachine_0 : decode cX0_buildMachine 0 = .ok (.iconst 0, 1) := by decide +kernel
theorem dX0_buildMachine_1 : decode cX0_buildMachine 1 = .ok (.istore_n 1, 1) := by decide +kernel
theorem dX0_buildMachine_2 : decode cX0_buildMachine 2 = .ok (.iload_n 1, 1) := by decide +kernel
theorem dX0_buildMachine_3 : decode cX0_buildMachine 3 = .ok (.bipush 28, 2) := by decide +kernel
theorem dX0_buildMachine_5 : decode cX0_buildMachine 5 = .ok (.if_icmp .ge 16, 3) := by decide +kernel
theorem dX0_buildMachine_8 : decode cX0_buildMachine 8 = .ok (.aload_n 0, 1) := by decide +kernel
theorem dX0_buildMachine_9 : decode cX0_buildMachine 9 = .ok (.getfield 33, 3) := by decide +kernel
theorem dX0_buildMachine_12 : decode cX0_buildMachine 12 = .ok (.iload_n 1, 1) := by decide +kernel
theorem dX0_buildMachine_13 : decode cX0_buildMachine 13 = .ok (.iconst 0, 1) := by decide +kernel
theorem dX0_buildMachine_14 : decode cX0_buildMachine 14 = .ok (.bastore, 1) := by decide +kernel
theorem dX0_buildMachine_15 : decode cX0_buildMachine 15 = .ok (.iinc 1 1, 3) := by decide +kernel
theorem dX0_buildMachine_18 : decode cX0_buildMachine 18 = .ok (.goto (-16), 3) := by decide +kernel
theorem dX0_buildMachine_21 : decode cX0_buildMachine 21 = .ok (.iconst 0, 1) := by decide +kernel
theorem dX0_buildMachine_22 : decode cX0_buildMachine 22 = .ok (.istore_n 1, 1) := by decide +kernel
theorem dX0_buildMachine_23 : decode cX0_buildMachine 23 = .ok (.iconst 0, 1) := by decide +kernel
theorem dX0_buildMachine_24 : decode cX0_buildMachine 24 = .ok (.istore_n 2, 1) := by decide +kernel
theorem dX0_buildMachine_25 : decode cX0_buildMachine 25 = .ok (.iload_n 2, 1) := by decide +kernel
theorem dX0_buildMachine_26 : decode cX0_buildMachine 26 = .ok (.aload_n 0, 1) := by decide +kernel
theorem dX0_buildMachine_27 : decode cX0_buildMachine 27 = .ok (.getfield 69, 3) := by decide +kernel
theorem dX0_buildMachine_30 : decode cX0_buildMachine 30 = .ok (.if_icmp .gt 103, 3) := by decide +kernel
theorem dX0_buildMachine_33 : decode cX0_buildMachine 33 = .ok (.iconst 0, 1) := by decide +kernel
theorem dX0_buildMachine_34 : decode cX0_buildMachine 34 = .ok (.istore_n 3, 1) := by decide +kernel
theorem dX0_buildMachine_35 : decode cX0_buildMachine 35 = .ok (.iload_n 3, 1) := by decide +kernel
theorem dX0_buildMachine_36 : decode cX0_buildMachine 36 = .ok (.iconst 4, 1) := by decide +kernel
theorem dX0_buildMachine_37 : decode cX0_buildMachine 37 = .ok (.if_icmp .ge 37, 3) := by decide +kernel
theorem dX0_buildMachine_40 : decode cX0_buildMachine 40 = .ok (.aload_n 0, 1) := by decide +kernel
theorem dX0_buildMachine_41 : decode cX0_buildMachine 41 = .ok (.getfield 33, 3) := by decide +kernel
theorem dX0_buildMachine_44 : decode cX0_buildMachine 44 = .ok (.iload_n 2, 1) := by decide +kernel
theorem dX0_buildMachine_45 : decode cX0_buildMachine 45 = .ok (.iconst 4, 1) := by decide +kernel
theorem dX0_buildMachine_46 : decode cX0_buildMachine 46 = .ok (.imul, 1) := by decide +kernel
theorem dX0_buildMachine_47 : decode cX0_buildMachine 47 = .ok (.iload_n 3, 1) := by decide +kernel
theorem dX0_buildMachine_48 : decode cX0_buildMachine 48 = .ok (.iadd, 1) := by decide +kernel
theorem dX0_buildMachine_49 : decode cX0_buildMachine 49 = .ok (.iload_n 2, 1) := by decide +kernel
theorem dX0_buildMachine_50 : decode cX0_buildMachine 50 = .ok (.ifCond .ne 7, 3) := by decide +kernel
theorem dX0_buildMachine_53 : decode cX0_buildMachine 53 = .ok (.iconst 0, 1) := by decide +kernel
theorem dX0_buildMachine_54 : decode cX0_buildMachine 54 = .ok (.goto 13, 3) := by decide +kernel
theorem dX0_buildMachine_57 : decode cX0_buildMachine 57 = .ok (.aload_n 0, 1) := by decide +kernel
theorem dX0_buildMachine_58 : decode cX0_buildMachine 58 = .ok (.getfield 33, 3) := by decide +kernel
theorem dX0_buildMachine_61 : decode cX0_buildMachine 61 = .ok (.iload_n 1, 1) := by decide +kernel
theorem dX0_buildMachine_62 : decode cX0_buildMachine 62 = .ok (.iconst 4, 1) := by decide +kernel
theorem dX0_buildMachine_63 : decode cX0_buildMachine 63 = .ok (.imul, 1) := by decide +kernel
theorem dX0_buildMachine_64 : decode cX0_buildMachine 64 = .ok (.iload_n 3, 1) := by decide +kernel
theorem dX0_buildMachine_65 : decode cX0_buildMachine 65 = .ok (.iadd, 1) := by decide +kernel
theorem dX0_buildMachine_66 : decode cX0_buildMachine 66 = .ok (.baload, 1) := by decide +kernel
theorem dX0_buildMachine_67 : decode cX0_buildMachine 67 = .ok (.bastore, 1) := by decide +kernel
theorem dX0_buildMachine_68 : decode cX0_buildMachine 68 = .ok (.iinc 3 1, 3) := by decide +kernel
theorem dX0_buildMachine_71 : decode cX0_buildMachine 71 = .ok (.goto (-36), 3) := by decide +kernel
theorem dX0_buildMachine_74 : decode cX0_buildMachine 74 = .ok (.iload_n 2, 1) := by decide +kernel
theorem dX0_buildMachine_75 : decode cX0_buildMachine 75 = .ok (.aload_n 0, 1) := by decide +kernel
theorem dX0_buildMachine_76 : decode cX0_buildMachine 76 = .ok (.getfield 69, 3) := by decide +kernel
theorem dX0_buildMachine_79 : decode cX0_buildMachine 79 = .ok (.if_icmp .ge 48, 3) := by decide +kernel
theorem dX0_buildMachine_82 : decode cX0_buildMachine 82 = .ok (.aload_n 0, 1) := by decide +kernel
theorem dX0_buildMachine_83 : decode cX0_buildMachine 83 = .ok (.getfield 33, 3) := by decide +kernel
theorem dX0_buildMachine_86 : decode cX0_buildMachine 86 = .ok (.iload_n 1, 1) := by decide +kernel
theorem dX0_buildMachine_87 : decode cX0_buildMachine 87 = .ok (.iconst 4, 1) := by decide +kernel
theorem dX0_buildMachine_88 : decode cX0_buildMachine 88 = .ok (.imul, 1) := by decide +kernel
theorem dX0_buildMachine_89 : decode cX0_buildMachine 89 = .ok (.aload_n 0, 1) := by decide +kernel
theorem dX0_buildMachine_90 : decode cX0_buildMachine 90 = .ok (.getfield 30, 3) := by decide +kernel
theorem dX0_buildMachine_93 : decode cX0_buildMachine 93 = .ok (.iload_n 2, 1) := by decide +kernel
theorem dX0_buildMachine_94 : decode cX0_buildMachine 94 = .ok (.baload, 1) := by decide +kernel
theorem dX0_buildMachine_95 : decode cX0_buildMachine 95 = .ok (.iadd, 1) := by decide +kernel
theorem dX0_buildMachine_96 : decode cX0_buildMachine 96 = .ok (.baload, 1) := by decide +kernel
theorem dX0_buildMachine_97 : decode cX0_buildMachine 97 = .ok (.istore_n 3, 1) := by decide +kernel
theorem dX0_buildMachine_98 : decode cX0_buildMachine 98 = .ok (.aload_n 0, 1) := by decide +kernel
theorem dX0_buildMachine_99 : decode cX0_buildMachine 99 = .ok (.getfield 33, 3) := by decide +kernel
theorem dX0_buildMachine_102 : decode cX0_buildMachine 102 = .ok (.iload_n 2, 1) := by decide +kernel
theorem dX0_buildMachine_103 : decode cX0_buildMachine 103 = .ok (.iconst 4, 1) := by decide +kernel
theorem dX0_buildMachine_104 : decode cX0_buildMachine 104 = .ok (.imul, 1) := by decide +kernel
theorem dX0_buildMachine_105 : decode cX0_buildMachine 105 = .ok (.aload_n 0, 1) := by decide +kernel
theorem dX0_buildMachine_106 : decode cX0_buildMachine 106 = .ok (.getfield 30, 3) := by decide +kernel
theorem dX0_buildMachine_109 : decode cX0_buildMachine 109 = .ok (.iload_n 2, 1) := by decide +kernel
theorem dX0_buildMachine_110 : decode cX0_buildMachine 110 = .ok (.baload, 1) := by decide +kernel
theorem dX0_buildMachine_111 : decode cX0_buildMachine 111 = .ok (.iadd, 1) := by decide +kernel
theorem dX0_buildMachine_112 : decode cX0_buildMachine 112 = .ok (.iload_n 2, 1) := by decide +kernel
theorem dX0_buildMachine_113 : decode cX0_buildMachine 113 = .ok (.iconst 1, 1) := by decide +kernel
theorem dX0_buildMachine_114 : decode cX0_buildMachine 114 = .ok (.iadd, 1) := by decide +kernel
theorem dX0_buildMachine_115 : decode cX0_buildMachine 115 = .ok (.i2b, 1) := by decide +kernel
theorem dX0_buildMachine_116 : decode cX0_buildMachine 116 = .ok (.bastore, 1) := by decide +kernel
theorem dX0_buildMachine_117 : decode cX0_buildMachine 117 = .ok (.iload_n 2, 1) := by decide +kernel
theorem dX0_buildMachine_118 : decode cX0_buildMachine 118 = .ok (.ifCond .ne 7, 3) := by decide +kernel
theorem dX0_buildMachine_121 : decode cX0_buildMachine 121 = .ok (.iconst 0, 1) := by decide +kernel
theorem dX0_buildMachine_122 : decode cX0_buildMachine 122 = .ok (.goto 4, 3) := by decide +kernel
theorem dX0_buildMachine_125 : decode cX0_buildMachine 125 = .ok (.iload_n 3, 1) := by decide +kernel
theorem dX0_buildMachine_126 : decode cX0_buildMachine 126 = .ok (.istore_n 1, 1) := by decide +kernel
theorem dX0_buildMachine_127 : decode cX0_buildMachine 127 = .ok (.iinc 2 1, 3) := by decide +kernel
theorem dX0_buildMachine_130 : decode cX0_buildMachine 130 = .ok (.goto (-105), 3) := by decide +kernel
theorem dX0_buildMachine_133 : decode cX0_buildMachine 133 = .ok (.return_, 1) := by decide +kernel
theorem dX0_fillCell_0 : decode cX0_fillCell 0 = .ok (.iload_n 1, 1) := by decide +kernel
theorem dX0_fillCell_1 : decode cX0_fillCell 1 = .ok (.bipush 7, 2) := by decide +kernel
theorem dX0_fillCell_3 : decode cX0_fillCell 3 = .ok (.imul, 1) := by decide +kernel
theorem dX0_fillCell_4 : decode cX0_fillCell 4 = .ok (.iload_n 2, 1) := by decide +kernel
theorem dX0_fillCell_5 : decode cX0_fillCell 5 = .ok (.iadd, 1) := by decide +kernel
theorem dX0_fillCell_6 : decode cX0_fillCell 6 = .ok (.istore_n 3, 1) := by decide +kernel
theorem dX0_fillCell_7 : decode cX0_fillCell 7 = .ok (.iload_n 2, 1) := by decide +kernel
theorem dX0_fillCell_8 : decode cX0_fillCell 8 = .ok (.istore 4, 2) := by decide +kernel
theorem dX0_fillCell_10 : decode cX0_fillCell 10 = .ok (.iconst 0, 1) := by decide +kernel
theorem dX0_fillCell_11 : decode cX0_fillCell 11 = .ok (.istore 5, 2) := by decide +kernel
theorem dX0_fillCell_13 : decode cX0_fillCell 13 = .ok (.iconst 0, 1) := by decide +kernel
theorem dX0_fillCell_14 : decode cX0_fillCell 14 = .ok (.istore 6, 2) := by decide +kernel
theorem dX0_fillCell_16 : decode cX0_fillCell 16 = .ok (.iconst 0, 1) := by decide +kernel
theorem dX0_fillCell_17 : decode cX0_fillCell 17 = .ok (.istore 7, 2) := by decide +kernel
theorem dX0_fillCell_19 : decode cX0_fillCell 19 = .ok (.aload_n 0, 1) := by decide +kernel
theorem dX0_fillCell_20 : decode cX0_fillCell 20 = .ok (.getfield 13, 3) := by decide +kernel
theorem dX0_fillCell_23 : decode cX0_fillCell 23 = .ok (.iload_n 1, 1) := by decide +kernel
theorem dX0_fillCell_24 : decode cX0_fillCell 24 = .ok (.baload, 1) := by decide +kernel
theorem dX0_fillCell_25 : decode cX0_fillCell 25 = .ok (.ifCond .lt 52, 3) := by decide +kernel
theorem dX0_fillCell_28 : decode cX0_fillCell 28 = .ok (.aload_n 0, 1) := by decide +kernel
theorem dX0_fillCell_29 : decode cX0_fillCell 29 = .ok (.getfield 13, 3) := by decide +kernel
theorem dX0_fillCell_32 : decode cX0_fillCell 32 = .ok (.iload_n 1, 1) := by decide +kernel
theorem dX0_fillCell_33 : decode cX0_fillCell 33 = .ok (.baload, 1) := by decide +kernel
theorem dX0_fillCell_34 : decode cX0_fillCell 34 = .ok (.bipush 7, 2) := by decide +kernel
theorem dX0_fillCell_36 : decode cX0_fillCell 36 = .ok (.imul, 1) := by decide +kernel
theorem dX0_fillCell_37 : decode cX0_fillCell 37 = .ok (.iload_n 2, 1) := by decide +kernel
theorem dX0_fillCell_38 : decode cX0_fillCell 38 = .ok (.iadd, 1) := by decide +kernel
theorem dX0_fillCell_39 : decode cX0_fillCell 39 = .ok (.istore 8, 2) := by decide +kernel
theorem dX0_fillCell_41 : decode cX0_fillCell 41 = .ok (.aload_n 0, 1) := by decide +kernel
theorem dX0_fillCell_42 : decode cX0_fillCell 42 = .ok (.getfield 36, 3) := by decide +kernel
theorem dX0_fillCell_45 : decode cX0_fillCell 45 = .ok (.iload 8, 2) := by decide +kernel
theorem dX0_fillCell_47 : decode cX0_fillCell 47 = .ok (.baload, 1) := by decide +kernel
theorem dX0_fillCell_48 : decode cX0_fillCell 48 = .ok (.istore 4, 2) := by decide +kernel
theorem dX0_fillCell_50 : decode cX0_fillCell 50 = .ok (.aload_n 0, 1) := by decide +kernel
theorem dX0_fillCell_51 : decode cX0_fillCell 51 = .ok (.getfield 39, 3) := by decide +kernel
theorem dX0_fillCell_54 : decode cX0_fillCell 54 = .ok (.iload 8, 2) := by decide +kernel
theorem dX0_fillCell_56 : decode cX0_fillCell 56 = .ok (.saload, 1) := by decide +kernel
theorem dX0_fillCell_57 : decode cX0_fillCell 57 = .ok (.istore 5, 2) := by decide +kernel
theorem dX0_fillCell_59 : decode cX0_fillCell 59 = .ok (.aload_n 0, 1) := by decide +kernel
theorem dX0_fillCell_60 : decode cX0_fillCell 60 = .ok (.getfield 42, 3) := by decide +kernel
theorem dX0_fillCell_63 : decode cX0_fillCell 63 = .ok (.iload 8, 2) := by decide +kernel
theorem dX0_fillCell_65 : decode cX0_fillCell 65 = .ok (.saload, 1) := by decide +kernel
theorem dX0_fillCell_66 : decode cX0_fillCell 66 = .ok (.istore 6, 2) := by decide +kernel
theorem dX0_fillCell_68 : decode cX0_fillCell 68 = .ok (.aload_n 0, 1) := by decide +kernel
theorem dX0_fillCell_69 : decode cX0_fillCell 69 = .ok (.getfield 45, 3) := by decide +kernel
theorem dX0_fillCell_72 : decode cX0_fillCell 72 = .ok (.iload 8, 2) := by decide +kernel
theorem dX0_fillCell_74 : decode cX0_fillCell 74 = .ok (.saload, 1) := by decide +kernel
theorem dX0_fillCell_75 : decode cX0_fillCell 75 = .ok (.istore 7, 2) := by decide +kernel
theorem dX0_fillCell_77 : decode cX0_fillCell 77 = .ok (.aload_n 0, 1) := by decide +kernel
theorem dX0_fillCell_78 : decode cX0_fillCell 78 = .ok (.getfield 33, 3) := by decide +kernel
theorem dX0_fillCell_81 : decode cX0_fillCell 81 = .ok (.iload 4, 2) := by decide +kernel
theorem dX0_fillCell_83 : decode cX0_fillCell 83 = .ok (.iconst 4, 1) := by decide +kernel
theorem dX0_fillCell_84 : decode cX0_fillCell 84 = .ok (.imul, 1) := by decide +kernel
theorem dX0_fillCell_85 : decode cX0_fillCell 85 = .ok (.aload_n 0, 1) := by decide +kernel
theorem dX0_fillCell_86 : decode cX0_fillCell 86 = .ok (.getfield 17, 3) := by decide +kernel
theorem dX0_fillCell_89 : decode cX0_fillCell 89 = .ok (.iload_n 1, 1) := by decide +kernel
theorem dX0_fillCell_90 : decode cX0_fillCell 90 = .ok (.baload, 1) := by decide +kernel
theorem dX0_fillCell_91 : decode cX0_fillCell 91 = .ok (.iadd, 1) := by decide +kernel
theorem dX0_fillCell_92 : decode cX0_fillCell 92 = .ok (.baload, 1) := by decide +kernel
theorem dX0_fillCell_93 : decode cX0_fillCell 93 = .ok (.istore 8, 2) := by decide +kernel
theorem dX0_fillCell_95 : decode cX0_fillCell 95 = .ok (.iload 8, 2) := by decide +kernel
theorem dX0_fillCell_97 : decode cX0_fillCell 97 = .ok (.aload_n 0, 1) := by decide +kernel
theorem dX0_fillCell_98 : decode cX0_fillCell 98 = .ok (.getfield 69, 3) := by decide +kernel
theorem dX0_fillCell_101 : decode cX0_fillCell 101 = .ok (.if_icmp .ne 28, 3) := by decide +kernel
theorem dX0_fillCell_104 : decode cX0_fillCell 104 = .ok (.iinc 5 1, 3) := by decide +kernel
theorem dX0_fillCell_107 : decode cX0_fillCell 107 = .ok (.aload_n 0, 1) := by decide +kernel
theorem dX0_fillCell_108 : decode cX0_fillCell 108 = .ok (.getfield 23, 3) := by decide +kernel
theorem dX0_fillCell_111 : decode cX0_fillCell 111 = .ok (.iload_n 1, 1) := by decide +kernel
theorem dX0_fillCell_112 : decode cX0_fillCell 112 = .ok (.saload, 1) := by decide +kernel
theorem dX0_fillCell_113 : decode cX0_fillCell 113 = .ok (.istore 7, 2) := by decide +kernel
theorem dX0_fillCell_115 : decode cX0_fillCell 115 = .ok (.iload 6, 2) := by decide +kernel
theorem dX0_fillCell_117 : decode cX0_fillCell 117 = .ok (.ifCond .ne 8, 3) := by decide +kernel
theorem dX0_fillCell_120 : decode cX0_fillCell 120 = .ok (.iload 7, 2) := by decide +kernel
theorem dX0_fillCell_122 : decode cX0_fillCell 122 = .ok (.goto 5, 3) := by decide +kernel
theorem dX0_fillCell_125 : decode cX0_fillCell 125 = .ok (.iload 6, 2) := by decide +kernel
theorem dX0_fillCell_127 : decode cX0_fillCell 127 = .ok (.istore 6, 2) := by decide +kernel
theorem dX0_fillCell_129 : decode cX0_fillCell 129 = .ok (.aload_n 0, 1) := by decide +kernel
theorem dX0_fillCell_130 : decode cX0_fillCell 130 = .ok (.getfield 36, 3) := by decide +kernel
theorem dX0_fillCell_133 : decode cX0_fillCell 133 = .ok (.iload_n 3, 1) := by decide +kernel
theorem dX0_fillCell_134 : decode cX0_fillCell 134 = .ok (.iload 8, 2) := by decide +kernel
theorem dX0_fillCell_136 : decode cX0_fillCell 136 = .ok (.i2b, 1) := by decide +kernel
theorem dX0_fillCell_137 : decode cX0_fillCell 137 = .ok (.bastore, 1) := by decide +kernel
theorem dX0_fillCell_138 : decode cX0_fillCell 138 = .ok (.aload_n 0, 1) := by decide +kernel
theorem dX0_fillCell_139 : decode cX0_fillCell 139 = .ok (.getfield 39, 3) := by decide +kernel
theorem dX0_fillCell_142 : decode cX0_fillCell 142 = .ok (.iload_n 3, 1) := by decide +kernel
theorem dX0_fillCell_143 : decode cX0_fillCell 143 = .ok (.iload 5, 2) := by decide +kernel
theorem dX0_fillCell_145 : decode cX0_fillCell 145 = .ok (.i2s, 1) := by decide +kernel
theorem dX0_fillCell_146 : decode cX0_fillCell 146 = .ok (.sastore, 1) := by decide +kernel
theorem dX0_fillCell_147 : decode cX0_fillCell 147 = .ok (.aload_n 0, 1) := by decide +kernel
theorem dX0_fillCell_148 : decode cX0_fillCell 148 = .ok (.getfield 42, 3) := by decide +kernel
theorem dX0_fillCell_151 : decode cX0_fillCell 151 = .ok (.iload_n 3, 1) := by decide +kernel
theorem dX0_fillCell_152 : decode cX0_fillCell 152 = .ok (.iload 6, 2) := by decide +kernel
theorem dX0_fillCell_154 : decode cX0_fillCell 154 = .ok (.i2s, 1) := by decide +kernel
theorem dX0_fillCell_155 : decode cX0_fillCell 155 = .ok (.sastore, 1) := by decide +kernel
theorem dX0_fillCell_156 : decode cX0_fillCell 156 = .ok (.aload_n 0, 1) := by decide +kernel
theorem dX0_fillCell_157 : decode cX0_fillCell 157 = .ok (.getfield 45, 3) := by decide +kernel
theorem dX0_fillCell_160 : decode cX0_fillCell 160 = .ok (.iload_n 3, 1) := by decide +kernel
theorem dX0_fillCell_161 : decode cX0_fillCell 161 = .ok (.iload 7, 2) := by decide +kernel
theorem dX0_fillCell_163 : decode cX0_fillCell 163 = .ok (.i2s, 1) := by decide +kernel
theorem dX0_fillCell_164 : decode cX0_fillCell 164 = .ok (.sastore, 1) := by decide +kernel
theorem dX0_fillCell_165 : decode cX0_fillCell 165 = .ok (.return_, 1) := by decide +kernel
theorem dX0_pass_0 : decode cX0_pass 0 = .ok (.aload_n 0, 1) := by decide +kernel
theorem dX0_pass_1 : decode cX0_pass 1 = .ok (.getfield 39, 3) := by decide +kernel
theorem dX0_pass_4 : decode cX0_pass 4 = .ok (.iload_n 1, 1) := by decide +kernel
theorem dX0_pass_5 : decode cX0_pass 5 = .ok (.saload, 1) := by decide +kernel
theorem dX0_pass_6 : decode cX0_pass 6 = .ok (.ifCond .le 66, 3) := by decide +kernel
theorem dX0_pass_9 : decode cX0_pass 9 = .ok (.aload_n 0, 1) := by decide +kernel
theorem dX0_pass_10 : decode cX0_pass 10 = .ok (.dup, 1) := by decide +kernel
theorem dX0_pass_11 : decode cX0_pass 11 = .ok (.getfield 84, 3) := by decide +kernel
theorem dX0_pass_14 : decode cX0_pass 14 = .ok (.aload_n 0, 1) := by decide +kernel
theorem dX0_pass_15 : decode cX0_pass 15 = .ok (.getfield 39, 3) := by decide +kernel
theorem dX0_pass_18 : decode cX0_pass 18 = .ok (.iload_n 1, 1) := by decide +kernel
theorem dX0_pass_19 : decode cX0_pass 19 = .ok (.saload, 1) := by decide +kernel
theorem dX0_pass_20 : decode cX0_pass 20 = .ok (.iadd, 1) := by decide +kernel
theorem dX0_pass_21 : decode cX0_pass 21 = .ok (.putfield 84, 3) := by decide +kernel
theorem dX0_pass_24 : decode cX0_pass 24 = .ok (.aload_n 0, 1) := by decide +kernel
theorem dX0_pass_25 : decode cX0_pass 25 = .ok (.iload_n 2, 1) := by decide +kernel
theorem dX0_pass_26 : decode cX0_pass 26 = .ok (.aload_n 0, 1) := by decide +kernel
theorem dX0_pass_27 : decode cX0_pass 27 = .ok (.getfield 45, 3) := by decide +kernel
theorem dX0_pass_30 : decode cX0_pass 30 = .ok (.iload_n 1, 1) := by decide +kernel
theorem dX0_pass_31 : decode cX0_pass 31 = .ok (.saload, 1) := by decide +kernel
theorem dX0_pass_32 : decode cX0_pass 32 = .ok (.iadd, 1) := by decide +kernel
theorem dX0_pass_33 : decode cX0_pass 33 = .ok (.aload_n 0, 1) := by decide +kernel
theorem dX0_pass_34 : decode cX0_pass 34 = .ok (.getfield 69, 3) := by decide +kernel
theorem dX0_pass_37 : decode cX0_pass 37 = .ok (.isub, 1) := by decide +kernel
theorem dX0_pass_38 : decode cX0_pass 38 = .ok (.putfield 90, 3) := by decide +kernel
theorem dX0_pass_41 : decode cX0_pass 41 = .ok (.aload_n 0, 1) := by decide +kernel
theorem dX0_pass_42 : decode cX0_pass 42 = .ok (.aload_n 0, 1) := by decide +kernel
theorem dX0_pass_43 : decode cX0_pass 43 = .ok (.getfield 87, 3) := by decide +kernel
theorem dX0_pass_46 : decode cX0_pass 46 = .ok (.ifCond .ge 19, 3) := by decide +kernel
theorem dX0_pass_49 : decode cX0_pass 49 = .ok (.iload_n 2, 1) := by decide +kernel
theorem dX0_pass_50 : decode cX0_pass 50 = .ok (.aload_n 0, 1) := by decide +kernel
theorem dX0_pass_51 : decode cX0_pass 51 = .ok (.getfield 42, 3) := by decide +kernel
theorem dX0_pass_54 : decode cX0_pass 54 = .ok (.iload_n 1, 1) := by decide +kernel
theorem dX0_pass_55 : decode cX0_pass 55 = .ok (.saload, 1) := by decide +kernel
theorem dX0_pass_56 : decode cX0_pass 56 = .ok (.iadd, 1) := by decide +kernel
theorem dX0_pass_57 : decode cX0_pass 57 = .ok (.aload_n 0, 1) := by decide +kernel
theorem dX0_pass_58 : decode cX0_pass 58 = .ok (.getfield 69, 3) := by decide +kernel
theorem dX0_pass_61 : decode cX0_pass 61 = .ok (.isub, 1) := by decide +kernel
theorem dX0_pass_62 : decode cX0_pass 62 = .ok (.goto 7, 3) := by decide +kernel
theorem dX0_pass_65 : decode cX0_pass 65 = .ok (.aload_n 0, 1) := by decide +kernel
theorem dX0_pass_66 : decode cX0_pass 66 = .ok (.getfield 87, 3) := by decide +kernel
theorem dX0_pass_69 : decode cX0_pass 69 = .ok (.putfield 87, 3) := by decide +kernel
theorem dX0_pass_72 : decode cX0_pass 72 = .ok (.aload_n 0, 1) := by decide +kernel
theorem dX0_pass_73 : decode cX0_pass 73 = .ok (.aload_n 0, 1) := by decide +kernel
theorem dX0_pass_74 : decode cX0_pass 74 = .ok (.getfield 36, 3) := by decide +kernel
theorem dX0_pass_77 : decode cX0_pass 77 = .ok (.iload_n 1, 1) := by decide +kernel
theorem dX0_pass_78 : decode cX0_pass 78 = .ok (.baload, 1) := by decide +kernel
theorem dX0_pass_79 : decode cX0_pass 79 = .ok (.putfield 81, 3) := by decide +kernel
theorem dX0_pass_82 : decode cX0_pass 82 = .ok (.return_, 1) := by decide +kernel
theorem dX0_first_0 : decode cX0_first 0 = .ok (.aload_n 0, 1) := by decide +kernel
theorem dX0_first_1 : decode cX0_first 1 = .ok (.invokevirtual 109, 3) := by decide +kernel
theorem dX0_first_4 : decode cX0_first 4 = .ok (.aload_n 0, 1) := by decide +kernel
theorem dX0_first_5 : decode cX0_first 5 = .ok (.getfield 87, 3) := by decide +kernel
theorem dX0_first_8 : decode cX0_first 8 = .ok (.ireturn, 1) := by decide +kernel
theorem dX0_last_0 : decode cX0_last 0 = .ok (.aload_n 0, 1) := by decide +kernel
theorem dX0_last_1 : decode cX0_last 1 = .ok (.invokevirtual 109, 3) := by decide +kernel
theorem dX0_last_4 : decode cX0_last 4 = .ok (.aload_n 0, 1) := by decide +kernel
theorem dX0_last_5 : decode cX0_last 5 = .ok (.getfield 90, 3) := by decide +kernel
theorem dX0_last_8 : decode cX0_last 8 = .ok (.ireturn, 1) := by decide +kernel
theorem dX0_tail_0 : decode cX0_tail 0 = .ok (.aload_n 0, 1) := by decide +kernel
theorem dX0_tail_1 : decode cX0_tail 1 = .ok (.invokevirtual 109, 3) := by decide +kernel
theorem dX0_tail_4 : decode cX0_tail 4 = .ok (.aload_n 0, 1) := by decide +kernel
theorem dX0_tail_5 : decode cX0_tail 5 = .ok (.getfield 81, 3) := by decide +kernel
theorem dX0_tail_8 : decode cX0_tail 8 = .ok (.ireturn, 1) := by decide +kernel
theorem dX0_within_0 : decode cX0_within 0 = .ok (.aload_n 0, 1) := by decide +kernel
theorem dX0_within_1 : decode cX0_within 1 = .ok (.invokevirtual 109, 3) := by decide +kernel
theorem dX0_within_4 : decode cX0_within 4 = .ok (.aload_n 0, 1) := by decide +kernel
theorem dX0_within_5 : decode cX0_within 5 = .ok (.getfield 93, 3) := by decide +kernel
theorem dX0_within_8 : decode cX0_within 8 = .ok (.ireturn, 1) := by decide +kernel
theorem dX0_endingIn_0 : decode cX0_endingIn 0 = .ok (.iload_n 1, 1) := by decide +kernel
theorem dX0_endingIn_1 : decode cX0_endingIn 1 = .ok (.ifCond .lt 18, 3) := by decide +kernel
theorem dX0_endingIn_4 : decode cX0_endingIn 4 = .ok (.iload_n 1, 1) := by decide +kernel
theorem dX0_endingIn_5 : decode cX0_endingIn 5 = .ok (.aload_n 0, 1) := by decide +kernel
theorem dX0_endingIn_6 : decode cX0_endingIn 6 = .ok (.getfield 52, 3) := by decide +kernel
theorem dX0_endingIn_9 : decode cX0_endingIn 9 = .ok (.if_icmp .ge 10, 3) := by decide +kernel
theorem dX0_endingIn_12 : decode cX0_endingIn 12 = .ok (.aload_n 0, 1) := by decide +kernel
theorem dX0_endingIn_13 : decode cX0_endingIn 13 = .ok (.getfield 69, 3) := by decide +kernel
theorem dX0_endingIn_16 : decode cX0_endingIn 16 = .ok (.ifCond .ne 5, 3) := by decide +kernel
theorem dX0_endingIn_19 : decode cX0_endingIn 19 = .ok (.iconst 0, 1) := by decide +kernel
theorem dX0_endingIn_20 : decode cX0_endingIn 20 = .ok (.ireturn, 1) := by decide +kernel
theorem dX0_endingIn_21 : decode cX0_endingIn 21 = .ok (.aload_n 0, 1) := by decide +kernel
theorem dX0_endingIn_22 : decode cX0_endingIn 22 = .ok (.invokevirtual 96, 3) := by decide +kernel
theorem dX0_endingIn_25 : decode cX0_endingIn 25 = .ok (.iconst 0, 1) := by decide +kernel
theorem dX0_endingIn_26 : decode cX0_endingIn 26 = .ok (.istore_n 2, 1) := by decide +kernel
theorem dX0_endingIn_27 : decode cX0_endingIn 27 = .ok (.iconst 0, 1) := by decide +kernel
theorem dX0_endingIn_28 : decode cX0_endingIn 28 = .ok (.istore_n 3, 1) := by decide +kernel
theorem dX0_endingIn_29 : decode cX0_endingIn 29 = .ok (.iload_n 3, 1) := by decide +kernel
theorem dX0_endingIn_30 : decode cX0_endingIn 30 = .ok (.iload_n 1, 1) := by decide +kernel
theorem dX0_endingIn_31 : decode cX0_endingIn 31 = .ok (.if_icmp .ge 26, 3) := by decide +kernel
theorem dX0_endingIn_34 : decode cX0_endingIn 34 = .ok (.aload_n 0, 1) := by decide +kernel
theorem dX0_endingIn_35 : decode cX0_endingIn 35 = .ok (.getfield 36, 3) := by decide +kernel
theorem dX0_endingIn_38 : decode cX0_endingIn 38 = .ok (.aload_n 0, 1) := by decide +kernel
theorem dX0_endingIn_39 : decode cX0_endingIn 39 = .ok (.getfield 27, 3) := by decide +kernel
theorem dX0_endingIn_42 : decode cX0_endingIn 42 = .ok (.iload_n 3, 1) := by decide +kernel
theorem dX0_endingIn_43 : decode cX0_endingIn 43 = .ok (.baload, 1) := by decide +kernel
theorem dX0_endingIn_44 : decode cX0_endingIn 44 = .ok (.bipush 7, 2) := by decide +kernel
theorem dX0_endingIn_46 : decode cX0_endingIn 46 = .ok (.imul, 1) := by decide +kernel
theorem dX0_endingIn_47 : decode cX0_endingIn 47 = .ok (.iload_n 2, 1) := by decide +kernel
theorem dX0_endingIn_48 : decode cX0_endingIn 48 = .ok (.iadd, 1) := by decide +kernel
theorem dX0_endingIn_49 : decode cX0_endingIn 49 = .ok (.baload, 1) := by decide +kernel
theorem dX0_endingIn_50 : decode cX0_endingIn 50 = .ok (.istore_n 2, 1) := by decide +kernel
theorem dX0_endingIn_51 : decode cX0_endingIn 51 = .ok (.iinc 3 1, 3) := by decide +kernel
theorem dX0_endingIn_54 : decode cX0_endingIn 54 = .ok (.goto (-25), 3) := by decide +kernel
theorem dX0_endingIn_57 : decode cX0_endingIn 57 = .ok (.aload_n 0, 1) := by decide +kernel
theorem dX0_endingIn_58 : decode cX0_endingIn 58 = .ok (.getfield 39, 3) := by decide +kernel
theorem dX0_endingIn_61 : decode cX0_endingIn 61 = .ok (.aload_n 0, 1) := by decide +kernel
theorem dX0_endingIn_62 : decode cX0_endingIn 62 = .ok (.getfield 27, 3) := by decide +kernel
theorem dX0_endingIn_65 : decode cX0_endingIn 65 = .ok (.iload_n 1, 1) := by decide +kernel
theorem dX0_endingIn_66 : decode cX0_endingIn 66 = .ok (.baload, 1) := by decide +kernel
theorem dX0_endingIn_67 : decode cX0_endingIn 67 = .ok (.bipush 7, 2) := by decide +kernel
theorem dX0_endingIn_69 : decode cX0_endingIn 69 = .ok (.imul, 1) := by decide +kernel
theorem dX0_endingIn_70 : decode cX0_endingIn 70 = .ok (.iload_n 2, 1) := by decide +kernel
theorem dX0_endingIn_71 : decode cX0_endingIn 71 = .ok (.iadd, 1) := by decide +kernel
theorem dX0_endingIn_72 : decode cX0_endingIn 72 = .ok (.saload, 1) := by decide +kernel
theorem dX0_endingIn_73 : decode cX0_endingIn 73 = .ok (.ireturn, 1) := by decide +kernel
end
section
set_option maxRecDepth 100000
theorem dX1_init_0 : decode cX1_init 0 = .ok (.aload_n 0, 1) := by decide +kernel
theorem dX1_init_1 : decode cX1_init 1 = .ok (.invokespecial 1, 3) := by decide +kernel
theorem dX1_init_4 : decode cX1_init 4 = .ok (.aload_n 0, 1) := by decide +kernel
theorem dX1_init_5 : decode cX1_init 5 = .ok (.sipush 250, 3) := by decide +kernel
theorem dX1_init_8 : decode cX1_init 8 = .ok (.newarray .int, 2) := by decide +kernel
theorem dX1_init_10 : decode cX1_init 10 = .ok (.putfield 7, 3) := by decide +kernel
theorem dX1_init_13 : decode cX1_init 13 = .ok (.aload_n 0, 1) := by decide +kernel
theorem dX1_init_14 : decode cX1_init 14 = .ok (.sipush 251, 3) := by decide +kernel
theorem dX1_init_17 : decode cX1_init 17 = .ok (.newarray .int, 2) := by decide +kernel
theorem dX1_init_19 : decode cX1_init 19 = .ok (.putfield 13, 3) := by decide +kernel
theorem dX1_init_22 : decode cX1_init 22 = .ok (.aload_n 0, 1) := by decide +kernel
theorem dX1_init_23 : decode cX1_init 23 = .ok (.bipush 60, 2) := by decide +kernel
theorem dX1_init_25 : decode cX1_init 25 = .ok (.newarray .int, 2) := by decide +kernel
theorem dX1_init_27 : decode cX1_init 27 = .ok (.putfield 16, 3) := by decide +kernel
theorem dX1_init_30 : decode cX1_init 30 = .ok (.aload_n 0, 1) := by decide +kernel
theorem dX1_init_31 : decode cX1_init 31 = .ok (.bipush 60, 2) := by decide +kernel
theorem dX1_init_33 : decode cX1_init 33 = .ok (.newarray .int, 2) := by decide +kernel
theorem dX1_init_35 : decode cX1_init 35 = .ok (.putfield 19, 3) := by decide +kernel
theorem dX1_init_38 : decode cX1_init 38 = .ok (.aload_n 0, 1) := by decide +kernel
theorem dX1_init_39 : decode cX1_init 39 = .ok (.bipush 6, 2) := by decide +kernel
theorem dX1_init_41 : decode cX1_init 41 = .ok (.newarray .int, 2) := by decide +kernel
theorem dX1_init_43 : decode cX1_init 43 = .ok (.putfield 22, 3) := by decide +kernel
theorem dX1_init_46 : decode cX1_init 46 = .ok (.aload_n 0, 1) := by decide +kernel
theorem dX1_init_47 : decode cX1_init 47 = .ok (.iconst 4, 1) := by decide +kernel
theorem dX1_init_48 : decode cX1_init 48 = .ok (.putfield 25, 3) := by decide +kernel
theorem dX1_init_51 : decode cX1_init 51 = .ok (.return_, 1) := by decide +kernel
theorem dX1_feed_0 : decode cX1_feed 0 = .ok (.iload_n 1, 1) := by decide +kernel
theorem dX1_feed_1 : decode cX1_feed 1 = .ok (.ifCond .lt 40, 3) := by decide +kernel
theorem dX1_feed_4 : decode cX1_feed 4 = .ok (.aload_n 0, 1) := by decide +kernel
theorem dX1_feed_5 : decode cX1_feed 5 = .ok (.getfield 29, 3) := by decide +kernel
theorem dX1_feed_8 : decode cX1_feed 8 = .ok (.ifCond .ne 8, 3) := by decide +kernel
theorem dX1_feed_11 : decode cX1_feed 11 = .ok (.iload_n 1, 1) := by decide +kernel
theorem dX1_feed_12 : decode cX1_feed 12 = .ok (.iconst 3, 1) := by decide +kernel
theorem dX1_feed_13 : decode cX1_feed 13 = .ok (.if_icmp .gt 28, 3) := by decide +kernel
theorem dX1_feed_16 : decode cX1_feed 16 = .ok (.iload_n 1, 1) := by decide +kernel
theorem dX1_feed_17 : decode cX1_feed 17 = .ok (.aload_n 0, 1) := by decide +kernel
theorem dX1_feed_18 : decode cX1_feed 18 = .ok (.getfield 25, 3) := by decide +kernel
theorem dX1_feed_21 : decode cX1_feed 21 = .ok (.if_icmp .gt 20, 3) := by decide +kernel
theorem dX1_feed_24 : decode cX1_feed 24 = .ok (.iload_n 1, 1) := by decide +kernel
theorem dX1_feed_25 : decode cX1_feed 25 = .ok (.aload_n 0, 1) := by decide +kernel
theorem dX1_feed_26 : decode cX1_feed 26 = .ok (.getfield 25, 3) := by decide +kernel
theorem dX1_feed_29 : decode cX1_feed 29 = .ok (.if_icmp .ne 14, 3) := by decide +kernel
theorem dX1_feed_32 : decode cX1_feed 32 = .ok (.aload_n 0, 1) := by decide +kernel
theorem dX1_feed_33 : decode cX1_feed 33 = .ok (.getfield 25, 3) := by decide +kernel
theorem dX1_feed_36 : decode cX1_feed 36 = .ok (.bipush 60, 2) := by decide +kernel
theorem dX1_feed_38 : decode cX1_feed 38 = .ok (.if_icmp .ne 5, 3) := by decide +kernel
theorem dX1_feed_41 : decode cX1_feed 41 = .ok (.iconst (-1), 1) := by decide +kernel
theorem dX1_feed_42 : decode cX1_feed 42 = .ok (.ireturn, 1) := by decide +kernel
theorem dX1_feed_43 : decode cX1_feed 43 = .ok (.aload_n 0, 1) := by decide +kernel
theorem dX1_feed_44 : decode cX1_feed 44 = .ok (.getfield 29, 3) := by decide +kernel
theorem dX1_feed_47 : decode cX1_feed 47 = .ok (.ifCond .le 17, 3) := by decide +kernel
theorem dX1_feed_50 : decode cX1_feed 50 = .ok (.aload_n 0, 1) := by decide +kernel
theorem dX1_feed_51 : decode cX1_feed 51 = .ok (.getfield 13, 3) := by decide +kernel
theorem dX1_feed_54 : decode cX1_feed 54 = .ok (.aload_n 0, 1) := by decide +kernel
theorem dX1_feed_55 : decode cX1_feed 55 = .ok (.getfield 29, 3) := by decide +kernel
theorem dX1_feed_58 : decode cX1_feed 58 = .ok (.iconst 1, 1) := by decide +kernel
theorem dX1_feed_59 : decode cX1_feed 59 = .ok (.isub, 1) := by decide +kernel
theorem dX1_feed_60 : decode cX1_feed 60 = .ok (.iaload, 1) := by decide +kernel
theorem dX1_feed_61 : decode cX1_feed 61 = .ok (.goto 4, 3) := by decide +kernel
theorem dX1_feed_64 : decode cX1_feed 64 = .ok (.iconst 0, 1) := by decide +kernel
theorem dX1_feed_65 : decode cX1_feed 65 = .ok (.istore_n 2, 1) := by decide +kernel
theorem dX1_feed_66 : decode cX1_feed 66 = .ok (.iload_n 1, 1) := by decide +kernel
theorem dX1_feed_67 : decode cX1_feed 67 = .ok (.aload_n 0, 1) := by decide +kernel
theorem dX1_feed_68 : decode cX1_feed 68 = .ok (.getfield 25, 3) := by decide +kernel
theorem dX1_feed_71 : decode cX1_feed 71 = .ok (.if_icmp .ge 11, 3) := by decide +kernel
theorem dX1_feed_74 : decode cX1_feed 74 = .ok (.aload_n 0, 1) := by decide +kernel
theorem dX1_feed_75 : decode cX1_feed 75 = .ok (.iload_n 1, 1) := by decide +kernel
theorem dX1_feed_76 : decode cX1_feed 76 = .ok (.invokevirtual 32, 3) := by decide +kernel
theorem dX1_feed_79 : decode cX1_feed 79 = .ok (.goto 11, 3) := by decide +kernel
theorem dX1_feed_82 : decode cX1_feed 82 = .ok (.aload_n 0, 1) := by decide +kernel
theorem dX1_feed_83 : decode cX1_feed 83 = .ok (.getfield 36, 3) := by decide +kernel
theorem dX1_feed_86 : decode cX1_feed 86 = .ok (.iload_n 2, 1) := by decide +kernel
theorem dX1_feed_87 : decode cX1_feed 87 = .ok (.isub, 1) := by decide +kernel
theorem dX1_feed_88 : decode cX1_feed 88 = .ok (.iconst 1, 1) := by decide +kernel
theorem dX1_feed_89 : decode cX1_feed 89 = .ok (.iadd, 1) := by decide +kernel
theorem dX1_feed_90 : decode cX1_feed 90 = .ok (.istore_n 3, 1) := by decide +kernel
theorem dX1_feed_91 : decode cX1_feed 91 = .ok (.aload_n 0, 1) := by decide +kernel
theorem dX1_feed_92 : decode cX1_feed 92 = .ok (.getfield 36, 3) := by decide +kernel
theorem dX1_feed_95 : decode cX1_feed 95 = .ok (.iload_n 3, 1) := by decide +kernel
theorem dX1_feed_96 : decode cX1_feed 96 = .ok (.iadd, 1) := by decide +kernel
theorem dX1_feed_97 : decode cX1_feed 97 = .ok (.sipush 250, 3) := by decide +kernel
theorem dX1_feed_100 : decode cX1_feed 100 = .ok (.if_icmp .le 5, 3) := by decide +kernel
theorem dX1_feed_103 : decode cX1_feed 103 = .ok (.iconst (-1), 1) := by decide +kernel
theorem dX1_feed_104 : decode cX1_feed 104 = .ok (.ireturn, 1) := by decide +kernel
theorem dX1_feed_105 : decode cX1_feed 105 = .ok (.aload_n 0, 1) := by decide +kernel
theorem dX1_feed_106 : decode cX1_feed 106 = .ok (.getfield 36, 3) := by decide +kernel
theorem dX1_feed_109 : decode cX1_feed 109 = .ok (.istore 4, 2) := by decide +kernel
theorem dX1_feed_111 : decode cX1_feed 111 = .ok (.iconst 0, 1) := by decide +kernel
theorem dX1_feed_112 : decode cX1_feed 112 = .ok (.istore 5, 2) := by decide +kernel
theorem dX1_feed_114 : decode cX1_feed 114 = .ok (.iload 5, 2) := by decide +kernel
theorem dX1_feed_116 : decode cX1_feed 116 = .ok (.iload_n 3, 1) := by decide +kernel
theorem dX1_feed_117 : decode cX1_feed 117 = .ok (.if_icmp .ge 46, 3) := by decide +kernel
theorem dX1_feed_120 : decode cX1_feed 120 = .ok (.aload_n 0, 1) := by decide +kernel
theorem dX1_feed_121 : decode cX1_feed 121 = .ok (.getfield 7, 3) := by decide +kernel
theorem dX1_feed_124 : decode cX1_feed 124 = .ok (.iload 4, 2) := by decide +kernel
theorem dX1_feed_126 : decode cX1_feed 126 = .ok (.iload 5, 2) := by decide +kernel
theorem dX1_feed_128 : decode cX1_feed 128 = .ok (.iadd, 1) := by decide +kernel
theorem dX1_feed_129 : decode cX1_feed 129 = .ok (.iload_n 1, 1) := by decide +kernel
theorem dX1_feed_130 : decode cX1_feed 130 = .ok (.aload_n 0, 1) := by decide +kernel
theorem dX1_feed_131 : decode cX1_feed 131 = .ok (.getfield 25, 3) := by decide +kernel
theorem dX1_feed_134 : decode cX1_feed 134 = .ok (.if_icmp .ge 13, 3) := by decide +kernel
theorem dX1_feed_137 : decode cX1_feed 137 = .ok (.aload_n 0, 1) := by decide +kernel
theorem dX1_feed_138 : decode cX1_feed 138 = .ok (.iload_n 1, 1) := by decide +kernel
theorem dX1_feed_139 : decode cX1_feed 139 = .ok (.iload 5, 2) := by decide +kernel
theorem dX1_feed_141 : decode cX1_feed 141 = .ok (.invokevirtual 39, 3) := by decide +kernel
theorem dX1_feed_144 : decode cX1_feed 144 = .ok (.goto 12, 3) := by decide +kernel
theorem dX1_feed_147 : decode cX1_feed 147 = .ok (.aload_n 0, 1) := by decide +kernel
theorem dX1_feed_148 : decode cX1_feed 148 = .ok (.getfield 7, 3) := by decide +kernel
theorem dX1_feed_151 : decode cX1_feed 151 = .ok (.iload_n 2, 1) := by decide +kernel
theorem dX1_feed_152 : decode cX1_feed 152 = .ok (.iload 5, 2) := by decide +kernel
theorem dX1_feed_154 : decode cX1_feed 154 = .ok (.iadd, 1) := by decide +kernel
theorem dX1_feed_155 : decode cX1_feed 155 = .ok (.iaload, 1) := by decide +kernel
theorem dX1_feed_156 : decode cX1_feed 156 = .ok (.iastore, 1) := by decide +kernel
theorem dX1_feed_157 : decode cX1_feed 157 = .ok (.iinc 5 1, 3) := by decide +kernel
theorem dX1_feed_160 : decode cX1_feed 160 = .ok (.goto (-46), 3) := by decide +kernel
theorem dX1_feed_163 : decode cX1_feed 163 = .ok (.aload_n 0, 1) := by decide +kernel
theorem dX1_feed_164 : decode cX1_feed 164 = .ok (.iload 4, 2) := by decide +kernel
theorem dX1_feed_166 : decode cX1_feed 166 = .ok (.iload_n 3, 1) := by decide +kernel
theorem dX1_feed_167 : decode cX1_feed 167 = .ok (.iadd, 1) := by decide +kernel
theorem dX1_feed_168 : decode cX1_feed 168 = .ok (.putfield 36, 3) := by decide +kernel
theorem dX1_feed_171 : decode cX1_feed 171 = .ok (.aload_n 0, 1) := by decide +kernel
theorem dX1_feed_172 : decode cX1_feed 172 = .ok (.getfield 29, 3) := by decide +kernel
theorem dX1_feed_175 : decode cX1_feed 175 = .ok (.ifCond .le 47, 3) := by decide +kernel
theorem dX1_feed_178 : decode cX1_feed 178 = .ok (.aload_n 0, 1) := by decide +kernel
theorem dX1_feed_179 : decode cX1_feed 179 = .ok (.getfield 25, 3) := by decide +kernel
theorem dX1_feed_182 : decode cX1_feed 182 = .ok (.bipush 60, 2) := by decide +kernel
theorem dX1_feed_184 : decode cX1_feed 184 = .ok (.if_icmp .ge 38, 3) := by decide +kernel
theorem dX1_feed_187 : decode cX1_feed 187 = .ok (.aload_n 0, 1) := by decide +kernel
theorem dX1_feed_188 : decode cX1_feed 188 = .ok (.getfield 16, 3) := by decide +kernel
theorem dX1_feed_191 : decode cX1_feed 191 = .ok (.aload_n 0, 1) := by decide +kernel
theorem dX1_feed_192 : decode cX1_feed 192 = .ok (.getfield 25, 3) := by decide +kernel
theorem dX1_feed_195 : decode cX1_feed 195 = .ok (.iload_n 2, 1) := by decide +kernel
theorem dX1_feed_196 : decode cX1_feed 196 = .ok (.iastore, 1) := by decide +kernel
theorem dX1_feed_197 : decode cX1_feed 197 = .ok (.aload_n 0, 1) := by decide +kernel
theorem dX1_feed_198 : decode cX1_feed 198 = .ok (.getfield 19, 3) := by decide +kernel
theorem dX1_feed_201 : decode cX1_feed 201 = .ok (.aload_n 0, 1) := by decide +kernel
theorem dX1_feed_202 : decode cX1_feed 202 = .ok (.getfield 25, 3) := by decide +kernel
theorem dX1_feed_205 : decode cX1_feed 205 = .ok (.iload 4, 2) := by decide +kernel
theorem dX1_feed_207 : decode cX1_feed 207 = .ok (.iload_n 2, 1) := by decide +kernel
theorem dX1_feed_208 : decode cX1_feed 208 = .ok (.isub, 1) := by decide +kernel
theorem dX1_feed_209 : decode cX1_feed 209 = .ok (.iconst 1, 1) := by decide +kernel
theorem dX1_feed_210 : decode cX1_feed 210 = .ok (.iadd, 1) := by decide +kernel
theorem dX1_feed_211 : decode cX1_feed 211 = .ok (.iastore, 1) := by decide +kernel
theorem dX1_feed_212 : decode cX1_feed 212 = .ok (.aload_n 0, 1) := by decide +kernel
theorem dX1_feed_213 : decode cX1_feed 213 = .ok (.dup, 1) := by decide +kernel
theorem dX1_feed_214 : decode cX1_feed 214 = .ok (.getfield 25, 3) := by decide +kernel
theorem dX1_feed_217 : decode cX1_feed 217 = .ok (.iconst 1, 1) := by decide +kernel
theorem dX1_feed_218 : decode cX1_feed 218 = .ok (.iadd, 1) := by decide +kernel
theorem dX1_feed_219 : decode cX1_feed 219 = .ok (.putfield 25, 3) := by decide +kernel
theorem dX1_feed_222 : decode cX1_feed 222 = .ok (.aload_n 0, 1) := by decide +kernel
theorem dX1_feed_223 : decode cX1_feed 223 = .ok (.getfield 13, 3) := by decide +kernel
theorem dX1_feed_226 : decode cX1_feed 226 = .ok (.aload_n 0, 1) := by decide +kernel
theorem dX1_feed_227 : decode cX1_feed 227 = .ok (.getfield 29, 3) := by decide +kernel
theorem dX1_feed_230 : decode cX1_feed 230 = .ok (.iload 4, 2) := by decide +kernel
theorem dX1_feed_232 : decode cX1_feed 232 = .ok (.iastore, 1) := by decide +kernel
theorem dX1_feed_233 : decode cX1_feed 233 = .ok (.aload_n 0, 1) := by decide +kernel
theorem dX1_feed_234 : decode cX1_feed 234 = .ok (.dup, 1) := by decide +kernel
theorem dX1_feed_235 : decode cX1_feed 235 = .ok (.getfield 29, 3) := by decide +kernel
theorem dX1_feed_238 : decode cX1_feed 238 = .ok (.iconst 1, 1) := by decide +kernel
theorem dX1_feed_239 : decode cX1_feed 239 = .ok (.iadd, 1) := by decide +kernel
theorem dX1_feed_240 : decode cX1_feed 240 = .ok (.putfield 29, 3) := by decide +kernel
theorem dX1_feed_243 : decode cX1_feed 243 = .ok (.aload_n 0, 1) := by decide +kernel
theorem dX1_feed_244 : decode cX1_feed 244 = .ok (.getfield 13, 3) := by decide +kernel
theorem dX1_feed_247 : decode cX1_feed 247 = .ok (.aload_n 0, 1) := by decide +kernel
theorem dX1_feed_248 : decode cX1_feed 248 = .ok (.getfield 29, 3) := by decide +kernel
theorem dX1_feed_251 : decode cX1_feed 251 = .ok (.aload_n 0, 1) := by decide +kernel
theorem dX1_feed_252 : decode cX1_feed 252 = .ok (.getfield 36, 3) := by decide +kernel
theorem dX1_feed_255 : decode cX1_feed 255 = .ok (.iastore, 1) := by decide +kernel
theorem dX1_feed_256 : decode cX1_feed 256 = .ok (.iload_n 3, 1) := by decide +kernel
theorem dX1_feed_257 : decode cX1_feed 257 = .ok (.ireturn, 1) := by decide +kernel
theorem dX1_lengthOf_0 : decode cX1_lengthOf 0 = .ok (.iload_n 1, 1) := by decide +kernel
theorem dX1_lengthOf_1 : decode cX1_lengthOf 1 = .ok (.iconst 4, 1) := by decide +kernel
theorem dX1_lengthOf_2 : decode cX1_lengthOf 2 = .ok (.if_icmp .ge 7, 3) := by decide +kernel
theorem dX1_lengthOf_5 : decode cX1_lengthOf 5 = .ok (.iconst 1, 1) := by decide +kernel
theorem dX1_lengthOf_6 : decode cX1_lengthOf 6 = .ok (.goto 9, 3) := by decide +kernel
theorem dX1_lengthOf_9 : decode cX1_lengthOf 9 = .ok (.aload_n 0, 1) := by decide +kernel
theorem dX1_lengthOf_10 : decode cX1_lengthOf 10 = .ok (.getfield 19, 3) := by decide +kernel
theorem dX1_lengthOf_13 : decode cX1_lengthOf 13 = .ok (.iload_n 1, 1) := by decide +kernel
theorem dX1_lengthOf_14 : decode cX1_lengthOf 14 = .ok (.iaload, 1) := by decide +kernel
theorem dX1_lengthOf_15 : decode cX1_lengthOf 15 = .ok (.ireturn, 1) := by decide +kernel
theorem dX1_symbolOf_0 : decode cX1_symbolOf 0 = .ok (.iload_n 1, 1) := by decide +kernel
theorem dX1_symbolOf_1 : decode cX1_symbolOf 1 = .ok (.iconst 4, 1) := by decide +kernel
theorem dX1_symbolOf_2 : decode cX1_symbolOf 2 = .ok (.if_icmp .ge 7, 3) := by decide +kernel
theorem dX1_symbolOf_5 : decode cX1_symbolOf 5 = .ok (.iload_n 1, 1) := by decide +kernel
theorem dX1_symbolOf_6 : decode cX1_symbolOf 6 = .ok (.goto 16, 3) := by decide +kernel
theorem dX1_symbolOf_9 : decode cX1_symbolOf 9 = .ok (.aload_n 0, 1) := by decide +kernel
theorem dX1_symbolOf_10 : decode cX1_symbolOf 10 = .ok (.getfield 7, 3) := by decide +kernel
theorem dX1_symbolOf_13 : decode cX1_symbolOf 13 = .ok (.aload_n 0, 1) := by decide +kernel
theorem dX1_symbolOf_14 : decode cX1_symbolOf 14 = .ok (.getfield 16, 3) := by decide +kernel
theorem dX1_symbolOf_17 : decode cX1_symbolOf 17 = .ok (.iload_n 1, 1) := by decide +kernel
theorem dX1_symbolOf_18 : decode cX1_symbolOf 18 = .ok (.iaload, 1) := by decide +kernel
theorem dX1_symbolOf_19 : decode cX1_symbolOf 19 = .ok (.iload_n 2, 1) := by decide +kernel
theorem dX1_symbolOf_20 : decode cX1_symbolOf 20 = .ok (.iadd, 1) := by decide +kernel
theorem dX1_symbolOf_21 : decode cX1_symbolOf 21 = .ok (.iaload, 1) := by decide +kernel
theorem dX1_symbolOf_22 : decode cX1_symbolOf 22 = .ok (.ireturn, 1) := by decide +kernel
theorem dX1_restart_0 : decode cX1_restart 0 = .ok (.aload_n 0, 1) := by decide +kernel
theorem dX1_restart_1 : decode cX1_restart 1 = .ok (.iconst 0, 1) := by decide +kernel
theorem dX1_restart_2 : decode cX1_restart 2 = .ok (.putfield 36, 3) := by decide +kernel
theorem dX1_restart_5 : decode cX1_restart 5 = .ok (.aload_n 0, 1) := by decide +kernel
theorem dX1_restart_6 : decode cX1_restart 6 = .ok (.iconst 0, 1) := by decide +kernel
theorem dX1_restart_7 : decode cX1_restart 7 = .ok (.putfield 29, 3) := by decide +kernel
theorem dX1_restart_10 : decode cX1_restart 10 = .ok (.aload_n 0, 1) := by decide +kernel
theorem dX1_restart_11 : decode cX1_restart 11 = .ok (.iconst 4, 1) := by decide +kernel
theorem dX1_restart_12 : decode cX1_restart 12 = .ok (.putfield 25, 3) := by decide +kernel
theorem dX1_restart_15 : decode cX1_restart 15 = .ok (.return_, 1) := by decide +kernel
theorem dX1_extend_0 : decode cX1_extend 0 = .ok (.iload_n 1, 1) := by decide +kernel
theorem dX1_extend_1 : decode cX1_extend 1 = .ok (.ifCond .lt 17, 3) := by decide +kernel
theorem dX1_extend_4 : decode cX1_extend 4 = .ok (.iload_n 1, 1) := by decide +kernel
theorem dX1_extend_5 : decode cX1_extend 5 = .ok (.iconst 3, 1) := by decide +kernel
theorem dX1_extend_6 : decode cX1_extend 6 = .ok (.if_icmp .gt 12, 3) := by decide +kernel
theorem dX1_extend_9 : decode cX1_extend 9 = .ok (.aload_n 0, 1) := by decide +kernel
theorem dX1_extend_10 : decode cX1_extend 10 = .ok (.getfield 43, 3) := by decide +kernel
theorem dX1_extend_13 : decode cX1_extend 13 = .ok (.bipush 6, 2) := by decide +kernel
theorem dX1_extend_15 : decode cX1_extend 15 = .ok (.if_icmp .lt 5, 3) := by decide +kernel
theorem dX1_extend_18 : decode cX1_extend 18 = .ok (.iconst 0, 1) := by decide +kernel
theorem dX1_extend_19 : decode cX1_extend 19 = .ok (.ireturn, 1) := by decide +kernel
theorem dX1_extend_20 : decode cX1_extend 20 = .ok (.aload_n 0, 1) := by decide +kernel
theorem dX1_extend_21 : decode cX1_extend 21 = .ok (.getfield 22, 3) := by decide +kernel
theorem dX1_extend_24 : decode cX1_extend 24 = .ok (.aload_n 0, 1) := by decide +kernel
theorem dX1_extend_25 : decode cX1_extend 25 = .ok (.getfield 43, 3) := by decide +kernel
theorem dX1_extend_28 : decode cX1_extend 28 = .ok (.iload_n 1, 1) := by decide +kernel
theorem dX1_extend_29 : decode cX1_extend 29 = .ok (.iastore, 1) := by decide +kernel
theorem dX1_extend_30 : decode cX1_extend 30 = .ok (.aload_n 0, 1) := by decide +kernel
theorem dX1_extend_31 : decode cX1_extend 31 = .ok (.dup, 1) := by decide +kernel
theorem dX1_extend_32 : decode cX1_extend 32 = .ok (.getfield 43, 3) := by decide +kernel
theorem dX1_extend_35 : decode cX1_extend 35 = .ok (.iconst 1, 1) := by decide +kernel
theorem dX1_extend_36 : decode cX1_extend 36 = .ok (.iadd, 1) := by decide +kernel
theorem dX1_extend_37 : decode cX1_extend 37 = .ok (.putfield 43, 3) := by decide +kernel
theorem dX1_extend_40 : decode cX1_extend 40 = .ok (.iconst 1, 1) := by decide +kernel
theorem dX1_extend_41 : decode cX1_extend 41 = .ok (.ireturn, 1) := by decide +kernel
theorem dX1_shorten_0 : decode cX1_shorten 0 = .ok (.aload_n 0, 1) := by decide +kernel
theorem dX1_shorten_1 : decode cX1_shorten 1 = .ok (.getfield 43, 3) := by decide +kernel
theorem dX1_shorten_4 : decode cX1_shorten 4 = .ok (.ifCond .ne 5, 3) := by decide +kernel
theorem dX1_shorten_7 : decode cX1_shorten 7 = .ok (.iconst (-1), 1) := by decide +kernel
theorem dX1_shorten_8 : decode cX1_shorten 8 = .ok (.ireturn, 1) := by decide +kernel
theorem dX1_shorten_9 : decode cX1_shorten 9 = .ok (.aload_n 0, 1) := by decide +kernel
theorem dX1_shorten_10 : decode cX1_shorten 10 = .ok (.getfield 22, 3) := by decide +kernel
theorem dX1_shorten_13 : decode cX1_shorten 13 = .ok (.iconst 0, 1) := by decide +kernel
theorem dX1_shorten_14 : decode cX1_shorten 14 = .ok (.iaload, 1) := by decide +kernel
theorem dX1_shorten_15 : decode cX1_shorten 15 = .ok (.istore_n 1, 1) := by decide +kernel
theorem dX1_shorten_16 : decode cX1_shorten 16 = .ok (.iconst 1, 1) := by decide +kernel
theorem dX1_shorten_17 : decode cX1_shorten 17 = .ok (.istore_n 2, 1) := by decide +kernel
theorem dX1_shorten_18 : decode cX1_shorten 18 = .ok (.iload_n 2, 1) := by decide +kernel
theorem dX1_shorten_19 : decode cX1_shorten 19 = .ok (.aload_n 0, 1) := by decide +kernel
theorem dX1_shorten_20 : decode cX1_shorten 20 = .ok (.getfield 43, 3) := by decide +kernel
theorem dX1_shorten_23 : decode cX1_shorten 23 = .ok (.if_icmp .ge 23, 3) := by decide +kernel
theorem dX1_shorten_26 : decode cX1_shorten 26 = .ok (.aload_n 0, 1) := by decide +kernel
theorem dX1_shorten_27 : decode cX1_shorten 27 = .ok (.getfield 22, 3) := by decide +kernel
theorem dX1_shorten_30 : decode cX1_shorten 30 = .ok (.iload_n 2, 1) := by decide +kernel
theorem dX1_shorten_31 : decode cX1_shorten 31 = .ok (.iconst 1, 1) := by decide +kernel
theorem dX1_shorten_32 : decode cX1_shorten 32 = .ok (.isub, 1) := by decide +kernel
theorem dX1_shorten_33 : decode cX1_shorten 33 = .ok (.aload_n 0, 1) := by decide +kernel
theorem dX1_shorten_34 : decode cX1_shorten 34 = .ok (.getfield 22, 3) := by decide +kernel
theorem dX1_shorten_37 : decode cX1_shorten 37 = .ok (.iload_n 2, 1) := by decide +kernel
theorem dX1_shorten_38 : decode cX1_shorten 38 = .ok (.iaload, 1) := by decide +kernel
theorem dX1_shorten_39 : decode cX1_shorten 39 = .ok (.iastore, 1) := by decide +kernel
theorem dX1_shorten_40 : decode cX1_shorten 40 = .ok (.iinc 2 1, 3) := by decide +kernel
theorem dX1_shorten_43 : decode cX1_shorten 43 = .ok (.goto (-25), 3) := by decide +kernel
theorem dX1_shorten_46 : decode cX1_shorten 46 = .ok (.aload_n 0, 1) := by decide +kernel
theorem dX1_shorten_47 : decode cX1_shorten 47 = .ok (.dup, 1) := by decide +kernel
theorem dX1_shorten_48 : decode cX1_shorten 48 = .ok (.getfield 43, 3) := by decide +kernel
theorem dX1_shorten_51 : decode cX1_shorten 51 = .ok (.iconst 1, 1) := by decide +kernel
theorem dX1_shorten_52 : decode cX1_shorten 52 = .ok (.isub, 1) := by decide +kernel
theorem dX1_shorten_53 : decode cX1_shorten 53 = .ok (.putfield 43, 3) := by decide +kernel
theorem dX1_shorten_56 : decode cX1_shorten 56 = .ok (.iload_n 1, 1) := by decide +kernel
theorem dX1_shorten_57 : decode cX1_shorten 57 = .ok (.ireturn, 1) := by decide +kernel
theorem dX1_pattern_0 : decode cX1_pattern 0 = .ok (.aload_n 0, 1) := by decide +kernel
theorem dX1_pattern_1 : decode cX1_pattern 1 = .ok (.getfield 43, 3) := by decide +kernel
theorem dX1_pattern_4 : decode cX1_pattern 4 = .ok (.ireturn, 1) := by decide +kernel
theorem dX1_codes_0 : decode cX1_codes 0 = .ok (.aload_n 0, 1) := by decide +kernel
theorem dX1_codes_1 : decode cX1_codes 1 = .ok (.getfield 29, 3) := by decide +kernel
theorem dX1_codes_4 : decode cX1_codes 4 = .ok (.ireturn, 1) := by decide +kernel
theorem dX1_words_0 : decode cX1_words 0 = .ok (.aload_n 0, 1) := by decide +kernel
theorem dX1_words_1 : decode cX1_words 1 = .ok (.getfield 25, 3) := by decide +kernel
theorem dX1_words_4 : decode cX1_words 4 = .ok (.ireturn, 1) := by decide +kernel
theorem dX1_wordLength_0 : decode cX1_wordLength 0 = .ok (.iload_n 1, 1) := by decide +kernel
theorem dX1_wordLength_1 : decode cX1_wordLength 1 = .ok (.ifCond .lt 11, 3) := by decide +kernel
theorem dX1_wordLength_4 : decode cX1_wordLength 4 = .ok (.iload_n 1, 1) := by decide +kernel
theorem dX1_wordLength_5 : decode cX1_wordLength 5 = .ok (.aload_n 0, 1) := by decide +kernel
theorem dX1_wordLength_6 : decode cX1_wordLength 6 = .ok (.getfield 25, 3) := by decide +kernel
theorem dX1_wordLength_9 : decode cX1_wordLength 9 = .ok (.if_icmp .lt 7, 3) := by decide +kernel
theorem dX1_wordLength_12 : decode cX1_wordLength 12 = .ok (.iconst (-1), 1) := by decide +kernel
theorem dX1_wordLength_13 : decode cX1_wordLength 13 = .ok (.goto 8, 3) := by decide +kernel
theorem dX1_wordLength_16 : decode cX1_wordLength 16 = .ok (.aload_n 0, 1) := by decide +kernel
theorem dX1_wordLength_17 : decode cX1_wordLength 17 = .ok (.iload_n 1, 1) := by decide +kernel
theorem dX1_wordLength_18 : decode cX1_wordLength 18 = .ok (.invokevirtual 32, 3) := by decide +kernel
theorem dX1_wordLength_21 : decode cX1_wordLength 21 = .ok (.ireturn, 1) := by decide +kernel
theorem dX1_wordSymbol_0 : decode cX1_wordSymbol 0 = .ok (.iload_n 1, 1) := by decide +kernel
theorem dX1_wordSymbol_1 : decode cX1_wordSymbol 1 = .ok (.ifCond .lt 24, 3) := by decide +kernel
theorem dX1_wordSymbol_4 : decode cX1_wordSymbol 4 = .ok (.iload_n 1, 1) := by decide +kernel
theorem dX1_wordSymbol_5 : decode cX1_wordSymbol 5 = .ok (.aload_n 0, 1) := by decide +kernel
theorem dX1_wordSymbol_6 : decode cX1_wordSymbol 6 = .ok (.getfield 25, 3) := by decide +kernel
theorem dX1_wordSymbol_9 : decode cX1_wordSymbol 9 = .ok (.if_icmp .ge 16, 3) := by decide +kernel
theorem dX1_wordSymbol_12 : decode cX1_wordSymbol 12 = .ok (.iload_n 2, 1) := by decide +kernel
theorem dX1_wordSymbol_13 : decode cX1_wordSymbol 13 = .ok (.ifCond .lt 12, 3) := by decide +kernel
theorem dX1_wordSymbol_16 : decode cX1_wordSymbol 16 = .ok (.iload_n 2, 1) := by decide +kernel
theorem dX1_wordSymbol_17 : decode cX1_wordSymbol 17 = .ok (.aload_n 0, 1) := by decide +kernel
theorem dX1_wordSymbol_18 : decode cX1_wordSymbol 18 = .ok (.iload_n 1, 1) := by decide +kernel
theorem dX1_wordSymbol_19 : decode cX1_wordSymbol 19 = .ok (.invokevirtual 32, 3) := by decide +kernel
theorem dX1_wordSymbol_22 : decode cX1_wordSymbol 22 = .ok (.if_icmp .lt 7, 3) := by decide +kernel
theorem dX1_wordSymbol_25 : decode cX1_wordSymbol 25 = .ok (.iconst (-1), 1) := by decide +kernel
theorem dX1_wordSymbol_26 : decode cX1_wordSymbol 26 = .ok (.goto 9, 3) := by decide +kernel
theorem dX1_wordSymbol_29 : decode cX1_wordSymbol 29 = .ok (.aload_n 0, 1) := by decide +kernel
theorem dX1_wordSymbol_30 : decode cX1_wordSymbol 30 = .ok (.iload_n 1, 1) := by decide +kernel
theorem dX1_wordSymbol_31 : decode cX1_wordSymbol 31 = .ok (.iload_n 2, 1) := by decide +kernel
theorem dX1_wordSymbol_32 : decode cX1_wordSymbol 32 = .ok (.invokevirtual 39, 3) := by decide +kernel
theorem dX1_wordSymbol_35 : decode cX1_wordSymbol 35 = .ok (.ireturn, 1) := by decide +kernel
theorem dX1_length_0 : decode cX1_length 0 = .ok (.aload_n 0, 1) := by decide +kernel
theorem dX1_length_1 : decode cX1_length 1 = .ok (.getfield 36, 3) := by decide +kernel
theorem dX1_length_4 : decode cX1_length 4 = .ok (.ireturn, 1) := by decide +kernel
theorem dX1_symbol_0 : decode cX1_symbol 0 = .ok (.iload_n 1, 1) := by decide +kernel
theorem dX1_symbol_1 : decode cX1_symbol 1 = .ok (.ifCond .lt 11, 3) := by decide +kernel
theorem dX1_symbol_4 : decode cX1_symbol 4 = .ok (.iload_n 1, 1) := by decide +kernel
theorem dX1_symbol_5 : decode cX1_symbol 5 = .ok (.aload_n 0, 1) := by decide +kernel
theorem dX1_symbol_6 : decode cX1_symbol 6 = .ok (.getfield 36, 3) := by decide +kernel
theorem dX1_symbol_9 : decode cX1_symbol 9 = .ok (.if_icmp .lt 7, 3) := by decide +kernel
theorem dX1_symbol_12 : decode cX1_symbol 12 = .ok (.iconst (-1), 1) := by decide +kernel
theorem dX1_symbol_13 : decode cX1_symbol 13 = .ok (.goto 9, 3) := by decide +kernel
theorem dX1_symbol_16 : decode cX1_symbol 16 = .ok (.aload_n 0, 1) := by decide +kernel
theorem dX1_symbol_17 : decode cX1_symbol 17 = .ok (.getfield 7, 3) := by decide +kernel
theorem dX1_symbol_20 : decode cX1_symbol 20 = .ok (.iload_n 1, 1) := by decide +kernel
theorem dX1_symbol_21 : decode cX1_symbol 21 = .ok (.iaload, 1) := by decide +kernel
theorem dX1_symbol_22 : decode cX1_symbol 22 = .ok (.ireturn, 1) := by decide +kernel
theorem dX1_count_0 : decode cX1_count 0 = .ok (.aload_n 0, 1) := by decide +kernel
theorem dX1_count_1 : decode cX1_count 1 = .ok (.iconst 0, 1) := by decide +kernel
theorem dX1_count_2 : decode cX1_count 2 = .ok (.aload_n 0, 1) := by decide +kernel
theorem dX1_count_3 : decode cX1_count 3 = .ok (.getfield 36, 3) := by decide +kernel
theorem dX1_count_6 : decode cX1_count 6 = .ok (.invokevirtual 50, 3) := by decide +kernel
theorem dX1_count_9 : decode cX1_count 9 = .ok (.ireturn, 1) := by decide +kernel
theorem dX1_between_0 : decode cX1_between 0 = .ok (.iconst 0, 1) := by decide +kernel
theorem dX1_between_1 : decode cX1_between 1 = .ok (.istore_n 3, 1) := by decide +kernel
theorem dX1_between_2 : decode cX1_between 2 = .ok (.iload_n 1, 1) := by decide +kernel
theorem dX1_between_3 : decode cX1_between 3 = .ok (.istore 4, 2) := by decide +kernel
theorem dX1_between_5 : decode cX1_between 5 = .ok (.iload 4, 2) := by decide +kernel
theorem dX1_between_7 : decode cX1_between 7 = .ok (.aload_n 0, 1) := by decide +kernel
theorem dX1_between_8 : decode cX1_between 8 = .ok (.getfield 43, 3) := by decide +kernel
theorem dX1_between_11 : decode cX1_between 11 = .ok (.iadd, 1) := by decide +kernel
theorem dX1_between_12 : decode cX1_between 12 = .ok (.iload_n 2, 1) := by decide +kernel
theorem dX1_between_13 : decode cX1_between 13 = .ok (.if_icmp .gt 26, 3) := by decide +kernel
theorem dX1_between_16 : decode cX1_between 16 = .ok (.iload_n 3, 1) := by decide +kernel
theorem dX1_between_17 : decode cX1_between 17 = .ok (.aload_n 0, 1) := by decide +kernel
theorem dX1_between_18 : decode cX1_between 18 = .ok (.iload 4, 2) := by decide +kernel
theorem dX1_between_20 : decode cX1_between 20 = .ok (.invokevirtual 46, 3) := by decide +kernel
theorem dX1_between_23 : decode cX1_between 23 = .ok (.ifCond .eq 7, 3) := by decide +kernel
theorem dX1_between_26 : decode cX1_between 26 = .ok (.iconst 1, 1) := by decide +kernel
theorem dX1_between_27 : decode cX1_between 27 = .ok (.goto 4, 3) := by decide +kernel
theorem dX1_between_30 : decode cX1_between 30 = .ok (.iconst 0, 1) := by decide +kernel
theorem dX1_between_31 : decode cX1_between 31 = .ok (.iadd, 1) := by decide +kernel
theorem dX1_between_32 : decode cX1_between 32 = .ok (.istore_n 3, 1) := by decide +kernel
theorem dX1_between_33 : decode cX1_between 33 = .ok (.iinc 4 1, 3) := by decide +kernel
theorem dX1_between_36 : decode cX1_between 36 = .ok (.goto (-31), 3) := by decide +kernel
theorem dX1_between_39 : decode cX1_between 39 = .ok (.iload_n 3, 1) := by decide +kernel
theorem dX1_between_40 : decode cX1_between 40 = .ok (.ireturn, 1) := by decide +kernel
theorem dX1_at_0 : decode cX1_at 0 = .ok (.aload_n 0, 1) := by decide +kernel
theorem dX1_at_1 : decode cX1_at 1 = .ok (.getfield 43, 3) := by decide +kernel
theorem dX1_at_4 : decode cX1_at 4 = .ok (.ifCond .le 24, 3) := by decide +kernel
theorem dX1_at_7 : decode cX1_at 7 = .ok (.iload_n 1, 1) := by decide +kernel
theorem dX1_at_8 : decode cX1_at 8 = .ok (.ifCond .lt 20, 3) := by decide +kernel
theorem dX1_at_11 : decode cX1_at 11 = .ok (.iload_n 1, 1) := by decide +kernel
theorem dX1_at_12 : decode cX1_at 12 = .ok (.aload_n 0, 1) := by decide +kernel
theorem dX1_at_13 : decode cX1_at 13 = .ok (.getfield 43, 3) := by decide +kernel
theorem dX1_at_16 : decode cX1_at 16 = .ok (.iadd, 1) := by decide +kernel
theorem dX1_at_17 : decode cX1_at 17 = .ok (.aload_n 0, 1) := by decide +kernel
theorem dX1_at_18 : decode cX1_at 18 = .ok (.getfield 36, 3) := by decide +kernel
theorem dX1_at_21 : decode cX1_at 21 = .ok (.if_icmp .gt 7, 3) := by decide +kernel
theorem dX1_at_24 : decode cX1_at 24 = .ok (.iconst 1, 1) := by decide +kernel
theorem dX1_at_25 : decode cX1_at 25 = .ok (.goto 4, 3) := by decide +kernel
theorem dX1_at_28 : decode cX1_at 28 = .ok (.iconst 0, 1) := by decide +kernel
theorem dX1_at_29 : decode cX1_at 29 = .ok (.istore_n 2, 1) := by decide +kernel
theorem dX1_at_30 : decode cX1_at 30 = .ok (.iconst 0, 1) := by decide +kernel
theorem dX1_at_31 : decode cX1_at 31 = .ok (.istore_n 3, 1) := by decide +kernel
theorem dX1_at_32 : decode cX1_at 32 = .ok (.iload_n 3, 1) := by decide +kernel
theorem dX1_at_33 : decode cX1_at 33 = .ok (.aload_n 0, 1) := by decide +kernel
theorem dX1_at_34 : decode cX1_at 34 = .ok (.getfield 43, 3) := by decide +kernel
theorem dX1_at_37 : decode cX1_at 37 = .ok (.if_icmp .ge 36, 3) := by decide +kernel
theorem dX1_at_40 : decode cX1_at 40 = .ok (.iload_n 2, 1) := by decide +kernel
theorem dX1_at_41 : decode cX1_at 41 = .ok (.ifCond .eq 32, 3) := by decide +kernel
theorem dX1_at_44 : decode cX1_at 44 = .ok (.aload_n 0, 1) := by decide +kernel
theorem dX1_at_45 : decode cX1_at 45 = .ok (.getfield 7, 3) := by decide +kernel
theorem dX1_at_48 : decode cX1_at 48 = .ok (.iload_n 1, 1) := by decide +kernel
theorem dX1_at_49 : decode cX1_at 49 = .ok (.iload_n 3, 1) := by decide +kernel
theorem dX1_at_50 : decode cX1_at 50 = .ok (.iadd, 1) := by decide +kernel
theorem dX1_at_51 : decode cX1_at 51 = .ok (.iaload, 1) := by decide +kernel
theorem dX1_at_52 : decode cX1_at 52 = .ok (.aload_n 0, 1) := by decide +kernel
theorem dX1_at_53 : decode cX1_at 53 = .ok (.getfield 22, 3) := by decide +kernel
theorem dX1_at_56 : decode cX1_at 56 = .ok (.iload_n 3, 1) := by decide +kernel
theorem dX1_at_57 : decode cX1_at 57 = .ok (.iaload, 1) := by decide +kernel
theorem dX1_at_58 : decode cX1_at 58 = .ok (.if_icmp .ne 7, 3) := by decide +kernel
theorem dX1_at_61 : decode cX1_at 61 = .ok (.iconst 1, 1) := by decide +kernel
theorem dX1_at_62 : decode cX1_at 62 = .ok (.goto 4, 3) := by decide +kernel
theorem dX1_at_65 : decode cX1_at 65 = .ok (.iconst 0, 1) := by decide +kernel
theorem dX1_at_66 : decode cX1_at 66 = .ok (.istore_n 2, 1) := by decide +kernel
theorem dX1_at_67 : decode cX1_at 67 = .ok (.iinc 3 1, 3) := by decide +kernel
theorem dX1_at_70 : decode cX1_at 70 = .ok (.goto (-38), 3) := by decide +kernel
theorem dX1_at_73 : decode cX1_at 73 = .ok (.iload_n 2, 1) := by decide +kernel
theorem dX1_at_74 : decode cX1_at 74 = .ok (.ireturn, 1) := by decide +kernel
theorem dX1_first_0 : decode cX1_first 0 = .ok (.iconst 0, 1) := by decide +kernel
theorem dX1_first_1 : decode cX1_first 1 = .ok (.istore_n 1, 1) := by decide +kernel
theorem dX1_first_2 : decode cX1_first 2 = .ok (.iload_n 1, 1) := by decide +kernel
theorem dX1_first_3 : decode cX1_first 3 = .ok (.aload_n 0, 1) := by decide +kernel
theorem dX1_first_4 : decode cX1_first 4 = .ok (.getfield 36, 3) := by decide +kernel
theorem dX1_first_7 : decode cX1_first 7 = .ok (.if_icmp .ge 19, 3) := by decide +kernel
theorem dX1_first_10 : decode cX1_first 10 = .ok (.aload_n 0, 1) := by decide +kernel
theorem dX1_first_11 : decode cX1_first 11 = .ok (.iload_n 1, 1) := by decide +kernel
theorem dX1_first_12 : decode cX1_first 12 = .ok (.invokevirtual 46, 3) := by decide +kernel
theorem dX1_first_15 : decode cX1_first 15 = .ok (.ifCond .eq 5, 3) := by decide +kernel
theorem dX1_first_18 : decode cX1_first 18 = .ok (.iload_n 1, 1) := by decide +kernel
theorem dX1_first_19 : decode cX1_first 19 = .ok (.ireturn, 1) := by decide +kernel
theorem dX1_first_20 : decode cX1_first 20 = .ok (.iinc 1 1, 3) := by decide +kernel
theorem dX1_first_23 : decode cX1_first 23 = .ok (.goto (-21), 3) := by decide +kernel
theorem dX1_first_26 : decode cX1_first 26 = .ok (.iconst (-1), 1) := by decide +kernel
theorem dX1_first_27 : decode cX1_first 27 = .ok (.ireturn, 1) := by decide +kernel
theorem dX1_last_0 : decode cX1_last 0 = .ok (.aload_n 0, 1) := by decide +kernel
theorem dX1_last_1 : decode cX1_last 1 = .ok (.getfield 36, 3) := by decide +kernel
theorem dX1_last_4 : decode cX1_last 4 = .ok (.iconst 1, 1) := by decide +kernel
theorem dX1_last_5 : decode cX1_last 5 = .ok (.isub, 1) := by decide +kernel
theorem dX1_last_6 : decode cX1_last 6 = .ok (.istore_n 1, 1) := by decide +kernel
theorem dX1_last_7 : decode cX1_last 7 = .ok (.iload_n 1, 1) := by decide +kernel
theorem dX1_last_8 : decode cX1_last 8 = .ok (.ifCond .lt 19, 3) := by decide +kernel
theorem dX1_last_11 : decode cX1_last 11 = .ok (.aload_n 0, 1) := by decide +kernel
theorem dX1_last_12 : decode cX1_last 12 = .ok (.iload_n 1, 1) := by decide +kernel
theorem dX1_last_13 : decode cX1_last 13 = .ok (.invokevirtual 46, 3) := by decide +kernel
theorem dX1_last_16 : decode cX1_last 16 = .ok (.ifCond .eq 5, 3) := by decide +kernel
theorem dX1_last_19 : decode cX1_last 19 = .ok (.iload_n 1, 1) := by decide +kernel
theorem dX1_last_20 : decode cX1_last 20 = .ok (.ireturn, 1) := by decide +kernel
theorem dX1_last_21 : decode cX1_last 21 = .ok (.iinc 1 (-1), 3) := by decide +kernel
theorem dX1_last_24 : decode cX1_last 24 = .ok (.goto (-17), 3) := by decide +kernel
theorem dX1_last_27 : decode cX1_last 27 = .ok (.iconst (-1), 1) := by decide +kernel
theorem dX1_last_28 : decode cX1_last 28 = .ok (.ireturn, 1) := by decide +kernel
theorem dX1_tail_0 : decode cX1_tail 0 = .ok (.aload_n 0, 1) := by decide +kernel
theorem dX1_tail_1 : decode cX1_tail 1 = .ok (.getfield 43, 3) := by decide +kernel
theorem dX1_tail_4 : decode cX1_tail 4 = .ok (.istore_n 1, 1) := by decide +kernel
theorem dX1_tail_5 : decode cX1_tail 5 = .ok (.iload_n 1, 1) := by decide +kernel
theorem dX1_tail_6 : decode cX1_tail 6 = .ok (.ifCond .le 74, 3) := by decide +kernel
theorem dX1_tail_9 : decode cX1_tail 9 = .ok (.iload_n 1, 1) := by decide +kernel
theorem dX1_tail_10 : decode cX1_tail 10 = .ok (.aload_n 0, 1) := by decide +kernel
theorem dX1_tail_11 : decode cX1_tail 11 = .ok (.getfield 36, 3) := by decide +kernel
theorem dX1_tail_14 : decode cX1_tail 14 = .ok (.if_icmp .gt 7, 3) := by decide +kernel
theorem dX1_tail_17 : decode cX1_tail 17 = .ok (.iconst 1, 1) := by decide +kernel
theorem dX1_tail_18 : decode cX1_tail 18 = .ok (.goto 4, 3) := by decide +kernel
theorem dX1_tail_21 : decode cX1_tail 21 = .ok (.iconst 0, 1) := by decide +kernel
theorem dX1_tail_22 : decode cX1_tail 22 = .ok (.istore_n 2, 1) := by decide +kernel
theorem dX1_tail_23 : decode cX1_tail 23 = .ok (.iconst 0, 1) := by decide +kernel
theorem dX1_tail_24 : decode cX1_tail 24 = .ok (.istore_n 3, 1) := by decide +kernel
theorem dX1_tail_25 : decode cX1_tail 25 = .ok (.iload_n 3, 1) := by decide +kernel
theorem dX1_tail_26 : decode cX1_tail 26 = .ok (.iload_n 1, 1) := by decide +kernel
theorem dX1_tail_27 : decode cX1_tail 27 = .ok (.if_icmp .ge 41, 3) := by decide +kernel
theorem dX1_tail_30 : decode cX1_tail 30 = .ok (.iload_n 2, 1) := by decide +kernel
theorem dX1_tail_31 : decode cX1_tail 31 = .ok (.ifCond .eq 37, 3) := by decide +kernel
theorem dX1_tail_34 : decode cX1_tail 34 = .ok (.aload_n 0, 1) := by decide +kernel
theorem dX1_tail_35 : decode cX1_tail 35 = .ok (.getfield 7, 3) := by decide +kernel
theorem dX1_tail_38 : decode cX1_tail 38 = .ok (.aload_n 0, 1) := by decide +kernel
theorem dX1_tail_39 : decode cX1_tail 39 = .ok (.getfield 36, 3) := by decide +kernel
theorem dX1_tail_42 : decode cX1_tail 42 = .ok (.iload_n 1, 1) := by decide +kernel
theorem dX1_tail_43 : decode cX1_tail 43 = .ok (.isub, 1) := by decide +kernel
theorem dX1_tail_44 : decode cX1_tail 44 = .ok (.iload_n 3, 1) := by decide +kernel
theorem dX1_tail_45 : decode cX1_tail 45 = .ok (.iadd, 1) := by decide +kernel
theorem dX1_tail_46 : decode cX1_tail 46 = .ok (.iaload, 1) := by decide +kernel
theorem dX1_tail_47 : decode cX1_tail 47 = .ok (.aload_n 0, 1) := by decide +kernel
theorem dX1_tail_48 : decode cX1_tail 48 = .ok (.getfield 22, 3) := by decide +kernel
theorem dX1_tail_51 : decode cX1_tail 51 = .ok (.iload_n 3, 1) := by decide +kernel
theorem dX1_tail_52 : decode cX1_tail 52 = .ok (.iaload, 1) := by decide +kernel
theorem dX1_tail_53 : decode cX1_tail 53 = .ok (.if_icmp .ne 7, 3) := by decide +kernel
theorem dX1_tail_56 : decode cX1_tail 56 = .ok (.iconst 1, 1) := by decide +kernel
theorem dX1_tail_57 : decode cX1_tail 57 = .ok (.goto 4, 3) := by decide +kernel
theorem dX1_tail_60 : decode cX1_tail 60 = .ok (.iconst 0, 1) := by decide +kernel
theorem dX1_tail_61 : decode cX1_tail 61 = .ok (.istore_n 2, 1) := by decide +kernel
theorem dX1_tail_62 : decode cX1_tail 62 = .ok (.iinc 3 1, 3) := by decide +kernel
theorem dX1_tail_65 : decode cX1_tail 65 = .ok (.goto (-40), 3) := by decide +kernel
theorem dX1_tail_68 : decode cX1_tail 68 = .ok (.iload_n 2, 1) := by decide +kernel
theorem dX1_tail_69 : decode cX1_tail 69 = .ok (.ifCond .eq 5, 3) := by decide +kernel
theorem dX1_tail_72 : decode cX1_tail 72 = .ok (.iload_n 1, 1) := by decide +kernel
theorem dX1_tail_73 : decode cX1_tail 73 = .ok (.ireturn, 1) := by decide +kernel
theorem dX1_tail_74 : decode cX1_tail 74 = .ok (.iinc 1 (-1), 3) := by decide +kernel
theorem dX1_tail_77 : decode cX1_tail 77 = .ok (.goto (-72), 3) := by decide +kernel
theorem dX1_tail_80 : decode cX1_tail 80 = .ok (.iconst 0, 1) := by decide +kernel
theorem dX1_tail_81 : decode cX1_tail 81 = .ok (.ireturn, 1) := by decide +kernel
theorem dX1_within_0 : decode cX1_within 0 = .ok (.iconst 0, 1) := by decide +kernel
theorem dX1_within_1 : decode cX1_within 1 = .ok (.istore_n 1, 1) := by decide +kernel
theorem dX1_within_2 : decode cX1_within 2 = .ok (.iconst 0, 1) := by decide +kernel
theorem dX1_within_3 : decode cX1_within 3 = .ok (.istore_n 2, 1) := by decide +kernel
theorem dX1_within_4 : decode cX1_within 4 = .ok (.iload_n 2, 1) := by decide +kernel
theorem dX1_within_5 : decode cX1_within 5 = .ok (.aload_n 0, 1) := by decide +kernel
theorem dX1_within_6 : decode cX1_within 6 = .ok (.getfield 29, 3) := by decide +kernel
theorem dX1_within_9 : decode cX1_within 9 = .ok (.if_icmp .ge 30, 3) := by decide +kernel
theorem dX1_within_12 : decode cX1_within 12 = .ok (.iload_n 1, 1) := by decide +kernel
theorem dX1_within_13 : decode cX1_within 13 = .ok (.aload_n 0, 1) := by decide +kernel
theorem dX1_within_14 : decode cX1_within 14 = .ok (.aload_n 0, 1) := by decide +kernel
theorem dX1_within_15 : decode cX1_within 15 = .ok (.getfield 13, 3) := by decide +kernel
theorem dX1_within_18 : decode cX1_within 18 = .ok (.iload_n 2, 1) := by decide +kernel
theorem dX1_within_19 : decode cX1_within 19 = .ok (.iaload, 1) := by decide +kernel
theorem dX1_within_20 : decode cX1_within 20 = .ok (.aload_n 0, 1) := by decide +kernel
theorem dX1_within_21 : decode cX1_within 21 = .ok (.getfield 13, 3) := by decide +kernel
theorem dX1_within_24 : decode cX1_within 24 = .ok (.iload_n 2, 1) := by decide +kernel
theorem dX1_within_25 : decode cX1_within 25 = .ok (.iconst 1, 1) := by decide +kernel
theorem dX1_within_26 : decode cX1_within 26 = .ok (.iadd, 1) := by decide +kernel
theorem dX1_within_27 : decode cX1_within 27 = .ok (.iaload, 1) := by decide +kernel
theorem dX1_within_28 : decode cX1_within 28 = .ok (.invokevirtual 50, 3) := by decide +kernel
theorem dX1_within_31 : decode cX1_within 31 = .ok (.iadd, 1) := by decide +kernel
theorem dX1_within_32 : decode cX1_within 32 = .ok (.istore_n 1, 1) := by decide +kernel
theorem dX1_within_33 : decode cX1_within 33 = .ok (.iinc 2 1, 3) := by decide +kernel
theorem dX1_within_36 : decode cX1_within 36 = .ok (.goto (-32), 3) := by decide +kernel
theorem dX1_within_39 : decode cX1_within 39 = .ok (.iload_n 1, 1) := by decide +kernel
theorem dX1_within_40 : decode cX1_within 40 = .ok (.ireturn, 1) := by decide +kernel
theorem dX1_endingIn_0 : decode cX1_endingIn 0 = .ok (.iload_n 1, 1) := by decide +kernel
theorem dX1_endingIn_1 : decode cX1_endingIn 1 = .ok (.ifCond .lt 11, 3) := by decide +kernel
theorem dX1_endingIn_4 : decode cX1_endingIn 4 = .ok (.iload_n 1, 1) := by decide +kernel
theorem dX1_endingIn_5 : decode cX1_endingIn 5 = .ok (.aload_n 0, 1) := by decide +kernel
theorem dX1_endingIn_6 : decode cX1_endingIn 6 = .ok (.getfield 29, 3) := by decide +kernel
theorem dX1_endingIn_9 : decode cX1_endingIn 9 = .ok (.if_icmp .lt 5, 3) := by decide +kernel
theorem dX1_endingIn_12 : decode cX1_endingIn 12 = .ok (.iconst 0, 1) := by decide +kernel
theorem dX1_endingIn_13 : decode cX1_endingIn 13 = .ok (.ireturn, 1) := by decide +kernel
theorem dX1_endingIn_14 : decode cX1_endingIn 14 = .ok (.aload_n 0, 1) := by decide +kernel
theorem dX1_endingIn_15 : decode cX1_endingIn 15 = .ok (.iconst 0, 1) := by decide +kernel
theorem dX1_endingIn_16 : decode cX1_endingIn 16 = .ok (.aload_n 0, 1) := by decide +kernel
theorem dX1_endingIn_17 : decode cX1_endingIn 17 = .ok (.getfield 13, 3) := by decide +kernel
theorem dX1_endingIn_20 : decode cX1_endingIn 20 = .ok (.iload_n 1, 1) := by decide +kernel
theorem dX1_endingIn_21 : decode cX1_endingIn 21 = .ok (.iconst 1, 1) := by decide +kernel
theorem dX1_endingIn_22 : decode cX1_endingIn 22 = .ok (.iadd, 1) := by decide +kernel
theorem dX1_endingIn_23 : decode cX1_endingIn 23 = .ok (.iaload, 1) := by decide +kernel
theorem dX1_endingIn_24 : decode cX1_endingIn 24 = .ok (.invokevirtual 50, 3) := by decide +kernel
theorem dX1_endingIn_27 : decode cX1_endingIn 27 = .ok (.aload_n 0, 1) := by decide +kernel
theorem dX1_endingIn_28 : decode cX1_endingIn 28 = .ok (.iconst 0, 1) := by decide +kernel
theorem dX1_endingIn_29 : decode cX1_endingIn 29 = .ok (.aload_n 0, 1) := by decide +kernel
theorem dX1_endingIn_30 : decode cX1_endingIn 30 = .ok (.getfield 13, 3) := by decide +kernel
theorem dX1_endingIn_33 : decode cX1_endingIn 33 = .ok (.iload_n 1, 1) := by decide +kernel
theorem dX1_endingIn_34 : decode cX1_endingIn 34 = .ok (.iaload, 1) := by decide +kernel
theorem dX1_endingIn_35 : decode cX1_endingIn 35 = .ok (.invokevirtual 50, 3) := by decide +kernel
theorem dX1_endingIn_38 : decode cX1_endingIn 38 = .ok (.isub, 1) := by decide +kernel
theorem dX1_endingIn_39 : decode cX1_endingIn 39 = .ok (.ireturn, 1) := by decide +kernel
end
section
set_option maxRecDepth 100000
theorem dL_law_0 : decode cL_law 0 = .ok (.new 7, 3) := by decide +kernel
theorem dL_law_3 : decode cL_law 3 = .ok (.dup, 1) := by decide +kernel
theorem dL_law_4 : decode cL_law 4 = .ok (.invokespecial 9, 3) := by decide +kernel
theorem dL_law_7 : decode cL_law 7 = .ok (.astore_n 1, 1) := by decide +kernel
theorem dL_law_8 : decode cL_law 8 = .ok (.new 10, 3) := by decide +kernel
theorem dL_law_11 : decode cL_law 11 = .ok (.dup, 1) := by decide +kernel
theorem dL_law_12 : decode cL_law 12 = .ok (.invokespecial 12, 3) := by decide +kernel
theorem dL_law_15 : decode cL_law 15 = .ok (.astore_n 2, 1) := by decide +kernel
theorem dL_law_16 : decode cL_law 16 = .ok (.iconst 0, 1) := by decide +kernel
theorem dL_law_17 : decode cL_law 17 = .ok (.istore_n 3, 1) := by decide +kernel
theorem dL_law_18 : decode cL_law 18 = .ok (.iload_n 3, 1) := by decide +kernel
theorem dL_law_19 : decode cL_law 19 = .ok (.aload_n 0, 1) := by decide +kernel
theorem dL_law_20 : decode cL_law 20 = .ok (.arraylength, 1) := by decide +kernel
theorem dL_law_21 : decode cL_law 21 = .ok (.iconst 3, 1) := by decide +kernel
theorem dL_law_22 : decode cL_law 22 = .ok (.isub, 1) := by decide +kernel
theorem dL_law_23 : decode cL_law 23 = .ok (.if_icmp .gt 388, 3) := by decide +kernel
theorem dL_law_26 : decode cL_law 26 = .ok (.aload_n 0, 1) := by decide +kernel
theorem dL_law_27 : decode cL_law 27 = .ok (.iload_n 3, 1) := by decide +kernel
theorem dL_law_28 : decode cL_law 28 = .ok (.iaload, 1) := by decide +kernel
theorem dL_law_29 : decode cL_law 29 = .ok (.bipush 31, 2) := by decide +kernel
theorem dL_law_31 : decode cL_law 31 = .ok (.iand, 1) := by decide +kernel
theorem dL_law_32 : decode cL_law 32 = .ok (.tableswitch 373 0 16 #[84, 107, 118, 141, 154, 167, 180, 193, 216, 249, 262, 285, 298, 311, 324, 337, 350], 84) := by decide +kernel
theorem dL_law_116 : decode cL_law 116 = .ok (.aload_n 1, 1) := by decide +kernel
theorem dL_law_117 : decode cL_law 117 = .ok (.aload_n 0, 1) := by decide +kernel
theorem dL_law_118 : decode cL_law 118 = .ok (.iload_n 3, 1) := by decide +kernel
theorem dL_law_119 : decode cL_law 119 = .ok (.iconst 1, 1) := by decide +kernel
theorem dL_law_120 : decode cL_law 120 = .ok (.iadd, 1) := by decide +kernel
theorem dL_law_121 : decode cL_law 121 = .ok (.iaload, 1) := by decide +kernel
theorem dL_law_122 : decode cL_law 122 = .ok (.invokevirtual 13, 3) := by decide +kernel
theorem dL_law_125 : decode cL_law 125 = .ok (.aload_n 2, 1) := by decide +kernel
theorem dL_law_126 : decode cL_law 126 = .ok (.aload_n 0, 1) := by decide +kernel
theorem dL_law_127 : decode cL_law 127 = .ok (.iload_n 3, 1) := by decide +kernel
theorem dL_law_128 : decode cL_law 128 = .ok (.iconst 1, 1) := by decide +kernel
theorem dL_law_129 : decode cL_law 129 = .ok (.iadd, 1) := by decide +kernel
theorem dL_law_130 : decode cL_law 130 = .ok (.iaload, 1) := by decide +kernel
theorem dL_law_131 : decode cL_law 131 = .ok (.invokevirtual 17, 3) := by decide +kernel
theorem dL_law_134 : decode cL_law 134 = .ok (.if_icmp .eq 271, 3) := by decide +kernel
theorem dL_law_137 : decode cL_law 137 = .ok (.iconst 0, 1) := by decide +kernel
theorem dL_law_138 : decode cL_law 138 = .ok (.ireturn, 1) := by decide +kernel
theorem dL_law_139 : decode cL_law 139 = .ok (.aload_n 1, 1) := by decide +kernel
theorem dL_law_140 : decode cL_law 140 = .ok (.invokevirtual 18, 3) := by decide +kernel
theorem dL_law_143 : decode cL_law 143 = .ok (.aload_n 2, 1) := by decide +kernel
theorem dL_law_144 : decode cL_law 144 = .ok (.invokevirtual 21, 3) := by decide +kernel
theorem dL_law_147 : decode cL_law 147 = .ok (.goto 258, 3) := by decide +kernel
theorem dL_law_150 : decode cL_law 150 = .ok (.aload_n 1, 1) := by decide +kernel
theorem dL_law_151 : decode cL_law 151 = .ok (.aload_n 0, 1) := by decide +kernel
theorem dL_law_152 : decode cL_law 152 = .ok (.iload_n 3, 1) := by decide +kernel
theorem dL_law_153 : decode cL_law 153 = .ok (.iconst 1, 1) := by decide +kernel
theorem dL_law_154 : decode cL_law 154 = .ok (.iadd, 1) := by decide +kernel
theorem dL_law_155 : decode cL_law 155 = .ok (.iaload, 1) := by decide +kernel
theorem dL_law_156 : decode cL_law 156 = .ok (.invokevirtual 22, 3) := by decide +kernel
theorem dL_law_159 : decode cL_law 159 = .ok (.aload_n 2, 1) := by decide +kernel
theorem dL_law_160 : decode cL_law 160 = .ok (.aload_n 0, 1) := by decide +kernel
theorem dL_law_161 : decode cL_law 161 = .ok (.iload_n 3, 1) := by decide +kernel
theorem dL_law_162 : decode cL_law 162 = .ok (.iconst 1, 1) := by decide +kernel
theorem dL_law_163 : decode cL_law 163 = .ok (.iadd, 1) := by decide +kernel
theorem dL_law_164 : decode cL_law 164 = .ok (.iaload, 1) := by decide +kernel
theorem dL_law_165 : decode cL_law 165 = .ok (.invokevirtual 26, 3) := by decide +kernel
theorem dL_law_168 : decode cL_law 168 = .ok (.if_icmp .eq 237, 3) := by decide +kernel
theorem dL_law_171 : decode cL_law 171 = .ok (.iconst 0, 1) := by decide +kernel
theorem dL_law_172 : decode cL_law 172 = .ok (.ireturn, 1) := by decide +kernel
theorem dL_law_173 : decode cL_law 173 = .ok (.aload_n 1, 1) := by decide +kernel
theorem dL_law_174 : decode cL_law 174 = .ok (.invokevirtual 27, 3) := by decide +kernel
theorem dL_law_177 : decode cL_law 177 = .ok (.aload_n 2, 1) := by decide +kernel
theorem dL_law_178 : decode cL_law 178 = .ok (.invokevirtual 31, 3) := by decide +kernel
theorem dL_law_181 : decode cL_law 181 = .ok (.if_icmp .eq 224, 3) := by decide +kernel
theorem dL_law_184 : decode cL_law 184 = .ok (.iconst 0, 1) := by decide +kernel
theorem dL_law_185 : decode cL_law 185 = .ok (.ireturn, 1) := by decide +kernel
theorem dL_law_186 : decode cL_law 186 = .ok (.aload_n 1, 1) := by decide +kernel
theorem dL_law_187 : decode cL_law 187 = .ok (.invokevirtual 32, 3) := by decide +kernel
theorem dL_law_190 : decode cL_law 190 = .ok (.aload_n 2, 1) := by decide +kernel
theorem dL_law_191 : decode cL_law 191 = .ok (.invokevirtual 35, 3) := by decide +kernel
theorem dL_law_194 : decode cL_law 194 = .ok (.if_icmp .eq 211, 3) := by decide +kernel
theorem dL_law_197 : decode cL_law 197 = .ok (.iconst 0, 1) := by decide +kernel
theorem dL_law_198 : decode cL_law 198 = .ok (.ireturn, 1) := by decide +kernel
theorem dL_law_199 : decode cL_law 199 = .ok (.aload_n 1, 1) := by decide +kernel
theorem dL_law_200 : decode cL_law 200 = .ok (.invokevirtual 36, 3) := by decide +kernel
theorem dL_law_203 : decode cL_law 203 = .ok (.aload_n 2, 1) := by decide +kernel
theorem dL_law_204 : decode cL_law 204 = .ok (.invokevirtual 39, 3) := by decide +kernel
theorem dL_law_207 : decode cL_law 207 = .ok (.if_icmp .eq 198, 3) := by decide +kernel
theorem dL_law_210 : decode cL_law 210 = .ok (.iconst 0, 1) := by decide +kernel
theorem dL_law_211 : decode cL_law 211 = .ok (.ireturn, 1) := by decide +kernel
theorem dL_law_212 : decode cL_law 212 = .ok (.aload_n 1, 1) := by decide +kernel
theorem dL_law_213 : decode cL_law 213 = .ok (.invokevirtual 40, 3) := by decide +kernel
theorem dL_law_216 : decode cL_law 216 = .ok (.aload_n 2, 1) := by decide +kernel
theorem dL_law_217 : decode cL_law 217 = .ok (.invokevirtual 43, 3) := by decide +kernel
theorem dL_law_220 : decode cL_law 220 = .ok (.if_icmp .eq 185, 3) := by decide +kernel
theorem dL_law_223 : decode cL_law 223 = .ok (.iconst 0, 1) := by decide +kernel
theorem dL_law_224 : decode cL_law 224 = .ok (.ireturn, 1) := by decide +kernel
theorem dL_law_225 : decode cL_law 225 = .ok (.aload_n 1, 1) := by decide +kernel
theorem dL_law_226 : decode cL_law 226 = .ok (.aload_n 0, 1) := by decide +kernel
theorem dL_law_227 : decode cL_law 227 = .ok (.iload_n 3, 1) := by decide +kernel
theorem dL_law_228 : decode cL_law 228 = .ok (.iconst 1, 1) := by decide +kernel
theorem dL_law_229 : decode cL_law 229 = .ok (.iadd, 1) := by decide +kernel
theorem dL_law_230 : decode cL_law 230 = .ok (.iaload, 1) := by decide +kernel
theorem dL_law_231 : decode cL_law 231 = .ok (.invokevirtual 44, 3) := by decide +kernel
theorem dL_law_234 : decode cL_law 234 = .ok (.aload_n 2, 1) := by decide +kernel
theorem dL_law_235 : decode cL_law 235 = .ok (.aload_n 0, 1) := by decide +kernel
theorem dL_law_236 : decode cL_law 236 = .ok (.iload_n 3, 1) := by decide +kernel
theorem dL_law_237 : decode cL_law 237 = .ok (.iconst 1, 1) := by decide +kernel
theorem dL_law_238 : decode cL_law 238 = .ok (.iadd, 1) := by decide +kernel
theorem dL_law_239 : decode cL_law 239 = .ok (.iaload, 1) := by decide +kernel
theorem dL_law_240 : decode cL_law 240 = .ok (.invokevirtual 47, 3) := by decide +kernel
theorem dL_law_243 : decode cL_law 243 = .ok (.if_icmp .eq 162, 3) := by decide +kernel
theorem dL_law_246 : decode cL_law 246 = .ok (.iconst 0, 1) := by decide +kernel
theorem dL_law_247 : decode cL_law 247 = .ok (.ireturn, 1) := by decide +kernel
theorem dL_law_248 : decode cL_law 248 = .ok (.aload_n 1, 1) := by decide +kernel
theorem dL_law_249 : decode cL_law 249 = .ok (.aload_n 0, 1) := by decide +kernel
theorem dL_law_250 : decode cL_law 250 = .ok (.iload_n 3, 1) := by decide +kernel
theorem dL_law_251 : decode cL_law 251 = .ok (.iconst 1, 1) := by decide +kernel
theorem dL_law_252 : decode cL_law 252 = .ok (.iadd, 1) := by decide +kernel
theorem dL_law_253 : decode cL_law 253 = .ok (.iaload, 1) := by decide +kernel
theorem dL_law_254 : decode cL_law 254 = .ok (.aload_n 0, 1) := by decide +kernel
theorem dL_law_255 : decode cL_law 255 = .ok (.iload_n 3, 1) := by decide +kernel
theorem dL_law_256 : decode cL_law 256 = .ok (.iconst 2, 1) := by decide +kernel
theorem dL_law_257 : decode cL_law 257 = .ok (.iadd, 1) := by decide +kernel
theorem dL_law_258 : decode cL_law 258 = .ok (.iaload, 1) := by decide +kernel
theorem dL_law_259 : decode cL_law 259 = .ok (.invokevirtual 48, 3) := by decide +kernel
theorem dL_law_262 : decode cL_law 262 = .ok (.aload_n 2, 1) := by decide +kernel
theorem dL_law_263 : decode cL_law 263 = .ok (.aload_n 0, 1) := by decide +kernel
theorem dL_law_264 : decode cL_law 264 = .ok (.iload_n 3, 1) := by decide +kernel
theorem dL_law_265 : decode cL_law 265 = .ok (.iconst 1, 1) := by decide +kernel
theorem dL_law_266 : decode cL_law 266 = .ok (.iadd, 1) := by decide +kernel
theorem dL_law_267 : decode cL_law 267 = .ok (.iaload, 1) := by decide +kernel
theorem dL_law_268 : decode cL_law 268 = .ok (.aload_n 0, 1) := by decide +kernel
theorem dL_law_269 : decode cL_law 269 = .ok (.iload_n 3, 1) := by decide +kernel
theorem dL_law_270 : decode cL_law 270 = .ok (.iconst 2, 1) := by decide +kernel
theorem dL_law_271 : decode cL_law 271 = .ok (.iadd, 1) := by decide +kernel
theorem dL_law_272 : decode cL_law 272 = .ok (.iaload, 1) := by decide +kernel
theorem dL_law_273 : decode cL_law 273 = .ok (.invokevirtual 52, 3) := by decide +kernel
theorem dL_law_276 : decode cL_law 276 = .ok (.if_icmp .eq 129, 3) := by decide +kernel
theorem dL_law_279 : decode cL_law 279 = .ok (.iconst 0, 1) := by decide +kernel
theorem dL_law_280 : decode cL_law 280 = .ok (.ireturn, 1) := by decide +kernel
theorem dL_law_281 : decode cL_law 281 = .ok (.aload_n 1, 1) := by decide +kernel
theorem dL_law_282 : decode cL_law 282 = .ok (.invokevirtual 53, 3) := by decide +kernel
theorem dL_law_285 : decode cL_law 285 = .ok (.aload_n 2, 1) := by decide +kernel
theorem dL_law_286 : decode cL_law 286 = .ok (.invokevirtual 56, 3) := by decide +kernel
theorem dL_law_289 : decode cL_law 289 = .ok (.if_icmp .eq 116, 3) := by decide +kernel
theorem dL_law_292 : decode cL_law 292 = .ok (.iconst 0, 1) := by decide +kernel
theorem dL_law_293 : decode cL_law 293 = .ok (.ireturn, 1) := by decide +kernel
theorem dL_law_294 : decode cL_law 294 = .ok (.aload_n 1, 1) := by decide +kernel
theorem dL_law_295 : decode cL_law 295 = .ok (.aload_n 0, 1) := by decide +kernel
theorem dL_law_296 : decode cL_law 296 = .ok (.iload_n 3, 1) := by decide +kernel
theorem dL_law_297 : decode cL_law 297 = .ok (.iconst 1, 1) := by decide +kernel
theorem dL_law_298 : decode cL_law 298 = .ok (.iadd, 1) := by decide +kernel
theorem dL_law_299 : decode cL_law 299 = .ok (.iaload, 1) := by decide +kernel
theorem dL_law_300 : decode cL_law 300 = .ok (.invokevirtual 57, 3) := by decide +kernel
theorem dL_law_303 : decode cL_law 303 = .ok (.aload_n 2, 1) := by decide +kernel
theorem dL_law_304 : decode cL_law 304 = .ok (.aload_n 0, 1) := by decide +kernel
theorem dL_law_305 : decode cL_law 305 = .ok (.iload_n 3, 1) := by decide +kernel
theorem dL_law_306 : decode cL_law 306 = .ok (.iconst 1, 1) := by decide +kernel
theorem dL_law_307 : decode cL_law 307 = .ok (.iadd, 1) := by decide +kernel
theorem dL_law_308 : decode cL_law 308 = .ok (.iaload, 1) := by decide +kernel
theorem dL_law_309 : decode cL_law 309 = .ok (.invokevirtual 60, 3) := by decide +kernel
theorem dL_law_312 : decode cL_law 312 = .ok (.if_icmp .eq 93, 3) := by decide +kernel
theorem dL_law_315 : decode cL_law 315 = .ok (.iconst 0, 1) := by decide +kernel
theorem dL_law_316 : decode cL_law 316 = .ok (.ireturn, 1) := by decide +kernel
theorem dL_law_317 : decode cL_law 317 = .ok (.aload_n 1, 1) := by decide +kernel
theorem dL_law_318 : decode cL_law 318 = .ok (.invokevirtual 61, 3) := by decide +kernel
theorem dL_law_321 : decode cL_law 321 = .ok (.aload_n 2, 1) := by decide +kernel
theorem dL_law_322 : decode cL_law 322 = .ok (.invokevirtual 64, 3) := by decide +kernel
theorem dL_law_325 : decode cL_law 325 = .ok (.if_icmp .eq 80, 3) := by decide +kernel
theorem dL_law_328 : decode cL_law 328 = .ok (.iconst 0, 1) := by decide +kernel
theorem dL_law_329 : decode cL_law 329 = .ok (.ireturn, 1) := by decide +kernel
theorem dL_law_330 : decode cL_law 330 = .ok (.aload_n 1, 1) := by decide +kernel
theorem dL_law_331 : decode cL_law 331 = .ok (.invokevirtual 65, 3) := by decide +kernel
theorem dL_law_334 : decode cL_law 334 = .ok (.aload_n 2, 1) := by decide +kernel
theorem dL_law_335 : decode cL_law 335 = .ok (.invokevirtual 68, 3) := by decide +kernel
theorem dL_law_338 : decode cL_law 338 = .ok (.if_icmp .eq 67, 3) := by decide +kernel
theorem dL_law_341 : decode cL_law 341 = .ok (.iconst 0, 1) := by decide +kernel
theorem dL_law_342 : decode cL_law 342 = .ok (.ireturn, 1) := by decide +kernel
theorem dL_law_343 : decode cL_law 343 = .ok (.aload_n 1, 1) := by decide +kernel
theorem dL_law_344 : decode cL_law 344 = .ok (.invokevirtual 69, 3) := by decide +kernel
theorem dL_law_347 : decode cL_law 347 = .ok (.aload_n 2, 1) := by decide +kernel
theorem dL_law_348 : decode cL_law 348 = .ok (.invokevirtual 72, 3) := by decide +kernel
theorem dL_law_351 : decode cL_law 351 = .ok (.if_icmp .eq 54, 3) := by decide +kernel
theorem dL_law_354 : decode cL_law 354 = .ok (.iconst 0, 1) := by decide +kernel
theorem dL_law_355 : decode cL_law 355 = .ok (.ireturn, 1) := by decide +kernel
theorem dL_law_356 : decode cL_law 356 = .ok (.aload_n 1, 1) := by decide +kernel
theorem dL_law_357 : decode cL_law 357 = .ok (.invokevirtual 73, 3) := by decide +kernel
theorem dL_law_360 : decode cL_law 360 = .ok (.aload_n 2, 1) := by decide +kernel
theorem dL_law_361 : decode cL_law 361 = .ok (.invokevirtual 76, 3) := by decide +kernel
theorem dL_law_364 : decode cL_law 364 = .ok (.if_icmp .eq 41, 3) := by decide +kernel
theorem dL_law_367 : decode cL_law 367 = .ok (.iconst 0, 1) := by decide +kernel
theorem dL_law_368 : decode cL_law 368 = .ok (.ireturn, 1) := by decide +kernel
theorem dL_law_369 : decode cL_law 369 = .ok (.aload_n 1, 1) := by decide +kernel
theorem dL_law_370 : decode cL_law 370 = .ok (.invokevirtual 77, 3) := by decide +kernel
theorem dL_law_373 : decode cL_law 373 = .ok (.aload_n 2, 1) := by decide +kernel
theorem dL_law_374 : decode cL_law 374 = .ok (.invokevirtual 80, 3) := by decide +kernel
theorem dL_law_377 : decode cL_law 377 = .ok (.if_icmp .eq 28, 3) := by decide +kernel
theorem dL_law_380 : decode cL_law 380 = .ok (.iconst 0, 1) := by decide +kernel
theorem dL_law_381 : decode cL_law 381 = .ok (.ireturn, 1) := by decide +kernel
theorem dL_law_382 : decode cL_law 382 = .ok (.aload_n 1, 1) := by decide +kernel
theorem dL_law_383 : decode cL_law 383 = .ok (.aload_n 0, 1) := by decide +kernel
theorem dL_law_384 : decode cL_law 384 = .ok (.iload_n 3, 1) := by decide +kernel
theorem dL_law_385 : decode cL_law 385 = .ok (.iconst 1, 1) := by decide +kernel
theorem dL_law_386 : decode cL_law 386 = .ok (.iadd, 1) := by decide +kernel
theorem dL_law_387 : decode cL_law 387 = .ok (.iaload, 1) := by decide +kernel
theorem dL_law_388 : decode cL_law 388 = .ok (.invokevirtual 81, 3) := by decide +kernel
theorem dL_law_391 : decode cL_law 391 = .ok (.aload_n 2, 1) := by decide +kernel
theorem dL_law_392 : decode cL_law 392 = .ok (.aload_n 0, 1) := by decide +kernel
theorem dL_law_393 : decode cL_law 393 = .ok (.iload_n 3, 1) := by decide +kernel
theorem dL_law_394 : decode cL_law 394 = .ok (.iconst 1, 1) := by decide +kernel
theorem dL_law_395 : decode cL_law 395 = .ok (.iadd, 1) := by decide +kernel
theorem dL_law_396 : decode cL_law 396 = .ok (.iaload, 1) := by decide +kernel
theorem dL_law_397 : decode cL_law 397 = .ok (.invokevirtual 84, 3) := by decide +kernel
theorem dL_law_400 : decode cL_law 400 = .ok (.if_icmp .eq 5, 3) := by decide +kernel
theorem dL_law_403 : decode cL_law 403 = .ok (.iconst 0, 1) := by decide +kernel
theorem dL_law_404 : decode cL_law 404 = .ok (.ireturn, 1) := by decide +kernel
theorem dL_law_405 : decode cL_law 405 = .ok (.iinc 3 3, 3) := by decide +kernel
theorem dL_law_408 : decode cL_law 408 = .ok (.goto (-390), 3) := by decide +kernel
theorem dL_law_411 : decode cL_law 411 = .ok (.iconst 1, 1) := by decide +kernel
theorem dL_law_412 : decode cL_law 412 = .ok (.ireturn, 1) := by decide +kernel
end
section
/-! numbers: every int of the walk is iI z, z an Int; rows of the machine in those words -/
def iI (z : Int) : Int32 := Int32.ofInt z
theorem iI_add (a b : Int) : iI a + iI b = iI (a + b) := (Int32.ofInt_add a b).symm
theorem iI_sub (a b : Int) : iI a - iI b = iI (a - b) := (Int32.ofInt_sub a b).symm
theorem iI_mul (a b : Int) : iI a * iI b = iI (a * b) := (Int32.ofInt_mul a b).symm
theorem iI_of (x : Int32) : iI x.toInt = x := Int32.ofInt_toInt x
theorem iI_T {z : Int} (h : -2147483648 ≤ z ∧ z < 2147483648) : (iI z).toInt = z := Int32.toInt_ofInt_of_le (by omega) (by omega)
theorem iI_lt {a b : Int} (ha : -2147483648 ≤ a ∧ a < 2147483648) (hb : -2147483648 ≤ b ∧ b < 2147483648) : iI a < iI b ↔ a < b := by
  rw [Int32.lt_iff_toInt_lt, iI_T ha, iI_T hb]
theorem iI_le {a b : Int} (ha : -2147483648 ≤ a ∧ a < 2147483648) (hb : -2147483648 ≤ b ∧ b < 2147483648) : iI a ≤ iI b ↔ a ≤ b := by
  rw [Int32.le_iff_toInt_le, iI_T ha, iI_T hb]
theorem iI_eq {a b : Int} (ha : -2147483648 ≤ a ∧ a < 2147483648) (hb : -2147483648 ≤ b ∧ b < 2147483648) : iI a = iI b ↔ a = b := by
  rw [← Int32.toInt_inj, iI_T ha, iI_T hb]
theorem iI_0 : iI 0 = 0 := rfl
theorem iI_cl (j : Nat) (h : j < 2147483648) : (iI (j : Int)).toNatClampNeg = j := by
  unfold iI
  rw [Int32.toNatClampNeg_ofInt_of_le (by omega) (by omega)]
  simp
theorem iI_in {j N : Nat} (h : j < N) (hN : N < 2147483648) : vp_in (iI (j : Int)) N := by
  rw [vp_in_iff, iI_T (by omega)]
  omega
theorem iI_b {z : Int} (h : -128 ≤ z ∧ z < 128) : (iI z).toInt8.toInt32 = iI z := by
  rw [← Int32.toInt_inj, Int8.toInt_toInt32, Int32.toInt_toInt8, iI_T (by omega)]
  exact Int.bmod_eq_of_le (by omega) (by omega)
theorem iI_s {z : Int} (h : -32768 ≤ z ∧ z < 32768) : (iI z).toInt16.toInt32 = iI z := by
  rw [← Int32.toInt_inj, Int16.toInt_toInt32, Int32.toInt_toInt16, iI_T (by omega)]
  exact Int.bmod_eq_of_le (by omega) (by omega)
theorem iI_nb {z : Int} (h : -128 ≤ z ∧ z < 128) : vp_nar .byte (iI z) = iI z := by rw [vp_nar_byte, iI_b h]
theorem iI_ns {z : Int} (h : -32768 ≤ z ∧ z < 32768) : vp_nar .short (iI z) = iI z := by rw [vp_nar_short, iI_s h]
/-- one function holds an object's state: field a at place 0, array field a at place b -/
def up2 (σ : Nat → Nat → Int) (k j : Nat) (v : Int) : Nat → Nat → Int := fun a b => if a = k ∧ b = j then v else σ a b
theorem up2_eq (σ : Nat → Nat → Int) (k j : Nat) (v : Int) : up2 σ k j v k j = v := by simp [up2]
theorem up2_nk {σ : Nat → Nat → Int} {k j : Nat} {v : Int} {a b : Nat} (h : a ≠ k) : up2 σ k j v a b = σ a b := by simp [up2, h]
theorem up2_nj {σ : Nat → Nat → Int} {k j : Nat} {v : Int} {a b : Nat} (h : b ≠ j) : up2 σ k j v a b = σ a b := by simp [up2, h]
section
variable {p : Program} {l : Launch} {e : Env} {R : Room} {s : State} {m : MethodId} {args : Array Value} {below : List Frame} {meth : Method} {c : Code} {H : Heap} {locs : List Loc} {cells slots : Nat} {Q : State → Prop}
variable {cc : ByteArray} {pc : Nat} {ls : Array Slot} {rest : List Value}
theorem r_iconst (hx : p.tables.exec = Jvm.exec) (hb : c.code = cc) {z : Int} (hdg : decode cc pc = .ok (.iconst z, 1)) (k : W p l e R s m args below meth c H locs cells slots Q (F0 m (pc + 1) ls (.int (iI z) :: rest))) : W p l e R s m args below meth c H locs cells slots Q (F0 m pc ls rest) :=
  lv_iconst (v := iI z) hx hb hdg rfl k
theorem r_bipush (hx : p.tables.exec = Jvm.exec) (hb : c.code = cc) {z : Int} (hdg : decode cc pc = .ok (.bipush z, 2)) (hz : (Int8.ofInt z).toInt32 = iI z) (k : W p l e R s m args below meth c H locs cells slots Q (F0 m (pc + 2) ls (.int (iI z) :: rest))) : W p l e R s m args below meth c H locs cells slots Q (F0 m pc ls rest) :=
  lv_bipush (v := iI z) hx hb hdg hz k
theorem r_sipush (hx : p.tables.exec = Jvm.exec) (hb : c.code = cc) {z : Int} (hdg : decode cc pc = .ok (.sipush z, 3)) (hz : (Int16.ofInt z).toInt32 = iI z) (k : W p l e R s m args below meth c H locs cells slots Q (F0 m (pc + 3) ls (.int (iI z) :: rest))) : W p l e R s m args below meth c H locs cells slots Q (F0 m pc ls rest) :=
  lv_sipush (v := iI z) hx hb hdg hz k
theorem r_iadd (hx : p.tables.exec = Jvm.exec) (hb : c.code = cc) {a b : Int} (hdg : decode cc pc = .ok (.iadd, 1)) (k : W p l e R s m args below meth c H locs cells slots Q (F0 m (pc + 1) ls (.int (iI (a + b)) :: rest))) : W p l e R s m args below meth c H locs cells slots Q (F0 m pc ls (.int (iI b) :: .int (iI a) :: rest)) :=
  lv_iadd hx hb hdg (by rw [iI_add]; exact k)
theorem r_isub (hx : p.tables.exec = Jvm.exec) (hb : c.code = cc) {a b : Int} (hdg : decode cc pc = .ok (.isub, 1)) (k : W p l e R s m args below meth c H locs cells slots Q (F0 m (pc + 1) ls (.int (iI (a - b)) :: rest))) : W p l e R s m args below meth c H locs cells slots Q (F0 m pc ls (.int (iI b) :: .int (iI a) :: rest)) :=
  lv_isub hx hb hdg (by rw [iI_sub]; exact k)
theorem r_imul (hx : p.tables.exec = Jvm.exec) (hb : c.code = cc) {a b : Int} (hdg : decode cc pc = .ok (.imul, 1)) (k : W p l e R s m args below meth c H locs cells slots Q (F0 m (pc + 1) ls (.int (iI (a * b)) :: rest))) : W p l e R s m args below meth c H locs cells slots Q (F0 m pc ls (.int (iI b) :: .int (iI a) :: rest)) :=
  lv_imul hx hb hdg (by rw [iI_mul]; exact k)
theorem r_i2b (hx : p.tables.exec = Jvm.exec) (hb : c.code = cc) {a : Int} (hdg : decode cc pc = .ok (.i2b, 1)) (ha : -128 ≤ a ∧ a < 128) (k : W p l e R s m args below meth c H locs cells slots Q (F0 m (pc + 1) ls (.int (iI a) :: rest))) : W p l e R s m args below meth c H locs cells slots Q (F0 m pc ls (.int (iI a) :: rest)) :=
  lv_i2b (v := iI a) hx hb hdg (iI_b ha) k
theorem r_i2s (hx : p.tables.exec = Jvm.exec) (hb : c.code = cc) {a : Int} (hdg : decode cc pc = .ok (.i2s, 1)) (ha : -32768 ≤ a ∧ a < 32768) (k : W p l e R s m args below meth c H locs cells slots Q (F0 m (pc + 1) ls (.int (iI a) :: rest))) : W p l e R s m args below meth c H locs cells slots Q (F0 m pc ls (.int (iI a) :: rest)) :=
  lv_i2s (v := iI a) hx hb hdg (iI_s ha) k
/-- the int on top has another name -/
theorem r_top {a b : Int} (h : a = b) (k : W p l e R s m args below meth c H locs cells slots Q (F0 m pc ls (.int (iI b) :: rest))) : W p l e R s m args below meth c H locs cells slots Q (F0 m pc ls (.int (iI a) :: rest)) := by
  rw [h]; exact k
theorem r_if_eq (hx : p.tables.exec = Jvm.exec) (hb : c.code = cc) {a : Int} {off : Int} {tgt : Nat} (hdg : decode cc pc = .ok (.ifCond .eq off, 3)) (ht : (pc : Int) + off = (tgt : Int)) (hba : -2147483648 ≤ a ∧ a < 2147483648)
    (kt : a = 0 → W p l e R s m args below meth c H locs cells slots Q (F0 m tgt ls rest)) (kf : ¬ a = 0 → W p l e R s m args below meth c H locs cells slots Q (F0 m (pc + 3) ls rest)) : W p l e R s m args below meth c H locs cells slots Q (F0 m pc ls (.int (iI a) :: rest)) := by
  have q9 := (iI_eq (a := a) (b := 0) hba (by omega))
  rw [iI_0] at q9
  exact lv_if_eq hx hb hdg ht (fun h => kt (q9.mp h)) (fun h => kf (fun q => h (q9.mpr q)))
theorem r_icmp_eq (hx : p.tables.exec = Jvm.exec) (hb : c.code = cc) {a b : Int} {off : Int} {tgt : Nat} (hdg : decode cc pc = .ok (.if_icmp .eq off, 3)) (ht : (pc : Int) + off = (tgt : Int)) (hba : -2147483648 ≤ a ∧ a < 2147483648) (hbb : -2147483648 ≤ b ∧ b < 2147483648)
    (kt : a = b → W p l e R s m args below meth c H locs cells slots Q (F0 m tgt ls rest)) (kf : ¬ a = b → W p l e R s m args below meth c H locs cells slots Q (F0 m (pc + 3) ls rest)) : W p l e R s m args below meth c H locs cells slots Q (F0 m pc ls (.int (iI b) :: .int (iI a) :: rest)) := by
  have q9 := (iI_eq (a := a) (b := b) hba hbb)
  exact lv_icmp_eq hx hb hdg ht (fun h => kt (q9.mp h)) (fun h => kf (fun q => h (q9.mpr q)))
theorem r_if_ne (hx : p.tables.exec = Jvm.exec) (hb : c.code = cc) {a : Int} {off : Int} {tgt : Nat} (hdg : decode cc pc = .ok (.ifCond .ne off, 3)) (ht : (pc : Int) + off = (tgt : Int)) (hba : -2147483648 ≤ a ∧ a < 2147483648)
    (kt : ¬ a = 0 → W p l e R s m args below meth c H locs cells slots Q (F0 m tgt ls rest)) (kf : a = 0 → W p l e R s m args below meth c H locs cells slots Q (F0 m (pc + 3) ls rest)) : W p l e R s m args below meth c H locs cells slots Q (F0 m pc ls (.int (iI a) :: rest)) := by
  have q9 := (iI_eq (a := a) (b := 0) hba (by omega))
  rw [iI_0] at q9
  exact lv_if_ne hx hb hdg ht (fun h => kt (fun q => h (q9.mpr q))) (fun h => kf (q9.mp h))
theorem r_icmp_ne (hx : p.tables.exec = Jvm.exec) (hb : c.code = cc) {a b : Int} {off : Int} {tgt : Nat} (hdg : decode cc pc = .ok (.if_icmp .ne off, 3)) (ht : (pc : Int) + off = (tgt : Int)) (hba : -2147483648 ≤ a ∧ a < 2147483648) (hbb : -2147483648 ≤ b ∧ b < 2147483648)
    (kt : ¬ a = b → W p l e R s m args below meth c H locs cells slots Q (F0 m tgt ls rest)) (kf : a = b → W p l e R s m args below meth c H locs cells slots Q (F0 m (pc + 3) ls rest)) : W p l e R s m args below meth c H locs cells slots Q (F0 m pc ls (.int (iI b) :: .int (iI a) :: rest)) := by
  have q9 := (iI_eq (a := a) (b := b) hba hbb)
  exact lv_icmp_ne hx hb hdg ht (fun h => kt (fun q => h (q9.mpr q))) (fun h => kf (q9.mp h))
theorem r_if_lt (hx : p.tables.exec = Jvm.exec) (hb : c.code = cc) {a : Int} {off : Int} {tgt : Nat} (hdg : decode cc pc = .ok (.ifCond .lt off, 3)) (ht : (pc : Int) + off = (tgt : Int)) (hba : -2147483648 ≤ a ∧ a < 2147483648)
    (kt : a < 0 → W p l e R s m args below meth c H locs cells slots Q (F0 m tgt ls rest)) (kf : ¬ a < 0 → W p l e R s m args below meth c H locs cells slots Q (F0 m (pc + 3) ls rest)) : W p l e R s m args below meth c H locs cells slots Q (F0 m pc ls (.int (iI a) :: rest)) := by
  have q9 := (iI_lt (a := a) (b := 0) hba (by omega))
  rw [iI_0] at q9
  exact lv_if_lt hx hb hdg ht (fun h => kt (q9.mp h)) (fun h => kf (fun q => h (q9.mpr q)))
theorem r_icmp_lt (hx : p.tables.exec = Jvm.exec) (hb : c.code = cc) {a b : Int} {off : Int} {tgt : Nat} (hdg : decode cc pc = .ok (.if_icmp .lt off, 3)) (ht : (pc : Int) + off = (tgt : Int)) (hba : -2147483648 ≤ a ∧ a < 2147483648) (hbb : -2147483648 ≤ b ∧ b < 2147483648)
    (kt : a < b → W p l e R s m args below meth c H locs cells slots Q (F0 m tgt ls rest)) (kf : ¬ a < b → W p l e R s m args below meth c H locs cells slots Q (F0 m (pc + 3) ls rest)) : W p l e R s m args below meth c H locs cells slots Q (F0 m pc ls (.int (iI b) :: .int (iI a) :: rest)) := by
  have q9 := (iI_lt (a := a) (b := b) hba hbb)
  exact lv_icmp_lt hx hb hdg ht (fun h => kt (q9.mp h)) (fun h => kf (fun q => h (q9.mpr q)))
theorem r_if_ge (hx : p.tables.exec = Jvm.exec) (hb : c.code = cc) {a : Int} {off : Int} {tgt : Nat} (hdg : decode cc pc = .ok (.ifCond .ge off, 3)) (ht : (pc : Int) + off = (tgt : Int)) (hba : -2147483648 ≤ a ∧ a < 2147483648)
    (kt : 0 ≤ a → W p l e R s m args below meth c H locs cells slots Q (F0 m tgt ls rest)) (kf : ¬ 0 ≤ a → W p l e R s m args below meth c H locs cells slots Q (F0 m (pc + 3) ls rest)) : W p l e R s m args below meth c H locs cells slots Q (F0 m pc ls (.int (iI a) :: rest)) := by
  have q9 := (iI_le (a := 0) (b := a) (by omega) hba)
  rw [iI_0] at q9
  exact lv_if_ge hx hb hdg ht (fun h => kt (q9.mp h)) (fun h => kf (fun q => h (q9.mpr q)))
theorem r_icmp_ge (hx : p.tables.exec = Jvm.exec) (hb : c.code = cc) {a b : Int} {off : Int} {tgt : Nat} (hdg : decode cc pc = .ok (.if_icmp .ge off, 3)) (ht : (pc : Int) + off = (tgt : Int)) (hba : -2147483648 ≤ a ∧ a < 2147483648) (hbb : -2147483648 ≤ b ∧ b < 2147483648)
    (kt : b ≤ a → W p l e R s m args below meth c H locs cells slots Q (F0 m tgt ls rest)) (kf : ¬ b ≤ a → W p l e R s m args below meth c H locs cells slots Q (F0 m (pc + 3) ls rest)) : W p l e R s m args below meth c H locs cells slots Q (F0 m pc ls (.int (iI b) :: .int (iI a) :: rest)) := by
  have q9 := (iI_le (a := b) (b := a) hbb hba)
  exact lv_icmp_ge hx hb hdg ht (fun h => kt (q9.mp h)) (fun h => kf (fun q => h (q9.mpr q)))
theorem r_if_gt (hx : p.tables.exec = Jvm.exec) (hb : c.code = cc) {a : Int} {off : Int} {tgt : Nat} (hdg : decode cc pc = .ok (.ifCond .gt off, 3)) (ht : (pc : Int) + off = (tgt : Int)) (hba : -2147483648 ≤ a ∧ a < 2147483648)
    (kt : 0 < a → W p l e R s m args below meth c H locs cells slots Q (F0 m tgt ls rest)) (kf : ¬ 0 < a → W p l e R s m args below meth c H locs cells slots Q (F0 m (pc + 3) ls rest)) : W p l e R s m args below meth c H locs cells slots Q (F0 m pc ls (.int (iI a) :: rest)) := by
  have q9 := (iI_lt (a := 0) (b := a) (by omega) hba)
  rw [iI_0] at q9
  exact lv_if_gt hx hb hdg ht (fun h => kt (q9.mp h)) (fun h => kf (fun q => h (q9.mpr q)))
theorem r_icmp_gt (hx : p.tables.exec = Jvm.exec) (hb : c.code = cc) {a b : Int} {off : Int} {tgt : Nat} (hdg : decode cc pc = .ok (.if_icmp .gt off, 3)) (ht : (pc : Int) + off = (tgt : Int)) (hba : -2147483648 ≤ a ∧ a < 2147483648) (hbb : -2147483648 ≤ b ∧ b < 2147483648)
    (kt : b < a → W p l e R s m args below meth c H locs cells slots Q (F0 m tgt ls rest)) (kf : ¬ b < a → W p l e R s m args below meth c H locs cells slots Q (F0 m (pc + 3) ls rest)) : W p l e R s m args below meth c H locs cells slots Q (F0 m pc ls (.int (iI b) :: .int (iI a) :: rest)) := by
  have q9 := (iI_lt (a := b) (b := a) hbb hba)
  exact lv_icmp_gt hx hb hdg ht (fun h => kt (q9.mp h)) (fun h => kf (fun q => h (q9.mpr q)))
theorem r_if_le (hx : p.tables.exec = Jvm.exec) (hb : c.code = cc) {a : Int} {off : Int} {tgt : Nat} (hdg : decode cc pc = .ok (.ifCond .le off, 3)) (ht : (pc : Int) + off = (tgt : Int)) (hba : -2147483648 ≤ a ∧ a < 2147483648)
    (kt : a ≤ 0 → W p l e R s m args below meth c H locs cells slots Q (F0 m tgt ls rest)) (kf : ¬ a ≤ 0 → W p l e R s m args below meth c H locs cells slots Q (F0 m (pc + 3) ls rest)) : W p l e R s m args below meth c H locs cells slots Q (F0 m pc ls (.int (iI a) :: rest)) := by
  have q9 := (iI_le (a := a) (b := 0) hba (by omega))
  rw [iI_0] at q9
  exact lv_if_le hx hb hdg ht (fun h => kt (q9.mp h)) (fun h => kf (fun q => h (q9.mpr q)))
theorem r_icmp_le (hx : p.tables.exec = Jvm.exec) (hb : c.code = cc) {a b : Int} {off : Int} {tgt : Nat} (hdg : decode cc pc = .ok (.if_icmp .le off, 3)) (ht : (pc : Int) + off = (tgt : Int)) (hba : -2147483648 ≤ a ∧ a < 2147483648) (hbb : -2147483648 ≤ b ∧ b < 2147483648)
    (kt : a ≤ b → W p l e R s m args below meth c H locs cells slots Q (F0 m tgt ls rest)) (kf : ¬ a ≤ b → W p l e R s m args below meth c H locs cells slots Q (F0 m (pc + 3) ls rest)) : W p l e R s m args below meth c H locs cells slots Q (F0 m pc ls (.int (iI b) :: .int (iI a) :: rest)) := by
  have q9 := (iI_le (a := a) (b := b) hba hbb)
  exact lv_icmp_le hx hb hdg ht (fun h => kt (q9.mp h)) (fun h => kf (fun q => h (q9.mpr q)))
theorem r_iinc (hx : p.tables.exec = Jvm.exec) (hb : c.code = cc) {i nL k : Nat} {n a : Int} {lv lv' : List (Nat × Value)} (hdg : decode cc pc = .ok (.iinc i n, 3)) (h : lv_has ls nL lv) (hk : lv[k]? = some (i, .int (iI a))) (hn : i < nL) (hl : (i, Value.int (iI (a + n))) :: lv.filter (fun q => !(q.1 == i) && !(q.1 + 1 == i && q.2.category == 2)) = lv')
    (kk : ∀ ls', lv_has ls' nL lv' → W p l e R s m args below meth c H locs cells slots Q (F0 m (pc + 3) ls' rest)) : W p l e R s m args below meth c H locs cells slots Q (F0 m pc ls rest) :=
  lv_iinc (v := iI (a + n)) (lv' := lv') hx hb hdg h (k := k) hk (iI_add a n) hn hl kk
end
end
section
/-! the two classes' worlds; contracts' forms; rows of fields and arrays (printed by gen/world.py) -/
set_option maxRecDepth 100000
abbrev St : Type := Nat → Nat → Int
abbrev vwCl : List vw_C := [(RX0, TX0, 22), (RX1, TX1, 9)]
theorem A_iff (ws : va_W) (sz : Nat) : va_A ws sz = fun q => q ∈ ws.map Prod.fst ∨ sz ≤ q := by
  funext q
  apply propext
  unfold va_A
  constructor
  · intro h
    rcases h with ⟨k, e, h⟩ | h
    · exact Or.inl (List.mem_map.mpr ⟨(q, e), List.mem_of_getElem? h, rfl⟩)
    · exact Or.inr h
  · intro h
    rcases h with h | h
    · obtain ⟨⟨a, e⟩, h1, h2⟩ := List.mem_map.mp h
      obtain ⟨k, hk⟩ := List.getElem?_of_mem h1
      have h3 : a = q := h2
      subst h3
      exact Or.inl ⟨k, e, hk⟩
    · exact Or.inr h
def GA (ad : List Nat) (sz : Nat) : Nat → Prop := fun q => q ∈ ad ∨ sz ≤ q
theorem GA_eq {ws : va_W} {ad : List Nat} (h : ws.map Prod.fst = ad) (sz : Nat) : va_A ws sz = GA ad sz := by rw [A_iff, h]; rfl
def GW (D : va_G) (tys : List (ClassId × FieldType)) (ws : va_W) (A : Nat → Prop) (s : State) (H : Heap) (locs : List Loc) : Prop :=
  va_K D vwCl tys s ∧ va_P D vwCl ws H ∧ va_D A ws ∧ va_S A s.heap H locs ∧ ∀ q : Nat, s.heap.size ≤ q → A q
def GB (D : va_G) (tys : List (ClassId × FieldType)) (ws : va_W) (A : Nat → Prop) (t : State) : Prop := va_P D vwCl ws t.heap ∧ va_K D vwCl tys t ∧ va_D A ws
/-- contract of a method that answers an int: from the state σ it comes to some z, σ' with post z σ' -/
def GMi (l : Launch) (y : MethodName) (b : ByteArray) (L : Nat) (r : Option FieldType) (fr lo : Nat) (D : va_G) (tys : List (ClassId × FieldType)) (wf : St → va_W) (ad : List Nat) (o : Nat) (As : List Value) (σ : St) (post : Int → St → Prop) : Prop :=
  ∀ sz : Nat, Met l y (ws_ y b L r) ({ frames := fr, cells := 0, slots := 0, locals := lo }) (va_Pc (.ref o :: As) (fun U => U.heap.size = sz ∧ GB D tys (wf σ) (fun _ => True) U)) (va_Qi (fun (v : Int32) (σ' : St) => ∃ z : Int, v = iI z ∧ post z σ') (fun σ' => GB D tys (wf σ') (GA ad sz)) (GA ad sz)) 0 0 (GA ad sz)
/-- contract of a method that answers nothing -/
def GMv (l : Launch) (y : MethodName) (b : ByteArray) (L : Nat) (r : Option FieldType) (fr lo : Nat) (D : va_G) (tys : List (ClassId × FieldType)) (wf : St → va_W) (ad : List Nat) (o : Nat) (As : List Value) (σ : St) (post : St → Prop) : Prop :=
  ∀ sz : Nat, Met l y (ws_ y b L r) ({ frames := fr, cells := 0, slots := 0, locals := lo }) (va_Pc (.ref o :: As) (fun U => U.heap.size = sz ∧ GB D tys (wf σ) (fun _ => True) U)) (va_Qv (fun (σ' : St) => post σ') (fun σ' => GB D tys (wf σ') (GA ad sz)) (GA ad sz)) 0 0 (GA ad sz)
def QGi (D : va_G) (tys : List (ClassId × FieldType)) (wf : St → va_W) (A : Nat → Prop) (s : State) (args : Array Value) (below : List Frame) (post : Int → St → Prop) : State → Prop :=
  MQ below (va_Qi (fun (v : Int32) (σ' : St) => ∃ z : Int, v = iI z ∧ post z σ') (fun σ' => GB D tys (wf σ') A) A) args s 0 0 A
def QGv (D : va_G) (tys : List (ClassId × FieldType)) (wf : St → va_W) (A : Nat → Prop) (s : State) (args : Array Value) (below : List Frame) (post : St → Prop) : State → Prop :=
  MQ below (va_Qv (fun (σ' : St) => post σ') (fun σ' => GB D tys (wf σ') A) A) args s 0 0 A
theorem GMi.of {l : Launch} {y : MethodName} {b : ByteArray} {L : Nat} {r : Option FieldType} {fr lo : Nat} {D : va_G} {tys : List (ClassId × FieldType)} {wf : St → va_W} {ad : List Nat} {o : Nat} {As : List Value} {σ : St} {post : Int → St → Prop}
    (hy : plainName y.cls = true) (had : (wf σ).map Prod.fst = ad) (hL : (lg_sl (.ref o :: As)).length ≤ L)
    (body : ∀ (p : Program) (e : Env) (s : State) (m : MethodId) (below : List Frame) (meth : Method) (c : Code) (A : Nat → Prop) (ls : Array Slot), CallFix p m c b L s (Value.ref o :: As).toArray lw_all y.cls → meth.sig.returnType = r → meth.locks = false → GW D tys (wf σ) A s s.heap [] → lv_has ls L (lv_args 0 (.ref o :: As)) →
      W p l e ({ frames := fr, cells := 0, slots := 0, locals := lo }) s m (Value.ref o :: As).toArray below meth c s.heap [] 0 0 (QGi D tys wf A s (Value.ref o :: As).toArray below post) (F0 m 0 ls [])) : GMi l y b L r fr lo D tys wf ad o As σ post := by
  intro sz
  refine Met.ofW (cc := b) (maxL := L) (ret := r) hy rfl ?_
  intro p e s m args below meth c s₁ B hml hv
  obtain ⟨rfl, hsz, hP, hK, hD0⟩ := hv
  have hts := atoms_spec (ws := ws_ y b L r) B.pre
  have hts : ∀ w ∈ lw_all, w.before _ s = true := fun w h => hts w (List.mem_cons_of_mem _ h)
  have hown : s.vm.findClass y.cls = some m.cls := findClass_of_methodNamed B.named
  subst hsz
  have hD := hD0.self (sz := s.heap.size)
  rw [GA_eq had] at hD
  have hA : ∀ q : Nat, s.heap.size ≤ q → GA ad s.heap.size q := fun q h => Or.inr h
  have hl := lv_entry (.ref o :: As) (n := L) hL
  rw [lg_entry_eq]
  exact body p e s m below meth c (GA ad s.heap.size) _ ⟨B.exec, B.bytes, hml, hown, hts⟩ B.returns B.notSynchronized ⟨hK, hP, hD, va_S.rf, hA⟩ hl
theorem GMv.of {l : Launch} {y : MethodName} {b : ByteArray} {L : Nat} {r : Option FieldType} {fr lo : Nat} {D : va_G} {tys : List (ClassId × FieldType)} {wf : St → va_W} {ad : List Nat} {o : Nat} {As : List Value} {σ : St} {post : St → Prop}
    (hy : plainName y.cls = true) (had : (wf σ).map Prod.fst = ad) (hL : (lg_sl (.ref o :: As)).length ≤ L)
    (body : ∀ (p : Program) (e : Env) (s : State) (m : MethodId) (below : List Frame) (meth : Method) (c : Code) (A : Nat → Prop) (ls : Array Slot), CallFix p m c b L s (Value.ref o :: As).toArray lw_all y.cls → meth.sig.returnType = r → meth.locks = false → GW D tys (wf σ) A s s.heap [] → lv_has ls L (lv_args 0 (.ref o :: As)) →
      W p l e ({ frames := fr, cells := 0, slots := 0, locals := lo }) s m (Value.ref o :: As).toArray below meth c s.heap [] 0 0 (QGv D tys wf A s (Value.ref o :: As).toArray below post) (F0 m 0 ls [])) : GMv l y b L r fr lo D tys wf ad o As σ post := by
  intro sz
  refine Met.ofW (cc := b) (maxL := L) (ret := r) hy rfl ?_
  intro p e s m args below meth c s₁ B hml hv
  obtain ⟨rfl, hsz, hP, hK, hD0⟩ := hv
  have hts := atoms_spec (ws := ws_ y b L r) B.pre
  have hts : ∀ w ∈ lw_all, w.before _ s = true := fun w h => hts w (List.mem_cons_of_mem _ h)
  have hown : s.vm.findClass y.cls = some m.cls := findClass_of_methodNamed B.named
  subst hsz
  have hD := hD0.self (sz := s.heap.size)
  rw [GA_eq had] at hD
  have hA : ∀ q : Nat, s.heap.size ≤ q → GA ad s.heap.size q := fun q h => Or.inr h
  have hl := lv_entry (.ref o :: As) (n := L) hL
  rw [lg_entry_eq]
  exact body p e s m below meth c (GA ad s.heap.size) _ ⟨B.exec, B.bytes, hml, hown, hts⟩ B.returns B.notSynchronized ⟨hK, hP, hD, va_S.rf, hA⟩ hl
theorem fm_of {α : Type} {is : List Nat} {f : Nat → Option α} {l : List α} (h : is.map f = l.map some) : is.filterMap f = l := by
  have h1 := congrArg (List.filterMap id) h
  simpa [List.filterMap_map] using h1
section
variable {p : Program} {l : Launch} {e : Env} {R : Room} {s : State} {m : MethodId} {args : Array Value} {below : List Frame} {meth : Method} {c : Code} {H : Heap} {locs : List Loc} {cells slots : Nat} {Q : State → Prop}
variable {cc : ByteArray} {pc nL : Nat} {ls : Array Slot} {rest : List Value} {D : va_G} {A : Nat → Prop}
theorem G_reti {tys : List (ClassId × FieldType)} {wf : St → va_W} {post : Int → St → Prop} (hx : p.tables.exec = Jvm.exec) (hb : c.code = cc) (hr : meth.sig.returnType = some .int) (hlk : meth.locks = false) {σ' : St} (hw : GW D tys (wf σ') A s H locs) {z : Int} (hp : post z σ') (hdg : decode cc pc = .ok (.ireturn, 1)) :
    W p l e R s m args below meth c H locs 0 0 (QGi D tys wf A s args below post) (F0 m pc ls [.int (iI z)]) :=
  W.iret (v := iI z) hx hb hr (fun t ht hW => ⟨⟨iI z, σ', rfl, ⟨z, rfl, hp⟩, by rw [ht]; exact hw.2.1, va_K.moved hW.alike hw.1, hw.2.2.1⟩, hw.2.2.2.1.F ht⟩) hw.2.2.2.1.2.2 hdg hlk
theorem G_retz {tys : List (ClassId × FieldType)} {wf : St → va_W} {post : Int → St → Prop} (hx : p.tables.exec = Jvm.exec) (hb : c.code = cc) (hr : meth.sig.returnType = some .boolean) (hlk : meth.locks = false) {σ' : St} (hw : GW D tys (wf σ') A s H locs) {z : Int} (hz : narrow .boolean (.int (iI z)) = .int (iI z)) (hp : post z σ') (hdg : decode cc pc = .ok (.ireturn, 1)) :
    W p l e R s m args below meth c H locs 0 0 (QGi D tys wf A s args below post) (F0 m pc ls [.int (iI z)]) :=
  W.zret (v := iI z) hx hb hr hz (fun t ht hW => ⟨⟨iI z, σ', rfl, ⟨z, rfl, hp⟩, by rw [ht]; exact hw.2.1, va_K.moved hW.alike hw.1, hw.2.2.1⟩, hw.2.2.2.1.F ht⟩) hw.2.2.2.1.2.2 hdg hlk
theorem G_retv {tys : List (ClassId × FieldType)} {wf : St → va_W} {post : St → Prop} (hx : p.tables.exec = Jvm.exec) (hb : c.code = cc) (hr : meth.sig.returnType = none) (hlk : meth.locks = false) {σ' : St} (hw : GW D tys (wf σ') A s H locs) (hp : post σ') (hdg : decode cc pc = .ok (.return_, 1)) :
    W p l e R s m args below meth c H locs 0 0 (QGv D tys wf A s args below post) (F0 m pc ls []) :=
  W.vret hx hb hr (fun t ht hW => ⟨⟨σ', rfl, hp, by rw [ht]; exact hw.2.1, va_K.moved hW.alike hw.1, hw.2.2.1⟩, hw.2.2.2.1.F ht⟩) hw.2.2.2.1.2.2 hdg hlk
theorem z_0 : narrow .boolean (.int (iI 0)) = .int (iI 0) := rfl
theorem z_1 : narrow .boolean (.int (iI 1)) = .int (iI 1) := rfl
/-- a call: the callee's world is a part of the caller's; the rest wr stays -/
theorem G_calli {own C : String} {tys tys0 : List (ClassId × FieldType)} {ws wr : va_W} {wf : St → va_W} {ad : List Nat} {o : Nat} {As st : List Value} {σ : St} {post : Int → St → Prop} {y : MethodName} {b : ByteArray} {L fr lo n index : Nat} {r : Option FieldType} (S : CallFix p m c cc nL s args lw_all own) (hw : GW D tys0 ws A s H locs) (isC isR : List Nat) (hC : isC.map (fun i => ws[i]?) = (wf σ).map some) (hR : isR.map (fun i => ws[i]?) = wr.map some) (hnC : va_nd isC = true) (hn : va_nd isR = true) (hdis : ∀ i ∈ isR, i ∉ isC) (hKc : va_K D vwCl tys s)
    (hM : GMi l y b L r fr lo D tys wf ad o As σ post) (had : (wf σ).map Prod.fst = ad) (hrecv : ∃ cell : Cell, H[o]? = some cell ∧ cell.vm.isStatics = false ∧ s.vm.findClass C = some cell.cls)
    (cw : CallW R s args own C index y b L r (ws_ y b L r) ({ frames := fr, cells := 0, slots := 0, locals := lo }) 0 0 n) (hcs : cells ≤ R.cells ∧ slots ≤ R.slots) (hAs : As.length = n) (hsz : ls.size = nL) (hst : st = As.reverse ++ .ref o :: rest) (hcat : (rest.map fun v => v.category).sum ≤ 8) (hdg : decode cc pc = .ok (.invokevirtual index, 3))
    (kk : ∀ (z : Int) (σ' : St) (H1 : Heap) (locs1 : List Loc), post z σ' → GW D tys0 (wr ++ wf σ') A s H1 locs1 → W p l e R s m args below meth c H1 locs1 cells slots Q (F0 m (pc + 3) ls (.int (iI z) :: rest))) : W p l e R s m args below meth c H locs cells slots Q (F0 m pc ls st) := by
  subst hst
  obtain ⟨hK, hP, hD, hS, hA⟩ := hw
  have hPc := hP.sub (ws' := wf σ) isC (fm_of hC)
  have hDc := hD.sub (ws' := wf σ) isC hnC hC
  have hFc := va_free (wc := wf σ) hD hS hA isC hC
  have hFg : ∀ q, GA ad H.size q → A q := by rw [← GA_eq had]; exact hFc
  refine va_calli (va_runV (As := As) (rest := rest) S (hM H.size) cw ⟨fun a U g mk q => by obtain ⟨q0, q1, qP, qK, qD⟩ := q; exact ⟨q0, q1, qP, va_K.moved (u := U) (U := U.calling g mk a) (Vm.Alike.refl U.vm) qK, qD⟩, hrecv, fun U hU hW => ⟨rfl, by rw [hU], by rw [hU]; exact hPc, va_K.moved hW.alike hKc, hDc.weaken (fun _ _ _ _ => trivial)⟩⟩ rfl hAs hsz rfl (lv_room hcat) hdg hcs) hS (fun q _ h => hFg q h) hFg (fun v u t H1 locs1 ht hvm hw1 hB hz1 hk1 hS1 => ?_)
  obtain ⟨z, rfl, hpost⟩ := hw1
  obtain ⟨hP1, hK1, hD1⟩ := hB
  rw [ht] at hP1
  obtain ⟨hP2, hD2⟩ := va_join (wr := wr) (w1 := wf u) hP hD isC isR hC hR hn hdis (by rw [GA_eq had]; exact hk1) hFc hP1 (by rw [GA_eq had]; exact hD1)
  exact kk z u H1 locs1 hpost ⟨hK, hP2, hD2, hS1, hA⟩
theorem G_callv {own C : String} {tys tys0 : List (ClassId × FieldType)} {ws wr : va_W} {wf : St → va_W} {ad : List Nat} {o : Nat} {As st : List Value} {σ : St} {post : St → Prop} {y : MethodName} {b : ByteArray} {L fr lo n index : Nat} {r : Option FieldType} (S : CallFix p m c cc nL s args lw_all own) (hw : GW D tys0 ws A s H locs) (isC isR : List Nat) (hC : isC.map (fun i => ws[i]?) = (wf σ).map some) (hR : isR.map (fun i => ws[i]?) = wr.map some) (hnC : va_nd isC = true) (hn : va_nd isR = true) (hdis : ∀ i ∈ isR, i ∉ isC) (hKc : va_K D vwCl tys s)
    (hM : GMv l y b L r fr lo D tys wf ad o As σ post) (had : (wf σ).map Prod.fst = ad) (hrecv : ∃ cell : Cell, H[o]? = some cell ∧ cell.vm.isStatics = false ∧ s.vm.findClass C = some cell.cls)
    (cw : CallW R s args own C index y b L r (ws_ y b L r) ({ frames := fr, cells := 0, slots := 0, locals := lo }) 0 0 n) (hcs : cells ≤ R.cells ∧ slots ≤ R.slots) (hAs : As.length = n) (hsz : ls.size = nL) (hst : st = As.reverse ++ .ref o :: rest) (hcat : (rest.map fun v => v.category).sum ≤ 8) (hdg : decode cc pc = .ok (.invokevirtual index, 3))
    (kk : ∀ (σ' : St) (H1 : Heap) (locs1 : List Loc), post σ' → GW D tys0 (wr ++ wf σ') A s H1 locs1 → W p l e R s m args below meth c H1 locs1 cells slots Q (F0 m (pc + 3) ls rest)) : W p l e R s m args below meth c H locs cells slots Q (F0 m pc ls st) := by
  subst hst
  obtain ⟨hK, hP, hD, hS, hA⟩ := hw
  have hPc := hP.sub (ws' := wf σ) isC (fm_of hC)
  have hDc := hD.sub (ws' := wf σ) isC hnC hC
  have hFc := va_free (wc := wf σ) hD hS hA isC hC
  have hFg : ∀ q, GA ad H.size q → A q := by rw [← GA_eq had]; exact hFc
  refine va_callv (va_runV (As := As) (rest := rest) S (hM H.size) cw ⟨fun a U g mk q => by obtain ⟨q0, q1, qP, qK, qD⟩ := q; exact ⟨q0, q1, qP, va_K.moved (u := U) (U := U.calling g mk a) (Vm.Alike.refl U.vm) qK, qD⟩, hrecv, fun U hU hW => ⟨rfl, by rw [hU], by rw [hU]; exact hPc, va_K.moved hW.alike hKc, hDc.weaken (fun _ _ _ _ => trivial)⟩⟩ rfl hAs hsz rfl (lv_room hcat) hdg hcs) hS (fun q _ h => hFg q h) hFg (fun u t H1 locs1 ht hvm hw1 hB hz1 hk1 hS1 => ?_)
  obtain ⟨hP1, hK1, hD1⟩ := hB
  rw [ht] at hP1
  obtain ⟨hP2, hD2⟩ := va_join (wr := wr) (w1 := wf u) hP hD isC isR hC hR hn hdis (by rw [GA_eq had]; exact hk1) hFc hP1 (by rw [GA_eq had]; exact hD1)
  exact kk u H1 locs1 hw1 ⟨hK, hP2, hD2, hS1, hA⟩
end
/-! CodeSearcher -/
def wX (h : Nat → Nat) (cB cS : ClassId) (σ : St) : va_W := [(h 0, .inr (0, [.int (iI (σ 0 0)), .ref (h 1), .ref (h 2), .ref (h 3), .ref (h 4), .ref (h 5), .int (iI (σ 6 0)), .int (iI (σ 7 0)), .ref (h 8), .int (iI (σ 9 0)), .ref (h 10), .ref (h 11), .ref (h 12), .ref (h 13), .ref (h 14), .int (iI (σ 15 0)), .int (iI (σ 16 0)), .int (iI (σ 17 0)), .int (iI (σ 18 0)), .int (iI (σ 19 0)), .int (iI (σ 20 0)), .int (iI (σ 21 0))])),
  (h 1, .inl (cB, 60, .inl (fun j => iI (σ 1 j)))),
  (h 2, .inl (cB, 60, .inl (fun j => iI (σ 2 j)))),
  (h 3, .inl (cB, 60, .inl (fun j => iI (σ 3 j)))),
  (h 4, .inl (cS, 60, .inl (fun j => iI (σ 4 j)))),
  (h 5, .inl (cB, 250, .inl (fun j => iI (σ 5 j)))),
  (h 8, .inl (cB, 6, .inl (fun j => iI (σ 8 j)))),
  (h 10, .inl (cB, 28, .inl (fun j => iI (σ 10 j)))),
  (h 11, .inl (cB, 420, .inl (fun j => iI (σ 11 j)))),
  (h 12, .inl (cS, 420, .inl (fun j => iI (σ 12 j)))),
  (h 13, .inl (cS, 420, .inl (fun j => iI (σ 13 j)))),
  (h 14, .inl (cS, 420, .inl (fun j => iI (σ 14 j))))]
def adX (h : Nat → Nat) : List Nat := [h 0, h 1, h 2, h 3, h 4, h 5, h 8, h 10, h 11, h 12, h 13, h 14]
theorem adX_eq (h : Nat → Nat) (cB cS : ClassId) (σ : St) : (wX h cB cS σ).map Prod.fst = adX h := rfl
section
variable {p : Program} {l : Launch} {e : Env} {R : Room} {s : State} {m : MethodId} {args : Array Value} {below : List Frame} {meth : Method} {c : Code} {H : Heap} {locs : List Loc} {cells slots : Nat} {Q : State → Prop}
variable {cc : ByteArray} {pc nL : Nat} {ls : Array Slot} {rest : List Value} {D : va_G} {A : Nat → Prop} {h : Nat → Nat} {cB cS : ClassId} {σ : St}
theorem gX_0 (S : CallFix p m c cc nL s args lw_all RX0) (hw : GW D [(cB, .byte), (cS, .short)] (wX h cB cS σ) A s H locs) {v : Int} (hv : σ 0 0 = v) (hdg : decode cc pc = .ok (.getfield 7, 3)) (kk : W p l e R s m args below meth c H locs cells slots Q (F0 m (pc + 3) ls (.int (iI v) :: rest))) : W p l e R s m args below meth c H locs cells slots Q (F0 m pc ls (.ref (h 0) :: rest)) := by
  subst hv
  exact va_get (D := D) (ci := 0) (v := .int (iI (σ 0 0))) (C := RX0) (T := TX0) (N := 22) S.1 S.2.1 S.2.2.2.2 in_X0 S.2.2.2.1 hw.1 hw.2.1 0 rfl rfl 0 (by decide) (S.2.2.2.2 _ q25) (fun _ h9 => h9) rfl hdg kk
theorem pX_0 (S : CallFix p m c cc nL s args lw_all RX0) (hw : GW D [(cB, .byte), (cS, .short)] (wX h cB cS σ) A s H locs) {v : Int} (hdg : decode cc pc = .ok (.putfield 7, 3)) (kk : ∀ (H1 : Heap) (locs1 : List Loc), GW D [(cB, .byte), (cS, .short)] (wX h cB cS (up2 σ 0 0 v)) A s H1 locs1 → W p l e R s m args below meth c H1 locs1 cells slots Q (F0 m (pc + 3) ls rest)) : W p l e R s m args below meth c H locs cells slots Q (F0 m pc ls (.int (iI v) :: .ref (h 0) :: rest)) :=
  va_put (D := D) (ci := 0) (v := .int (iI v)) (ty := .int) (C := RX0) (T := TX0) (N := 22) S.1 S.2.1 S.2.2.2.2 in_X0 tyX0 tyX0_ok nmX0 S.2.2.2.1 hw.1 hw.2.1 hw.2.2.1 hw.2.2.2.1 0 rfl rfl 0 (by decide) (S.2.2.2.2 _ q25) (fun _ h9 => h9) rfl (by decide +kernel) rfl rfl (Nat.le_of_ble_eq_true rfl) hdg (fun H1 locs1 hP hD hS => kk H1 locs1 ⟨hw.1, hP, hD, hS, hw.2.2.2.2⟩)
theorem gX_1 (S : CallFix p m c cc nL s args lw_all RX0) (hw : GW D [(cB, .byte), (cS, .short)] (wX h cB cS σ) A s H locs) (hdg : decode cc pc = .ok (.getfield 13, 3)) (kk : W p l e R s m args below meth c H locs cells slots Q (F0 m (pc + 3) ls (.ref (h 1) :: rest))) : W p l e R s m args below meth c H locs cells slots Q (F0 m pc ls (.ref (h 0) :: rest)) :=
  va_get (D := D) (ci := 0) (v := .ref (h 1)) (C := RX0) (T := TX0) (N := 22) S.1 S.2.1 S.2.2.2.2 in_X0 S.2.2.2.1 hw.1 hw.2.1 0 rfl rfl 1 (by decide) (S.2.2.2.2 _ q26) (fun _ h9 => h9) rfl hdg kk
theorem aX_1 (hx : p.tables.exec = Jvm.exec) (hb : c.code = cc) (hw : GW D [(cB, .byte), (cS, .short)] (wX h cB cS σ) A s H locs) (j : Nat) {z v : Int} (hz : z = (j : Int)) (hj : j < 60) (hv : σ 1 j = v) (hdg : decode cc pc = .ok (.baload, 1)) (kk : W p l e R s m args below meth c H locs cells slots Q (F0 m (pc + 1) ls (.int (iI v) :: rest))) : W p l e R s m args below meth c H locs cells slots Q (F0 m pc ls (.int (iI z) :: .ref (h 1) :: rest)) := by
  subst hz; subst hv
  refine va_bald hx hb hw.1 hw.2.1 1 0 rfl rfl (iI_in hj (by decide)) hdg ?_
  rw [iI_cl j (by omega)]
  exact kk
theorem sX_1 (hx : p.tables.exec = Jvm.exec) (hb : c.code = cc) (hw : GW D [(cB, .byte), (cS, .short)] (wX h cB cS σ) A s H locs) (j : Nat) {z v : Int} (hz : z = (j : Int)) (hj : j < 60) (hvb : -128 ≤ v ∧ v < 128) (hdg : decode cc pc = .ok (.bastore, 1)) (kk : ∀ (H1 : Heap) (locs1 : List Loc), GW D [(cB, .byte), (cS, .short)] (wX h cB cS (up2 σ 1 j v)) A s H1 locs1 → W p l e R s m args below meth c H1 locs1 cells slots Q (F0 m (pc + 1) ls rest)) : W p l e R s m args below meth c H locs cells slots Q (F0 m pc ls (.int (iI v) :: .int (iI z) :: .ref (h 1) :: rest)) := by
  subst hz
  refine va_bast hx hb hw.1 hw.2.1 hw.2.2.1 hw.2.2.2.1 1 0 rfl rfl (iI_in hj (by decide)) hdg (fun H1 locs1 hP hD hS => ?_)
  have e9 : upd (fun i => iI (σ 1 i)) (iI (j : Int)).toNatClampNeg (vp_nar .byte (iI v)) = fun i => iI (up2 σ 1 j v 1 i) := by
    rw [iI_cl j (by omega), iI_nb hvb]; funext i; by_cases q : i = j <;> simp [upd, up2, q]
  rw [e9] at hP hD
  exact kk H1 locs1 ⟨hw.1, hP, hD, hS, hw.2.2.2.2⟩
theorem gX_2 (S : CallFix p m c cc nL s args lw_all RX0) (hw : GW D [(cB, .byte), (cS, .short)] (wX h cB cS σ) A s H locs) (hdg : decode cc pc = .ok (.getfield 17, 3)) (kk : W p l e R s m args below meth c H locs cells slots Q (F0 m (pc + 3) ls (.ref (h 2) :: rest))) : W p l e R s m args below meth c H locs cells slots Q (F0 m pc ls (.ref (h 0) :: rest)) :=
  va_get (D := D) (ci := 0) (v := .ref (h 2)) (C := RX0) (T := TX0) (N := 22) S.1 S.2.1 S.2.2.2.2 in_X0 S.2.2.2.1 hw.1 hw.2.1 0 rfl rfl 2 (by decide) (S.2.2.2.2 _ q27) (fun _ h9 => h9) rfl hdg kk
theorem aX_2 (hx : p.tables.exec = Jvm.exec) (hb : c.code = cc) (hw : GW D [(cB, .byte), (cS, .short)] (wX h cB cS σ) A s H locs) (j : Nat) {z v : Int} (hz : z = (j : Int)) (hj : j < 60) (hv : σ 2 j = v) (hdg : decode cc pc = .ok (.baload, 1)) (kk : W p l e R s m args below meth c H locs cells slots Q (F0 m (pc + 1) ls (.int (iI v) :: rest))) : W p l e R s m args below meth c H locs cells slots Q (F0 m pc ls (.int (iI z) :: .ref (h 2) :: rest)) := by
  subst hz; subst hv
  refine va_bald hx hb hw.1 hw.2.1 2 0 rfl rfl (iI_in hj (by decide)) hdg ?_
  rw [iI_cl j (by omega)]
  exact kk
theorem sX_2 (hx : p.tables.exec = Jvm.exec) (hb : c.code = cc) (hw : GW D [(cB, .byte), (cS, .short)] (wX h cB cS σ) A s H locs) (j : Nat) {z v : Int} (hz : z = (j : Int)) (hj : j < 60) (hvb : -128 ≤ v ∧ v < 128) (hdg : decode cc pc = .ok (.bastore, 1)) (kk : ∀ (H1 : Heap) (locs1 : List Loc), GW D [(cB, .byte), (cS, .short)] (wX h cB cS (up2 σ 2 j v)) A s H1 locs1 → W p l e R s m args below meth c H1 locs1 cells slots Q (F0 m (pc + 1) ls rest)) : W p l e R s m args below meth c H locs cells slots Q (F0 m pc ls (.int (iI v) :: .int (iI z) :: .ref (h 2) :: rest)) := by
  subst hz
  refine va_bast hx hb hw.1 hw.2.1 hw.2.2.1 hw.2.2.2.1 2 0 rfl rfl (iI_in hj (by decide)) hdg (fun H1 locs1 hP hD hS => ?_)
  have e9 : upd (fun i => iI (σ 2 i)) (iI (j : Int)).toNatClampNeg (vp_nar .byte (iI v)) = fun i => iI (up2 σ 2 j v 2 i) := by
    rw [iI_cl j (by omega), iI_nb hvb]; funext i; by_cases q : i = j <;> simp [upd, up2, q]
  rw [e9] at hP hD
  exact kk H1 locs1 ⟨hw.1, hP, hD, hS, hw.2.2.2.2⟩
theorem gX_3 (S : CallFix p m c cc nL s args lw_all RX0) (hw : GW D [(cB, .byte), (cS, .short)] (wX h cB cS σ) A s H locs) (hdg : decode cc pc = .ok (.getfield 20, 3)) (kk : W p l e R s m args below meth c H locs cells slots Q (F0 m (pc + 3) ls (.ref (h 3) :: rest))) : W p l e R s m args below meth c H locs cells slots Q (F0 m pc ls (.ref (h 0) :: rest)) :=
  va_get (D := D) (ci := 0) (v := .ref (h 3)) (C := RX0) (T := TX0) (N := 22) S.1 S.2.1 S.2.2.2.2 in_X0 S.2.2.2.1 hw.1 hw.2.1 0 rfl rfl 3 (by decide) (S.2.2.2.2 _ q28) (fun _ h9 => h9) rfl hdg kk
theorem aX_3 (hx : p.tables.exec = Jvm.exec) (hb : c.code = cc) (hw : GW D [(cB, .byte), (cS, .short)] (wX h cB cS σ) A s H locs) (j : Nat) {z v : Int} (hz : z = (j : Int)) (hj : j < 60) (hv : σ 3 j = v) (hdg : decode cc pc = .ok (.baload, 1)) (kk : W p l e R s m args below meth c H locs cells slots Q (F0 m (pc + 1) ls (.int (iI v) :: rest))) : W p l e R s m args below meth c H locs cells slots Q (F0 m pc ls (.int (iI z) :: .ref (h 3) :: rest)) := by
  subst hz; subst hv
  refine va_bald hx hb hw.1 hw.2.1 3 0 rfl rfl (iI_in hj (by decide)) hdg ?_
  rw [iI_cl j (by omega)]
  exact kk
theorem sX_3 (hx : p.tables.exec = Jvm.exec) (hb : c.code = cc) (hw : GW D [(cB, .byte), (cS, .short)] (wX h cB cS σ) A s H locs) (j : Nat) {z v : Int} (hz : z = (j : Int)) (hj : j < 60) (hvb : -128 ≤ v ∧ v < 128) (hdg : decode cc pc = .ok (.bastore, 1)) (kk : ∀ (H1 : Heap) (locs1 : List Loc), GW D [(cB, .byte), (cS, .short)] (wX h cB cS (up2 σ 3 j v)) A s H1 locs1 → W p l e R s m args below meth c H1 locs1 cells slots Q (F0 m (pc + 1) ls rest)) : W p l e R s m args below meth c H locs cells slots Q (F0 m pc ls (.int (iI v) :: .int (iI z) :: .ref (h 3) :: rest)) := by
  subst hz
  refine va_bast hx hb hw.1 hw.2.1 hw.2.2.1 hw.2.2.2.1 3 0 rfl rfl (iI_in hj (by decide)) hdg (fun H1 locs1 hP hD hS => ?_)
  have e9 : upd (fun i => iI (σ 3 i)) (iI (j : Int)).toNatClampNeg (vp_nar .byte (iI v)) = fun i => iI (up2 σ 3 j v 3 i) := by
    rw [iI_cl j (by omega), iI_nb hvb]; funext i; by_cases q : i = j <;> simp [upd, up2, q]
  rw [e9] at hP hD
  exact kk H1 locs1 ⟨hw.1, hP, hD, hS, hw.2.2.2.2⟩
theorem gX_4 (S : CallFix p m c cc nL s args lw_all RX0) (hw : GW D [(cB, .byte), (cS, .short)] (wX h cB cS σ) A s H locs) (hdg : decode cc pc = .ok (.getfield 23, 3)) (kk : W p l e R s m args below meth c H locs cells slots Q (F0 m (pc + 3) ls (.ref (h 4) :: rest))) : W p l e R s m args below meth c H locs cells slots Q (F0 m pc ls (.ref (h 0) :: rest)) :=
  va_get (D := D) (ci := 0) (v := .ref (h 4)) (C := RX0) (T := TX0) (N := 22) S.1 S.2.1 S.2.2.2.2 in_X0 S.2.2.2.1 hw.1 hw.2.1 0 rfl rfl 4 (by decide) (S.2.2.2.2 _ q29) (fun _ h9 => h9) rfl hdg kk
theorem aX_4 (hx : p.tables.exec = Jvm.exec) (hb : c.code = cc) (hw : GW D [(cB, .byte), (cS, .short)] (wX h cB cS σ) A s H locs) (j : Nat) {z v : Int} (hz : z = (j : Int)) (hj : j < 60) (hv : σ 4 j = v) (hdg : decode cc pc = .ok (.saload, 1)) (kk : W p l e R s m args below meth c H locs cells slots Q (F0 m (pc + 1) ls (.int (iI v) :: rest))) : W p l e R s m args below meth c H locs cells slots Q (F0 m pc ls (.int (iI z) :: .ref (h 4) :: rest)) := by
  subst hz; subst hv
  refine va_sald hx hb hw.1 hw.2.1 4 1 rfl rfl (iI_in hj (by decide)) hdg ?_
  rw [iI_cl j (by omega)]
  exact kk
theorem sX_4 (hx : p.tables.exec = Jvm.exec) (hb : c.code = cc) (hw : GW D [(cB, .byte), (cS, .short)] (wX h cB cS σ) A s H locs) (j : Nat) {z v : Int} (hz : z = (j : Int)) (hj : j < 60) (hvb : -32768 ≤ v ∧ v < 32768) (hdg : decode cc pc = .ok (.sastore, 1)) (kk : ∀ (H1 : Heap) (locs1 : List Loc), GW D [(cB, .byte), (cS, .short)] (wX h cB cS (up2 σ 4 j v)) A s H1 locs1 → W p l e R s m args below meth c H1 locs1 cells slots Q (F0 m (pc + 1) ls rest)) : W p l e R s m args below meth c H locs cells slots Q (F0 m pc ls (.int (iI v) :: .int (iI z) :: .ref (h 4) :: rest)) := by
  subst hz
  refine va_sast hx hb hw.1 hw.2.1 hw.2.2.1 hw.2.2.2.1 4 1 rfl rfl (iI_in hj (by decide)) hdg (fun H1 locs1 hP hD hS => ?_)
  have e9 : upd (fun i => iI (σ 4 i)) (iI (j : Int)).toNatClampNeg (vp_nar .short (iI v)) = fun i => iI (up2 σ 4 j v 4 i) := by
    rw [iI_cl j (by omega), iI_ns hvb]; funext i; by_cases q : i = j <;> simp [upd, up2, q]
  rw [e9] at hP hD
  exact kk H1 locs1 ⟨hw.1, hP, hD, hS, hw.2.2.2.2⟩
theorem gX_5 (S : CallFix p m c cc nL s args lw_all RX0) (hw : GW D [(cB, .byte), (cS, .short)] (wX h cB cS σ) A s H locs) (hdg : decode cc pc = .ok (.getfield 27, 3)) (kk : W p l e R s m args below meth c H locs cells slots Q (F0 m (pc + 3) ls (.ref (h 5) :: rest))) : W p l e R s m args below meth c H locs cells slots Q (F0 m pc ls (.ref (h 0) :: rest)) :=
  va_get (D := D) (ci := 0) (v := .ref (h 5)) (C := RX0) (T := TX0) (N := 22) S.1 S.2.1 S.2.2.2.2 in_X0 S.2.2.2.1 hw.1 hw.2.1 0 rfl rfl 5 (by decide) (S.2.2.2.2 _ q30) (fun _ h9 => h9) rfl hdg kk
theorem aX_5 (hx : p.tables.exec = Jvm.exec) (hb : c.code = cc) (hw : GW D [(cB, .byte), (cS, .short)] (wX h cB cS σ) A s H locs) (j : Nat) {z v : Int} (hz : z = (j : Int)) (hj : j < 250) (hv : σ 5 j = v) (hdg : decode cc pc = .ok (.baload, 1)) (kk : W p l e R s m args below meth c H locs cells slots Q (F0 m (pc + 1) ls (.int (iI v) :: rest))) : W p l e R s m args below meth c H locs cells slots Q (F0 m pc ls (.int (iI z) :: .ref (h 5) :: rest)) := by
  subst hz; subst hv
  refine va_bald hx hb hw.1 hw.2.1 5 0 rfl rfl (iI_in hj (by decide)) hdg ?_
  rw [iI_cl j (by omega)]
  exact kk
theorem sX_5 (hx : p.tables.exec = Jvm.exec) (hb : c.code = cc) (hw : GW D [(cB, .byte), (cS, .short)] (wX h cB cS σ) A s H locs) (j : Nat) {z v : Int} (hz : z = (j : Int)) (hj : j < 250) (hvb : -128 ≤ v ∧ v < 128) (hdg : decode cc pc = .ok (.bastore, 1)) (kk : ∀ (H1 : Heap) (locs1 : List Loc), GW D [(cB, .byte), (cS, .short)] (wX h cB cS (up2 σ 5 j v)) A s H1 locs1 → W p l e R s m args below meth c H1 locs1 cells slots Q (F0 m (pc + 1) ls rest)) : W p l e R s m args below meth c H locs cells slots Q (F0 m pc ls (.int (iI v) :: .int (iI z) :: .ref (h 5) :: rest)) := by
  subst hz
  refine va_bast hx hb hw.1 hw.2.1 hw.2.2.1 hw.2.2.2.1 5 0 rfl rfl (iI_in hj (by decide)) hdg (fun H1 locs1 hP hD hS => ?_)
  have e9 : upd (fun i => iI (σ 5 i)) (iI (j : Int)).toNatClampNeg (vp_nar .byte (iI v)) = fun i => iI (up2 σ 5 j v 5 i) := by
    rw [iI_cl j (by omega), iI_nb hvb]; funext i; by_cases q : i = j <;> simp [upd, up2, q]
  rw [e9] at hP hD
  exact kk H1 locs1 ⟨hw.1, hP, hD, hS, hw.2.2.2.2⟩
theorem gX_6 (S : CallFix p m c cc nL s args lw_all RX0) (hw : GW D [(cB, .byte), (cS, .short)] (wX h cB cS σ) A s H locs) {v : Int} (hv : σ 6 0 = v) (hdg : decode cc pc = .ok (.getfield 52, 3)) (kk : W p l e R s m args below meth c H locs cells slots Q (F0 m (pc + 3) ls (.int (iI v) :: rest))) : W p l e R s m args below meth c H locs cells slots Q (F0 m pc ls (.ref (h 0) :: rest)) := by
  subst hv
  exact va_get (D := D) (ci := 0) (v := .int (iI (σ 6 0))) (C := RX0) (T := TX0) (N := 22) S.1 S.2.1 S.2.2.2.2 in_X0 S.2.2.2.1 hw.1 hw.2.1 0 rfl rfl 6 (by decide) (S.2.2.2.2 _ q31) (fun _ h9 => h9) rfl hdg kk
theorem pX_6 (S : CallFix p m c cc nL s args lw_all RX0) (hw : GW D [(cB, .byte), (cS, .short)] (wX h cB cS σ) A s H locs) {v : Int} (hdg : decode cc pc = .ok (.putfield 52, 3)) (kk : ∀ (H1 : Heap) (locs1 : List Loc), GW D [(cB, .byte), (cS, .short)] (wX h cB cS (up2 σ 6 0 v)) A s H1 locs1 → W p l e R s m args below meth c H1 locs1 cells slots Q (F0 m (pc + 3) ls rest)) : W p l e R s m args below meth c H locs cells slots Q (F0 m pc ls (.int (iI v) :: .ref (h 0) :: rest)) :=
  va_put (D := D) (ci := 0) (v := .int (iI v)) (ty := .int) (C := RX0) (T := TX0) (N := 22) S.1 S.2.1 S.2.2.2.2 in_X0 tyX0 tyX0_ok nmX0 S.2.2.2.1 hw.1 hw.2.1 hw.2.2.1 hw.2.2.2.1 0 rfl rfl 6 (by decide) (S.2.2.2.2 _ q31) (fun _ h9 => h9) rfl (by decide +kernel) rfl rfl (Nat.le_of_ble_eq_true rfl) hdg (fun H1 locs1 hP hD hS => kk H1 locs1 ⟨hw.1, hP, hD, hS, hw.2.2.2.2⟩)
theorem gX_7 (S : CallFix p m c cc nL s args lw_all RX0) (hw : GW D [(cB, .byte), (cS, .short)] (wX h cB cS σ) A s H locs) {v : Int} (hv : σ 7 0 = v) (hdg : decode cc pc = .ok (.getfield 59, 3)) (kk : W p l e R s m args below meth c H locs cells slots Q (F0 m (pc + 3) ls (.int (iI v) :: rest))) : W p l e R s m args below meth c H locs cells slots Q (F0 m pc ls (.ref (h 0) :: rest)) := by
  subst hv
  exact va_get (D := D) (ci := 0) (v := .int (iI (σ 7 0))) (C := RX0) (T := TX0) (N := 22) S.1 S.2.1 S.2.2.2.2 in_X0 S.2.2.2.1 hw.1 hw.2.1 0 rfl rfl 7 (by decide) (S.2.2.2.2 _ q32) (fun _ h9 => h9) rfl hdg kk
theorem pX_7 (S : CallFix p m c cc nL s args lw_all RX0) (hw : GW D [(cB, .byte), (cS, .short)] (wX h cB cS σ) A s H locs) {v : Int} (hdg : decode cc pc = .ok (.putfield 59, 3)) (kk : ∀ (H1 : Heap) (locs1 : List Loc), GW D [(cB, .byte), (cS, .short)] (wX h cB cS (up2 σ 7 0 v)) A s H1 locs1 → W p l e R s m args below meth c H1 locs1 cells slots Q (F0 m (pc + 3) ls rest)) : W p l e R s m args below meth c H locs cells slots Q (F0 m pc ls (.int (iI v) :: .ref (h 0) :: rest)) :=
  va_put (D := D) (ci := 0) (v := .int (iI v)) (ty := .int) (C := RX0) (T := TX0) (N := 22) S.1 S.2.1 S.2.2.2.2 in_X0 tyX0 tyX0_ok nmX0 S.2.2.2.1 hw.1 hw.2.1 hw.2.2.1 hw.2.2.2.1 0 rfl rfl 7 (by decide) (S.2.2.2.2 _ q32) (fun _ h9 => h9) rfl (by decide +kernel) rfl rfl (Nat.le_of_ble_eq_true rfl) hdg (fun H1 locs1 hP hD hS => kk H1 locs1 ⟨hw.1, hP, hD, hS, hw.2.2.2.2⟩)
theorem gX_8 (S : CallFix p m c cc nL s args lw_all RX0) (hw : GW D [(cB, .byte), (cS, .short)] (wX h cB cS σ) A s H locs) (hdg : decode cc pc = .ok (.getfield 30, 3)) (kk : W p l e R s m args below meth c H locs cells slots Q (F0 m (pc + 3) ls (.ref (h 8) :: rest))) : W p l e R s m args below meth c H locs cells slots Q (F0 m pc ls (.ref (h 0) :: rest)) :=
  va_get (D := D) (ci := 0) (v := .ref (h 8)) (C := RX0) (T := TX0) (N := 22) S.1 S.2.1 S.2.2.2.2 in_X0 S.2.2.2.1 hw.1 hw.2.1 0 rfl rfl 8 (by decide) (S.2.2.2.2 _ q33) (fun _ h9 => h9) rfl hdg kk
theorem aX_8 (hx : p.tables.exec = Jvm.exec) (hb : c.code = cc) (hw : GW D [(cB, .byte), (cS, .short)] (wX h cB cS σ) A s H locs) (j : Nat) {z v : Int} (hz : z = (j : Int)) (hj : j < 6) (hv : σ 8 j = v) (hdg : decode cc pc = .ok (.baload, 1)) (kk : W p l e R s m args below meth c H locs cells slots Q (F0 m (pc + 1) ls (.int (iI v) :: rest))) : W p l e R s m args below meth c H locs cells slots Q (F0 m pc ls (.int (iI z) :: .ref (h 8) :: rest)) := by
  subst hz; subst hv
  refine va_bald hx hb hw.1 hw.2.1 6 0 rfl rfl (iI_in hj (by decide)) hdg ?_
  rw [iI_cl j (by omega)]
  exact kk
theorem sX_8 (hx : p.tables.exec = Jvm.exec) (hb : c.code = cc) (hw : GW D [(cB, .byte), (cS, .short)] (wX h cB cS σ) A s H locs) (j : Nat) {z v : Int} (hz : z = (j : Int)) (hj : j < 6) (hvb : -128 ≤ v ∧ v < 128) (hdg : decode cc pc = .ok (.bastore, 1)) (kk : ∀ (H1 : Heap) (locs1 : List Loc), GW D [(cB, .byte), (cS, .short)] (wX h cB cS (up2 σ 8 j v)) A s H1 locs1 → W p l e R s m args below meth c H1 locs1 cells slots Q (F0 m (pc + 1) ls rest)) : W p l e R s m args below meth c H locs cells slots Q (F0 m pc ls (.int (iI v) :: .int (iI z) :: .ref (h 8) :: rest)) := by
  subst hz
  refine va_bast hx hb hw.1 hw.2.1 hw.2.2.1 hw.2.2.2.1 6 0 rfl rfl (iI_in hj (by decide)) hdg (fun H1 locs1 hP hD hS => ?_)
  have e9 : upd (fun i => iI (σ 8 i)) (iI (j : Int)).toNatClampNeg (vp_nar .byte (iI v)) = fun i => iI (up2 σ 8 j v 8 i) := by
    rw [iI_cl j (by omega), iI_nb hvb]; funext i; by_cases q : i = j <;> simp [upd, up2, q]
  rw [e9] at hP hD
  exact kk H1 locs1 ⟨hw.1, hP, hD, hS, hw.2.2.2.2⟩
theorem gX_9 (S : CallFix p m c cc nL s args lw_all RX0) (hw : GW D [(cB, .byte), (cS, .short)] (wX h cB cS σ) A s H locs) {v : Int} (hv : σ 9 0 = v) (hdg : decode cc pc = .ok (.getfield 69, 3)) (kk : W p l e R s m args below meth c H locs cells slots Q (F0 m (pc + 3) ls (.int (iI v) :: rest))) : W p l e R s m args below meth c H locs cells slots Q (F0 m pc ls (.ref (h 0) :: rest)) := by
  subst hv
  exact va_get (D := D) (ci := 0) (v := .int (iI (σ 9 0))) (C := RX0) (T := TX0) (N := 22) S.1 S.2.1 S.2.2.2.2 in_X0 S.2.2.2.1 hw.1 hw.2.1 0 rfl rfl 9 (by decide) (S.2.2.2.2 _ q34) (fun _ h9 => h9) rfl hdg kk
theorem pX_9 (S : CallFix p m c cc nL s args lw_all RX0) (hw : GW D [(cB, .byte), (cS, .short)] (wX h cB cS σ) A s H locs) {v : Int} (hdg : decode cc pc = .ok (.putfield 69, 3)) (kk : ∀ (H1 : Heap) (locs1 : List Loc), GW D [(cB, .byte), (cS, .short)] (wX h cB cS (up2 σ 9 0 v)) A s H1 locs1 → W p l e R s m args below meth c H1 locs1 cells slots Q (F0 m (pc + 3) ls rest)) : W p l e R s m args below meth c H locs cells slots Q (F0 m pc ls (.int (iI v) :: .ref (h 0) :: rest)) :=
  va_put (D := D) (ci := 0) (v := .int (iI v)) (ty := .int) (C := RX0) (T := TX0) (N := 22) S.1 S.2.1 S.2.2.2.2 in_X0 tyX0 tyX0_ok nmX0 S.2.2.2.1 hw.1 hw.2.1 hw.2.2.1 hw.2.2.2.1 0 rfl rfl 9 (by decide) (S.2.2.2.2 _ q34) (fun _ h9 => h9) rfl (by decide +kernel) rfl rfl (Nat.le_of_ble_eq_true rfl) hdg (fun H1 locs1 hP hD hS => kk H1 locs1 ⟨hw.1, hP, hD, hS, hw.2.2.2.2⟩)
theorem gX_10 (S : CallFix p m c cc nL s args lw_all RX0) (hw : GW D [(cB, .byte), (cS, .short)] (wX h cB cS σ) A s H locs) (hdg : decode cc pc = .ok (.getfield 33, 3)) (kk : W p l e R s m args below meth c H locs cells slots Q (F0 m (pc + 3) ls (.ref (h 10) :: rest))) : W p l e R s m args below meth c H locs cells slots Q (F0 m pc ls (.ref (h 0) :: rest)) :=
  va_get (D := D) (ci := 0) (v := .ref (h 10)) (C := RX0) (T := TX0) (N := 22) S.1 S.2.1 S.2.2.2.2 in_X0 S.2.2.2.1 hw.1 hw.2.1 0 rfl rfl 10 (by decide) (S.2.2.2.2 _ q35) (fun _ h9 => h9) rfl hdg kk
theorem aX_10 (hx : p.tables.exec = Jvm.exec) (hb : c.code = cc) (hw : GW D [(cB, .byte), (cS, .short)] (wX h cB cS σ) A s H locs) (j : Nat) {z v : Int} (hz : z = (j : Int)) (hj : j < 28) (hv : σ 10 j = v) (hdg : decode cc pc = .ok (.baload, 1)) (kk : W p l e R s m args below meth c H locs cells slots Q (F0 m (pc + 1) ls (.int (iI v) :: rest))) : W p l e R s m args below meth c H locs cells slots Q (F0 m pc ls (.int (iI z) :: .ref (h 10) :: rest)) := by
  subst hz; subst hv
  refine va_bald hx hb hw.1 hw.2.1 7 0 rfl rfl (iI_in hj (by decide)) hdg ?_
  rw [iI_cl j (by omega)]
  exact kk
theorem sX_10 (hx : p.tables.exec = Jvm.exec) (hb : c.code = cc) (hw : GW D [(cB, .byte), (cS, .short)] (wX h cB cS σ) A s H locs) (j : Nat) {z v : Int} (hz : z = (j : Int)) (hj : j < 28) (hvb : -128 ≤ v ∧ v < 128) (hdg : decode cc pc = .ok (.bastore, 1)) (kk : ∀ (H1 : Heap) (locs1 : List Loc), GW D [(cB, .byte), (cS, .short)] (wX h cB cS (up2 σ 10 j v)) A s H1 locs1 → W p l e R s m args below meth c H1 locs1 cells slots Q (F0 m (pc + 1) ls rest)) : W p l e R s m args below meth c H locs cells slots Q (F0 m pc ls (.int (iI v) :: .int (iI z) :: .ref (h 10) :: rest)) := by
  subst hz
  refine va_bast hx hb hw.1 hw.2.1 hw.2.2.1 hw.2.2.2.1 7 0 rfl rfl (iI_in hj (by decide)) hdg (fun H1 locs1 hP hD hS => ?_)
  have e9 : upd (fun i => iI (σ 10 i)) (iI (j : Int)).toNatClampNeg (vp_nar .byte (iI v)) = fun i => iI (up2 σ 10 j v 10 i) := by
    rw [iI_cl j (by omega), iI_nb hvb]; funext i; by_cases q : i = j <;> simp [upd, up2, q]
  rw [e9] at hP hD
  exact kk H1 locs1 ⟨hw.1, hP, hD, hS, hw.2.2.2.2⟩
theorem gX_11 (S : CallFix p m c cc nL s args lw_all RX0) (hw : GW D [(cB, .byte), (cS, .short)] (wX h cB cS σ) A s H locs) (hdg : decode cc pc = .ok (.getfield 36, 3)) (kk : W p l e R s m args below meth c H locs cells slots Q (F0 m (pc + 3) ls (.ref (h 11) :: rest))) : W p l e R s m args below meth c H locs cells slots Q (F0 m pc ls (.ref (h 0) :: rest)) :=
  va_get (D := D) (ci := 0) (v := .ref (h 11)) (C := RX0) (T := TX0) (N := 22) S.1 S.2.1 S.2.2.2.2 in_X0 S.2.2.2.1 hw.1 hw.2.1 0 rfl rfl 11 (by decide) (S.2.2.2.2 _ q36) (fun _ h9 => h9) rfl hdg kk
theorem aX_11 (hx : p.tables.exec = Jvm.exec) (hb : c.code = cc) (hw : GW D [(cB, .byte), (cS, .short)] (wX h cB cS σ) A s H locs) (j : Nat) {z v : Int} (hz : z = (j : Int)) (hj : j < 420) (hv : σ 11 j = v) (hdg : decode cc pc = .ok (.baload, 1)) (kk : W p l e R s m args below meth c H locs cells slots Q (F0 m (pc + 1) ls (.int (iI v) :: rest))) : W p l e R s m args below meth c H locs cells slots Q (F0 m pc ls (.int (iI z) :: .ref (h 11) :: rest)) := by
  subst hz; subst hv
  refine va_bald hx hb hw.1 hw.2.1 8 0 rfl rfl (iI_in hj (by decide)) hdg ?_
  rw [iI_cl j (by omega)]
  exact kk
theorem sX_11 (hx : p.tables.exec = Jvm.exec) (hb : c.code = cc) (hw : GW D [(cB, .byte), (cS, .short)] (wX h cB cS σ) A s H locs) (j : Nat) {z v : Int} (hz : z = (j : Int)) (hj : j < 420) (hvb : -128 ≤ v ∧ v < 128) (hdg : decode cc pc = .ok (.bastore, 1)) (kk : ∀ (H1 : Heap) (locs1 : List Loc), GW D [(cB, .byte), (cS, .short)] (wX h cB cS (up2 σ 11 j v)) A s H1 locs1 → W p l e R s m args below meth c H1 locs1 cells slots Q (F0 m (pc + 1) ls rest)) : W p l e R s m args below meth c H locs cells slots Q (F0 m pc ls (.int (iI v) :: .int (iI z) :: .ref (h 11) :: rest)) := by
  subst hz
  refine va_bast hx hb hw.1 hw.2.1 hw.2.2.1 hw.2.2.2.1 8 0 rfl rfl (iI_in hj (by decide)) hdg (fun H1 locs1 hP hD hS => ?_)
  have e9 : upd (fun i => iI (σ 11 i)) (iI (j : Int)).toNatClampNeg (vp_nar .byte (iI v)) = fun i => iI (up2 σ 11 j v 11 i) := by
    rw [iI_cl j (by omega), iI_nb hvb]; funext i; by_cases q : i = j <;> simp [upd, up2, q]
  rw [e9] at hP hD
  exact kk H1 locs1 ⟨hw.1, hP, hD, hS, hw.2.2.2.2⟩
theorem gX_12 (S : CallFix p m c cc nL s args lw_all RX0) (hw : GW D [(cB, .byte), (cS, .short)] (wX h cB cS σ) A s H locs) (hdg : decode cc pc = .ok (.getfield 39, 3)) (kk : W p l e R s m args below meth c H locs cells slots Q (F0 m (pc + 3) ls (.ref (h 12) :: rest))) : W p l e R s m args below meth c H locs cells slots Q (F0 m pc ls (.ref (h 0) :: rest)) :=
  va_get (D := D) (ci := 0) (v := .ref (h 12)) (C := RX0) (T := TX0) (N := 22) S.1 S.2.1 S.2.2.2.2 in_X0 S.2.2.2.1 hw.1 hw.2.1 0 rfl rfl 12 (by decide) (S.2.2.2.2 _ q37) (fun _ h9 => h9) rfl hdg kk
theorem aX_12 (hx : p.tables.exec = Jvm.exec) (hb : c.code = cc) (hw : GW D [(cB, .byte), (cS, .short)] (wX h cB cS σ) A s H locs) (j : Nat) {z v : Int} (hz : z = (j : Int)) (hj : j < 420) (hv : σ 12 j = v) (hdg : decode cc pc = .ok (.saload, 1)) (kk : W p l e R s m args below meth c H locs cells slots Q (F0 m (pc + 1) ls (.int (iI v) :: rest))) : W p l e R s m args below meth c H locs cells slots Q (F0 m pc ls (.int (iI z) :: .ref (h 12) :: rest)) := by
  subst hz; subst hv
  refine va_sald hx hb hw.1 hw.2.1 9 1 rfl rfl (iI_in hj (by decide)) hdg ?_
  rw [iI_cl j (by omega)]
  exact kk
theorem sX_12 (hx : p.tables.exec = Jvm.exec) (hb : c.code = cc) (hw : GW D [(cB, .byte), (cS, .short)] (wX h cB cS σ) A s H locs) (j : Nat) {z v : Int} (hz : z = (j : Int)) (hj : j < 420) (hvb : -32768 ≤ v ∧ v < 32768) (hdg : decode cc pc = .ok (.sastore, 1)) (kk : ∀ (H1 : Heap) (locs1 : List Loc), GW D [(cB, .byte), (cS, .short)] (wX h cB cS (up2 σ 12 j v)) A s H1 locs1 → W p l e R s m args below meth c H1 locs1 cells slots Q (F0 m (pc + 1) ls rest)) : W p l e R s m args below meth c H locs cells slots Q (F0 m pc ls (.int (iI v) :: .int (iI z) :: .ref (h 12) :: rest)) := by
  subst hz
  refine va_sast hx hb hw.1 hw.2.1 hw.2.2.1 hw.2.2.2.1 9 1 rfl rfl (iI_in hj (by decide)) hdg (fun H1 locs1 hP hD hS => ?_)
  have e9 : upd (fun i => iI (σ 12 i)) (iI (j : Int)).toNatClampNeg (vp_nar .short (iI v)) = fun i => iI (up2 σ 12 j v 12 i) := by
    rw [iI_cl j (by omega), iI_ns hvb]; funext i; by_cases q : i = j <;> simp [upd, up2, q]
  rw [e9] at hP hD
  exact kk H1 locs1 ⟨hw.1, hP, hD, hS, hw.2.2.2.2⟩
theorem gX_13 (S : CallFix p m c cc nL s args lw_all RX0) (hw : GW D [(cB, .byte), (cS, .short)] (wX h cB cS σ) A s H locs) (hdg : decode cc pc = .ok (.getfield 42, 3)) (kk : W p l e R s m args below meth c H locs cells slots Q (F0 m (pc + 3) ls (.ref (h 13) :: rest))) : W p l e R s m args below meth c H locs cells slots Q (F0 m pc ls (.ref (h 0) :: rest)) :=
  va_get (D := D) (ci := 0) (v := .ref (h 13)) (C := RX0) (T := TX0) (N := 22) S.1 S.2.1 S.2.2.2.2 in_X0 S.2.2.2.1 hw.1 hw.2.1 0 rfl rfl 13 (by decide) (S.2.2.2.2 _ q38) (fun _ h9 => h9) rfl hdg kk
theorem aX_13 (hx : p.tables.exec = Jvm.exec) (hb : c.code = cc) (hw : GW D [(cB, .byte), (cS, .short)] (wX h cB cS σ) A s H locs) (j : Nat) {z v : Int} (hz : z = (j : Int)) (hj : j < 420) (hv : σ 13 j = v) (hdg : decode cc pc = .ok (.saload, 1)) (kk : W p l e R s m args below meth c H locs cells slots Q (F0 m (pc + 1) ls (.int (iI v) :: rest))) : W p l e R s m args below meth c H locs cells slots Q (F0 m pc ls (.int (iI z) :: .ref (h 13) :: rest)) := by
  subst hz; subst hv
  refine va_sald hx hb hw.1 hw.2.1 10 1 rfl rfl (iI_in hj (by decide)) hdg ?_
  rw [iI_cl j (by omega)]
  exact kk
theorem sX_13 (hx : p.tables.exec = Jvm.exec) (hb : c.code = cc) (hw : GW D [(cB, .byte), (cS, .short)] (wX h cB cS σ) A s H locs) (j : Nat) {z v : Int} (hz : z = (j : Int)) (hj : j < 420) (hvb : -32768 ≤ v ∧ v < 32768) (hdg : decode cc pc = .ok (.sastore, 1)) (kk : ∀ (H1 : Heap) (locs1 : List Loc), GW D [(cB, .byte), (cS, .short)] (wX h cB cS (up2 σ 13 j v)) A s H1 locs1 → W p l e R s m args below meth c H1 locs1 cells slots Q (F0 m (pc + 1) ls rest)) : W p l e R s m args below meth c H locs cells slots Q (F0 m pc ls (.int (iI v) :: .int (iI z) :: .ref (h 13) :: rest)) := by
  subst hz
  refine va_sast hx hb hw.1 hw.2.1 hw.2.2.1 hw.2.2.2.1 10 1 rfl rfl (iI_in hj (by decide)) hdg (fun H1 locs1 hP hD hS => ?_)
  have e9 : upd (fun i => iI (σ 13 i)) (iI (j : Int)).toNatClampNeg (vp_nar .short (iI v)) = fun i => iI (up2 σ 13 j v 13 i) := by
    rw [iI_cl j (by omega), iI_ns hvb]; funext i; by_cases q : i = j <;> simp [upd, up2, q]
  rw [e9] at hP hD
  exact kk H1 locs1 ⟨hw.1, hP, hD, hS, hw.2.2.2.2⟩
theorem gX_14 (S : CallFix p m c cc nL s args lw_all RX0) (hw : GW D [(cB, .byte), (cS, .short)] (wX h cB cS σ) A s H locs) (hdg : decode cc pc = .ok (.getfield 45, 3)) (kk : W p l e R s m args below meth c H locs cells slots Q (F0 m (pc + 3) ls (.ref (h 14) :: rest))) : W p l e R s m args below meth c H locs cells slots Q (F0 m pc ls (.ref (h 0) :: rest)) :=
  va_get (D := D) (ci := 0) (v := .ref (h 14)) (C := RX0) (T := TX0) (N := 22) S.1 S.2.1 S.2.2.2.2 in_X0 S.2.2.2.1 hw.1 hw.2.1 0 rfl rfl 14 (by decide) (S.2.2.2.2 _ q39) (fun _ h9 => h9) rfl hdg kk
theorem aX_14 (hx : p.tables.exec = Jvm.exec) (hb : c.code = cc) (hw : GW D [(cB, .byte), (cS, .short)] (wX h cB cS σ) A s H locs) (j : Nat) {z v : Int} (hz : z = (j : Int)) (hj : j < 420) (hv : σ 14 j = v) (hdg : decode cc pc = .ok (.saload, 1)) (kk : W p l e R s m args below meth c H locs cells slots Q (F0 m (pc + 1) ls (.int (iI v) :: rest))) : W p l e R s m args below meth c H locs cells slots Q (F0 m pc ls (.int (iI z) :: .ref (h 14) :: rest)) := by
  subst hz; subst hv
  refine va_sald hx hb hw.1 hw.2.1 11 1 rfl rfl (iI_in hj (by decide)) hdg ?_
  rw [iI_cl j (by omega)]
  exact kk
theorem sX_14 (hx : p.tables.exec = Jvm.exec) (hb : c.code = cc) (hw : GW D [(cB, .byte), (cS, .short)] (wX h cB cS σ) A s H locs) (j : Nat) {z v : Int} (hz : z = (j : Int)) (hj : j < 420) (hvb : -32768 ≤ v ∧ v < 32768) (hdg : decode cc pc = .ok (.sastore, 1)) (kk : ∀ (H1 : Heap) (locs1 : List Loc), GW D [(cB, .byte), (cS, .short)] (wX h cB cS (up2 σ 14 j v)) A s H1 locs1 → W p l e R s m args below meth c H1 locs1 cells slots Q (F0 m (pc + 1) ls rest)) : W p l e R s m args below meth c H locs cells slots Q (F0 m pc ls (.int (iI v) :: .int (iI z) :: .ref (h 14) :: rest)) := by
  subst hz
  refine va_sast hx hb hw.1 hw.2.1 hw.2.2.1 hw.2.2.2.1 11 1 rfl rfl (iI_in hj (by decide)) hdg (fun H1 locs1 hP hD hS => ?_)
  have e9 : upd (fun i => iI (σ 14 i)) (iI (j : Int)).toNatClampNeg (vp_nar .short (iI v)) = fun i => iI (up2 σ 14 j v 14 i) := by
    rw [iI_cl j (by omega), iI_ns hvb]; funext i; by_cases q : i = j <;> simp [upd, up2, q]
  rw [e9] at hP hD
  exact kk H1 locs1 ⟨hw.1, hP, hD, hS, hw.2.2.2.2⟩
theorem gX_15 (S : CallFix p m c cc nL s args lw_all RX0) (hw : GW D [(cB, .byte), (cS, .short)] (wX h cB cS σ) A s H locs) {v : Int} (hv : σ 15 0 = v) (hdg : decode cc pc = .ok (.getfield 66, 3)) (kk : W p l e R s m args below meth c H locs cells slots Q (F0 m (pc + 3) ls (.int (iI v) :: rest))) : W p l e R s m args below meth c H locs cells slots Q (F0 m pc ls (.ref (h 0) :: rest)) := by
  subst hv
  exact va_get (D := D) (ci := 0) (v := .int (iI (σ 15 0))) (C := RX0) (T := TX0) (N := 22) S.1 S.2.1 S.2.2.2.2 in_X0 S.2.2.2.1 hw.1 hw.2.1 0 rfl rfl 15 (by decide) (S.2.2.2.2 _ q40) (fun _ h9 => h9) rfl hdg kk
theorem pX_15 (S : CallFix p m c cc nL s args lw_all RX0) (hw : GW D [(cB, .byte), (cS, .short)] (wX h cB cS σ) A s H locs) {v : Int} (hdg : decode cc pc = .ok (.putfield 66, 3)) (kk : ∀ (H1 : Heap) (locs1 : List Loc), GW D [(cB, .byte), (cS, .short)] (wX h cB cS (up2 σ 15 0 v)) A s H1 locs1 → W p l e R s m args below meth c H1 locs1 cells slots Q (F0 m (pc + 3) ls rest)) : W p l e R s m args below meth c H locs cells slots Q (F0 m pc ls (.int (iI v) :: .ref (h 0) :: rest)) :=
  va_put (D := D) (ci := 0) (v := .int (iI v)) (ty := .int) (C := RX0) (T := TX0) (N := 22) S.1 S.2.1 S.2.2.2.2 in_X0 tyX0 tyX0_ok nmX0 S.2.2.2.1 hw.1 hw.2.1 hw.2.2.1 hw.2.2.2.1 0 rfl rfl 15 (by decide) (S.2.2.2.2 _ q40) (fun _ h9 => h9) rfl (by decide +kernel) rfl rfl (Nat.le_of_ble_eq_true rfl) hdg (fun H1 locs1 hP hD hS => kk H1 locs1 ⟨hw.1, hP, hD, hS, hw.2.2.2.2⟩)
theorem gX_16 (S : CallFix p m c cc nL s args lw_all RX0) (hw : GW D [(cB, .byte), (cS, .short)] (wX h cB cS σ) A s H locs) {v : Int} (hv : σ 16 0 = v) (hdg : decode cc pc = .ok (.getfield 62, 3)) (kk : W p l e R s m args below meth c H locs cells slots Q (F0 m (pc + 3) ls (.int (iI v) :: rest))) : W p l e R s m args below meth c H locs cells slots Q (F0 m pc ls (.ref (h 0) :: rest)) := by
  subst hv
  exact va_get (D := D) (ci := 0) (v := .int (iI (σ 16 0))) (C := RX0) (T := TX0) (N := 22) S.1 S.2.1 S.2.2.2.2 in_X0 S.2.2.2.1 hw.1 hw.2.1 0 rfl rfl 16 (by decide) (S.2.2.2.2 _ q41) (fun _ h9 => h9) rfl hdg kk
theorem pX_16 (S : CallFix p m c cc nL s args lw_all RX0) (hw : GW D [(cB, .byte), (cS, .short)] (wX h cB cS σ) A s H locs) {v : Int} (hz : narrow .boolean (.int (iI v)) = .int (iI v)) (hf : fits .boolean (.int (iI v)) = true) (hdg : decode cc pc = .ok (.putfield 62, 3)) (kk : ∀ (H1 : Heap) (locs1 : List Loc), GW D [(cB, .byte), (cS, .short)] (wX h cB cS (up2 σ 16 0 v)) A s H1 locs1 → W p l e R s m args below meth c H1 locs1 cells slots Q (F0 m (pc + 3) ls rest)) : W p l e R s m args below meth c H locs cells slots Q (F0 m pc ls (.int (iI v) :: .ref (h 0) :: rest)) :=
  va_put (D := D) (ci := 0) (v := .int (iI v)) (ty := .boolean) (C := RX0) (T := TX0) (N := 22) S.1 S.2.1 S.2.2.2.2 in_X0 tyX0 tyX0_ok nmX0 S.2.2.2.1 hw.1 hw.2.1 hw.2.2.1 hw.2.2.2.1 0 rfl rfl 16 (by decide) (S.2.2.2.2 _ q41) (fun _ h9 => h9) rfl (by decide +kernel) hz hf (Nat.le_of_ble_eq_true rfl) hdg (fun H1 locs1 hP hD hS => kk H1 locs1 ⟨hw.1, hP, hD, hS, hw.2.2.2.2⟩)
theorem gX_17 (S : CallFix p m c cc nL s args lw_all RX0) (hw : GW D [(cB, .byte), (cS, .short)] (wX h cB cS σ) A s H locs) {v : Int} (hv : σ 17 0 = v) (hdg : decode cc pc = .ok (.getfield 81, 3)) (kk : W p l e R s m args below meth c H locs cells slots Q (F0 m (pc + 3) ls (.int (iI v) :: rest))) : W p l e R s m args below meth c H locs cells slots Q (F0 m pc ls (.ref (h 0) :: rest)) := by
  subst hv
  exact va_get (D := D) (ci := 0) (v := .int (iI (σ 17 0))) (C := RX0) (T := TX0) (N := 22) S.1 S.2.1 S.2.2.2.2 in_X0 S.2.2.2.1 hw.1 hw.2.1 0 rfl rfl 17 (by decide) (S.2.2.2.2 _ q42) (fun _ h9 => h9) rfl hdg kk
theorem pX_17 (S : CallFix p m c cc nL s args lw_all RX0) (hw : GW D [(cB, .byte), (cS, .short)] (wX h cB cS σ) A s H locs) {v : Int} (hdg : decode cc pc = .ok (.putfield 81, 3)) (kk : ∀ (H1 : Heap) (locs1 : List Loc), GW D [(cB, .byte), (cS, .short)] (wX h cB cS (up2 σ 17 0 v)) A s H1 locs1 → W p l e R s m args below meth c H1 locs1 cells slots Q (F0 m (pc + 3) ls rest)) : W p l e R s m args below meth c H locs cells slots Q (F0 m pc ls (.int (iI v) :: .ref (h 0) :: rest)) :=
  va_put (D := D) (ci := 0) (v := .int (iI v)) (ty := .int) (C := RX0) (T := TX0) (N := 22) S.1 S.2.1 S.2.2.2.2 in_X0 tyX0 tyX0_ok nmX0 S.2.2.2.1 hw.1 hw.2.1 hw.2.2.1 hw.2.2.2.1 0 rfl rfl 17 (by decide) (S.2.2.2.2 _ q42) (fun _ h9 => h9) rfl (by decide +kernel) rfl rfl (Nat.le_of_ble_eq_true rfl) hdg (fun H1 locs1 hP hD hS => kk H1 locs1 ⟨hw.1, hP, hD, hS, hw.2.2.2.2⟩)
theorem gX_18 (S : CallFix p m c cc nL s args lw_all RX0) (hw : GW D [(cB, .byte), (cS, .short)] (wX h cB cS σ) A s H locs) {v : Int} (hv : σ 18 0 = v) (hdg : decode cc pc = .ok (.getfield 84, 3)) (kk : W p l e R s m args below meth c H locs cells slots Q (F0 m (pc + 3) ls (.int (iI v) :: rest))) : W p l e R s m args below meth c H locs cells slots Q (F0 m pc ls (.ref (h 0) :: rest)) := by
  subst hv
  exact va_get (D := D) (ci := 0) (v := .int (iI (σ 18 0))) (C := RX0) (T := TX0) (N := 22) S.1 S.2.1 S.2.2.2.2 in_X0 S.2.2.2.1 hw.1 hw.2.1 0 rfl rfl 18 (by decide) (S.2.2.2.2 _ q43) (fun _ h9 => h9) rfl hdg kk
theorem pX_18 (S : CallFix p m c cc nL s args lw_all RX0) (hw : GW D [(cB, .byte), (cS, .short)] (wX h cB cS σ) A s H locs) {v : Int} (hdg : decode cc pc = .ok (.putfield 84, 3)) (kk : ∀ (H1 : Heap) (locs1 : List Loc), GW D [(cB, .byte), (cS, .short)] (wX h cB cS (up2 σ 18 0 v)) A s H1 locs1 → W p l e R s m args below meth c H1 locs1 cells slots Q (F0 m (pc + 3) ls rest)) : W p l e R s m args below meth c H locs cells slots Q (F0 m pc ls (.int (iI v) :: .ref (h 0) :: rest)) :=
  va_put (D := D) (ci := 0) (v := .int (iI v)) (ty := .int) (C := RX0) (T := TX0) (N := 22) S.1 S.2.1 S.2.2.2.2 in_X0 tyX0 tyX0_ok nmX0 S.2.2.2.1 hw.1 hw.2.1 hw.2.2.1 hw.2.2.2.1 0 rfl rfl 18 (by decide) (S.2.2.2.2 _ q43) (fun _ h9 => h9) rfl (by decide +kernel) rfl rfl (Nat.le_of_ble_eq_true rfl) hdg (fun H1 locs1 hP hD hS => kk H1 locs1 ⟨hw.1, hP, hD, hS, hw.2.2.2.2⟩)
theorem gX_19 (S : CallFix p m c cc nL s args lw_all RX0) (hw : GW D [(cB, .byte), (cS, .short)] (wX h cB cS σ) A s H locs) {v : Int} (hv : σ 19 0 = v) (hdg : decode cc pc = .ok (.getfield 87, 3)) (kk : W p l e R s m args below meth c H locs cells slots Q (F0 m (pc + 3) ls (.int (iI v) :: rest))) : W p l e R s m args below meth c H locs cells slots Q (F0 m pc ls (.ref (h 0) :: rest)) := by
  subst hv
  exact va_get (D := D) (ci := 0) (v := .int (iI (σ 19 0))) (C := RX0) (T := TX0) (N := 22) S.1 S.2.1 S.2.2.2.2 in_X0 S.2.2.2.1 hw.1 hw.2.1 0 rfl rfl 19 (by decide) (S.2.2.2.2 _ q44) (fun _ h9 => h9) rfl hdg kk
theorem pX_19 (S : CallFix p m c cc nL s args lw_all RX0) (hw : GW D [(cB, .byte), (cS, .short)] (wX h cB cS σ) A s H locs) {v : Int} (hdg : decode cc pc = .ok (.putfield 87, 3)) (kk : ∀ (H1 : Heap) (locs1 : List Loc), GW D [(cB, .byte), (cS, .short)] (wX h cB cS (up2 σ 19 0 v)) A s H1 locs1 → W p l e R s m args below meth c H1 locs1 cells slots Q (F0 m (pc + 3) ls rest)) : W p l e R s m args below meth c H locs cells slots Q (F0 m pc ls (.int (iI v) :: .ref (h 0) :: rest)) :=
  va_put (D := D) (ci := 0) (v := .int (iI v)) (ty := .int) (C := RX0) (T := TX0) (N := 22) S.1 S.2.1 S.2.2.2.2 in_X0 tyX0 tyX0_ok nmX0 S.2.2.2.1 hw.1 hw.2.1 hw.2.2.1 hw.2.2.2.1 0 rfl rfl 19 (by decide) (S.2.2.2.2 _ q44) (fun _ h9 => h9) rfl (by decide +kernel) rfl rfl (Nat.le_of_ble_eq_true rfl) hdg (fun H1 locs1 hP hD hS => kk H1 locs1 ⟨hw.1, hP, hD, hS, hw.2.2.2.2⟩)
theorem gX_20 (S : CallFix p m c cc nL s args lw_all RX0) (hw : GW D [(cB, .byte), (cS, .short)] (wX h cB cS σ) A s H locs) {v : Int} (hv : σ 20 0 = v) (hdg : decode cc pc = .ok (.getfield 90, 3)) (kk : W p l e R s m args below meth c H locs cells slots Q (F0 m (pc + 3) ls (.int (iI v) :: rest))) : W p l e R s m args below meth c H locs cells slots Q (F0 m pc ls (.ref (h 0) :: rest)) := by
  subst hv
  exact va_get (D := D) (ci := 0) (v := .int (iI (σ 20 0))) (C := RX0) (T := TX0) (N := 22) S.1 S.2.1 S.2.2.2.2 in_X0 S.2.2.2.1 hw.1 hw.2.1 0 rfl rfl 20 (by decide) (S.2.2.2.2 _ q45) (fun _ h9 => h9) rfl hdg kk
theorem pX_20 (S : CallFix p m c cc nL s args lw_all RX0) (hw : GW D [(cB, .byte), (cS, .short)] (wX h cB cS σ) A s H locs) {v : Int} (hdg : decode cc pc = .ok (.putfield 90, 3)) (kk : ∀ (H1 : Heap) (locs1 : List Loc), GW D [(cB, .byte), (cS, .short)] (wX h cB cS (up2 σ 20 0 v)) A s H1 locs1 → W p l e R s m args below meth c H1 locs1 cells slots Q (F0 m (pc + 3) ls rest)) : W p l e R s m args below meth c H locs cells slots Q (F0 m pc ls (.int (iI v) :: .ref (h 0) :: rest)) :=
  va_put (D := D) (ci := 0) (v := .int (iI v)) (ty := .int) (C := RX0) (T := TX0) (N := 22) S.1 S.2.1 S.2.2.2.2 in_X0 tyX0 tyX0_ok nmX0 S.2.2.2.1 hw.1 hw.2.1 hw.2.2.1 hw.2.2.2.1 0 rfl rfl 20 (by decide) (S.2.2.2.2 _ q45) (fun _ h9 => h9) rfl (by decide +kernel) rfl rfl (Nat.le_of_ble_eq_true rfl) hdg (fun H1 locs1 hP hD hS => kk H1 locs1 ⟨hw.1, hP, hD, hS, hw.2.2.2.2⟩)
theorem gX_21 (S : CallFix p m c cc nL s args lw_all RX0) (hw : GW D [(cB, .byte), (cS, .short)] (wX h cB cS σ) A s H locs) {v : Int} (hv : σ 21 0 = v) (hdg : decode cc pc = .ok (.getfield 93, 3)) (kk : W p l e R s m args below meth c H locs cells slots Q (F0 m (pc + 3) ls (.int (iI v) :: rest))) : W p l e R s m args below meth c H locs cells slots Q (F0 m pc ls (.ref (h 0) :: rest)) := by
  subst hv
  exact va_get (D := D) (ci := 0) (v := .int (iI (σ 21 0))) (C := RX0) (T := TX0) (N := 22) S.1 S.2.1 S.2.2.2.2 in_X0 S.2.2.2.1 hw.1 hw.2.1 0 rfl rfl 21 (by decide) (S.2.2.2.2 _ q46) (fun _ h9 => h9) rfl hdg kk
theorem pX_21 (S : CallFix p m c cc nL s args lw_all RX0) (hw : GW D [(cB, .byte), (cS, .short)] (wX h cB cS σ) A s H locs) {v : Int} (hdg : decode cc pc = .ok (.putfield 93, 3)) (kk : ∀ (H1 : Heap) (locs1 : List Loc), GW D [(cB, .byte), (cS, .short)] (wX h cB cS (up2 σ 21 0 v)) A s H1 locs1 → W p l e R s m args below meth c H1 locs1 cells slots Q (F0 m (pc + 3) ls rest)) : W p l e R s m args below meth c H locs cells slots Q (F0 m pc ls (.int (iI v) :: .ref (h 0) :: rest)) :=
  va_put (D := D) (ci := 0) (v := .int (iI v)) (ty := .int) (C := RX0) (T := TX0) (N := 22) S.1 S.2.1 S.2.2.2.2 in_X0 tyX0 tyX0_ok nmX0 S.2.2.2.1 hw.1 hw.2.1 hw.2.2.1 hw.2.2.2.1 0 rfl rfl 21 (by decide) (S.2.2.2.2 _ q46) (fun _ h9 => h9) rfl (by decide +kernel) rfl rfl (Nat.le_of_ble_eq_true rfl) hdg (fun H1 locs1 hP hD hS => kk H1 locs1 ⟨hw.1, hP, hD, hS, hw.2.2.2.2⟩)
theorem cX_i {As st : List Value} {post : Int → St → Prop} {y : MethodName} {b : ByteArray} {L fr lo n index : Nat} {r : Option FieldType} (S : CallFix p m c cc nL s args lw_all RX0) (hw : GW D [(cB, .byte), (cS, .short)] (wX h cB cS σ) A s H locs) (hM : GMi l y b L r fr lo D [(cB, .byte), (cS, .short)] (wX h cB cS) (adX h) (h 0) As σ post) (cw : CallW R s args RX0 RX0 index y b L r (ws_ y b L r) ({ frames := fr, cells := 0, slots := 0, locals := lo }) 0 0 n) (hcs : cells ≤ R.cells ∧ slots ≤ R.slots) (hAs : As.length = n) (hsz : ls.size = nL) (hst : st = As.reverse ++ .ref (h 0) :: rest) (hcat : (rest.map fun v => v.category).sum ≤ 8) (hdg : decode cc pc = .ok (.invokevirtual index, 3))
    (kk : ∀ (z : Int) (σ1 : St) (H1 : Heap) (locs1 : List Loc), post z σ1 → GW D [(cB, .byte), (cS, .short)] (wX h cB cS σ1) A s H1 locs1 → W p l e R s m args below meth c H1 locs1 cells slots Q (F0 m (pc + 3) ls (.int (iI z) :: rest))) : W p l e R s m args below meth c H locs cells slots Q (F0 m pc ls st) :=
  G_calli (wr := []) S hw (List.range 12) [] rfl rfl rfl rfl (fun _ h9 => by cases h9) hw.1 hM rfl (va_recv hw.1 hw.2.1 (ci := 0) (q0 := 0) rfl rfl) cw hcs hAs hsz hst hcat hdg kk
theorem cX_v {As st : List Value} {post : St → Prop} {y : MethodName} {b : ByteArray} {L fr lo n index : Nat} {r : Option FieldType} (S : CallFix p m c cc nL s args lw_all RX0) (hw : GW D [(cB, .byte), (cS, .short)] (wX h cB cS σ) A s H locs) (hM : GMv l y b L r fr lo D [(cB, .byte), (cS, .short)] (wX h cB cS) (adX h) (h 0) As σ post) (cw : CallW R s args RX0 RX0 index y b L r (ws_ y b L r) ({ frames := fr, cells := 0, slots := 0, locals := lo }) 0 0 n) (hcs : cells ≤ R.cells ∧ slots ≤ R.slots) (hAs : As.length = n) (hsz : ls.size = nL) (hst : st = As.reverse ++ .ref (h 0) :: rest) (hcat : (rest.map fun v => v.category).sum ≤ 8) (hdg : decode cc pc = .ok (.invokevirtual index, 3))
    (kk : ∀ (σ1 : St) (H1 : Heap) (locs1 : List Loc), post σ1 → GW D [(cB, .byte), (cS, .short)] (wX h cB cS σ1) A s H1 locs1 → W p l e R s m args below meth c H1 locs1 cells slots Q (F0 m (pc + 3) ls rest)) : W p l e R s m args below meth c H locs cells slots Q (F0 m pc ls st) :=
  G_callv (wr := []) S hw (List.range 12) [] rfl rfl rfl rfl (fun _ h9 => by cases h9) hw.1 hM rfl (va_recv hw.1 hw.2.1 (ci := 0) (q0 := 0) rfl rfl) cw hcs hAs hsz hst hcat hdg kk
end
/-! CodeSearcherModel -/
def wM (h : Nat → Nat) (cI : ClassId) (σ : St) : va_W := [(h 0, .inr (1, [.int (iI (σ 0 0)), .ref (h 1), .int (iI (σ 2 0)), .ref (h 3), .int (iI (σ 4 0)), .ref (h 5), .ref (h 6), .int (iI (σ 7 0)), .ref (h 8)])),
  (h 1, .inl (cI, 250, .inl (fun j => iI (σ 1 j)))),
  (h 3, .inl (cI, 251, .inl (fun j => iI (σ 3 j)))),
  (h 5, .inl (cI, 60, .inl (fun j => iI (σ 5 j)))),
  (h 6, .inl (cI, 60, .inl (fun j => iI (σ 6 j)))),
  (h 8, .inl (cI, 6, .inl (fun j => iI (σ 8 j))))]
def adM (h : Nat → Nat) : List Nat := [h 0, h 1, h 3, h 5, h 6, h 8]
theorem adM_eq (h : Nat → Nat) (cI : ClassId) (σ : St) : (wM h cI σ).map Prod.fst = adM h := rfl
section
variable {p : Program} {l : Launch} {e : Env} {R : Room} {s : State} {m : MethodId} {args : Array Value} {below : List Frame} {meth : Method} {c : Code} {H : Heap} {locs : List Loc} {cells slots : Nat} {Q : State → Prop}
variable {cc : ByteArray} {pc nL : Nat} {ls : Array Slot} {rest : List Value} {D : va_G} {A : Nat → Prop} {h : Nat → Nat} {cI : ClassId} {σ : St}
theorem gM_0 (S : CallFix p m c cc nL s args lw_all RX1) (hw : GW D [(cI, .int)] (wM h cI σ) A s H locs) {v : Int} (hv : σ 0 0 = v) (hdg : decode cc pc = .ok (.getfield 36, 3)) (kk : W p l e R s m args below meth c H locs cells slots Q (F0 m (pc + 3) ls (.int (iI v) :: rest))) : W p l e R s m args below meth c H locs cells slots Q (F0 m pc ls (.ref (h 0) :: rest)) := by
  subst hv
  exact va_get (D := D) (ci := 1) (v := .int (iI (σ 0 0))) (C := RX1) (T := TX1) (N := 9) S.1 S.2.1 S.2.2.2.2 in_X1 S.2.2.2.1 hw.1 hw.2.1 0 rfl rfl 0 (by decide) (S.2.2.2.2 _ q208) (fun _ h9 => h9) rfl hdg kk
theorem pM_0 (S : CallFix p m c cc nL s args lw_all RX1) (hw : GW D [(cI, .int)] (wM h cI σ) A s H locs) {v : Int} (hdg : decode cc pc = .ok (.putfield 36, 3)) (kk : ∀ (H1 : Heap) (locs1 : List Loc), GW D [(cI, .int)] (wM h cI (up2 σ 0 0 v)) A s H1 locs1 → W p l e R s m args below meth c H1 locs1 cells slots Q (F0 m (pc + 3) ls rest)) : W p l e R s m args below meth c H locs cells slots Q (F0 m pc ls (.int (iI v) :: .ref (h 0) :: rest)) :=
  va_put (D := D) (ci := 1) (v := .int (iI v)) (ty := .int) (C := RX1) (T := TX1) (N := 9) S.1 S.2.1 S.2.2.2.2 in_X1 tyX1 tyX1_ok nmX1 S.2.2.2.1 hw.1 hw.2.1 hw.2.2.1 hw.2.2.2.1 0 rfl rfl 0 (by decide) (S.2.2.2.2 _ q208) (fun _ h9 => h9) rfl (by decide +kernel) rfl rfl (Nat.le_of_ble_eq_true rfl) hdg (fun H1 locs1 hP hD hS => kk H1 locs1 ⟨hw.1, hP, hD, hS, hw.2.2.2.2⟩)
theorem gM_1 (S : CallFix p m c cc nL s args lw_all RX1) (hw : GW D [(cI, .int)] (wM h cI σ) A s H locs) (hdg : decode cc pc = .ok (.getfield 7, 3)) (kk : W p l e R s m args below meth c H locs cells slots Q (F0 m (pc + 3) ls (.ref (h 1) :: rest))) : W p l e R s m args below meth c H locs cells slots Q (F0 m pc ls (.ref (h 0) :: rest)) :=
  va_get (D := D) (ci := 1) (v := .ref (h 1)) (C := RX1) (T := TX1) (N := 9) S.1 S.2.1 S.2.2.2.2 in_X1 S.2.2.2.1 hw.1 hw.2.1 0 rfl rfl 1 (by decide) (S.2.2.2.2 _ q209) (fun _ h9 => h9) rfl hdg kk
theorem aM_1 (hx : p.tables.exec = Jvm.exec) (hb : c.code = cc) (hw : GW D [(cI, .int)] (wM h cI σ) A s H locs) (j : Nat) {z v : Int} (hz : z = (j : Int)) (hj : j < 250) (hv : σ 1 j = v) (hdg : decode cc pc = .ok (.iaload, 1)) (kk : W p l e R s m args below meth c H locs cells slots Q (F0 m (pc + 1) ls (.int (iI v) :: rest))) : W p l e R s m args below meth c H locs cells slots Q (F0 m pc ls (.int (iI z) :: .ref (h 1) :: rest)) := by
  subst hz; subst hv
  refine va_iald hx hb hw.1 hw.2.1 1 0 rfl rfl (iI_in hj (by decide)) hdg ?_
  rw [iI_cl j (by omega)]
  exact kk
theorem sM_1 (hx : p.tables.exec = Jvm.exec) (hb : c.code = cc) (hw : GW D [(cI, .int)] (wM h cI σ) A s H locs) (j : Nat) {z v : Int} (hz : z = (j : Int)) (hj : j < 250) (hdg : decode cc pc = .ok (.iastore, 1)) (kk : ∀ (H1 : Heap) (locs1 : List Loc), GW D [(cI, .int)] (wM h cI (up2 σ 1 j v)) A s H1 locs1 → W p l e R s m args below meth c H1 locs1 cells slots Q (F0 m (pc + 1) ls rest)) : W p l e R s m args below meth c H locs cells slots Q (F0 m pc ls (.int (iI v) :: .int (iI z) :: .ref (h 1) :: rest)) := by
  subst hz
  refine va_iast hx hb hw.1 hw.2.1 hw.2.2.1 hw.2.2.2.1 1 0 rfl rfl (iI_in hj (by decide)) hdg (fun H1 locs1 hP hD hS => ?_)
  have e9 : upd (fun i => iI (σ 1 i)) (iI (j : Int)).toNatClampNeg (iI v) = fun i => iI (up2 σ 1 j v 1 i) := by
    rw [iI_cl j (by omega)]; funext i; by_cases q : i = j <;> simp [upd, up2, q]
  rw [e9] at hP hD
  exact kk H1 locs1 ⟨hw.1, hP, hD, hS, hw.2.2.2.2⟩
theorem gM_2 (S : CallFix p m c cc nL s args lw_all RX1) (hw : GW D [(cI, .int)] (wM h cI σ) A s H locs) {v : Int} (hv : σ 2 0 = v) (hdg : decode cc pc = .ok (.getfield 29, 3)) (kk : W p l e R s m args below meth c H locs cells slots Q (F0 m (pc + 3) ls (.int (iI v) :: rest))) : W p l e R s m args below meth c H locs cells slots Q (F0 m pc ls (.ref (h 0) :: rest)) := by
  subst hv
  exact va_get (D := D) (ci := 1) (v := .int (iI (σ 2 0))) (C := RX1) (T := TX1) (N := 9) S.1 S.2.1 S.2.2.2.2 in_X1 S.2.2.2.1 hw.1 hw.2.1 0 rfl rfl 2 (by decide) (S.2.2.2.2 _ q210) (fun _ h9 => h9) rfl hdg kk
theorem pM_2 (S : CallFix p m c cc nL s args lw_all RX1) (hw : GW D [(cI, .int)] (wM h cI σ) A s H locs) {v : Int} (hdg : decode cc pc = .ok (.putfield 29, 3)) (kk : ∀ (H1 : Heap) (locs1 : List Loc), GW D [(cI, .int)] (wM h cI (up2 σ 2 0 v)) A s H1 locs1 → W p l e R s m args below meth c H1 locs1 cells slots Q (F0 m (pc + 3) ls rest)) : W p l e R s m args below meth c H locs cells slots Q (F0 m pc ls (.int (iI v) :: .ref (h 0) :: rest)) :=
  va_put (D := D) (ci := 1) (v := .int (iI v)) (ty := .int) (C := RX1) (T := TX1) (N := 9) S.1 S.2.1 S.2.2.2.2 in_X1 tyX1 tyX1_ok nmX1 S.2.2.2.1 hw.1 hw.2.1 hw.2.2.1 hw.2.2.2.1 0 rfl rfl 2 (by decide) (S.2.2.2.2 _ q210) (fun _ h9 => h9) rfl (by decide +kernel) rfl rfl (Nat.le_of_ble_eq_true rfl) hdg (fun H1 locs1 hP hD hS => kk H1 locs1 ⟨hw.1, hP, hD, hS, hw.2.2.2.2⟩)
theorem gM_3 (S : CallFix p m c cc nL s args lw_all RX1) (hw : GW D [(cI, .int)] (wM h cI σ) A s H locs) (hdg : decode cc pc = .ok (.getfield 13, 3)) (kk : W p l e R s m args below meth c H locs cells slots Q (F0 m (pc + 3) ls (.ref (h 3) :: rest))) : W p l e R s m args below meth c H locs cells slots Q (F0 m pc ls (.ref (h 0) :: rest)) :=
  va_get (D := D) (ci := 1) (v := .ref (h 3)) (C := RX1) (T := TX1) (N := 9) S.1 S.2.1 S.2.2.2.2 in_X1 S.2.2.2.1 hw.1 hw.2.1 0 rfl rfl 3 (by decide) (S.2.2.2.2 _ q211) (fun _ h9 => h9) rfl hdg kk
theorem aM_3 (hx : p.tables.exec = Jvm.exec) (hb : c.code = cc) (hw : GW D [(cI, .int)] (wM h cI σ) A s H locs) (j : Nat) {z v : Int} (hz : z = (j : Int)) (hj : j < 251) (hv : σ 3 j = v) (hdg : decode cc pc = .ok (.iaload, 1)) (kk : W p l e R s m args below meth c H locs cells slots Q (F0 m (pc + 1) ls (.int (iI v) :: rest))) : W p l e R s m args below meth c H locs cells slots Q (F0 m pc ls (.int (iI z) :: .ref (h 3) :: rest)) := by
  subst hz; subst hv
  refine va_iald hx hb hw.1 hw.2.1 2 0 rfl rfl (iI_in hj (by decide)) hdg ?_
  rw [iI_cl j (by omega)]
  exact kk
theorem sM_3 (hx : p.tables.exec = Jvm.exec) (hb : c.code = cc) (hw : GW D [(cI, .int)] (wM h cI σ) A s H locs) (j : Nat) {z v : Int} (hz : z = (j : Int)) (hj : j < 251) (hdg : decode cc pc = .ok (.iastore, 1)) (kk : ∀ (H1 : Heap) (locs1 : List Loc), GW D [(cI, .int)] (wM h cI (up2 σ 3 j v)) A s H1 locs1 → W p l e R s m args below meth c H1 locs1 cells slots Q (F0 m (pc + 1) ls rest)) : W p l e R s m args below meth c H locs cells slots Q (F0 m pc ls (.int (iI v) :: .int (iI z) :: .ref (h 3) :: rest)) := by
  subst hz
  refine va_iast hx hb hw.1 hw.2.1 hw.2.2.1 hw.2.2.2.1 2 0 rfl rfl (iI_in hj (by decide)) hdg (fun H1 locs1 hP hD hS => ?_)
  have e9 : upd (fun i => iI (σ 3 i)) (iI (j : Int)).toNatClampNeg (iI v) = fun i => iI (up2 σ 3 j v 3 i) := by
    rw [iI_cl j (by omega)]; funext i; by_cases q : i = j <;> simp [upd, up2, q]
  rw [e9] at hP hD
  exact kk H1 locs1 ⟨hw.1, hP, hD, hS, hw.2.2.2.2⟩
theorem gM_4 (S : CallFix p m c cc nL s args lw_all RX1) (hw : GW D [(cI, .int)] (wM h cI σ) A s H locs) {v : Int} (hv : σ 4 0 = v) (hdg : decode cc pc = .ok (.getfield 25, 3)) (kk : W p l e R s m args below meth c H locs cells slots Q (F0 m (pc + 3) ls (.int (iI v) :: rest))) : W p l e R s m args below meth c H locs cells slots Q (F0 m pc ls (.ref (h 0) :: rest)) := by
  subst hv
  exact va_get (D := D) (ci := 1) (v := .int (iI (σ 4 0))) (C := RX1) (T := TX1) (N := 9) S.1 S.2.1 S.2.2.2.2 in_X1 S.2.2.2.1 hw.1 hw.2.1 0 rfl rfl 4 (by decide) (S.2.2.2.2 _ q212) (fun _ h9 => h9) rfl hdg kk
theorem pM_4 (S : CallFix p m c cc nL s args lw_all RX1) (hw : GW D [(cI, .int)] (wM h cI σ) A s H locs) {v : Int} (hdg : decode cc pc = .ok (.putfield 25, 3)) (kk : ∀ (H1 : Heap) (locs1 : List Loc), GW D [(cI, .int)] (wM h cI (up2 σ 4 0 v)) A s H1 locs1 → W p l e R s m args below meth c H1 locs1 cells slots Q (F0 m (pc + 3) ls rest)) : W p l e R s m args below meth c H locs cells slots Q (F0 m pc ls (.int (iI v) :: .ref (h 0) :: rest)) :=
  va_put (D := D) (ci := 1) (v := .int (iI v)) (ty := .int) (C := RX1) (T := TX1) (N := 9) S.1 S.2.1 S.2.2.2.2 in_X1 tyX1 tyX1_ok nmX1 S.2.2.2.1 hw.1 hw.2.1 hw.2.2.1 hw.2.2.2.1 0 rfl rfl 4 (by decide) (S.2.2.2.2 _ q212) (fun _ h9 => h9) rfl (by decide +kernel) rfl rfl (Nat.le_of_ble_eq_true rfl) hdg (fun H1 locs1 hP hD hS => kk H1 locs1 ⟨hw.1, hP, hD, hS, hw.2.2.2.2⟩)
theorem gM_5 (S : CallFix p m c cc nL s args lw_all RX1) (hw : GW D [(cI, .int)] (wM h cI σ) A s H locs) (hdg : decode cc pc = .ok (.getfield 16, 3)) (kk : W p l e R s m args below meth c H locs cells slots Q (F0 m (pc + 3) ls (.ref (h 5) :: rest))) : W p l e R s m args below meth c H locs cells slots Q (F0 m pc ls (.ref (h 0) :: rest)) :=
  va_get (D := D) (ci := 1) (v := .ref (h 5)) (C := RX1) (T := TX1) (N := 9) S.1 S.2.1 S.2.2.2.2 in_X1 S.2.2.2.1 hw.1 hw.2.1 0 rfl rfl 5 (by decide) (S.2.2.2.2 _ q213) (fun _ h9 => h9) rfl hdg kk
theorem aM_5 (hx : p.tables.exec = Jvm.exec) (hb : c.code = cc) (hw : GW D [(cI, .int)] (wM h cI σ) A s H locs) (j : Nat) {z v : Int} (hz : z = (j : Int)) (hj : j < 60) (hv : σ 5 j = v) (hdg : decode cc pc = .ok (.iaload, 1)) (kk : W p l e R s m args below meth c H locs cells slots Q (F0 m (pc + 1) ls (.int (iI v) :: rest))) : W p l e R s m args below meth c H locs cells slots Q (F0 m pc ls (.int (iI z) :: .ref (h 5) :: rest)) := by
  subst hz; subst hv
  refine va_iald hx hb hw.1 hw.2.1 3 0 rfl rfl (iI_in hj (by decide)) hdg ?_
  rw [iI_cl j (by omega)]
  exact kk
theorem sM_5 (hx : p.tables.exec = Jvm.exec) (hb : c.code = cc) (hw : GW D [(cI, .int)] (wM h cI σ) A s H locs) (j : Nat) {z v : Int} (hz : z = (j : Int)) (hj : j < 60) (hdg : decode cc pc = .ok (.iastore, 1)) (kk : ∀ (H1 : Heap) (locs1 : List Loc), GW D [(cI, .int)] (wM h cI (up2 σ 5 j v)) A s H1 locs1 → W p l e R s m args below meth c H1 locs1 cells slots Q (F0 m (pc + 1) ls rest)) : W p l e R s m args below meth c H locs cells slots Q (F0 m pc ls (.int (iI v) :: .int (iI z) :: .ref (h 5) :: rest)) := by
  subst hz
  refine va_iast hx hb hw.1 hw.2.1 hw.2.2.1 hw.2.2.2.1 3 0 rfl rfl (iI_in hj (by decide)) hdg (fun H1 locs1 hP hD hS => ?_)
  have e9 : upd (fun i => iI (σ 5 i)) (iI (j : Int)).toNatClampNeg (iI v) = fun i => iI (up2 σ 5 j v 5 i) := by
    rw [iI_cl j (by omega)]; funext i; by_cases q : i = j <;> simp [upd, up2, q]
  rw [e9] at hP hD
  exact kk H1 locs1 ⟨hw.1, hP, hD, hS, hw.2.2.2.2⟩
theorem gM_6 (S : CallFix p m c cc nL s args lw_all RX1) (hw : GW D [(cI, .int)] (wM h cI σ) A s H locs) (hdg : decode cc pc = .ok (.getfield 19, 3)) (kk : W p l e R s m args below meth c H locs cells slots Q (F0 m (pc + 3) ls (.ref (h 6) :: rest))) : W p l e R s m args below meth c H locs cells slots Q (F0 m pc ls (.ref (h 0) :: rest)) :=
  va_get (D := D) (ci := 1) (v := .ref (h 6)) (C := RX1) (T := TX1) (N := 9) S.1 S.2.1 S.2.2.2.2 in_X1 S.2.2.2.1 hw.1 hw.2.1 0 rfl rfl 6 (by decide) (S.2.2.2.2 _ q214) (fun _ h9 => h9) rfl hdg kk
theorem aM_6 (hx : p.tables.exec = Jvm.exec) (hb : c.code = cc) (hw : GW D [(cI, .int)] (wM h cI σ) A s H locs) (j : Nat) {z v : Int} (hz : z = (j : Int)) (hj : j < 60) (hv : σ 6 j = v) (hdg : decode cc pc = .ok (.iaload, 1)) (kk : W p l e R s m args below meth c H locs cells slots Q (F0 m (pc + 1) ls (.int (iI v) :: rest))) : W p l e R s m args below meth c H locs cells slots Q (F0 m pc ls (.int (iI z) :: .ref (h 6) :: rest)) := by
  subst hz; subst hv
  refine va_iald hx hb hw.1 hw.2.1 4 0 rfl rfl (iI_in hj (by decide)) hdg ?_
  rw [iI_cl j (by omega)]
  exact kk
theorem sM_6 (hx : p.tables.exec = Jvm.exec) (hb : c.code = cc) (hw : GW D [(cI, .int)] (wM h cI σ) A s H locs) (j : Nat) {z v : Int} (hz : z = (j : Int)) (hj : j < 60) (hdg : decode cc pc = .ok (.iastore, 1)) (kk : ∀ (H1 : Heap) (locs1 : List Loc), GW D [(cI, .int)] (wM h cI (up2 σ 6 j v)) A s H1 locs1 → W p l e R s m args below meth c H1 locs1 cells slots Q (F0 m (pc + 1) ls rest)) : W p l e R s m args below meth c H locs cells slots Q (F0 m pc ls (.int (iI v) :: .int (iI z) :: .ref (h 6) :: rest)) := by
  subst hz
  refine va_iast hx hb hw.1 hw.2.1 hw.2.2.1 hw.2.2.2.1 4 0 rfl rfl (iI_in hj (by decide)) hdg (fun H1 locs1 hP hD hS => ?_)
  have e9 : upd (fun i => iI (σ 6 i)) (iI (j : Int)).toNatClampNeg (iI v) = fun i => iI (up2 σ 6 j v 6 i) := by
    rw [iI_cl j (by omega)]; funext i; by_cases q : i = j <;> simp [upd, up2, q]
  rw [e9] at hP hD
  exact kk H1 locs1 ⟨hw.1, hP, hD, hS, hw.2.2.2.2⟩
theorem gM_7 (S : CallFix p m c cc nL s args lw_all RX1) (hw : GW D [(cI, .int)] (wM h cI σ) A s H locs) {v : Int} (hv : σ 7 0 = v) (hdg : decode cc pc = .ok (.getfield 43, 3)) (kk : W p l e R s m args below meth c H locs cells slots Q (F0 m (pc + 3) ls (.int (iI v) :: rest))) : W p l e R s m args below meth c H locs cells slots Q (F0 m pc ls (.ref (h 0) :: rest)) := by
  subst hv
  exact va_get (D := D) (ci := 1) (v := .int (iI (σ 7 0))) (C := RX1) (T := TX1) (N := 9) S.1 S.2.1 S.2.2.2.2 in_X1 S.2.2.2.1 hw.1 hw.2.1 0 rfl rfl 7 (by decide) (S.2.2.2.2 _ q215) (fun _ h9 => h9) rfl hdg kk
theorem pM_7 (S : CallFix p m c cc nL s args lw_all RX1) (hw : GW D [(cI, .int)] (wM h cI σ) A s H locs) {v : Int} (hdg : decode cc pc = .ok (.putfield 43, 3)) (kk : ∀ (H1 : Heap) (locs1 : List Loc), GW D [(cI, .int)] (wM h cI (up2 σ 7 0 v)) A s H1 locs1 → W p l e R s m args below meth c H1 locs1 cells slots Q (F0 m (pc + 3) ls rest)) : W p l e R s m args below meth c H locs cells slots Q (F0 m pc ls (.int (iI v) :: .ref (h 0) :: rest)) :=
  va_put (D := D) (ci := 1) (v := .int (iI v)) (ty := .int) (C := RX1) (T := TX1) (N := 9) S.1 S.2.1 S.2.2.2.2 in_X1 tyX1 tyX1_ok nmX1 S.2.2.2.1 hw.1 hw.2.1 hw.2.2.1 hw.2.2.2.1 0 rfl rfl 7 (by decide) (S.2.2.2.2 _ q215) (fun _ h9 => h9) rfl (by decide +kernel) rfl rfl (Nat.le_of_ble_eq_true rfl) hdg (fun H1 locs1 hP hD hS => kk H1 locs1 ⟨hw.1, hP, hD, hS, hw.2.2.2.2⟩)
theorem gM_8 (S : CallFix p m c cc nL s args lw_all RX1) (hw : GW D [(cI, .int)] (wM h cI σ) A s H locs) (hdg : decode cc pc = .ok (.getfield 22, 3)) (kk : W p l e R s m args below meth c H locs cells slots Q (F0 m (pc + 3) ls (.ref (h 8) :: rest))) : W p l e R s m args below meth c H locs cells slots Q (F0 m pc ls (.ref (h 0) :: rest)) :=
  va_get (D := D) (ci := 1) (v := .ref (h 8)) (C := RX1) (T := TX1) (N := 9) S.1 S.2.1 S.2.2.2.2 in_X1 S.2.2.2.1 hw.1 hw.2.1 0 rfl rfl 8 (by decide) (S.2.2.2.2 _ q216) (fun _ h9 => h9) rfl hdg kk
theorem aM_8 (hx : p.tables.exec = Jvm.exec) (hb : c.code = cc) (hw : GW D [(cI, .int)] (wM h cI σ) A s H locs) (j : Nat) {z v : Int} (hz : z = (j : Int)) (hj : j < 6) (hv : σ 8 j = v) (hdg : decode cc pc = .ok (.iaload, 1)) (kk : W p l e R s m args below meth c H locs cells slots Q (F0 m (pc + 1) ls (.int (iI v) :: rest))) : W p l e R s m args below meth c H locs cells slots Q (F0 m pc ls (.int (iI z) :: .ref (h 8) :: rest)) := by
  subst hz; subst hv
  refine va_iald hx hb hw.1 hw.2.1 5 0 rfl rfl (iI_in hj (by decide)) hdg ?_
  rw [iI_cl j (by omega)]
  exact kk
theorem sM_8 (hx : p.tables.exec = Jvm.exec) (hb : c.code = cc) (hw : GW D [(cI, .int)] (wM h cI σ) A s H locs) (j : Nat) {z v : Int} (hz : z = (j : Int)) (hj : j < 6) (hdg : decode cc pc = .ok (.iastore, 1)) (kk : ∀ (H1 : Heap) (locs1 : List Loc), GW D [(cI, .int)] (wM h cI (up2 σ 8 j v)) A s H1 locs1 → W p l e R s m args below meth c H1 locs1 cells slots Q (F0 m (pc + 1) ls rest)) : W p l e R s m args below meth c H locs cells slots Q (F0 m pc ls (.int (iI v) :: .int (iI z) :: .ref (h 8) :: rest)) := by
  subst hz
  refine va_iast hx hb hw.1 hw.2.1 hw.2.2.1 hw.2.2.2.1 5 0 rfl rfl (iI_in hj (by decide)) hdg (fun H1 locs1 hP hD hS => ?_)
  have e9 : upd (fun i => iI (σ 8 i)) (iI (j : Int)).toNatClampNeg (iI v) = fun i => iI (up2 σ 8 j v 8 i) := by
    rw [iI_cl j (by omega)]; funext i; by_cases q : i = j <;> simp [upd, up2, q]
  rw [e9] at hP hD
  exact kk H1 locs1 ⟨hw.1, hP, hD, hS, hw.2.2.2.2⟩
theorem cM_i {As st : List Value} {post : Int → St → Prop} {y : MethodName} {b : ByteArray} {L fr lo n index : Nat} {r : Option FieldType} (S : CallFix p m c cc nL s args lw_all RX1) (hw : GW D [(cI, .int)] (wM h cI σ) A s H locs) (hM : GMi l y b L r fr lo D [(cI, .int)] (wM h cI) (adM h) (h 0) As σ post) (cw : CallW R s args RX1 RX1 index y b L r (ws_ y b L r) ({ frames := fr, cells := 0, slots := 0, locals := lo }) 0 0 n) (hcs : cells ≤ R.cells ∧ slots ≤ R.slots) (hAs : As.length = n) (hsz : ls.size = nL) (hst : st = As.reverse ++ .ref (h 0) :: rest) (hcat : (rest.map fun v => v.category).sum ≤ 8) (hdg : decode cc pc = .ok (.invokevirtual index, 3))
    (kk : ∀ (z : Int) (σ1 : St) (H1 : Heap) (locs1 : List Loc), post z σ1 → GW D [(cI, .int)] (wM h cI σ1) A s H1 locs1 → W p l e R s m args below meth c H1 locs1 cells slots Q (F0 m (pc + 3) ls (.int (iI z) :: rest))) : W p l e R s m args below meth c H locs cells slots Q (F0 m pc ls st) :=
  G_calli (wr := []) S hw (List.range 6) [] rfl rfl rfl rfl (fun _ h9 => by cases h9) hw.1 hM rfl (va_recv hw.1 hw.2.1 (ci := 1) (q0 := 0) rfl rfl) cw hcs hAs hsz hst hcat hdg kk
theorem cM_v {As st : List Value} {post : St → Prop} {y : MethodName} {b : ByteArray} {L fr lo n index : Nat} {r : Option FieldType} (S : CallFix p m c cc nL s args lw_all RX1) (hw : GW D [(cI, .int)] (wM h cI σ) A s H locs) (hM : GMv l y b L r fr lo D [(cI, .int)] (wM h cI) (adM h) (h 0) As σ post) (cw : CallW R s args RX1 RX1 index y b L r (ws_ y b L r) ({ frames := fr, cells := 0, slots := 0, locals := lo }) 0 0 n) (hcs : cells ≤ R.cells ∧ slots ≤ R.slots) (hAs : As.length = n) (hsz : ls.size = nL) (hst : st = As.reverse ++ .ref (h 0) :: rest) (hcat : (rest.map fun v => v.category).sum ≤ 8) (hdg : decode cc pc = .ok (.invokevirtual index, 3))
    (kk : ∀ (σ1 : St) (H1 : Heap) (locs1 : List Loc), post σ1 → GW D [(cI, .int)] (wM h cI σ1) A s H1 locs1 → W p l e R s m args below meth c H1 locs1 cells slots Q (F0 m (pc + 3) ls rest)) : W p l e R s m args below meth c H locs cells slots Q (F0 m pc ls st) :=
  G_callv (wr := []) S hw (List.range 6) [] rfl rfl rfl rfl (fun _ h9 => by cases h9) hw.1 hM rfl (va_recv hw.1 hw.2.1 (ci := 1) (q0 := 0) rfl rfl) cw hcs hAs hsz hst hcat hdg kk
end
end
section
/-! PLAIN: the matching machine. P: the pattern, m its length; T: a text; e: a place in it -/
def mt (P T : Nat → Nat) (e k : Nat) : Prop := k ≤ e ∧ ∀ j, j < k → T (e - k + j) = P j
/-- the longest beginning of P (of at most m symbols) that ends at e -/
def bst (P T : Nat → Nat) (e : Nat) : Nat → Nat
  | 0 => 0
  | k + 1 => if (k + 1 ≤ e ∧ ∀ j, j < k + 1 → T (e - (k + 1) + j) = P j) then k + 1 else bst P T e k
theorem mt_0 (P T : Nat → Nat) (e : Nat) : mt P T e 0 := ⟨Nat.zero_le _, fun j h => absurd h (Nat.not_lt_zero j)⟩
theorem bst_s (P T : Nat → Nat) (e k : Nat) : (mt P T e (k + 1) ∧ bst P T e (k + 1) = k + 1) ∨ (¬ mt P T e (k + 1) ∧ bst P T e (k + 1) = bst P T e k) := by
  by_cases h : mt P T e (k + 1)
  · exact Or.inl ⟨h, if_pos h⟩
  · exact Or.inr ⟨h, if_neg h⟩
theorem bst_le (P T : Nat → Nat) (e m : Nat) : bst P T e m ≤ m := by
  induction m with
  | zero => exact Nat.le_refl _
  | succ m ih => rcases bst_s P T e m with ⟨-, h⟩ | ⟨-, h⟩ <;> omega
theorem bst_mt (P T : Nat → Nat) (e m : Nat) : mt P T e (bst P T e m) := by
  induction m with
  | zero => exact mt_0 P T e
  | succ m ih =>
    rcases bst_s P T e m with ⟨h0, h⟩ | ⟨-, h⟩
    · rw [h]; exact h0
    · rw [h]; exact ih
theorem bst_lee (P T : Nat → Nat) (e m : Nat) : bst P T e m ≤ e := (bst_mt P T e m).1
theorem bst_max {P T : Nat → Nat} {e m k : Nat} (hk : k ≤ m) (h : mt P T e k) : k ≤ bst P T e m := by
  induction m with
  | zero => omega
  | succ m ih =>
    rcases bst_s P T e m with ⟨h0, h1⟩ | ⟨h0, h1⟩
    · omega
    · by_cases q : k = m + 1
      · subst q; exact absurd h h0
      · rw [h1]; exact ih (by omega)
theorem bst_eq {P T : Nat → Nat} {e m k : Nat} (hk : k ≤ m) (h : mt P T e k) (hn : ∀ i, k < i → i ≤ m → ¬ mt P T e i) : bst P T e m = k := by
  have h1 := bst_max hk h
  have h2 := bst_le P T e m
  have h3 := bst_mt P T e m
  by_cases q : k < bst P T e m
  · exact absurd h3 (hn _ q h2)
  · omega
theorem bst_congr {P T U : Nat → Nat} {e f m : Nat} (h : ∀ k, k ≤ m → (mt P T e k ↔ mt P U f k)) : bst P T e m = bst P U f m := by
  refine bst_eq (bst_le P U f m) ((h _ (bst_le P U f m)).mpr (bst_mt P U f m)) (fun i h1 h2 h3 => ?_)
  have := bst_max h2 ((h i h2).mp h3)
  omega
theorem mt_succ (P T : Nat → Nat) (e k : Nat) : mt P T (e + 1) (k + 1) ↔ (mt P T e k ∧ T e = P k) := by
  unfold mt
  constructor
  · rintro ⟨h1, h2⟩
    refine ⟨⟨by omega, fun j hj => ?_⟩, ?_⟩
    · have := h2 j (by omega)
      rwa [show e + 1 - (k + 1) + j = e - k + j by omega] at this
    · have := h2 k (by omega)
      rwa [show e + 1 - (k + 1) + k = e by omega] at this
  · rintro ⟨⟨h1, h2⟩, h3⟩
    refine ⟨by omega, fun j hj => ?_⟩
    rw [show e + 1 - (k + 1) + j = e - k + j by omega]
    by_cases q : j = k
    · subst q
      rw [show e - j + j = e by omega]; exact h3
    · exact h2 j (by omega)
/-- one step: from the state s by the symbol a -/
def dl (P : Nat → Nat) (m s a : Nat) : Nat := bst P (fun j => if j < s then P j else a) (s + 1) m
theorem dl_le (P : Nat → Nat) (m s a : Nat) : dl P m s a ≤ m := bst_le _ _ _ _
theorem dl_les (P : Nat → Nat) (m s a : Nat) : dl P m s a ≤ s + 1 := bst_lee _ _ _ _
theorem bst_step (P T : Nat → Nat) (e m : Nat) : bst P T (e + 1) m = dl P m (bst P T e m) (T e) := by
  have hle := bst_le P T e m
  obtain ⟨he, hm⟩ := bst_mt P T e m
  have hmax : ∀ k, k ≤ m → mt P T e k → k ≤ bst P T e m := fun k => bst_max
  generalize bst P T e m = s at hle he hm hmax ⊢
  unfold dl
  refine bst_congr (fun k hk => ?_)
  cases k with
  | zero => exact ⟨fun _ => mt_0 _ _ _, fun _ => mt_0 _ _ _⟩
  | succ k =>
    rw [mt_succ, mt_succ]
    have e1 : (if s < s then P s else T e) = T e := if_neg (by omega)
    rw [e1]
    have key : mt P T e k ↔ mt P (fun j => if j < s then P j else T e) s k := by
      constructor
      · intro h
        have hks := hmax k (by omega) h
        refine ⟨hks, fun j hj => ?_⟩
        have h1 := h.2 j hj
        have h2 := hm (s - k + j) (by omega)
        rw [show e - s + (s - k + j) = e - k + j by omega] at h2
        have h3 : (if s - k + j < s then P (s - k + j) else T e) = P (s - k + j) := if_pos (by omega)
        show (if s - k + j < s then P (s - k + j) else T e) = P j
        rw [h3, ← h2, h1]
      · intro h
        have hks := h.1
        refine ⟨by omega, fun j hj => ?_⟩
        have h1 : (if s - k + j < s then P (s - k + j) else T e) = P j := h.2 j hj
        have h2 := hm (s - k + j) (by omega)
        rw [show e - s + (s - k + j) = e - k + j by omega] at h2
        have h3 : (if s - k + j < s then P (s - k + j) else T e) = P (s - k + j) := if_pos (by omega)
        rw [h2, ← h3, h1]
    rw [key]
theorem bst_zero (P T : Nat → Nat) (m : Nat) : bst P T 0 m = 0 := by
  have := bst_lee P T 0 m
  omega
theorem bst_text {P T U : Nat → Nat} {e m : Nat} (h : ∀ i, i < e → T i = U i) : bst P T e m = bst P U e m := by
  refine bst_congr (fun k _ => ?_)
  unfold mt
  constructor
  · rintro ⟨h1, h2⟩
    exact ⟨h1, fun j hj => by rw [← h _ (by omega)]; exact h2 j hj⟩
  · rintro ⟨h1, h2⟩
    exact ⟨h1, fun j hj => by rw [h _ (by omega)]; exact h2 j hj⟩
/-- the state behind k symbols of w, from s -/
def rn (P : Nat → Nat) (m s : Nat) (w : Nat → Nat) : Nat → Nat
  | 0 => s
  | k + 1 => dl P m (rn P m s w k) (w k)
theorem rn_congr {P : Nat → Nat} {m s : Nat} {w v : Nat → Nat} {k : Nat} (h : ∀ j, j < k → w j = v j) : rn P m s w k = rn P m s v k := by
  induction k with
  | zero => rfl
  | succ k ih =>
    show dl P m (rn P m s w k) (w k) = dl P m (rn P m s v k) (v k)
    rw [ih (fun j hj => h j (by omega)), h k (by omega)]
theorem rn_le {P : Nat → Nat} {m s : Nat} (w : Nat → Nat) (k : Nat) (h : s ≤ m) : rn P m s w k ≤ m := by
  cases k with
  | zero => exact h
  | succ k => exact dl_le _ _ _ _
theorem rn_bst (P T : Nat → Nat) (e m k : Nat) : bst P T (e + k) m = rn P m (bst P T e m) (fun j => T (e + j)) k := by
  induction k with
  | zero => rfl
  | succ k ih =>
    show bst P T (e + k + 1) m = dl P m (rn P m (bst P T e m) (fun j => T (e + j)) k) (T (e + k))
    rw [bst_step, ih]
theorem rn_0 (P w : Nat → Nat) (m k : Nat) : rn P m 0 w k = bst P w k m := by
  have h := rn_bst P w 0 m k
  rw [bst_zero] at h
  rw [show 0 + k = k by omega] at h
  rw [h]
  exact rn_congr (fun j _ => by rw [show 0 + j = j by omega])
/-- the longest proper border's state: what the machine is in behind P's second to s-th symbol -/
def bk (P : Nat → Nat) (m s : Nat) : Nat := bst P (fun j => P (j + 1)) (s - 1) m
theorem bk_lt (P : Nat → Nat) (m s : Nat) : bk P m s ≤ s - 1 := bst_lee _ _ _ _
theorem bk_1 (P : Nat → Nat) (m : Nat) : bk P m 1 = 0 := bst_zero _ _ _
theorem bk_0 (P : Nat → Nat) (m : Nat) : bk P m 0 = 0 := bst_zero _ _ _
theorem bk_succ {P : Nat → Nat} {m s : Nat} (h : 1 ≤ s) : bk P m (s + 1) = dl P m (bk P m s) (P s) := by
  have h1 := bst_step P (fun j => P (j + 1)) (s - 1) m
  unfold bk
  rw [show s - 1 + 1 = s by omega] at h1
  rw [show s + 1 - 1 = s by omega]
  exact h1
theorem dl_0 (P : Nat → Nat) (m a : Nat) : dl P m 0 a = if 0 < m ∧ a = P 0 then 1 else 0 := by
  by_cases h : 0 < m ∧ a = P 0
  · rw [if_pos h]
    refine bst_eq (by omega) ⟨by omega, fun j hj => ?_⟩ (fun i h1 _ h3 => ?_)
    · rw [show j = 0 by omega]
      show (if 0 + 1 - 1 + 0 < 0 then _ else a) = P 0
      rw [if_neg (by omega)]; exact h.2
    · have := h3.1; omega
  · rw [if_neg h]
    refine bst_eq (by omega) (mt_0 _ _ _) (fun i h1 h2 h3 => ?_)
    have h4 := h3.1
    have h5 : i = 1 := by omega
    subst h5
    have h6 := h3.2 0 (by omega)
    have h7 : (if 0 + 1 - 1 + 0 < 0 then P (0 + 1 - 1 + 0) else a) = P 0 := h6
    rw [if_neg (by omega)] at h7
    exact h ⟨by omega, h7⟩
theorem dl_row {P : Nat → Nat} {m s a : Nat} (hs : 1 ≤ s) : dl P m s a = if s < m ∧ a = P s then s + 1 else dl P m (bk P m s) a := by
  by_cases h : s < m ∧ a = P s
  · rw [if_pos h]
    refine bst_eq (by omega) ⟨by omega, fun j hj => ?_⟩ (fun i h1 _ h3 => ?_)
    · show (if s + 1 - (s + 1) + j < s then P (s + 1 - (s + 1) + j) else a) = P j
      rw [show s + 1 - (s + 1) + j = j by omega]
      by_cases q : j < s
      · rw [if_pos q]
      · rw [if_neg q, show j = s by omega]; exact h.2
    · have := h3.1; omega
  · rw [if_neg h]
    have e1 : bk P m s = bst P (fun j => if j < s - 1 then P (j + 1) else a) (s - 1) m := by
      unfold bk
      refine bst_text (fun i hi => ?_)
      rw [if_pos hi]
    have e2 := bst_step P (fun j => if j < s - 1 then P (j + 1) else a) (s - 1) m
    rw [← e1, show s - 1 + 1 = s by omega] at e2
    have e3 : (if s - 1 < s - 1 then P s else a) = a := if_neg (by omega)
    rw [e3] at e2
    rw [← e2]
    unfold dl
    refine bst_congr (fun k hk => ?_)
    constructor
    · rintro ⟨h1, h2⟩
      have hks : k ≤ s := by
        by_cases q : k ≤ s
        · exact q
        · exfalso
          have q1 : k = s + 1 := by omega
          subst q1
          have h3 := h2 s (by omega)
          have h4 : (if s + 1 - (s + 1) + s < s then P (s + 1 - (s + 1) + s) else a) = P s := h3
          rw [if_neg (by omega)] at h4
          exact h ⟨by omega, h4⟩
      refine ⟨hks, fun j hj => ?_⟩
      have h3 : (if s + 1 - k + j < s then P (s + 1 - k + j) else a) = P j := h2 j hj
      show (if s - k + j < s - 1 then P (s - k + j + 1) else a) = P j
      rw [← h3, show s - k + j + 1 = s + 1 - k + j by omega]
      by_cases q : s + 1 - k + j < s
      · rw [if_pos q, if_pos (by omega)]
      · rw [if_neg q, if_neg (by omega)]
    · rintro ⟨h1, h2⟩
      refine ⟨by omega, fun j hj => ?_⟩
      have h3 : (if s - k + j < s - 1 then P (s - k + j + 1) else a) = P j := h2 j hj
      show (if s + 1 - k + j < s then P (s + 1 - k + j) else a) = P j
      rw [← h3, show s - k + j + 1 = s + 1 - k + j by omega]
      by_cases q : s + 1 - k + j < s
      · rw [if_pos q, if_pos (by omega)]
      · rw [if_neg q, if_neg (by omega)]
/-! how often, first and last time a run of states r meets m at 1..k -/
def cn (r : Nat → Nat) (m : Nat) : Nat → Nat
  | 0 => 0
  | k + 1 => cn r m k + (if r (k + 1) = m then 1 else 0)
def fs (r : Nat → Nat) (m : Nat) : Nat → Nat
  | 0 => 0
  | k + 1 => if fs r m k = 0 then (if r (k + 1) = m then k + 1 else 0) else fs r m k
def la (r : Nat → Nat) (m : Nat) : Nat → Nat
  | 0 => 0
  | k + 1 => if r (k + 1) = m then k + 1 else la r m k
theorem cn_s (r : Nat → Nat) (m k : Nat) : cn r m (k + 1) = cn r m k + (if r (k + 1) = m then 1 else 0) := rfl
theorem fs_s (r : Nat → Nat) (m k : Nat) : fs r m (k + 1) = if fs r m k = 0 then (if r (k + 1) = m then k + 1 else 0) else fs r m k := rfl
theorem la_s (r : Nat → Nat) (m k : Nat) : la r m (k + 1) = if r (k + 1) = m then k + 1 else la r m k := rfl
theorem cn_congr {r q : Nat → Nat} {m k : Nat} (h : ∀ j, j ≤ k → r j = q j) : cn r m k = cn q m k := by
  induction k with
  | zero => rfl
  | succ k ih => rw [cn_s, cn_s, ih (fun j hj => h j (by omega)), h (k + 1) (by omega)]
theorem fs_congr {r q : Nat → Nat} {m k : Nat} (h : ∀ j, j ≤ k → r j = q j) : fs r m k = fs q m k := by
  induction k with
  | zero => rfl
  | succ k ih => rw [fs_s, fs_s, ih (fun j hj => h j (by omega)), h (k + 1) (by omega)]
theorem la_congr {r q : Nat → Nat} {m k : Nat} (h : ∀ j, j ≤ k → r j = q j) : la r m k = la q m k := by
  induction k with
  | zero => rfl
  | succ k ih => rw [la_s, la_s, ih (fun j hj => h j (by omega)), h (k + 1) (by omega)]
theorem cn_le (r : Nat → Nat) (m k : Nat) : cn r m k ≤ k := by
  induction k with
  | zero => exact Nat.le_refl _
  | succ k ih => rw [cn_s]; split <;> omega
theorem fs_le (r : Nat → Nat) (m k : Nat) : fs r m k ≤ k := by
  induction k with
  | zero => exact Nat.le_refl _
  | succ k ih => rw [fs_s]; split <;> (try split) <;> omega
theorem la_le (r : Nat → Nat) (m k : Nat) : la r m k ≤ k := by
  induction k with
  | zero => exact Nat.le_refl _
  | succ k ih => rw [la_s]; split <;> omega
theorem cn_mono {r : Nat → Nat} {m a b : Nat} (h : a ≤ b) : cn r m a ≤ cn r m b := by
  induction b with
  | zero => rw [show a = 0 by omega]; exact Nat.le_refl _
  | succ b ih =>
    by_cases q : a = b + 1
    · rw [q]; exact Nat.le_refl _
    · have := ih (by omega)
      rw [cn_s]; omega
theorem cnfs (r : Nat → Nat) (m k : Nat) : cn r m k = 0 ↔ fs r m k = 0 := by
  induction k with
  | zero => exact ⟨fun _ => rfl, fun _ => rfl⟩
  | succ k ih =>
    rw [cn_s, fs_s]
    by_cases q : r (k + 1) = m
    · rw [if_pos q, if_pos q]; split <;> omega
    · rw [if_neg q, if_neg q]; split <;> omega
theorem cnla (r : Nat → Nat) (m k : Nat) : cn r m k = 0 ↔ la r m k = 0 := by
  induction k with
  | zero => exact ⟨fun _ => rfl, fun _ => rfl⟩
  | succ k ih =>
    rw [cn_s, la_s]
    by_cases q : r (k + 1) = m
    · rw [if_pos q, if_pos q]; omega
    · rw [if_neg q, if_neg q]; omega
theorem cn_shift (r : Nat → Nat) (m b j : Nat) : cn r m (b + j) = cn r m b + cn (fun i => r (b + i)) m j := by
  induction j with
  | zero => rfl
  | succ j ih =>
    show cn r m (b + j) + (if r (b + j + 1) = m then 1 else 0) = cn r m b + (cn (fun i => r (b + i)) m j + (if r (b + (j + 1)) = m then 1 else 0))
    rw [ih, show b + j + 1 = b + (j + 1) by omega]; omega
theorem fs_shift (r : Nat → Nat) (m b j : Nat) : fs r m (b + j) = if fs r m b = 0 then (if fs (fun i => r (b + i)) m j = 0 then 0 else b + fs (fun i => r (b + i)) m j) else fs r m b := by
  induction j with
  | zero =>
    have z : fs (fun i => r (b + i)) m 0 = 0 := rfl
    by_cases q : fs r m b = 0
    · rw [if_pos q, if_pos z]; exact q
    · rw [if_neg q]; rfl
  | succ j ih =>
    rw [show b + (j + 1) = b + j + 1 by omega, fs_s, fs_s, ih, show b + (j + 1) = b + j + 1 by omega]
    by_cases q0 : fs r m b = 0
    · by_cases q1 : fs (fun i => r (b + i)) m j = 0
      · by_cases q2 : r (b + j + 1) = m
        · simp [q0, q1, q2]; omega
        · simp [q0, q1, q2]
      · simp [q0, q1]
    · simp [q0]
theorem la_shift (r : Nat → Nat) (m b j : Nat) : la r m (b + j) = if la (fun i => r (b + i)) m j = 0 then la r m b else b + la (fun i => r (b + i)) m j := by
  induction j with
  | zero => rfl
  | succ j ih =>
    rw [show b + (j + 1) = b + j + 1 by omega, la_s, la_s, ih, show b + (j + 1) = b + j + 1 by omega]
    by_cases q2 : r (b + j + 1) = m
    · simp [q2]; omega
    · simp [q2]
theorem fs_none {r : Nat → Nat} {m k : Nat} (h : ∀ e, 1 ≤ e → e ≤ k → r e ≠ m) : fs r m k = 0 := by
  induction k with
  | zero => rfl
  | succ k ih => rw [fs_s, ih (fun e h1 h2 => h e h1 (by omega)), if_pos rfl, if_neg (h (k + 1) (by omega) (by omega))]
theorem fs_found {r : Nat → Nat} {m k e : Nat} (h1 : 1 ≤ e) (h2 : e ≤ k) (h3 : r e = m) (h4 : ∀ i, 1 ≤ i → i < e → r i ≠ m) : fs r m k = e := by
  induction k with
  | zero => omega
  | succ k ih =>
    by_cases q : e = k + 1
    · subst q
      rw [fs_s, fs_none (fun i h5 h6 => h4 i h5 (by omega)), if_pos rfl, if_pos h3]
    · have := ih (by omega)
      rw [fs_s, this, if_neg (by omega)]
theorem la_none {r : Nat → Nat} {m k : Nat} (h : ∀ e, 1 ≤ e → e ≤ k → r e ≠ m) : la r m k = 0 := by
  induction k with
  | zero => rfl
  | succ k ih => rw [la_s, if_neg (h (k + 1) (by omega) (by omega)), ih (fun e h1 h2 => h e h1 (by omega))]
theorem la_found {r : Nat → Nat} {m k e : Nat} (h1 : 1 ≤ e) (h2 : e ≤ k) (h3 : r e = m) (h4 : ∀ i, e < i → i ≤ k → r i ≠ m) : la r m k = e := by
  induction k with
  | zero => omega
  | succ k ih =>
    by_cases q : e = k + 1
    · subst q
      rw [la_s, if_pos h3]
    · rw [la_s, if_neg (h4 (k + 1) (by omega) (by omega)), ih (by omega) (fun i h5 h6 => h4 i h5 (by omega))]
theorem fs_hit {r : Nat → Nat} {m k : Nat} (h : fs r m k ≠ 0) : r (fs r m k) = m := by
  induction k with
  | zero => exact absurd rfl h
  | succ k ih =>
    rw [fs_s] at h ⊢
    by_cases q : fs r m k = 0
    · rw [if_pos q] at h ⊢
      by_cases q2 : r (k + 1) = m
      · rw [if_pos q2]; exact q2
      · rw [if_neg q2] at h; exact absurd rfl h
    · rw [if_neg q]; exact ih q
theorem la_hit {r : Nat → Nat} {m k : Nat} (h : la r m k ≠ 0) : r (la r m k) = m := by
  induction k with
  | zero => exact absurd rfl h
  | succ k ih =>
    rw [la_s] at h ⊢
    by_cases q2 : r (k + 1) = m
    · rw [if_pos q2]; exact q2
    · rw [if_neg q2] at h ⊢; exact ih h
/-- the whole pattern ends at p + m -/
theorem bst_full (P T : Nat → Nat) (p m : Nat) : bst P T (p + m) m = m ↔ ∀ k, k < m → T (p + k) = P k := by
  constructor
  · intro h k hk
    have h1 := (bst_mt P T (p + m) m).2
    rw [h] at h1
    have h2 := h1 k hk
    rwa [show p + m - m + k = p + k by omega] at h2
  · intro h
    refine bst_eq (Nat.le_refl _) ⟨by omega, fun j hj => ?_⟩ (fun i h1 h2 _ => by omega)
    rw [show p + m - m + j = p + j by omega]; exact h j hj
theorem bst_fle {P T : Nat → Nat} {e m : Nat} (h : bst P T e m = m) : m ≤ e := by
  have := bst_lee P T e m
  omega
/-- occurrences that lie whole in a piece of the text -/
theorem cn_piece {P T w : Nat → Nat} {m b l : Nat} (hm : 0 < m) (h : ∀ j, j < l → T (b + j) = w j) : cn (fun e => bst P w e m) m l = cn (fun e => bst P T e m) m (b + l) - cn (fun e => bst P T e m) m (b + m - 1) := by
  induction l with
  | zero =>
    have := cn_mono (r := fun e => bst P T e m) (m := m) (a := b + 0) (b := b + m - 1) (by omega)
    rw [Nat.sub_eq_zero_of_le this]; rfl
  | succ l ih =>
    have ih := ih (fun j hj => h j (by omega))
    rw [cn_s, ih, show b + (l + 1) = b + l + 1 by omega, cn_s]
    by_cases q : l + 1 < m
    · have h1 : ¬ bst P w (l + 1) m = m := fun z => by have := bst_fle z; omega
      have h2 := cn_mono (r := fun e => bst P T e m) (m := m) (a := b + l + 1) (b := b + m - 1) (by omega)
      rw [cn_s] at h2
      rw [if_neg h1]; omega
    · have h2 := cn_mono (r := fun e => bst P T e m) (m := m) (a := b + m - 1) (b := b + l) (by omega)
      have h3 : bst P w (l + 1) m = m ↔ bst P T (b + l + 1) m = m := by
        have g1 := bst_full P w (l + 1 - m) m
        have g2 := bst_full P T (b + (l + 1 - m)) m
        rw [show l + 1 - m + m = l + 1 by omega] at g1
        rw [show b + (l + 1 - m) + m = b + l + 1 by omega] at g2
        rw [g1, g2]
        constructor
        · intro g k hk
          rw [show b + (l + 1 - m) + k = b + (l + 1 - m + k) by omega, h _ (by omega)]; exact g k hk
        · intro g k hk
          have := g k hk
          rwa [show b + (l + 1 - m) + k = b + (l + 1 - m + k) by omega, h _ (by omega)] at this
      by_cases q3 : bst P w (l + 1) m = m
      · rw [if_pos q3, if_pos (h3.mp q3)]; omega
      · rw [if_neg q3, if_neg (fun z => q3 (h3.mpr z))]; omega
theorem cn_low {P T : Nat → Nat} {m e : Nat} (h : e < m) : cn (fun e => bst P T e m) m e = 0 := by
  induction e with
  | zero => rfl
  | succ e ih => rw [cn_s, ih (by omega), if_neg (fun z => by have := bst_fle z; omega)]
end
section
/-! PLAIN: the one abstract state, and how each class holds it. Dictionary: wc words, word w has len w symbols sy w 0 ..; codes: n of them, cd, code k begins at bg k in the text T of N symbols; pattern: P of m symbols -/
def Dict (wc : Nat) (len : Nat → Nat) (sy : Nat → Nat → Nat) : Prop := 4 ≤ wc ∧ wc ≤ 60 ∧ (∀ w, w < 4 → len w = 1 ∧ sy w 0 = w) ∧ ∀ w, w < wc → 1 ≤ len w ∧ len w ≤ 250 ∧ ∀ k, k < len w → sy w k < 4
def Cods (wc : Nat) (len : Nat → Nat) (sy : Nat → Nat → Nat) (n N : Nat) (cd bg T : Nat → Nat) : Prop := N ≤ 250 ∧ bg 0 = 0 ∧ bg n = N ∧ ∀ k, k < n → cd k < wc ∧ bg (k + 1) = bg k + len (cd k) ∧ ∀ j, j < len (cd k) → T (bg k + j) = sy (cd k) j
def Patt (m : Nat) (P : Nat → Nat) : Prop := m ≤ 6 ∧ ∀ i, i < m → P i < 4
def Wf (wc : Nat) (len : Nat → Nat) (sy : Nat → Nat → Nat) (n N : Nat) (cd bg T : Nat → Nat) (m : Nat) (P : Nat → Nat) : Prop := Dict wc len sy ∧ Cods wc len sy n N cd bg T ∧ Patt m P
def XDict (wc : Nat) (len : Nat → Nat) (sy : Nat → Nat → Nat) (σ : St) : Prop := σ 0 0 = (wc : Int) ∧ (∀ w, w < wc → σ 4 w = (len w : Int) ∧ σ 2 w = (sy w (len w - 1) : Int) ∧ σ 3 w = (sy w 0 : Int)) ∧ (∀ w, w < 4 → σ 1 w = -1) ∧ ∀ w, 4 ≤ w → w < wc → ∃ v : Nat, v < w ∧ σ 1 w = (v : Int) ∧ len w = len v + 1 ∧ ∀ k, k < len v → sy w k = sy v k
def XCods (n N : Nat) (cd : Nat → Nat) (σ : St) : Prop := σ 6 0 = (n : Int) ∧ σ 7 0 = (N : Int) ∧ ∀ k, k < n → σ 5 k = (cd k : Int)
def XPat (m : Nat) (P : Nat → Nat) (σ : St) : Prop := σ 9 0 = (m : Int) ∧ ∀ i, i < m → σ 8 i = (P i : Int)
def XStep (m : Nat) (P : Nat → Nat) (σ : St) : Prop := ∀ s, s ≤ m → ∀ a, a < 4 → σ 10 (s * 4 + a) = (dl P m s a : Int)
def XCell (len : Nat → Nat) (sy : Nat → Nat → Nat) (m : Nat) (P : Nat → Nat) (σ : St) (w s : Nat) : Prop := σ 11 (w * 7 + s) = (rn P m s (sy w) (len w) : Int) ∧ σ 12 (w * 7 + s) = (cn (rn P m s (sy w)) m (len w) : Int) ∧ σ 13 (w * 7 + s) = (fs (rn P m s (sy w)) m (len w) : Int) ∧ σ 14 (w * 7 + s) = (la (rn P m s (sy w)) m (len w) : Int)
def XTab (wc : Nat) (len : Nat → Nat) (sy : Nat → Nat → Nat) (m : Nat) (P : Nat → Nat) (σ : St) : Prop := ∃ t : Nat, σ 15 0 = (t : Int) ∧ t ≤ wc ∧ (0 < t → 0 < m ∧ XStep m P σ ∧ ∀ w, w < t → ∀ s, s ≤ m → XCell len sy m P σ w s)
def sCount (m : Nat) (P T : Nat → Nat) (N : Nat) : Nat := if m = 0 then 0 else cn (fun e => bst P T e m) m N
def sFirst (m : Nat) (P T : Nat → Nat) (N : Nat) : Int := if m = 0 ∨ fs (fun e => bst P T e m) m N = 0 then -1 else (fs (fun e => bst P T e m) m N : Int) - m
def sLast (m : Nat) (P T : Nat → Nat) (N : Nat) : Int := if m = 0 ∨ la (fun e => bst P T e m) m N = 0 then -1 else (la (fun e => bst P T e m) m N : Int) - m
def sw (f : Nat → Nat) : Nat → Nat
  | 0 => 0
  | k + 1 => sw f k + f k
def sIn (len : Nat → Nat) (sy : Nat → Nat → Nat) (m : Nat) (P : Nat → Nat) (w : Nat) : Nat := cn (rn P m 0 (sy w)) m (len w)
def sWithin (len : Nat → Nat) (sy : Nat → Nat → Nat) (n : Nat) (cd : Nat → Nat) (m : Nat) (P : Nat → Nat) : Nat := if m = 0 then 0 else sw (fun k => sIn len sy m P (cd k)) n
def sEnd (len : Nat → Nat) (sy : Nat → Nat → Nat) (cd bg T : Nat → Nat) (m : Nat) (P : Nat → Nat) (k : Nat) : Nat := if m = 0 then 0 else cn (rn P m (bst P T (bg k) m) (sy (cd k))) m (len (cd k))
def XKn (len : Nat → Nat) (sy : Nat → Nat → Nat) (n N : Nat) (cd T : Nat → Nat) (m : Nat) (P : Nat → Nat) (σ : St) : Prop := σ 16 0 = 0 ∨ (σ 16 0 = 1 ∧ σ 17 0 = (bst P T N m : Int) ∧ σ 18 0 = (sCount m P T N : Int) ∧ σ 19 0 = sFirst m P T N ∧ σ 20 0 = sLast m P T N ∧ σ 21 0 = (sWithin len sy n cd m P : Int))
def XRep (wc : Nat) (len : Nat → Nat) (sy : Nat → Nat → Nat) (n N : Nat) (cd T : Nat → Nat) (m : Nat) (P : Nat → Nat) (σ : St) : Prop := XDict wc len sy σ ∧ XCods n N cd σ ∧ XPat m P σ ∧ XTab wc len sy m P σ ∧ XKn len sy n N cd T m P σ
def MRep (wc : Nat) (len : Nat → Nat) (sy : Nat → Nat → Nat) (n N : Nat) (bg T : Nat → Nat) (m : Nat) (P : Nat → Nat) (τ : St) : Prop := τ 0 0 = (N : Int) ∧ (∀ i, i < N → τ 1 i = (T i : Int)) ∧ τ 2 0 = (n : Int) ∧ (∀ k, k ≤ n → τ 3 k = (bg k : Int)) ∧ τ 4 0 = (wc : Int) ∧ (∀ w, 4 ≤ w → w < wc → τ 6 w = (len w : Int) ∧ ∃ p : Nat, τ 5 w = (p : Int) ∧ p + len w ≤ N ∧ ∀ k, k < len w → T (p + k) = sy w k) ∧ τ 7 0 = (m : Int) ∧ ∀ i, i < m → τ 8 i = (P i : Int)
theorem XDict.to {wc : Nat} {len : Nat → Nat} {sy : Nat → Nat → Nat} {σ σ' : St} (h : XDict wc len sy σ) (e : ∀ a j, a < 5 → σ' a j = σ a j) : XDict wc len sy σ' := by
  obtain ⟨h1, h2, h3, h4⟩ := h
  refine ⟨by rw [e _ _ (by omega)]; exact h1, fun w hw => ?_, fun w hw => by rw [e _ _ (by omega)]; exact h3 w hw, fun w q1 q2 => ?_⟩
  · rw [e _ _ (by omega), e _ _ (by omega), e _ _ (by omega)]; exact h2 w hw
  · obtain ⟨v, a1, a2, a3⟩ := h4 w q1 q2
    exact ⟨v, a1, by rw [e _ _ (by omega)]; exact a2, a3⟩
theorem XCods.to {n N : Nat} {cd : Nat → Nat} {σ σ' : St} (h : XCods n N cd σ) (e : ∀ a j, 5 ≤ a → a < 8 → σ' a j = σ a j) : XCods n N cd σ' := by
  obtain ⟨h1, h2, h3⟩ := h
  exact ⟨by rw [e _ _ (by omega) (by omega)]; exact h1, by rw [e _ _ (by omega) (by omega)]; exact h2, fun k hk => by rw [e _ _ (by omega) (by omega)]; exact h3 k hk⟩
theorem XPat.to {m : Nat} {P : Nat → Nat} {σ σ' : St} (h : XPat m P σ) (e : ∀ a j, 8 ≤ a → a < 10 → σ' a j = σ a j) : XPat m P σ' := by
  obtain ⟨h1, h2⟩ := h
  exact ⟨by rw [e _ _ (by omega) (by omega)]; exact h1, fun k hk => by rw [e _ _ (by omega) (by omega)]; exact h2 k hk⟩
theorem XStep.to {m : Nat} {P : Nat → Nat} {σ σ' : St} (h : XStep m P σ) (e : ∀ j, σ' 10 j = σ 10 j) : XStep m P σ' := fun s hs a ha => by rw [e]; exact h s hs a ha
theorem XCell.to {len : Nat → Nat} {sy : Nat → Nat → Nat} {m : Nat} {P : Nat → Nat} {σ σ' : St} {w s : Nat} (h : XCell len sy m P σ w s) (e : ∀ a, 11 ≤ a → a ≤ 14 → σ' a (w * 7 + s) = σ a (w * 7 + s)) : XCell len sy m P σ' w s := by
  obtain ⟨h1, h2, h3, h4⟩ := h
  exact ⟨by rw [e _ (by omega) (by omega)]; exact h1, by rw [e _ (by omega) (by omega)]; exact h2, by rw [e _ (by omega) (by omega)]; exact h3, by rw [e _ (by omega) (by omega)]; exact h4⟩
theorem XTab.to {wc : Nat} {len : Nat → Nat} {sy : Nat → Nat → Nat} {m : Nat} {P : Nat → Nat} {σ σ' : St} (h : XTab wc len sy m P σ) (e : ∀ a j, 10 ≤ a → a ≤ 15 → σ' a j = σ a j) : XTab wc len sy m P σ' := by
  obtain ⟨t, h1, h2, h3⟩ := h
  refine ⟨t, by rw [e _ _ (by omega) (by omega)]; exact h1, h2, fun ht => ?_⟩
  obtain ⟨a1, a2, a3⟩ := h3 ht
  exact ⟨a1, a2.to (fun j => e _ _ (by omega) (by omega)), fun w hw s hs => (a3 w hw s hs).to (fun a q1 q2 => e _ _ (by omega) (by omega))⟩
theorem XTab.none {wc : Nat} {len : Nat → Nat} {sy : Nat → Nat → Nat} {m : Nat} {P : Nat → Nat} {σ : St} (h : σ 15 0 = 0) : XTab wc len sy m P σ := ⟨0, h, by omega, fun q => absurd q (by omega)⟩
theorem Cods.run {wc : Nat} {len : Nat → Nat} {sy : Nat → Nat → Nat} {n N : Nat} {cd bg T : Nat → Nat} (hd : Dict wc len sy) (hc : Cods wc len sy n N cd bg T) (k j : Nat) (h : k + j ≤ n) : bg k + j ≤ bg (k + j) := by
  induction j with
  | zero => exact Nat.le_refl _
  | succ j ih =>
    obtain ⟨a1, a2, -⟩ := hc.2.2.2 (k + j) (by omega)
    have a3 := (hd.2.2.2 _ a1).1
    have a4 := ih (by omega)
    rw [show k + (j + 1) = k + j + 1 by omega, a2]; omega
theorem Cods.bgN {wc : Nat} {len : Nat → Nat} {sy : Nat → Nat → Nat} {n N : Nat} {cd bg T : Nat → Nat} (hd : Dict wc len sy) (hc : Cods wc len sy n N cd bg T) (k : Nat) (h : k ≤ n) : k ≤ bg k ∧ bg k ≤ N := by
  have h1 := hc.run hd 0 k (by omega)
  have h2 := hc.run hd k (n - k) (by omega)
  rw [show 0 + k = k by omega, hc.2.1] at h1
  rw [show k + (n - k) = n by omega, hc.2.2.1] at h2
  omega
theorem Cods.nN {wc : Nat} {len : Nat → Nat} {sy : Nat → Nat → Nat} {n N : Nat} {cd bg T : Nat → Nat} (hd : Dict wc len sy) (hc : Cods wc len sy n N cd bg T) : n ≤ N := by
  have h1 := hc.bgN hd n (Nat.le_refl _)
  omega
theorem Cods.N0 {wc : Nat} {len : Nat → Nat} {sy : Nat → Nat → Nat} {N : Nat} {cd bg T : Nat → Nat} (hc : Cods wc len sy 0 N cd bg T) : N = 0 := by
  rw [← hc.2.2.1]; exact hc.2.1
/-! what a code may be, and what it makes of the state -/
def xL (wc : Nat) (len : Nat → Nat) (n : Nat) (cd : Nat → Nat) (x : Int) : Nat := if 0 < n ∧ x = (wc : Int) then len (cd (n - 1)) + 1 else len x.toNat
def okF (wc : Nat) (len : Nat → Nat) (n N : Nat) (cd : Nat → Nat) (x : Int) : Prop := 0 ≤ x ∧ (n = 0 → x < 4) ∧ (0 < n → x ≤ (wc : Int) ∧ ¬ (x = (wc : Int) ∧ wc = 60)) ∧ N + xL wc len n cd x ≤ 250
theorem okF_n {wc : Nat} {len : Nat → Nat} {sy : Nat → Nat → Nat} {n N : Nat} {cd bg T : Nat → Nat} {x : Int} (hd : Dict wc len sy) (hc : Cods wc len sy n N cd bg T) (q : okF wc len n N cd x) : n < 250 := by
  obtain ⟨q1, q2, q3, q4⟩ := q
  have h1 := hc.nN hd
  have h2 := hd.1
  have h3 : 1 ≤ xL wc len n cd x := by
    unfold xL
    split
    · omega
    · refine (hd.2.2.2 _ ?_).1
      by_cases q : n = 0
      · have := q2 q; omega
      · have := q3 (by omega)
        omega
  omega
theorem okF_0 {wc : Nat} {len : Nat → Nat} {sy : Nat → Nat → Nat} {N : Nat} {cd bg T : Nat → Nat} {x : Int} (hd : Dict wc len sy) (hc : Cods wc len sy 0 N cd bg T) (h0 : 0 ≤ x) (h4 : x < 4) : okF wc len 0 N cd x := by
  refine ⟨h0, fun _ => h4, fun q => absurd q (by omega), ?_⟩
  have h1 := hc.N0
  have h2 := (hd.2.2.1 x.toNat (by omega)).1
  unfold xL
  rw [if_neg (fun q => absurd q.1 (by omega)), h2]; omega
end
section
/-! CodeSearcher: the plain methods (printed by gen/x1.py) -/
set_option maxRecDepth 100000 in
theorem mX_codes (l : Launch) (D : va_G) (cB cS : ClassId) (h : Nat → Nat) (σ : St)  :
    GMi l yX0_codes cX0_codes 1 (some .int) 0 0 D [(cB, .byte), (cS, .short)] (wX h cB cS) (adX h) (h 0) [] σ (fun z σ' => z = σ 6 0 ∧ σ' = σ) := by
  refine GMi.of (by decide) rfl (Nat.le_of_ble_eq_true rfl) ?_
  intro p e s mi bl me co A ls S hr hlk hw hl
  have S : CallFix p mi co cX0_codes 1 s _ lw_all RX0 := S
  have hx := S.1
  have hb := S.2.1
  have hts := S.2.2.2.2
  have hl : lv_has ls 1 [(0, .ref (h 0))] := hl
  refine lv_aload_n hx hb dX0_codes_0 rfl (lv_at hl 0 rfl) ?_
  refine gX_6 S hw (v := σ 6 0) rfl dX0_codes_1 ?_
  exact G_reti (σ' := σ) (z := σ 6 0) hx hb hr hlk hw (⟨rfl, rfl⟩) dX0_codes_4
set_option maxRecDepth 100000 in
theorem mX_words (l : Launch) (D : va_G) (cB cS : ClassId) (h : Nat → Nat) (σ : St)  :
    GMi l yX0_words cX0_words 1 (some .int) 0 0 D [(cB, .byte), (cS, .short)] (wX h cB cS) (adX h) (h 0) [] σ (fun z σ' => z = σ 0 0 ∧ σ' = σ) := by
  refine GMi.of (by decide) rfl (Nat.le_of_ble_eq_true rfl) ?_
  intro p e s mi bl me co A ls S hr hlk hw hl
  have S : CallFix p mi co cX0_words 1 s _ lw_all RX0 := S
  have hx := S.1
  have hb := S.2.1
  have hts := S.2.2.2.2
  have hl : lv_has ls 1 [(0, .ref (h 0))] := hl
  refine lv_aload_n hx hb dX0_words_0 rfl (lv_at hl 0 rfl) ?_
  refine gX_0 S hw (v := σ 0 0) rfl dX0_words_1 ?_
  exact G_reti (σ' := σ) (z := σ 0 0) hx hb hr hlk hw (⟨rfl, rfl⟩) dX0_words_4
set_option maxRecDepth 100000 in
theorem mX_length (l : Launch) (D : va_G) (cB cS : ClassId) (h : Nat → Nat) (σ : St)  :
    GMi l yX0_length cX0_length 1 (some .int) 0 0 D [(cB, .byte), (cS, .short)] (wX h cB cS) (adX h) (h 0) [] σ (fun z σ' => z = σ 7 0 ∧ σ' = σ) := by
  refine GMi.of (by decide) rfl (Nat.le_of_ble_eq_true rfl) ?_
  intro p e s mi bl me co A ls S hr hlk hw hl
  have S : CallFix p mi co cX0_length 1 s _ lw_all RX0 := S
  have hx := S.1
  have hb := S.2.1
  have hts := S.2.2.2.2
  have hl : lv_has ls 1 [(0, .ref (h 0))] := hl
  refine lv_aload_n hx hb dX0_length_0 rfl (lv_at hl 0 rfl) ?_
  refine gX_7 S hw (v := σ 7 0) rfl dX0_length_1 ?_
  exact G_reti (σ' := σ) (z := σ 7 0) hx hb hr hlk hw (⟨rfl, rfl⟩) dX0_length_4
set_option maxRecDepth 100000 in
theorem mX_pattern (l : Launch) (D : va_G) (cB cS : ClassId) (h : Nat → Nat) (σ : St)  :
    GMi l yX0_pattern cX0_pattern 1 (some .int) 0 0 D [(cB, .byte), (cS, .short)] (wX h cB cS) (adX h) (h 0) [] σ (fun z σ' => z = σ 9 0 ∧ σ' = σ) := by
  refine GMi.of (by decide) rfl (Nat.le_of_ble_eq_true rfl) ?_
  intro p e s mi bl me co A ls S hr hlk hw hl
  have S : CallFix p mi co cX0_pattern 1 s _ lw_all RX0 := S
  have hx := S.1
  have hb := S.2.1
  have hts := S.2.2.2.2
  have hl : lv_has ls 1 [(0, .ref (h 0))] := hl
  refine lv_aload_n hx hb dX0_pattern_0 rfl (lv_at hl 0 rfl) ?_
  refine gX_9 S hw (v := σ 9 0) rfl dX0_pattern_1 ?_
  exact G_reti (σ' := σ) (z := σ 9 0) hx hb hr hlk hw (⟨rfl, rfl⟩) dX0_pattern_4
set_option maxRecDepth 100000 in
theorem mX_patternChanged (l : Launch) (D : va_G) (cB cS : ClassId) (h : Nat → Nat) (σ : St)  :
    GMv l yX0_patternChanged cX0_patternChanged 1 none 0 0 D [(cB, .byte), (cS, .short)] (wX h cB cS) (adX h) (h 0) [] σ (fun σ' => σ' = up2 (up2 σ 15 0 0) 16 0 0) := by
  refine GMv.of (by decide) rfl (Nat.le_of_ble_eq_true rfl) ?_
  intro p e s mi bl me co A ls S hr hlk hw hl
  have S : CallFix p mi co cX0_patternChanged 1 s _ lw_all RX0 := S
  have hx := S.1
  have hb := S.2.1
  have hts := S.2.2.2.2
  have hl : lv_has ls 1 [(0, .ref (h 0))] := hl
  refine lv_aload_n hx hb dX0_patternChanged_0 rfl (lv_at hl 0 rfl) ?_
  refine r_iconst hx hb dX0_patternChanged_1 ?_
  refine pX_15 S hw (v := 0) dX0_patternChanged_2 (fun H locs hw => ?_)
  refine lv_aload_n hx hb dX0_patternChanged_5 rfl (lv_at hl 0 rfl) ?_
  refine r_iconst hx hb dX0_patternChanged_6 ?_
  refine pX_16 S hw (v := 0) z_0 rfl dX0_patternChanged_7 (fun H locs hw => ?_)
  exact G_retv (σ' := (up2 (up2 σ 15 0 (0)) 16 0 (0))) hx hb hr hlk hw (rfl) dX0_patternChanged_10
set_option maxRecDepth 100000 in
/-- allowed -/
theorem mX_allowed (l : Launch) (D : va_G) (cB cS : ClassId) (h : Nat → Nat) (σ : St) {wc : Nat} {len : Nat → Nat} {sy : Nat → Nat → Nat} {n N : Nat} {cd bg T : Nat → Nat} {m : Nat} {P : Nat → Nat} (x : Int) (hf : Wf wc len sy n N cd bg T m P) (hr0 : XRep wc len sy n N cd T m P σ) (bx : -2147483648 ≤ x ∧ x < 2147483648) :
    GMi l yX0_allowed cX0_allowed 3 (some .boolean) 0 0 D [(cB, .byte), (cS, .short)] (wX h cB cS) (adX h) (h 0) [.int (iI (x))] σ (fun z σ' => ((z = 1 ∧ okF wc len n N cd x) ∨ (z = 0 ∧ ¬ okF wc len n N cd x)) ∧ σ' = σ) := by
  obtain ⟨hD, hC, hPt⟩ := hf
  obtain ⟨xD, xC, xP, xT, xK⟩ := hr0
  have d1 := hD.1
  have d2 := hD.2.1
  have i0 : σ 0 0 = (wc : Int) := xD.1
  have i6 : σ 6 0 = (n : Int) := xC.1
  have i7 : σ 7 0 = (N : Int) := xC.2.1
  have i9 : σ 9 0 = (m : Int) := xP.1
  have p1 : m ≤ 6 := hPt.1
  have hN : N ≤ 250 := hC.1
  have hnN : n ≤ N := hC.nN hD
  refine GMi.of (by decide) rfl (Nat.le_of_ble_eq_true rfl) ?_
  intro p e s mi bl me co A ls S hr hlk hw hl
  have S : CallFix p mi co cX0_allowed 3 s _ lw_all RX0 := S
  have hx := S.1
  have hb := S.2.1
  have hts := S.2.2.2.2
  have hl : lv_has ls 3 [(0, .ref (h 0)), (1, .int (iI (x)))] := hl
  refine lv_iload_n hx hb dX0_allowed_0 rfl (lv_at hl 1 rfl) ?_
  refine r_if_lt (a := x) (tgt := 14) hx hb dX0_allowed_1 (by decide) (by omega) (fun c_1 => ?_) (fun c_1 => ?_)
  · refine r_iconst hx hb dX0_allowed_14 ?_
    exact G_retz (σ' := σ) (z := 0) hx hb hr hlk hw z_0 (⟨Or.inr ⟨rfl, fun q => by have := q.1; omega⟩, rfl⟩) dX0_allowed_15
  · refine lv_aload_n hx hb dX0_allowed_4 rfl (lv_at hl 0 rfl) ?_
    refine gX_6 S hw (v := n) i6 dX0_allowed_5 ?_
    refine r_sipush hx hb dX0_allowed_8 (by decide) ?_
    refine r_icmp_lt (a := n) (b := 250) (tgt := 16) hx hb dX0_allowed_11 (by decide) (by omega) (by omega) (fun c_11 => ?_) (fun c_11 => ?_)
    · refine lv_aload_n hx hb dX0_allowed_16 rfl (lv_at hl 0 rfl) ?_
      refine gX_6 S hw (v := n) i6 dX0_allowed_17 ?_
      refine r_if_ne (a := n) (tgt := 34) hx hb dX0_allowed_20 (by decide) (by omega) (fun c_20 => ?_) (fun c_20 => ?_)
      · have n0 : 0 < n := by omega
        refine lv_iload_n hx hb dX0_allowed_34 rfl (lv_at hl 1 rfl) ?_
        refine lv_aload_n hx hb dX0_allowed_35 rfl (lv_at hl 0 rfl) ?_
        refine gX_0 S hw (v := wc) i0 dX0_allowed_36 ?_
        refine r_icmp_gt (a := x) (b := wc) (tgt := 59) hx hb dX0_allowed_39 (by decide) (by omega) (by omega) (fun c_39 => ?_) (fun c_39 => ?_)
        · refine r_iconst hx hb dX0_allowed_59 ?_
          exact G_retz (σ' := σ) (z := 0) hx hb hr hlk hw z_0 (⟨Or.inr ⟨rfl, fun q => by have := q.2.2.1 n0; omega⟩, rfl⟩) dX0_allowed_60
        · refine lv_iload_n hx hb dX0_allowed_42 rfl (lv_at hl 1 rfl) ?_
          refine lv_aload_n hx hb dX0_allowed_43 rfl (lv_at hl 0 rfl) ?_
          refine gX_0 S hw (v := wc) i0 dX0_allowed_44 ?_
          refine r_icmp_ne (a := x) (b := wc) (tgt := 61) hx hb dX0_allowed_47 (by decide) (by omega) (by omega) (fun c_47 => ?_) (fun c_47 => ?_)
          · refine lv_iload_n hx hb dX0_allowed_61 rfl (lv_at hl 1 rfl) ?_
            refine lv_aload_n hx hb dX0_allowed_62 rfl (lv_at hl 0 rfl) ?_
            refine gX_0 S hw (v := wc) i0 dX0_allowed_63 ?_
            refine r_icmp_ne (a := x) (b := wc) (tgt := 90) hx hb dX0_allowed_66 (by decide) (by omega) (by omega) (fun c_66 => ?_) (fun c_66 => ?_)
            · refine lv_aload_n hx hb dX0_allowed_90 rfl (lv_at hl 0 rfl) ?_
              refine gX_4 S hw dX0_allowed_91 ?_
              refine lv_iload_n hx hb dX0_allowed_94 rfl (lv_at hl 1 rfl) ?_
              have lc : x.toNat < wc := by omega
              have lb := (hD.2.2.2 _ lc).2.1
              refine aX_4 hx hb hw (x.toNat) (z := x) (v := len x.toNat) (by omega) (by omega) ((xD.2.1 _ lc).1) dX0_allowed_95 ?_
              have eL : xL wc len n cd x = len x.toNat := by unfold xL; rw [if_neg (fun q => by have := q.2; omega)]
              refine lv_istore_n (lv' := [(2, .int (iI (len x.toNat))), (0, .ref (h 0)), (1, .int (iI (x)))]) hx hb dX0_allowed_96 rfl hl (by decide) rfl (fun ls hl => ?_)
              refine lv_aload_n hx hb dX0_allowed_97 rfl (lv_at hl 1 rfl) ?_
              refine gX_7 S hw (v := N) i7 dX0_allowed_98 ?_
              refine lv_iload_n hx hb dX0_allowed_101 rfl (lv_at hl 0 rfl) ?_
              refine r_iadd (a := N) (b := len x.toNat) hx hb dX0_allowed_102 ?_
              refine r_sipush hx hb dX0_allowed_103 (by decide) ?_
              refine r_icmp_gt (a := (N + len x.toNat)) (b := 250) (tgt := 113) hx hb dX0_allowed_106 (by decide) (by omega) (by omega) (fun c_106 => ?_) (fun c_106 => ?_)
              · refine r_iconst hx hb dX0_allowed_113 ?_
                exact G_retz (σ' := σ) (z := 0) hx hb hr hlk hw z_0 (⟨Or.inr ⟨rfl, fun q => by have := q.2.2.2; rw [eL] at this; omega⟩, rfl⟩) dX0_allowed_114
              · refine r_iconst hx hb dX0_allowed_109 ?_
                refine lv_goto (tgt := 114) hx hb dX0_allowed_110 (by decide) ?_
                exact G_retz (σ' := σ) (z := 1) hx hb hr hlk hw z_1 (⟨Or.inl ⟨rfl, ⟨by omega, fun q => absurd q (by omega), fun _ => ⟨by omega, fun q => by omega⟩, by rw [eL]; omega⟩⟩, rfl⟩) dX0_allowed_114
            · refine lv_aload_n hx hb dX0_allowed_69 rfl (lv_at hl 0 rfl) ?_
              refine gX_4 S hw dX0_allowed_70 ?_
              refine lv_aload_n hx hb dX0_allowed_73 rfl (lv_at hl 0 rfl) ?_
              refine gX_5 S hw dX0_allowed_74 ?_
              refine lv_aload_n hx hb dX0_allowed_77 rfl (lv_at hl 0 rfl) ?_
              refine gX_6 S hw (v := n) i6 dX0_allowed_78 ?_
              refine r_iconst hx hb dX0_allowed_81 ?_
              refine r_isub (a := n) (b := 1) hx hb dX0_allowed_82 ?_
              refine aX_5 hx hb hw (n - 1) (z := (n - 1)) (v := cd (n - 1)) (by omega) (by omega) (xC.2.2 (n - 1) (by omega)) dX0_allowed_83 ?_
              have lc : cd (n - 1) < wc := (hC.2.2.2 (n - 1) (by omega)).1
              have lb := (hD.2.2.2 _ lc).2.1
              refine aX_4 hx hb hw (cd (n - 1)) (z := cd (n - 1)) (v := len (cd (n - 1))) (by omega) (by omega) ((xD.2.1 _ lc).1) dX0_allowed_84 ?_
              refine r_iconst hx hb dX0_allowed_85 ?_
              refine r_iadd (a := len (cd (n - 1))) (b := 1) hx hb dX0_allowed_86 ?_
              refine lv_goto (tgt := 96) hx hb dX0_allowed_87 (by decide) ?_
              have eL : xL wc len n cd x = len (cd (n - 1)) + 1 := by unfold xL; rw [if_pos ⟨n0, by omega⟩]
              refine lv_istore_n (lv' := [(2, .int (iI ((len (cd (n - 1)) + 1)))), (0, .ref (h 0)), (1, .int (iI (x)))]) hx hb dX0_allowed_96 rfl hl (by decide) rfl (fun ls hl => ?_)
              refine lv_aload_n hx hb dX0_allowed_97 rfl (lv_at hl 1 rfl) ?_
              refine gX_7 S hw (v := N) i7 dX0_allowed_98 ?_
              refine lv_iload_n hx hb dX0_allowed_101 rfl (lv_at hl 0 rfl) ?_
              refine r_iadd (a := N) (b := (len (cd (n - 1)) + 1)) hx hb dX0_allowed_102 ?_
              refine r_sipush hx hb dX0_allowed_103 (by decide) ?_
              refine r_icmp_gt (a := (N + (len (cd (n - 1)) + 1))) (b := 250) (tgt := 113) hx hb dX0_allowed_106 (by decide) (by omega) (by omega) (fun c_106 => ?_) (fun c_106 => ?_)
              · refine r_iconst hx hb dX0_allowed_113 ?_
                exact G_retz (σ' := σ) (z := 0) hx hb hr hlk hw z_0 (⟨Or.inr ⟨rfl, fun q => by have := q.2.2.2; rw [eL] at this; omega⟩, rfl⟩) dX0_allowed_114
              · refine r_iconst hx hb dX0_allowed_109 ?_
                refine lv_goto (tgt := 114) hx hb dX0_allowed_110 (by decide) ?_
                exact G_retz (σ' := σ) (z := 1) hx hb hr hlk hw z_1 (⟨Or.inl ⟨rfl, ⟨by omega, fun q => absurd q (by omega), fun _ => ⟨by omega, fun q => by omega⟩, by rw [eL]; omega⟩⟩, rfl⟩) dX0_allowed_114
          · refine lv_aload_n hx hb dX0_allowed_50 rfl (lv_at hl 0 rfl) ?_
            refine gX_0 S hw (v := wc) i0 dX0_allowed_51 ?_
            refine r_bipush hx hb dX0_allowed_54 (by decide) ?_
            refine r_icmp_ne (a := wc) (b := 60) (tgt := 61) hx hb dX0_allowed_56 (by decide) (by omega) (by omega) (fun c_56 => ?_) (fun c_56 => ?_)
            · refine lv_iload_n hx hb dX0_allowed_61 rfl (lv_at hl 1 rfl) ?_
              refine lv_aload_n hx hb dX0_allowed_62 rfl (lv_at hl 0 rfl) ?_
              refine gX_0 S hw (v := wc) i0 dX0_allowed_63 ?_
              refine r_icmp_ne (a := x) (b := wc) (tgt := 90) hx hb dX0_allowed_66 (by decide) (by omega) (by omega) (fun c_66 => ?_) (fun c_66 => ?_)
              · refine lv_aload_n hx hb dX0_allowed_90 rfl (lv_at hl 0 rfl) ?_
                refine gX_4 S hw dX0_allowed_91 ?_
                refine lv_iload_n hx hb dX0_allowed_94 rfl (lv_at hl 1 rfl) ?_
                have lc : x.toNat < wc := by omega
                have lb := (hD.2.2.2 _ lc).2.1
                refine aX_4 hx hb hw (x.toNat) (z := x) (v := len x.toNat) (by omega) (by omega) ((xD.2.1 _ lc).1) dX0_allowed_95 ?_
                have eL : xL wc len n cd x = len x.toNat := by unfold xL; rw [if_neg (fun q => by have := q.2; omega)]
                refine lv_istore_n (lv' := [(2, .int (iI (len x.toNat))), (0, .ref (h 0)), (1, .int (iI (x)))]) hx hb dX0_allowed_96 rfl hl (by decide) rfl (fun ls hl => ?_)
                refine lv_aload_n hx hb dX0_allowed_97 rfl (lv_at hl 1 rfl) ?_
                refine gX_7 S hw (v := N) i7 dX0_allowed_98 ?_
                refine lv_iload_n hx hb dX0_allowed_101 rfl (lv_at hl 0 rfl) ?_
                refine r_iadd (a := N) (b := len x.toNat) hx hb dX0_allowed_102 ?_
                refine r_sipush hx hb dX0_allowed_103 (by decide) ?_
                refine r_icmp_gt (a := (N + len x.toNat)) (b := 250) (tgt := 113) hx hb dX0_allowed_106 (by decide) (by omega) (by omega) (fun c_106 => ?_) (fun c_106 => ?_)
                · refine r_iconst hx hb dX0_allowed_113 ?_
                  exact G_retz (σ' := σ) (z := 0) hx hb hr hlk hw z_0 (⟨Or.inr ⟨rfl, fun q => by have := q.2.2.2; rw [eL] at this; omega⟩, rfl⟩) dX0_allowed_114
                · refine r_iconst hx hb dX0_allowed_109 ?_
                  refine lv_goto (tgt := 114) hx hb dX0_allowed_110 (by decide) ?_
                  exact G_retz (σ' := σ) (z := 1) hx hb hr hlk hw z_1 (⟨Or.inl ⟨rfl, ⟨by omega, fun q => absurd q (by omega), fun _ => ⟨by omega, fun q => by omega⟩, by rw [eL]; omega⟩⟩, rfl⟩) dX0_allowed_114
              · refine lv_aload_n hx hb dX0_allowed_69 rfl (lv_at hl 0 rfl) ?_
                refine gX_4 S hw dX0_allowed_70 ?_
                refine lv_aload_n hx hb dX0_allowed_73 rfl (lv_at hl 0 rfl) ?_
                refine gX_5 S hw dX0_allowed_74 ?_
                refine lv_aload_n hx hb dX0_allowed_77 rfl (lv_at hl 0 rfl) ?_
                refine gX_6 S hw (v := n) i6 dX0_allowed_78 ?_
                refine r_iconst hx hb dX0_allowed_81 ?_
                refine r_isub (a := n) (b := 1) hx hb dX0_allowed_82 ?_
                refine aX_5 hx hb hw (n - 1) (z := (n - 1)) (v := cd (n - 1)) (by omega) (by omega) (xC.2.2 (n - 1) (by omega)) dX0_allowed_83 ?_
                have lc : cd (n - 1) < wc := (hC.2.2.2 (n - 1) (by omega)).1
                have lb := (hD.2.2.2 _ lc).2.1
                refine aX_4 hx hb hw (cd (n - 1)) (z := cd (n - 1)) (v := len (cd (n - 1))) (by omega) (by omega) ((xD.2.1 _ lc).1) dX0_allowed_84 ?_
                refine r_iconst hx hb dX0_allowed_85 ?_
                refine r_iadd (a := len (cd (n - 1))) (b := 1) hx hb dX0_allowed_86 ?_
                refine lv_goto (tgt := 96) hx hb dX0_allowed_87 (by decide) ?_
                have eL : xL wc len n cd x = len (cd (n - 1)) + 1 := by unfold xL; rw [if_pos ⟨n0, by omega⟩]
                refine lv_istore_n (lv' := [(2, .int (iI ((len (cd (n - 1)) + 1)))), (0, .ref (h 0)), (1, .int (iI (x)))]) hx hb dX0_allowed_96 rfl hl (by decide) rfl (fun ls hl => ?_)
                refine lv_aload_n hx hb dX0_allowed_97 rfl (lv_at hl 1 rfl) ?_
                refine gX_7 S hw (v := N) i7 dX0_allowed_98 ?_
                refine lv_iload_n hx hb dX0_allowed_101 rfl (lv_at hl 0 rfl) ?_
                refine r_iadd (a := N) (b := (len (cd (n - 1)) + 1)) hx hb dX0_allowed_102 ?_
                refine r_sipush hx hb dX0_allowed_103 (by decide) ?_
                refine r_icmp_gt (a := (N + (len (cd (n - 1)) + 1))) (b := 250) (tgt := 113) hx hb dX0_allowed_106 (by decide) (by omega) (by omega) (fun c_106 => ?_) (fun c_106 => ?_)
                · refine r_iconst hx hb dX0_allowed_113 ?_
                  exact G_retz (σ' := σ) (z := 0) hx hb hr hlk hw z_0 (⟨Or.inr ⟨rfl, fun q => by have := q.2.2.2; rw [eL] at this; omega⟩, rfl⟩) dX0_allowed_114
                · refine r_iconst hx hb dX0_allowed_109 ?_
                  refine lv_goto (tgt := 114) hx hb dX0_allowed_110 (by decide) ?_
                  exact G_retz (σ' := σ) (z := 1) hx hb hr hlk hw z_1 (⟨Or.inl ⟨rfl, ⟨by omega, fun q => absurd q (by omega), fun _ => ⟨by omega, fun q => by omega⟩, by rw [eL]; omega⟩⟩, rfl⟩) dX0_allowed_114
            · refine r_iconst hx hb dX0_allowed_59 ?_
              exact G_retz (σ' := σ) (z := 0) hx hb hr hlk hw z_0 (⟨Or.inr ⟨rfl, fun q => by have := q.2.2.1 n0; omega⟩, rfl⟩) dX0_allowed_60
      · have n0 : n = 0 := by omega
        refine lv_iload_n hx hb dX0_allowed_23 rfl (lv_at hl 1 rfl) ?_
        refine r_iconst hx hb dX0_allowed_24 ?_
        refine r_icmp_ge (a := x) (b := 4) (tgt := 32) hx hb dX0_allowed_25 (by decide) (by omega) (by omega) (fun c_25 => ?_) (fun c_25 => ?_)
        · refine r_iconst hx hb dX0_allowed_32 ?_
          exact G_retz (σ' := σ) (z := 0) hx hb hr hlk hw z_0 (⟨Or.inr ⟨rfl, fun q => by have := q.2.1 (by omega); omega⟩, rfl⟩) dX0_allowed_33
        · refine r_iconst hx hb dX0_allowed_28 ?_
          refine lv_goto (tgt := 33) hx hb dX0_allowed_29 (by decide) ?_
          exact G_retz (σ' := σ) (z := 1) hx hb hr hlk hw z_1 (⟨Or.inl ⟨rfl, by subst n0; exact okF_0 hD hC (by omega) (by omega)⟩, rfl⟩) dX0_allowed_33
    · refine r_iconst hx hb dX0_allowed_14 ?_
      exact G_retz (σ' := σ) (z := 0) hx hb hr hlk hw z_0 (⟨Or.inr ⟨rfl, fun q => by have := okF_n hD hC q; omega⟩, rfl⟩) dX0_allowed_15
set_option maxRecDepth 100000 in
theorem mX_addWord (l : Launch) (D : va_G) (cB cS : ClassId) (h : Nat → Nat) (σ : St) {wc : Nat} (v : Nat) (f : Int) (i0 : σ 0 0 = (wc : Int)) (hw60 : wc < 60) (hv : v < 60) (hf : 0 ≤ f ∧ f < 4) (h3 : 0 ≤ σ 3 v ∧ σ 3 v < 4) (h4 : 0 ≤ σ 4 v ∧ σ 4 v ≤ 250) :
    GMv l yX0_addWord cX0_addWord 3 none 0 0 D [(cB, .byte), (cS, .short)] (wX h cB cS) (adX h) (h 0) [.int (iI (v)), .int (iI (f))] σ (fun σ' => σ' = up2 (up2 (up2 (up2 (up2 σ 1 wc v) 2 wc f) 3 wc (σ 3 v)) 4 wc (σ 4 v + 1)) 0 0 (wc + 1)) := by
  refine GMv.of (by decide) rfl (Nat.le_of_ble_eq_true rfl) ?_
  intro p e s mi bl me co A ls S hr hlk hw hl
  have S : CallFix p mi co cX0_addWord 3 s _ lw_all RX0 := S
  have hx := S.1
  have hb := S.2.1
  have hts := S.2.2.2.2
  have hl : lv_has ls 3 [(0, .ref (h 0)), (1, .int (iI (v))), (2, .int (iI (f)))] := hl
  refine lv_aload_n hx hb dX0_addWord_0 rfl (lv_at hl 0 rfl) ?_
  refine gX_1 S hw dX0_addWord_1 ?_
  refine lv_aload_n hx hb dX0_addWord_4 rfl (lv_at hl 0 rfl) ?_
  refine gX_0 S hw (v := wc) i0 dX0_addWord_5 ?_
  refine lv_iload_n hx hb dX0_addWord_8 rfl (lv_at hl 1 rfl) ?_
  refine r_i2b (a := v) hx hb dX0_addWord_9 (by omega) ?_
  refine sX_1 hx hb hw (wc) (z := wc) (v := v) (by omega) (by omega) (by omega) dX0_addWord_10 (fun H locs hw => ?_)
  refine lv_aload_n hx hb dX0_addWord_11 rfl (lv_at hl 0 rfl) ?_
  refine gX_2 S hw dX0_addWord_12 ?_
  refine lv_aload_n hx hb dX0_addWord_15 rfl (lv_at hl 0 rfl) ?_
  refine gX_0 S hw (v := wc) i0 dX0_addWord_16 ?_
  refine lv_iload_n hx hb dX0_addWord_19 rfl (lv_at hl 2 rfl) ?_
  refine r_i2b (a := f) hx hb dX0_addWord_20 (by omega) ?_
  refine sX_2 hx hb hw (wc) (z := wc) (v := f) (by omega) (by omega) (by omega) dX0_addWord_21 (fun H locs hw => ?_)
  refine lv_aload_n hx hb dX0_addWord_22 rfl (lv_at hl 0 rfl) ?_
  refine gX_3 S hw dX0_addWord_23 ?_
  refine lv_aload_n hx hb dX0_addWord_26 rfl (lv_at hl 0 rfl) ?_
  refine gX_0 S hw (v := wc) i0 dX0_addWord_27 ?_
  refine lv_aload_n hx hb dX0_addWord_30 rfl (lv_at hl 0 rfl) ?_
  refine gX_3 S hw dX0_addWord_31 ?_
  refine lv_iload_n hx hb dX0_addWord_34 rfl (lv_at hl 1 rfl) ?_
  refine aX_3 hx hb hw (v) (z := v) (v := σ 3 v) (by omega) (by omega) (rfl) dX0_addWord_35 ?_
  refine sX_3 hx hb hw (wc) (z := wc) (v := σ 3 v) (by omega) (by omega) (by omega) dX0_addWord_36 (fun H locs hw => ?_)
  refine lv_aload_n hx hb dX0_addWord_37 rfl (lv_at hl 0 rfl) ?_
  refine gX_4 S hw dX0_addWord_38 ?_
  refine lv_aload_n hx hb dX0_addWord_41 rfl (lv_at hl 0 rfl) ?_
  refine gX_0 S hw (v := wc) i0 dX0_addWord_42 ?_
  refine lv_aload_n hx hb dX0_addWord_45 rfl (lv_at hl 0 rfl) ?_
  refine gX_4 S hw dX0_addWord_46 ?_
  refine lv_iload_n hx hb dX0_addWord_49 rfl (lv_at hl 1 rfl) ?_
  refine aX_4 hx hb hw (v) (z := v) (v := σ 4 v) (by omega) (by omega) (rfl) dX0_addWord_50 ?_
  refine r_iconst hx hb dX0_addWord_51 ?_
  refine r_iadd (a := σ 4 v) (b := 1) hx hb dX0_addWord_52 ?_
  refine r_i2s (a := (σ 4 v + 1)) hx hb dX0_addWord_53 (by omega) ?_
  refine sX_4 hx hb hw (wc) (z := wc) (v := (σ 4 v + 1)) (by omega) (by omega) (by omega) dX0_addWord_54 (fun H locs hw => ?_)
  refine lv_aload_n hx hb dX0_addWord_55 rfl (lv_at hl 0 rfl) ?_
  refine lv_dup hx hb dX0_addWord_56 rfl ?_
  refine gX_0 S hw (v := wc) i0 dX0_addWord_57 ?_
  refine r_iconst hx hb dX0_addWord_60 ?_
  refine r_iadd (a := wc) (b := 1) hx hb dX0_addWord_61 ?_
  refine pX_0 S hw (v := (wc + 1)) dX0_addWord_62 (fun H locs hw => ?_)
  exact G_retv (σ' := (up2 (up2 (up2 (up2 (up2 σ 1 (wc) (v)) 2 (wc) (f)) 3 (wc) (σ 3 v)) 4 (wc) ((σ 4 v + 1))) 0 0 ((wc + 1)))) hx hb hr hlk hw (rfl) dX0_addWord_65
set_option maxRecDepth 100000 in
theorem mX_isWord (l : Launch) (D : va_G) (cB cS : ClassId) (h : Nat → Nat) (σ : St) {wc : Nat} (x : Int) (i0 : σ 0 0 = (wc : Int)) (hwc : wc ≤ 60) (bx : -2147483648 ≤ x ∧ x < 2147483648) :
    GMi l yX0_isWord cX0_isWord 2 (some .boolean) 0 0 D [(cB, .byte), (cS, .short)] (wX h cB cS) (adX h) (h 0) [.int (iI (x))] σ (fun z σ' => ((z = 1 ∧ 0 ≤ x ∧ x < wc) ∨ (z = 0 ∧ ¬ (0 ≤ x ∧ x < wc))) ∧ σ' = σ) := by
  refine GMi.of (by decide) rfl (Nat.le_of_ble_eq_true rfl) ?_
  intro p e s mi bl me co A ls S hr hlk hw hl
  have S : CallFix p mi co cX0_isWord 2 s _ lw_all RX0 := S
  have hx := S.1
  have hb := S.2.1
  have hts := S.2.2.2.2
  have hl : lv_has ls 2 [(0, .ref (h 0)), (1, .int (iI (x)))] := hl
  refine lv_iload_n hx hb dX0_isWord_0 rfl (lv_at hl 1 rfl) ?_
  refine r_if_lt (a := x) (tgt := 16) hx hb dX0_isWord_1 (by decide) (by omega) (fun c_1 => ?_) (fun c_1 => ?_)
  · refine r_iconst hx hb dX0_isWord_16 ?_
    exact G_retz (σ' := σ) (z := 0) hx hb hr hlk hw z_0 (⟨Or.inr ⟨rfl, by omega⟩, rfl⟩) dX0_isWord_17
  · refine lv_iload_n hx hb dX0_isWord_4 rfl (lv_at hl 1 rfl) ?_
    refine lv_aload_n hx hb dX0_isWord_5 rfl (lv_at hl 0 rfl) ?_
    refine gX_0 S hw (v := wc) i0 dX0_isWord_6 ?_
    refine r_icmp_ge (a := x) (b := wc) (tgt := 16) hx hb dX0_isWord_9 (by decide) (by omega) (by omega) (fun c_9 => ?_) (fun c_9 => ?_)
    · refine r_iconst hx hb dX0_isWord_16 ?_
      exact G_retz (σ' := σ) (z := 0) hx hb hr hlk hw z_0 (⟨Or.inr ⟨rfl, by omega⟩, rfl⟩) dX0_isWord_17
    · refine r_iconst hx hb dX0_isWord_12 ?_
      refine lv_goto (tgt := 17) hx hb dX0_isWord_13 (by decide) ?_
      exact G_retz (σ' := σ) (z := 1) hx hb hr hlk hw z_1 (⟨Or.inl ⟨rfl, by omega, by omega⟩, rfl⟩) dX0_isWord_17
end
section
/-! CodeSearcher: words and symbols (printed by gen/x2.py) -/
set_option maxRecDepth 100000 in
/-- the k-th symbol of a word -/
theorem mX_symbolIn (l : Launch) (D : va_G) (cB cS : ClassId) (h : Nat → Nat) (σ : St) {wc : Nat} {len : Nat → Nat} {sy : Nat → Nat → Nat} {n N : Nat} {cd bg T : Nat → Nat} {m : Nat} {P : Nat → Nat} (w k : Nat) (hf : Wf wc len sy n N cd bg T m P) (hr0 : XRep wc len sy n N cd T m P σ) (hw0 : w < wc) (hk0 : k < len w) :
    GMi l yX0_symbolIn cX0_symbolIn 5 (some .int) 0 0 D [(cB, .byte), (cS, .short)] (wX h cB cS) (adX h) (h 0) [.int (iI (w)), .int (iI (k))] σ (fun z σ' => z = sy w k ∧ σ' = σ) := by
  obtain ⟨hD, hC, hPt⟩ := hf
  obtain ⟨xD, xC, xP, xT, xK⟩ := hr0
  have d1 := hD.1
  have d2 := hD.2.1
  have i0 : σ 0 0 = (wc : Int) := xD.1
  have i6 : σ 6 0 = (n : Int) := xC.1
  have i7 : σ 7 0 = (N : Int) := xC.2.1
  have i9 : σ 9 0 = (m : Int) := xP.1
  have p1 : m ≤ 6 := hPt.1
  have hN : N ≤ 250 := hC.1
  have hnN : n ≤ N := hC.nN hD
  have hlw := (hD.2.2.2 w hw0).1
  have hlw2 := (hD.2.2.2 w hw0).2.1
  refine GMi.of (by decide) rfl (Nat.le_of_ble_eq_true rfl) ?_
  intro p e s mi bl me co A ls S hr hlk hw hl
  have S : CallFix p mi co cX0_symbolIn 5 s _ lw_all RX0 := S
  have hx := S.1
  have hb := S.2.1
  have hts := S.2.2.2.2
  have hl : lv_has ls 5 [(0, .ref (h 0)), (1, .int (iI (w))), (2, .int (iI (k)))] := hl
  refine lv_iload_n hx hb dX0_symbolIn_0 rfl (lv_at hl 1 rfl) ?_
  refine lv_istore_n (lv' := [(3, .int (iI (w))), (0, .ref (h 0)), (1, .int (iI (w))), (2, .int (iI (k)))]) hx hb dX0_symbolIn_1 rfl hl (by decide) rfl (fun ls hl => ?_)
  refine lv_aload_n hx hb dX0_symbolIn_2 rfl (lv_at hl 1 rfl) ?_
  refine gX_4 S hw dX0_symbolIn_3 ?_
  refine lv_iload_n hx hb dX0_symbolIn_6 rfl (lv_at hl 2 rfl) ?_
  refine aX_4 hx hb hw (w) (z := w) (v := len w) (by omega) (by omega) ((xD.2.1 w hw0).1) dX0_symbolIn_7 ?_
  refine r_iconst hx hb dX0_symbolIn_8 ?_
  refine r_isub (a := len w) (b := 1) hx hb dX0_symbolIn_9 ?_
  refine lv_istore (lv' := [(4, .int (iI ((len w - 1)))), (3, .int (iI (w))), (0, .ref (h 0)), (1, .int (iI (w))), (2, .int (iI (k)))]) hx hb dX0_symbolIn_10 hl (by decide) rfl (fun ls hl => ?_)
  have loop12 : ∀ (f : Nat) (v : Nat) (q : Nat) (σ1 : St) (H : Heap) (locs : List Loc) (ls : Array Slot), q < k + f → (v < wc) → (len v = q + 1) → (k ≤ q) → (∀ i, i ≤ q → sy v i = sy w i) → (σ1 = σ) → GW D [(cB, .byte), (cS, .short)] (wX h cB cS σ1) A s H locs → lv_has ls 5 [(0, .ref (h 0)), (1, .int (iI (w))), (2, .int (iI (k))), (3, .int (iI (v))), (4, .int (iI (q)))] → W p l e ({ frames := 0, cells := 0, slots := 0, locals := 0 }) s mi (Value.ref (h 0) :: [.int (iI (w)), .int (iI (k))]).toArray bl me co H locs 0 0 (QGi D [(cB, .byte), (cS, .short)] (wX h cB cS) A s (Value.ref (h 0) :: [.int (iI (w)), .int (iI (k))]).toArray bl (fun z σ' => z = sy w k ∧ σ' = σ)) (F0 mi 12 ls []) := by
    intro f
    induction f with
    | zero =>
      intro v q σ1 H locs ls q0 j1 j2 j3 j4 j5
      exact absurd q0 (by omega)
    | succ f ih12 =>
      intro v q σ1 H locs ls q0 j1 j2 j3 j4 j5 hw hl
      have lv2 := (hD.2.2.2 v j1).2.1
      rw [j5] at hw
      refine lv_iload hx hb dX0_symbolIn_12 (lv_at hl 4 rfl) ?_
      refine lv_iload_n hx hb dX0_symbolIn_14 rfl (lv_at hl 2 rfl) ?_
      refine r_icmp_le (a := q) (b := k) (tgt := 31) hx hb dX0_symbolIn_15 (by decide) (by omega) (by omega) (fun c_15 => ?_) (fun c_15 => ?_)
      · refine lv_aload_n hx hb dX0_symbolIn_31 rfl (lv_at hl 0 rfl) ?_
        refine gX_2 S hw dX0_symbolIn_32 ?_
        refine lv_iload_n hx hb dX0_symbolIn_35 rfl (lv_at hl 3 rfl) ?_
        refine aX_2 hx hb hw (v) (z := v) (v := sy w k) (by omega) (by omega) (by rw [(xD.2.1 v j1).2.1, j2, show q + 1 - 1 = k by omega, j4 k (by omega)]) dX0_symbolIn_36 ?_
        exact G_reti (σ' := σ) (z := sy w k) hx hb hr hlk hw (⟨rfl, rfl⟩) dX0_symbolIn_37
      · refine lv_aload_n hx hb dX0_symbolIn_18 rfl (lv_at hl 0 rfl) ?_
        refine gX_1 S hw dX0_symbolIn_19 ?_
        refine lv_iload_n hx hb dX0_symbolIn_22 rfl (lv_at hl 3 rfl) ?_
        have v4 : 4 ≤ v := by
          rcases Nat.lt_or_ge v 4 with z | z
          · have := (hD.2.2.1 v z).1; omega
          · exact z
        obtain ⟨v2, e1, e2, e3, e4⟩ := xD.2.2.2 v v4 j1
        refine aX_1 hx hb hw (v) (z := v) (v := v2) (by omega) (by omega) (e2) dX0_symbolIn_23 ?_
        refine lv_istore_n (lv' := [(3, .int (iI (v2))), (0, .ref (h 0)), (1, .int (iI (w))), (2, .int (iI (k))), (4, .int (iI (q)))]) hx hb dX0_symbolIn_24 rfl hl (by decide) rfl (fun ls hl => ?_)
        refine r_iinc (a := q) (lv' := [(4, .int (iI (q + (-1)))), (3, .int (iI (v2))), (0, .ref (h 0)), (1, .int (iI (w))), (2, .int (iI (k)))]) (k := 4) hx hb dX0_symbolIn_25 hl rfl (by decide) rfl (fun ls hl => ?_)
        refine lv_goto (tgt := 12) hx hb dX0_symbolIn_28 (by decide) ?_
        exact ih12 (v2) (q - 1) (σ) _ _ _ (by omega) (by omega) (by omega) (by omega) (fun i hi => by rw [← e4 i (by omega)]; exact j4 i (by omega)) (rfl) hw (by rw [show ((q - 1 : Nat) : Int) = (q : Int) + -1 from by omega]; exact lv_sub hl [2, 3, 4, 1, 0] rfl)
  exact loop12 (len w) (w) (len w - 1) (σ) _ _ _ (by omega) (hw0) (by omega) (by omega) (fun i _ => rfl) (rfl) hw (by rw [show ((len w - 1 : Nat) : Int) = (len w : Int) - 1 from by omega]; exact lv_sub hl [2, 3, 4, 1, 0] rfl)
set_option maxRecDepth 100000 in
theorem mX_wordLength (l : Launch) (D : va_G) (cB cS : ClassId) (h : Nat → Nat) (σ : St) {wc : Nat} {len : Nat → Nat} {sy : Nat → Nat → Nat} {n N : Nat} {cd bg T : Nat → Nat} {m : Nat} {P : Nat → Nat} (x : Int) (hf : Wf wc len sy n N cd bg T m P) (hr0 : XRep wc len sy n N cd T m P σ) (bx : -2147483648 ≤ x ∧ x < 2147483648) :
    GMi l yX0_wordLength cX0_wordLength 2 (some .int) 1 21 D [(cB, .byte), (cS, .short)] (wX h cB cS) (adX h) (h 0) [.int (iI (x))] σ (fun z σ' => ((0 ≤ x ∧ x < wc ∧ z = len x.toNat) ∨ (¬ (0 ≤ x ∧ x < wc) ∧ z = -1)) ∧ σ' = σ) := by
  obtain ⟨hD, hC, hPt⟩ := hf
  obtain ⟨xD, xC, xP, xT, xK⟩ := hr0
  have d1 := hD.1
  have d2 := hD.2.1
  have i0 : σ 0 0 = (wc : Int) := xD.1
  have i6 : σ 6 0 = (n : Int) := xC.1
  have i7 : σ 7 0 = (N : Int) := xC.2.1
  have i9 : σ 9 0 = (m : Int) := xP.1
  have p1 : m ≤ 6 := hPt.1
  have hN : N ≤ 250 := hC.1
  have hnN : n ≤ N := hC.nN hD
  refine GMi.of (by decide) rfl (Nat.le_of_ble_eq_true rfl) ?_
  intro p e s mi bl me co A ls S hr hlk hw hl
  have S : CallFix p mi co cX0_wordLength 2 s _ lw_all RX0 := S
  have hx := S.1
  have hb := S.2.1
  have hts := S.2.2.2.2
  have hl : lv_has ls 2 [(0, .ref (h 0)), (1, .int (iI (x)))] := hl
  refine lv_aload_n hx hb dX0_wordLength_0 rfl (lv_at hl 0 rfl) ?_
  refine lv_iload_n hx hb dX0_wordLength_1 rfl (lv_at hl 1 rfl) ?_
  refine cX_i (As := [.int (iI (x))]) (rest := []) S hw (mX_isWord l D cB cS h σ x i0 (by omega) bx) (cwV 1 hts (lw_V q138 q140 qs3 q15 q141) rfl rfl rfl (by decide +kernel) ⟨Nat.le_of_ble_eq_true rfl, Nat.le_of_ble_eq_true rfl⟩) ⟨Nat.le_refl 0, Nat.le_refl 0⟩ rfl hl.1 rfl (Nat.le_of_ble_eq_true rfl) dX0_wordLength_2 (fun z1 σ1 H locs hp1 hw => ?_)
  obtain ⟨hz, es⟩ := hp1
  rw [es] at hw
  refine r_if_eq (a := z1) (tgt := 17) hx hb dX0_wordLength_5 (by decide) (by omega) (fun c_5 => ?_) (fun c_5 => ?_)
  · have hno : ¬ (0 ≤ x ∧ x < wc) := by omega
    refine r_iconst hx hb dX0_wordLength_17 ?_
    exact G_reti (σ' := σ) (z := (-1)) hx hb hr hlk hw (⟨Or.inr ⟨hno, rfl⟩, rfl⟩) dX0_wordLength_18
  · have hyes : 0 ≤ x ∧ x < wc := by omega
    refine lv_aload_n hx hb dX0_wordLength_8 rfl (lv_at hl 0 rfl) ?_
    refine gX_4 S hw dX0_wordLength_9 ?_
    refine lv_iload_n hx hb dX0_wordLength_12 rfl (lv_at hl 1 rfl) ?_
    refine aX_4 hx hb hw (x.toNat) (z := x) (v := len x.toNat) (by omega) (by omega) ((xD.2.1 _ (by omega)).1) dX0_wordLength_13 ?_
    refine lv_goto (tgt := 18) hx hb dX0_wordLength_14 (by decide) ?_
    exact G_reti (σ' := σ) (z := len x.toNat) hx hb hr hlk hw (⟨Or.inl ⟨hyes.1, hyes.2, rfl⟩, rfl⟩) dX0_wordLength_18
set_option maxRecDepth 100000 in
theorem mX_wordSymbol (l : Launch) (D : va_G) (cB cS : ClassId) (h : Nat → Nat) (σ : St) {wc : Nat} {len : Nat → Nat} {sy : Nat → Nat → Nat} {n N : Nat} {cd bg T : Nat → Nat} {m : Nat} {P : Nat → Nat} (x y : Int) (hf : Wf wc len sy n N cd bg T m P) (hr0 : XRep wc len sy n N cd T m P σ) (bx : -2147483648 ≤ x ∧ x < 2147483648) (by0 : -2147483648 ≤ y ∧ y < 2147483648) :
    GMi l yX0_wordSymbol cX0_wordSymbol 3 (some .int) 1 24 D [(cB, .byte), (cS, .short)] (wX h cB cS) (adX h) (h 0) [.int (iI (x)), .int (iI (y))] σ (fun z σ' => ((0 ≤ x ∧ x < wc ∧ 0 ≤ y ∧ y < len x.toNat ∧ z = sy x.toNat y.toNat) ∨ (¬ (0 ≤ x ∧ x < wc ∧ 0 ≤ y ∧ y < len x.toNat) ∧ z = -1)) ∧ σ' = σ) := by
  have hf0 := hf
  have hr00 := hr0
  obtain ⟨hD, hC, hPt⟩ := hf
  obtain ⟨xD, xC, xP, xT, xK⟩ := hr0
  have d1 := hD.1
  have d2 := hD.2.1
  have i0 : σ 0 0 = (wc : Int) := xD.1
  have i6 : σ 6 0 = (n : Int) := xC.1
  have i7 : σ 7 0 = (N : Int) := xC.2.1
  have i9 : σ 9 0 = (m : Int) := xP.1
  have p1 : m ≤ 6 := hPt.1
  have hN : N ≤ 250 := hC.1
  have hnN : n ≤ N := hC.nN hD
  refine GMi.of (by decide) rfl (Nat.le_of_ble_eq_true rfl) ?_
  intro p e s mi bl me co A ls S hr hlk hw hl
  have S : CallFix p mi co cX0_wordSymbol 3 s _ lw_all RX0 := S
  have hx := S.1
  have hb := S.2.1
  have hts := S.2.2.2.2
  have hl : lv_has ls 3 [(0, .ref (h 0)), (1, .int (iI (x))), (2, .int (iI (y)))] := hl
  refine lv_aload_n hx hb dX0_wordSymbol_0 rfl (lv_at hl 0 rfl) ?_
  refine lv_iload_n hx hb dX0_wordSymbol_1 rfl (lv_at hl 1 rfl) ?_
  refine cX_i (As := [.int (iI (x))]) (rest := []) S hw (mX_isWord l D cB cS h σ x i0 (by omega) bx) (cwV 1 hts (lw_V q138 q140 qs3 q15 q141) rfl rfl rfl (by decide +kernel) ⟨Nat.le_of_ble_eq_true rfl, Nat.le_of_ble_eq_true rfl⟩) ⟨Nat.le_refl 0, Nat.le_refl 0⟩ rfl hl.1 rfl (Nat.le_of_ble_eq_true rfl) dX0_wordSymbol_2 (fun z1 σ1 H locs hp1 hw => ?_)
  obtain ⟨hz, es⟩ := hp1
  rw [es] at hw
  refine r_if_eq (a := z1) (tgt := 22) hx hb dX0_wordSymbol_5 (by decide) (by omega) (fun c_5 => ?_) (fun c_5 => ?_)
  · have hno : ¬ (0 ≤ x ∧ x < wc) := by omega
    refine r_iconst hx hb dX0_wordSymbol_22 ?_
    exact G_reti (σ' := σ) (z := (-1)) hx hb hr hlk hw (⟨Or.inr ⟨fun q => hno ⟨q.1, q.2.1⟩, rfl⟩, rfl⟩) dX0_wordSymbol_23
  · have hyes : 0 ≤ x ∧ x < wc := by omega
    have lb := (hD.2.2.2 x.toNat (by omega)).2.1
    refine lv_iload_n hx hb dX0_wordSymbol_8 rfl (lv_at hl 2 rfl) ?_
    refine r_if_lt (a := y) (tgt := 22) hx hb dX0_wordSymbol_9 (by decide) (by omega) (fun c_9 => ?_) (fun c_9 => ?_)
    · refine r_iconst hx hb dX0_wordSymbol_22 ?_
      exact G_reti (σ' := σ) (z := (-1)) hx hb hr hlk hw (⟨Or.inr ⟨fun q => by omega, rfl⟩, rfl⟩) dX0_wordSymbol_23
    · refine lv_iload_n hx hb dX0_wordSymbol_12 rfl (lv_at hl 2 rfl) ?_
      refine lv_aload_n hx hb dX0_wordSymbol_13 rfl (lv_at hl 0 rfl) ?_
      refine gX_4 S hw dX0_wordSymbol_14 ?_
      refine lv_iload_n hx hb dX0_wordSymbol_17 rfl (lv_at hl 1 rfl) ?_
      refine aX_4 hx hb hw (x.toNat) (z := x) (v := len x.toNat) (by omega) (by omega) ((xD.2.1 _ (by omega)).1) dX0_wordSymbol_18 ?_
      refine r_icmp_lt (a := y) (b := len x.toNat) (tgt := 24) hx hb dX0_wordSymbol_19 (by decide) (by omega) (by omega) (fun c_19 => ?_) (fun c_19 => ?_)
      · refine lv_aload_n hx hb dX0_wordSymbol_24 rfl (lv_at hl 0 rfl) ?_
        refine lv_iload_n hx hb dX0_wordSymbol_25 rfl (lv_at hl 1 rfl) ?_
        refine lv_iload_n hx hb dX0_wordSymbol_26 rfl (lv_at hl 2 rfl) ?_
        have ex : x = ((x.toNat : Nat) : Int) := by omega
        have ey : y = ((y.toNat : Nat) : Int) := by omega
        refine cX_i (As := [.int (iI (x)), .int (iI (y))]) (rest := []) S hw (by rw [ex, ey]; exact mX_symbolIn l D cB cS h σ x.toNat y.toNat hf0 hr00 (by omega) (by omega)) (cwV 2 hts (lw_V q146 q148 qs4 q15 q149) rfl rfl rfl (by decide +kernel) ⟨Nat.le_of_ble_eq_true rfl, Nat.le_of_ble_eq_true rfl⟩) ⟨Nat.le_refl 0, Nat.le_refl 0⟩ rfl hl.1 rfl (Nat.le_of_ble_eq_true rfl) dX0_wordSymbol_27 (fun z2 σ1 H locs hp1 hw => ?_)
        obtain ⟨hz2, es⟩ := hp1
        rw [es] at hw
        exact G_reti (σ' := σ) (z := z2) hx hb hr hlk hw (⟨Or.inl ⟨hyes.1, hyes.2, by omega, by omega, hz2⟩, rfl⟩) dX0_wordSymbol_30
      · refine r_iconst hx hb dX0_wordSymbol_22 ?_
        exact G_reti (σ' := σ) (z := (-1)) hx hb hr hlk hw (⟨Or.inr ⟨fun q => by omega, rfl⟩, rfl⟩) dX0_wordSymbol_23
end
section
/-! PLAIN: what feed, restart, extend, shorten make of the abstract state, and that CodeSearcher's cells follow -/
def nL (wc : Nat) (len : Nat → Nat) (v : Nat) : Nat → Nat := fun w => if w = wc then len v + 1 else len w
def nS (wc : Nat) (len : Nat → Nat) (sy : Nat → Nat → Nat) (v f : Nat) : Nat → Nat → Nat := fun w k => if w = wc then (if k < len v then sy v k else f) else sy w k
def fF (wc : Nat) (sy : Nat → Nat → Nat) (n : Nat) (cd : Nat → Nat) (x : Nat) : Nat := if x = wc then sy (cd (n - 1)) 0 else sy x 0
def fWc (wc n : Nat) : Nat := if 0 < n ∧ wc < 60 then wc + 1 else wc
def fLen (wc : Nat) (len : Nat → Nat) (n : Nat) (cd : Nat → Nat) : Nat → Nat := if 0 < n ∧ wc < 60 then nL wc len (cd (n - 1)) else len
def fSy (wc : Nat) (len : Nat → Nat) (sy : Nat → Nat → Nat) (n : Nat) (cd : Nat → Nat) (x : Nat) : Nat → Nat → Nat := if 0 < n ∧ wc < 60 then nS wc len sy (cd (n - 1)) (fF wc sy n cd x) else sy
def aC (n : Nat) (cd : Nat → Nat) (x : Nat) : Nat → Nat := fun k => if k = n then x else cd k
def aB (n N : Nat) (bg : Nat → Nat) (L : Nat) : Nat → Nat := fun k => if k = n + 1 then N + L else bg k
def aT (N : Nat) (T s : Nat → Nat) : Nat → Nat := fun i => if i < N then T i else s (i - N)
theorem nL_o {wc : Nat} {len : Nat → Nat} {v w : Nat} (h : w ≠ wc) : nL wc len v w = len w := if_neg h
theorem nL_n {wc : Nat} {len : Nat → Nat} {v : Nat} : nL wc len v wc = len v + 1 := if_pos rfl
theorem nS_o {wc : Nat} {len : Nat → Nat} {sy : Nat → Nat → Nat} {v f w : Nat} (h : w ≠ wc) : nS wc len sy v f w = sy w := by
  funext k; exact if_neg h
theorem nS_n {wc : Nat} {len : Nat → Nat} {sy : Nat → Nat → Nat} {v f k : Nat} : nS wc len sy v f wc k = if k < len v then sy v k else f := if_pos rfl
theorem Dict.add {wc : Nat} {len : Nat → Nat} {sy : Nat → Nat → Nat} {v f : Nat} (hd : Dict wc len sy) (hw : wc < 60) (hv : v < wc) (hl : len v + 1 ≤ 250) (hf : f < 4) : Dict (wc + 1) (nL wc len v) (nS wc len sy v f) := by
  obtain ⟨h1, h2, h3, h4⟩ := hd
  refine ⟨by omega, by omega, fun w hw4 => ?_, fun w hw1 => ?_⟩
  · rw [nL_o (by omega), nS_o (by omega)]; exact h3 w hw4
  · by_cases q : w = wc
    · subst q
      rw [nL_n]
      refine ⟨by omega, hl, fun k hk => ?_⟩
      rw [nS_n]
      split
      · exact (h4 v hv).2.2 k (by assumption)
      · exact hf
    · rw [nL_o q, nS_o q]; exact h4 w (by omega)
theorem Cods.add {wc : Nat} {len : Nat → Nat} {sy : Nat → Nat → Nat} {n N : Nat} {cd bg T : Nat → Nat} {v f : Nat} (hc : Cods wc len sy n N cd bg T) : Cods (wc + 1) (nL wc len v) (nS wc len sy v f) n N cd bg T := by
  obtain ⟨h1, h2, h3, h4⟩ := hc
  refine ⟨h1, h2, h3, fun k hk => ?_⟩
  obtain ⟨a1, a2, a3⟩ := h4 k hk
  rw [nL_o (by omega), nS_o (by omega)]
  exact ⟨by omega, a2, a3⟩
theorem Cods.app {wc : Nat} {len : Nat → Nat} {sy : Nat → Nat → Nat} {n N : Nat} {cd bg T : Nat → Nat} {x : Nat} (hd : Dict wc len sy) (hc : Cods wc len sy n N cd bg T) (hx : x < wc) (hN : N + len x ≤ 250) : Cods wc len sy (n + 1) (N + len x) (aC n cd x) (aB n N bg (len x)) (aT N T (sy x)) := by
  have hbg := fun k h => hc.bgN hd k h
  obtain ⟨h1, h2, h3, h4⟩ := hc
  refine ⟨hN, by unfold aB; rw [if_neg (by omega)]; exact h2, if_pos rfl, fun k hk => ?_⟩
  by_cases q : k = n
  · subst q
    have e1 : aC k cd x k = x := if_pos rfl
    have e2 : aB k N bg (len x) k = N := by unfold aB; rw [if_neg (by omega)]; exact h3
    have e3 : aB k N bg (len x) (k + 1) = N + len x := if_pos rfl
    rw [e1, e2, e3]
    refine ⟨hx, rfl, fun j hj => ?_⟩
    unfold aT
    rw [if_neg (by omega), show N + j - N = j by omega]
  · obtain ⟨a1, a2, a3⟩ := h4 k (by omega)
    have e1 : aC n cd x k = cd k := if_neg q
    have e2 : aB n N bg (len x) k = bg k := if_neg (by omega)
    have e3 : aB n N bg (len x) (k + 1) = bg (k + 1) := if_neg (by omega)
    have hb1 := hbg (k + 1) (by omega)
    rw [e1, e2, e3]
    refine ⟨a1, a2, fun j hj => ?_⟩
    unfold aT
    rw [if_pos (by omega)]; exact a3 j hj
/-- an allowed code is a word of the dictionary behind it, of the length that was reckoned -/
theorem okF_x {wc : Nat} {len : Nat → Nat} {n N : Nat} {cd : Nat → Nat} {x : Int} (h4 : 4 ≤ wc) (h60 : wc ≤ 60) (ok : okF wc len n N cd x) : x.toNat < fWc wc n ∧ fLen wc len n cd x.toNat = xL wc len n cd x := by
  obtain ⟨q1, q2, q3, q4⟩ := ok
  unfold fWc fLen xL
  by_cases a : 0 < n
  · have q3 := q3 a
    by_cases b : x = (wc : Int)
    · have e1 : x.toNat = wc := by omega
      have hh : 0 < n ∧ wc < 60 := by omega
      rw [if_pos hh, if_pos hh, if_pos ⟨a, b⟩, e1, nL_n]
      exact ⟨by omega, rfl⟩
    · rw [if_neg (c := 0 < n ∧ x = (wc : Int)) (fun z => b z.2)]
      by_cases c9 : 0 < n ∧ wc < 60
      · rw [if_pos c9, if_pos c9, nL_o (by omega)]
        exact ⟨by omega, rfl⟩
      · rw [if_neg c9, if_neg c9]
        exact ⟨by omega, rfl⟩
  · rw [if_neg (fun z => a z.1), if_neg (fun z => a z.1), if_neg (fun z => a z.1)]
    have := q2 (by omega)
    exact ⟨by omega, rfl⟩
theorem last_len {wc : Nat} {len : Nat → Nat} {sy : Nat → Nat → Nat} {n N : Nat} {cd bg T : Nat → Nat} {x : Int} (hd : Dict wc len sy) (hc : Cods wc len sy n N cd bg T) (ok : okF wc len n N cd x) (hn : 0 < n) : cd (n - 1) < wc ∧ len (cd (n - 1)) + 1 ≤ 250 := by
  obtain ⟨a1, a2, -⟩ := hc.2.2.2 (n - 1) (by omega)
  rw [show n - 1 + 1 = n by omega, hc.2.2.1] at a2
  obtain ⟨q1, q2, q3, q4⟩ := ok
  have q3 := q3 hn
  refine ⟨a1, ?_⟩
  unfold xL at q4
  by_cases b : x = (wc : Int)
  · rw [if_pos ⟨hn, b⟩] at q4; omega
  · rw [if_neg (fun z => b z.2)] at q4
    have := (hd.2.2.2 x.toNat (by omega)).1
    omega
theorem fF_lt {wc : Nat} {len : Nat → Nat} {sy : Nat → Nat → Nat} {n N : Nat} {cd bg T : Nat → Nat} {x : Int} (hd : Dict wc len sy) (hc : Cods wc len sy n N cd bg T) (ok : okF wc len n N cd x) (hn : 0 < n) : fF wc sy n cd x.toNat < 4 := by
  obtain ⟨a1, a2⟩ := last_len hd hc ok hn
  unfold fF
  split
  · have := hd.2.2.2 _ a1
    exact this.2.2 0 (by omega)
  · have q3 := ok.2.2.1 hn
    have q1 := ok.1
    have := hd.2.2.2 x.toNat (by omega)
    exact this.2.2 0 (by omega)
theorem Wf.feed {wc : Nat} {len : Nat → Nat} {sy : Nat → Nat → Nat} {n N : Nat} {cd bg T : Nat → Nat} {m : Nat} {P : Nat → Nat} {x : Int} (hf : Wf wc len sy n N cd bg T m P) (ok : okF wc len n N cd x) :
    Wf (fWc wc n) (fLen wc len n cd) (fSy wc len sy n cd x.toNat) (n + 1) (N + fLen wc len n cd x.toNat) (aC n cd x.toNat) (aB n N bg (fLen wc len n cd x.toNat)) (aT N T (fSy wc len sy n cd x.toNat x.toNat)) m P := by
  obtain ⟨hd, hc, hp⟩ := hf
  obtain ⟨o1, o2⟩ := okF_x hd.1 hd.2.1 ok
  have q4 : N + fLen wc len n cd x.toNat ≤ 250 := by rw [o2]; exact ok.2.2.2
  by_cases a : 0 < n ∧ wc < 60
  · obtain ⟨b1, b2⟩ := last_len hd hc ok a.1
    have b3 := fF_lt hd hc ok a.1
    have e1 : fWc wc n = wc + 1 := if_pos a
    have e2 : fLen wc len n cd = nL wc len (cd (n - 1)) := if_pos a
    have e3 : fSy wc len sy n cd x.toNat = nS wc len sy (cd (n - 1)) (fF wc sy n cd x.toNat) := if_pos a
    rw [e1] at o1
    rw [e2] at q4
    rw [e1, e2, e3]
    have hd2 := hd.add a.2 b1 b2 b3
    exact ⟨hd2, hc.add.app hd2 o1 q4, hp⟩
  · have e1 : fWc wc n = wc := if_neg a
    have e2 : fLen wc len n cd = len := if_neg a
    have e3 : fSy wc len sy n cd x.toNat = sy := if_neg a
    rw [e1] at o1
    rw [e2] at q4
    rw [e1, e2, e3]
    exact ⟨hd, hc.app hd o1 q4, hp⟩
theorem XDict.add {wc : Nat} {len : Nat → Nat} {sy : Nat → Nat → Nat} {σ σ1 : St} {v f : Nat} (hd : Dict wc len sy) (hw : wc < 60) (hv : v < wc) (xD : XDict wc len sy σ)
    (e : σ1 = up2 (up2 (up2 (up2 (up2 σ 1 wc (v : Int)) 2 wc (f : Int)) 3 wc (σ 3 v)) 4 wc (σ 4 v + 1)) 0 0 ((wc : Int) + 1)) : XDict (wc + 1) (nL wc len v) (nS wc len sy v f) σ1 := by
  obtain ⟨h1, h2, h3, h4⟩ := xD
  obtain ⟨d1, d2, d3, d4⟩ := hd
  subst e
  have hlv := (d4 v hv).1
  refine ⟨by simp [up2], fun w hw1 => ?_, fun w hw4 => ?_, fun w w4 hw1 => ?_⟩
  · by_cases q : w = wc
    · subst q
      rw [nL_n, nS_n, nS_n, if_neg (by omega), if_pos (by omega)]
      obtain ⟨a1, a2, a3⟩ := h2 v hv
      simp [up2, a1, a3]
    · rw [nL_o q, nS_o q]
      obtain ⟨a1, a2, a3⟩ := h2 w (by omega)
      simp [up2, q, a1, a2, a3]
  · have q : w ≠ wc := by omega
    simp [up2, q, h3 w hw4]
  · by_cases q : w = wc
    · subst q
      refine ⟨v, hv, by simp [up2], by rw [nL_n, nL_o (by omega)], fun k hk => ?_⟩
      rw [nL_o (by omega)] at hk
      rw [nS_n, if_pos hk, nS_o (by omega)]
    · obtain ⟨u, a1, a2, a3, a4⟩ := h4 w w4 (by omega)
      refine ⟨u, a1, by simp [up2, q, a2], by rw [nL_o q, nL_o (by omega)]; exact a3, fun k hk => ?_⟩
      rw [nL_o (by omega)] at hk
      rw [nS_o q, nS_o (by omega)]; exact a4 k hk
theorem XTab.add {wc : Nat} {len : Nat → Nat} {sy : Nat → Nat → Nat} {m : Nat} {P : Nat → Nat} {σ σ1 : St} {v f : Nat} (xT : XTab wc len sy m P σ) (e : ∀ a j, 10 ≤ a → a ≤ 15 → σ1 a j = σ a j) : XTab (wc + 1) (nL wc len v) (nS wc len sy v f) m P σ1 := by
  obtain ⟨t, h1, h2, h3⟩ := xT.to e
  refine ⟨t, h1, by omega, fun ht => ?_⟩
  obtain ⟨a1, a2, a3⟩ := h3 ht
  refine ⟨a1, a2, fun w hw s hs => ?_⟩
  unfold XCell
  rw [nL_o (by omega), nS_o (by omega)]
  exact a3 w hw s hs
theorem X_app {wc : Nat} {len : Nat → Nat} {sy : Nat → Nat → Nat} {n N : Nat} {cd T : Nat → Nat} {m : Nat} {P : Nat → Nat} {σ : St} {x : Int} (hx : 0 ≤ x) (xD : XDict wc len sy σ) (xC : XCods n N cd σ) (xP : XPat m P σ) (xT : XTab wc len sy m P σ) :
    XRep wc len sy (n + 1) (N + len x.toNat) (aC n cd x.toNat) T m P (up2 (up2 (up2 (up2 σ 5 n x) 6 0 ((n : Int) + 1)) 7 0 ((N : Int) + (len x.toNat : Int))) 16 0 0) := by
  refine ⟨xD.to (fun a j ha => by rw [up2_nk (by omega), up2_nk (by omega), up2_nk (by omega), up2_nk (by omega)]), ⟨?_, ?_, fun k hk => ?_⟩, xP.to (fun a j h1 h2 => by rw [up2_nk (by omega), up2_nk (by omega), up2_nk (by omega), up2_nk (by omega)]), xT.to (fun a j h1 h2 => by rw [up2_nk (by omega), up2_nk (by omega), up2_nk (by omega), up2_nk (by omega)]), Or.inl (by simp [up2])⟩
  · simp [up2]
  · simp [up2]
  · unfold aC
    by_cases q : k = n
    · simp [up2, q]; omega
    · have := xC.2.2 k (by omega)
      simp [up2, q, this]
theorem X_restart {wc : Nat} {len : Nat → Nat} {sy : Nat → Nat → Nat} {n N : Nat} {cd T : Nat → Nat} {m : Nat} {P : Nat → Nat} {σ σ1 : St} (h4 : 4 ≤ wc) (xD : XDict wc len sy σ) (xP : XPat m P σ) (xT : XTab wc len sy m P σ) (e : ∀ a j, a ≠ 0 → a ≠ 6 → a ≠ 7 → a ≠ 15 → a ≠ 16 → σ1 a j = σ a j) (e0 : σ1 0 0 = 4) (e6 : σ1 6 0 = 0) (e7 : σ1 7 0 = 0) (e15 : (σ 15 0 ≤ 4 ∧ σ1 15 0 = σ 15 0) ∨ (4 < σ 15 0 ∧ σ1 15 0 = 4)) (e16 : σ1 16 0 = 0) : XRep 4 len sy 0 0 cd T m P σ1 := by
  obtain ⟨h1, h2, h3, h5⟩ := xD
  obtain ⟨t, t1, t2, t3⟩ := xT
  refine ⟨⟨e0, fun w hw => ?_, fun w hw => ?_, fun w w4 hw => absurd hw (by omega)⟩, ⟨e6, e7, fun k hk => absurd hk (by omega)⟩, ⟨?_, fun i hi => ?_⟩, ?_, Or.inl e16⟩
  · rw [e _ _ (by omega) (by omega) (by omega) (by omega) (by omega), e _ _ (by omega) (by omega) (by omega) (by omega) (by omega), e _ _ (by omega) (by omega) (by omega) (by omega) (by omega)]
    exact h2 w (by omega)
  · rw [e _ _ (by omega) (by omega) (by omega) (by omega) (by omega)]; exact h3 w hw
  · rw [e _ _ (by omega) (by omega) (by omega) (by omega) (by omega)]; exact xP.1
  · rw [e _ _ (by omega) (by omega) (by omega) (by omega) (by omega)]; exact xP.2 i hi
  · have key : ∃ t' : Nat, σ1 15 0 = (t' : Int) ∧ t' ≤ 4 ∧ t' ≤ t := by
      rcases e15 with ⟨a1, a2⟩ | ⟨a1, a2⟩
      · exact ⟨t, by rw [a2, t1], by omega, by omega⟩
      · exact ⟨4, by rw [a2]; rfl, by omega, by omega⟩
    obtain ⟨t', k1, k2, k3⟩ := key
    refine ⟨t', k1, k2, fun ht => ?_⟩
    obtain ⟨a1, a2, a3⟩ := t3 (by omega)
    exact ⟨a1, a2.to (fun j => e _ _ (by omega) (by omega) (by omega) (by omega) (by omega)), fun w hw s hs => (a3 w (by omega) s hs).to (fun a q1 q2 => e _ _ (by omega) (by omega) (by omega) (by omega) (by omega))⟩
theorem Wf.restart {wc : Nat} {len : Nat → Nat} {sy : Nat → Nat → Nat} {n N : Nat} {cd bg T : Nat → Nat} {m : Nat} {P : Nat → Nat} (hf : Wf wc len sy n N cd bg T m P) : Wf 4 len sy 0 0 cd bg T m P := by
  obtain ⟨⟨h1, h2, h3, h4⟩, ⟨c1, c2, c3, c4⟩, hp⟩ := hf
  exact ⟨⟨by omega, by omega, h3, fun w hw => h4 w (by omega)⟩, ⟨by omega, c2, c2, fun k hk => absurd hk (by omega)⟩, hp⟩
theorem X_pat {wc : Nat} {len : Nat → Nat} {sy : Nat → Nat → Nat} {n N : Nat} {cd T : Nat → Nat} {m m' : Nat} {P P' : Nat → Nat} {σ σ1 : St} (hr : XRep wc len sy n N cd T m P σ) (e : ∀ a j, a < 8 → σ1 a j = σ a j) (e8 : XPat m' P' σ1) (e15 : σ1 15 0 = 0) (e16 : σ1 16 0 = 0) : XRep wc len sy n N cd T m' P' σ1 := by
  obtain ⟨xD, xC, -, -, -⟩ := hr
  exact ⟨xD.to (fun a j h => e a j (by omega)), xC.to (fun a j _ h => e a j (by omega)), e8, XTab.none e15, Or.inl e16⟩
end
section
/-! CodeSearcher: symbol, restart, extend, shorten, feed (printed by gen/x3.py) -/
set_option maxRecDepth 100000 in
/-- the k-th symbol of the text -/
theorem mX_symbol (l : Launch) (D : va_G) (cB cS : ClassId) (h : Nat → Nat) (σ : St) {wc : Nat} {len : Nat → Nat} {sy : Nat → Nat → Nat} {n N : Nat} {cd bg T : Nat → Nat} {m : Nat} {P : Nat → Nat} (x : Int) (hf : Wf wc len sy n N cd bg T m P) (hr0 : XRep wc len sy n N cd T m P σ) (bx : -2147483648 ≤ x ∧ x < 2147483648) :
    GMi l yX0_symbol cX0_symbol 4 (some .int) 1 24 D [(cB, .byte), (cS, .short)] (wX h cB cS) (adX h) (h 0) [.int (iI (x))] σ (fun z σ' => ((0 ≤ x ∧ x < N ∧ z = T x.toNat) ∨ (¬ (0 ≤ x ∧ x < N) ∧ z = -1)) ∧ σ' = σ) := by
  have hf0 := hf
  have hr00 := hr0
  obtain ⟨hD, hC, hPt⟩ := hf
  obtain ⟨xD, xC, xP, xT, xK⟩ := hr0
  have d1 := hD.1
  have d2 := hD.2.1
  have i0 : σ 0 0 = (wc : Int) := xD.1
  have i6 : σ 6 0 = (n : Int) := xC.1
  have i7 : σ 7 0 = (N : Int) := xC.2.1
  have i9 : σ 9 0 = (m : Int) := xP.1
  have p1 : m ≤ 6 := hPt.1
  have hN : N ≤ 250 := hC.1
  have hnN : n ≤ N := hC.nN hD
  refine GMi.of (by decide) rfl (Nat.le_of_ble_eq_true rfl) ?_
  intro p e s mi bl me co A ls S hr hlk hw hl
  have S : CallFix p mi co cX0_symbol 4 s _ lw_all RX0 := S
  have hx := S.1
  have hb := S.2.1
  have hts := S.2.2.2.2
  have hl : lv_has ls 4 [(0, .ref (h 0)), (1, .int (iI (x)))] := hl
  refine lv_iload_n hx hb dX0_symbol_0 rfl (lv_at hl 1 rfl) ?_
  refine r_if_lt (a := x) (tgt := 12) hx hb dX0_symbol_1 (by decide) (by omega) (fun c_1 => ?_) (fun c_1 => ?_)
  · refine r_iconst hx hb dX0_symbol_12 ?_
    exact G_reti (σ' := σ) (z := (-1)) hx hb hr hlk hw (⟨Or.inr ⟨by omega, rfl⟩, rfl⟩) dX0_symbol_13
  · refine lv_iload_n hx hb dX0_symbol_4 rfl (lv_at hl 1 rfl) ?_
    refine lv_aload_n hx hb dX0_symbol_5 rfl (lv_at hl 0 rfl) ?_
    refine gX_7 S hw (v := N) i7 dX0_symbol_6 ?_
    refine r_icmp_lt (a := x) (b := N) (tgt := 14) hx hb dX0_symbol_9 (by decide) (by omega) (by omega) (fun c_9 => ?_) (fun c_9 => ?_)
    · refine lv_iload_n hx hb dX0_symbol_14 rfl (lv_at hl 1 rfl) ?_
      refine lv_istore_n (lv' := [(2, .int (iI (x))), (0, .ref (h 0)), (1, .int (iI (x)))]) hx hb dX0_symbol_15 rfl hl (by decide) rfl (fun ls hl => ?_)
      refine r_iconst hx hb dX0_symbol_16 ?_
      refine lv_istore_n (lv' := [(3, .int (iI (0))), (2, .int (iI (x))), (0, .ref (h 0)), (1, .int (iI (x)))]) hx hb dX0_symbol_17 rfl hl (by decide) rfl (fun ls hl => ?_)
      have n0 : 0 < n := by
        rcases Nat.eq_zero_or_pos n with z | z
        · subst z; have := hC.N0; omega
        · exact z
      have b0 := hC.2.1
      have loop18 : ∀ (f : Nat) (i : Nat) (r : Nat) (σ1 : St) (H : Heap) (locs : List Loc) (ls : Array Slot), n < i + f → (i < n) → ((bg i + r : Nat) = x.toNat) → (σ1 = σ) → GW D [(cB, .byte), (cS, .short)] (wX h cB cS σ1) A s H locs → lv_has ls 4 [(0, .ref (h 0)), (1, .int (iI (x))), (2, .int (iI (r))), (3, .int (iI (i)))] → W p l e ({ frames := 1, cells := 0, slots := 0, locals := 24 }) s mi (Value.ref (h 0) :: [.int (iI (x))]).toArray bl me co H locs 0 0 (QGi D [(cB, .byte), (cS, .short)] (wX h cB cS) A s (Value.ref (h 0) :: [.int (iI (x))]).toArray bl (fun z σ' => ((0 ≤ x ∧ x < N ∧ z = T x.toNat) ∨ (¬ (0 ≤ x ∧ x < N) ∧ z = -1)) ∧ σ' = σ)) (F0 mi 18 ls []) := by
        intro f
        induction f with
        | zero =>
          intro i r σ1 H locs ls q0 j1 j2 j3
          exact absurd q0 (by omega)
        | succ f ih18 =>
          intro i r σ1 H locs ls q0 j1 j2 j3 hw hl
          rw [j3] at hw
          obtain ⟨c1, c2, c3⟩ := hC.2.2.2 i j1
          have lb := (hD.2.2.2 _ c1).2.1
          have bi := hC.bgN hD (i + 1) (by omega)
          have hi250 : i < 250 := by omega
          refine lv_iload_n hx hb dX0_symbol_18 rfl (lv_at hl 3 rfl) ?_
          refine lv_aload_n hx hb dX0_symbol_19 rfl (lv_at hl 0 rfl) ?_
          refine gX_6 S hw (v := n) i6 dX0_symbol_20 ?_
          refine r_iconst hx hb dX0_symbol_23 ?_
          refine r_isub (a := n) (b := 1) hx hb dX0_symbol_24 ?_
          refine r_icmp_ge (a := i) (b := (n - 1)) (tgt := 63) hx hb dX0_symbol_25 (by decide) (by omega) (by omega) (fun c_25 => ?_) (fun c_25 => ?_)
          · refine lv_aload_n hx hb dX0_symbol_63 rfl (lv_at hl 0 rfl) ?_
            refine lv_aload_n hx hb dX0_symbol_64 rfl (lv_at hl 0 rfl) ?_
            refine gX_5 S hw dX0_symbol_65 ?_
            refine lv_iload_n hx hb dX0_symbol_68 rfl (lv_at hl 3 rfl) ?_
            refine aX_5 hx hb hw (i) (z := i) (v := cd i) (by omega) (by omega) (xC.2.2 i j1) dX0_symbol_69 ?_
            refine lv_iload_n hx hb dX0_symbol_70 rfl (lv_at hl 2 rfl) ?_
            have rl : r < len (cd i) := by
              have hbn := hC.2.2.1
              have e9 : i + 1 = n := by omega
              rw [e9] at c2
              omega
            refine cX_i (As := [.int (iI (cd i)), .int (iI (r))]) (rest := []) S hw (mX_symbolIn l D cB cS h σ (cd i) r hf0 hr00 c1 rl) (cwV 2 hts (lw_V q146 q148 qs4 q15 q149) rfl rfl rfl (by decide +kernel) ⟨Nat.le_of_ble_eq_true rfl, Nat.le_of_ble_eq_true rfl⟩) ⟨Nat.le_refl 0, Nat.le_refl 0⟩ rfl hl.1 rfl (Nat.le_of_ble_eq_true rfl) dX0_symbol_71 (fun z2 σ1 H locs hp1 hw => ?_)
            obtain ⟨hz2, es⟩ := hp1
            rw [es] at hw
            exact G_reti (σ' := σ) (z := z2) hx hb hr hlk hw (⟨Or.inl ⟨by omega, by omega, by rw [hz2, ← c3 r rl, j2]⟩, rfl⟩) dX0_symbol_74
          · refine lv_iload_n hx hb dX0_symbol_28 rfl (lv_at hl 2 rfl) ?_
            refine lv_aload_n hx hb dX0_symbol_29 rfl (lv_at hl 0 rfl) ?_
            refine gX_4 S hw dX0_symbol_30 ?_
            refine lv_aload_n hx hb dX0_symbol_33 rfl (lv_at hl 0 rfl) ?_
            refine gX_5 S hw dX0_symbol_34 ?_
            refine lv_iload_n hx hb dX0_symbol_37 rfl (lv_at hl 3 rfl) ?_
            refine aX_5 hx hb hw (i) (z := i) (v := cd i) (by omega) (by omega) (xC.2.2 i j1) dX0_symbol_38 ?_
            refine aX_4 hx hb hw (cd i) (z := cd i) (v := len (cd i)) (by omega) (by omega) ((xD.2.1 _ c1).1) dX0_symbol_39 ?_
            refine r_icmp_lt (a := r) (b := len (cd i)) (tgt := 63) hx hb dX0_symbol_40 (by decide) (by omega) (by omega) (fun c_40 => ?_) (fun c_40 => ?_)
            · refine lv_aload_n hx hb dX0_symbol_63 rfl (lv_at hl 0 rfl) ?_
              refine lv_aload_n hx hb dX0_symbol_64 rfl (lv_at hl 0 rfl) ?_
              refine gX_5 S hw dX0_symbol_65 ?_
              refine lv_iload_n hx hb dX0_symbol_68 rfl (lv_at hl 3 rfl) ?_
              refine aX_5 hx hb hw (i) (z := i) (v := cd i) (by omega) (by omega) (xC.2.2 i j1) dX0_symbol_69 ?_
              refine lv_iload_n hx hb dX0_symbol_70 rfl (lv_at hl 2 rfl) ?_
              have rl : r < len (cd i) := by
                have hbn := hC.2.2.1
                omega
              refine cX_i (As := [.int (iI (cd i)), .int (iI (r))]) (rest := []) S hw (mX_symbolIn l D cB cS h σ (cd i) r hf0 hr00 c1 rl) (cwV 2 hts (lw_V q146 q148 qs4 q15 q149) rfl rfl rfl (by decide +kernel) ⟨Nat.le_of_ble_eq_true rfl, Nat.le_of_ble_eq_true rfl⟩) ⟨Nat.le_refl 0, Nat.le_refl 0⟩ rfl hl.1 rfl (Nat.le_of_ble_eq_true rfl) dX0_symbol_71 (fun z2 σ1 H locs hp1 hw => ?_)
              obtain ⟨hz2, es⟩ := hp1
              rw [es] at hw
              exact G_reti (σ' := σ) (z := z2) hx hb hr hlk hw (⟨Or.inl ⟨by omega, by omega, by rw [hz2, ← c3 r rl, j2]⟩, rfl⟩) dX0_symbol_74
            · refine lv_iload_n hx hb dX0_symbol_43 rfl (lv_at hl 2 rfl) ?_
              refine lv_aload_n hx hb dX0_symbol_44 rfl (lv_at hl 0 rfl) ?_
              refine gX_4 S hw dX0_symbol_45 ?_
              refine lv_aload_n hx hb dX0_symbol_48 rfl (lv_at hl 0 rfl) ?_
              refine gX_5 S hw dX0_symbol_49 ?_
              refine lv_iload_n hx hb dX0_symbol_52 rfl (lv_at hl 3 rfl) ?_
              refine aX_5 hx hb hw (i) (z := i) (v := cd i) (by omega) (by omega) (xC.2.2 i j1) dX0_symbol_53 ?_
              refine aX_4 hx hb hw (cd i) (z := cd i) (v := len (cd i)) (by omega) (by omega) ((xD.2.1 _ c1).1) dX0_symbol_54 ?_
              refine r_isub (a := r) (b := len (cd i)) hx hb dX0_symbol_55 ?_
              refine lv_istore_n (lv' := [(2, .int (iI ((r - len (cd i))))), (0, .ref (h 0)), (1, .int (iI (x))), (3, .int (iI (i)))]) hx hb dX0_symbol_56 rfl hl (by decide) rfl (fun ls hl => ?_)
              refine r_iinc (a := i) (lv' := [(3, .int (iI (i + 1))), (2, .int (iI ((r - len (cd i))))), (0, .ref (h 0)), (1, .int (iI (x)))]) (k := 3) hx hb dX0_symbol_57 hl rfl (by decide) rfl (fun ls hl => ?_)
              refine lv_goto (tgt := 18) hx hb dX0_symbol_60 (by decide) ?_
              exact ih18 (i + 1) (r - len (cd i)) (σ) _ _ _ (by omega) (by omega) (by omega) (rfl) hw (by rw [show ((r - len (cd i) : Nat) : Int) = (r : Int) - (len (cd i) : Int) from by omega, show ((i + 1 : Nat) : Int) = (i : Int) + 1 from by omega]; exact lv_sub hl [2, 3, 1, 0] rfl)
      exact loop18 (n + 1) (0) (x.toNat) (σ) _ _ _ (by omega) (by omega) (by omega) (rfl) hw (by rw [show ((x.toNat : Nat) : Int) = x from by omega, show ((0 : Nat) : Int) = 0 from rfl]; exact lv_sub hl [2, 3, 1, 0] rfl)
    · refine r_iconst hx hb dX0_symbol_12 ?_
      exact G_reti (σ' := σ) (z := (-1)) hx hb hr hlk hw (⟨Or.inr ⟨by omega, rfl⟩, rfl⟩) dX0_symbol_13
set_option maxRecDepth 100000 in
theorem mX_restart (l : Launch) (D : va_G) (cB cS : ClassId) (h : Nat → Nat) (σ : St) {wc : Nat} {len : Nat → Nat} {sy : Nat → Nat → Nat} {n N : Nat} {cd bg T : Nat → Nat} {m : Nat} {P : Nat → Nat} (hf : Wf wc len sy n N cd bg T m P) (hr0 : XRep wc len sy n N cd T m P σ) :
    GMv l yX0_restart cX0_restart 1 none 0 0 D [(cB, .byte), (cS, .short)] (wX h cB cS) (adX h) (h 0) [] σ (fun σ' => XRep 4 len sy 0 0 cd T m P σ') := by
  obtain ⟨hD, hC, hPt⟩ := hf
  obtain ⟨xD, xC, xP, xT, xK⟩ := hr0
  have d1 := hD.1
  have d2 := hD.2.1
  have i0 : σ 0 0 = (wc : Int) := xD.1
  have i6 : σ 6 0 = (n : Int) := xC.1
  have i7 : σ 7 0 = (N : Int) := xC.2.1
  have i9 : σ 9 0 = (m : Int) := xP.1
  have p1 : m ≤ 6 := hPt.1
  have hN : N ≤ 250 := hC.1
  have hnN : n ≤ N := hC.nN hD
  obtain ⟨t, t1, t2, t3⟩ := xT
  have xT : XTab wc len sy m P σ := ⟨t, t1, t2, t3⟩
  refine GMv.of (by decide) rfl (Nat.le_of_ble_eq_true rfl) ?_
  intro p e s mi bl me co A ls S hr hlk hw hl
  have S : CallFix p mi co cX0_restart 1 s _ lw_all RX0 := S
  have hx := S.1
  have hb := S.2.1
  have hts := S.2.2.2.2
  have hl : lv_has ls 1 [(0, .ref (h 0))] := hl
  refine lv_aload_n hx hb dX0_restart_0 rfl (lv_at hl 0 rfl) ?_
  refine r_iconst hx hb dX0_restart_1 ?_
  refine pX_0 S hw (v := 4) dX0_restart_2 (fun H locs hw => ?_)
  refine lv_aload_n hx hb dX0_restart_5 rfl (lv_at hl 0 rfl) ?_
  refine r_iconst hx hb dX0_restart_6 ?_
  refine pX_6 S hw (v := 0) dX0_restart_7 (fun H locs hw => ?_)
  refine lv_aload_n hx hb dX0_restart_10 rfl (lv_at hl 0 rfl) ?_
  refine r_iconst hx hb dX0_restart_11 ?_
  refine pX_7 S hw (v := 0) dX0_restart_12 (fun H locs hw => ?_)
  refine lv_aload_n hx hb dX0_restart_15 rfl (lv_at hl 0 rfl) ?_
  refine gX_15 S hw (v := t) t1 dX0_restart_16 ?_
  refine r_iconst hx hb dX0_restart_19 ?_
  refine r_icmp_le (a := t) (b := 4) (tgt := 28) hx hb dX0_restart_20 (by decide) (by omega) (by omega) (fun c_20 => ?_) (fun c_20 => ?_)
  · refine lv_aload_n hx hb dX0_restart_28 rfl (lv_at hl 0 rfl) ?_
    refine r_iconst hx hb dX0_restart_29 ?_
    refine pX_16 S hw (v := 0) z_0 rfl dX0_restart_30 (fun H locs hw => ?_)
    exact G_retv (σ' := (up2 (up2 (up2 (up2 σ 0 0 (4)) 6 0 (0)) 7 0 (0)) 16 0 (0))) hx hb hr hlk hw (X_restart (n := n) (N := N) d1 xD xP xT (fun a j a0 a6 a7 a15 a16 => by rw [up2_nk (by omega), up2_nk (by omega), up2_nk (by omega), up2_nk (by omega)]) rfl rfl rfl (Or.inl ⟨by omega, rfl⟩) rfl) dX0_restart_33
  · refine lv_aload_n hx hb dX0_restart_23 rfl (lv_at hl 0 rfl) ?_
    refine r_iconst hx hb dX0_restart_24 ?_
    refine pX_15 S hw (v := 4) dX0_restart_25 (fun H locs hw => ?_)
    refine lv_aload_n hx hb dX0_restart_28 rfl (lv_at hl 0 rfl) ?_
    refine r_iconst hx hb dX0_restart_29 ?_
    refine pX_16 S hw (v := 0) z_0 rfl dX0_restart_30 (fun H locs hw => ?_)
    exact G_retv (σ' := (up2 (up2 (up2 (up2 (up2 σ 0 0 (4)) 6 0 (0)) 7 0 (0)) 15 0 (4)) 16 0 (0))) hx hb hr hlk hw (X_restart (n := n) (N := N) d1 xD xP xT (fun a j a0 a6 a7 a15 a16 => by rw [up2_nk (by omega), up2_nk (by omega), up2_nk (by omega), up2_nk (by omega), up2_nk (by omega)]) rfl rfl rfl (Or.inr ⟨by omega, rfl⟩) rfl) dX0_restart_33
set_option maxRecDepth 100000 in
theorem mX_extend (l : Launch) (D : va_G) (cB cS : ClassId) (h : Nat → Nat) (σ : St) {wc : Nat} {len : Nat → Nat} {sy : Nat → Nat → Nat} {n N : Nat} {cd bg T : Nat → Nat} {m : Nat} {P : Nat → Nat} (x : Int) (hf : Wf wc len sy n N cd bg T m P) (hr0 : XRep wc len sy n N cd T m P σ) (bx : -2147483648 ≤ x ∧ x < 2147483648) :
    GMi l yX0_extend cX0_extend 2 (some .boolean) 1 20 D [(cB, .byte), (cS, .short)] (wX h cB cS) (adX h) (h 0) [.int (iI (x))] σ (fun z σ' => (0 ≤ x ∧ x < 4 ∧ m < 6 ∧ z = 1 ∧ XRep wc len sy n N cd T (m + 1) (aC m P x.toNat) σ') ∨ (¬ (0 ≤ x ∧ x < 4 ∧ m < 6) ∧ z = 0 ∧ σ' = σ)) := by
  have hf0 := hf
  have hr00 := hr0
  obtain ⟨hD, hC, hPt⟩ := hf
  obtain ⟨xD, xC, xP, xT, xK⟩ := hr0
  have d1 := hD.1
  have d2 := hD.2.1
  have i0 : σ 0 0 = (wc : Int) := xD.1
  have i6 : σ 6 0 = (n : Int) := xC.1
  have i7 : σ 7 0 = (N : Int) := xC.2.1
  have i9 : σ 9 0 = (m : Int) := xP.1
  have p1 : m ≤ 6 := hPt.1
  have hN : N ≤ 250 := hC.1
  have hnN : n ≤ N := hC.nN hD
  refine GMi.of (by decide) rfl (Nat.le_of_ble_eq_true rfl) ?_
  intro p e s mi bl me co A ls S hr hlk hw hl
  have S : CallFix p mi co cX0_extend 2 s _ lw_all RX0 := S
  have hx := S.1
  have hb := S.2.1
  have hts := S.2.2.2.2
  have hl : lv_has ls 2 [(0, .ref (h 0)), (1, .int (iI (x)))] := hl
  refine lv_iload_n hx hb dX0_extend_0 rfl (lv_at hl 1 rfl) ?_
  refine r_if_lt (a := x) (tgt := 18) hx hb dX0_extend_1 (by decide) (by omega) (fun c_1 => ?_) (fun c_1 => ?_)
  · refine r_iconst hx hb dX0_extend_18 ?_
    exact G_retz (σ' := σ) (z := 0) hx hb hr hlk hw z_0 (Or.inr ⟨by omega, rfl, rfl⟩) dX0_extend_19
  · refine lv_iload_n hx hb dX0_extend_4 rfl (lv_at hl 1 rfl) ?_
    refine r_iconst hx hb dX0_extend_5 ?_
    refine r_icmp_gt (a := x) (b := 3) (tgt := 18) hx hb dX0_extend_6 (by decide) (by omega) (by omega) (fun c_6 => ?_) (fun c_6 => ?_)
    · refine r_iconst hx hb dX0_extend_18 ?_
      exact G_retz (σ' := σ) (z := 0) hx hb hr hlk hw z_0 (Or.inr ⟨by omega, rfl, rfl⟩) dX0_extend_19
    · refine lv_aload_n hx hb dX0_extend_9 rfl (lv_at hl 0 rfl) ?_
      refine gX_9 S hw (v := m) i9 dX0_extend_10 ?_
      refine r_bipush hx hb dX0_extend_13 (by decide) ?_
      refine r_icmp_lt (a := m) (b := 6) (tgt := 20) hx hb dX0_extend_15 (by decide) (by omega) (by omega) (fun c_15 => ?_) (fun c_15 => ?_)
      · refine lv_aload_n hx hb dX0_extend_20 rfl (lv_at hl 0 rfl) ?_
        refine gX_8 S hw dX0_extend_21 ?_
        refine lv_aload_n hx hb dX0_extend_24 rfl (lv_at hl 0 rfl) ?_
        refine gX_9 S hw (v := m) i9 dX0_extend_25 ?_
        refine lv_iload_n hx hb dX0_extend_28 rfl (lv_at hl 1 rfl) ?_
        refine r_i2b (a := x) hx hb dX0_extend_29 (by omega) ?_
        refine sX_8 hx hb hw (m) (z := m) (v := x) (by omega) (by omega) (by omega) dX0_extend_30 (fun H locs hw => ?_)
        refine lv_aload_n hx hb dX0_extend_31 rfl (lv_at hl 0 rfl) ?_
        refine lv_dup hx hb dX0_extend_32 rfl ?_
        refine gX_9 S hw (v := m) i9 dX0_extend_33 ?_
        refine r_iconst hx hb dX0_extend_36 ?_
        refine r_iadd (a := m) (b := 1) hx hb dX0_extend_37 ?_
        refine pX_9 S hw (v := (m + 1)) dX0_extend_38 (fun H locs hw => ?_)
        refine lv_aload_n hx hb dX0_extend_41 rfl (lv_at hl 0 rfl) ?_
        refine cX_v (As := []) (rest := []) S hw (mX_patternChanged l D cB cS h _) (cwV 0 hts (lw_V q114 q116 qs2 q15 q117) rfl rfl rfl (by decide +kernel) ⟨Nat.le_of_ble_eq_true rfl, Nat.le_of_ble_eq_true rfl⟩) ⟨Nat.le_refl 0, Nat.le_refl 0⟩ rfl hl.1 rfl (Nat.le_of_ble_eq_true rfl) dX0_extend_42 (fun σ1 H locs hp1 hw => ?_)
        refine r_iconst hx hb dX0_extend_45 ?_
        refine G_retz (σ' := σ1) (z := 1) hx hb hr hlk hw z_1 ?_ dX0_extend_46
        refine Or.inl ⟨by omega, by omega, by omega, rfl, X_pat hr00 (fun a j ha => ?_) ⟨?_, fun i hi => ?_⟩ ?_ ?_⟩
        · rw [hp1, up2_nk (by omega), up2_nk (by omega), up2_nk (by omega), up2_nk (by omega)]
        · rw [hp1]; simp [up2]
        · rw [hp1]
          unfold aC
          by_cases q : i = m
          · simp [up2, q]; omega
          · have := xP.2 i (by omega)
            simp [up2, q, this]
        · rw [hp1]; simp [up2]
        · rw [hp1]; simp [up2]
      · refine r_iconst hx hb dX0_extend_18 ?_
        exact G_retz (σ' := σ) (z := 0) hx hb hr hlk hw z_0 (Or.inr ⟨by omega, rfl, rfl⟩) dX0_extend_19
set_option maxRecDepth 100000 in
theorem mX_shorten (l : Launch) (D : va_G) (cB cS : ClassId) (h : Nat → Nat) (σ : St) {wc : Nat} {len : Nat → Nat} {sy : Nat → Nat → Nat} {n N : Nat} {cd bg T : Nat → Nat} {m : Nat} {P : Nat → Nat} (hf : Wf wc len sy n N cd bg T m P) (hr0 : XRep wc len sy n N cd T m P σ) :
    GMi l yX0_shorten cX0_shorten 3 (some .int) 1 20 D [(cB, .byte), (cS, .short)] (wX h cB cS) (adX h) (h 0) [] σ (fun z σ' => (0 < m ∧ z = P 0 ∧ XRep wc len sy n N cd T (m - 1) (fun i => P (i + 1)) σ') ∨ (¬ 0 < m ∧ z = -1 ∧ σ' = σ)) := by
  have hf0 := hf
  have hr00 := hr0
  obtain ⟨hD, hC, hPt⟩ := hf
  obtain ⟨xD, xC, xP, xT, xK⟩ := hr0
  have d1 := hD.1
  have d2 := hD.2.1
  have i0 : σ 0 0 = (wc : Int) := xD.1
  have i6 : σ 6 0 = (n : Int) := xC.1
  have i7 : σ 7 0 = (N : Int) := xC.2.1
  have i9 : σ 9 0 = (m : Int) := xP.1
  have p1 : m ≤ 6 := hPt.1
  have hN : N ≤ 250 := hC.1
  have hnN : n ≤ N := hC.nN hD
  refine GMi.of (by decide) rfl (Nat.le_of_ble_eq_true rfl) ?_
  intro p e s mi bl me co A ls S hr hlk hw hl
  have S : CallFix p mi co cX0_shorten 3 s _ lw_all RX0 := S
  have hx := S.1
  have hb := S.2.1
  have hts := S.2.2.2.2
  have hl : lv_has ls 3 [(0, .ref (h 0))] := hl
  refine lv_aload_n hx hb dX0_shorten_0 rfl (lv_at hl 0 rfl) ?_
  refine gX_9 S hw (v := m) i9 dX0_shorten_1 ?_
  refine r_if_ne (a := m) (tgt := 9) hx hb dX0_shorten_4 (by decide) (by omega) (fun c_4 => ?_) (fun c_4 => ?_)
  · refine lv_aload_n hx hb dX0_shorten_9 rfl (lv_at hl 0 rfl) ?_
    refine gX_8 S hw dX0_shorten_10 ?_
    refine r_iconst hx hb dX0_shorten_13 ?_
    refine aX_8 hx hb hw (0) (z := 0) (v := P 0) rfl (by omega) (xP.2 0 (by omega)) dX0_shorten_14 ?_
    refine lv_istore_n (lv' := [(1, .int (iI (P 0))), (0, .ref (h 0))]) hx hb dX0_shorten_15 rfl hl (by decide) rfl (fun ls hl => ?_)
    refine r_iconst hx hb dX0_shorten_16 ?_
    refine lv_istore_n (lv' := [(2, .int (iI (1))), (1, .int (iI (P 0))), (0, .ref (h 0))]) hx hb dX0_shorten_17 rfl hl (by decide) rfl (fun ls hl => ?_)
    have m0 : 0 < m := by omega
    have loop18 : ∀ (f : Nat) (k : Nat) (σ1 : St) (H : Heap) (locs : List Loc) (ls : Array Slot), m < k + f → (1 ≤ k) → (k ≤ m) → (∀ i, i + 1 < k → σ1 8 i = (P (i + 1) : Int)) → (∀ i, k ≤ i + 1 → i < m → σ1 8 i = (P i : Int)) → (∀ a j, a ≠ 8 → σ1 a j = σ a j) → GW D [(cB, .byte), (cS, .short)] (wX h cB cS σ1) A s H locs → lv_has ls 3 [(0, .ref (h 0)), (1, .int (iI (P 0))), (2, .int (iI (k)))] → W p l e ({ frames := 1, cells := 0, slots := 0, locals := 20 }) s mi (Value.ref (h 0) :: []).toArray bl me co H locs 0 0 (QGi D [(cB, .byte), (cS, .short)] (wX h cB cS) A s (Value.ref (h 0) :: []).toArray bl (fun z σ' => (0 < m ∧ z = P 0 ∧ XRep wc len sy n N cd T (m - 1) (fun i => P (i + 1)) σ') ∨ (¬ 0 < m ∧ z = -1 ∧ σ' = σ))) (F0 mi 18 ls []) := by
      intro f
      induction f with
      | zero =>
        intro k σ1 H locs ls q0 j1 j2 j3 j4 j5
        exact absurd q0 (by omega)
      | succ f ih18 =>
        intro k σ1 H locs ls q0 j1 j2 j3 j4 j5 hw hl
        refine lv_iload_n hx hb dX0_shorten_18 rfl (lv_at hl 2 rfl) ?_
        refine lv_aload_n hx hb dX0_shorten_19 rfl (lv_at hl 0 rfl) ?_
        refine gX_9 S hw (v := m) ((j5 9 0 (by omega)).trans i9) dX0_shorten_20 ?_
        refine r_icmp_ge (a := k) (b := m) (tgt := 46) hx hb dX0_shorten_23 (by decide) (by omega) (by omega) (fun c_23 => ?_) (fun c_23 => ?_)
        · refine lv_aload_n hx hb dX0_shorten_46 rfl (lv_at hl 0 rfl) ?_
          refine lv_dup hx hb dX0_shorten_47 rfl ?_
          refine gX_9 S hw (v := m) ((j5 9 0 (by omega)).trans i9) dX0_shorten_48 ?_
          refine r_iconst hx hb dX0_shorten_51 ?_
          refine r_isub (a := m) (b := 1) hx hb dX0_shorten_52 ?_
          refine pX_9 S hw (v := (m - 1)) dX0_shorten_53 (fun H locs hw => ?_)
          refine lv_aload_n hx hb dX0_shorten_56 rfl (lv_at hl 0 rfl) ?_
          refine cX_v (As := []) (rest := []) S hw (mX_patternChanged l D cB cS h _) (cwV 0 hts (lw_V q114 q116 qs2 q15 q117) rfl rfl rfl (by decide +kernel) ⟨Nat.le_of_ble_eq_true rfl, Nat.le_of_ble_eq_true rfl⟩) ⟨Nat.le_refl 0, Nat.le_refl 0⟩ rfl hl.1 rfl (Nat.le_of_ble_eq_true rfl) dX0_shorten_57 (fun σ1 H locs hp1 hw => ?_)
          refine lv_iload_n hx hb dX0_shorten_60 rfl (lv_at hl 1 rfl) ?_
          refine G_reti (σ' := σ1) (z := P 0) hx hb hr hlk hw ?_ dX0_shorten_61
          refine Or.inl ⟨by omega, rfl, X_pat hr00 (fun a j ha => ?_) ⟨?_, fun i hi => ?_⟩ ?_ ?_⟩
          · rw [hp1, up2_nk (by omega), up2_nk (by omega), up2_nk (by omega)]; exact j5 a j (by omega)
          · rw [hp1]; simp [up2]; omega
          · rw [hp1]
            have := j3 i (by omega)
            simp [up2, this]
          · rw [hp1]; simp [up2]
          · rw [hp1]; simp [up2]
        · refine lv_aload_n hx hb dX0_shorten_26 rfl (lv_at hl 0 rfl) ?_
          refine gX_8 S hw dX0_shorten_27 ?_
          refine lv_iload_n hx hb dX0_shorten_30 rfl (lv_at hl 2 rfl) ?_
          refine r_iconst hx hb dX0_shorten_31 ?_
          refine r_isub (a := k) (b := 1) hx hb dX0_shorten_32 ?_
          refine lv_aload_n hx hb dX0_shorten_33 rfl (lv_at hl 0 rfl) ?_
          refine gX_8 S hw dX0_shorten_34 ?_
          refine lv_iload_n hx hb dX0_shorten_37 rfl (lv_at hl 2 rfl) ?_
          have pk := hPt.2 k (by omega)
          refine aX_8 hx hb hw (k) (z := k) (v := P k) (by omega) (by omega) (j4 k (by omega) (by omega)) dX0_shorten_38 ?_
          refine sX_8 hx hb hw (k - 1) (z := (k - 1)) (v := P k) (by omega) (by omega) (by omega) dX0_shorten_39 (fun H locs hw => ?_)
          refine r_iinc (a := k) (lv' := [(2, .int (iI (k + 1))), (0, .ref (h 0)), (1, .int (iI (P 0)))]) (k := 2) hx hb dX0_shorten_40 hl rfl (by decide) rfl (fun ls hl => ?_)
          refine lv_goto (tgt := 18) hx hb dX0_shorten_43 (by decide) ?_
          have pk := hPt.2 k (by omega)
          exact ih18 (k + 1) ((up2 σ1 8 (k - 1) (P k))) _ _ _ (by omega) (by omega) (by omega) (fun i hi => by
                by_cases q : i = k - 1
                · rw [q, up2_eq, show k - 1 + 1 = k by omega]
                · rw [up2_nj q]; exact j3 i (by omega)) (fun i hi hm => by rw [up2_nj (by omega)]; exact j4 i (by omega) hm) (fun a j ha => by rw [up2_nk ha]; exact j5 a j ha) hw (by rw [show ((k + 1 : Nat) : Int) = (k : Int) + 1 from by omega]; exact lv_sub hl [1, 2, 0] rfl)
    exact loop18 (m + 1) (1) (σ) _ _ _ (by omega) (by omega) (by omega) (fun i hi => absurd hi (by omega)) (fun i _ hi => xP.2 i hi) (fun a j _ => rfl) hw (by rw [show ((1 : Nat) : Int) = 1 from rfl]; exact lv_sub hl [2, 1, 0] rfl)
  · refine r_iconst hx hb dX0_shorten_7 ?_
    exact G_reti (σ' := σ) (z := (-1)) hx hb hr hlk hw (Or.inr ⟨by omega, rfl, rfl⟩) dX0_shorten_8
set_option maxRecDepth 100000 in
theorem mX_feed (l : Launch) (D : va_G) (cB cS : ClassId) (h : Nat → Nat) (σ : St) {wc : Nat} {len : Nat → Nat} {sy : Nat → Nat → Nat} {n N : Nat} {cd bg T : Nat → Nat} {m : Nat} {P : Nat → Nat} (x : Int) (hf : Wf wc len sy n N cd bg T m P) (hr0 : XRep wc len sy n N cd T m P σ) (bx : -2147483648 ≤ x ∧ x < 2147483648) :
    GMi l yX0_feed cX0_feed 4 (some .int) 1 22 D [(cB, .byte), (cS, .short)] (wX h cB cS) (adX h) (h 0) [.int (iI (x))] σ (fun z σ' => (okF wc len n N cd x ∧ z = fLen wc len n cd x.toNat ∧ XRep (fWc wc n) (fLen wc len n cd) (fSy wc len sy n cd x.toNat) (n + 1) (N + fLen wc len n cd x.toNat) (aC n cd x.toNat) (aT N T (fSy wc len sy n cd x.toNat x.toNat)) m P σ') ∨ (¬ okF wc len n N cd x ∧ z = -1 ∧ σ' = σ)) := by
  have hf0 := hf
  have hr00 := hr0
  obtain ⟨hD, hC, hPt⟩ := hf
  obtain ⟨xD, xC, xP, xT, xK⟩ := hr0
  have d1 := hD.1
  have d2 := hD.2.1
  have i0 : σ 0 0 = (wc : Int) := xD.1
  have i6 : σ 6 0 = (n : Int) := xC.1
  have i7 : σ 7 0 = (N : Int) := xC.2.1
  have i9 : σ 9 0 = (m : Int) := xP.1
  have p1 : m ≤ 6 := hPt.1
  have hN : N ≤ 250 := hC.1
  have hnN : n ≤ N := hC.nN hD
  refine GMi.of (by decide) rfl (Nat.le_of_ble_eq_true rfl) ?_
  intro p e s mi bl me co A ls S hr hlk hw hl
  have S : CallFix p mi co cX0_feed 4 s _ lw_all RX0 := S
  have hx := S.1
  have hb := S.2.1
  have hts := S.2.2.2.2
  have hl : lv_has ls 4 [(0, .ref (h 0)), (1, .int (iI (x)))] := hl
  refine lv_aload_n hx hb dX0_feed_0 rfl (lv_at hl 0 rfl) ?_
  refine lv_iload_n hx hb dX0_feed_1 rfl (lv_at hl 1 rfl) ?_
  refine cX_i (As := [.int (iI (x))]) (rest := []) S hw (mX_allowed l D cB cS h σ x hf0 hr00 bx) (cwV 1 hts (lw_V q98 q100 qs0 q15 q101) rfl rfl rfl (by decide +kernel) ⟨Nat.le_of_ble_eq_true rfl, Nat.le_of_ble_eq_true rfl⟩) ⟨Nat.le_refl 0, Nat.le_refl 0⟩ rfl hl.1 rfl (Nat.le_of_ble_eq_true rfl) dX0_feed_2 (fun z1 σ1 H locs hp1 hw => ?_)
  obtain ⟨hz, es⟩ := hp1
  rw [es] at hw
  refine r_if_ne (a := z1) (tgt := 10) hx hb dX0_feed_5 (by decide) (by omega) (fun c_5 => ?_) (fun c_5 => ?_)
  · have ok : okF wc len n N cd x := by
      rcases hz with z | z
      · exact z.2
      · omega
    obtain ⟨o1, o2⟩ := okF_x hD.1 hD.2.1 ok
    have ok1 := ok.1
    have ok2 := ok.2.1
    have ok3 := ok.2.2.1
    have ok4 := okF_n hD hC ok
    refine lv_aload_n hx hb dX0_feed_10 rfl (lv_at hl 0 rfl) ?_
    refine gX_6 S hw (v := n) i6 dX0_feed_11 ?_
    refine r_if_le (a := n) (tgt := 31) hx hb dX0_feed_14 (by decide) (by omega) (fun c_14 => ?_) (fun c_14 => ?_)
    · refine r_iconst hx hb dX0_feed_31 ?_
      refine lv_istore_n (lv' := [(2, .int (iI ((-1)))), (0, .ref (h 0)), (1, .int (iI (x)))]) hx hb dX0_feed_32 rfl hl (by decide) rfl (fun ls hl => ?_)
      refine lv_iload_n hx hb dX0_feed_33 rfl (lv_at hl 0 rfl) ?_
      refine r_if_lt (a := (-1)) (tgt := 76) hx hb dX0_feed_34 (by decide) (by omega) (fun c_34 => ?_) (fun c_34 => ?_)
      · have xD1 := xD
        have xC1 := xC
        have xP1 := xP
        have xT1 := xT
        have o3 : x.toNat < wc := by have := o1; unfold fWc at this; rw [if_neg (by omega)] at this; exact this
        have hll := (xD1.2.1 x.toNat o3).1
        refine lv_aload_n hx hb dX0_feed_76 rfl (lv_at hl 1 rfl) ?_
        refine gX_5 S hw dX0_feed_77 ?_
        refine lv_aload_n hx hb dX0_feed_80 rfl (lv_at hl 1 rfl) ?_
        refine gX_6 S hw (v := n) i6 dX0_feed_81 ?_
        refine lv_iload_n hx hb dX0_feed_84 rfl (lv_at hl 2 rfl) ?_
        refine r_i2b (a := x) hx hb dX0_feed_85 (by have := o1; unfold fWc at this; split at this <;> omega) ?_
        refine sX_5 hx hb hw (n) (z := n) (v := x) (by omega) (by omega) (by have := o1; unfold fWc at this; split at this <;> omega) dX0_feed_86 (fun H locs hw => ?_)
        refine lv_aload_n hx hb dX0_feed_87 rfl (lv_at hl 1 rfl) ?_
        refine lv_dup hx hb dX0_feed_88 rfl ?_
        refine gX_6 S hw (v := n) i6 dX0_feed_89 ?_
        refine r_iconst hx hb dX0_feed_92 ?_
        refine r_iadd (a := n) (b := 1) hx hb dX0_feed_93 ?_
        refine pX_6 S hw (v := (n + 1)) dX0_feed_94 (fun H locs hw => ?_)
        refine lv_aload_n hx hb dX0_feed_97 rfl (lv_at hl 1 rfl) ?_
        refine lv_dup hx hb dX0_feed_98 rfl ?_
        refine gX_7 S hw (v := N) i7 dX0_feed_99 ?_
        refine lv_aload_n hx hb dX0_feed_102 rfl (lv_at hl 1 rfl) ?_
        refine gX_4 S hw dX0_feed_103 ?_
        refine lv_iload_n hx hb dX0_feed_106 rfl (lv_at hl 2 rfl) ?_
        refine aX_4 hx hb hw (x.toNat) (z := x) (v := len x.toNat) (by omega) (by omega) (hll) dX0_feed_107 ?_
        refine r_iadd (a := N) (b := len x.toNat) hx hb dX0_feed_108 ?_
        refine pX_7 S hw (v := (N + len x.toNat)) dX0_feed_109 (fun H locs hw => ?_)
        refine lv_aload_n hx hb dX0_feed_112 rfl (lv_at hl 1 rfl) ?_
        refine r_iconst hx hb dX0_feed_113 ?_
        refine pX_16 S hw (v := 0) z_0 rfl dX0_feed_114 (fun H locs hw => ?_)
        refine lv_aload_n hx hb dX0_feed_117 rfl (lv_at hl 1 rfl) ?_
        refine gX_4 S hw dX0_feed_118 ?_
        refine lv_iload_n hx hb dX0_feed_121 rfl (lv_at hl 2 rfl) ?_
        refine aX_4 hx hb hw (x.toNat) (z := x) (v := len x.toNat) (by omega) (by omega) (hll) dX0_feed_122 ?_
        refine G_reti (σ' := (up2 (up2 (up2 (up2 σ 5 (n) (x)) 6 0 ((n + 1))) 7 0 ((N + len x.toNat))) 16 0 (0))) (z := len x.toNat) hx hb hr hlk hw ?_ dX0_feed_123
        refine Or.inl ⟨ok, ?_⟩
        have a9 : ¬ (0 < n ∧ wc < 60) := by omega
        rw [show fWc wc n = wc from if_neg a9, show fLen wc len n cd = len from if_neg a9, show fSy wc len sy n cd x.toNat = sy from if_neg a9]
        exact ⟨rfl, X_app (by omega) xD1 xC1 xP1 xT1⟩
      · exact absurd c_34 (by omega)
    · obtain ⟨b1, b2⟩ := last_len hD hC ok (by omega)
      have b3 := fF_lt hD hC ok (by omega)
      have ok3 := ok3 (by omega)
      have b4 := (hD.2.2.2 _ b1).2.2 0 (by have := (hD.2.2.2 _ b1).1; omega)
      refine lv_aload_n hx hb dX0_feed_17 rfl (lv_at hl 0 rfl) ?_
      refine gX_5 S hw dX0_feed_18 ?_
      refine lv_aload_n hx hb dX0_feed_21 rfl (lv_at hl 0 rfl) ?_
      refine gX_6 S hw (v := n) i6 dX0_feed_22 ?_
      refine r_iconst hx hb dX0_feed_25 ?_
      refine r_isub (a := n) (b := 1) hx hb dX0_feed_26 ?_
      refine aX_5 hx hb hw (n - 1) (z := (n - 1)) (v := cd (n - 1)) (by omega) (by omega) (xC.2.2 (n - 1) (by omega)) dX0_feed_27 ?_
      refine lv_goto (tgt := 32) hx hb dX0_feed_28 (by decide) ?_
      refine lv_istore_n (lv' := [(2, .int (iI (cd (n - 1)))), (0, .ref (h 0)), (1, .int (iI (x)))]) hx hb dX0_feed_32 rfl hl (by decide) rfl (fun ls hl => ?_)
      refine lv_iload_n hx hb dX0_feed_33 rfl (lv_at hl 0 rfl) ?_
      refine r_if_lt (a := cd (n - 1)) (tgt := 76) hx hb dX0_feed_34 (by decide) (by omega) (fun c_34 => ?_) (fun c_34 => ?_)
      · exact absurd c_34 (by omega)
      · refine lv_aload_n hx hb dX0_feed_37 rfl (lv_at hl 1 rfl) ?_
        refine gX_0 S hw (v := wc) i0 dX0_feed_38 ?_
        refine r_bipush hx hb dX0_feed_41 (by decide) ?_
        refine r_icmp_ge (a := wc) (b := 60) (tgt := 76) hx hb dX0_feed_43 (by decide) (by omega) (by omega) (fun c_43 => ?_) (fun c_43 => ?_)
        · have xD1 := xD
          have xC1 := xC
          have xP1 := xP
          have xT1 := xT
          have o3 : x.toNat < wc := by have := o1; unfold fWc at this; rw [if_neg (by omega)] at this; exact this
          have hll := (xD1.2.1 x.toNat o3).1
          refine lv_aload_n hx hb dX0_feed_76 rfl (lv_at hl 1 rfl) ?_
          refine gX_5 S hw dX0_feed_77 ?_
          refine lv_aload_n hx hb dX0_feed_80 rfl (lv_at hl 1 rfl) ?_
          refine gX_6 S hw (v := n) i6 dX0_feed_81 ?_
          refine lv_iload_n hx hb dX0_feed_84 rfl (lv_at hl 2 rfl) ?_
          refine r_i2b (a := x) hx hb dX0_feed_85 (by have := o1; unfold fWc at this; split at this <;> omega) ?_
          refine sX_5 hx hb hw (n) (z := n) (v := x) (by omega) (by omega) (by have := o1; unfold fWc at this; split at this <;> omega) dX0_feed_86 (fun H locs hw => ?_)
          refine lv_aload_n hx hb dX0_feed_87 rfl (lv_at hl 1 rfl) ?_
          refine lv_dup hx hb dX0_feed_88 rfl ?_
          refine gX_6 S hw (v := n) i6 dX0_feed_89 ?_
          refine r_iconst hx hb dX0_feed_92 ?_
          refine r_iadd (a := n) (b := 1) hx hb dX0_feed_93 ?_
          refine pX_6 S hw (v := (n + 1)) dX0_feed_94 (fun H locs hw => ?_)
          refine lv_aload_n hx hb dX0_feed_97 rfl (lv_at hl 1 rfl) ?_
          refine lv_dup hx hb dX0_feed_98 rfl ?_
          refine gX_7 S hw (v := N) i7 dX0_feed_99 ?_
          refine lv_aload_n hx hb dX0_feed_102 rfl (lv_at hl 1 rfl) ?_
          refine gX_4 S hw dX0_feed_103 ?_
          refine lv_iload_n hx hb dX0_feed_106 rfl (lv_at hl 2 rfl) ?_
          refine aX_4 hx hb hw (x.toNat) (z := x) (v := len x.toNat) (by omega) (by omega) (hll) dX0_feed_107 ?_
          refine r_iadd (a := N) (b := len x.toNat) hx hb dX0_feed_108 ?_
          refine pX_7 S hw (v := (N + len x.toNat)) dX0_feed_109 (fun H locs hw => ?_)
          refine lv_aload_n hx hb dX0_feed_112 rfl (lv_at hl 1 rfl) ?_
          refine r_iconst hx hb dX0_feed_113 ?_
          refine pX_16 S hw (v := 0) z_0 rfl dX0_feed_114 (fun H locs hw => ?_)
          refine lv_aload_n hx hb dX0_feed_117 rfl (lv_at hl 1 rfl) ?_
          refine gX_4 S hw dX0_feed_118 ?_
          refine lv_iload_n hx hb dX0_feed_121 rfl (lv_at hl 2 rfl) ?_
          refine aX_4 hx hb hw (x.toNat) (z := x) (v := len x.toNat) (by omega) (by omega) (hll) dX0_feed_122 ?_
          refine G_reti (σ' := (up2 (up2 (up2 (up2 σ 5 (n) (x)) 6 0 ((n + 1))) 7 0 ((N + len x.toNat))) 16 0 (0))) (z := len x.toNat) hx hb hr hlk hw ?_ dX0_feed_123
          refine Or.inl ⟨ok, ?_⟩
          have a9 : ¬ (0 < n ∧ wc < 60) := by omega
          rw [show fWc wc n = wc from if_neg a9, show fLen wc len n cd = len from if_neg a9, show fSy wc len sy n cd x.toNat = sy from if_neg a9]
          exact ⟨rfl, X_app (by omega) xD1 xC1 xP1 xT1⟩
        · refine lv_iload_n hx hb dX0_feed_46 rfl (lv_at hl 2 rfl) ?_
          refine lv_aload_n hx hb dX0_feed_47 rfl (lv_at hl 1 rfl) ?_
          refine gX_0 S hw (v := wc) i0 dX0_feed_48 ?_
          refine r_icmp_ne (a := x) (b := wc) (tgt := 63) hx hb dX0_feed_51 (by decide) (by omega) (by omega) (fun c_51 => ?_) (fun c_51 => ?_)
          · refine lv_aload_n hx hb dX0_feed_63 rfl (lv_at hl 1 rfl) ?_
            refine gX_3 S hw dX0_feed_64 ?_
            refine lv_iload_n hx hb dX0_feed_67 rfl (lv_at hl 2 rfl) ?_
            refine aX_3 hx hb hw (x.toNat) (z := x) (v := sy x.toNat 0) (by omega) (by omega) ((xD.2.1 _ (by omega)).2.2) dX0_feed_68 ?_
            refine r_top (a := sy x.toNat 0) (b := fF wc sy n cd x.toNat) (by unfold fF; rw [if_neg (by omega)]) ?_
            refine lv_istore_n (lv' := [(3, .int (iI (fF wc sy n cd x.toNat))), (2, .int (iI (cd (n - 1)))), (0, .ref (h 0)), (1, .int (iI (x)))]) hx hb dX0_feed_69 rfl hl (by decide) rfl (fun ls hl => ?_)
            refine lv_aload_n hx hb dX0_feed_70 rfl (lv_at hl 2 rfl) ?_
            refine lv_iload_n hx hb dX0_feed_71 rfl (lv_at hl 1 rfl) ?_
            refine lv_iload_n hx hb dX0_feed_72 rfl (lv_at hl 0 rfl) ?_
            refine cX_v (As := [.int (iI (cd (n - 1))), .int (iI (fF wc sy n cd x.toNat))]) (rest := []) S hw (mX_addWord l D cB cS h σ (cd (n - 1)) (fF wc sy n cd x.toNat) i0 (by omega) (by omega) (by omega) (by rw [(xD.2.1 _ b1).2.2]; omega) (by rw [(xD.2.1 _ b1).1]; omega)) (cwV 2 hts (lw_V q102 q104 qs1 q15 q105) rfl rfl rfl (by decide +kernel) ⟨Nat.le_of_ble_eq_true rfl, Nat.le_of_ble_eq_true rfl⟩) ⟨Nat.le_refl 0, Nat.le_refl 0⟩ rfl hl.1 rfl (Nat.le_of_ble_eq_true rfl) dX0_feed_73 (fun σ1 H locs hp1 hw => ?_)
            have xD1 := XDict.add hD (by omega) b1 xD hp1
            have xT1 : XTab (wc + 1) (nL wc len (cd (n - 1))) (nS wc len sy (cd (n - 1)) (fF wc sy n cd x.toNat)) m P σ1 := XTab.add xT (fun a j h1 h2 => by rw [hp1, up2_nk (by omega), up2_nk (by omega), up2_nk (by omega), up2_nk (by omega), up2_nk (by omega)])
            have xC1 : XCods n N cd σ1 := xC.to (fun a j h1 h2 => by rw [hp1, up2_nk (by omega), up2_nk (by omega), up2_nk (by omega), up2_nk (by omega), up2_nk (by omega)])
            have xP1 : XPat m P σ1 := xP.to (fun a j h1 h2 => by rw [hp1, up2_nk (by omega), up2_nk (by omega), up2_nk (by omega), up2_nk (by omega), up2_nk (by omega)])
            have o3 : x.toNat < wc + 1 := by have := o1; unfold fWc at this; rw [if_pos ⟨by omega, by omega⟩] at this; exact this
            have hll := (xD1.2.1 x.toNat o3).1
            refine lv_aload_n hx hb dX0_feed_76 rfl (lv_at hl 2 rfl) ?_
            refine gX_5 S hw dX0_feed_77 ?_
            refine lv_aload_n hx hb dX0_feed_80 rfl (lv_at hl 2 rfl) ?_
            refine gX_6 S hw (v := n) xC1.1 dX0_feed_81 ?_
            refine lv_iload_n hx hb dX0_feed_84 rfl (lv_at hl 3 rfl) ?_
            refine r_i2b (a := x) hx hb dX0_feed_85 (by have := o1; unfold fWc at this; split at this <;> omega) ?_
            refine sX_5 hx hb hw (n) (z := n) (v := x) (by omega) (by omega) (by have := o1; unfold fWc at this; split at this <;> omega) dX0_feed_86 (fun H locs hw => ?_)
            refine lv_aload_n hx hb dX0_feed_87 rfl (lv_at hl 2 rfl) ?_
            refine lv_dup hx hb dX0_feed_88 rfl ?_
            refine gX_6 S hw (v := n) xC1.1 dX0_feed_89 ?_
            refine r_iconst hx hb dX0_feed_92 ?_
            refine r_iadd (a := n) (b := 1) hx hb dX0_feed_93 ?_
            refine pX_6 S hw (v := (n + 1)) dX0_feed_94 (fun H locs hw => ?_)
            refine lv_aload_n hx hb dX0_feed_97 rfl (lv_at hl 2 rfl) ?_
            refine lv_dup hx hb dX0_feed_98 rfl ?_
            refine gX_7 S hw (v := N) xC1.2.1 dX0_feed_99 ?_
            refine lv_aload_n hx hb dX0_feed_102 rfl (lv_at hl 2 rfl) ?_
            refine gX_4 S hw dX0_feed_103 ?_
            refine lv_iload_n hx hb dX0_feed_106 rfl (lv_at hl 3 rfl) ?_
            refine aX_4 hx hb hw (x.toNat) (z := x) (v := nL wc len (cd (n - 1)) x.toNat) (by omega) (by omega) (hll) dX0_feed_107 ?_
            refine r_iadd (a := N) (b := nL wc len (cd (n - 1)) x.toNat) hx hb dX0_feed_108 ?_
            refine pX_7 S hw (v := (N + nL wc len (cd (n - 1)) x.toNat)) dX0_feed_109 (fun H locs hw => ?_)
            refine lv_aload_n hx hb dX0_feed_112 rfl (lv_at hl 2 rfl) ?_
            refine r_iconst hx hb dX0_feed_113 ?_
            refine pX_16 S hw (v := 0) z_0 rfl dX0_feed_114 (fun H locs hw => ?_)
            refine lv_aload_n hx hb dX0_feed_117 rfl (lv_at hl 2 rfl) ?_
            refine gX_4 S hw dX0_feed_118 ?_
            refine lv_iload_n hx hb dX0_feed_121 rfl (lv_at hl 3 rfl) ?_
            refine aX_4 hx hb hw (x.toNat) (z := x) (v := nL wc len (cd (n - 1)) x.toNat) (by omega) (by omega) (hll) dX0_feed_122 ?_
            refine G_reti (σ' := (up2 (up2 (up2 (up2 σ1 5 (n) (x)) 6 0 ((n + 1))) 7 0 ((N + nL wc len (cd (n - 1)) x.toNat))) 16 0 (0))) (z := nL wc len (cd (n - 1)) x.toNat) hx hb hr hlk hw ?_ dX0_feed_123
            refine Or.inl ⟨ok, ?_⟩
            have a9 : 0 < n ∧ wc < 60 := by omega
            rw [show fWc wc n = wc + 1 from if_pos a9, show fLen wc len n cd = nL wc len (cd (n - 1)) from if_pos a9, show fSy wc len sy n cd x.toNat = nS wc len sy (cd (n - 1)) (fF wc sy n cd x.toNat) from if_pos a9]
            exact ⟨rfl, X_app (by omega) xD1 xC1 xP1 xT1⟩
          · refine lv_aload_n hx hb dX0_feed_54 rfl (lv_at hl 1 rfl) ?_
            refine gX_3 S hw dX0_feed_55 ?_
            refine lv_iload_n hx hb dX0_feed_58 rfl (lv_at hl 0 rfl) ?_
            refine aX_3 hx hb hw (cd (n - 1)) (z := cd (n - 1)) (v := sy (cd (n - 1)) 0) (by omega) (by omega) ((xD.2.1 _ b1).2.2) dX0_feed_59 ?_
            refine r_top (a := sy (cd (n - 1)) 0) (b := fF wc sy n cd x.toNat) (by unfold fF; rw [if_pos (by omega)]) ?_
            refine lv_goto (tgt := 69) hx hb dX0_feed_60 (by decide) ?_
            refine lv_istore_n (lv' := [(3, .int (iI (fF wc sy n cd x.toNat))), (2, .int (iI (cd (n - 1)))), (0, .ref (h 0)), (1, .int (iI (x)))]) hx hb dX0_feed_69 rfl hl (by decide) rfl (fun ls hl => ?_)
            refine lv_aload_n hx hb dX0_feed_70 rfl (lv_at hl 2 rfl) ?_
            refine lv_iload_n hx hb dX0_feed_71 rfl (lv_at hl 1 rfl) ?_
            refine lv_iload_n hx hb dX0_feed_72 rfl (lv_at hl 0 rfl) ?_
            refine cX_v (As := [.int (iI (cd (n - 1))), .int (iI (fF wc sy n cd x.toNat))]) (rest := []) S hw (mX_addWord l D cB cS h σ (cd (n - 1)) (fF wc sy n cd x.toNat) i0 (by omega) (by omega) (by omega) (by rw [(xD.2.1 _ b1).2.2]; omega) (by rw [(xD.2.1 _ b1).1]; omega)) (cwV 2 hts (lw_V q102 q104 qs1 q15 q105) rfl rfl rfl (by decide +kernel) ⟨Nat.le_of_ble_eq_true rfl, Nat.le_of_ble_eq_true rfl⟩) ⟨Nat.le_refl 0, Nat.le_refl 0⟩ rfl hl.1 rfl (Nat.le_of_ble_eq_true rfl) dX0_feed_73 (fun σ1 H locs hp1 hw => ?_)
            have xD1 := XDict.add hD (by omega) b1 xD hp1
            have xT1 : XTab (wc + 1) (nL wc len (cd (n - 1))) (nS wc len sy (cd (n - 1)) (fF wc sy n cd x.toNat)) m P σ1 := XTab.add xT (fun a j h1 h2 => by rw [hp1, up2_nk (by omega), up2_nk (by omega), up2_nk (by omega), up2_nk (by omega), up2_nk (by omega)])
            have xC1 : XCods n N cd σ1 := xC.to (fun a j h1 h2 => by rw [hp1, up2_nk (by omega), up2_nk (by omega), up2_nk (by omega), up2_nk (by omega), up2_nk (by omega)])
            have xP1 : XPat m P σ1 := xP.to (fun a j h1 h2 => by rw [hp1, up2_nk (by omega), up2_nk (by omega), up2_nk (by omega), up2_nk (by omega), up2_nk (by omega)])
            have o3 : x.toNat < wc + 1 := by have := o1; unfold fWc at this; rw [if_pos ⟨by omega, by omega⟩] at this; exact this
            have hll := (xD1.2.1 x.toNat o3).1
            refine lv_aload_n hx hb dX0_feed_76 rfl (lv_at hl 2 rfl) ?_
            refine gX_5 S hw dX0_feed_77 ?_
            refine lv_aload_n hx hb dX0_feed_80 rfl (lv_at hl 2 rfl) ?_
            refine gX_6 S hw (v := n) xC1.1 dX0_feed_81 ?_
            refine lv_iload_n hx hb dX0_feed_84 rfl (lv_at hl 3 rfl) ?_
            refine r_i2b (a := x) hx hb dX0_feed_85 (by have := o1; unfold fWc at this; split at this <;> omega) ?_
            refine sX_5 hx hb hw (n) (z := n) (v := x) (by omega) (by omega) (by have := o1; unfold fWc at this; split at this <;> omega) dX0_feed_86 (fun H locs hw => ?_)
            refine lv_aload_n hx hb dX0_feed_87 rfl (lv_at hl 2 rfl) ?_
            refine lv_dup hx hb dX0_feed_88 rfl ?_
            refine gX_6 S hw (v := n) xC1.1 dX0_feed_89 ?_
            refine r_iconst hx hb dX0_feed_92 ?_
            refine r_iadd (a := n) (b := 1) hx hb dX0_feed_93 ?_
            refine pX_6 S hw (v := (n + 1)) dX0_feed_94 (fun H locs hw => ?_)
            refine lv_aload_n hx hb dX0_feed_97 rfl (lv_at hl 2 rfl) ?_
            refine lv_dup hx hb dX0_feed_98 rfl ?_
            refine gX_7 S hw (v := N) xC1.2.1 dX0_feed_99 ?_
            refine lv_aload_n hx hb dX0_feed_102 rfl (lv_at hl 2 rfl) ?_
            refine gX_4 S hw dX0_feed_103 ?_
            refine lv_iload_n hx hb dX0_feed_106 rfl (lv_at hl 3 rfl) ?_
            refine aX_4 hx hb hw (x.toNat) (z := x) (v := nL wc len (cd (n - 1)) x.toNat) (by omega) (by omega) (hll) dX0_feed_107 ?_
            refine r_iadd (a := N) (b := nL wc len (cd (n - 1)) x.toNat) hx hb dX0_feed_108 ?_
            refine pX_7 S hw (v := (N + nL wc len (cd (n - 1)) x.toNat)) dX0_feed_109 (fun H locs hw => ?_)
            refine lv_aload_n hx hb dX0_feed_112 rfl (lv_at hl 2 rfl) ?_
            refine r_iconst hx hb dX0_feed_113 ?_
            refine pX_16 S hw (v := 0) z_0 rfl dX0_feed_114 (fun H locs hw => ?_)
            refine lv_aload_n hx hb dX0_feed_117 rfl (lv_at hl 2 rfl) ?_
            refine gX_4 S hw dX0_feed_118 ?_
            refine lv_iload_n hx hb dX0_feed_121 rfl (lv_at hl 3 rfl) ?_
            refine aX_4 hx hb hw (x.toNat) (z := x) (v := nL wc len (cd (n - 1)) x.toNat) (by omega) (by omega) (hll) dX0_feed_122 ?_
            refine G_reti (σ' := (up2 (up2 (up2 (up2 σ1 5 (n) (x)) 6 0 ((n + 1))) 7 0 ((N + nL wc len (cd (n - 1)) x.toNat))) 16 0 (0))) (z := nL wc len (cd (n - 1)) x.toNat) hx hb hr hlk hw ?_ dX0_feed_123
            refine Or.inl ⟨ok, ?_⟩
            have a9 : 0 < n ∧ wc < 60 := by omega
            rw [show fWc wc n = wc + 1 from if_pos a9, show fLen wc len n cd = nL wc len (cd (n - 1)) from if_pos a9, show fSy wc len sy n cd x.toNat = nS wc len sy (cd (n - 1)) (fF wc sy n cd x.toNat) from if_pos a9]
            exact ⟨rfl, X_app (by omega) xD1 xC1 xP1 xT1⟩
  · have ok : ¬ okF wc len n N cd x := by
      rcases hz with z | z
      · omega
      · exact z.2
    refine r_iconst hx hb dX0_feed_8 ?_
    exact G_reti (σ' := σ) (z := (-1)) hx hb hr hlk hw (Or.inr ⟨ok, rfl, rfl⟩) dX0_feed_9
end
section
/-! PLAIN: the tables' cells and the run over the codes -/
theorem X_prev {len : Nat → Nat} {sy : Nat → Nat → Nat} {m : Nat} {P : Nat → Nat} {σ : St} {w v s L : Nat} (h : XCell len sy m P σ v s) (hL : len v = L) (e : ∀ k, k < len v → sy w k = sy v k) :
    σ 11 (v * 7 + s) = (rn P m s (sy w) L : Int) ∧ σ 12 (v * 7 + s) = (cn (rn P m s (sy w)) m L : Int) ∧ σ 13 (v * 7 + s) = (fs (rn P m s (sy w)) m L : Int) ∧ σ 14 (v * 7 + s) = (la (rn P m s (sy w)) m L : Int) := by
  obtain ⟨h1, h2, h3, h4⟩ := h
  subst hL
  have g : ∀ j, j ≤ len v → rn P m s (sy v) j = rn P m s (sy w) j := fun j hj => rn_congr (fun i hi => (e i (by omega)).symm)
  rw [h1, h2, h3, h4, g _ (Nat.le_refl _), cn_congr g, fs_congr g, la_congr g]
  exact ⟨rfl, rfl, rfl, rfl⟩
theorem X_cell {len : Nat → Nat} {sy : Nat → Nat → Nat} {m : Nat} {P : Nat → Nat} {σ : St} {w s L : Nat} (hL : len w = L + 1) {e c f l : Int} (he : e = (dl P m (rn P m s (sy w) L) (sy w L) : Int))
    (h : (e = (m : Int) ∧ c = (cn (rn P m s (sy w)) m L : Int) + 1 ∧ l = (L : Int) + 1 ∧ ((fs (rn P m s (sy w)) m L = 0 ∧ f = (L : Int) + 1) ∨ (¬ fs (rn P m s (sy w)) m L = 0 ∧ f = (fs (rn P m s (sy w)) m L : Int)))) ∨ (¬ e = (m : Int) ∧ c = (cn (rn P m s (sy w)) m L : Int) ∧ f = (fs (rn P m s (sy w)) m L : Int) ∧ l = (la (rn P m s (sy w)) m L : Int))) :
    XCell len sy m P (up2 (up2 (up2 (up2 σ 11 (w * 7 + s) e) 12 (w * 7 + s) c) 13 (w * 7 + s) f) 14 (w * 7 + s) l) w s := by
  have hr : rn P m s (sy w) (L + 1) = dl P m (rn P m s (sy w) L) (sy w L) := rfl
  have g1 : up2 (up2 (up2 (up2 σ 11 (w * 7 + s) e) 12 (w * 7 + s) c) 13 (w * 7 + s) f) 14 (w * 7 + s) l 11 (w * 7 + s) = e := by simp [up2]
  have g2 : up2 (up2 (up2 (up2 σ 11 (w * 7 + s) e) 12 (w * 7 + s) c) 13 (w * 7 + s) f) 14 (w * 7 + s) l 12 (w * 7 + s) = c := by simp [up2]
  have g3 : up2 (up2 (up2 (up2 σ 11 (w * 7 + s) e) 12 (w * 7 + s) c) 13 (w * 7 + s) f) 14 (w * 7 + s) l 13 (w * 7 + s) = f := by simp [up2]
  have g4 : up2 (up2 (up2 (up2 σ 11 (w * 7 + s) e) 12 (w * 7 + s) c) 13 (w * 7 + s) f) 14 (w * 7 + s) l 14 (w * 7 + s) = l := by simp [up2]
  unfold XCell
  rw [g1, g2, g3, g4, hL, cn_s, fs_s, la_s, hr]
  rw [← hr] at he ⊢
  generalize rn P m s (sy w) (L + 1) = z at he ⊢
  rcases h with ⟨a1, a2, a3, a4⟩ | ⟨a1, a2, a3, a4⟩
  · have q : z = m := by omega
    rw [if_pos q, if_pos q, if_pos q]
    refine ⟨he, by omega, ?_, by omega⟩
    rcases a4 with ⟨b1, b2⟩ | ⟨b1, b2⟩
    · rw [if_pos b1]; omega
    · rw [if_neg b1]; exact b2
  · have q : ¬ z = m := by omega
    rw [if_neg q, if_neg q, if_neg q]
    refine ⟨he, by omega, ?_, a4⟩
    by_cases b1 : fs (rn P m s (sy w)) m L = 0
    · rw [if_pos b1, a3, b1]
    · rw [if_neg b1]; exact a3
/-- firstPlace and lastPlace at a place b of the text -/
def pl (m v : Nat) : Int := if v = 0 then -1 else (v : Int) - m
theorem pl_b {m v : Nat} (h1 : v = 0 ∨ m ≤ v) (h2 : v ≤ 250) : -1 ≤ pl m v ∧ pl m v ≤ 250 ∧ (pl m v < 0 ↔ v = 0) := by
  unfold pl
  by_cases q : v = 0
  · rw [if_pos q]; omega
  · rw [if_neg q]; omega
theorem fs_m (P T : Nat → Nat) (m b : Nat) : fs (fun e => bst P T e m) m b = 0 ∨ m ≤ fs (fun e => bst P T e m) m b := by
  by_cases q : fs (fun e => bst P T e m) m b = 0
  · exact Or.inl q
  · exact Or.inr (bst_fle (fs_hit q))
theorem run_word {P T w : Nat → Nat} {m b l : Nat} (h : ∀ j, j < l → T (b + j) = w j) (i : Nat) (hi : i ≤ l) : bst P T (b + i) m = rn P m (bst P T b m) w i := by
  rw [rn_bst]
  exact rn_congr (fun j hj => h j (by omega))
theorem cn_word {P T w : Nat → Nat} {m b l : Nat} (h : ∀ j, j < l → T (b + j) = w j) : cn (fun e => bst P T e m) m (b + l) = cn (fun e => bst P T e m) m b + cn (rn P m (bst P T b m) w) m l := by
  rw [cn_shift, cn_congr (fun j hj => run_word h j hj)]
theorem fs_word {P T w : Nat → Nat} {m b l : Nat} (h : ∀ j, j < l → T (b + j) = w j) : fs (fun e => bst P T e m) m (b + l) = if fs (fun e => bst P T e m) m b = 0 then (if fs (rn P m (bst P T b m) w) m l = 0 then 0 else b + fs (rn P m (bst P T b m) w) m l) else fs (fun e => bst P T e m) m b := by
  rw [fs_shift, fs_congr (fun j hj => run_word h j hj)]
theorem la_word {P T w : Nat → Nat} {m b l : Nat} (h : ∀ j, j < l → T (b + j) = w j) : la (fun e => bst P T e m) m (b + l) = if la (rn P m (bst P T b m) w) m l = 0 then la (fun e => bst P T e m) m b else b + la (rn P m (bst P T b m) w) m l := by
  rw [la_shift, la_congr (fun j hj => run_word h j hj)]
/-- what the scan knows behind k codes -/
def XRun (len : Nat → Nat) (sy : Nat → Nat → Nat) (cd T : Nat → Nat) (m : Nat) (P : Nat → Nat) (b k : Nat) (σ : St) : Prop := σ 16 0 = 1 ∧ σ 17 0 = (bst P T b m : Int) ∧ σ 18 0 = (cn (fun e => bst P T e m) m b : Int) ∧ σ 19 0 = pl m (fs (fun e => bst P T e m) m b) ∧ σ 20 0 = pl m (la (fun e => bst P T e m) m b) ∧ σ 21 0 = (sw (fun k => sIn len sy m P (cd k)) k : Int)
/-- pass: what it makes of the state -/
def ps (σ : St) (j : Nat) (pla : Int) : St := if 0 < σ 12 j then up2 (up2 (up2 (up2 σ 18 0 (σ 18 0 + σ 12 j)) 20 0 (pla + σ 14 j - σ 9 0)) 19 0 (if σ 19 0 < 0 then pla + σ 13 j - σ 9 0 else σ 19 0)) 17 0 (σ 11 j) else up2 σ 17 0 (σ 11 j)
theorem ps_o {σ : St} {j a i : Nat} {pla : Int} (h : a ≠ 17 ∧ a ≠ 18 ∧ a ≠ 19 ∧ a ≠ 20) : ps σ j pla a i = σ a i := by
  unfold ps
  split
  · rw [up2_nk (by omega), up2_nk (by omega), up2_nk (by omega), up2_nk (by omega)]
  · rw [up2_nk (by omega)]
theorem X_pass {len : Nat → Nat} {sy : Nat → Nat → Nat} {cd T : Nat → Nat} {m : Nat} {P : Nat → Nat} {b k : Nat} {σ : St} {v : Int} (hm : σ 9 0 = (m : Int)) (hc : XCell len sy m P σ (cd k) (bst P T b m)) (hi : XCell len sy m P σ (cd k) 0) (hT : ∀ j, j < len (cd k) → T (b + j) = sy (cd k) j) (hr : XRun len sy cd T m P b k σ) (hv : v = σ 21 0 + σ 12 (cd k * 7)) : XRun len sy cd T m P (b + len (cd k)) (k + 1) (up2 (ps σ (cd k * 7 + bst P T b m) (b : Int)) 21 0 v) := by
  obtain ⟨r1, r2, r3, r4, r5, r6⟩ := hr
  obtain ⟨c1, c2, c3, c4⟩ := hc
  have i2 : σ 12 (cd k * 7 + 0) = (sIn len sy m P (cd k) : Int) := hi.2.1
  rw [show cd k * 7 + 0 = cd k * 7 by omega] at i2
  rw [← run_word hT _ (Nat.le_refl _)] at c1
  have w1 := cn_word (P := P) (m := m) hT
  have w2 := fs_word (P := P) (m := m) hT
  have w3 := la_word (P := P) (m := m) hT
  have z1 := cnfs (rn P m (bst P T b m) (sy (cd k))) m (len (cd k))
  have z2 := cnla (rn P m (bst P T b m) (sy (cd k))) m (len (cd k))
  have hs : (sw (fun k => sIn len sy m P (cd k)) (k + 1) : Int) = v := by
    rw [hv, i2, r6]
    show ((sw (fun k => sIn len sy m P (cd k)) k + sIn len sy m P (cd k) : Nat) : Int) = _
    omega
  have hfm := fs_m P T m b
  have p16 : ∀ (x : St), up2 x 21 0 v 16 0 = x 16 0 := fun x => rfl
  have p17 : ∀ (x : St), up2 x 21 0 v 17 0 = x 17 0 := fun x => rfl
  have p18 : ∀ (x : St), up2 x 21 0 v 18 0 = x 18 0 := fun x => rfl
  have p19 : ∀ (x : St), up2 x 21 0 v 19 0 = x 19 0 := fun x => rfl
  have p20 : ∀ (x : St), up2 x 21 0 v 20 0 = x 20 0 := fun x => rfl
  have p21 : ∀ (x : St), up2 x 21 0 v 21 0 = v := fun x => rfl
  unfold XRun
  rw [p16, p17, p18, p19, p20, p21, ps_o (by omega), w1, w2, w3]
  generalize bst P T b m = B at *
  generalize cn (rn P m B (sy (cd k))) m (len (cd k)) = C9 at *
  generalize fs (rn P m B (sy (cd k))) m (len (cd k)) = F9 at *
  generalize la (rn P m B (sy (cd k))) m (len (cd k)) = L9 at *
  generalize fs (fun e => bst P T e m) m b = F0 at *
  generalize la (fun e => bst P T e m) m b = L0 at *
  unfold ps
  by_cases q : 0 < σ 12 (cd k * 7 + B)
  · rw [if_pos q]
    have q1 : ¬ F9 = 0 := by omega
    have q2 : ¬ L9 = 0 := by omega
    have hf9 : ∀ (x : St) (a1 a2 a3 a4 : Int), up2 (up2 (up2 (up2 x 18 0 a1) 20 0 a2) 19 0 a3) 17 0 a4 17 0 = a4 ∧ up2 (up2 (up2 (up2 x 18 0 a1) 20 0 a2) 19 0 a3) 17 0 a4 18 0 = a1 ∧ up2 (up2 (up2 (up2 x 18 0 a1) 20 0 a2) 19 0 a3) 17 0 a4 19 0 = a3 ∧ up2 (up2 (up2 (up2 x 18 0 a1) 20 0 a2) 19 0 a3) 17 0 a4 20 0 = a2 := fun x a1 a2 a3 a4 => ⟨rfl, rfl, rfl, rfl⟩
    obtain ⟨g1, g2, g3, g4⟩ := hf9 σ (σ 18 0 + σ 12 (cd k * 7 + B)) ((b : Int) + σ 14 (cd k * 7 + B) - σ 9 0) (if σ 19 0 < 0 then (b : Int) + σ 13 (cd k * 7 + B) - σ 9 0 else σ 19 0) (σ 11 (cd k * 7 + B))
    rw [g1, g2, g3, g4, if_neg q1, if_neg q2]
    refine ⟨r1, c1, by omega, ?_, ?_, hs.symm⟩
    · rw [r4]
      by_cases q3 : F0 = 0
      · have e1 : pl m F0 = -1 := by unfold pl; rw [if_pos q3]
        have e2 : pl m (b + F9) = ((b + F9 : Nat) : Int) - m := by unfold pl; rw [if_neg (by omega)]
        rw [if_pos q3, e1, if_pos (by omega), c3, hm, e2]; omega
      · have e1 : pl m F0 = (F0 : Int) - m := by unfold pl; rw [if_neg q3]
        rw [if_neg q3, e1, if_neg (by omega)]
    · unfold pl
      rw [if_neg (by omega), c4, hm]; omega
  · rw [if_neg q]
    have q1 : F9 = 0 := by omega
    have q2 : L9 = 0 := by omega
    have g1 : up2 σ 17 0 (σ 11 (cd k * 7 + B)) 17 0 = σ 11 (cd k * 7 + B) := rfl
    have g2 : up2 σ 17 0 (σ 11 (cd k * 7 + B)) 18 0 = σ 18 0 := rfl
    have g3 : up2 σ 17 0 (σ 11 (cd k * 7 + B)) 19 0 = σ 19 0 := rfl
    have g4 : up2 σ 17 0 (σ 11 (cd k * 7 + B)) 20 0 = σ 20 0 := rfl
    rw [g1, g2, g3, g4, if_pos q1, if_pos q2]
    refine ⟨r1, c1, by omega, ?_, r5, hs.symm⟩
    rw [r4]
    by_cases q3 : F0 = 0
    · rw [if_pos q3, q3]
    · rw [if_neg q3]
theorem X_done {len : Nat → Nat} {sy : Nat → Nat → Nat} {n N : Nat} {cd T : Nat → Nat} {m : Nat} {P : Nat → Nat} {σ : St} (hm : 0 < m) (hr : XRun len sy cd T m P N n σ) : XKn len sy n N cd T m P σ := by
  obtain ⟨r1, r2, r3, r4, r5, r6⟩ := hr
  refine Or.inr ⟨r1, r2, ?_, ?_, ?_, ?_⟩
  · unfold sCount; rw [if_neg (by omega)]; exact r3
  · unfold sFirst; rw [r4]; unfold pl
    by_cases q : fs (fun e => bst P T e m) m N = 0
    · rw [if_pos q, if_pos (Or.inr q)]
    · rw [if_neg q, if_neg (fun z => by omega)]
  · unfold sLast; rw [r5]; unfold pl
    by_cases q : la (fun e => bst P T e m) m N = 0
    · rw [if_pos q, if_pos (Or.inr q)]
    · rw [if_neg q, if_neg (fun z => by omega)]
  · unfold sWithin; rw [if_neg (by omega)]; exact r6
theorem X_empty {len : Nat → Nat} {sy : Nat → Nat → Nat} {n N : Nat} {cd T : Nat → Nat} {P : Nat → Nat} {σ : St} (h1 : σ 16 0 = 1) (h2 : σ 17 0 = 0) (h3 : σ 18 0 = 0) (h4 : σ 19 0 = -1) (h5 : σ 20 0 = -1) (h6 : σ 21 0 = 0) : XKn len sy n N cd T 0 P σ := by
  refine Or.inr ⟨h1, h2, h3, ?_, ?_, h6⟩
  · rw [h4]; unfold sFirst; rw [if_pos (Or.inl rfl)]
  · rw [h5]; unfold sLast; rw [if_pos (Or.inl rfl)]
theorem X_run0 {len : Nat → Nat} {sy : Nat → Nat → Nat} {cd T : Nat → Nat} {m : Nat} {P : Nat → Nat} {σ : St} (h1 : σ 16 0 = 1) (h2 : σ 17 0 = 0) (h3 : σ 18 0 = 0) (h4 : σ 19 0 = -1) (h5 : σ 20 0 = -1) (h6 : σ 21 0 = 0) : XRun len sy cd T m P 0 0 σ := by
  refine ⟨h1, by rw [bst_zero]; exact h2, h3, h4, h5, h6⟩
theorem X_tab {wc : Nat} {len : Nat → Nat} {sy : Nat → Nat → Nat} {m : Nat} {P : Nat → Nat} {σ σ2 : St} (hm : 0 < m) (h1 : σ 15 0 = (wc : Int)) (h2 : XStep m P σ) (h3 : ∀ w, w < wc → ∀ s, s ≤ m → XCell len sy m P σ w s) (e : ∀ a j, 10 ≤ a → a ≤ 15 → σ2 a j = σ a j) : XTab wc len sy m P σ2 := XTab.to ⟨wc, h1, Nat.le_refl _, fun _ => ⟨hm, h2, h3⟩⟩ e
end
section
/-! CodeSearcher: the machine, the tables, the scan (printed by gen/x4.py) -/
set_option maxRecDepth 100000 in
/-- the machine: step[s * 4 + a] is dl P m s a -/
theorem mX_buildMachine (l : Launch) (D : va_G) (cB cS : ClassId) (h : Nat → Nat) (σ : St) {m : Nat} {P : Nat → Nat} (hPt : Patt m P) (xP : XPat m P σ) :
    GMv l yX0_buildMachine cX0_buildMachine 4 none 0 0 D [(cB, .byte), (cS, .short)] (wX h cB cS) (adX h) (h 0) [] σ (fun σ' => (∀ a j, a ≠ 10 → σ' a j = σ a j) ∧ XStep m P σ') := by
  have p1 : m ≤ 6 := hPt.1
  have i9 : σ 9 0 = (m : Int) := xP.1
  refine GMv.of (by decide) rfl (Nat.le_of_ble_eq_true rfl) ?_
  intro p e s mi bl me co A ls S hr hlk hw hl
  have S : CallFix p mi co cX0_buildMachine 4 s _ lw_all RX0 := S
  have hx := S.1
  have hb := S.2.1
  have hts := S.2.2.2.2
  have hl : lv_has ls 4 [(0, .ref (h 0))] := hl
  refine r_iconst hx hb dX0_buildMachine_0 ?_
  refine lv_istore_n (lv' := [(1, .int (iI (0))), (0, .ref (h 0))]) hx hb dX0_buildMachine_1 rfl hl (by decide) rfl (fun ls hl => ?_)
  have loop2 : ∀ (f : Nat) (i : Nat) (σ1 : St) (H : Heap) (locs : List Loc) (ls : Array Slot), 28 < i + f → (i ≤ 28) → (∀ a j, a ≠ 10 → σ1 a j = σ a j) → GW D [(cB, .byte), (cS, .short)] (wX h cB cS σ1) A s H locs → lv_has ls 4 [(0, .ref (h 0)), (1, .int (iI (i)))] → W p l e ({ frames := 0, cells := 0, slots := 0, locals := 0 }) s mi (Value.ref (h 0) :: []).toArray bl me co H locs 0 0 (QGv D [(cB, .byte), (cS, .short)] (wX h cB cS) A s (Value.ref (h 0) :: []).toArray bl (fun σ' => (∀ a j, a ≠ 10 → σ' a j = σ a j) ∧ XStep m P σ')) (F0 mi 2 ls []) := by
    intro f
    induction f with
    | zero =>
      intro i σ1 H locs ls q0 j1 j2
      exact absurd q0 (by omega)
    | succ f ih2 =>
      intro i σ1 H locs ls q0 j1 j2 hw hl
      refine lv_iload_n hx hb dX0_buildMachine_2 rfl (lv_at hl 1 rfl) ?_
      refine r_bipush hx hb dX0_buildMachine_3 (by decide) ?_
      refine r_icmp_ge (a := i) (b := 28) (tgt := 21) hx hb dX0_buildMachine_5 (by decide) (by omega) (by omega) (fun c_5 => ?_) (fun c_5 => ?_)
      · refine r_iconst hx hb dX0_buildMachine_21 ?_
        refine lv_istore_n (lv' := [(1, .int (iI (0))), (0, .ref (h 0))]) hx hb dX0_buildMachine_22 rfl hl (by decide) rfl (fun ls hl => ?_)
        refine r_iconst hx hb dX0_buildMachine_23 ?_
        refine lv_istore_n (lv' := [(2, .int (iI (0))), (1, .int (iI (0))), (0, .ref (h 0))]) hx hb dX0_buildMachine_24 rfl hl (by decide) rfl (fun ls hl => ?_)
        have loop25 : ∀ (f : Nat) (t : Nat) (bb : Nat) (σ1 : St) (H : Heap) (locs : List Loc) (ls : Array Slot), m + 1 < t + f → (t ≤ m + 1) → (∀ a j, a ≠ 10 → σ1 a j = σ a j) → (∀ s9, s9 < t → ∀ a, a < 4 → σ1 10 (s9 * 4 + a) = (dl P m s9 a : Int)) → (t ≤ m → bb = bk P m t) → (bb ≤ 6) → GW D [(cB, .byte), (cS, .short)] (wX h cB cS σ1) A s H locs → lv_has ls 4 [(0, .ref (h 0)), (1, .int (iI (bb))), (2, .int (iI (t)))] → W p l e ({ frames := 0, cells := 0, slots := 0, locals := 0 }) s mi (Value.ref (h 0) :: []).toArray bl me co H locs 0 0 (QGv D [(cB, .byte), (cS, .short)] (wX h cB cS) A s (Value.ref (h 0) :: []).toArray bl (fun σ' => (∀ a j, a ≠ 10 → σ' a j = σ a j) ∧ XStep m P σ')) (F0 mi 25 ls []) := by
          intro f
          induction f with
          | zero =>
            intro t bb σ1 H locs ls q0 j1 j2 j3 j4 j5
            exact absurd q0 (by omega)
          | succ f ih25 =>
            intro t bb σ1 H locs ls q0 j1 j2 j3 j4 j5 hw hl
            refine lv_iload_n hx hb dX0_buildMachine_25 rfl (lv_at hl 2 rfl) ?_
            refine lv_aload_n hx hb dX0_buildMachine_26 rfl (lv_at hl 0 rfl) ?_
            refine gX_9 S hw (v := m) ((j2 9 0 (by omega)).trans i9) dX0_buildMachine_27 ?_
            refine r_icmp_gt (a := t) (b := m) (tgt := 133) hx hb dX0_buildMachine_30 (by decide) (by omega) (by omega) (fun c_30 => ?_) (fun c_30 => ?_)
            · exact G_retv (σ' := σ1) hx hb hr hlk hw (⟨j2, fun s9 h9 a9 b9 => j3 s9 (by omega) a9 b9⟩) dX0_buildMachine_133
            · have j4m := j4 (by omega)
              have bl0 := bk_lt P m t
              refine r_iconst hx hb dX0_buildMachine_33 ?_
              refine lv_istore_n (lv' := [(3, .int (iI (0))), (0, .ref (h 0)), (1, .int (iI (bb))), (2, .int (iI (t)))]) hx hb dX0_buildMachine_34 rfl hl (by decide) rfl (fun ls hl => ?_)
              have loop35 : ∀ (f : Nat) (a : Nat) (σ2 : St) (H : Heap) (locs : List Loc) (ls : Array Slot), 4 < a + f → (a ≤ 4) → (∀ a j, a ≠ 10 → σ2 a j = σ a j) → (∀ s9, s9 < t → ∀ a, a < 4 → σ2 10 (s9 * 4 + a) = (dl P m s9 a : Int)) → (∀ i, i < a → σ2 10 (t * 4 + i) = ((if t = 0 then 0 else dl P m bb i : Nat) : Int)) → GW D [(cB, .byte), (cS, .short)] (wX h cB cS σ2) A s H locs → lv_has ls 4 [(0, .ref (h 0)), (1, .int (iI (bb))), (2, .int (iI (t))), (3, .int (iI (a)))] → W p l e ({ frames := 0, cells := 0, slots := 0, locals := 0 }) s mi (Value.ref (h 0) :: []).toArray bl me co H locs 0 0 (QGv D [(cB, .byte), (cS, .short)] (wX h cB cS) A s (Value.ref (h 0) :: []).toArray bl (fun σ' => (∀ a j, a ≠ 10 → σ' a j = σ a j) ∧ XStep m P σ')) (F0 mi 35 ls []) := by
                intro f
                induction f with
                | zero =>
                  intro a σ2 H locs ls q0 k1 k2 k3 k4
                  exact absurd q0 (by omega)
                | succ f ih35 =>
                  intro a σ2 H locs ls q0 k1 k2 k3 k4 hw hl
                  refine lv_iload_n hx hb dX0_buildMachine_35 rfl (lv_at hl 3 rfl) ?_
                  refine r_iconst hx hb dX0_buildMachine_36 ?_
                  refine r_icmp_ge (a := a) (b := 4) (tgt := 74) hx hb dX0_buildMachine_37 (by decide) (by omega) (by omega) (fun c_37 => ?_) (fun c_37 => ?_)
                  · refine lv_iload_n hx hb dX0_buildMachine_74 rfl (lv_at hl 2 rfl) ?_
                    refine lv_aload_n hx hb dX0_buildMachine_75 rfl (lv_at hl 0 rfl) ?_
                    refine gX_9 S hw (v := m) ((k2 9 0 (by omega)).trans i9) dX0_buildMachine_76 ?_
                    refine r_icmp_ge (a := t) (b := m) (tgt := 127) hx hb dX0_buildMachine_79 (by decide) (by omega) (by omega) (fun c_79 => ?_) (fun c_79 => ?_)
                    · refine r_iinc (a := t) (lv' := [(2, .int (iI (t + 1))), (0, .ref (h 0)), (1, .int (iI (bb))), (3, .int (iI (a)))]) (k := 2) hx hb dX0_buildMachine_127 hl rfl (by decide) rfl (fun ls hl => ?_)
                      refine lv_goto (tgt := 25) hx hb dX0_buildMachine_130 (by decide) ?_
                      exact ih25 (t + 1) (bb) (σ2) _ _ _ (by omega) (by omega) (k2) (fun s9 h9 a9 b9 => by
                            by_cases q : s9 = t
                            · subst q
                              rw [k4 a9 (by omega)]
                              by_cases q2 : s9 = 0
                              · subst q2; rw [if_pos rfl, dl_0, if_neg (by omega)]
                              · rw [if_neg q2, dl_row (s := s9) (by omega), if_neg (by omega), j4 (by omega)]
                            · exact k3 s9 (by omega) a9 b9) (fun z => absurd z (by omega)) (by omega) hw (by rw [show ((t + 1 : Nat) : Int) = (t : Int) + 1 from by omega]; exact lv_sub hl [1, 2, 0] rfl)
                    · refine lv_aload_n hx hb dX0_buildMachine_82 rfl (lv_at hl 0 rfl) ?_
                      refine gX_10 S hw dX0_buildMachine_83 ?_
                      refine lv_iload_n hx hb dX0_buildMachine_86 rfl (lv_at hl 1 rfl) ?_
                      refine r_iconst hx hb dX0_buildMachine_87 ?_
                      refine r_imul (a := bb) (b := 4) hx hb dX0_buildMachine_88 ?_
                      refine lv_aload_n hx hb dX0_buildMachine_89 rfl (lv_at hl 0 rfl) ?_
                      refine gX_8 S hw dX0_buildMachine_90 ?_
                      refine lv_iload_n hx hb dX0_buildMachine_93 rfl (lv_at hl 2 rfl) ?_
                      have hp4 := hPt.2 t (by omega)
                      refine aX_8 hx hb hw (t) (z := t) (v := P t) (by omega) (by omega) ((k2 8 t (by omega)).trans (xP.2 t (by omega))) dX0_buildMachine_94 ?_
                      refine r_iadd (a := (bb * 4)) (b := P t) hx hb dX0_buildMachine_95 ?_
                      obtain ⟨nx, enx⟩ : ∃ nx : Nat, nx = if t = 0 then 0 else dl P m bb (P t) := ⟨_, rfl⟩
                      have nx6 : nx ≤ 6 := by
                        rw [enx]
                        split
                        · omega
                        · have := dl_le P m bb (P t); omega
                      refine aX_10 hx hb hw (bb * 4 + P t) (z := ((bb * 4) + P t)) (v := nx) (by omega) (by omega) (by
                            rw [enx]
                            by_cases q : t = 0
                            · rw [if_pos q]
                              have := k4 (P t) (by omega)
                              rw [if_pos q] at this
                              rw [show bb * 4 + P t = t * 4 + P t by omega]; exact this
                            · rw [if_neg q]; exact k3 bb (by omega) (P t) hp4) dX0_buildMachine_96 ?_
                      refine lv_istore_n (lv' := [(3, .int (iI (nx))), (0, .ref (h 0)), (1, .int (iI (bb))), (2, .int (iI (t)))]) hx hb dX0_buildMachine_97 rfl hl (by decide) rfl (fun ls hl => ?_)
                      refine lv_aload_n hx hb dX0_buildMachine_98 rfl (lv_at hl 1 rfl) ?_
                      refine gX_10 S hw dX0_buildMachine_99 ?_
                      refine lv_iload_n hx hb dX0_buildMachine_102 rfl (lv_at hl 3 rfl) ?_
                      refine r_iconst hx hb dX0_buildMachine_103 ?_
                      refine r_imul (a := t) (b := 4) hx hb dX0_buildMachine_104 ?_
                      refine lv_aload_n hx hb dX0_buildMachine_105 rfl (lv_at hl 1 rfl) ?_
                      refine gX_8 S hw dX0_buildMachine_106 ?_
                      refine lv_iload_n hx hb dX0_buildMachine_109 rfl (lv_at hl 3 rfl) ?_
                      refine aX_8 hx hb hw (t) (z := t) (v := P t) (by omega) (by omega) ((k2 8 t (by omega)).trans (xP.2 t (by omega))) dX0_buildMachine_110 ?_
                      refine r_iadd (a := (t * 4)) (b := P t) hx hb dX0_buildMachine_111 ?_
                      refine lv_iload_n hx hb dX0_buildMachine_112 rfl (lv_at hl 3 rfl) ?_
                      refine r_iconst hx hb dX0_buildMachine_113 ?_
                      refine r_iadd (a := t) (b := 1) hx hb dX0_buildMachine_114 ?_
                      refine r_i2b (a := (t + 1)) hx hb dX0_buildMachine_115 (by omega) ?_
                      refine sX_10 hx hb hw (t * 4 + P t) (z := ((t * 4) + P t)) (v := (t + 1)) (by omega) (by omega) (by omega) dX0_buildMachine_116 (fun H locs hw => ?_)
                      refine lv_iload_n hx hb dX0_buildMachine_117 rfl (lv_at hl 3 rfl) ?_
                      refine r_if_ne (a := t) (tgt := 125) hx hb dX0_buildMachine_118 (by decide) (by omega) (fun c_118 => ?_) (fun c_118 => ?_)
                      · refine lv_iload_n hx hb dX0_buildMachine_125 rfl (lv_at hl 0 rfl) ?_
                        refine lv_istore_n (lv' := [(1, .int (iI (nx))), (3, .int (iI (nx))), (0, .ref (h 0)), (2, .int (iI (t)))]) hx hb dX0_buildMachine_126 rfl hl (by decide) rfl (fun ls hl => ?_)
                        refine r_iinc (a := t) (lv' := [(2, .int (iI (t + 1))), (1, .int (iI (nx))), (3, .int (iI (nx))), (0, .ref (h 0))]) (k := 3) hx hb dX0_buildMachine_127 hl rfl (by decide) rfl (fun ls hl => ?_)
                        refine lv_goto (tgt := 25) hx hb dX0_buildMachine_130 (by decide) ?_
                        exact ih25 (t + 1) (nx) ((up2 σ2 10 (t * 4 + P t) ((t + 1)))) _ _ _ (by omega) (by omega) (fun a9 j9 h9 => by rw [up2_nk h9]; exact k2 a9 j9 h9) (fun s9 h9 a9 b9 => by
                              by_cases q : s9 = t
                              · subst q
                                by_cases q3 : a9 = P s9
                                · subst q3
                                  rw [up2_eq]
                                  by_cases q2 : s9 = 0
                                  · subst q2; rw [dl_0, if_pos ⟨by omega, rfl⟩]; rfl
                                  · rw [dl_row (s := s9) (by omega), if_pos ⟨by omega, rfl⟩]; omega
                                · rw [up2_nj (by omega), k4 a9 (by omega)]
                                  by_cases q2 : s9 = 0
                                  · subst q2; rw [if_pos rfl, dl_0, if_neg (fun z => q3 z.2)]
                                  · rw [if_neg q2, dl_row (s := s9) (by omega), if_neg (fun z => q3 z.2), j4 (by omega)]
                              · rw [up2_nj (by omega)]; exact k3 s9 (by omega) a9 b9) (fun _ => by rw [enx, if_neg (by omega), bk_succ (by omega), j4 (by omega)]) (by omega) hw (by rw [show ((t + 1 : Nat) : Int) = (t : Int) + 1 from by omega]; exact lv_sub hl [3, 1, 0] rfl)
                      · refine r_iconst hx hb dX0_buildMachine_121 ?_
                        refine lv_goto (tgt := 126) hx hb dX0_buildMachine_122 (by decide) ?_
                        refine lv_istore_n (lv' := [(1, .int (iI (0))), (3, .int (iI (nx))), (0, .ref (h 0)), (2, .int (iI (t)))]) hx hb dX0_buildMachine_126 rfl hl (by decide) rfl (fun ls hl => ?_)
                        refine r_iinc (a := t) (lv' := [(2, .int (iI (t + 1))), (1, .int (iI (0))), (3, .int (iI (nx))), (0, .ref (h 0))]) (k := 3) hx hb dX0_buildMachine_127 hl rfl (by decide) rfl (fun ls hl => ?_)
                        refine lv_goto (tgt := 25) hx hb dX0_buildMachine_130 (by decide) ?_
                        exact ih25 (t + 1) (0) ((up2 σ2 10 (t * 4 + P t) ((t + 1)))) _ _ _ (by omega) (by omega) (fun a9 j9 h9 => by rw [up2_nk h9]; exact k2 a9 j9 h9) (fun s9 h9 a9 b9 => by
                              by_cases q : s9 = t
                              · subst q
                                by_cases q3 : a9 = P s9
                                · subst q3
                                  rw [up2_eq]
                                  by_cases q2 : s9 = 0
                                  · subst q2; rw [dl_0, if_pos ⟨by omega, rfl⟩]; rfl
                                  · rw [dl_row (s := s9) (by omega), if_pos ⟨by omega, rfl⟩]; omega
                                · rw [up2_nj (by omega), k4 a9 (by omega)]
                                  by_cases q2 : s9 = 0
                                  · subst q2; rw [if_pos rfl, dl_0, if_neg (fun z => q3 z.2)]
                                  · rw [if_neg q2, dl_row (s := s9) (by omega), if_neg (fun z => q3 z.2), j4 (by omega)]
                              · rw [up2_nj (by omega)]; exact k3 s9 (by omega) a9 b9) (fun _ => by rw [show t = 0 by omega, bk_1]) (by omega) hw (by rw [show ((t + 1 : Nat) : Int) = (t : Int) + 1 from by omega, show ((0 : Nat) : Int) = 0 from rfl]; exact lv_sub hl [3, 1, 0] rfl)
                  · refine lv_aload_n hx hb dX0_buildMachine_40 rfl (lv_at hl 0 rfl) ?_
                    refine gX_10 S hw dX0_buildMachine_41 ?_
                    refine lv_iload_n hx hb dX0_buildMachine_44 rfl (lv_at hl 2 rfl) ?_
                    refine r_iconst hx hb dX0_buildMachine_45 ?_
                    refine r_imul (a := t) (b := 4) hx hb dX0_buildMachine_46 ?_
                    refine lv_iload_n hx hb dX0_buildMachine_47 rfl (lv_at hl 3 rfl) ?_
                    refine r_iadd (a := (t * 4)) (b := a) hx hb dX0_buildMachine_48 ?_
                    refine lv_iload_n hx hb dX0_buildMachine_49 rfl (lv_at hl 2 rfl) ?_
                    refine r_if_ne (a := t) (tgt := 57) hx hb dX0_buildMachine_50 (by decide) (by omega) (fun c_50 => ?_) (fun c_50 => ?_)
                    · refine lv_aload_n hx hb dX0_buildMachine_57 rfl (lv_at hl 0 rfl) ?_
                      refine gX_10 S hw dX0_buildMachine_58 ?_
                      refine lv_iload_n hx hb dX0_buildMachine_61 rfl (lv_at hl 1 rfl) ?_
                      refine r_iconst hx hb dX0_buildMachine_62 ?_
                      refine r_imul (a := bb) (b := 4) hx hb dX0_buildMachine_63 ?_
                      refine lv_iload_n hx hb dX0_buildMachine_64 rfl (lv_at hl 3 rfl) ?_
                      refine r_iadd (a := (bb * 4)) (b := a) hx hb dX0_buildMachine_65 ?_
                      refine aX_10 hx hb hw (bb * 4 + a) (z := ((bb * 4) + a)) (v := dl P m bb a) (by omega) (by omega) (k3 bb (by omega) a (by omega)) dX0_buildMachine_66 ?_
                      refine sX_10 hx hb hw (t * 4 + a) (z := ((t * 4) + a)) (v := dl P m bb a) (by omega) (by omega) (by have := dl_le P m bb a; omega) dX0_buildMachine_67 (fun H locs hw => ?_)
                      refine r_iinc (a := a) (lv' := [(3, .int (iI (a + 1))), (0, .ref (h 0)), (1, .int (iI (bb))), (2, .int (iI (t)))]) (k := 3) hx hb dX0_buildMachine_68 hl rfl (by decide) rfl (fun ls hl => ?_)
                      refine lv_goto (tgt := 35) hx hb dX0_buildMachine_71 (by decide) ?_
                      exact ih35 (a + 1) ((up2 σ2 10 (t * 4 + a) (dl P m bb a))) _ _ _ (by omega) (by omega) (fun a9 j9 h9 => by rw [up2_nk h9]; exact k2 a9 j9 h9) (fun s9 h9 a9 b9 => by rw [up2_nj (by omega)]; exact k3 s9 h9 a9 b9) (fun i hi => by
                            by_cases q : i = a
                            · rw [q, up2_eq, if_neg (by omega)]
                            · rw [up2_nj (by omega)]; exact k4 i (by omega)) hw (by rw [show ((a + 1 : Nat) : Int) = (a : Int) + 1 from by omega]; exact lv_sub hl [1, 2, 3, 0] rfl)
                    · refine r_iconst hx hb dX0_buildMachine_53 ?_
                      refine lv_goto (tgt := 67) hx hb dX0_buildMachine_54 (by decide) ?_
                      refine sX_10 hx hb hw (t * 4 + a) (z := ((t * 4) + a)) (v := 0) (by omega) (by omega) (by omega) dX0_buildMachine_67 (fun H locs hw => ?_)
                      refine r_iinc (a := a) (lv' := [(3, .int (iI (a + 1))), (0, .ref (h 0)), (1, .int (iI (bb))), (2, .int (iI (t)))]) (k := 3) hx hb dX0_buildMachine_68 hl rfl (by decide) rfl (fun ls hl => ?_)
                      refine lv_goto (tgt := 35) hx hb dX0_buildMachine_71 (by decide) ?_
                      exact ih35 (a + 1) ((up2 σ2 10 (t * 4 + a) (0))) _ _ _ (by omega) (by omega) (fun a9 j9 h9 => by rw [up2_nk h9]; exact k2 a9 j9 h9) (fun s9 h9 a9 b9 => by rw [up2_nj (by omega)]; exact k3 s9 h9 a9 b9) (fun i hi => by
                            by_cases q : i = a
                            · rw [q, up2_eq, if_pos (by omega)]; rfl
                            · rw [up2_nj (by omega)]; exact k4 i (by omega)) hw (by rw [show ((a + 1 : Nat) : Int) = (a : Int) + 1 from by omega]; exact lv_sub hl [1, 2, 3, 0] rfl)
              exact loop35 (5) (0) (σ1) _ _ _ (by omega) (by omega) (j2) (j3) (fun i hi => absurd hi (by omega)) hw (by rw [show ((0 : Nat) : Int) = 0 from rfl]; exact lv_sub hl [1, 2, 3, 0] rfl)
        exact loop25 (m + 2) (0) (0) (σ1) _ _ _ (by omega) (by omega) (j2) (fun s9 h9 => absurd h9 (by omega)) (fun _ => (bk_0 P m).symm) (by omega) hw (by rw [show ((0 : Nat) : Int) = 0 from rfl]; exact lv_sub hl [2, 1, 0] rfl)
      · refine lv_aload_n hx hb dX0_buildMachine_8 rfl (lv_at hl 0 rfl) ?_
        refine gX_10 S hw dX0_buildMachine_9 ?_
        refine lv_iload_n hx hb dX0_buildMachine_12 rfl (lv_at hl 1 rfl) ?_
        refine r_iconst hx hb dX0_buildMachine_13 ?_
        refine sX_10 hx hb hw (i) (z := i) (v := 0) (by omega) (by omega) (by omega) dX0_buildMachine_14 (fun H locs hw => ?_)
        refine r_iinc (a := i) (lv' := [(1, .int (iI (i + 1))), (0, .ref (h 0))]) (k := 1) hx hb dX0_buildMachine_15 hl rfl (by decide) rfl (fun ls hl => ?_)
        refine lv_goto (tgt := 2) hx hb dX0_buildMachine_18 (by decide) ?_
        exact ih2 (i + 1) ((up2 σ1 10 (i) (0))) _ _ _ (by omega) (by omega) (fun a j ha => by rw [up2_nk ha]; exact j2 a j ha) hw (by rw [show ((i + 1 : Nat) : Int) = (i : Int) + 1 from by omega]; exact lv_sub hl [1, 0] rfl)
  exact loop2 (29) (0) (σ) _ _ _ (by omega) (by omega) (fun a j _ => rfl) hw (by rw [show ((0 : Nat) : Int) = 0 from rfl]; exact lv_sub hl [1, 0] rfl)
set_option maxRecDepth 100000 in
/-- one cell of the tables -/
theorem mX_fillCell (l : Launch) (D : va_G) (cB cS : ClassId) (h : Nat → Nat) (σ : St) {wc : Nat} {len : Nat → Nat} {sy : Nat → Nat → Nat} {n N : Nat} {cd bg T : Nat → Nat} {m : Nat} {P : Nat → Nat} (w t : Nat) (hD : Dict wc len sy) (hPt : Patt m P) (xD : XDict wc len sy σ) (i9 : σ 9 0 = (m : Int)) (xS : XStep m P σ) (hw0 : w < wc) (ht : t ≤ m) (hcell : ∀ v, v < w → XCell len sy m P σ v t) :
    GMv l yX0_fillCell cX0_fillCell 9 none 0 0 D [(cB, .byte), (cS, .short)] (wX h cB cS) (adX h) (h 0) [.int (iI (w)), .int (iI (t))] σ (fun σ' => (∀ a j, (a < 11 ∨ 14 < a ∨ j ≠ w * 7 + t) → σ' a j = σ a j) ∧ XCell len sy m P σ' w t) := by
  have d1 := hD.1
  have d2 := hD.2.1
  have p1 : m ≤ 6 := hPt.1
  obtain ⟨L, hL⟩ : ∃ L, len w = L + 1 := ⟨len w - 1, by have := (hD.2.2.2 w hw0).1; omega⟩
  have hl250 := (hD.2.2.2 w hw0).2.1
  have hs4 := (hD.2.2.2 w hw0).2.2 L (by omega)
  refine GMv.of (by decide) rfl (Nat.le_of_ble_eq_true rfl) ?_
  intro p e s mi bl me co A ls S hr hlk hw hl
  have S : CallFix p mi co cX0_fillCell 9 s _ lw_all RX0 := S
  have hx := S.1
  have hb := S.2.1
  have hts := S.2.2.2.2
  have hl : lv_has ls 9 [(0, .ref (h 0)), (1, .int (iI (w))), (2, .int (iI (t)))] := hl
  refine lv_iload_n hx hb dX0_fillCell_0 rfl (lv_at hl 1 rfl) ?_
  refine r_bipush hx hb dX0_fillCell_1 (by decide) ?_
  refine r_imul (a := w) (b := 7) hx hb dX0_fillCell_3 ?_
  refine lv_iload_n hx hb dX0_fillCell_4 rfl (lv_at hl 2 rfl) ?_
  refine r_iadd (a := (w * 7)) (b := t) hx hb dX0_fillCell_5 ?_
  refine lv_istore_n (lv' := [(3, .int (iI (((w * 7) + t)))), (0, .ref (h 0)), (1, .int (iI (w))), (2, .int (iI (t)))]) hx hb dX0_fillCell_6 rfl hl (by decide) rfl (fun ls hl => ?_)
  refine lv_iload_n hx hb dX0_fillCell_7 rfl (lv_at hl 3 rfl) ?_
  refine lv_istore (lv' := [(4, .int (iI (t))), (3, .int (iI (((w * 7) + t)))), (0, .ref (h 0)), (1, .int (iI (w))), (2, .int (iI (t)))]) hx hb dX0_fillCell_8 hl (by decide) rfl (fun ls hl => ?_)
  refine r_iconst hx hb dX0_fillCell_10 ?_
  refine lv_istore (lv' := [(5, .int (iI (0))), (4, .int (iI (t))), (3, .int (iI (((w * 7) + t)))), (0, .ref (h 0)), (1, .int (iI (w))), (2, .int (iI (t)))]) hx hb dX0_fillCell_11 hl (by decide) rfl (fun ls hl => ?_)
  refine r_iconst hx hb dX0_fillCell_13 ?_
  refine lv_istore (lv' := [(6, .int (iI (0))), (5, .int (iI (0))), (4, .int (iI (t))), (3, .int (iI (((w * 7) + t)))), (0, .ref (h 0)), (1, .int (iI (w))), (2, .int (iI (t)))]) hx hb dX0_fillCell_14 hl (by decide) rfl (fun ls hl => ?_)
  refine r_iconst hx hb dX0_fillCell_16 ?_
  refine lv_istore (lv' := [(7, .int (iI (0))), (6, .int (iI (0))), (5, .int (iI (0))), (4, .int (iI (t))), (3, .int (iI (((w * 7) + t)))), (0, .ref (h 0)), (1, .int (iI (w))), (2, .int (iI (t)))]) hx hb dX0_fillCell_17 hl (by decide) rfl (fun ls hl => ?_)
  by_cases w4 : 4 ≤ w
  · obtain ⟨v, e1, e2, e3, e4⟩ := xD.2.2.2 w w4 hw0
    obtain ⟨k1, k2, k3, k4⟩ := X_prev (w := w) (L := L) (hcell v e1) (by omega) e4
    have g1 := rn_le (P := P) (sy w) L ht
    have g2 := cn_le (rn P m t (sy w)) m L
    have g3 := fs_le (rn P m t (sy w)) m L
    have g4 := la_le (rn P m t (sy w)) m L
    refine lv_aload_n hx hb dX0_fillCell_19 rfl (lv_at hl 5 rfl) ?_
    refine gX_1 S hw dX0_fillCell_20 ?_
    refine lv_iload_n hx hb dX0_fillCell_23 rfl (lv_at hl 6 rfl) ?_
    refine aX_1 hx hb hw (w) (z := w) (v := v) (by omega) (by omega) (e2) dX0_fillCell_24 ?_
    refine r_if_lt (a := v) (tgt := 77) hx hb dX0_fillCell_25 (by decide) (by omega) (fun c_25 => ?_) (fun c_25 => ?_)
    · exact absurd c_25 (by omega)
    · refine lv_aload_n hx hb dX0_fillCell_28 rfl (lv_at hl 5 rfl) ?_
      refine gX_1 S hw dX0_fillCell_29 ?_
      refine lv_iload_n hx hb dX0_fillCell_32 rfl (lv_at hl 6 rfl) ?_
      refine aX_1 hx hb hw (w) (z := w) (v := v) (by omega) (by omega) (e2) dX0_fillCell_33 ?_
      refine r_bipush hx hb dX0_fillCell_34 (by decide) ?_
      refine r_imul (a := v) (b := 7) hx hb dX0_fillCell_36 ?_
      refine lv_iload_n hx hb dX0_fillCell_37 rfl (lv_at hl 7 rfl) ?_
      refine r_iadd (a := (v * 7)) (b := t) hx hb dX0_fillCell_38 ?_
      refine lv_istore (lv' := [(8, .int (iI (((v * 7) + t)))), (7, .int (iI (0))), (6, .int (iI (0))), (5, .int (iI (0))), (4, .int (iI (t))), (3, .int (iI (((w * 7) + t)))), (0, .ref (h 0)), (1, .int (iI (w))), (2, .int (iI (t)))]) hx hb dX0_fillCell_39 hl (by decide) rfl (fun ls hl => ?_)
      refine lv_aload_n hx hb dX0_fillCell_41 rfl (lv_at hl 6 rfl) ?_
      refine gX_11 S hw dX0_fillCell_42 ?_
      refine lv_iload hx hb dX0_fillCell_45 (lv_at hl 0 rfl) ?_
      refine aX_11 hx hb hw (v * 7 + t) (z := ((v * 7) + t)) (v := rn P m t (sy w) L) (by omega) (by omega) (k1) dX0_fillCell_47 ?_
      refine lv_istore (lv' := [(4, .int (iI (rn P m t (sy w) L))), (8, .int (iI (((v * 7) + t)))), (7, .int (iI (0))), (6, .int (iI (0))), (5, .int (iI (0))), (3, .int (iI (((w * 7) + t)))), (0, .ref (h 0)), (1, .int (iI (w))), (2, .int (iI (t)))]) hx hb dX0_fillCell_48 hl (by decide) rfl (fun ls hl => ?_)
      refine lv_aload_n hx hb dX0_fillCell_50 rfl (lv_at hl 6 rfl) ?_
      refine gX_12 S hw dX0_fillCell_51 ?_
      refine lv_iload hx hb dX0_fillCell_54 (lv_at hl 1 rfl) ?_
      refine aX_12 hx hb hw (v * 7 + t) (z := ((v * 7) + t)) (v := cn (rn P m t (sy w)) m L) (by omega) (by omega) (k2) dX0_fillCell_56 ?_
      refine lv_istore (lv' := [(5, .int (iI (cn (rn P m t (sy w)) m L))), (4, .int (iI (rn P m t (sy w) L))), (8, .int (iI (((v * 7) + t)))), (7, .int (iI (0))), (6, .int (iI (0))), (3, .int (iI (((w * 7) + t)))), (0, .ref (h 0)), (1, .int (iI (w))), (2, .int (iI (t)))]) hx hb dX0_fillCell_57 hl (by decide) rfl (fun ls hl => ?_)
      refine lv_aload_n hx hb dX0_fillCell_59 rfl (lv_at hl 6 rfl) ?_
      refine gX_13 S hw dX0_fillCell_60 ?_
      refine lv_iload hx hb dX0_fillCell_63 (lv_at hl 2 rfl) ?_
      refine aX_13 hx hb hw (v * 7 + t) (z := ((v * 7) + t)) (v := fs (rn P m t (sy w)) m L) (by omega) (by omega) (k3) dX0_fillCell_65 ?_
      refine lv_istore (lv' := [(6, .int (iI (fs (rn P m t (sy w)) m L))), (5, .int (iI (cn (rn P m t (sy w)) m L))), (4, .int (iI (rn P m t (sy w) L))), (8, .int (iI (((v * 7) + t)))), (7, .int (iI (0))), (3, .int (iI (((w * 7) + t)))), (0, .ref (h 0)), (1, .int (iI (w))), (2, .int (iI (t)))]) hx hb dX0_fillCell_66 hl (by decide) rfl (fun ls hl => ?_)
      refine lv_aload_n hx hb dX0_fillCell_68 rfl (lv_at hl 6 rfl) ?_
      refine gX_14 S hw dX0_fillCell_69 ?_
      refine lv_iload hx hb dX0_fillCell_72 (lv_at hl 3 rfl) ?_
      refine aX_14 hx hb hw (v * 7 + t) (z := ((v * 7) + t)) (v := la (rn P m t (sy w)) m L) (by omega) (by omega) (k4) dX0_fillCell_74 ?_
      refine lv_istore (lv' := [(7, .int (iI (la (rn P m t (sy w)) m L))), (6, .int (iI (fs (rn P m t (sy w)) m L))), (5, .int (iI (cn (rn P m t (sy w)) m L))), (4, .int (iI (rn P m t (sy w) L))), (8, .int (iI (((v * 7) + t)))), (3, .int (iI (((w * 7) + t)))), (0, .ref (h 0)), (1, .int (iI (w))), (2, .int (iI (t)))]) hx hb dX0_fillCell_75 hl (by decide) rfl (fun ls hl => ?_)
      refine lv_aload_n hx hb dX0_fillCell_77 rfl (lv_at hl 6 rfl) ?_
      refine gX_10 S hw dX0_fillCell_78 ?_
      refine lv_iload hx hb dX0_fillCell_81 (lv_at hl 3 rfl) ?_
      refine r_iconst hx hb dX0_fillCell_83 ?_
      refine r_imul (a := rn P m t (sy w) L) (b := 4) hx hb dX0_fillCell_84 ?_
      refine lv_aload_n hx hb dX0_fillCell_85 rfl (lv_at hl 6 rfl) ?_
      refine gX_2 S hw dX0_fillCell_86 ?_
      refine lv_iload_n hx hb dX0_fillCell_89 rfl (lv_at hl 7 rfl) ?_
      refine aX_2 hx hb hw (w) (z := w) (v := sy w L) (by omega) (by omega) (by rw [(xD.2.1 w hw0).2.1, hL] <;> rfl) dX0_fillCell_90 ?_
      refine r_iadd (a := (rn P m t (sy w) L * 4)) (b := sy w L) hx hb dX0_fillCell_91 ?_
      refine aX_10 hx hb hw ((rn P m t (sy w) L) * 4 + sy w L) (z := ((rn P m t (sy w) L * 4) + sy w L)) (v := dl P m (rn P m t (sy w) L) (sy w L)) (by omega) (by omega) (xS _ (by omega) _ hs4) dX0_fillCell_92 ?_
      have de := dl_le P m (rn P m t (sy w) L) (sy w L)
      refine lv_istore (lv' := [(8, .int (iI (dl P m (rn P m t (sy w) L) (sy w L)))), (7, .int (iI (la (rn P m t (sy w)) m L))), (6, .int (iI (fs (rn P m t (sy w)) m L))), (5, .int (iI (cn (rn P m t (sy w)) m L))), (4, .int (iI (rn P m t (sy w) L))), (3, .int (iI (((w * 7) + t)))), (0, .ref (h 0)), (1, .int (iI (w))), (2, .int (iI (t)))]) hx hb dX0_fillCell_93 hl (by decide) rfl (fun ls hl => ?_)
      refine lv_iload hx hb dX0_fillCell_95 (lv_at hl 0 rfl) ?_
      refine lv_aload_n hx hb dX0_fillCell_97 rfl (lv_at hl 6 rfl) ?_
      refine gX_9 S hw (v := m) i9 dX0_fillCell_98 ?_
      refine r_icmp_ne (a := dl P m (rn P m t (sy w) L) (sy w L)) (b := m) (tgt := 129) hx hb dX0_fillCell_101 (by decide) (by omega) (by omega) (fun c_101 => ?_) (fun c_101 => ?_)
      · refine lv_aload_n hx hb dX0_fillCell_129 rfl (lv_at hl 6 rfl) ?_
        refine gX_11 S hw dX0_fillCell_130 ?_
        refine lv_iload_n hx hb dX0_fillCell_133 rfl (lv_at hl 5 rfl) ?_
        refine lv_iload hx hb dX0_fillCell_134 (lv_at hl 0 rfl) ?_
        refine r_i2b (a := dl P m (rn P m t (sy w) L) (sy w L)) hx hb dX0_fillCell_136 (by omega) ?_
        refine sX_11 hx hb hw (w * 7 + t) (z := ((w * 7) + t)) (v := dl P m (rn P m t (sy w) L) (sy w L)) (by omega) (by omega) (by omega) dX0_fillCell_137 (fun H locs hw => ?_)
        refine lv_aload_n hx hb dX0_fillCell_138 rfl (lv_at hl 6 rfl) ?_
        refine gX_12 S hw dX0_fillCell_139 ?_
        refine lv_iload_n hx hb dX0_fillCell_142 rfl (lv_at hl 5 rfl) ?_
        refine lv_iload hx hb dX0_fillCell_143 (lv_at hl 3 rfl) ?_
        refine r_i2s (a := cn (rn P m t (sy w)) m L) hx hb dX0_fillCell_145 (by omega) ?_
        refine sX_12 hx hb hw (w * 7 + t) (z := ((w * 7) + t)) (v := cn (rn P m t (sy w)) m L) (by omega) (by omega) (by omega) dX0_fillCell_146 (fun H locs hw => ?_)
        refine lv_aload_n hx hb dX0_fillCell_147 rfl (lv_at hl 6 rfl) ?_
        refine gX_13 S hw dX0_fillCell_148 ?_
        refine lv_iload_n hx hb dX0_fillCell_151 rfl (lv_at hl 5 rfl) ?_
        refine lv_iload hx hb dX0_fillCell_152 (lv_at hl 2 rfl) ?_
        refine r_i2s (a := fs (rn P m t (sy w)) m L) hx hb dX0_fillCell_154 (by omega) ?_
        refine sX_13 hx hb hw (w * 7 + t) (z := ((w * 7) + t)) (v := fs (rn P m t (sy w)) m L) (by omega) (by omega) (by omega) dX0_fillCell_155 (fun H locs hw => ?_)
        refine lv_aload_n hx hb dX0_fillCell_156 rfl (lv_at hl 6 rfl) ?_
        refine gX_14 S hw dX0_fillCell_157 ?_
        refine lv_iload_n hx hb dX0_fillCell_160 rfl (lv_at hl 5 rfl) ?_
        refine lv_iload hx hb dX0_fillCell_161 (lv_at hl 1 rfl) ?_
        refine r_i2s (a := la (rn P m t (sy w)) m L) hx hb dX0_fillCell_163 (by omega) ?_
        refine sX_14 hx hb hw (w * 7 + t) (z := ((w * 7) + t)) (v := la (rn P m t (sy w)) m L) (by omega) (by omega) (by omega) dX0_fillCell_164 (fun H locs hw => ?_)
        exact G_retv (σ' := (up2 (up2 (up2 (up2 σ 11 (w * 7 + t) (dl P m (rn P m t (sy w) L) (sy w L))) 12 (w * 7 + t) (cn (rn P m t (sy w)) m L)) 13 (w * 7 + t) (fs (rn P m t (sy w)) m L)) 14 (w * 7 + t) (la (rn P m t (sy w)) m L))) hx hb hr hlk hw (⟨fun a j q => by
              have q9 : a ≠ 11 ∨ j ≠ w * 7 + t := by omega
              by_cases z : j = w * 7 + t
              · rw [up2_nk (by omega), up2_nk (by omega), up2_nk (by omega), up2_nk (by omega)]
              · rw [up2_nj z, up2_nj z, up2_nj z, up2_nj z], X_cell hL (by rfl) (Or.inr ⟨by omega, by omega, by omega, by omega⟩)⟩) dX0_fillCell_165
      · refine r_iinc (a := cn (rn P m t (sy w)) m L) (lv' := [(5, .int (iI (cn (rn P m t (sy w)) m L + 1))), (8, .int (iI (dl P m (rn P m t (sy w) L) (sy w L)))), (7, .int (iI (la (rn P m t (sy w)) m L))), (6, .int (iI (fs (rn P m t (sy w)) m L))), (4, .int (iI (rn P m t (sy w) L))), (3, .int (iI (((w * 7) + t)))), (0, .ref (h 0)), (1, .int (iI (w))), (2, .int (iI (t)))]) (k := 3) hx hb dX0_fillCell_104 hl rfl (by decide) rfl (fun ls hl => ?_)
        refine lv_aload_n hx hb dX0_fillCell_107 rfl (lv_at hl 6 rfl) ?_
        refine gX_4 S hw dX0_fillCell_108 ?_
        refine lv_iload_n hx hb dX0_fillCell_111 rfl (lv_at hl 7 rfl) ?_
        refine aX_4 hx hb hw (w) (z := w) (v := len w) (by omega) (by omega) ((xD.2.1 w hw0).1) dX0_fillCell_112 ?_
        refine lv_istore (lv' := [(7, .int (iI (len w))), (5, .int (iI (cn (rn P m t (sy w)) m L + 1))), (8, .int (iI (dl P m (rn P m t (sy w) L) (sy w L)))), (6, .int (iI (fs (rn P m t (sy w)) m L))), (4, .int (iI (rn P m t (sy w) L))), (3, .int (iI (((w * 7) + t)))), (0, .ref (h 0)), (1, .int (iI (w))), (2, .int (iI (t)))]) hx hb dX0_fillCell_113 hl (by decide) rfl (fun ls hl => ?_)
        refine lv_iload hx hb dX0_fillCell_115 (lv_at hl 3 rfl) ?_
        refine r_if_ne (a := fs (rn P m t (sy w)) m L) (tgt := 125) hx hb dX0_fillCell_117 (by decide) (by omega) (fun c_117 => ?_) (fun c_117 => ?_)
        · refine lv_iload hx hb dX0_fillCell_125 (lv_at hl 3 rfl) ?_
          refine lv_istore (lv' := [(6, .int (iI (fs (rn P m t (sy w)) m L))), (7, .int (iI (len w))), (5, .int (iI (cn (rn P m t (sy w)) m L + 1))), (8, .int (iI (dl P m (rn P m t (sy w) L) (sy w L)))), (4, .int (iI (rn P m t (sy w) L))), (3, .int (iI (((w * 7) + t)))), (0, .ref (h 0)), (1, .int (iI (w))), (2, .int (iI (t)))]) hx hb dX0_fillCell_127 hl (by decide) rfl (fun ls hl => ?_)
          refine lv_aload_n hx hb dX0_fillCell_129 rfl (lv_at hl 6 rfl) ?_
          refine gX_11 S hw dX0_fillCell_130 ?_
          refine lv_iload_n hx hb dX0_fillCell_133 rfl (lv_at hl 5 rfl) ?_
          refine lv_iload hx hb dX0_fillCell_134 (lv_at hl 3 rfl) ?_
          refine r_i2b (a := dl P m (rn P m t (sy w) L) (sy w L)) hx hb dX0_fillCell_136 (by omega) ?_
          refine sX_11 hx hb hw (w * 7 + t) (z := ((w * 7) + t)) (v := dl P m (rn P m t (sy w) L) (sy w L)) (by omega) (by omega) (by omega) dX0_fillCell_137 (fun H locs hw => ?_)
          refine lv_aload_n hx hb dX0_fillCell_138 rfl (lv_at hl 6 rfl) ?_
          refine gX_12 S hw dX0_fillCell_139 ?_
          refine lv_iload_n hx hb dX0_fillCell_142 rfl (lv_at hl 5 rfl) ?_
          refine lv_iload hx hb dX0_fillCell_143 (lv_at hl 2 rfl) ?_
          refine r_i2s (a := cn (rn P m t (sy w)) m L + 1) hx hb dX0_fillCell_145 (by omega) ?_
          refine sX_12 hx hb hw (w * 7 + t) (z := ((w * 7) + t)) (v := cn (rn P m t (sy w)) m L + 1) (by omega) (by omega) (by omega) dX0_fillCell_146 (fun H locs hw => ?_)
          refine lv_aload_n hx hb dX0_fillCell_147 rfl (lv_at hl 6 rfl) ?_
          refine gX_13 S hw dX0_fillCell_148 ?_
          refine lv_iload_n hx hb dX0_fillCell_151 rfl (lv_at hl 5 rfl) ?_
          refine lv_iload hx hb dX0_fillCell_152 (lv_at hl 0 rfl) ?_
          refine r_i2s (a := fs (rn P m t (sy w)) m L) hx hb dX0_fillCell_154 (by omega) ?_
          refine sX_13 hx hb hw (w * 7 + t) (z := ((w * 7) + t)) (v := fs (rn P m t (sy w)) m L) (by omega) (by omega) (by omega) dX0_fillCell_155 (fun H locs hw => ?_)
          refine lv_aload_n hx hb dX0_fillCell_156 rfl (lv_at hl 6 rfl) ?_
          refine gX_14 S hw dX0_fillCell_157 ?_
          refine lv_iload_n hx hb dX0_fillCell_160 rfl (lv_at hl 5 rfl) ?_
          refine lv_iload hx hb dX0_fillCell_161 (lv_at hl 1 rfl) ?_
          refine r_i2s (a := len w) hx hb dX0_fillCell_163 (by omega) ?_
          refine sX_14 hx hb hw (w * 7 + t) (z := ((w * 7) + t)) (v := len w) (by omega) (by omega) (by omega) dX0_fillCell_164 (fun H locs hw => ?_)
          exact G_retv (σ' := (up2 (up2 (up2 (up2 σ 11 (w * 7 + t) (dl P m (rn P m t (sy w) L) (sy w L))) 12 (w * 7 + t) (cn (rn P m t (sy w)) m L + 1)) 13 (w * 7 + t) (fs (rn P m t (sy w)) m L)) 14 (w * 7 + t) (len w))) hx hb hr hlk hw (⟨fun a j q => by
                have q9 : a ≠ 11 ∨ j ≠ w * 7 + t := by omega
                by_cases z : j = w * 7 + t
                · rw [up2_nk (by omega), up2_nk (by omega), up2_nk (by omega), up2_nk (by omega)]
                · rw [up2_nj z, up2_nj z, up2_nj z, up2_nj z], X_cell hL (by rfl) (Or.inl ⟨by omega, by omega, by omega, Or.inr ⟨by omega, by omega⟩⟩)⟩) dX0_fillCell_165
        · refine lv_iload hx hb dX0_fillCell_120 (lv_at hl 0 rfl) ?_
          refine lv_goto (tgt := 127) hx hb dX0_fillCell_122 (by decide) ?_
          refine lv_istore (lv' := [(6, .int (iI (len w))), (7, .int (iI (len w))), (5, .int (iI (cn (rn P m t (sy w)) m L + 1))), (8, .int (iI (dl P m (rn P m t (sy w) L) (sy w L)))), (4, .int (iI (rn P m t (sy w) L))), (3, .int (iI (((w * 7) + t)))), (0, .ref (h 0)), (1, .int (iI (w))), (2, .int (iI (t)))]) hx hb dX0_fillCell_127 hl (by decide) rfl (fun ls hl => ?_)
          refine lv_aload_n hx hb dX0_fillCell_129 rfl (lv_at hl 6 rfl) ?_
          refine gX_11 S hw dX0_fillCell_130 ?_
          refine lv_iload_n hx hb dX0_fillCell_133 rfl (lv_at hl 5 rfl) ?_
          refine lv_iload hx hb dX0_fillCell_134 (lv_at hl 3 rfl) ?_
          refine r_i2b (a := dl P m (rn P m t (sy w) L) (sy w L)) hx hb dX0_fillCell_136 (by omega) ?_
          refine sX_11 hx hb hw (w * 7 + t) (z := ((w * 7) + t)) (v := dl P m (rn P m t (sy w) L) (sy w L)) (by omega) (by omega) (by omega) dX0_fillCell_137 (fun H locs hw => ?_)
          refine lv_aload_n hx hb dX0_fillCell_138 rfl (lv_at hl 6 rfl) ?_
          refine gX_12 S hw dX0_fillCell_139 ?_
          refine lv_iload_n hx hb dX0_fillCell_142 rfl (lv_at hl 5 rfl) ?_
          refine lv_iload hx hb dX0_fillCell_143 (lv_at hl 2 rfl) ?_
          refine r_i2s (a := cn (rn P m t (sy w)) m L + 1) hx hb dX0_fillCell_145 (by omega) ?_
          refine sX_12 hx hb hw (w * 7 + t) (z := ((w * 7) + t)) (v := cn (rn P m t (sy w)) m L + 1) (by omega) (by omega) (by omega) dX0_fillCell_146 (fun H locs hw => ?_)
          refine lv_aload_n hx hb dX0_fillCell_147 rfl (lv_at hl 6 rfl) ?_
          refine gX_13 S hw dX0_fillCell_148 ?_
          refine lv_iload_n hx hb dX0_fillCell_151 rfl (lv_at hl 5 rfl) ?_
          refine lv_iload hx hb dX0_fillCell_152 (lv_at hl 0 rfl) ?_
          refine r_i2s (a := len w) hx hb dX0_fillCell_154 (by omega) ?_
          refine sX_13 hx hb hw (w * 7 + t) (z := ((w * 7) + t)) (v := len w) (by omega) (by omega) (by omega) dX0_fillCell_155 (fun H locs hw => ?_)
          refine lv_aload_n hx hb dX0_fillCell_156 rfl (lv_at hl 6 rfl) ?_
          refine gX_14 S hw dX0_fillCell_157 ?_
          refine lv_iload_n hx hb dX0_fillCell_160 rfl (lv_at hl 5 rfl) ?_
          refine lv_iload hx hb dX0_fillCell_161 (lv_at hl 1 rfl) ?_
          refine r_i2s (a := len w) hx hb dX0_fillCell_163 (by omega) ?_
          refine sX_14 hx hb hw (w * 7 + t) (z := ((w * 7) + t)) (v := len w) (by omega) (by omega) (by omega) dX0_fillCell_164 (fun H locs hw => ?_)
          exact G_retv (σ' := (up2 (up2 (up2 (up2 σ 11 (w * 7 + t) (dl P m (rn P m t (sy w) L) (sy w L))) 12 (w * 7 + t) (cn (rn P m t (sy w)) m L + 1)) 13 (w * 7 + t) (len w)) 14 (w * 7 + t) (len w))) hx hb hr hlk hw (⟨fun a j q => by
                have q9 : a ≠ 11 ∨ j ≠ w * 7 + t := by omega
                by_cases z : j = w * 7 + t
                · rw [up2_nk (by omega), up2_nk (by omega), up2_nk (by omega), up2_nk (by omega)]
                · rw [up2_nj z, up2_nj z, up2_nj z, up2_nj z], X_cell hL (by rfl) (Or.inl ⟨by omega, by omega, by omega, Or.inl ⟨by omega, by omega⟩⟩)⟩) dX0_fillCell_165
  · have L0 : L = 0 := by have := (hD.2.2.1 w (by omega)).1; omega
    subst L0
    refine lv_aload_n hx hb dX0_fillCell_19 rfl (lv_at hl 5 rfl) ?_
    refine gX_1 S hw dX0_fillCell_20 ?_
    refine lv_iload_n hx hb dX0_fillCell_23 rfl (lv_at hl 6 rfl) ?_
    refine aX_1 hx hb hw (w) (z := w) (v := (-1)) (by omega) (by omega) (xD.2.2.1 w (by omega)) dX0_fillCell_24 ?_
    refine r_if_lt (a := (-1)) (tgt := 77) hx hb dX0_fillCell_25 (by decide) (by omega) (fun c_25 => ?_) (fun c_25 => ?_)
    · refine lv_aload_n hx hb dX0_fillCell_77 rfl (lv_at hl 5 rfl) ?_
      refine gX_10 S hw dX0_fillCell_78 ?_
      refine lv_iload hx hb dX0_fillCell_81 (lv_at hl 3 rfl) ?_
      refine r_iconst hx hb dX0_fillCell_83 ?_
      refine r_imul (a := t) (b := 4) hx hb dX0_fillCell_84 ?_
      refine lv_aload_n hx hb dX0_fillCell_85 rfl (lv_at hl 5 rfl) ?_
      refine gX_2 S hw dX0_fillCell_86 ?_
      refine lv_iload_n hx hb dX0_fillCell_89 rfl (lv_at hl 6 rfl) ?_
      refine aX_2 hx hb hw (w) (z := w) (v := sy w 0) (by omega) (by omega) (by rw [(xD.2.1 w hw0).2.1, hL] <;> rfl) dX0_fillCell_90 ?_
      refine r_iadd (a := (t * 4)) (b := sy w 0) hx hb dX0_fillCell_91 ?_
      refine aX_10 hx hb hw ((t) * 4 + sy w 0) (z := ((t * 4) + sy w 0)) (v := dl P m (t) (sy w 0)) (by omega) (by omega) (xS _ (by omega) _ hs4) dX0_fillCell_92 ?_
      have de := dl_le P m (t) (sy w 0)
      refine lv_istore (lv' := [(8, .int (iI (dl P m (t) (sy w 0)))), (7, .int (iI (0))), (6, .int (iI (0))), (5, .int (iI (0))), (4, .int (iI (t))), (3, .int (iI (((w * 7) + t)))), (0, .ref (h 0)), (1, .int (iI (w))), (2, .int (iI (t)))]) hx hb dX0_fillCell_93 hl (by decide) rfl (fun ls hl => ?_)
      refine lv_iload hx hb dX0_fillCell_95 (lv_at hl 0 rfl) ?_
      refine lv_aload_n hx hb dX0_fillCell_97 rfl (lv_at hl 6 rfl) ?_
      refine gX_9 S hw (v := m) i9 dX0_fillCell_98 ?_
      refine r_icmp_ne (a := dl P m (t) (sy w 0)) (b := m) (tgt := 129) hx hb dX0_fillCell_101 (by decide) (by omega) (by omega) (fun c_101 => ?_) (fun c_101 => ?_)
      · refine lv_aload_n hx hb dX0_fillCell_129 rfl (lv_at hl 6 rfl) ?_
        refine gX_11 S hw dX0_fillCell_130 ?_
        refine lv_iload_n hx hb dX0_fillCell_133 rfl (lv_at hl 5 rfl) ?_
        refine lv_iload hx hb dX0_fillCell_134 (lv_at hl 0 rfl) ?_
        refine r_i2b (a := dl P m (t) (sy w 0)) hx hb dX0_fillCell_136 (by omega) ?_
        refine sX_11 hx hb hw (w * 7 + t) (z := ((w * 7) + t)) (v := dl P m (t) (sy w 0)) (by omega) (by omega) (by omega) dX0_fillCell_137 (fun H locs hw => ?_)
        refine lv_aload_n hx hb dX0_fillCell_138 rfl (lv_at hl 6 rfl) ?_
        refine gX_12 S hw dX0_fillCell_139 ?_
        refine lv_iload_n hx hb dX0_fillCell_142 rfl (lv_at hl 5 rfl) ?_
        refine lv_iload hx hb dX0_fillCell_143 (lv_at hl 3 rfl) ?_
        refine r_i2s (a := 0) hx hb dX0_fillCell_145 (by omega) ?_
        refine sX_12 hx hb hw (w * 7 + t) (z := ((w * 7) + t)) (v := 0) (by omega) (by omega) (by omega) dX0_fillCell_146 (fun H locs hw => ?_)
        refine lv_aload_n hx hb dX0_fillCell_147 rfl (lv_at hl 6 rfl) ?_
        refine gX_13 S hw dX0_fillCell_148 ?_
        refine lv_iload_n hx hb dX0_fillCell_151 rfl (lv_at hl 5 rfl) ?_
        refine lv_iload hx hb dX0_fillCell_152 (lv_at hl 2 rfl) ?_
        refine r_i2s (a := 0) hx hb dX0_fillCell_154 (by omega) ?_
        refine sX_13 hx hb hw (w * 7 + t) (z := ((w * 7) + t)) (v := 0) (by omega) (by omega) (by omega) dX0_fillCell_155 (fun H locs hw => ?_)
        refine lv_aload_n hx hb dX0_fillCell_156 rfl (lv_at hl 6 rfl) ?_
        refine gX_14 S hw dX0_fillCell_157 ?_
        refine lv_iload_n hx hb dX0_fillCell_160 rfl (lv_at hl 5 rfl) ?_
        refine lv_iload hx hb dX0_fillCell_161 (lv_at hl 1 rfl) ?_
        refine r_i2s (a := 0) hx hb dX0_fillCell_163 (by omega) ?_
        refine sX_14 hx hb hw (w * 7 + t) (z := ((w * 7) + t)) (v := 0) (by omega) (by omega) (by omega) dX0_fillCell_164 (fun H locs hw => ?_)
        exact G_retv (σ' := (up2 (up2 (up2 (up2 σ 11 (w * 7 + t) (dl P m (t) (sy w 0))) 12 (w * 7 + t) (0)) 13 (w * 7 + t) (0)) 14 (w * 7 + t) (0))) hx hb hr hlk hw (⟨fun a j q => by
              have q9 : a ≠ 11 ∨ j ≠ w * 7 + t := by omega
              by_cases z : j = w * 7 + t
              · rw [up2_nk (by omega), up2_nk (by omega), up2_nk (by omega), up2_nk (by omega)]
              · rw [up2_nj z, up2_nj z, up2_nj z, up2_nj z], X_cell hL (by rfl) (Or.inr ⟨by omega, rfl, rfl, rfl⟩)⟩) dX0_fillCell_165
      · refine r_iinc (a := 0) (lv' := [(5, .int (iI (0 + 1))), (8, .int (iI (dl P m (t) (sy w 0)))), (7, .int (iI (0))), (6, .int (iI (0))), (4, .int (iI (t))), (3, .int (iI (((w * 7) + t)))), (0, .ref (h 0)), (1, .int (iI (w))), (2, .int (iI (t)))]) (k := 3) hx hb dX0_fillCell_104 hl rfl (by decide) rfl (fun ls hl => ?_)
        refine lv_aload_n hx hb dX0_fillCell_107 rfl (lv_at hl 6 rfl) ?_
        refine gX_4 S hw dX0_fillCell_108 ?_
        refine lv_iload_n hx hb dX0_fillCell_111 rfl (lv_at hl 7 rfl) ?_
        refine aX_4 hx hb hw (w) (z := w) (v := len w) (by omega) (by omega) ((xD.2.1 w hw0).1) dX0_fillCell_112 ?_
        refine lv_istore (lv' := [(7, .int (iI (len w))), (5, .int (iI (0 + 1))), (8, .int (iI (dl P m (t) (sy w 0)))), (6, .int (iI (0))), (4, .int (iI (t))), (3, .int (iI (((w * 7) + t)))), (0, .ref (h 0)), (1, .int (iI (w))), (2, .int (iI (t)))]) hx hb dX0_fillCell_113 hl (by decide) rfl (fun ls hl => ?_)
        refine lv_iload hx hb dX0_fillCell_115 (lv_at hl 3 rfl) ?_
        refine r_if_ne (a := 0) (tgt := 125) hx hb dX0_fillCell_117 (by decide) (by omega) (fun c_117 => ?_) (fun c_117 => ?_)
        · exact absurd c_117 (by omega)
        · refine lv_iload hx hb dX0_fillCell_120 (lv_at hl 0 rfl) ?_
          refine lv_goto (tgt := 127) hx hb dX0_fillCell_122 (by decide) ?_
          refine lv_istore (lv' := [(6, .int (iI (len w))), (7, .int (iI (len w))), (5, .int (iI (0 + 1))), (8, .int (iI (dl P m (t) (sy w 0)))), (4, .int (iI (t))), (3, .int (iI (((w * 7) + t)))), (0, .ref (h 0)), (1, .int (iI (w))), (2, .int (iI (t)))]) hx hb dX0_fillCell_127 hl (by decide) rfl (fun ls hl => ?_)
          refine lv_aload_n hx hb dX0_fillCell_129 rfl (lv_at hl 6 rfl) ?_
          refine gX_11 S hw dX0_fillCell_130 ?_
          refine lv_iload_n hx hb dX0_fillCell_133 rfl (lv_at hl 5 rfl) ?_
          refine lv_iload hx hb dX0_fillCell_134 (lv_at hl 3 rfl) ?_
          refine r_i2b (a := dl P m (t) (sy w 0)) hx hb dX0_fillCell_136 (by omega) ?_
          refine sX_11 hx hb hw (w * 7 + t) (z := ((w * 7) + t)) (v := dl P m (t) (sy w 0)) (by omega) (by omega) (by omega) dX0_fillCell_137 (fun H locs hw => ?_)
          refine lv_aload_n hx hb dX0_fillCell_138 rfl (lv_at hl 6 rfl) ?_
          refine gX_12 S hw dX0_fillCell_139 ?_
          refine lv_iload_n hx hb dX0_fillCell_142 rfl (lv_at hl 5 rfl) ?_
          refine lv_iload hx hb dX0_fillCell_143 (lv_at hl 2 rfl) ?_
          refine r_i2s (a := 0 + 1) hx hb dX0_fillCell_145 (by omega) ?_
          refine sX_12 hx hb hw (w * 7 + t) (z := ((w * 7) + t)) (v := 0 + 1) (by omega) (by omega) (by omega) dX0_fillCell_146 (fun H locs hw => ?_)
          refine lv_aload_n hx hb dX0_fillCell_147 rfl (lv_at hl 6 rfl) ?_
          refine gX_13 S hw dX0_fillCell_148 ?_
          refine lv_iload_n hx hb dX0_fillCell_151 rfl (lv_at hl 5 rfl) ?_
          refine lv_iload hx hb dX0_fillCell_152 (lv_at hl 0 rfl) ?_
          refine r_i2s (a := len w) hx hb dX0_fillCell_154 (by omega) ?_
          refine sX_13 hx hb hw (w * 7 + t) (z := ((w * 7) + t)) (v := len w) (by omega) (by omega) (by omega) dX0_fillCell_155 (fun H locs hw => ?_)
          refine lv_aload_n hx hb dX0_fillCell_156 rfl (lv_at hl 6 rfl) ?_
          refine gX_14 S hw dX0_fillCell_157 ?_
          refine lv_iload_n hx hb dX0_fillCell_160 rfl (lv_at hl 5 rfl) ?_
          refine lv_iload hx hb dX0_fillCell_161 (lv_at hl 1 rfl) ?_
          refine r_i2s (a := len w) hx hb dX0_fillCell_163 (by omega) ?_
          refine sX_14 hx hb hw (w * 7 + t) (z := ((w * 7) + t)) (v := len w) (by omega) (by omega) (by omega) dX0_fillCell_164 (fun H locs hw => ?_)
          exact G_retv (σ' := (up2 (up2 (up2 (up2 σ 11 (w * 7 + t) (dl P m (t) (sy w 0))) 12 (w * 7 + t) (0 + 1)) 13 (w * 7 + t) (len w)) 14 (w * 7 + t) (len w))) hx hb hr hlk hw (⟨fun a j q => by
                have q9 : a ≠ 11 ∨ j ≠ w * 7 + t := by omega
                by_cases z : j = w * 7 + t
                · rw [up2_nk (by omega), up2_nk (by omega), up2_nk (by omega), up2_nk (by omega)]
                · rw [up2_nj z, up2_nj z, up2_nj z, up2_nj z], X_cell hL (by rfl) (Or.inl ⟨by omega, by show _ = ((0 : Nat) : Int) + 1; omega, by omega, Or.inl ⟨rfl, by omega⟩⟩)⟩) dX0_fillCell_165
    · exact absurd c_25 (by omega)
set_option maxRecDepth 100000 in
/-- the tables of all words -/
theorem mX_fillTables (l : Launch) (D : va_G) (cB cS : ClassId) (h : Nat → Nat) (σ : St) {wc : Nat} {len : Nat → Nat} {sy : Nat → Nat → Nat} {n N : Nat} {cd bg T : Nat → Nat} {m : Nat} {P : Nat → Nat} (hD : Dict wc len sy) (hPt : Patt m P) (xD : XDict wc len sy σ) (xP : XPat m P σ) (xT : XTab wc len sy m P σ) :
    GMv l yX0_fillTables cX0_fillTables 3 none 1 28 D [(cB, .byte), (cS, .short)] (wX h cB cS) (adX h) (h 0) [] σ (fun σ' => (∀ a j, (a < 10 ∨ 15 < a) → σ' a j = σ a j) ∧ σ' 15 0 = (wc : Int) ∧ XStep m P σ' ∧ ∀ w, w < wc → ∀ s, s ≤ m → XCell len sy m P σ' w s) := by
  have d1 := hD.1
  have d2 := hD.2.1
  have p1 : m ≤ 6 := hPt.1
  have i0 : σ 0 0 = (wc : Int) := xD.1
  have i9 : σ 9 0 = (m : Int) := xP.1
  obtain ⟨t, t1, t2, t3⟩ := xT
  refine GMv.of (by decide) rfl (Nat.le_of_ble_eq_true rfl) ?_
  intro p e s mi bl me co A ls S hr hlk hw hl
  have S : CallFix p mi co cX0_fillTables 3 s _ lw_all RX0 := S
  have hx := S.1
  have hb := S.2.1
  have hts := S.2.2.2.2
  have hl : lv_has ls 3 [(0, .ref (h 0))] := hl
  refine lv_aload_n hx hb dX0_fillTables_0 rfl (lv_at hl 0 rfl) ?_
  refine gX_15 S hw (v := t) t1 dX0_fillTables_1 ?_
  refine r_if_ne (a := t) (tgt := 11) hx hb dX0_fillTables_4 (by decide) (by omega) (fun c_4 => ?_) (fun c_4 => ?_)
  · have t4 := t3 (by omega)
    refine lv_aload_n hx hb dX0_fillTables_11 rfl (lv_at hl 0 rfl) ?_
    refine gX_15 S hw (v := t) t1 dX0_fillTables_12 ?_
    refine lv_istore_n (lv' := [(1, .int (iI (t))), (0, .ref (h 0))]) hx hb dX0_fillTables_15 rfl hl (by decide) rfl (fun ls hl => ?_)
    have loop16 : ∀ (f : Nat) (w : Nat) (σ2 : St) (H : Heap) (locs : List Loc) (ls : Array Slot), wc < w + f → (w ≤ wc) → (∀ a j, (a < 10 ∨ 14 < a) → σ2 a j = σ a j) → (XStep m P σ2) → (∀ w9, w9 < w → ∀ s9, s9 ≤ m → XCell len sy m P σ2 w9 s9) → GW D [(cB, .byte), (cS, .short)] (wX h cB cS σ2) A s H locs → lv_has ls 3 [(0, .ref (h 0)), (1, .int (iI (w)))] → W p l e ({ frames := 1, cells := 0, slots := 0, locals := 28 }) s mi (Value.ref (h 0) :: []).toArray bl me co H locs 0 0 (QGv D [(cB, .byte), (cS, .short)] (wX h cB cS) A s (Value.ref (h 0) :: []).toArray bl (fun σ' => (∀ a j, (a < 10 ∨ 15 < a) → σ' a j = σ a j) ∧ σ' 15 0 = (wc : Int) ∧ XStep m P σ' ∧ ∀ w, w < wc → ∀ s, s ≤ m → XCell len sy m P σ' w s)) (F0 mi 16 ls []) := by
      intro f
      induction f with
      | zero =>
        intro w σ2 H locs ls q0 j1 j2 j3 j4
        exact absurd q0 (by omega)
      | succ f ih16 =>
        intro w σ2 H locs ls q0 j1 j2 j3 j4 hw hl
        refine lv_iload_n hx hb dX0_fillTables_16 rfl (lv_at hl 1 rfl) ?_
        refine lv_aload_n hx hb dX0_fillTables_17 rfl (lv_at hl 0 rfl) ?_
        refine gX_0 S hw (v := wc) ((j2 0 0 (by omega)).trans i0) dX0_fillTables_18 ?_
        refine r_icmp_ge (a := w) (b := wc) (tgt := 52) hx hb dX0_fillTables_21 (by decide) (by omega) (by omega) (fun c_21 => ?_) (fun c_21 => ?_)
        · refine lv_aload_n hx hb dX0_fillTables_52 rfl (lv_at hl 0 rfl) ?_
          refine lv_aload_n hx hb dX0_fillTables_53 rfl (lv_at hl 0 rfl) ?_
          refine gX_0 S hw (v := wc) ((j2 0 0 (by omega)).trans i0) dX0_fillTables_54 ?_
          refine pX_15 S hw (v := wc) dX0_fillTables_57 (fun H locs hw => ?_)
          exact G_retv (σ' := (up2 σ2 15 0 (wc))) hx hb hr hlk hw (⟨fun a j q => by rw [up2_nk (by omega)]; exact j2 a j (by omega), rfl, j3.to (fun j => rfl), fun w9 h9 s9 b9 => (j4 w9 (by omega) s9 b9).to (fun a q1 q2 => by rw [up2_nk (by omega)])⟩) dX0_fillTables_60
        · refine r_iconst hx hb dX0_fillTables_24 ?_
          refine lv_istore_n (lv' := [(2, .int (iI (0))), (0, .ref (h 0)), (1, .int (iI (w)))]) hx hb dX0_fillTables_25 rfl hl (by decide) rfl (fun ls hl => ?_)
          have loop26 : ∀ (f : Nat) (u : Nat) (σ3 : St) (H : Heap) (locs : List Loc) (ls : Array Slot), m + 1 < u + f → (u ≤ m + 1) → (∀ a j, (a < 10 ∨ 14 < a) → σ3 a j = σ a j) → (XStep m P σ3) → (∀ w9, w9 < w → ∀ s9, s9 ≤ m → XCell len sy m P σ3 w9 s9) → (∀ s9, s9 < u → XCell len sy m P σ3 w s9) → GW D [(cB, .byte), (cS, .short)] (wX h cB cS σ3) A s H locs → lv_has ls 3 [(0, .ref (h 0)), (1, .int (iI (w))), (2, .int (iI (u)))] → W p l e ({ frames := 1, cells := 0, slots := 0, locals := 28 }) s mi (Value.ref (h 0) :: []).toArray bl me co H locs 0 0 (QGv D [(cB, .byte), (cS, .short)] (wX h cB cS) A s (Value.ref (h 0) :: []).toArray bl (fun σ' => (∀ a j, (a < 10 ∨ 15 < a) → σ' a j = σ a j) ∧ σ' 15 0 = (wc : Int) ∧ XStep m P σ' ∧ ∀ w, w < wc → ∀ s, s ≤ m → XCell len sy m P σ' w s)) (F0 mi 26 ls []) := by
            intro f
            induction f with
            | zero =>
              intro u σ3 H locs ls q0 k1 k2 k3 k4 k5
              exact absurd q0 (by omega)
            | succ f ih26 =>
              intro u σ3 H locs ls q0 k1 k2 k3 k4 k5 hw hl
              refine lv_iload_n hx hb dX0_fillTables_26 rfl (lv_at hl 2 rfl) ?_
              refine lv_aload_n hx hb dX0_fillTables_27 rfl (lv_at hl 0 rfl) ?_
              refine gX_9 S hw (v := m) ((k2 9 0 (by omega)).trans i9) dX0_fillTables_28 ?_
              refine r_icmp_gt (a := u) (b := m) (tgt := 46) hx hb dX0_fillTables_31 (by decide) (by omega) (by omega) (fun c_31 => ?_) (fun c_31 => ?_)
              · refine r_iinc (a := w) (lv' := [(1, .int (iI (w + 1))), (0, .ref (h 0)), (2, .int (iI (u)))]) (k := 1) hx hb dX0_fillTables_46 hl rfl (by decide) rfl (fun ls hl => ?_)
                refine lv_goto (tgt := 16) hx hb dX0_fillTables_49 (by decide) ?_
                exact ih16 (w + 1) (σ3) _ _ _ (by omega) (by omega) (k2) (k3) (fun w9 h9 s9 b9 => by
                      by_cases q : w9 = w
                      · subst q; exact k5 s9 (by omega)
                      · exact k4 w9 (by omega) s9 b9) hw (by rw [show ((w + 1 : Nat) : Int) = (w : Int) + 1 from by omega]; exact lv_sub hl [1, 0] rfl)
              · refine lv_aload_n hx hb dX0_fillTables_34 rfl (lv_at hl 0 rfl) ?_
                refine lv_iload_n hx hb dX0_fillTables_35 rfl (lv_at hl 1 rfl) ?_
                refine lv_iload_n hx hb dX0_fillTables_36 rfl (lv_at hl 2 rfl) ?_
                refine cX_v (As := [.int (iI (w)), .int (iI (u))]) (rest := []) S hw (mX_fillCell (wc := wc) (n := n) (N := N) (cd := cd) (bg := bg) (T := T) l D cB cS h σ3 w u hD hPt (xD.to (fun a j q => k2 a j (by omega))) ((k2 9 0 (by omega)).trans i9) k3 (by omega) (by omega) (fun v hv => k4 v hv u (by omega))) (cwV 2 hts (lw_V q174 q176 qs8 q15 q177) rfl rfl rfl (by decide +kernel) ⟨Nat.le_of_ble_eq_true rfl, Nat.le_of_ble_eq_true rfl⟩) ⟨Nat.le_refl 0, Nat.le_refl 0⟩ rfl hl.1 rfl (Nat.le_of_ble_eq_true rfl) dX0_fillTables_37 (fun σ4 H locs hp4 hw => ?_)
                refine r_iinc (a := u) (lv' := [(2, .int (iI (u + 1))), (0, .ref (h 0)), (1, .int (iI (w)))]) (k := 2) hx hb dX0_fillTables_40 hl rfl (by decide) rfl (fun ls hl => ?_)
                refine lv_goto (tgt := 26) hx hb dX0_fillTables_43 (by decide) ?_
                exact ih26 (u + 1) (σ4) _ _ _ (by omega) (by omega) (fun a j q => (hp4.1 a j (by omega)).trans (k2 a j q)) (k3.to (fun j => hp4.1 10 j (by omega))) (fun w9 h9 s9 b9 => (k4 w9 h9 s9 b9).to (fun a q1 q2 => hp4.1 a _ (by omega))) (fun s9 h9 => by
                      by_cases q : s9 = u
                      · subst q; exact hp4.2
                      · exact (k5 s9 (by omega)).to (fun a q1 q2 => hp4.1 a _ (by omega))) hw (by rw [show ((u + 1 : Nat) : Int) = (u : Int) + 1 from by omega]; exact lv_sub hl [1, 2, 0] rfl)
          exact loop26 (m + 2) (0) (σ2) _ _ _ (by omega) (by omega) (j2) (j3) (j4) (fun s9 h9 => absurd h9 (by omega)) hw (by rw [show ((0 : Nat) : Int) = 0 from rfl]; exact lv_sub hl [1, 2, 0] rfl)
    exact loop16 (wc + 1) (t) (σ) _ _ _ (by omega) (by omega) (fun a j q => rfl) (t4.2.1) (t4.2.2) hw (lv_sub hl [1, 0] rfl)
  · refine lv_aload_n hx hb dX0_fillTables_7 rfl (lv_at hl 0 rfl) ?_
    refine cX_v (As := []) (rest := []) S hw (mX_buildMachine l D cB cS h σ hPt xP) (cwV 0 hts (lw_V q170 q172 qs7 q15 q173) rfl rfl rfl (by decide +kernel) ⟨Nat.le_of_ble_eq_true rfl, Nat.le_of_ble_eq_true rfl⟩) ⟨Nat.le_refl 0, Nat.le_refl 0⟩ rfl hl.1 rfl (Nat.le_of_ble_eq_true rfl) dX0_fillTables_8 (fun σ1 H locs hp1 hw => ?_)
    refine lv_aload_n hx hb dX0_fillTables_11 rfl (lv_at hl 0 rfl) ?_
    refine gX_15 S hw (v := t) ((hp1.1 15 0 (by omega)).trans t1) dX0_fillTables_12 ?_
    refine lv_istore_n (lv' := [(1, .int (iI (t))), (0, .ref (h 0))]) hx hb dX0_fillTables_15 rfl hl (by decide) rfl (fun ls hl => ?_)
    have loop16 : ∀ (f : Nat) (w : Nat) (σ2 : St) (H : Heap) (locs : List Loc) (ls : Array Slot), wc < w + f → (w ≤ wc) → (∀ a j, (a < 10 ∨ 14 < a) → σ2 a j = σ a j) → (XStep m P σ2) → (∀ w9, w9 < w → ∀ s9, s9 ≤ m → XCell len sy m P σ2 w9 s9) → GW D [(cB, .byte), (cS, .short)] (wX h cB cS σ2) A s H locs → lv_has ls 3 [(0, .ref (h 0)), (1, .int (iI (w)))] → W p l e ({ frames := 1, cells := 0, slots := 0, locals := 28 }) s mi (Value.ref (h 0) :: []).toArray bl me co H locs 0 0 (QGv D [(cB, .byte), (cS, .short)] (wX h cB cS) A s (Value.ref (h 0) :: []).toArray bl (fun σ' => (∀ a j, (a < 10 ∨ 15 < a) → σ' a j = σ a j) ∧ σ' 15 0 = (wc : Int) ∧ XStep m P σ' ∧ ∀ w, w < wc → ∀ s, s ≤ m → XCell len sy m P σ' w s)) (F0 mi 16 ls []) := by
      intro f
      induction f with
      | zero =>
        intro w σ2 H locs ls q0 j1 j2 j3 j4
        exact absurd q0 (by omega)
      | succ f ih16 =>
        intro w σ2 H locs ls q0 j1 j2 j3 j4 hw hl
        refine lv_iload_n hx hb dX0_fillTables_16 rfl (lv_at hl 1 rfl) ?_
        refine lv_aload_n hx hb dX0_fillTables_17 rfl (lv_at hl 0 rfl) ?_
        refine gX_0 S hw (v := wc) ((j2 0 0 (by omega)).trans i0) dX0_fillTables_18 ?_
        refine r_icmp_ge (a := w) (b := wc) (tgt := 52) hx hb dX0_fillTables_21 (by decide) (by omega) (by omega) (fun c_21 => ?_) (fun c_21 => ?_)
        · refine lv_aload_n hx hb dX0_fillTables_52 rfl (lv_at hl 0 rfl) ?_
          refine lv_aload_n hx hb dX0_fillTables_53 rfl (lv_at hl 0 rfl) ?_
          refine gX_0 S hw (v := wc) ((j2 0 0 (by omega)).trans i0) dX0_fillTables_54 ?_
          refine pX_15 S hw (v := wc) dX0_fillTables_57 (fun H locs hw => ?_)
          exact G_retv (σ' := (up2 σ2 15 0 (wc))) hx hb hr hlk hw (⟨fun a j q => by rw [up2_nk (by omega)]; exact j2 a j (by omega), rfl, j3.to (fun j => rfl), fun w9 h9 s9 b9 => (j4 w9 (by omega) s9 b9).to (fun a q1 q2 => by rw [up2_nk (by omega)])⟩) dX0_fillTables_60
        · refine r_iconst hx hb dX0_fillTables_24 ?_
          refine lv_istore_n (lv' := [(2, .int (iI (0))), (0, .ref (h 0)), (1, .int (iI (w)))]) hx hb dX0_fillTables_25 rfl hl (by decide) rfl (fun ls hl => ?_)
          have loop26 : ∀ (f : Nat) (u : Nat) (σ3 : St) (H : Heap) (locs : List Loc) (ls : Array Slot), m + 1 < u + f → (u ≤ m + 1) → (∀ a j, (a < 10 ∨ 14 < a) → σ3 a j = σ a j) → (XStep m P σ3) → (∀ w9, w9 < w → ∀ s9, s9 ≤ m → XCell len sy m P σ3 w9 s9) → (∀ s9, s9 < u → XCell len sy m P σ3 w s9) → GW D [(cB, .byte), (cS, .short)] (wX h cB cS σ3) A s H locs → lv_has ls 3 [(0, .ref (h 0)), (1, .int (iI (w))), (2, .int (iI (u)))] → W p l e ({ frames := 1, cells := 0, slots := 0, locals := 28 }) s mi (Value.ref (h 0) :: []).toArray bl me co H locs 0 0 (QGv D [(cB, .byte), (cS, .short)] (wX h cB cS) A s (Value.ref (h 0) :: []).toArray bl (fun σ' => (∀ a j, (a < 10 ∨ 15 < a) → σ' a j = σ a j) ∧ σ' 15 0 = (wc : Int) ∧ XStep m P σ' ∧ ∀ w, w < wc → ∀ s, s ≤ m → XCell len sy m P σ' w s)) (F0 mi 26 ls []) := by
            intro f
            induction f with
            | zero =>
              intro u σ3 H locs ls q0 k1 k2 k3 k4 k5
              exact absurd q0 (by omega)
            | succ f ih26 =>
              intro u σ3 H locs ls q0 k1 k2 k3 k4 k5 hw hl
              refine lv_iload_n hx hb dX0_fillTables_26 rfl (lv_at hl 2 rfl) ?_
              refine lv_aload_n hx hb dX0_fillTables_27 rfl (lv_at hl 0 rfl) ?_
              refine gX_9 S hw (v := m) ((k2 9 0 (by omega)).trans i9) dX0_fillTables_28 ?_
              refine r_icmp_gt (a := u) (b := m) (tgt := 46) hx hb dX0_fillTables_31 (by decide) (by omega) (by omega) (fun c_31 => ?_) (fun c_31 => ?_)
              · refine r_iinc (a := w) (lv' := [(1, .int (iI (w + 1))), (0, .ref (h 0)), (2, .int (iI (u)))]) (k := 1) hx hb dX0_fillTables_46 hl rfl (by decide) rfl (fun ls hl => ?_)
                refine lv_goto (tgt := 16) hx hb dX0_fillTables_49 (by decide) ?_
                exact ih16 (w + 1) (σ3) _ _ _ (by omega) (by omega) (k2) (k3) (fun w9 h9 s9 b9 => by
                      by_cases q : w9 = w
                      · subst q; exact k5 s9 (by omega)
                      · exact k4 w9 (by omega) s9 b9) hw (by rw [show ((w + 1 : Nat) : Int) = (w : Int) + 1 from by omega]; exact lv_sub hl [1, 0] rfl)
              · refine lv_aload_n hx hb dX0_fillTables_34 rfl (lv_at hl 0 rfl) ?_
                refine lv_iload_n hx hb dX0_fillTables_35 rfl (lv_at hl 1 rfl) ?_
                refine lv_iload_n hx hb dX0_fillTables_36 rfl (lv_at hl 2 rfl) ?_
                refine cX_v (As := [.int (iI (w)), .int (iI (u))]) (rest := []) S hw (mX_fillCell (wc := wc) (n := n) (N := N) (cd := cd) (bg := bg) (T := T) l D cB cS h σ3 w u hD hPt (xD.to (fun a j q => k2 a j (by omega))) ((k2 9 0 (by omega)).trans i9) k3 (by omega) (by omega) (fun v hv => k4 v hv u (by omega))) (cwV 2 hts (lw_V q174 q176 qs8 q15 q177) rfl rfl rfl (by decide +kernel) ⟨Nat.le_of_ble_eq_true rfl, Nat.le_of_ble_eq_true rfl⟩) ⟨Nat.le_refl 0, Nat.le_refl 0⟩ rfl hl.1 rfl (Nat.le_of_ble_eq_true rfl) dX0_fillTables_37 (fun σ4 H locs hp4 hw => ?_)
                refine r_iinc (a := u) (lv' := [(2, .int (iI (u + 1))), (0, .ref (h 0)), (1, .int (iI (w)))]) (k := 2) hx hb dX0_fillTables_40 hl rfl (by decide) rfl (fun ls hl => ?_)
                refine lv_goto (tgt := 26) hx hb dX0_fillTables_43 (by decide) ?_
                exact ih26 (u + 1) (σ4) _ _ _ (by omega) (by omega) (fun a j q => (hp4.1 a j (by omega)).trans (k2 a j q)) (k3.to (fun j => hp4.1 10 j (by omega))) (fun w9 h9 s9 b9 => (k4 w9 h9 s9 b9).to (fun a q1 q2 => hp4.1 a _ (by omega))) (fun s9 h9 => by
                      by_cases q : s9 = u
                      · subst q; exact hp4.2
                      · exact (k5 s9 (by omega)).to (fun a q1 q2 => hp4.1 a _ (by omega))) hw (by rw [show ((u + 1 : Nat) : Int) = (u : Int) + 1 from by omega]; exact lv_sub hl [1, 2, 0] rfl)
          exact loop26 (m + 2) (0) (σ2) _ _ _ (by omega) (by omega) (j2) (j3) (j4) (fun s9 h9 => absurd h9 (by omega)) hw (by rw [show ((0 : Nat) : Int) = 0 from rfl]; exact lv_sub hl [1, 2, 0] rfl)
    exact loop16 (wc + 1) (0) (σ1) _ _ _ (by omega) (by omega) (fun a j q => hp1.1 a j (by omega)) (hp1.2) (fun w9 h9 => absurd h9 (by omega)) hw (by rw [show ((0 : Nat) : Int) = t from by omega]; exact lv_sub hl [1, 0] rfl)
set_option maxRecDepth 100000 in
/-- one word in the scan -/
theorem mX_pass (l : Launch) (D : va_G) (cB cS : ClassId) (h : Nat → Nat) (σ : St) (j b : Nat) (hj : j < 420) (h12 : 0 ≤ σ 12 j ∧ σ 12 j ≤ 250) (h19 : -1 ≤ σ 19 0 ∧ σ 19 0 ≤ 250) :
    GMv l yX0_pass cX0_pass 3 none 0 0 D [(cB, .byte), (cS, .short)] (wX h cB cS) (adX h) (h 0) [.int (iI (j)), .int (iI (b))] σ (fun σ' => σ' = ps σ j b) := by
  refine GMv.of (by decide) rfl (Nat.le_of_ble_eq_true rfl) ?_
  intro p e s mi bl me co A ls S hr hlk hw hl
  have S : CallFix p mi co cX0_pass 3 s _ lw_all RX0 := S
  have hx := S.1
  have hb := S.2.1
  have hts := S.2.2.2.2
  have hl : lv_has ls 3 [(0, .ref (h 0)), (1, .int (iI (j))), (2, .int (iI (b)))] := hl
  refine lv_aload_n hx hb dX0_pass_0 rfl (lv_at hl 0 rfl) ?_
  refine gX_12 S hw dX0_pass_1 ?_
  refine lv_iload_n hx hb dX0_pass_4 rfl (lv_at hl 1 rfl) ?_
  refine aX_12 hx hb hw (j) (z := j) (v := σ 12 j) (by omega) (by omega) (rfl) dX0_pass_5 ?_
  refine r_if_le (a := σ 12 j) (tgt := 72) hx hb dX0_pass_6 (by decide) (by omega) (fun c_6 => ?_) (fun c_6 => ?_)
  · refine lv_aload_n hx hb dX0_pass_72 rfl (lv_at hl 0 rfl) ?_
    refine lv_aload_n hx hb dX0_pass_73 rfl (lv_at hl 0 rfl) ?_
    refine gX_11 S hw dX0_pass_74 ?_
    refine lv_iload_n hx hb dX0_pass_77 rfl (lv_at hl 1 rfl) ?_
    refine aX_11 hx hb hw (j) (z := j) (v := σ 11 j) (by omega) (by omega) (rfl) dX0_pass_78 ?_
    refine pX_17 S hw (v := σ 11 j) dX0_pass_79 (fun H locs hw => ?_)
    exact G_retv (σ' := (up2 σ 17 0 (σ 11 j))) hx hb hr hlk hw (by unfold ps; rw [if_neg (by omega)]) dX0_pass_82
  · refine lv_aload_n hx hb dX0_pass_9 rfl (lv_at hl 0 rfl) ?_
    refine lv_dup hx hb dX0_pass_10 rfl ?_
    refine gX_18 S hw (v := σ 18 0) rfl dX0_pass_11 ?_
    refine lv_aload_n hx hb dX0_pass_14 rfl (lv_at hl 0 rfl) ?_
    refine gX_12 S hw dX0_pass_15 ?_
    refine lv_iload_n hx hb dX0_pass_18 rfl (lv_at hl 1 rfl) ?_
    refine aX_12 hx hb hw (j) (z := j) (v := σ 12 j) (by omega) (by omega) (rfl) dX0_pass_19 ?_
    refine r_iadd (a := σ 18 0) (b := σ 12 j) hx hb dX0_pass_20 ?_
    refine pX_18 S hw (v := (σ 18 0 + σ 12 j)) dX0_pass_21 (fun H locs hw => ?_)
    refine lv_aload_n hx hb dX0_pass_24 rfl (lv_at hl 0 rfl) ?_
    refine lv_iload_n hx hb dX0_pass_25 rfl (lv_at hl 2 rfl) ?_
    refine lv_aload_n hx hb dX0_pass_26 rfl (lv_at hl 0 rfl) ?_
    refine gX_14 S hw dX0_pass_27 ?_
    refine lv_iload_n hx hb dX0_pass_30 rfl (lv_at hl 1 rfl) ?_
    refine aX_14 hx hb hw (j) (z := j) (v := σ 14 j) (by omega) (by omega) (rfl) dX0_pass_31 ?_
    refine r_iadd (a := b) (b := σ 14 j) hx hb dX0_pass_32 ?_
    refine lv_aload_n hx hb dX0_pass_33 rfl (lv_at hl 0 rfl) ?_
    refine gX_9 S hw (v := σ 9 0) rfl dX0_pass_34 ?_
    refine r_isub (a := (b + σ 14 j)) (b := σ 9 0) hx hb dX0_pass_37 ?_
    refine pX_20 S hw (v := ((b + σ 14 j) - σ 9 0)) dX0_pass_38 (fun H locs hw => ?_)
    refine lv_aload_n hx hb dX0_pass_41 rfl (lv_at hl 0 rfl) ?_
    refine lv_aload_n hx hb dX0_pass_42 rfl (lv_at hl 0 rfl) ?_
    refine gX_19 S hw (v := σ 19 0) rfl dX0_pass_43 ?_
    refine r_if_ge (a := σ 19 0) (tgt := 65) hx hb dX0_pass_46 (by decide) (by omega) (fun c_46 => ?_) (fun c_46 => ?_)
    · refine lv_aload_n hx hb dX0_pass_65 rfl (lv_at hl 0 rfl) ?_
      refine gX_19 S hw (v := σ 19 0) rfl dX0_pass_66 ?_
      refine pX_19 S hw (v := σ 19 0) dX0_pass_69 (fun H locs hw => ?_)
      refine lv_aload_n hx hb dX0_pass_72 rfl (lv_at hl 0 rfl) ?_
      refine lv_aload_n hx hb dX0_pass_73 rfl (lv_at hl 0 rfl) ?_
      refine gX_11 S hw dX0_pass_74 ?_
      refine lv_iload_n hx hb dX0_pass_77 rfl (lv_at hl 1 rfl) ?_
      refine aX_11 hx hb hw (j) (z := j) (v := σ 11 j) (by omega) (by omega) (rfl) dX0_pass_78 ?_
      refine pX_17 S hw (v := σ 11 j) dX0_pass_79 (fun H locs hw => ?_)
      exact G_retv (σ' := (up2 (up2 (up2 (up2 σ 18 0 ((σ 18 0 + σ 12 j))) 20 0 (((b + σ 14 j) - σ 9 0))) 19 0 (σ 19 0)) 17 0 (σ 11 j))) hx hb hr hlk hw (by unfold ps; rw [if_pos (by omega), if_neg (by omega)]) dX0_pass_82
    · refine lv_iload_n hx hb dX0_pass_49 rfl (lv_at hl 2 rfl) ?_
      refine lv_aload_n hx hb dX0_pass_50 rfl (lv_at hl 0 rfl) ?_
      refine gX_13 S hw dX0_pass_51 ?_
      refine lv_iload_n hx hb dX0_pass_54 rfl (lv_at hl 1 rfl) ?_
      refine aX_13 hx hb hw (j) (z := j) (v := σ 13 j) (by omega) (by omega) (rfl) dX0_pass_55 ?_
      refine r_iadd (a := b) (b := σ 13 j) hx hb dX0_pass_56 ?_
      refine lv_aload_n hx hb dX0_pass_57 rfl (lv_at hl 0 rfl) ?_
      refine gX_9 S hw (v := σ 9 0) rfl dX0_pass_58 ?_
      refine r_isub (a := (b + σ 13 j)) (b := σ 9 0) hx hb dX0_pass_61 ?_
      refine lv_goto (tgt := 69) hx hb dX0_pass_62 (by decide) ?_
      refine pX_19 S hw (v := ((b + σ 13 j) - σ 9 0)) dX0_pass_69 (fun H locs hw => ?_)
      refine lv_aload_n hx hb dX0_pass_72 rfl (lv_at hl 0 rfl) ?_
      refine lv_aload_n hx hb dX0_pass_73 rfl (lv_at hl 0 rfl) ?_
      refine gX_11 S hw dX0_pass_74 ?_
      refine lv_iload_n hx hb dX0_pass_77 rfl (lv_at hl 1 rfl) ?_
      refine aX_11 hx hb hw (j) (z := j) (v := σ 11 j) (by omega) (by omega) (rfl) dX0_pass_78 ?_
      refine pX_17 S hw (v := σ 11 j) dX0_pass_79 (fun H locs hw => ?_)
      exact G_retv (σ' := (up2 (up2 (up2 (up2 σ 18 0 ((σ 18 0 + σ 12 j))) 20 0 (((b + σ 14 j) - σ 9 0))) 19 0 (((b + σ 13 j) - σ 9 0))) 17 0 (σ 11 j))) hx hb hr hlk hw (by unfold ps; rw [if_pos (by omega), if_pos (by omega)]) dX0_pass_82
end
section
/-! CodeSearcher: scan and its answers, endingIn (printed by gen/x5.py) -/
set_option maxRecDepth 100000 in
/-- a run over all codes -/
theorem mX_scan (l : Launch) (D : va_G) (cB cS : ClassId) (h : Nat → Nat) (σ : St) {wc : Nat} {len : Nat → Nat} {sy : Nat → Nat → Nat} {n N : Nat} {cd bg T : Nat → Nat} {m : Nat} {P : Nat → Nat} (hf : Wf wc len sy n N cd bg T m P) (hr0 : XRep wc len sy n N cd T m P σ) :
    GMv l yX0_scan cX0_scan 4 none 2 50 D [(cB, .byte), (cS, .short)] (wX h cB cS) (adX h) (h 0) [] σ (fun σ' => XRep wc len sy n N cd T m P σ' ∧ σ' 16 0 = 1) := by
  have hf0 := hf
  have hr00 := hr0
  obtain ⟨hD, hC, hPt⟩ := hf
  obtain ⟨xD, xC, xP, xT, xK⟩ := hr0
  have d1 := hD.1
  have d2 := hD.2.1
  have i0 : σ 0 0 = (wc : Int) := xD.1
  have i6 : σ 6 0 = (n : Int) := xC.1
  have i7 : σ 7 0 = (N : Int) := xC.2.1
  have i9 : σ 9 0 = (m : Int) := xP.1
  have p1 : m ≤ 6 := hPt.1
  have hN : N ≤ 250 := hC.1
  have hnN : n ≤ N := hC.nN hD
  have k01 : σ 16 0 = 0 ∨ σ 16 0 = 1 := by
    rcases xK with z | z
    · exact Or.inl z
    · exact Or.inr z.1
  refine GMv.of (by decide) rfl (Nat.le_of_ble_eq_true rfl) ?_
  intro p e s mi bl me co A ls S hr hlk hw hl
  have S : CallFix p mi co cX0_scan 4 s _ lw_all RX0 := S
  have hx := S.1
  have hb := S.2.1
  have hts := S.2.2.2.2
  have hl : lv_has ls 4 [(0, .ref (h 0))] := hl
  refine lv_aload_n hx hb dX0_scan_0 rfl (lv_at hl 0 rfl) ?_
  refine gX_16 S hw (v := σ 16 0) rfl dX0_scan_1 ?_
  refine r_if_eq (a := σ 16 0) (tgt := 8) hx hb dX0_scan_4 (by decide) (by omega) (fun c_4 => ?_) (fun c_4 => ?_)
  · refine lv_aload_n hx hb dX0_scan_8 rfl (lv_at hl 0 rfl) ?_
    refine r_iconst hx hb dX0_scan_9 ?_
    refine pX_16 S hw (v := 1) z_1 rfl dX0_scan_10 (fun H locs hw => ?_)
    refine lv_aload_n hx hb dX0_scan_13 rfl (lv_at hl 0 rfl) ?_
    refine r_iconst hx hb dX0_scan_14 ?_
    refine pX_17 S hw (v := 0) dX0_scan_15 (fun H locs hw => ?_)
    refine lv_aload_n hx hb dX0_scan_18 rfl (lv_at hl 0 rfl) ?_
    refine r_iconst hx hb dX0_scan_19 ?_
    refine pX_18 S hw (v := 0) dX0_scan_20 (fun H locs hw => ?_)
    refine lv_aload_n hx hb dX0_scan_23 rfl (lv_at hl 0 rfl) ?_
    refine r_iconst hx hb dX0_scan_24 ?_
    refine pX_19 S hw (v := (-1)) dX0_scan_25 (fun H locs hw => ?_)
    refine lv_aload_n hx hb dX0_scan_28 rfl (lv_at hl 0 rfl) ?_
    refine r_iconst hx hb dX0_scan_29 ?_
    refine pX_20 S hw (v := (-1)) dX0_scan_30 (fun H locs hw => ?_)
    refine lv_aload_n hx hb dX0_scan_33 rfl (lv_at hl 0 rfl) ?_
    refine r_iconst hx hb dX0_scan_34 ?_
    refine pX_21 S hw (v := 0) dX0_scan_35 (fun H locs hw => ?_)
    refine lv_aload_n hx hb dX0_scan_38 rfl (lv_at hl 0 rfl) ?_
    refine gX_9 S hw (v := m) i9 dX0_scan_39 ?_
    refine r_if_ne (a := m) (tgt := 46) hx hb dX0_scan_42 (by decide) (by omega) (fun c_42 => ?_) (fun c_42 => ?_)
    · refine lv_aload_n hx hb dX0_scan_46 rfl (lv_at hl 0 rfl) ?_
      have m0 : 0 < m := by omega
      refine cX_v (As := []) (rest := []) S hw (mX_fillTables (wc := wc) (len := len) (sy := sy) (n := n) (N := N) (cd := cd) (bg := bg) (T := T) l D cB cS h _ hD hPt (xD.to (fun a j q => by rw [up2_nk (by omega), up2_nk (by omega), up2_nk (by omega), up2_nk (by omega), up2_nk (by omega), up2_nk (by omega)])) (xP.to (fun a j _ q => by rw [up2_nk (by omega), up2_nk (by omega), up2_nk (by omega), up2_nk (by omega), up2_nk (by omega), up2_nk (by omega)])) (xT.to (fun a j _ q => by rw [up2_nk (by omega), up2_nk (by omega), up2_nk (by omega), up2_nk (by omega), up2_nk (by omega), up2_nk (by omega)]))) (cwV 0 hts (lw_V q166 q168 qs6 q15 q169) rfl rfl rfl (by decide +kernel) ⟨Nat.le_of_ble_eq_true rfl, Nat.le_of_ble_eq_true rfl⟩) ⟨Nat.le_refl 0, Nat.le_refl 0⟩ rfl hl.1 rfl (Nat.le_of_ble_eq_true rfl) dX0_scan_47 (fun σ1 H locs hp1 hw => ?_)
      have q1 : ∀ a j, a < 10 → σ1 a j = σ a j := fun a j q => (hp1.1 a j (by omega)).trans (by rw [up2_nk (by omega), up2_nk (by omega), up2_nk (by omega), up2_nk (by omega), up2_nk (by omega), up2_nk (by omega)])
      refine r_iconst hx hb dX0_scan_50 ?_
      refine lv_istore_n (lv' := [(1, .int (iI (0))), (0, .ref (h 0))]) hx hb dX0_scan_51 rfl hl (by decide) rfl (fun ls hl => ?_)
      refine r_iconst hx hb dX0_scan_52 ?_
      refine lv_istore_n (lv' := [(2, .int (iI (0))), (1, .int (iI (0))), (0, .ref (h 0))]) hx hb dX0_scan_53 rfl hl (by decide) rfl (fun ls hl => ?_)
      have loop54 : ∀ (f : Nat) (k : Nat) (σ2 : St) (H : Heap) (locs : List Loc) (ls : Array Slot), n < k + f → (k ≤ n) → (∀ a j, a < 16 → σ2 a j = σ1 a j) → (XRun len sy cd T m P (bg k) k σ2) → GW D [(cB, .byte), (cS, .short)] (wX h cB cS σ2) A s H locs → lv_has ls 4 [(0, .ref (h 0)), (1, .int (iI (bg k))), (2, .int (iI (k)))] → W p l e ({ frames := 2, cells := 0, slots := 0, locals := 50 }) s mi (Value.ref (h 0) :: []).toArray bl me co H locs 0 0 (QGv D [(cB, .byte), (cS, .short)] (wX h cB cS) A s (Value.ref (h 0) :: []).toArray bl (fun σ' => XRep wc len sy n N cd T m P σ' ∧ σ' 16 0 = 1)) (F0 mi 54 ls []) := by
        intro f
        induction f with
        | zero =>
          intro k σ2 H locs ls q0 j1 j2 j3
          exact absurd q0 (by omega)
        | succ f ih54 =>
          intro k σ2 H locs ls q0 j1 j2 j3 hw hl
          refine lv_iload_n hx hb dX0_scan_54 rfl (lv_at hl 2 rfl) ?_
          refine lv_aload_n hx hb dX0_scan_55 rfl (lv_at hl 0 rfl) ?_
          refine gX_6 S hw (v := n) ((j2 6 0 (by omega)).trans ((q1 6 0 (by omega)).trans i6)) dX0_scan_56 ?_
          refine r_icmp_ge (a := k) (b := n) (tgt := 116) hx hb dX0_scan_59 (by decide) (by omega) (by omega) (fun c_59 => ?_) (fun c_59 => ?_)
          · refine G_retv (σ' := σ2) hx hb hr hlk hw ?_ dX0_scan_116
            have kn : k = n := by omega
            rw [kn, hC.2.2.1] at j3
            exact ⟨⟨xD.to (fun a j q => (j2 a j (by omega)).trans (q1 a j (by omega))), xC.to (fun a j _ q => (j2 a j (by omega)).trans (q1 a j (by omega))), xP.to (fun a j _ q => (j2 a j (by omega)).trans (q1 a j (by omega))), X_tab m0 hp1.2.1 hp1.2.2.1 hp1.2.2.2 (fun a j _ q => j2 a j (by omega)), X_done m0 j3⟩, j3.1⟩
          · obtain ⟨c1, c2, c3⟩ := hC.2.2.2 k (by omega)
            have lb := (hD.2.2.2 _ c1).2.1
            have bl := bst_le P T (bg k) m
            have b1 := hC.bgN hD (k + 1) (by omega)
            have cc0 : XCell len sy m P σ2 (cd k) (bst P T (bg k) m) := (hp1.2.2.2 _ c1 _ bl).to (fun a q1 q2 => j2 a _ (by omega))
            have cc1 : XCell len sy m P σ2 (cd k) 0 := (hp1.2.2.2 _ c1 _ (by omega)).to (fun a q1 q2 => j2 a _ (by omega))
            have m2 : σ2 9 0 = (m : Int) := (j2 9 0 (by omega)).trans ((q1 9 0 (by omega)).trans i9)
            have e12 := cc0.2.1
            have e12b := cn_le (rn P m (bst P T (bg k) m) (sy (cd k))) m (len (cd k))
            have e19 := j3.2.2.2.1
            have e19b := fs_le (fun e => bst P T e m) m (bg k)
            have e19c := pl_b (fs_m P T m (bg k)) (by omega)
            refine lv_aload_n hx hb dX0_scan_62 rfl (lv_at hl 0 rfl) ?_
            refine gX_5 S hw dX0_scan_63 ?_
            refine lv_iload_n hx hb dX0_scan_66 rfl (lv_at hl 2 rfl) ?_
            refine aX_5 hx hb hw (k) (z := k) (v := cd k) (by omega) (by omega) ((j2 5 k (by omega)).trans ((q1 5 k (by omega)).trans (xC.2.2 k (by omega)))) dX0_scan_67 ?_
            refine lv_istore_n (lv' := [(3, .int (iI (cd k))), (0, .ref (h 0)), (1, .int (iI (bg k))), (2, .int (iI (k)))]) hx hb dX0_scan_68 rfl hl (by decide) rfl (fun ls hl => ?_)
            refine lv_aload_n hx hb dX0_scan_69 rfl (lv_at hl 1 rfl) ?_
            refine lv_iload_n hx hb dX0_scan_70 rfl (lv_at hl 0 rfl) ?_
            refine r_bipush hx hb dX0_scan_71 (by decide) ?_
            refine r_imul (a := cd k) (b := 7) hx hb dX0_scan_73 ?_
            refine lv_aload_n hx hb dX0_scan_74 rfl (lv_at hl 1 rfl) ?_
            refine gX_17 S hw (v := bst P T (bg k) m) j3.2.1 dX0_scan_75 ?_
            refine r_iadd (a := (cd k * 7)) (b := bst P T (bg k) m) hx hb dX0_scan_78 ?_
            refine r_top (a := ((cd k * 7) + bst P T (bg k) m)) (b := ((cd k * 7 + bst P T (bg k) m : Nat) : Int)) (by omega) ?_
            refine lv_iload_n hx hb dX0_scan_79 rfl (lv_at hl 2 rfl) ?_
            refine cX_v (As := [.int (iI (((cd k * 7 + bst P T (bg k) m : Nat) : Int))), .int (iI (bg k))]) (rest := []) S hw (mX_pass l D cB cS h σ2 (cd k * 7 + bst P T (bg k) m) (bg k) (by omega) (by omega) (by omega)) (cwV 2 hts (lw_V q178 q180 qs9 q15 q181) rfl rfl rfl (by decide +kernel) ⟨Nat.le_of_ble_eq_true rfl, Nat.le_of_ble_eq_true rfl⟩) ⟨Nat.le_refl 0, Nat.le_refl 0⟩ rfl hl.1 rfl (Nat.le_of_ble_eq_true rfl) dX0_scan_80 (fun σ3 H locs hp2 hw => ?_)
            refine lv_aload_n hx hb dX0_scan_83 rfl (lv_at hl 1 rfl) ?_
            refine lv_dup hx hb dX0_scan_84 rfl ?_
            refine gX_21 S hw (v := σ2 21 0) (by rw [hp2]; exact ps_o (by omega)) dX0_scan_85 ?_
            refine lv_aload_n hx hb dX0_scan_88 rfl (lv_at hl 1 rfl) ?_
            refine gX_12 S hw dX0_scan_89 ?_
            refine lv_iload_n hx hb dX0_scan_92 rfl (lv_at hl 0 rfl) ?_
            refine r_bipush hx hb dX0_scan_93 (by decide) ?_
            refine r_imul (a := cd k) (b := 7) hx hb dX0_scan_95 ?_
            refine aX_12 hx hb hw (cd k * 7) (z := (cd k * 7)) (v := σ2 12 (cd k * 7)) (by omega) (by omega) (by rw [hp2]; exact ps_o (by omega)) dX0_scan_96 ?_
            refine r_iadd (a := σ2 21 0) (b := σ2 12 (cd k * 7)) hx hb dX0_scan_97 ?_
            refine pX_21 S hw (v := (σ2 21 0 + σ2 12 (cd k * 7))) dX0_scan_98 (fun H locs hw => ?_)
            refine lv_iload_n hx hb dX0_scan_101 rfl (lv_at hl 2 rfl) ?_
            refine lv_aload_n hx hb dX0_scan_102 rfl (lv_at hl 1 rfl) ?_
            refine gX_4 S hw dX0_scan_103 ?_
            refine lv_iload_n hx hb dX0_scan_106 rfl (lv_at hl 0 rfl) ?_
            refine aX_4 hx hb hw (cd k) (z := cd k) (v := len (cd k)) (by omega) (by omega) (by rw [up2_nk (by omega), hp2, ps_o (by omega)]; exact (j2 4 _ (by omega)).trans ((q1 4 _ (by omega)).trans (xD.2.1 _ c1).1)) dX0_scan_107 ?_
            refine r_iadd (a := bg k) (b := len (cd k)) hx hb dX0_scan_108 ?_
            refine lv_istore_n (lv' := [(1, .int (iI ((bg k + len (cd k))))), (3, .int (iI (cd k))), (0, .ref (h 0)), (2, .int (iI (k)))]) hx hb dX0_scan_109 rfl hl (by decide) rfl (fun ls hl => ?_)
            refine r_iinc (a := k) (lv' := [(2, .int (iI (k + 1))), (1, .int (iI ((bg k + len (cd k))))), (3, .int (iI (cd k))), (0, .ref (h 0))]) (k := 3) hx hb dX0_scan_110 hl rfl (by decide) rfl (fun ls hl => ?_)
            refine lv_goto (tgt := 54) hx hb dX0_scan_113 (by decide) ?_
            exact ih54 (k + 1) ((up2 σ3 21 0 ((σ2 21 0 + σ2 12 (cd k * 7))))) _ _ _ (by omega) (by omega) (fun a j q => by rw [up2_nk (by omega), hp2, ps_o (by omega)]; exact j2 a j q) (by rw [c2, hp2]; exact X_pass m2 cc0 cc1 c3 j3 rfl) hw (by rw [show ((bg (k + 1) : Nat) : Int) = (bg k : Int) + (len (cd k) : Int) from by omega, show ((k + 1 : Nat) : Int) = (k : Int) + 1 from by omega]; exact lv_sub hl [3, 1, 0] rfl)
      exact loop54 (n + 1) (0) (σ1) _ _ _ (by omega) (by omega) (fun a j _ => rfl) (by rw [hC.2.1]; exact X_run0 (hp1.1 16 0 (by omega)) (hp1.1 17 0 (by omega)) (hp1.1 18 0 (by omega)) (hp1.1 19 0 (by omega)) (hp1.1 20 0 (by omega)) (hp1.1 21 0 (by omega))) hw (by rw [show ((bg 0 : Nat) : Int) = 0 from by rw [hC.2.1]; rfl, show ((0 : Nat) : Int) = 0 from rfl]; exact lv_sub hl [2, 1, 0] rfl)
    · refine G_retv (σ' := (up2 (up2 (up2 (up2 (up2 (up2 σ 16 0 (1)) 17 0 (0)) 18 0 (0)) 19 0 ((-1))) 20 0 ((-1))) 21 0 (0))) hx hb hr hlk hw ?_ dX0_scan_45
      have m0 : m = 0 := by omega
      subst m0
      exact ⟨⟨xD.to (fun a j q => by rw [up2_nk (by omega), up2_nk (by omega), up2_nk (by omega), up2_nk (by omega), up2_nk (by omega), up2_nk (by omega)]), xC.to (fun a j _ q => by rw [up2_nk (by omega), up2_nk (by omega), up2_nk (by omega), up2_nk (by omega), up2_nk (by omega), up2_nk (by omega)]), xP.to (fun a j _ q => by rw [up2_nk (by omega), up2_nk (by omega), up2_nk (by omega), up2_nk (by omega), up2_nk (by omega), up2_nk (by omega)]), xT.to (fun a j _ q => by rw [up2_nk (by omega), up2_nk (by omega), up2_nk (by omega), up2_nk (by omega), up2_nk (by omega), up2_nk (by omega)]), X_empty rfl rfl rfl rfl rfl rfl⟩, rfl⟩
  · exact G_retv (σ' := σ) hx hb hr hlk hw (⟨hr00, by omega⟩) dX0_scan_7
set_option maxRecDepth 100000 in
theorem mX_count (l : Launch) (D : va_G) (cB cS : ClassId) (h : Nat → Nat) (σ : St) {wc : Nat} {len : Nat → Nat} {sy : Nat → Nat → Nat} {n N : Nat} {cd bg T : Nat → Nat} {m : Nat} {P : Nat → Nat} (hf : Wf wc len sy n N cd bg T m P) (hr0 : XRep wc len sy n N cd T m P σ) :
    GMi l yX0_count cX0_count 1 (some .int) 3 73 D [(cB, .byte), (cS, .short)] (wX h cB cS) (adX h) (h 0) [] σ (fun z σ' => z = (sCount m P T N : Int) ∧ XRep wc len sy n N cd T m P σ') := by
  refine GMi.of (by decide) rfl (Nat.le_of_ble_eq_true rfl) ?_
  intro p e s mi bl me co A ls S hr hlk hw hl
  have S : CallFix p mi co cX0_count 1 s _ lw_all RX0 := S
  have hx := S.1
  have hb := S.2.1
  have hts := S.2.2.2.2
  have hl : lv_has ls 1 [(0, .ref (h 0))] := hl
  refine lv_aload_n hx hb dX0_count_0 rfl (lv_at hl 0 rfl) ?_
  refine cX_v (As := []) (rest := []) S hw (mX_scan l D cB cS h σ hf hr0) (cwV 0 hts (lw_V q162 q164 qs5 q15 q165) rfl rfl rfl (by decide +kernel) ⟨Nat.le_of_ble_eq_true rfl, Nat.le_of_ble_eq_true rfl⟩) ⟨Nat.le_refl 0, Nat.le_refl 0⟩ rfl hl.1 rfl (Nat.le_of_ble_eq_true rfl) dX0_count_1 (fun σ1 H locs hp1 hw => ?_)
  have rs : σ1 17 0 = (bst P T N m : Int) ∧ σ1 18 0 = (sCount m P T N : Int) ∧ σ1 19 0 = sFirst m P T N ∧ σ1 20 0 = sLast m P T N ∧ σ1 21 0 = (sWithin len sy n cd m P : Int) := by
    rcases hp1.1.2.2.2.2 with z | z
    · exact absurd (z.symm.trans hp1.2) (by decide)
    · exact z.2
  refine lv_aload_n hx hb dX0_count_4 rfl (lv_at hl 0 rfl) ?_
  refine gX_18 S hw (v := (sCount m P T N : Int)) rs.2.1 dX0_count_5 ?_
  exact G_reti (σ' := σ1) (z := (sCount m P T N : Int)) hx hb hr hlk hw (⟨rfl, hp1.1⟩) dX0_count_8
set_option maxRecDepth 100000 in
theorem mX_first (l : Launch) (D : va_G) (cB cS : ClassId) (h : Nat → Nat) (σ : St) {wc : Nat} {len : Nat → Nat} {sy : Nat → Nat → Nat} {n N : Nat} {cd bg T : Nat → Nat} {m : Nat} {P : Nat → Nat} (hf : Wf wc len sy n N cd bg T m P) (hr0 : XRep wc len sy n N cd T m P σ) :
    GMi l yX0_first cX0_first 1 (some .int) 3 73 D [(cB, .byte), (cS, .short)] (wX h cB cS) (adX h) (h 0) [] σ (fun z σ' => z = sFirst m P T N ∧ XRep wc len sy n N cd T m P σ') := by
  refine GMi.of (by decide) rfl (Nat.le_of_ble_eq_true rfl) ?_
  intro p e s mi bl me co A ls S hr hlk hw hl
  have S : CallFix p mi co cX0_first 1 s _ lw_all RX0 := S
  have hx := S.1
  have hb := S.2.1
  have hts := S.2.2.2.2
  have hl : lv_has ls 1 [(0, .ref (h 0))] := hl
  refine lv_aload_n hx hb dX0_first_0 rfl (lv_at hl 0 rfl) ?_
  refine cX_v (As := []) (rest := []) S hw (mX_scan l D cB cS h σ hf hr0) (cwV 0 hts (lw_V q162 q164 qs5 q15 q165) rfl rfl rfl (by decide +kernel) ⟨Nat.le_of_ble_eq_true rfl, Nat.le_of_ble_eq_true rfl⟩) ⟨Nat.le_refl 0, Nat.le_refl 0⟩ rfl hl.1 rfl (Nat.le_of_ble_eq_true rfl) dX0_first_1 (fun σ1 H locs hp1 hw => ?_)
  have rs : σ1 17 0 = (bst P T N m : Int) ∧ σ1 18 0 = (sCount m P T N : Int) ∧ σ1 19 0 = sFirst m P T N ∧ σ1 20 0 = sLast m P T N ∧ σ1 21 0 = (sWithin len sy n cd m P : Int) := by
    rcases hp1.1.2.2.2.2 with z | z
    · exact absurd (z.symm.trans hp1.2) (by decide)
    · exact z.2
  refine lv_aload_n hx hb dX0_first_4 rfl (lv_at hl 0 rfl) ?_
  refine gX_19 S hw (v := sFirst m P T N) rs.2.2.1 dX0_first_5 ?_
  exact G_reti (σ' := σ1) (z := sFirst m P T N) hx hb hr hlk hw (⟨rfl, hp1.1⟩) dX0_first_8
set_option maxRecDepth 100000 in
theorem mX_last (l : Launch) (D : va_G) (cB cS : ClassId) (h : Nat → Nat) (σ : St) {wc : Nat} {len : Nat → Nat} {sy : Nat → Nat → Nat} {n N : Nat} {cd bg T : Nat → Nat} {m : Nat} {P : Nat → Nat} (hf : Wf wc len sy n N cd bg T m P) (hr0 : XRep wc len sy n N cd T m P σ) :
    GMi l yX0_last cX0_last 1 (some .int) 3 73 D [(cB, .byte), (cS, .short)] (wX h cB cS) (adX h) (h 0) [] σ (fun z σ' => z = sLast m P T N ∧ XRep wc len sy n N cd T m P σ') := by
  refine GMi.of (by decide) rfl (Nat.le_of_ble_eq_true rfl) ?_
  intro p e s mi bl me co A ls S hr hlk hw hl
  have S : CallFix p mi co cX0_last 1 s _ lw_all RX0 := S
  have hx := S.1
  have hb := S.2.1
  have hts := S.2.2.2.2
  have hl : lv_has ls 1 [(0, .ref (h 0))] := hl
  refine lv_aload_n hx hb dX0_last_0 rfl (lv_at hl 0 rfl) ?_
  refine cX_v (As := []) (rest := []) S hw (mX_scan l D cB cS h σ hf hr0) (cwV 0 hts (lw_V q162 q164 qs5 q15 q165) rfl rfl rfl (by decide +kernel) ⟨Nat.le_of_ble_eq_true rfl, Nat.le_of_ble_eq_true rfl⟩) ⟨Nat.le_refl 0, Nat.le_refl 0⟩ rfl hl.1 rfl (Nat.le_of_ble_eq_true rfl) dX0_last_1 (fun σ1 H locs hp1 hw => ?_)
  have rs : σ1 17 0 = (bst P T N m : Int) ∧ σ1 18 0 = (sCount m P T N : Int) ∧ σ1 19 0 = sFirst m P T N ∧ σ1 20 0 = sLast m P T N ∧ σ1 21 0 = (sWithin len sy n cd m P : Int) := by
    rcases hp1.1.2.2.2.2 with z | z
    · exact absurd (z.symm.trans hp1.2) (by decide)
    · exact z.2
  refine lv_aload_n hx hb dX0_last_4 rfl (lv_at hl 0 rfl) ?_
  refine gX_20 S hw (v := sLast m P T N) rs.2.2.2.1 dX0_last_5 ?_
  exact G_reti (σ' := σ1) (z := sLast m P T N) hx hb hr hlk hw (⟨rfl, hp1.1⟩) dX0_last_8
set_option maxRecDepth 100000 in
theorem mX_tail (l : Launch) (D : va_G) (cB cS : ClassId) (h : Nat → Nat) (σ : St) {wc : Nat} {len : Nat → Nat} {sy : Nat → Nat → Nat} {n N : Nat} {cd bg T : Nat → Nat} {m : Nat} {P : Nat → Nat} (hf : Wf wc len sy n N cd bg T m P) (hr0 : XRep wc len sy n N cd T m P σ) :
    GMi l yX0_tail cX0_tail 1 (some .int) 3 73 D [(cB, .byte), (cS, .short)] (wX h cB cS) (adX h) (h 0) [] σ (fun z σ' => z = (bst P T N m : Int) ∧ XRep wc len sy n N cd T m P σ') := by
  refine GMi.of (by decide) rfl (Nat.le_of_ble_eq_true rfl) ?_
  intro p e s mi bl me co A ls S hr hlk hw hl
  have S : CallFix p mi co cX0_tail 1 s _ lw_all RX0 := S
  have hx := S.1
  have hb := S.2.1
  have hts := S.2.2.2.2
  have hl : lv_has ls 1 [(0, .ref (h 0))] := hl
  refine lv_aload_n hx hb dX0_tail_0 rfl (lv_at hl 0 rfl) ?_
  refine cX_v (As := []) (rest := []) S hw (mX_scan l D cB cS h σ hf hr0) (cwV 0 hts (lw_V q162 q164 qs5 q15 q165) rfl rfl rfl (by decide +kernel) ⟨Nat.le_of_ble_eq_true rfl, Nat.le_of_ble_eq_true rfl⟩) ⟨Nat.le_refl 0, Nat.le_refl 0⟩ rfl hl.1 rfl (Nat.le_of_ble_eq_true rfl) dX0_tail_1 (fun σ1 H locs hp1 hw => ?_)
  have rs : σ1 17 0 = (bst P T N m : Int) ∧ σ1 18 0 = (sCount m P T N : Int) ∧ σ1 19 0 = sFirst m P T N ∧ σ1 20 0 = sLast m P T N ∧ σ1 21 0 = (sWithin len sy n cd m P : Int) := by
    rcases hp1.1.2.2.2.2 with z | z
    · exact absurd (z.symm.trans hp1.2) (by decide)
    · exact z.2
  refine lv_aload_n hx hb dX0_tail_4 rfl (lv_at hl 0 rfl) ?_
  refine gX_17 S hw (v := (bst P T N m : Int)) rs.1 dX0_tail_5 ?_
  exact G_reti (σ' := σ1) (z := (bst P T N m : Int)) hx hb hr hlk hw (⟨rfl, hp1.1⟩) dX0_tail_8
set_option maxRecDepth 100000 in
theorem mX_within (l : Launch) (D : va_G) (cB cS : ClassId) (h : Nat → Nat) (σ : St) {wc : Nat} {len : Nat → Nat} {sy : Nat → Nat → Nat} {n N : Nat} {cd bg T : Nat → Nat} {m : Nat} {P : Nat → Nat} (hf : Wf wc len sy n N cd bg T m P) (hr0 : XRep wc len sy n N cd T m P σ) :
    GMi l yX0_within cX0_within 1 (some .int) 3 73 D [(cB, .byte), (cS, .short)] (wX h cB cS) (adX h) (h 0) [] σ (fun z σ' => z = (sWithin len sy n cd m P : Int) ∧ XRep wc len sy n N cd T m P σ') := by
  refine GMi.of (by decide) rfl (Nat.le_of_ble_eq_true rfl) ?_
  intro p e s mi bl me co A ls S hr hlk hw hl
  have S : CallFix p mi co cX0_within 1 s _ lw_all RX0 := S
  have hx := S.1
  have hb := S.2.1
  have hts := S.2.2.2.2
  have hl : lv_has ls 1 [(0, .ref (h 0))] := hl
  refine lv_aload_n hx hb dX0_within_0 rfl (lv_at hl 0 rfl) ?_
  refine cX_v (As := []) (rest := []) S hw (mX_scan l D cB cS h σ hf hr0) (cwV 0 hts (lw_V q162 q164 qs5 q15 q165) rfl rfl rfl (by decide +kernel) ⟨Nat.le_of_ble_eq_true rfl, Nat.le_of_ble_eq_true rfl⟩) ⟨Nat.le_refl 0, Nat.le_refl 0⟩ rfl hl.1 rfl (Nat.le_of_ble_eq_true rfl) dX0_within_1 (fun σ1 H locs hp1 hw => ?_)
  have rs : σ1 17 0 = (bst P T N m : Int) ∧ σ1 18 0 = (sCount m P T N : Int) ∧ σ1 19 0 = sFirst m P T N ∧ σ1 20 0 = sLast m P T N ∧ σ1 21 0 = (sWithin len sy n cd m P : Int) := by
    rcases hp1.1.2.2.2.2 with z | z
    · exact absurd (z.symm.trans hp1.2) (by decide)
    · exact z.2
  refine lv_aload_n hx hb dX0_within_4 rfl (lv_at hl 0 rfl) ?_
  refine gX_21 S hw (v := (sWithin len sy n cd m P : Int)) rs.2.2.2.2 dX0_within_5 ?_
  exact G_reti (σ' := σ1) (z := (sWithin len sy n cd m P : Int)) hx hb hr hlk hw (⟨rfl, hp1.1⟩) dX0_within_8
theorem XKn.to {len : Nat → Nat} {sy : Nat → Nat → Nat} {n N : Nat} {cd T : Nat → Nat} {m : Nat} {P : Nat → Nat} {σ σ' : St} (h : XKn len sy n N cd T m P σ) (e : ∀ a j, 15 < a → σ' a j = σ a j) : XKn len sy n N cd T m P σ' := by
  unfold XKn at *
  rw [e 16 0 (by omega), e 17 0 (by omega), e 18 0 (by omega), e 19 0 (by omega), e 20 0 (by omega), e 21 0 (by omega)]
  exact h
set_option maxRecDepth 100000 in
theorem mX_endingIn (l : Launch) (D : va_G) (cB cS : ClassId) (h : Nat → Nat) (σ : St) {wc : Nat} {len : Nat → Nat} {sy : Nat → Nat → Nat} {n N : Nat} {cd bg T : Nat → Nat} {m : Nat} {P : Nat → Nat} (x : Int) (hf : Wf wc len sy n N cd bg T m P) (hr0 : XRep wc len sy n N cd T m P σ) (bx : -2147483648 ≤ x ∧ x < 2147483648) :
    GMi l yX0_endingIn cX0_endingIn 4 (some .int) 2 50 D [(cB, .byte), (cS, .short)] (wX h cB cS) (adX h) (h 0) [.int (iI (x))] σ (fun z σ' => ((0 ≤ x ∧ x < n ∧ z = (sEnd len sy cd bg T m P x.toNat : Int)) ∨ (¬ (0 ≤ x ∧ x < n) ∧ z = 0)) ∧ XRep wc len sy n N cd T m P σ') := by
  have hf0 := hf
  have hr00 := hr0
  obtain ⟨hD, hC, hPt⟩ := hf
  obtain ⟨xD, xC, xP, xT, xK⟩ := hr0
  have d1 := hD.1
  have d2 := hD.2.1
  have i0 : σ 0 0 = (wc : Int) := xD.1
  have i6 : σ 6 0 = (n : Int) := xC.1
  have i7 : σ 7 0 = (N : Int) := xC.2.1
  have i9 : σ 9 0 = (m : Int) := xP.1
  have p1 : m ≤ 6 := hPt.1
  have hN : N ≤ 250 := hC.1
  have hnN : n ≤ N := hC.nN hD
  refine GMi.of (by decide) rfl (Nat.le_of_ble_eq_true rfl) ?_
  intro p e s mi bl me co A ls S hr hlk hw hl
  have S : CallFix p mi co cX0_endingIn 4 s _ lw_all RX0 := S
  have hx := S.1
  have hb := S.2.1
  have hts := S.2.2.2.2
  have hl : lv_has ls 4 [(0, .ref (h 0)), (1, .int (iI (x)))] := hl
  refine lv_iload_n hx hb dX0_endingIn_0 rfl (lv_at hl 1 rfl) ?_
  refine r_if_lt (a := x) (tgt := 19) hx hb dX0_endingIn_1 (by decide) (by omega) (fun c_1 => ?_) (fun c_1 => ?_)
  · refine r_iconst hx hb dX0_endingIn_19 ?_
    exact G_reti (σ' := σ) (z := 0) hx hb hr hlk hw (⟨Or.inr ⟨by omega, rfl⟩, hr00⟩) dX0_endingIn_20
  · refine lv_iload_n hx hb dX0_endingIn_4 rfl (lv_at hl 1 rfl) ?_
    refine lv_aload_n hx hb dX0_endingIn_5 rfl (lv_at hl 0 rfl) ?_
    refine gX_6 S hw (v := n) i6 dX0_endingIn_6 ?_
    refine r_icmp_ge (a := x) (b := n) (tgt := 19) hx hb dX0_endingIn_9 (by decide) (by omega) (by omega) (fun c_9 => ?_) (fun c_9 => ?_)
    · refine r_iconst hx hb dX0_endingIn_19 ?_
      exact G_reti (σ' := σ) (z := 0) hx hb hr hlk hw (⟨Or.inr ⟨by omega, rfl⟩, hr00⟩) dX0_endingIn_20
    · refine lv_aload_n hx hb dX0_endingIn_12 rfl (lv_at hl 0 rfl) ?_
      refine gX_9 S hw (v := m) i9 dX0_endingIn_13 ?_
      refine r_if_ne (a := m) (tgt := 21) hx hb dX0_endingIn_16 (by decide) (by omega) (fun c_16 => ?_) (fun c_16 => ?_)
      · refine lv_aload_n hx hb dX0_endingIn_21 rfl (lv_at hl 0 rfl) ?_
        have m0 : 0 < m := by omega
        have x0 : 0 ≤ x := by omega
        have xn : x < n := by omega
        refine cX_v (As := []) (rest := []) S hw (mX_fillTables (wc := wc) (len := len) (sy := sy) (n := n) (N := N) (cd := cd) (bg := bg) (T := T) l D cB cS h _ hD hPt xD xP xT) (cwV 0 hts (lw_V q166 q168 qs6 q15 q169) rfl rfl rfl (by decide +kernel) ⟨Nat.le_of_ble_eq_true rfl, Nat.le_of_ble_eq_true rfl⟩) ⟨Nat.le_refl 0, Nat.le_refl 0⟩ rfl hl.1 rfl (Nat.le_of_ble_eq_true rfl) dX0_endingIn_22 (fun σ1 H locs hp1 hw => ?_)
        refine r_iconst hx hb dX0_endingIn_25 ?_
        refine lv_istore_n (lv' := [(2, .int (iI (0))), (0, .ref (h 0)), (1, .int (iI (x)))]) hx hb dX0_endingIn_26 rfl hl (by decide) rfl (fun ls hl => ?_)
        refine r_iconst hx hb dX0_endingIn_27 ?_
        refine lv_istore_n (lv' := [(3, .int (iI (0))), (2, .int (iI (0))), (0, .ref (h 0)), (1, .int (iI (x)))]) hx hb dX0_endingIn_28 rfl hl (by decide) rfl (fun ls hl => ?_)
        have loop29 : ∀ (f : Nat) (i : Nat) (σ2 : St) (H : Heap) (locs : List Loc) (ls : Array Slot), x.toNat < i + f → (i ≤ x.toNat) → (σ2 = σ1) → GW D [(cB, .byte), (cS, .short)] (wX h cB cS σ2) A s H locs → lv_has ls 4 [(0, .ref (h 0)), (1, .int (iI (x))), (2, .int (iI (bst P T (bg i) m))), (3, .int (iI (i)))] → W p l e ({ frames := 2, cells := 0, slots := 0, locals := 50 }) s mi (Value.ref (h 0) :: [.int (iI (x))]).toArray bl me co H locs 0 0 (QGi D [(cB, .byte), (cS, .short)] (wX h cB cS) A s (Value.ref (h 0) :: [.int (iI (x))]).toArray bl (fun z σ' => ((0 ≤ x ∧ x < n ∧ z = (sEnd len sy cd bg T m P x.toNat : Int)) ∨ (¬ (0 ≤ x ∧ x < n) ∧ z = 0)) ∧ XRep wc len sy n N cd T m P σ')) (F0 mi 29 ls []) := by
          intro f
          induction f with
          | zero =>
            intro i σ2 H locs ls q0 j1 j2
            exact absurd q0 (by omega)
          | succ f ih29 =>
            intro i σ2 H locs ls q0 j1 j2 hw hl
            rw [j2] at hw
            obtain ⟨c1, c2, c3⟩ := hC.2.2.2 i (by omega)
            have lb := (hD.2.2.2 _ c1).2.1
            have bl := bst_le P T (bg i) m
            have cc0 := hp1.2.2.2 _ c1 _ bl
            refine lv_iload_n hx hb dX0_endingIn_29 rfl (lv_at hl 3 rfl) ?_
            refine lv_iload_n hx hb dX0_endingIn_30 rfl (lv_at hl 1 rfl) ?_
            refine r_icmp_ge (a := i) (b := x) (tgt := 57) hx hb dX0_endingIn_31 (by decide) (by omega) (by omega) (fun c_31 => ?_) (fun c_31 => ?_)
            · refine lv_aload_n hx hb dX0_endingIn_57 rfl (lv_at hl 0 rfl) ?_
              refine gX_12 S hw dX0_endingIn_58 ?_
              refine lv_aload_n hx hb dX0_endingIn_61 rfl (lv_at hl 0 rfl) ?_
              refine gX_5 S hw dX0_endingIn_62 ?_
              refine lv_iload_n hx hb dX0_endingIn_65 rfl (lv_at hl 1 rfl) ?_
              refine aX_5 hx hb hw (i) (z := x) (v := cd i) (by omega) (by omega) ((hp1.1 5 i (by omega)).trans (xC.2.2 i (by omega))) dX0_endingIn_66 ?_
              refine r_bipush hx hb dX0_endingIn_67 (by decide) ?_
              refine r_imul (a := cd i) (b := 7) hx hb dX0_endingIn_69 ?_
              refine lv_iload_n hx hb dX0_endingIn_70 rfl (lv_at hl 2 rfl) ?_
              refine r_iadd (a := (cd i * 7)) (b := bst P T (bg i) m) hx hb dX0_endingIn_71 ?_
              refine aX_12 hx hb hw (cd i * 7 + bst P T (bg i) m) (z := ((cd i * 7) + bst P T (bg i) m)) (v := sEnd len sy cd bg T m P x.toNat) (by omega) (by omega) (by rw [show x.toNat = i by omega]; unfold sEnd; rw [if_neg (by omega)]; exact cc0.2.1) dX0_endingIn_72 ?_
              exact G_reti (σ' := σ1) (z := sEnd len sy cd bg T m P x.toNat) hx hb hr hlk hw (⟨Or.inl ⟨x0, xn, rfl⟩, xD.to (fun a j q => hp1.1 a j (by omega)), xC.to (fun a j _ q => hp1.1 a j (by omega)), xP.to (fun a j _ q => hp1.1 a j (by omega)), X_tab m0 hp1.2.1 hp1.2.2.1 hp1.2.2.2 (fun a j _ _ => rfl), XKn.to xK (fun a j q => hp1.1 a j (by omega))⟩) dX0_endingIn_73
            · refine lv_aload_n hx hb dX0_endingIn_34 rfl (lv_at hl 0 rfl) ?_
              refine gX_11 S hw dX0_endingIn_35 ?_
              refine lv_aload_n hx hb dX0_endingIn_38 rfl (lv_at hl 0 rfl) ?_
              refine gX_5 S hw dX0_endingIn_39 ?_
              refine lv_iload_n hx hb dX0_endingIn_42 rfl (lv_at hl 3 rfl) ?_
              refine aX_5 hx hb hw (i) (z := i) (v := cd i) (by omega) (by omega) ((hp1.1 5 i (by omega)).trans (xC.2.2 i (by omega))) dX0_endingIn_43 ?_
              refine r_bipush hx hb dX0_endingIn_44 (by decide) ?_
              refine r_imul (a := cd i) (b := 7) hx hb dX0_endingIn_46 ?_
              refine lv_iload_n hx hb dX0_endingIn_47 rfl (lv_at hl 2 rfl) ?_
              refine r_iadd (a := (cd i * 7)) (b := bst P T (bg i) m) hx hb dX0_endingIn_48 ?_
              refine aX_11 hx hb hw (cd i * 7 + bst P T (bg i) m) (z := ((cd i * 7) + bst P T (bg i) m)) (v := bst P T (bg (i + 1)) m) (by omega) (by omega) (by rw [c2, run_word c3 _ (Nat.le_refl _)]; exact cc0.1) dX0_endingIn_49 ?_
              refine lv_istore_n (lv' := [(2, .int (iI (bst P T (bg (i + 1)) m))), (0, .ref (h 0)), (1, .int (iI (x))), (3, .int (iI (i)))]) hx hb dX0_endingIn_50 rfl hl (by decide) rfl (fun ls hl => ?_)
              refine r_iinc (a := i) (lv' := [(3, .int (iI (i + 1))), (2, .int (iI (bst P T (bg (i + 1)) m))), (0, .ref (h 0)), (1, .int (iI (x)))]) (k := 3) hx hb dX0_endingIn_51 hl rfl (by decide) rfl (fun ls hl => ?_)
              refine lv_goto (tgt := 29) hx hb dX0_endingIn_54 (by decide) ?_
              exact ih29 (i + 1) (σ1) _ _ _ (by omega) (by omega) (rfl) hw (by rw [show ((i + 1 : Nat) : Int) = (i : Int) + 1 from by omega]; exact lv_sub hl [2, 3, 1, 0] rfl)
        exact loop29 (n + 1) (0) (σ1) _ _ _ (by omega) (by omega) (rfl) hw (by rw [show ((bst P T (bg 0) m : Nat) : Int) = 0 from by rw [hC.2.1, bst_zero]; rfl, show ((0 : Nat) : Int) = 0 from rfl]; exact lv_sub hl [2, 3, 1, 0] rfl)
      · refine r_iconst hx hb dX0_endingIn_19 ?_
        exact G_reti (σ' := σ) (z := 0) hx hb hr hlk hw (⟨Or.inl ⟨by omega, by omega, by unfold sEnd; rw [if_pos (by omega)]; rfl⟩, hr00⟩) dX0_endingIn_20
end
section
/-! PLAIN: CodeSearcherModel's cells -/
theorem Cods.T4 {wc : Nat} {len : Nat → Nat} {sy : Nat → Nat → Nat} {n N : Nat} {cd bg T : Nat → Nat} (hd : Dict wc len sy) (hc : Cods wc len sy n N cd bg T) : ∀ i, i < N → T i < 4 := by
  have key : ∀ k, k ≤ n → ∀ i, i < bg k → T i < 4 := by
    intro k
    induction k with
    | zero =>
      intro _ i hi
      rw [hc.2.1] at hi
      omega
    | succ k ih =>
      intro hk i hi
      obtain ⟨a1, a2, a3⟩ := hc.2.2.2 k (by omega)
      by_cases q : i < bg k
      · exact ih (by omega) i q
      · have a4 := a3 (i - bg k) (by omega)
        rw [show bg k + (i - bg k) = i by omega] at a4
        rw [a4]
        exact (hd.2.2.2 _ a1).2.2 _ (by omega)
  intro i hi
  refine key n (Nat.le_refl _) i ?_
  rw [hc.2.2.1]; exact hi
theorem fSy_x {wc : Nat} {len : Nat → Nat} {sy : Nat → Nat → Nat} {n : Nat} {cd : Nat → Nat} {x : Nat} (h : x ≠ wc) : fSy wc len sy n cd x x = sy x := by
  unfold fSy
  split
  · exact nS_o h
  · rfl
theorem fSy_n {wc : Nat} {len : Nat → Nat} {sy : Nat → Nat → Nat} {n : Nat} {cd : Nat → Nat} {k : Nat} (h : 0 < n ∧ wc < 60) : fSy wc len sy n cd wc wc k = if k < len (cd (n - 1)) then sy (cd (n - 1)) k else sy (cd (n - 1)) 0 := by
  unfold fSy
  rw [if_pos h, nS_n]
  unfold fF
  rw [if_pos rfl]
theorem M_feed {wc : Nat} {len : Nat → Nat} {sy : Nat → Nat → Nat} {n N : Nat} {cd bg T : Nat → Nat} {m : Nat} {P : Nat → Nat} {x : Int} {σ σ' : St} (hf : Wf wc len sy n N cd bg T m P) (hr : MRep wc len sy n N bg T m P σ) (ok : okF wc len n N cd x)
    (e0 : σ' 0 0 = (N : Int) + (fLen wc len n cd x.toNat : Int)) (e1 : ∀ i, i < N → σ' 1 i = (T i : Int)) (e1' : ∀ i, i < fLen wc len n cd x.toNat → σ' 1 (N + i) = (fSy wc len sy n cd x.toNat x.toNat i : Int)) (e2 : σ' 2 0 = (n : Int) + 1) (e3 : ∀ k, k < n → σ' 3 k = σ 3 k) (e3n : σ' 3 n = (N : Int)) (e3' : σ' 3 (n + 1) = (N : Int) + (fLen wc len n cd x.toNat : Int)) (e7 : σ' 7 0 = σ 7 0) (e8 : ∀ i, σ' 8 i = σ 8 i)
    (e4 : ((0 < n ∧ wc < 60) ∧ σ' 4 0 = (wc : Int) + 1 ∧ σ' 5 wc = (bg (n - 1) : Int) ∧ σ' 6 wc = (N : Int) - (bg (n - 1) : Int) + 1 ∧ ∀ w, w ≠ wc → σ' 5 w = σ 5 w ∧ σ' 6 w = σ 6 w) ∨ (¬ (0 < n ∧ wc < 60) ∧ σ' 4 0 = (wc : Int) ∧ ∀ w, σ' 5 w = σ 5 w ∧ σ' 6 w = σ 6 w)) :
    MRep (fWc wc n) (fLen wc len n cd) (fSy wc len sy n cd x.toNat) (n + 1) (N + fLen wc len n cd x.toNat) (aB n N bg (fLen wc len n cd x.toNat)) (aT N T (fSy wc len sy n cd x.toNat x.toNat)) m P σ' := by
  obtain ⟨hd, hc, hp⟩ := hf
  obtain ⟨t0, t1, t2, t3, t4, t5, t7, t8⟩ := hr
  have hl1 : 1 ≤ fLen wc len n cd x.toNat := by
    have w9 := Wf.feed ⟨hd, hc, hp⟩ ok
    exact (w9.1.2.2.2 x.toNat (okF_x hd.1 hd.2.1 ok).1).1
  have hold : ∀ w, 4 ≤ w → w < wc → (∀ w, w ≠ wc → σ' 5 w = σ 5 w ∧ σ' 6 w = σ 6 w) → σ' 6 w = (len w : Int) ∧ ∃ p : Nat, σ' 5 w = (p : Int) ∧ p + len w ≤ N + fLen wc len n cd x.toNat ∧ ∀ k, k < len w → aT N T (fSy wc len sy n cd x.toNat x.toNat) (p + k) = sy w k := by
    intro w w4 hw he
    obtain ⟨a1, p, a2, a3, a4⟩ := t5 w w4 hw
    obtain ⟨b1, b2⟩ := he w (by omega)
    refine ⟨by rw [b2]; exact a1, p, by rw [b1]; exact a2, by omega, fun k hk => ?_⟩
    unfold aT
    rw [if_pos (by omega)]; exact a4 k hk
  refine ⟨by omega, fun i hi => ?_, by omega, fun k hk => ?_, ?_, ?_, by rw [e7]; exact t7, fun i hi => by rw [e8]; exact t8 i hi⟩
  · unfold aT
    by_cases q : i < N
    · rw [if_pos q]; exact e1 i q
    · rw [if_neg q]
      have := e1' (i - N) (by omega)
      rwa [show N + (i - N) = i by omega] at this
  · unfold aB
    by_cases q : k = n + 1
    · rw [if_pos q, q, e3']; omega
    · rw [if_neg q]
      by_cases q2 : k = n
      · rw [q2, e3n, hc.2.2.1]
      · rw [e3 k (by omega)]; exact t3 k (by omega)
  · unfold fWc
    rcases e4 with ⟨a, b, -⟩ | ⟨a, b, -⟩
    · rw [if_pos a]; omega
    · rw [if_neg a]; exact b
  · intro w w4 hw
    rcases e4 with ⟨a, b, b5, b6, bo⟩ | ⟨a, b, bo⟩
    · have f1 : fWc wc n = wc + 1 := if_pos a
      have f2 : fLen wc len n cd = nL wc len (cd (n - 1)) := if_pos a
      have f3 : fSy wc len sy n cd x.toNat = nS wc len sy (cd (n - 1)) (fF wc sy n cd x.toNat) := if_pos a
      rw [f1] at hw
      by_cases q : w = wc
      · subst q
        obtain ⟨c1, c2, c3⟩ := hc.2.2.2 (n - 1) (by omega)
        rw [show n - 1 + 1 = n by omega, hc.2.2.1] at c2
        have g0 : fLen w len n cd w = len (cd (n - 1)) + 1 := by rw [f2, nL_n]
        have hll := (hd.2.2.2 _ c1).1
        refine ⟨by rw [g0, b6]; omega, bg (n - 1), b5, by rw [g0]; omega, fun k hk => ?_⟩
        rw [g0] at hk
        have g1 : fSy w len sy n cd x.toNat w k = if k < len (cd (n - 1)) then sy (cd (n - 1)) k else fF w sy n cd x.toNat := by rw [f3, nS_n]
        rw [g1]
        by_cases q2 : k < len (cd (n - 1))
        · rw [if_pos q2]
          unfold aT
          rw [if_pos (by omega)]; exact c3 k q2
        · rw [if_neg q2]
          unfold aT
          rw [if_neg (by omega), show bg (n - 1) + k - N = 0 by omega]
          by_cases q3 : x.toNat = w
          · rw [q3, fSy_n a, if_pos (by omega)]
            unfold fF
            rw [if_pos rfl]
          · rw [fSy_x q3]
            unfold fF
            rw [if_neg q3]
      · have g0 : fLen wc len n cd w = len w := by rw [f2, nL_o q]
        have g1 : fSy wc len sy n cd x.toNat w = sy w := by rw [f3, nS_o q]
        rw [g0, g1]
        exact hold w w4 (by omega) bo
    · have f1 : fWc wc n = wc := if_neg a
      have f2 : fLen wc len n cd = len := if_neg a
      have f3 : fSy wc len sy n cd x.toNat w = sy w := by unfold fSy; rw [if_neg a]
      have h9 := hold w w4 (by omega) (fun w _ => bo w)
      rw [f3, show fLen wc len n cd w = len w by rw [f2]]
      exact h9
theorem M_pat {wc : Nat} {len : Nat → Nat} {sy : Nat → Nat → Nat} {n N : Nat} {bg T : Nat → Nat} {m m' : Nat} {P P' : Nat → Nat} {σ σ' : St} (hr : MRep wc len sy n N bg T m P σ) (e : ∀ a j, a < 7 → σ' a j = σ a j) (e7 : σ' 7 0 = (m' : Int)) (e8 : ∀ i, i < m' → σ' 8 i = (P' i : Int)) : MRep wc len sy n N bg T m' P' σ' := by
  obtain ⟨t0, t1, t2, t3, t4, t5, t7, t8⟩ := hr
  refine ⟨by rw [e _ _ (by omega)]; exact t0, fun i hi => by rw [e _ _ (by omega)]; exact t1 i hi, by rw [e _ _ (by omega)]; exact t2, fun k hk => by rw [e _ _ (by omega)]; exact t3 k hk, by rw [e _ _ (by omega)]; exact t4, fun w w4 hw => ?_, e7, e8⟩
  rw [e _ _ (by omega), e _ _ (by omega)]; exact t5 w w4 hw
theorem M_restart {wc : Nat} {len : Nat → Nat} {sy : Nat → Nat → Nat} {n N : Nat} {cd bg T : Nat → Nat} {m : Nat} {P : Nat → Nat} {σ σ' : St} (hf : Wf wc len sy n N cd bg T m P) (hr : MRep wc len sy n N bg T m P σ) (e : ∀ a j, a ≠ 0 → a ≠ 2 → a ≠ 4 → σ' a j = σ a j) (e0 : σ' 0 0 = 0) (e2 : σ' 2 0 = 0) (e4 : σ' 4 0 = 4) : MRep 4 len sy 0 0 bg T m P σ' := by
  obtain ⟨t0, t1, t2, t3, t4, t5, t7, t8⟩ := hr
  refine ⟨e0, fun i hi => absurd hi (by omega), e2, fun k hk => ?_, e4, fun w w4 hw => absurd hw (by omega), by rw [e _ _ (by omega) (by omega) (by omega)]; exact t7, fun i hi => by rw [e _ _ (by omega) (by omega) (by omega)]; exact t8 i hi⟩
  rw [e _ _ (by omega) (by omega) (by omega)]; exact t3 k (by omega)
/-- an occurrence begins at p -/
def aA (m N : Nat) (P T : Nat → Nat) (p : Nat) : Prop := 0 < m ∧ p + m ≤ N ∧ bst P T (p + m) m = m
/-- occurrences between two places -/
def bt (m : Nat) (P T : Nat → Nat) (a b : Nat) : Nat := if m = 0 then 0 else cn (fun e => bst P T e m) m b - cn (fun e => bst P T e m) m (a + m - 1)
theorem bt_0 {m : Nat} {P T : Nat → Nat} {b : Nat} : bt m P T 0 b = if m = 0 then 0 else cn (fun e => bst P T e m) m b := by
  unfold bt
  by_cases q : m = 0
  · rw [if_pos q, if_pos q]
  · rw [if_neg q, if_neg q, cn_low (e := 0 + m - 1) (by omega)]; omega
theorem bt_word {len : Nat → Nat} {sy : Nat → Nat → Nat} {T : Nat → Nat} {m : Nat} {P : Nat → Nat} {b w : Nat} (h : ∀ j, j < len w → T (b + j) = sy w j) : bt m P T b (b + len w) = if m = 0 then 0 else sIn len sy m P w := by
  unfold bt
  by_cases q : m = 0
  · rw [if_pos q, if_pos q]
  · rw [if_neg q, if_neg q]
    unfold sIn
    rw [← cn_piece (by omega) h]
    exact cn_congr (fun j _ => (rn_0 P (sy w) m j).symm)
theorem bt_end {len : Nat → Nat} {sy : Nat → Nat → Nat} {cd bg T : Nat → Nat} {m : Nat} {P : Nat → Nat} {k : Nat} (h : ∀ j, j < len (cd k) → T (bg k + j) = sy (cd k) j) : (bt m P T 0 (bg k + len (cd k)) : Int) - (bt m P T 0 (bg k) : Int) = (sEnd len sy cd bg T m P k : Int) := by
  rw [bt_0, bt_0]
  unfold sEnd
  by_cases q : m = 0
  · rw [if_pos q, if_pos q, if_pos q]; rfl
  · rw [if_neg q, if_neg q, if_neg q, cn_word h]; omega
/-- a step of between -/
theorem bt_step {m N : Nat} {P T : Nat → Nat} {a p q : Nat} (h : (m = 0 → q = 0) ∧ (0 < m → q + cn (fun e => bst P T e m) m (a + m - 1) = cn (fun e => bst P T e m) m (p + m - 1))) (hN : p + m ≤ N) :
    (aA m N P T p → (m = 0 → q + 1 = 0) ∧ (0 < m → q + 1 + cn (fun e => bst P T e m) m (a + m - 1) = cn (fun e => bst P T e m) m (p + 1 + m - 1))) ∧ (¬ aA m N P T p → (m = 0 → q = 0) ∧ (0 < m → q + cn (fun e => bst P T e m) m (a + m - 1) = cn (fun e => bst P T e m) m (p + 1 + m - 1))) := by
  have key : 0 < m → cn (fun e => bst P T e m) m (p + 1 + m - 1) = cn (fun e => bst P T e m) m (p + m - 1) + (if bst P T (p + m) m = m then 1 else 0) := by
    intro hm
    have := cn_s (fun e => bst P T e m) m (p + m - 1)
    rw [show p + m - 1 + 1 = p + m by omega] at this
    rw [show p + 1 + m - 1 = p + m by omega]
    exact this
  constructor
  · intro z
    refine ⟨fun q0 => absurd z.1 (by omega), fun hm => ?_⟩
    rw [key hm, if_pos z.2.2]
    have := h.2 hm
    omega
  · intro z
    refine ⟨h.1, fun hm => ?_⟩
    rw [key hm, if_neg (fun y => z ⟨hm, hN, y⟩)]
    have := h.2 hm
    omega
theorem bt_out {m : Nat} {P T : Nat → Nat} {a b p q : Nat} (h : (m = 0 → q = 0) ∧ (0 < m → q + cn (fun e => bst P T e m) m (a + m - 1) = cn (fun e => bst P T e m) m (p + m - 1))) (h1 : p = a ∨ p + m ≤ b + 1) (h2 : b < p + m) : (q : Int) = (bt m P T a b : Int) := by
  unfold bt
  by_cases z : m = 0
  · rw [if_pos z, h.1 z]
  · rw [if_neg z]
    have h3 := h.2 (by omega)
    rcases h1 with h1 | h1
    · subst h1
      have := cn_mono (r := fun e => bst P T e m) (m := m) (a := b) (b := p + m - 1) (by omega)
      omega
    · rw [show p + m - 1 = b by omega] at h3
      omega
end
section
/-! CodeSearcherModel: the plain methods (printed by gen/m1.py) -/
set_option maxRecDepth 100000 in
theorem mM_codes (l : Launch) (D : va_G) (cI : ClassId) (h : Nat → Nat) (σ : St)  :
    GMi l yX1_codes cX1_codes 1 (some .int) 0 0 D [(cI, .int)] (wM h cI) (adM h) (h 0) [] σ (fun z σ' => z = σ 2 0 ∧ σ' = σ) := by
  refine GMi.of (by decide) rfl (Nat.le_of_ble_eq_true rfl) ?_
  intro p e s mi bl me co A ls S hr hlk hw hl
  have S : CallFix p mi co cX1_codes 1 s _ lw_all RX1 := S
  have hx := S.1
  have hb := S.2.1
  have hts := S.2.2.2.2
  have hl : lv_has ls 1 [(0, .ref (h 0))] := hl
  refine lv_aload_n hx hb dX1_codes_0 rfl (lv_at hl 0 rfl) ?_
  refine gM_2 S hw (v := σ 2 0) rfl dX1_codes_1 ?_
  exact G_reti (σ' := σ) (z := σ 2 0) hx hb hr hlk hw (⟨rfl, rfl⟩) dX1_codes_4
set_option maxRecDepth 100000 in
theorem mM_words (l : Launch) (D : va_G) (cI : ClassId) (h : Nat → Nat) (σ : St)  :
    GMi l yX1_words cX1_words 1 (some .int) 0 0 D [(cI, .int)] (wM h cI) (adM h) (h 0) [] σ (fun z σ' => z = σ 4 0 ∧ σ' = σ) := by
  refine GMi.of (by decide) rfl (Nat.le_of_ble_eq_true rfl) ?_
  intro p e s mi bl me co A ls S hr hlk hw hl
  have S : CallFix p mi co cX1_words 1 s _ lw_all RX1 := S
  have hx := S.1
  have hb := S.2.1
  have hts := S.2.2.2.2
  have hl : lv_has ls 1 [(0, .ref (h 0))] := hl
  refine lv_aload_n hx hb dX1_words_0 rfl (lv_at hl 0 rfl) ?_
  refine gM_4 S hw (v := σ 4 0) rfl dX1_words_1 ?_
  exact G_reti (σ' := σ) (z := σ 4 0) hx hb hr hlk hw (⟨rfl, rfl⟩) dX1_words_4
set_option maxRecDepth 100000 in
theorem mM_length (l : Launch) (D : va_G) (cI : ClassId) (h : Nat → Nat) (σ : St)  :
    GMi l yX1_length cX1_length 1 (some .int) 0 0 D [(cI, .int)] (wM h cI) (adM h) (h 0) [] σ (fun z σ' => z = σ 0 0 ∧ σ' = σ) := by
  refine GMi.of (by decide) rfl (Nat.le_of_ble_eq_true rfl) ?_
  intro p e s mi bl me co A ls S hr hlk hw hl
  have S : CallFix p mi co cX1_length 1 s _ lw_all RX1 := S
  have hx := S.1
  have hb := S.2.1
  have hts := S.2.2.2.2
  have hl : lv_has ls 1 [(0, .ref (h 0))] := hl
  refine lv_aload_n hx hb dX1_length_0 rfl (lv_at hl 0 rfl) ?_
  refine gM_0 S hw (v := σ 0 0) rfl dX1_length_1 ?_
  exact G_reti (σ' := σ) (z := σ 0 0) hx hb hr hlk hw (⟨rfl, rfl⟩) dX1_length_4
set_option maxRecDepth 100000 in
theorem mM_pattern (l : Launch) (D : va_G) (cI : ClassId) (h : Nat → Nat) (σ : St)  :
    GMi l yX1_pattern cX1_pattern 1 (some .int) 0 0 D [(cI, .int)] (wM h cI) (adM h) (h 0) [] σ (fun z σ' => z = σ 7 0 ∧ σ' = σ) := by
  refine GMi.of (by decide) rfl (Nat.le_of_ble_eq_true rfl) ?_
  intro p e s mi bl me co A ls S hr hlk hw hl
  have S : CallFix p mi co cX1_pattern 1 s _ lw_all RX1 := S
  have hx := S.1
  have hb := S.2.1
  have hts := S.2.2.2.2
  have hl : lv_has ls 1 [(0, .ref (h 0))] := hl
  refine lv_aload_n hx hb dX1_pattern_0 rfl (lv_at hl 0 rfl) ?_
  refine gM_7 S hw (v := σ 7 0) rfl dX1_pattern_1 ?_
  exact G_reti (σ' := σ) (z := σ 7 0) hx hb hr hlk hw (⟨rfl, rfl⟩) dX1_pattern_4
set_option maxRecDepth 100000 in
theorem mM_lengthOf (l : Launch) (D : va_G) (cI : ClassId) (h : Nat → Nat) (σ : St) (w : Nat) (v : Int) (hw0 : w < 60) (hs0 : w < 4 → v = 1) (hl0 : 4 ≤ w → σ 6 w = v) :
    GMi l yX1_lengthOf cX1_lengthOf 2 (some .int) 0 0 D [(cI, .int)] (wM h cI) (adM h) (h 0) [.int (iI (w))] σ (fun z σ' => z = v ∧ σ' = σ) := by
  refine GMi.of (by decide) rfl (Nat.le_of_ble_eq_true rfl) ?_
  intro p e s mi bl me co A ls S hr hlk hw hl
  have S : CallFix p mi co cX1_lengthOf 2 s _ lw_all RX1 := S
  have hx := S.1
  have hb := S.2.1
  have hts := S.2.2.2.2
  have hl : lv_has ls 2 [(0, .ref (h 0)), (1, .int (iI (w)))] := hl
  refine lv_iload_n hx hb dX1_lengthOf_0 rfl (lv_at hl 1 rfl) ?_
  refine r_iconst hx hb dX1_lengthOf_1 ?_
  refine r_icmp_ge (a := w) (b := 4) (tgt := 9) hx hb dX1_lengthOf_2 (by decide) (by omega) (by omega) (fun c_2 => ?_) (fun c_2 => ?_)
  · refine lv_aload_n hx hb dX1_lengthOf_9 rfl (lv_at hl 0 rfl) ?_
    refine gM_6 S hw dX1_lengthOf_10 ?_
    refine lv_iload_n hx hb dX1_lengthOf_13 rfl (lv_at hl 1 rfl) ?_
    refine aM_6 hx hb hw (w) (z := w) (v := v) (by omega) (by omega) (hl0 (by omega)) dX1_lengthOf_14 ?_
    exact G_reti (σ' := σ) (z := v) hx hb hr hlk hw (⟨rfl, rfl⟩) dX1_lengthOf_15
  · refine r_iconst hx hb dX1_lengthOf_5 ?_
    refine lv_goto (tgt := 15) hx hb dX1_lengthOf_6 (by decide) ?_
    exact G_reti (σ' := σ) (z := 1) hx hb hr hlk hw (⟨(hs0 (by omega)).symm, rfl⟩) dX1_lengthOf_15
set_option maxRecDepth 100000 in
theorem mM_symbolOf (l : Launch) (D : va_G) (cI : ClassId) (h : Nat → Nat) (σ : St) (w k : Nat) (v : Int) (hw0 : w < 60) (hs0 : w < 4 → v = (w : Int)) (hl0 : 4 ≤ w → ∃ p : Nat, σ 5 w = (p : Int) ∧ p + k < 250 ∧ σ 1 (p + k) = v) :
    GMi l yX1_symbolOf cX1_symbolOf 3 (some .int) 0 0 D [(cI, .int)] (wM h cI) (adM h) (h 0) [.int (iI (w)), .int (iI (k))] σ (fun z σ' => z = v ∧ σ' = σ) := by
  refine GMi.of (by decide) rfl (Nat.le_of_ble_eq_true rfl) ?_
  intro p e s mi bl me co A ls S hr hlk hw hl
  have S : CallFix p mi co cX1_symbolOf 3 s _ lw_all RX1 := S
  have hx := S.1
  have hb := S.2.1
  have hts := S.2.2.2.2
  have hl : lv_has ls 3 [(0, .ref (h 0)), (1, .int (iI (w))), (2, .int (iI (k)))] := hl
  refine lv_iload_n hx hb dX1_symbolOf_0 rfl (lv_at hl 1 rfl) ?_
  refine r_iconst hx hb dX1_symbolOf_1 ?_
  refine r_icmp_ge (a := w) (b := 4) (tgt := 9) hx hb dX1_symbolOf_2 (by decide) (by omega) (by omega) (fun c_2 => ?_) (fun c_2 => ?_)
  · refine lv_aload_n hx hb dX1_symbolOf_9 rfl (lv_at hl 0 rfl) ?_
    refine gM_1 S hw dX1_symbolOf_10 ?_
    refine lv_aload_n hx hb dX1_symbolOf_13 rfl (lv_at hl 0 rfl) ?_
    refine gM_5 S hw dX1_symbolOf_14 ?_
    refine lv_iload_n hx hb dX1_symbolOf_17 rfl (lv_at hl 1 rfl) ?_
    obtain ⟨pp, e5, e6, e7⟩ := hl0 (by omega)
    refine aM_5 hx hb hw (w) (z := w) (v := pp) (by omega) (by omega) (e5) dX1_symbolOf_18 ?_
    refine lv_iload_n hx hb dX1_symbolOf_19 rfl (lv_at hl 2 rfl) ?_
    refine r_iadd (a := pp) (b := k) hx hb dX1_symbolOf_20 ?_
    refine aM_1 hx hb hw (pp + k) (z := (pp + k)) (v := v) (by omega) (by omega) (e7) dX1_symbolOf_21 ?_
    exact G_reti (σ' := σ) (z := v) hx hb hr hlk hw (⟨rfl, rfl⟩) dX1_symbolOf_22
  · refine lv_iload_n hx hb dX1_symbolOf_5 rfl (lv_at hl 1 rfl) ?_
    refine lv_goto (tgt := 22) hx hb dX1_symbolOf_6 (by decide) ?_
    exact G_reti (σ' := σ) (z := w) hx hb hr hlk hw (⟨(hs0 (by omega)).symm, rfl⟩) dX1_symbolOf_22
set_option maxRecDepth 100000 in
theorem mM_wordLength (l : Launch) (D : va_G) (cI : ClassId) (h : Nat → Nat) (σ : St) {wc : Nat} {len : Nat → Nat} {sy : Nat → Nat → Nat} {n N : Nat} {cd bg T : Nat → Nat} {m : Nat} {P : Nat → Nat} (x : Int) (hf : Wf wc len sy n N cd bg T m P) (hr0 : MRep wc len sy n N bg T m P σ) (bx : -2147483648 ≤ x ∧ x < 2147483648) :
    GMi l yX1_wordLength cX1_wordLength 2 (some .int) 1 21 D [(cI, .int)] (wM h cI) (adM h) (h 0) [.int (iI (x))] σ (fun z σ' => ((0 ≤ x ∧ x < wc ∧ z = len x.toNat) ∨ (¬ (0 ≤ x ∧ x < wc) ∧ z = -1)) ∧ σ' = σ) := by
  have hf0 := hf
  have hr00 := hr0
  obtain ⟨hD, hC, hPt⟩ := hf
  obtain ⟨t0, t1, t2, t3, t4, t5, t7, t8⟩ := hr0
  have d1 := hD.1
  have d2 := hD.2.1
  have p1 : m ≤ 6 := hPt.1
  have hN : N ≤ 250 := hC.1
  have hnN : n ≤ N := hC.nN hD
  refine GMi.of (by decide) rfl (Nat.le_of_ble_eq_true rfl) ?_
  intro p e s mi bl me co A ls S hr hlk hw hl
  have S : CallFix p mi co cX1_wordLength 2 s _ lw_all RX1 := S
  have hx := S.1
  have hb := S.2.1
  have hts := S.2.2.2.2
  have hl : lv_has ls 2 [(0, .ref (h 0)), (1, .int (iI (x)))] := hl
  refine lv_iload_n hx hb dX1_wordLength_0 rfl (lv_at hl 1 rfl) ?_
  refine r_if_lt (a := x) (tgt := 12) hx hb dX1_wordLength_1 (by decide) (by omega) (fun c_1 => ?_) (fun c_1 => ?_)
  · refine r_iconst hx hb dX1_wordLength_12 ?_
    refine lv_goto (tgt := 21) hx hb dX1_wordLength_13 (by decide) ?_
    exact G_reti (σ' := σ) (z := (-1)) hx hb hr hlk hw (⟨Or.inr ⟨by omega, rfl⟩, rfl⟩) dX1_wordLength_21
  · refine lv_iload_n hx hb dX1_wordLength_4 rfl (lv_at hl 1 rfl) ?_
    refine lv_aload_n hx hb dX1_wordLength_5 rfl (lv_at hl 0 rfl) ?_
    refine gM_4 S hw (v := wc) t4 dX1_wordLength_6 ?_
    refine r_icmp_lt (a := x) (b := wc) (tgt := 16) hx hb dX1_wordLength_9 (by decide) (by omega) (by omega) (fun c_9 => ?_) (fun c_9 => ?_)
    · refine lv_aload_n hx hb dX1_wordLength_16 rfl (lv_at hl 0 rfl) ?_
      refine lv_iload_n hx hb dX1_wordLength_17 rfl (lv_at hl 1 rfl) ?_
      refine r_top (a := x) (b := ((x.toNat : Nat) : Int)) (by omega) ?_
      refine cM_i (As := [.int (iI (((x.toNat : Nat) : Int)))]) (rest := []) S hw (mM_lengthOf l D cI h σ x.toNat (len x.toNat : Int) (by omega) (fun q => by rw [(hD.2.2.1 _ q).1]; rfl) (fun q => (t5 _ q (by omega)).1)) (cwV 1 hts (lw_V q241 q243 qs10 q16 q244) rfl rfl rfl (by decide +kernel) ⟨Nat.le_of_ble_eq_true rfl, Nat.le_of_ble_eq_true rfl⟩) ⟨Nat.le_refl 0, Nat.le_refl 0⟩ rfl hl.1 rfl (Nat.le_of_ble_eq_true rfl) dX1_wordLength_18 (fun z1 σ1 H locs hp1 hw => ?_)
      obtain ⟨hz1, es⟩ := hp1
      rw [es] at hw
      exact G_reti (σ' := σ) (z := z1) hx hb hr hlk hw (⟨Or.inl ⟨by omega, by omega, hz1⟩, rfl⟩) dX1_wordLength_21
    · refine r_iconst hx hb dX1_wordLength_12 ?_
      refine lv_goto (tgt := 21) hx hb dX1_wordLength_13 (by decide) ?_
      exact G_reti (σ' := σ) (z := (-1)) hx hb hr hlk hw (⟨Or.inr ⟨by omega, rfl⟩, rfl⟩) dX1_wordLength_21
set_option maxRecDepth 100000 in
theorem mM_wordSymbol (l : Launch) (D : va_G) (cI : ClassId) (h : Nat → Nat) (σ : St) {wc : Nat} {len : Nat → Nat} {sy : Nat → Nat → Nat} {n N : Nat} {cd bg T : Nat → Nat} {m : Nat} {P : Nat → Nat} (x y : Int) (hf : Wf wc len sy n N cd bg T m P) (hr0 : MRep wc len sy n N bg T m P σ) (bx : -2147483648 ≤ x ∧ x < 2147483648) (by0 : -2147483648 ≤ y ∧ y < 2147483648) :
    GMi l yX1_wordSymbol cX1_wordSymbol 3 (some .int) 1 22 D [(cI, .int)] (wM h cI) (adM h) (h 0) [.int (iI (x)), .int (iI (y))] σ (fun z σ' => ((0 ≤ x ∧ x < wc ∧ 0 ≤ y ∧ y < len x.toNat ∧ z = sy x.toNat y.toNat) ∨ (¬ (0 ≤ x ∧ x < wc ∧ 0 ≤ y ∧ y < len x.toNat) ∧ z = -1)) ∧ σ' = σ) := by
  have hf0 := hf
  have hr00 := hr0
  obtain ⟨hD, hC, hPt⟩ := hf
  obtain ⟨t0, t1, t2, t3, t4, t5, t7, t8⟩ := hr0
  have d1 := hD.1
  have d2 := hD.2.1
  have p1 : m ≤ 6 := hPt.1
  have hN : N ≤ 250 := hC.1
  have hnN : n ≤ N := hC.nN hD
  refine GMi.of (by decide) rfl (Nat.le_of_ble_eq_true rfl) ?_
  intro p e s mi bl me co A ls S hr hlk hw hl
  have S : CallFix p mi co cX1_wordSymbol 3 s _ lw_all RX1 := S
  have hx := S.1
  have hb := S.2.1
  have hts := S.2.2.2.2
  have hl : lv_has ls 3 [(0, .ref (h 0)), (1, .int (iI (x))), (2, .int (iI (y)))] := hl
  refine lv_iload_n hx hb dX1_wordSymbol_0 rfl (lv_at hl 1 rfl) ?_
  refine r_if_lt (a := x) (tgt := 25) hx hb dX1_wordSymbol_1 (by decide) (by omega) (fun c_1 => ?_) (fun c_1 => ?_)
  · refine r_iconst hx hb dX1_wordSymbol_25 ?_
    refine lv_goto (tgt := 35) hx hb dX1_wordSymbol_26 (by decide) ?_
    exact G_reti (σ' := σ) (z := (-1)) hx hb hr hlk hw (⟨Or.inr ⟨by omega, rfl⟩, rfl⟩) dX1_wordSymbol_35
  · refine lv_iload_n hx hb dX1_wordSymbol_4 rfl (lv_at hl 1 rfl) ?_
    refine lv_aload_n hx hb dX1_wordSymbol_5 rfl (lv_at hl 0 rfl) ?_
    refine gM_4 S hw (v := wc) t4 dX1_wordSymbol_6 ?_
    refine r_icmp_ge (a := x) (b := wc) (tgt := 25) hx hb dX1_wordSymbol_9 (by decide) (by omega) (by omega) (fun c_9 => ?_) (fun c_9 => ?_)
    · refine r_iconst hx hb dX1_wordSymbol_25 ?_
      refine lv_goto (tgt := 35) hx hb dX1_wordSymbol_26 (by decide) ?_
      exact G_reti (σ' := σ) (z := (-1)) hx hb hr hlk hw (⟨Or.inr ⟨by omega, rfl⟩, rfl⟩) dX1_wordSymbol_35
    · refine lv_iload_n hx hb dX1_wordSymbol_12 rfl (lv_at hl 2 rfl) ?_
      refine r_if_lt (a := y) (tgt := 25) hx hb dX1_wordSymbol_13 (by decide) (by omega) (fun c_13 => ?_) (fun c_13 => ?_)
      · refine r_iconst hx hb dX1_wordSymbol_25 ?_
        refine lv_goto (tgt := 35) hx hb dX1_wordSymbol_26 (by decide) ?_
        exact G_reti (σ' := σ) (z := (-1)) hx hb hr hlk hw (⟨Or.inr ⟨by omega, rfl⟩, rfl⟩) dX1_wordSymbol_35
      · refine lv_iload_n hx hb dX1_wordSymbol_16 rfl (lv_at hl 2 rfl) ?_
        refine lv_aload_n hx hb dX1_wordSymbol_17 rfl (lv_at hl 0 rfl) ?_
        refine lv_iload_n hx hb dX1_wordSymbol_18 rfl (lv_at hl 1 rfl) ?_
        refine r_top (a := x) (b := ((x.toNat : Nat) : Int)) (by omega) ?_
        refine cM_i (As := [.int (iI (((x.toNat : Nat) : Int)))]) (rest := [.int (iI (y))]) S hw (mM_lengthOf l D cI h σ x.toNat (len x.toNat : Int) (by omega) (fun q => by rw [(hD.2.2.1 _ q).1]; rfl) (fun q => (t5 _ q (by omega)).1)) (cwV 1 hts (lw_V q241 q243 qs10 q16 q244) rfl rfl rfl (by decide +kernel) ⟨Nat.le_of_ble_eq_true rfl, Nat.le_of_ble_eq_true rfl⟩) ⟨Nat.le_refl 0, Nat.le_refl 0⟩ rfl hl.1 rfl (Nat.le_of_ble_eq_true rfl) dX1_wordSymbol_19 (fun z1 σ1 H locs hp1 hw => ?_)
        obtain ⟨hz1, es⟩ := hp1
        rw [es] at hw
        have lb := (hD.2.2.2 x.toNat (by omega)).2.1
        refine r_icmp_lt (a := y) (b := z1) (tgt := 29) hx hb dX1_wordSymbol_22 (by decide) (by omega) (by omega) (fun c_22 => ?_) (fun c_22 => ?_)
        · refine lv_aload_n hx hb dX1_wordSymbol_29 rfl (lv_at hl 0 rfl) ?_
          refine lv_iload_n hx hb dX1_wordSymbol_30 rfl (lv_at hl 1 rfl) ?_
          refine r_top (a := x) (b := ((x.toNat : Nat) : Int)) (by omega) ?_
          refine lv_iload_n hx hb dX1_wordSymbol_31 rfl (lv_at hl 2 rfl) ?_
          refine r_top (a := y) (b := ((y.toNat : Nat) : Int)) (by omega) ?_
          have l4 : x.toNat < 4 → len x.toNat = 1 := fun q => (hD.2.2.1 _ q).1
          refine cM_i (As := [.int (iI (((x.toNat : Nat) : Int))), .int (iI (((y.toNat : Nat) : Int)))]) (rest := []) S hw (mM_symbolOf l D cI h σ x.toNat y.toNat (sy x.toNat y.toNat : Int) (by omega) (fun q => by have e8 := hD.2.2.1 _ q; rw [show y.toNat = 0 by omega, e8.2]) (fun q => by obtain ⟨-, pp, a1, a2, a3⟩ := t5 _ q (by omega); exact ⟨pp, a1, by omega, by rw [t1 _ (by omega), a3 _ (by omega)]⟩)) (cwV 2 hts (lw_V q245 q247 qs11 q16 q248) rfl rfl rfl (by decide +kernel) ⟨Nat.le_of_ble_eq_true rfl, Nat.le_of_ble_eq_true rfl⟩) ⟨Nat.le_refl 0, Nat.le_refl 0⟩ rfl hl.1 rfl (Nat.le_of_ble_eq_true rfl) dX1_wordSymbol_32 (fun z2 σ1 H locs hp1 hw => ?_)
          obtain ⟨hz2, es⟩ := hp1
          rw [es] at hw
          exact G_reti (σ' := σ) (z := z2) hx hb hr hlk hw (⟨Or.inl ⟨by omega, by omega, by omega, by omega, hz2⟩, rfl⟩) dX1_wordSymbol_35
        · refine r_iconst hx hb dX1_wordSymbol_25 ?_
          refine lv_goto (tgt := 35) hx hb dX1_wordSymbol_26 (by decide) ?_
          exact G_reti (σ' := σ) (z := (-1)) hx hb hr hlk hw (⟨Or.inr ⟨by omega, rfl⟩, rfl⟩) dX1_wordSymbol_35
set_option maxRecDepth 100000 in
theorem mM_symbol (l : Launch) (D : va_G) (cI : ClassId) (h : Nat → Nat) (σ : St) {wc : Nat} {len : Nat → Nat} {sy : Nat → Nat → Nat} {n N : Nat} {cd bg T : Nat → Nat} {m : Nat} {P : Nat → Nat} (x : Int) (hf : Wf wc len sy n N cd bg T m P) (hr0 : MRep wc len sy n N bg T m P σ) (bx : -2147483648 ≤ x ∧ x < 2147483648) :
    GMi l yX1_symbol cX1_symbol 2 (some .int) 0 0 D [(cI, .int)] (wM h cI) (adM h) (h 0) [.int (iI (x))] σ (fun z σ' => ((0 ≤ x ∧ x < N ∧ z = T x.toNat) ∨ (¬ (0 ≤ x ∧ x < N) ∧ z = -1)) ∧ σ' = σ) := by
  have hf0 := hf
  have hr00 := hr0
  obtain ⟨hD, hC, hPt⟩ := hf
  obtain ⟨t0, t1, t2, t3, t4, t5, t7, t8⟩ := hr0
  have d1 := hD.1
  have d2 := hD.2.1
  have p1 : m ≤ 6 := hPt.1
  have hN : N ≤ 250 := hC.1
  have hnN : n ≤ N := hC.nN hD
  refine GMi.of (by decide) rfl (Nat.le_of_ble_eq_true rfl) ?_
  intro p e s mi bl me co A ls S hr hlk hw hl
  have S : CallFix p mi co cX1_symbol 2 s _ lw_all RX1 := S
  have hx := S.1
  have hb := S.2.1
  have hts := S.2.2.2.2
  have hl : lv_has ls 2 [(0, .ref (h 0)), (1, .int (iI (x)))] := hl
  refine lv_iload_n hx hb dX1_symbol_0 rfl (lv_at hl 1 rfl) ?_
  refine r_if_lt (a := x) (tgt := 12) hx hb dX1_symbol_1 (by decide) (by omega) (fun c_1 => ?_) (fun c_1 => ?_)
  · refine r_iconst hx hb dX1_symbol_12 ?_
    refine lv_goto (tgt := 22) hx hb dX1_symbol_13 (by decide) ?_
    exact G_reti (σ' := σ) (z := (-1)) hx hb hr hlk hw (⟨Or.inr ⟨by omega, rfl⟩, rfl⟩) dX1_symbol_22
  · refine lv_iload_n hx hb dX1_symbol_4 rfl (lv_at hl 1 rfl) ?_
    refine lv_aload_n hx hb dX1_symbol_5 rfl (lv_at hl 0 rfl) ?_
    refine gM_0 S hw (v := N) t0 dX1_symbol_6 ?_
    refine r_icmp_lt (a := x) (b := N) (tgt := 16) hx hb dX1_symbol_9 (by decide) (by omega) (by omega) (fun c_9 => ?_) (fun c_9 => ?_)
    · refine lv_aload_n hx hb dX1_symbol_16 rfl (lv_at hl 0 rfl) ?_
      refine gM_1 S hw dX1_symbol_17 ?_
      refine lv_iload_n hx hb dX1_symbol_20 rfl (lv_at hl 1 rfl) ?_
      refine aM_1 hx hb hw (x.toNat) (z := x) (v := T x.toNat) (by omega) (by omega) (t1 _ (by omega)) dX1_symbol_21 ?_
      exact G_reti (σ' := σ) (z := T x.toNat) hx hb hr hlk hw (⟨Or.inl ⟨by omega, by omega, rfl⟩, rfl⟩) dX1_symbol_22
    · refine r_iconst hx hb dX1_symbol_12 ?_
      refine lv_goto (tgt := 22) hx hb dX1_symbol_13 (by decide) ?_
      exact G_reti (σ' := σ) (z := (-1)) hx hb hr hlk hw (⟨Or.inr ⟨by omega, rfl⟩, rfl⟩) dX1_symbol_22
set_option maxRecDepth 100000 in
theorem mM_restart (l : Launch) (D : va_G) (cI : ClassId) (h : Nat → Nat) (σ : St) {wc : Nat} {len : Nat → Nat} {sy : Nat → Nat → Nat} {n N : Nat} {cd bg T : Nat → Nat} {m : Nat} {P : Nat → Nat} (hf : Wf wc len sy n N cd bg T m P) (hr0 : MRep wc len sy n N bg T m P σ) :
    GMv l yX1_restart cX1_restart 1 none 0 0 D [(cI, .int)] (wM h cI) (adM h) (h 0) [] σ (fun σ' => MRep 4 len sy 0 0 bg T m P σ') := by
  have hf0 := hf
  have hr00 := hr0
  obtain ⟨hD, hC, hPt⟩ := hf
  obtain ⟨t0, t1, t2, t3, t4, t5, t7, t8⟩ := hr0
  have d1 := hD.1
  have d2 := hD.2.1
  have p1 : m ≤ 6 := hPt.1
  have hN : N ≤ 250 := hC.1
  have hnN : n ≤ N := hC.nN hD
  refine GMv.of (by decide) rfl (Nat.le_of_ble_eq_true rfl) ?_
  intro p e s mi bl me co A ls S hr hlk hw hl
  have S : CallFix p mi co cX1_restart 1 s _ lw_all RX1 := S
  have hx := S.1
  have hb := S.2.1
  have hts := S.2.2.2.2
  have hl : lv_has ls 1 [(0, .ref (h 0))] := hl
  refine lv_aload_n hx hb dX1_restart_0 rfl (lv_at hl 0 rfl) ?_
  refine r_iconst hx hb dX1_restart_1 ?_
  refine pM_0 S hw (v := 0) dX1_restart_2 (fun H locs hw => ?_)
  refine lv_aload_n hx hb dX1_restart_5 rfl (lv_at hl 0 rfl) ?_
  refine r_iconst hx hb dX1_restart_6 ?_
  refine pM_2 S hw (v := 0) dX1_restart_7 (fun H locs hw => ?_)
  refine lv_aload_n hx hb dX1_restart_10 rfl (lv_at hl 0 rfl) ?_
  refine r_iconst hx hb dX1_restart_11 ?_
  refine pM_4 S hw (v := 4) dX1_restart_12 (fun H locs hw => ?_)
  exact G_retv (σ' := (up2 (up2 (up2 σ 0 0 (0)) 2 0 (0)) 4 0 (4))) hx hb hr hlk hw (M_restart hf0 hr00 (fun a j a0 a2 a4 => by rw [up2_nk (by omega), up2_nk (by omega), up2_nk (by omega)]) rfl rfl rfl) dX1_restart_15
set_option maxRecDepth 100000 in
theorem mM_extend (l : Launch) (D : va_G) (cI : ClassId) (h : Nat → Nat) (σ : St) {wc : Nat} {len : Nat → Nat} {sy : Nat → Nat → Nat} {n N : Nat} {cd bg T : Nat → Nat} {m : Nat} {P : Nat → Nat} (x : Int) (hf : Wf wc len sy n N cd bg T m P) (hr0 : MRep wc len sy n N bg T m P σ) (bx : -2147483648 ≤ x ∧ x < 2147483648) :
    GMi l yX1_extend cX1_extend 2 (some .boolean) 0 0 D [(cI, .int)] (wM h cI) (adM h) (h 0) [.int (iI (x))] σ (fun z σ' => (0 ≤ x ∧ x < 4 ∧ m < 6 ∧ z = 1 ∧ MRep wc len sy n N bg T (m + 1) (aC m P x.toNat) σ') ∨ (¬ (0 ≤ x ∧ x < 4 ∧ m < 6) ∧ z = 0 ∧ σ' = σ)) := by
  have hf0 := hf
  have hr00 := hr0
  obtain ⟨hD, hC, hPt⟩ := hf
  obtain ⟨t0, t1, t2, t3, t4, t5, t7, t8⟩ := hr0
  have d1 := hD.1
  have d2 := hD.2.1
  have p1 : m ≤ 6 := hPt.1
  have hN : N ≤ 250 := hC.1
  have hnN : n ≤ N := hC.nN hD
  refine GMi.of (by decide) rfl (Nat.le_of_ble_eq_true rfl) ?_
  intro p e s mi bl me co A ls S hr hlk hw hl
  have S : CallFix p mi co cX1_extend 2 s _ lw_all RX1 := S
  have hx := S.1
  have hb := S.2.1
  have hts := S.2.2.2.2
  have hl : lv_has ls 2 [(0, .ref (h 0)), (1, .int (iI (x)))] := hl
  refine lv_iload_n hx hb dX1_extend_0 rfl (lv_at hl 1 rfl) ?_
  refine r_if_lt (a := x) (tgt := 18) hx hb dX1_extend_1 (by decide) (by omega) (fun c_1 => ?_) (fun c_1 => ?_)
  · refine r_iconst hx hb dX1_extend_18 ?_
    exact G_retz (σ' := σ) (z := 0) hx hb hr hlk hw z_0 (Or.inr ⟨by omega, rfl, rfl⟩) dX1_extend_19
  · refine lv_iload_n hx hb dX1_extend_4 rfl (lv_at hl 1 rfl) ?_
    refine r_iconst hx hb dX1_extend_5 ?_
    refine r_icmp_gt (a := x) (b := 3) (tgt := 18) hx hb dX1_extend_6 (by decide) (by omega) (by omega) (fun c_6 => ?_) (fun c_6 => ?_)
    · refine r_iconst hx hb dX1_extend_18 ?_
      exact G_retz (σ' := σ) (z := 0) hx hb hr hlk hw z_0 (Or.inr ⟨by omega, rfl, rfl⟩) dX1_extend_19
    · refine lv_aload_n hx hb dX1_extend_9 rfl (lv_at hl 0 rfl) ?_
      refine gM_7 S hw (v := m) t7 dX1_extend_10 ?_
      refine r_bipush hx hb dX1_extend_13 (by decide) ?_
      refine r_icmp_lt (a := m) (b := 6) (tgt := 20) hx hb dX1_extend_15 (by decide) (by omega) (by omega) (fun c_15 => ?_) (fun c_15 => ?_)
      · refine lv_aload_n hx hb dX1_extend_20 rfl (lv_at hl 0 rfl) ?_
        refine gM_8 S hw dX1_extend_21 ?_
        refine lv_aload_n hx hb dX1_extend_24 rfl (lv_at hl 0 rfl) ?_
        refine gM_7 S hw (v := m) t7 dX1_extend_25 ?_
        refine lv_iload_n hx hb dX1_extend_28 rfl (lv_at hl 1 rfl) ?_
        refine sM_8 hx hb hw (m) (z := m) (v := x) (by omega) (by omega) dX1_extend_29 (fun H locs hw => ?_)
        refine lv_aload_n hx hb dX1_extend_30 rfl (lv_at hl 0 rfl) ?_
        refine lv_dup hx hb dX1_extend_31 rfl ?_
        refine gM_7 S hw (v := m) t7 dX1_extend_32 ?_
        refine r_iconst hx hb dX1_extend_35 ?_
        refine r_iadd (a := m) (b := 1) hx hb dX1_extend_36 ?_
        refine pM_7 S hw (v := (m + 1)) dX1_extend_37 (fun H locs hw => ?_)
        refine r_iconst hx hb dX1_extend_40 ?_
        refine G_retz (σ' := (up2 (up2 σ 8 (m) (x)) 7 0 ((m + 1)))) (z := 1) hx hb hr hlk hw z_1 ?_ dX1_extend_41
        refine Or.inl ⟨by omega, by omega, by omega, rfl, M_pat hr00 (fun a j ha => ?_) ?_ (fun i hi => ?_)⟩
        · rw [up2_nk (by omega), up2_nk (by omega)]
        · simp [up2]
        · unfold aC
          by_cases q : i = m
          · simp [up2, q]; omega
          · have := t8 i (by omega)
            simp [up2, q, this]
      · refine r_iconst hx hb dX1_extend_18 ?_
        exact G_retz (σ' := σ) (z := 0) hx hb hr hlk hw z_0 (Or.inr ⟨by omega, rfl, rfl⟩) dX1_extend_19
set_option maxRecDepth 100000 in
theorem mM_shorten (l : Launch) (D : va_G) (cI : ClassId) (h : Nat → Nat) (σ : St) {wc : Nat} {len : Nat → Nat} {sy : Nat → Nat → Nat} {n N : Nat} {cd bg T : Nat → Nat} {m : Nat} {P : Nat → Nat} (hf : Wf wc len sy n N cd bg T m P) (hr0 : MRep wc len sy n N bg T m P σ) :
    GMi l yX1_shorten cX1_shorten 3 (some .int) 0 0 D [(cI, .int)] (wM h cI) (adM h) (h 0) [] σ (fun z σ' => (0 < m ∧ z = P 0 ∧ MRep wc len sy n N bg T (m - 1) (fun i => P (i + 1)) σ') ∨ (¬ 0 < m ∧ z = -1 ∧ σ' = σ)) := by
  have hf0 := hf
  have hr00 := hr0
  obtain ⟨hD, hC, hPt⟩ := hf
  obtain ⟨t0, t1, t2, t3, t4, t5, t7, t8⟩ := hr0
  have d1 := hD.1
  have d2 := hD.2.1
  have p1 : m ≤ 6 := hPt.1
  have hN : N ≤ 250 := hC.1
  have hnN : n ≤ N := hC.nN hD
  refine GMi.of (by decide) rfl (Nat.le_of_ble_eq_true rfl) ?_
  intro p e s mi bl me co A ls S hr hlk hw hl
  have S : CallFix p mi co cX1_shorten 3 s _ lw_all RX1 := S
  have hx := S.1
  have hb := S.2.1
  have hts := S.2.2.2.2
  have hl : lv_has ls 3 [(0, .ref (h 0))] := hl
  refine lv_aload_n hx hb dX1_shorten_0 rfl (lv_at hl 0 rfl) ?_
  refine gM_7 S hw (v := m) t7 dX1_shorten_1 ?_
  refine r_if_ne (a := m) (tgt := 9) hx hb dX1_shorten_4 (by decide) (by omega) (fun c_4 => ?_) (fun c_4 => ?_)
  · refine lv_aload_n hx hb dX1_shorten_9 rfl (lv_at hl 0 rfl) ?_
    refine gM_8 S hw dX1_shorten_10 ?_
    refine r_iconst hx hb dX1_shorten_13 ?_
    refine aM_8 hx hb hw (0) (z := 0) (v := P 0) rfl (by omega) (t8 0 (by omega)) dX1_shorten_14 ?_
    refine lv_istore_n (lv' := [(1, .int (iI (P 0))), (0, .ref (h 0))]) hx hb dX1_shorten_15 rfl hl (by decide) rfl (fun ls hl => ?_)
    refine r_iconst hx hb dX1_shorten_16 ?_
    refine lv_istore_n (lv' := [(2, .int (iI (1))), (1, .int (iI (P 0))), (0, .ref (h 0))]) hx hb dX1_shorten_17 rfl hl (by decide) rfl (fun ls hl => ?_)
    have m0 : 0 < m := by omega
    have loop18 : ∀ (f : Nat) (k : Nat) (σ1 : St) (H : Heap) (locs : List Loc) (ls : Array Slot), m < k + f → (1 ≤ k) → (k ≤ m) → (∀ i, i + 1 < k → σ1 8 i = (P (i + 1) : Int)) → (∀ i, k ≤ i + 1 → i < m → σ1 8 i = (P i : Int)) → (∀ a j, a ≠ 8 → σ1 a j = σ a j) → GW D [(cI, .int)] (wM h cI σ1) A s H locs → lv_has ls 3 [(0, .ref (h 0)), (1, .int (iI (P 0))), (2, .int (iI (k)))] → W p l e ({ frames := 0, cells := 0, slots := 0, locals := 0 }) s mi (Value.ref (h 0) :: []).toArray bl me co H locs 0 0 (QGi D [(cI, .int)] (wM h cI) A s (Value.ref (h 0) :: []).toArray bl (fun z σ' => (0 < m ∧ z = P 0 ∧ MRep wc len sy n N bg T (m - 1) (fun i => P (i + 1)) σ') ∨ (¬ 0 < m ∧ z = -1 ∧ σ' = σ))) (F0 mi 18 ls []) := by
      intro f
      induction f with
      | zero =>
        intro k σ1 H locs ls q0 j1 j2 j3 j4 j5
        exact absurd q0 (by omega)
      | succ f ih18 =>
        intro k σ1 H locs ls q0 j1 j2 j3 j4 j5 hw hl
        refine lv_iload_n hx hb dX1_shorten_18 rfl (lv_at hl 2 rfl) ?_
        refine lv_aload_n hx hb dX1_shorten_19 rfl (lv_at hl 0 rfl) ?_
        refine gM_7 S hw (v := m) ((j5 7 0 (by omega)).trans t7) dX1_shorten_20 ?_
        refine r_icmp_ge (a := k) (b := m) (tgt := 46) hx hb dX1_shorten_23 (by decide) (by omega) (by omega) (fun c_23 => ?_) (fun c_23 => ?_)
        · refine lv_aload_n hx hb dX1_shorten_46 rfl (lv_at hl 0 rfl) ?_
          refine lv_dup hx hb dX1_shorten_47 rfl ?_
          refine gM_7 S hw (v := m) ((j5 7 0 (by omega)).trans t7) dX1_shorten_48 ?_
          refine r_iconst hx hb dX1_shorten_51 ?_
          refine r_isub (a := m) (b := 1) hx hb dX1_shorten_52 ?_
          refine pM_7 S hw (v := (m - 1)) dX1_shorten_53 (fun H locs hw => ?_)
          refine lv_iload_n hx hb dX1_shorten_56 rfl (lv_at hl 1 rfl) ?_
          refine G_reti (σ' := (up2 σ1 7 0 ((m - 1)))) (z := P 0) hx hb hr hlk hw ?_ dX1_shorten_57
          refine Or.inl ⟨by omega, rfl, M_pat hr00 (fun a j ha => ?_) ?_ (fun i hi => ?_)⟩
          · rw [up2_nk (by omega)]; exact j5 a j (by omega)
          · simp [up2]; omega
          · have := j3 i (by omega)
            simp [up2, this]
        · refine lv_aload_n hx hb dX1_shorten_26 rfl (lv_at hl 0 rfl) ?_
          refine gM_8 S hw dX1_shorten_27 ?_
          refine lv_iload_n hx hb dX1_shorten_30 rfl (lv_at hl 2 rfl) ?_
          refine r_iconst hx hb dX1_shorten_31 ?_
          refine r_isub (a := k) (b := 1) hx hb dX1_shorten_32 ?_
          refine lv_aload_n hx hb dX1_shorten_33 rfl (lv_at hl 0 rfl) ?_
          refine gM_8 S hw dX1_shorten_34 ?_
          refine lv_iload_n hx hb dX1_shorten_37 rfl (lv_at hl 2 rfl) ?_
          have pk := hPt.2 k (by omega)
          refine aM_8 hx hb hw (k) (z := k) (v := P k) (by omega) (by omega) (j4 k (by omega) (by omega)) dX1_shorten_38 ?_
          refine sM_8 hx hb hw (k - 1) (z := (k - 1)) (v := P k) (by omega) (by omega) dX1_shorten_39 (fun H locs hw => ?_)
          refine r_iinc (a := k) (lv' := [(2, .int (iI (k + 1))), (0, .ref (h 0)), (1, .int (iI (P 0)))]) (k := 2) hx hb dX1_shorten_40 hl rfl (by decide) rfl (fun ls hl => ?_)
          refine lv_goto (tgt := 18) hx hb dX1_shorten_43 (by decide) ?_
          exact ih18 (k + 1) ((up2 σ1 8 (k - 1) (P k))) _ _ _ (by omega) (by omega) (by omega) (fun i hi => by
                by_cases q : i = k - 1
                · rw [q, up2_eq, show k - 1 + 1 = k by omega]
                · rw [up2_nj q]; exact j3 i (by omega)) (fun i hi hm => by rw [up2_nj (by omega)]; exact j4 i (by omega) hm) (fun a j ha => by rw [up2_nk ha]; exact j5 a j ha) hw (by rw [show ((k + 1 : Nat) : Int) = (k : Int) + 1 from by omega]; exact lv_sub hl [1, 2, 0] rfl)
    exact loop18 (m + 1) (1) (σ) _ _ _ (by omega) (by omega) (by omega) (fun i hi => absurd hi (by omega)) (fun i _ hi => t8 i hi) (fun a j _ => rfl) hw (by rw [show ((1 : Nat) : Int) = 1 from rfl]; exact lv_sub hl [2, 1, 0] rfl)
  · refine r_iconst hx hb dX1_shorten_7 ?_
    exact G_reti (σ' := σ) (z := (-1)) hx hb hr hlk hw (Or.inr ⟨by omega, rfl, rfl⟩) dX1_shorten_8
end
section
/-! CodeSearcherModel: occurrences, feed (printed by gen/m2.py) -/
set_option maxRecDepth 100000 in
/-- an occurrence begins at p -/
theorem mM_at (l : Launch) (D : va_G) (cI : ClassId) (h : Nat → Nat) (σ : St) {wc : Nat} {len : Nat → Nat} {sy : Nat → Nat → Nat} {n N : Nat} {cd bg T : Nat → Nat} {m : Nat} {P : Nat → Nat} (p0 : Nat) (hf : Wf wc len sy n N cd bg T m P) (hr0 : MRep wc len sy n N bg T m P σ) (hp0 : p0 ≤ 250) :
    GMi l yX1_at cX1_at 4 (some .boolean) 0 0 D [(cI, .int)] (wM h cI) (adM h) (h 0) [.int (iI (p0))] σ (fun z σ' => ((z = 1 ∧ aA m N P T p0) ∨ (z = 0 ∧ ¬ aA m N P T p0)) ∧ σ' = σ) := by
  have hf0 := hf
  have hr00 := hr0
  obtain ⟨hD, hC, hPt⟩ := hf
  obtain ⟨t0, t1, t2, t3, t4, t5, t7, t8⟩ := hr0
  have d1 := hD.1
  have d2 := hD.2.1
  have p1 : m ≤ 6 := hPt.1
  have hN : N ≤ 250 := hC.1
  have hnN : n ≤ N := hC.nN hD
  have hT4 := hC.T4 hD
  refine GMi.of (by decide) rfl (Nat.le_of_ble_eq_true rfl) ?_
  intro p e s mi bl me co A ls S hr hlk hw hl
  have S : CallFix p mi co cX1_at 4 s _ lw_all RX1 := S
  have hx := S.1
  have hb := S.2.1
  have hts := S.2.2.2.2
  have hl : lv_has ls 4 [(0, .ref (h 0)), (1, .int (iI (p0)))] := hl
  refine lv_aload_n hx hb dX1_at_0 rfl (lv_at hl 0 rfl) ?_
  refine gM_7 S hw (v := m) t7 dX1_at_1 ?_
  refine r_if_le (a := m) (tgt := 28) hx hb dX1_at_4 (by decide) (by omega) (fun c_4 => ?_) (fun c_4 => ?_)
  · refine r_iconst hx hb dX1_at_28 ?_
    refine lv_istore_n (lv' := [(2, .int (iI (0))), (0, .ref (h 0)), (1, .int (iI (p0)))]) hx hb dX1_at_29 rfl hl (by decide) rfl (fun ls hl => ?_)
    refine r_iconst hx hb dX1_at_30 ?_
    refine lv_istore_n (lv' := [(3, .int (iI (0))), (2, .int (iI (0))), (0, .ref (h 0)), (1, .int (iI (p0)))]) hx hb dX1_at_31 rfl hl (by decide) rfl (fun ls hl => ?_)
    have loop32 : ∀ (f : Nat) (k : Nat) (ok : Nat) (σ1 : St) (H : Heap) (locs : List Loc) (ls : Array Slot), m < k + f → (k ≤ m) → ((ok = 1 ∧ (0 < m ∧ p0 + m ≤ N) ∧ ∀ i, i < k → T (p0 + i) = P i) ∨ (ok = 0 ∧ ¬ aA m N P T p0)) → (σ1 = σ) → GW D [(cI, .int)] (wM h cI σ1) A s H locs → lv_has ls 4 [(0, .ref (h 0)), (1, .int (iI (p0))), (2, .int (iI (ok))), (3, .int (iI (k)))] → W p l e ({ frames := 0, cells := 0, slots := 0, locals := 0 }) s mi (Value.ref (h 0) :: [.int (iI (p0))]).toArray bl me co H locs 0 0 (QGi D [(cI, .int)] (wM h cI) A s (Value.ref (h 0) :: [.int (iI (p0))]).toArray bl (fun z σ' => ((z = 1 ∧ aA m N P T p0) ∨ (z = 0 ∧ ¬ aA m N P T p0)) ∧ σ' = σ)) (F0 mi 32 ls []) := by
      intro f
      induction f with
      | zero =>
        intro k ok σ1 H locs ls q0 j1 j2 j3
        exact absurd q0 (by omega)
      | succ f ih32 =>
        intro k ok σ1 H locs ls q0 j1 j2 j3 hw hl
        rw [j3] at hw
        have ok01 : ok = 0 ∨ ok = 1 := by omega
        refine lv_iload_n hx hb dX1_at_32 rfl (lv_at hl 3 rfl) ?_
        refine lv_aload_n hx hb dX1_at_33 rfl (lv_at hl 0 rfl) ?_
        refine gM_7 S hw (v := m) t7 dX1_at_34 ?_
        refine r_icmp_ge (a := k) (b := m) (tgt := 73) hx hb dX1_at_37 (by decide) (by omega) (by omega) (fun c_37 => ?_) (fun c_37 => ?_)
        · refine lv_iload_n hx hb dX1_at_73 rfl (lv_at hl 2 rfl) ?_
          exact G_retz (σ' := σ) (z := ok) hx hb hr hlk hw (by rcases ok01 with z | z <;> rw [z] <;> rfl) (⟨by
                rcases j2 with ⟨z1, z2, z3⟩ | ⟨z1, z2⟩
                · refine Or.inl ⟨by omega, z2.1, z2.2, (bst_full P T p0 m).mpr (fun i hi => z3 i (by omega))⟩
                · exact Or.inr ⟨by omega, z2⟩, rfl⟩) dX1_at_74
        · refine lv_iload_n hx hb dX1_at_40 rfl (lv_at hl 2 rfl) ?_
          refine r_if_eq (a := ok) (tgt := 73) hx hb dX1_at_41 (by decide) (by omega) (fun c_41 => ?_) (fun c_41 => ?_)
          · refine lv_iload_n hx hb dX1_at_73 rfl (lv_at hl 2 rfl) ?_
            exact G_retz (σ' := σ) (z := ok) hx hb hr hlk hw (by rcases ok01 with z | z <;> rw [z] <;> rfl) (⟨by
                  rcases j2 with ⟨z1, z2, z3⟩ | ⟨z1, z2⟩
                  · refine Or.inl ⟨by omega, z2.1, z2.2, (bst_full P T p0 m).mpr (fun i hi => z3 i (by omega))⟩
                  · exact Or.inr ⟨by omega, z2⟩, rfl⟩) dX1_at_74
          · have hpN : p0 + m ≤ N := by omega
            have b4 := hT4 (p0 + k) (by omega)
            have b5 := hPt.2 k (by omega)
            refine lv_aload_n hx hb dX1_at_44 rfl (lv_at hl 0 rfl) ?_
            refine gM_1 S hw dX1_at_45 ?_
            refine lv_iload_n hx hb dX1_at_48 rfl (lv_at hl 1 rfl) ?_
            refine lv_iload_n hx hb dX1_at_49 rfl (lv_at hl 3 rfl) ?_
            refine r_iadd (a := p0) (b := k) hx hb dX1_at_50 ?_
            refine aM_1 hx hb hw (p0 + k) (z := (p0 + k)) (v := T (p0 + k)) (by omega) (by omega) (t1 _ (by omega)) dX1_at_51 ?_
            refine lv_aload_n hx hb dX1_at_52 rfl (lv_at hl 0 rfl) ?_
            refine gM_8 S hw dX1_at_53 ?_
            refine lv_iload_n hx hb dX1_at_56 rfl (lv_at hl 3 rfl) ?_
            refine aM_8 hx hb hw (k) (z := k) (v := P k) (by omega) (by omega) (t8 k (by omega)) dX1_at_57 ?_
            refine r_icmp_ne (a := T (p0 + k)) (b := P k) (tgt := 65) hx hb dX1_at_58 (by decide) (by omega) (by omega) (fun c_58 => ?_) (fun c_58 => ?_)
            · refine r_iconst hx hb dX1_at_65 ?_
              refine lv_istore_n (lv' := [(2, .int (iI (0))), (0, .ref (h 0)), (1, .int (iI (p0))), (3, .int (iI (k)))]) hx hb dX1_at_66 rfl hl (by decide) rfl (fun ls hl => ?_)
              refine r_iinc (a := k) (lv' := [(3, .int (iI (k + 1))), (2, .int (iI (0))), (0, .ref (h 0)), (1, .int (iI (p0)))]) (k := 3) hx hb dX1_at_67 hl rfl (by decide) rfl (fun ls hl => ?_)
              refine lv_goto (tgt := 32) hx hb dX1_at_70 (by decide) ?_
              have jj : (ok = 1 ∧ (0 < m ∧ p0 + m ≤ N) ∧ ∀ i, i < k → T (p0 + i) = P i) := by
                rcases j2 with z | z
                · exact z
                · omega
              exact ih32 (k + 1) (0) (σ) _ _ _ (by omega) (by omega) (Or.inr ⟨rfl, fun z => by
                    have := (bst_full P T p0 m).mp z.2.2 k (by omega)
                    omega⟩) (rfl) hw (by rw [show ((k + 1 : Nat) : Int) = (k : Int) + 1 from by omega, show ((0 : Nat) : Int) = 0 from rfl]; exact lv_sub hl [2, 3, 1, 0] rfl)
            · refine r_iconst hx hb dX1_at_61 ?_
              refine lv_goto (tgt := 66) hx hb dX1_at_62 (by decide) ?_
              refine lv_istore_n (lv' := [(2, .int (iI (1))), (0, .ref (h 0)), (1, .int (iI (p0))), (3, .int (iI (k)))]) hx hb dX1_at_66 rfl hl (by decide) rfl (fun ls hl => ?_)
              refine r_iinc (a := k) (lv' := [(3, .int (iI (k + 1))), (2, .int (iI (1))), (0, .ref (h 0)), (1, .int (iI (p0)))]) (k := 3) hx hb dX1_at_67 hl rfl (by decide) rfl (fun ls hl => ?_)
              refine lv_goto (tgt := 32) hx hb dX1_at_70 (by decide) ?_
              have jj : (ok = 1 ∧ (0 < m ∧ p0 + m ≤ N) ∧ ∀ i, i < k → T (p0 + i) = P i) := by
                rcases j2 with z | z
                · exact z
                · omega
              exact ih32 (k + 1) (1) (σ) _ _ _ (by omega) (by omega) (Or.inl ⟨rfl, jj.2.1, fun i hi => by
                    by_cases q : i = k
                    · rw [q]; omega
                    · exact jj.2.2 i (by omega)⟩) (rfl) hw (by rw [show ((k + 1 : Nat) : Int) = (k : Int) + 1 from by omega, show ((1 : Nat) : Int) = 1 from rfl]; exact lv_sub hl [2, 3, 1, 0] rfl)
    exact loop32 (m + 1) (0) (0) (σ) _ _ _ (by omega) (by omega) (Or.inr ⟨rfl, fun z => by have := z.1; have := z.2.1; omega⟩) (rfl) hw (by rw [show ((0 : Nat) : Int) = 0 from rfl]; exact lv_sub hl [2, 3, 1, 0] rfl)
  · refine lv_iload_n hx hb dX1_at_7 rfl (lv_at hl 1 rfl) ?_
    refine r_if_lt (a := p0) (tgt := 28) hx hb dX1_at_8 (by decide) (by omega) (fun c_8 => ?_) (fun c_8 => ?_)
    · exact absurd c_8 (by omega)
    · refine lv_iload_n hx hb dX1_at_11 rfl (lv_at hl 1 rfl) ?_
      refine lv_aload_n hx hb dX1_at_12 rfl (lv_at hl 0 rfl) ?_
      refine gM_7 S hw (v := m) t7 dX1_at_13 ?_
      refine r_iadd (a := p0) (b := m) hx hb dX1_at_16 ?_
      refine lv_aload_n hx hb dX1_at_17 rfl (lv_at hl 0 rfl) ?_
      refine gM_0 S hw (v := N) t0 dX1_at_18 ?_
      refine r_icmp_gt (a := (p0 + m)) (b := N) (tgt := 28) hx hb dX1_at_21 (by decide) (by omega) (by omega) (fun c_21 => ?_) (fun c_21 => ?_)
      · refine r_iconst hx hb dX1_at_28 ?_
        refine lv_istore_n (lv' := [(2, .int (iI (0))), (0, .ref (h 0)), (1, .int (iI (p0)))]) hx hb dX1_at_29 rfl hl (by decide) rfl (fun ls hl => ?_)
        refine r_iconst hx hb dX1_at_30 ?_
        refine lv_istore_n (lv' := [(3, .int (iI (0))), (2, .int (iI (0))), (0, .ref (h 0)), (1, .int (iI (p0)))]) hx hb dX1_at_31 rfl hl (by decide) rfl (fun ls hl => ?_)
        have loop32 : ∀ (f : Nat) (k : Nat) (ok : Nat) (σ1 : St) (H : Heap) (locs : List Loc) (ls : Array Slot), m < k + f → (k ≤ m) → ((ok = 1 ∧ (0 < m ∧ p0 + m ≤ N) ∧ ∀ i, i < k → T (p0 + i) = P i) ∨ (ok = 0 ∧ ¬ aA m N P T p0)) → (σ1 = σ) → GW D [(cI, .int)] (wM h cI σ1) A s H locs → lv_has ls 4 [(0, .ref (h 0)), (1, .int (iI (p0))), (2, .int (iI (ok))), (3, .int (iI (k)))] → W p l e ({ frames := 0, cells := 0, slots := 0, locals := 0 }) s mi (Value.ref (h 0) :: [.int (iI (p0))]).toArray bl me co H locs 0 0 (QGi D [(cI, .int)] (wM h cI) A s (Value.ref (h 0) :: [.int (iI (p0))]).toArray bl (fun z σ' => ((z = 1 ∧ aA m N P T p0) ∨ (z = 0 ∧ ¬ aA m N P T p0)) ∧ σ' = σ)) (F0 mi 32 ls []) := by
          intro f
          induction f with
          | zero =>
            intro k ok σ1 H locs ls q0 j1 j2 j3
            exact absurd q0 (by omega)
          | succ f ih32 =>
            intro k ok σ1 H locs ls q0 j1 j2 j3 hw hl
            rw [j3] at hw
            have ok01 : ok = 0 ∨ ok = 1 := by omega
            refine lv_iload_n hx hb dX1_at_32 rfl (lv_at hl 3 rfl) ?_
            refine lv_aload_n hx hb dX1_at_33 rfl (lv_at hl 0 rfl) ?_
            refine gM_7 S hw (v := m) t7 dX1_at_34 ?_
            refine r_icmp_ge (a := k) (b := m) (tgt := 73) hx hb dX1_at_37 (by decide) (by omega) (by omega) (fun c_37 => ?_) (fun c_37 => ?_)
            · refine lv_iload_n hx hb dX1_at_73 rfl (lv_at hl 2 rfl) ?_
              exact G_retz (σ' := σ) (z := ok) hx hb hr hlk hw (by rcases ok01 with z | z <;> rw [z] <;> rfl) (⟨by
                    rcases j2 with ⟨z1, z2, z3⟩ | ⟨z1, z2⟩
                    · refine Or.inl ⟨by omega, z2.1, z2.2, (bst_full P T p0 m).mpr (fun i hi => z3 i (by omega))⟩
                    · exact Or.inr ⟨by omega, z2⟩, rfl⟩) dX1_at_74
            · refine lv_iload_n hx hb dX1_at_40 rfl (lv_at hl 2 rfl) ?_
              refine r_if_eq (a := ok) (tgt := 73) hx hb dX1_at_41 (by decide) (by omega) (fun c_41 => ?_) (fun c_41 => ?_)
              · refine lv_iload_n hx hb dX1_at_73 rfl (lv_at hl 2 rfl) ?_
                exact G_retz (σ' := σ) (z := ok) hx hb hr hlk hw (by rcases ok01 with z | z <;> rw [z] <;> rfl) (⟨by
                      rcases j2 with ⟨z1, z2, z3⟩ | ⟨z1, z2⟩
                      · refine Or.inl ⟨by omega, z2.1, z2.2, (bst_full P T p0 m).mpr (fun i hi => z3 i (by omega))⟩
                      · exact Or.inr ⟨by omega, z2⟩, rfl⟩) dX1_at_74
              · have hpN : p0 + m ≤ N := by omega
                have b4 := hT4 (p0 + k) (by omega)
                have b5 := hPt.2 k (by omega)
                refine lv_aload_n hx hb dX1_at_44 rfl (lv_at hl 0 rfl) ?_
                refine gM_1 S hw dX1_at_45 ?_
                refine lv_iload_n hx hb dX1_at_48 rfl (lv_at hl 1 rfl) ?_
                refine lv_iload_n hx hb dX1_at_49 rfl (lv_at hl 3 rfl) ?_
                refine r_iadd (a := p0) (b := k) hx hb dX1_at_50 ?_
                refine aM_1 hx hb hw (p0 + k) (z := (p0 + k)) (v := T (p0 + k)) (by omega) (by omega) (t1 _ (by omega)) dX1_at_51 ?_
                refine lv_aload_n hx hb dX1_at_52 rfl (lv_at hl 0 rfl) ?_
                refine gM_8 S hw dX1_at_53 ?_
                refine lv_iload_n hx hb dX1_at_56 rfl (lv_at hl 3 rfl) ?_
                refine aM_8 hx hb hw (k) (z := k) (v := P k) (by omega) (by omega) (t8 k (by omega)) dX1_at_57 ?_
                refine r_icmp_ne (a := T (p0 + k)) (b := P k) (tgt := 65) hx hb dX1_at_58 (by decide) (by omega) (by omega) (fun c_58 => ?_) (fun c_58 => ?_)
                · refine r_iconst hx hb dX1_at_65 ?_
                  refine lv_istore_n (lv' := [(2, .int (iI (0))), (0, .ref (h 0)), (1, .int (iI (p0))), (3, .int (iI (k)))]) hx hb dX1_at_66 rfl hl (by decide) rfl (fun ls hl => ?_)
                  refine r_iinc (a := k) (lv' := [(3, .int (iI (k + 1))), (2, .int (iI (0))), (0, .ref (h 0)), (1, .int (iI (p0)))]) (k := 3) hx hb dX1_at_67 hl rfl (by decide) rfl (fun ls hl => ?_)
                  refine lv_goto (tgt := 32) hx hb dX1_at_70 (by decide) ?_
                  have jj : (ok = 1 ∧ (0 < m ∧ p0 + m ≤ N) ∧ ∀ i, i < k → T (p0 + i) = P i) := by
                    rcases j2 with z | z
                    · exact z
                    · omega
                  exact ih32 (k + 1) (0) (σ) _ _ _ (by omega) (by omega) (Or.inr ⟨rfl, fun z => by
                        have := (bst_full P T p0 m).mp z.2.2 k (by omega)
                        omega⟩) (rfl) hw (by rw [show ((k + 1 : Nat) : Int) = (k : Int) + 1 from by omega, show ((0 : Nat) : Int) = 0 from rfl]; exact lv_sub hl [2, 3, 1, 0] rfl)
                · refine r_iconst hx hb dX1_at_61 ?_
                  refine lv_goto (tgt := 66) hx hb dX1_at_62 (by decide) ?_
                  refine lv_istore_n (lv' := [(2, .int (iI (1))), (0, .ref (h 0)), (1, .int (iI (p0))), (3, .int (iI (k)))]) hx hb dX1_at_66 rfl hl (by decide) rfl (fun ls hl => ?_)
                  refine r_iinc (a := k) (lv' := [(3, .int (iI (k + 1))), (2, .int (iI (1))), (0, .ref (h 0)), (1, .int (iI (p0)))]) (k := 3) hx hb dX1_at_67 hl rfl (by decide) rfl (fun ls hl => ?_)
                  refine lv_goto (tgt := 32) hx hb dX1_at_70 (by decide) ?_
                  have jj : (ok = 1 ∧ (0 < m ∧ p0 + m ≤ N) ∧ ∀ i, i < k → T (p0 + i) = P i) := by
                    rcases j2 with z | z
                    · exact z
                    · omega
                  exact ih32 (k + 1) (1) (σ) _ _ _ (by omega) (by omega) (Or.inl ⟨rfl, jj.2.1, fun i hi => by
                        by_cases q : i = k
                        · rw [q]; omega
                        · exact jj.2.2 i (by omega)⟩) (rfl) hw (by rw [show ((k + 1 : Nat) : Int) = (k : Int) + 1 from by omega, show ((1 : Nat) : Int) = 1 from rfl]; exact lv_sub hl [2, 3, 1, 0] rfl)
        exact loop32 (m + 1) (0) (0) (σ) _ _ _ (by omega) (by omega) (Or.inr ⟨rfl, fun z => by have := z.1; have := z.2.1; omega⟩) (rfl) hw (by rw [show ((0 : Nat) : Int) = 0 from rfl]; exact lv_sub hl [2, 3, 1, 0] rfl)
      · refine r_iconst hx hb dX1_at_24 ?_
        refine lv_goto (tgt := 29) hx hb dX1_at_25 (by decide) ?_
        refine lv_istore_n (lv' := [(2, .int (iI (1))), (0, .ref (h 0)), (1, .int (iI (p0)))]) hx hb dX1_at_29 rfl hl (by decide) rfl (fun ls hl => ?_)
        refine r_iconst hx hb dX1_at_30 ?_
        refine lv_istore_n (lv' := [(3, .int (iI (0))), (2, .int (iI (1))), (0, .ref (h 0)), (1, .int (iI (p0)))]) hx hb dX1_at_31 rfl hl (by decide) rfl (fun ls hl => ?_)
        have loop32 : ∀ (f : Nat) (k : Nat) (ok : Nat) (σ1 : St) (H : Heap) (locs : List Loc) (ls : Array Slot), m < k + f → (k ≤ m) → ((ok = 1 ∧ (0 < m ∧ p0 + m ≤ N) ∧ ∀ i, i < k → T (p0 + i) = P i) ∨ (ok = 0 ∧ ¬ aA m N P T p0)) → (σ1 = σ) → GW D [(cI, .int)] (wM h cI σ1) A s H locs → lv_has ls 4 [(0, .ref (h 0)), (1, .int (iI (p0))), (2, .int (iI (ok))), (3, .int (iI (k)))] → W p l e ({ frames := 0, cells := 0, slots := 0, locals := 0 }) s mi (Value.ref (h 0) :: [.int (iI (p0))]).toArray bl me co H locs 0 0 (QGi D [(cI, .int)] (wM h cI) A s (Value.ref (h 0) :: [.int (iI (p0))]).toArray bl (fun z σ' => ((z = 1 ∧ aA m N P T p0) ∨ (z = 0 ∧ ¬ aA m N P T p0)) ∧ σ' = σ)) (F0 mi 32 ls []) := by
          intro f
          induction f with
          | zero =>
            intro k ok σ1 H locs ls q0 j1 j2 j3
            exact absurd q0 (by omega)
          | succ f ih32 =>
            intro k ok σ1 H locs ls q0 j1 j2 j3 hw hl
            rw [j3] at hw
            have ok01 : ok = 0 ∨ ok = 1 := by omega
            refine lv_iload_n hx hb dX1_at_32 rfl (lv_at hl 3 rfl) ?_
            refine lv_aload_n hx hb dX1_at_33 rfl (lv_at hl 0 rfl) ?_
            refine gM_7 S hw (v := m) t7 dX1_at_34 ?_
            refine r_icmp_ge (a := k) (b := m) (tgt := 73) hx hb dX1_at_37 (by decide) (by omega) (by omega) (fun c_37 => ?_) (fun c_37 => ?_)
            · refine lv_iload_n hx hb dX1_at_73 rfl (lv_at hl 2 rfl) ?_
              exact G_retz (σ' := σ) (z := ok) hx hb hr hlk hw (by rcases ok01 with z | z <;> rw [z] <;> rfl) (⟨by
                    rcases j2 with ⟨z1, z2, z3⟩ | ⟨z1, z2⟩
                    · refine Or.inl ⟨by omega, z2.1, z2.2, (bst_full P T p0 m).mpr (fun i hi => z3 i (by omega))⟩
                    · exact Or.inr ⟨by omega, z2⟩, rfl⟩) dX1_at_74
            · refine lv_iload_n hx hb dX1_at_40 rfl (lv_at hl 2 rfl) ?_
              refine r_if_eq (a := ok) (tgt := 73) hx hb dX1_at_41 (by decide) (by omega) (fun c_41 => ?_) (fun c_41 => ?_)
              · refine lv_iload_n hx hb dX1_at_73 rfl (lv_at hl 2 rfl) ?_
                exact G_retz (σ' := σ) (z := ok) hx hb hr hlk hw (by rcases ok01 with z | z <;> rw [z] <;> rfl) (⟨by
                      rcases j2 with ⟨z1, z2, z3⟩ | ⟨z1, z2⟩
                      · refine Or.inl ⟨by omega, z2.1, z2.2, (bst_full P T p0 m).mpr (fun i hi => z3 i (by omega))⟩
                      · exact Or.inr ⟨by omega, z2⟩, rfl⟩) dX1_at_74
              · have hpN : p0 + m ≤ N := by omega
                have b4 := hT4 (p0 + k) (by omega)
                have b5 := hPt.2 k (by omega)
                refine lv_aload_n hx hb dX1_at_44 rfl (lv_at hl 0 rfl) ?_
                refine gM_1 S hw dX1_at_45 ?_
                refine lv_iload_n hx hb dX1_at_48 rfl (lv_at hl 1 rfl) ?_
                refine lv_iload_n hx hb dX1_at_49 rfl (lv_at hl 3 rfl) ?_
                refine r_iadd (a := p0) (b := k) hx hb dX1_at_50 ?_
                refine aM_1 hx hb hw (p0 + k) (z := (p0 + k)) (v := T (p0 + k)) (by omega) (by omega) (t1 _ (by omega)) dX1_at_51 ?_
                refine lv_aload_n hx hb dX1_at_52 rfl (lv_at hl 0 rfl) ?_
                refine gM_8 S hw dX1_at_53 ?_
                refine lv_iload_n hx hb dX1_at_56 rfl (lv_at hl 3 rfl) ?_
                refine aM_8 hx hb hw (k) (z := k) (v := P k) (by omega) (by omega) (t8 k (by omega)) dX1_at_57 ?_
                refine r_icmp_ne (a := T (p0 + k)) (b := P k) (tgt := 65) hx hb dX1_at_58 (by decide) (by omega) (by omega) (fun c_58 => ?_) (fun c_58 => ?_)
                · refine r_iconst hx hb dX1_at_65 ?_
                  refine lv_istore_n (lv' := [(2, .int (iI (0))), (0, .ref (h 0)), (1, .int (iI (p0))), (3, .int (iI (k)))]) hx hb dX1_at_66 rfl hl (by decide) rfl (fun ls hl => ?_)
                  refine r_iinc (a := k) (lv' := [(3, .int (iI (k + 1))), (2, .int (iI (0))), (0, .ref (h 0)), (1, .int (iI (p0)))]) (k := 3) hx hb dX1_at_67 hl rfl (by decide) rfl (fun ls hl => ?_)
                  refine lv_goto (tgt := 32) hx hb dX1_at_70 (by decide) ?_
                  have jj : (ok = 1 ∧ (0 < m ∧ p0 + m ≤ N) ∧ ∀ i, i < k → T (p0 + i) = P i) := by
                    rcases j2 with z | z
                    · exact z
                    · omega
                  exact ih32 (k + 1) (0) (σ) _ _ _ (by omega) (by omega) (Or.inr ⟨rfl, fun z => by
                        have := (bst_full P T p0 m).mp z.2.2 k (by omega)
                        omega⟩) (rfl) hw (by rw [show ((k + 1 : Nat) : Int) = (k : Int) + 1 from by omega, show ((0 : Nat) : Int) = 0 from rfl]; exact lv_sub hl [2, 3, 1, 0] rfl)
                · refine r_iconst hx hb dX1_at_61 ?_
                  refine lv_goto (tgt := 66) hx hb dX1_at_62 (by decide) ?_
                  refine lv_istore_n (lv' := [(2, .int (iI (1))), (0, .ref (h 0)), (1, .int (iI (p0))), (3, .int (iI (k)))]) hx hb dX1_at_66 rfl hl (by decide) rfl (fun ls hl => ?_)
                  refine r_iinc (a := k) (lv' := [(3, .int (iI (k + 1))), (2, .int (iI (1))), (0, .ref (h 0)), (1, .int (iI (p0)))]) (k := 3) hx hb dX1_at_67 hl rfl (by decide) rfl (fun ls hl => ?_)
                  refine lv_goto (tgt := 32) hx hb dX1_at_70 (by decide) ?_
                  have jj : (ok = 1 ∧ (0 < m ∧ p0 + m ≤ N) ∧ ∀ i, i < k → T (p0 + i) = P i) := by
                    rcases j2 with z | z
                    · exact z
                    · omega
                  exact ih32 (k + 1) (1) (σ) _ _ _ (by omega) (by omega) (Or.inl ⟨rfl, jj.2.1, fun i hi => by
                        by_cases q : i = k
                        · rw [q]; omega
                        · exact jj.2.2 i (by omega)⟩) (rfl) hw (by rw [show ((k + 1 : Nat) : Int) = (k : Int) + 1 from by omega, show ((1 : Nat) : Int) = 1 from rfl]; exact lv_sub hl [2, 3, 1, 0] rfl)
        exact loop32 (m + 1) (0) (1) (σ) _ _ _ (by omega) (by omega) (Or.inl ⟨rfl, ⟨by omega, by omega⟩, fun i hi => absurd hi (by omega)⟩) (rfl) hw (by rw [show ((0 : Nat) : Int) = 0 from rfl, show ((1 : Nat) : Int) = 1 from rfl]; exact lv_sub hl [2, 3, 1, 0] rfl)
set_option maxRecDepth 100000 in
/-- occurrences between two places -/
theorem mM_between (l : Launch) (D : va_G) (cI : ClassId) (h : Nat → Nat) (σ : St) {wc : Nat} {len : Nat → Nat} {sy : Nat → Nat → Nat} {n N : Nat} {cd bg T : Nat → Nat} {m : Nat} {P : Nat → Nat} (a0 b0 : Nat) (hf : Wf wc len sy n N cd bg T m P) (hr0 : MRep wc len sy n N bg T m P σ) (hab : a0 ≤ b0) (hbN : b0 ≤ N) :
    GMi l yX1_between cX1_between 5 (some .int) 1 23 D [(cI, .int)] (wM h cI) (adM h) (h 0) [.int (iI (a0)), .int (iI (b0))] σ (fun z σ' => z = (bt m P T a0 b0 : Int) ∧ σ' = σ) := by
  have hf0 := hf
  have hr00 := hr0
  obtain ⟨hD, hC, hPt⟩ := hf
  obtain ⟨t0, t1, t2, t3, t4, t5, t7, t8⟩ := hr0
  have d1 := hD.1
  have d2 := hD.2.1
  have p1 : m ≤ 6 := hPt.1
  have hN : N ≤ 250 := hC.1
  have hnN : n ≤ N := hC.nN hD
  refine GMi.of (by decide) rfl (Nat.le_of_ble_eq_true rfl) ?_
  intro p e s mi bl me co A ls S hr hlk hw hl
  have S : CallFix p mi co cX1_between 5 s _ lw_all RX1 := S
  have hx := S.1
  have hb := S.2.1
  have hts := S.2.2.2.2
  have hl : lv_has ls 5 [(0, .ref (h 0)), (1, .int (iI (a0))), (2, .int (iI (b0)))] := hl
  refine r_iconst hx hb dX1_between_0 ?_
  refine lv_istore_n (lv' := [(3, .int (iI (0))), (0, .ref (h 0)), (1, .int (iI (a0))), (2, .int (iI (b0)))]) hx hb dX1_between_1 rfl hl (by decide) rfl (fun ls hl => ?_)
  refine lv_iload_n hx hb dX1_between_2 rfl (lv_at hl 2 rfl) ?_
  refine lv_istore (lv' := [(4, .int (iI (a0))), (3, .int (iI (0))), (0, .ref (h 0)), (1, .int (iI (a0))), (2, .int (iI (b0)))]) hx hb dX1_between_3 hl (by decide) rfl (fun ls hl => ?_)
  have loop5 : ∀ (f : Nat) (pp : Nat) (q : Nat) (σ1 : St) (H : Heap) (locs : List Loc) (ls : Array Slot), b0 + 1 < pp + f → (a0 ≤ pp) → (pp ≤ b0 + 1) → (pp = a0 ∨ pp + m ≤ b0 + 1) → ((m = 0 → q = 0) ∧ (0 < m → q + cn (fun e => bst P T e m) m (a0 + m - 1) = cn (fun e => bst P T e m) m (pp + m - 1))) → (σ1 = σ) → GW D [(cI, .int)] (wM h cI σ1) A s H locs → lv_has ls 5 [(0, .ref (h 0)), (1, .int (iI (a0))), (2, .int (iI (b0))), (3, .int (iI (q))), (4, .int (iI (pp)))] → W p l e ({ frames := 1, cells := 0, slots := 0, locals := 23 }) s mi (Value.ref (h 0) :: [.int (iI (a0)), .int (iI (b0))]).toArray bl me co H locs 0 0 (QGi D [(cI, .int)] (wM h cI) A s (Value.ref (h 0) :: [.int (iI (a0)), .int (iI (b0))]).toArray bl (fun z σ' => z = (bt m P T a0 b0 : Int) ∧ σ' = σ)) (F0 mi 5 ls []) := by
    intro f
    induction f with
    | zero =>
      intro pp q σ1 H locs ls q0 j0 j1 j2 j3 j4
      exact absurd q0 (by omega)
    | succ f ih5 =>
      intro pp q σ1 H locs ls q0 j0 j1 j2 j3 j4 hw hl
      rw [j4] at hw
      refine lv_iload hx hb dX1_between_5 (lv_at hl 4 rfl) ?_
      refine lv_aload_n hx hb dX1_between_7 rfl (lv_at hl 0 rfl) ?_
      refine gM_7 S hw (v := m) t7 dX1_between_8 ?_
      refine r_iadd (a := pp) (b := m) hx hb dX1_between_11 ?_
      refine lv_iload_n hx hb dX1_between_12 rfl (lv_at hl 2 rfl) ?_
      refine r_icmp_gt (a := (pp + m)) (b := b0) (tgt := 39) hx hb dX1_between_13 (by decide) (by omega) (by omega) (fun c_13 => ?_) (fun c_13 => ?_)
      · refine lv_iload_n hx hb dX1_between_39 rfl (lv_at hl 3 rfl) ?_
        exact G_reti (σ' := σ) (z := q) hx hb hr hlk hw (⟨bt_out j3 j2 (by omega), rfl⟩) dX1_between_40
      · refine lv_iload_n hx hb dX1_between_16 rfl (lv_at hl 3 rfl) ?_
        refine lv_aload_n hx hb dX1_between_17 rfl (lv_at hl 0 rfl) ?_
        refine lv_iload hx hb dX1_between_18 (lv_at hl 4 rfl) ?_
        refine cM_i (As := [.int (iI (pp))]) (rest := [.int (iI (q))]) S hw (mM_at l D cI h σ pp hf0 hr00 (by omega)) (cwV 1 hts (lw_V q297 q299 qs13 q16 q300) rfl rfl rfl (by decide +kernel) ⟨Nat.le_of_ble_eq_true rfl, Nat.le_of_ble_eq_true rfl⟩) ⟨Nat.le_refl 0, Nat.le_refl 0⟩ rfl hl.1 rfl (Nat.le_of_ble_eq_true rfl) dX1_between_20 (fun z1 σ1 H locs hp1 hw => ?_)
        obtain ⟨hz1, es⟩ := hp1
        rw [es] at hw
        refine r_if_eq (a := z1) (tgt := 30) hx hb dX1_between_23 (by decide) (by omega) (fun c_23 => ?_) (fun c_23 => ?_)
        · refine r_iconst hx hb dX1_between_30 ?_
          refine r_iadd (a := q) (b := 0) hx hb dX1_between_31 ?_
          refine r_top (a := (q + 0)) (b := (q : Int)) (by omega) ?_
          refine lv_istore_n (lv' := [(3, .int (iI ((q : Int)))), (0, .ref (h 0)), (1, .int (iI (a0))), (2, .int (iI (b0))), (4, .int (iI (pp)))]) hx hb dX1_between_32 rfl hl (by decide) rfl (fun ls hl => ?_)
          refine r_iinc (a := pp) (lv' := [(4, .int (iI (pp + 1))), (3, .int (iI ((q : Int)))), (0, .ref (h 0)), (1, .int (iI (a0))), (2, .int (iI (b0)))]) (k := 4) hx hb dX1_between_33 hl rfl (by decide) rfl (fun ls hl => ?_)
          refine lv_goto (tgt := 5) hx hb dX1_between_36 (by decide) ?_
          have ha : ¬ aA m N P T pp := by
            rcases hz1 with z | z
            · omega
            · exact z.2
          exact ih5 (pp + 1) (q) (σ) _ _ _ (by omega) (by omega) (by omega) (by omega) ((bt_step (N := N) j3 (by omega)).2 ha) (rfl) hw (by rw [show ((pp + 1 : Nat) : Int) = (pp : Int) + 1 from by omega]; exact lv_sub hl [2, 3, 4, 1, 0] rfl)
        · refine r_iconst hx hb dX1_between_26 ?_
          refine lv_goto (tgt := 31) hx hb dX1_between_27 (by decide) ?_
          refine r_iadd (a := q) (b := 1) hx hb dX1_between_31 ?_
          refine r_top (a := (q + 1)) (b := (q : Int) + 1) (rfl) ?_
          refine lv_istore_n (lv' := [(3, .int (iI ((q : Int) + 1))), (0, .ref (h 0)), (1, .int (iI (a0))), (2, .int (iI (b0))), (4, .int (iI (pp)))]) hx hb dX1_between_32 rfl hl (by decide) rfl (fun ls hl => ?_)
          refine r_iinc (a := pp) (lv' := [(4, .int (iI (pp + 1))), (3, .int (iI ((q : Int) + 1))), (0, .ref (h 0)), (1, .int (iI (a0))), (2, .int (iI (b0)))]) (k := 4) hx hb dX1_between_33 hl rfl (by decide) rfl (fun ls hl => ?_)
          refine lv_goto (tgt := 5) hx hb dX1_between_36 (by decide) ?_
          have ha : aA m N P T pp := by
            rcases hz1 with z | z
            · exact z.2
            · omega
          exact ih5 (pp + 1) (q + 1) (σ) _ _ _ (by omega) (by omega) (by omega) (by omega) ((bt_step (N := N) j3 (by omega)).1 ha) (rfl) hw (by rw [show ((pp + 1 : Nat) : Int) = (pp : Int) + 1 from by omega, show ((q + 1 : Nat) : Int) = (q : Int) + 1 from by omega]; exact lv_sub hl [2, 3, 4, 1, 0] rfl)
  exact loop5 (b0 + 2) (a0) (0) (σ) _ _ _ (by omega) (by omega) (by omega) (by omega) (⟨fun _ => rfl, fun _ => by omega⟩) (rfl) hw (by rw [show ((0 : Nat) : Int) = 0 from rfl]; exact lv_sub hl [2, 3, 4, 1, 0] rfl)
set_option maxRecDepth 100000 in
theorem mM_count (l : Launch) (D : va_G) (cI : ClassId) (h : Nat → Nat) (σ : St) {wc : Nat} {len : Nat → Nat} {sy : Nat → Nat → Nat} {n N : Nat} {cd bg T : Nat → Nat} {m : Nat} {P : Nat → Nat} (hf : Wf wc len sy n N cd bg T m P) (hr0 : MRep wc len sy n N bg T m P σ) :
    GMi l yX1_count cX1_count 1 (some .int) 2 47 D [(cI, .int)] (wM h cI) (adM h) (h 0) [] σ (fun z σ' => z = (sCount m P T N : Int) ∧ σ' = σ) := by
  have hf0 := hf
  have hr00 := hr0
  obtain ⟨hD, hC, hPt⟩ := hf
  obtain ⟨t0, t1, t2, t3, t4, t5, t7, t8⟩ := hr0
  have d1 := hD.1
  have d2 := hD.2.1
  have p1 : m ≤ 6 := hPt.1
  have hN : N ≤ 250 := hC.1
  have hnN : n ≤ N := hC.nN hD
  refine GMi.of (by decide) rfl (Nat.le_of_ble_eq_true rfl) ?_
  intro p e s mi bl me co A ls S hr hlk hw hl
  have S : CallFix p mi co cX1_count 1 s _ lw_all RX1 := S
  have hx := S.1
  have hb := S.2.1
  have hts := S.2.2.2.2
  have hl : lv_has ls 1 [(0, .ref (h 0))] := hl
  refine lv_aload_n hx hb dX1_count_0 rfl (lv_at hl 0 rfl) ?_
  refine r_iconst hx hb dX1_count_1 ?_
  refine r_top (a := 0) (b := ((0 : Nat) : Int)) (rfl) ?_
  refine lv_aload_n hx hb dX1_count_2 rfl (lv_at hl 0 rfl) ?_
  refine gM_0 S hw (v := N) t0 dX1_count_3 ?_
  refine cM_i (As := [.int (iI (((0 : Nat) : Int))), .int (iI (N))]) (rest := []) S hw (mM_between l D cI h σ 0 N hf0 hr00 (by omega) (by omega)) (cwV 2 hts (lw_V q293 q295 qs12 q16 q296) rfl rfl rfl (by decide +kernel) ⟨Nat.le_of_ble_eq_true rfl, Nat.le_of_ble_eq_true rfl⟩) ⟨Nat.le_refl 0, Nat.le_refl 0⟩ rfl hl.1 rfl (Nat.le_of_ble_eq_true rfl) dX1_count_6 (fun z1 σ1 H locs hp1 hw => ?_)
  obtain ⟨hz1, es⟩ := hp1
  rw [es] at hw
  exact G_reti (σ' := σ) (z := z1) hx hb hr hlk hw (⟨by rw [hz1, bt_0]; rfl, rfl⟩) dX1_count_9
set_option maxRecDepth 100000 in
theorem mM_first (l : Launch) (D : va_G) (cI : ClassId) (h : Nat → Nat) (σ : St) {wc : Nat} {len : Nat → Nat} {sy : Nat → Nat → Nat} {n N : Nat} {cd bg T : Nat → Nat} {m : Nat} {P : Nat → Nat} (hf : Wf wc len sy n N cd bg T m P) (hr0 : MRep wc len sy n N bg T m P σ) :
    GMi l yX1_first cX1_first 2 (some .int) 1 23 D [(cI, .int)] (wM h cI) (adM h) (h 0) [] σ (fun z σ' => z = sFirst m P T N ∧ σ' = σ) := by
  have hf0 := hf
  have hr00 := hr0
  obtain ⟨hD, hC, hPt⟩ := hf
  obtain ⟨t0, t1, t2, t3, t4, t5, t7, t8⟩ := hr0
  have d1 := hD.1
  have d2 := hD.2.1
  have p1 : m ≤ 6 := hPt.1
  have hN : N ≤ 250 := hC.1
  have hnN : n ≤ N := hC.nN hD
  refine GMi.of (by decide) rfl (Nat.le_of_ble_eq_true rfl) ?_
  intro p e s mi bl me co A ls S hr hlk hw hl
  have S : CallFix p mi co cX1_first 2 s _ lw_all RX1 := S
  have hx := S.1
  have hb := S.2.1
  have hts := S.2.2.2.2
  have hl : lv_has ls 2 [(0, .ref (h 0))] := hl
  refine r_iconst hx hb dX1_first_0 ?_
  refine lv_istore_n (lv' := [(1, .int (iI (0))), (0, .ref (h 0))]) hx hb dX1_first_1 rfl hl (by decide) rfl (fun ls hl => ?_)
  have loop2 : ∀ (f : Nat) (pp : Nat) (σ1 : St) (H : Heap) (locs : List Loc) (ls : Array Slot), N < pp + f → (pp ≤ N) → (0 < m → ∀ e, e < pp + m → e ≤ N → bst P T e m ≠ m) → (σ1 = σ) → GW D [(cI, .int)] (wM h cI σ1) A s H locs → lv_has ls 2 [(0, .ref (h 0)), (1, .int (iI (pp)))] → W p l e ({ frames := 1, cells := 0, slots := 0, locals := 23 }) s mi (Value.ref (h 0) :: []).toArray bl me co H locs 0 0 (QGi D [(cI, .int)] (wM h cI) A s (Value.ref (h 0) :: []).toArray bl (fun z σ' => z = sFirst m P T N ∧ σ' = σ)) (F0 mi 2 ls []) := by
    intro f
    induction f with
    | zero =>
      intro pp σ1 H locs ls q0 j1 j2 j4
      exact absurd q0 (by omega)
    | succ f ih2 =>
      intro pp σ1 H locs ls q0 j1 j2 j4 hw hl
      rw [j4] at hw
      refine lv_iload_n hx hb dX1_first_2 rfl (lv_at hl 1 rfl) ?_
      refine lv_aload_n hx hb dX1_first_3 rfl (lv_at hl 0 rfl) ?_
      refine gM_0 S hw (v := N) t0 dX1_first_4 ?_
      refine r_icmp_ge (a := pp) (b := N) (tgt := 26) hx hb dX1_first_7 (by decide) (by omega) (by omega) (fun c_7 => ?_) (fun c_7 => ?_)
      · refine r_iconst hx hb dX1_first_26 ?_
        refine G_reti (σ' := σ) (z := (-1)) hx hb hr hlk hw ?_ dX1_first_27
        refine ⟨?_, rfl⟩
        unfold sFirst
        by_cases q : m = 0
        · rw [if_pos (Or.inl q)]
        · rw [if_pos (Or.inr (fs_none (fun e h1 h2 => j2 (by omega) e (by omega) h2)))]
      · refine lv_aload_n hx hb dX1_first_10 rfl (lv_at hl 0 rfl) ?_
        refine lv_iload_n hx hb dX1_first_11 rfl (lv_at hl 1 rfl) ?_
        refine cM_i (As := [.int (iI (pp))]) (rest := []) S hw (mM_at l D cI h σ pp hf0 hr00 (by omega)) (cwV 1 hts (lw_V q297 q299 qs13 q16 q300) rfl rfl rfl (by decide +kernel) ⟨Nat.le_of_ble_eq_true rfl, Nat.le_of_ble_eq_true rfl⟩) ⟨Nat.le_refl 0, Nat.le_refl 0⟩ rfl hl.1 rfl (Nat.le_of_ble_eq_true rfl) dX1_first_12 (fun z1 σ1 H locs hp1 hw => ?_)
        obtain ⟨hz1, es⟩ := hp1
        rw [es] at hw
        refine r_if_eq (a := z1) (tgt := 20) hx hb dX1_first_15 (by decide) (by omega) (fun c_15 => ?_) (fun c_15 => ?_)
        · refine r_iinc (a := pp) (lv' := [(1, .int (iI (pp + 1))), (0, .ref (h 0))]) (k := 1) hx hb dX1_first_20 hl rfl (by decide) rfl (fun ls hl => ?_)
          refine lv_goto (tgt := 2) hx hb dX1_first_23 (by decide) ?_
          have hna : ¬ aA m N P T pp := by
            rcases hz1 with z | z
            · omega
            · exact z.2
          exact ih2 (pp + 1) (σ) _ _ _ (by omega) (by omega) (fun hm e he1 he2 z => by
                by_cases q : e = pp + m
                · exact hna ⟨hm, by omega, by rw [← q]; exact z⟩
                · exact j2 hm e (by omega) he2 z) (rfl) hw (by rw [show ((pp + 1 : Nat) : Int) = (pp : Int) + 1 from by omega]; exact lv_sub hl [1, 0] rfl)
        · refine lv_iload_n hx hb dX1_first_18 rfl (lv_at hl 1 rfl) ?_
          refine G_reti (σ' := σ) (z := pp) hx hb hr hlk hw ?_ dX1_first_19
          have ha : aA m N P T pp := by
            rcases hz1 with z | z
            · exact z.2
            · omega
          refine ⟨?_, rfl⟩
          have h9 := fs_found (r := fun e => bst P T e m) (m := m) (k := N) (e := pp + m) (by have := ha.1; omega) ha.2.1 ha.2.2 (fun i h1 h2 => j2 ha.1 i h2 (by have := ha.2.1; omega))
          unfold sFirst
          have hm := ha.1
          rw [h9, if_neg (by omega)]; omega
  exact loop2 (N + 1) (0) (σ) _ _ _ (by omega) (by omega) (fun _ e he _ z => by have := bst_fle z; omega) (rfl) hw (by rw [show ((0 : Nat) : Int) = 0 from rfl]; exact lv_sub hl [1, 0] rfl)
set_option maxRecDepth 100000 in
theorem mM_last (l : Launch) (D : va_G) (cI : ClassId) (h : Nat → Nat) (σ : St) {wc : Nat} {len : Nat → Nat} {sy : Nat → Nat → Nat} {n N : Nat} {cd bg T : Nat → Nat} {m : Nat} {P : Nat → Nat} (hf : Wf wc len sy n N cd bg T m P) (hr0 : MRep wc len sy n N bg T m P σ) :
    GMi l yX1_last cX1_last 2 (some .int) 1 23 D [(cI, .int)] (wM h cI) (adM h) (h 0) [] σ (fun z σ' => z = sLast m P T N ∧ σ' = σ) := by
  have hf0 := hf
  have hr00 := hr0
  obtain ⟨hD, hC, hPt⟩ := hf
  obtain ⟨t0, t1, t2, t3, t4, t5, t7, t8⟩ := hr0
  have d1 := hD.1
  have d2 := hD.2.1
  have p1 : m ≤ 6 := hPt.1
  have hN : N ≤ 250 := hC.1
  have hnN : n ≤ N := hC.nN hD
  refine GMi.of (by decide) rfl (Nat.le_of_ble_eq_true rfl) ?_
  intro p e s mi bl me co A ls S hr hlk hw hl
  have S : CallFix p mi co cX1_last 2 s _ lw_all RX1 := S
  have hx := S.1
  have hb := S.2.1
  have hts := S.2.2.2.2
  have hl : lv_has ls 2 [(0, .ref (h 0))] := hl
  refine lv_aload_n hx hb dX1_last_0 rfl (lv_at hl 0 rfl) ?_
  refine gM_0 S hw (v := N) t0 dX1_last_1 ?_
  refine r_iconst hx hb dX1_last_4 ?_
  refine r_isub (a := N) (b := 1) hx hb dX1_last_5 ?_
  refine r_top (a := (N - 1)) (b := (N : Int) + -1) (by omega) ?_
  refine lv_istore_n (lv' := [(1, .int (iI ((N : Int) + -1))), (0, .ref (h 0))]) hx hb dX1_last_6 rfl hl (by decide) rfl (fun ls hl => ?_)
  have loop7 : ∀ (f : Nat) (q : Nat) (σ1 : St) (H : Heap) (locs : List Loc) (ls : Array Slot), q < f → (q ≤ N) → (0 < m → ∀ e, q + m ≤ e → e ≤ N → bst P T e m ≠ m) → (σ1 = σ) → GW D [(cI, .int)] (wM h cI σ1) A s H locs → lv_has ls 2 [(0, .ref (h 0)), (1, .int (iI ((q : Int) + -1)))] → W p l e ({ frames := 1, cells := 0, slots := 0, locals := 23 }) s mi (Value.ref (h 0) :: []).toArray bl me co H locs 0 0 (QGi D [(cI, .int)] (wM h cI) A s (Value.ref (h 0) :: []).toArray bl (fun z σ' => z = sLast m P T N ∧ σ' = σ)) (F0 mi 7 ls []) := by
    intro f
    induction f with
    | zero =>
      intro q σ1 H locs ls q0 j1 j2 j4
      exact absurd q0 (by omega)
    | succ f ih7 =>
      intro q σ1 H locs ls q0 j1 j2 j4 hw hl
      rw [j4] at hw
      refine lv_iload_n hx hb dX1_last_7 rfl (lv_at hl 1 rfl) ?_
      refine r_if_lt (a := (q : Int) + -1) (tgt := 27) hx hb dX1_last_8 (by decide) (by omega) (fun c_8 => ?_) (fun c_8 => ?_)
      · refine r_iconst hx hb dX1_last_27 ?_
        refine G_reti (σ' := σ) (z := (-1)) hx hb hr hlk hw ?_ dX1_last_28
        refine ⟨?_, rfl⟩
        unfold sLast
        by_cases q9 : m = 0
        · rw [if_pos (Or.inl q9)]
        · rw [if_pos (Or.inr (la_none (fun e h1 h2 z => by have := bst_fle z; exact j2 (by omega) e (by omega) h2 z)))]
      · refine lv_aload_n hx hb dX1_last_11 rfl (lv_at hl 0 rfl) ?_
        refine lv_iload_n hx hb dX1_last_12 rfl (lv_at hl 1 rfl) ?_
        refine r_top (a := (q : Int) + -1) (b := ((q - 1 : Nat) : Int)) (by omega) ?_
        refine cM_i (As := [.int (iI (((q - 1 : Nat) : Int)))]) (rest := []) S hw (mM_at l D cI h σ (q - 1) hf0 hr00 (by omega)) (cwV 1 hts (lw_V q297 q299 qs13 q16 q300) rfl rfl rfl (by decide +kernel) ⟨Nat.le_of_ble_eq_true rfl, Nat.le_of_ble_eq_true rfl⟩) ⟨Nat.le_refl 0, Nat.le_refl 0⟩ rfl hl.1 rfl (Nat.le_of_ble_eq_true rfl) dX1_last_13 (fun z1 σ1 H locs hp1 hw => ?_)
        obtain ⟨hz1, es⟩ := hp1
        rw [es] at hw
        refine r_if_eq (a := z1) (tgt := 21) hx hb dX1_last_16 (by decide) (by omega) (fun c_16 => ?_) (fun c_16 => ?_)
        · refine r_iinc (a := (q : Int) + -1) (lv' := [(1, .int (iI ((q : Int) + -1 + (-1)))), (0, .ref (h 0))]) (k := 1) hx hb dX1_last_21 hl rfl (by decide) rfl (fun ls hl => ?_)
          refine lv_goto (tgt := 7) hx hb dX1_last_24 (by decide) ?_
          have hna : ¬ aA m N P T (q - 1) := by
            rcases hz1 with z | z
            · omega
            · exact z.2
          exact ih7 (q - 1) (σ) _ _ _ (by omega) (by omega) (fun hm e he1 he2 z => by
                by_cases q9 : e = q - 1 + m
                · exact hna ⟨hm, by omega, by rw [← q9]; exact z⟩
                · exact j2 hm e (by omega) he2 z) (rfl) hw (by rw [show ((q - 1 : Nat) : Int) = (q : Int) + -1 from by omega]; exact lv_sub hl [1, 0] rfl)
        · refine lv_iload_n hx hb dX1_last_19 rfl (lv_at hl 1 rfl) ?_
          refine G_reti (σ' := σ) (z := (q : Int) + -1) hx hb hr hlk hw ?_ dX1_last_20
          have ha : aA m N P T (q - 1) := by
            rcases hz1 with z | z
            · exact z.2
            · omega
          refine ⟨?_, rfl⟩
          have h9 := la_found (r := fun e => bst P T e m) (m := m) (k := N) (e := q - 1 + m) (by have := ha.1; omega) ha.2.1 ha.2.2 (fun i h1 h2 => j2 ha.1 i (by omega) h2)
          unfold sLast
          have hm := ha.1
          rw [h9, if_neg (by omega)]; omega
  exact loop7 (N + 1) (N) (σ) _ _ _ (by omega) (by omega) (fun hm e h1 h2 => absurd h1 (by omega)) (rfl) hw (lv_sub hl [1, 0] rfl)
set_option maxRecDepth 100000 in
theorem mM_tail (l : Launch) (D : va_G) (cI : ClassId) (h : Nat → Nat) (σ : St) {wc : Nat} {len : Nat → Nat} {sy : Nat → Nat → Nat} {n N : Nat} {cd bg T : Nat → Nat} {m : Nat} {P : Nat → Nat} (hf : Wf wc len sy n N cd bg T m P) (hr0 : MRep wc len sy n N bg T m P σ) :
    GMi l yX1_tail cX1_tail 4 (some .int) 0 0 D [(cI, .int)] (wM h cI) (adM h) (h 0) [] σ (fun z σ' => z = (bst P T N m : Int) ∧ σ' = σ) := by
  have hf0 := hf
  have hr00 := hr0
  obtain ⟨hD, hC, hPt⟩ := hf
  obtain ⟨t0, t1, t2, t3, t4, t5, t7, t8⟩ := hr0
  have d1 := hD.1
  have d2 := hD.2.1
  have p1 : m ≤ 6 := hPt.1
  have hN : N ≤ 250 := hC.1
  have hnN : n ≤ N := hC.nN hD
  have hT4 := hC.T4 hD
  refine GMi.of (by decide) rfl (Nat.le_of_ble_eq_true rfl) ?_
  intro p e s mi bl me co A ls S hr hlk hw hl
  have S : CallFix p mi co cX1_tail 4 s _ lw_all RX1 := S
  have hx := S.1
  have hb := S.2.1
  have hts := S.2.2.2.2
  have hl : lv_has ls 4 [(0, .ref (h 0))] := hl
  refine lv_aload_n hx hb dX1_tail_0 rfl (lv_at hl 0 rfl) ?_
  refine gM_7 S hw (v := m) t7 dX1_tail_1 ?_
  refine lv_istore_n (lv' := [(1, .int (iI (m))), (0, .ref (h 0))]) hx hb dX1_tail_4 rfl hl (by decide) rfl (fun ls hl => ?_)
  have loop5 : ∀ (f : Nat) (w : Nat) (σ1 : St) (H : Heap) (locs : List Loc) (ls : Array Slot), w < f → (w ≤ m) → (∀ k, w < k → k ≤ m → ¬ mt P T N k) → (σ1 = σ) → GW D [(cI, .int)] (wM h cI σ1) A s H locs → lv_has ls 4 [(0, .ref (h 0)), (1, .int (iI (w)))] → W p l e ({ frames := 0, cells := 0, slots := 0, locals := 0 }) s mi (Value.ref (h 0) :: []).toArray bl me co H locs 0 0 (QGi D [(cI, .int)] (wM h cI) A s (Value.ref (h 0) :: []).toArray bl (fun z σ' => z = (bst P T N m : Int) ∧ σ' = σ)) (F0 mi 5 ls []) := by
    intro f
    induction f with
    | zero =>
      intro w σ1 H locs ls q0 j1 j2 j4
      exact absurd q0 (by omega)
    | succ f ih5 =>
      intro w σ1 H locs ls q0 j1 j2 j4 hw hl
      rw [j4] at hw
      refine lv_iload_n hx hb dX1_tail_5 rfl (lv_at hl 1 rfl) ?_
      refine r_if_le (a := w) (tgt := 80) hx hb dX1_tail_6 (by decide) (by omega) (fun c_6 => ?_) (fun c_6 => ?_)
      · refine r_iconst hx hb dX1_tail_80 ?_
        exact G_reti (σ' := σ) (z := 0) hx hb hr hlk hw (⟨by rw [bst_eq (P := P) (T := T) (e := N) (m := m) (k := 0) (by omega) (mt_0 _ _ _) (fun i h1 h2 => j2 i (by omega) h2)]; rfl, rfl⟩) dX1_tail_81
      · refine lv_iload_n hx hb dX1_tail_9 rfl (lv_at hl 1 rfl) ?_
        refine lv_aload_n hx hb dX1_tail_10 rfl (lv_at hl 0 rfl) ?_
        refine gM_0 S hw (v := N) t0 dX1_tail_11 ?_
        refine r_icmp_gt (a := w) (b := N) (tgt := 21) hx hb dX1_tail_14 (by decide) (by omega) (by omega) (fun c_14 => ?_) (fun c_14 => ?_)
        · refine r_iconst hx hb dX1_tail_21 ?_
          refine lv_istore_n (lv' := [(2, .int (iI (0))), (0, .ref (h 0)), (1, .int (iI (w)))]) hx hb dX1_tail_22 rfl hl (by decide) rfl (fun ls hl => ?_)
          refine r_iconst hx hb dX1_tail_23 ?_
          refine lv_istore_n (lv' := [(3, .int (iI (0))), (2, .int (iI (0))), (0, .ref (h 0)), (1, .int (iI (w)))]) hx hb dX1_tail_24 rfl hl (by decide) rfl (fun ls hl => ?_)
          have loop25 : ∀ (f : Nat) (k : Nat) (ok : Nat) (σ2 : St) (H : Heap) (locs : List Loc) (ls : Array Slot), w < k + f → (k ≤ w) → ((ok = 1 ∧ w ≤ N ∧ ∀ i, i < k → T (N - w + i) = P i) ∨ (ok = 0 ∧ ¬ mt P T N w)) → (σ2 = σ) → GW D [(cI, .int)] (wM h cI σ2) A s H locs → lv_has ls 4 [(0, .ref (h 0)), (1, .int (iI (w))), (2, .int (iI (ok))), (3, .int (iI (k)))] → W p l e ({ frames := 0, cells := 0, slots := 0, locals := 0 }) s mi (Value.ref (h 0) :: []).toArray bl me co H locs 0 0 (QGi D [(cI, .int)] (wM h cI) A s (Value.ref (h 0) :: []).toArray bl (fun z σ' => z = (bst P T N m : Int) ∧ σ' = σ)) (F0 mi 25 ls []) := by
            intro f
            induction f with
            | zero =>
              intro k ok σ2 H locs ls q0 k1 k2 k3
              exact absurd q0 (by omega)
            | succ f ih25 =>
              intro k ok σ2 H locs ls q0 k1 k2 k3 hw hl
              rw [k3] at hw
              have ok01 : ok = 0 ∨ ok = 1 := by omega
              refine lv_iload_n hx hb dX1_tail_25 rfl (lv_at hl 3 rfl) ?_
              refine lv_iload_n hx hb dX1_tail_26 rfl (lv_at hl 1 rfl) ?_
              refine r_icmp_ge (a := k) (b := w) (tgt := 68) hx hb dX1_tail_27 (by decide) (by omega) (by omega) (fun c_27 => ?_) (fun c_27 => ?_)
              · refine lv_iload_n hx hb dX1_tail_68 rfl (lv_at hl 2 rfl) ?_
                refine r_if_eq (a := ok) (tgt := 74) hx hb dX1_tail_69 (by decide) (by omega) (fun c_69 => ?_) (fun c_69 => ?_)
                · refine r_iinc (a := w) (lv' := [(1, .int (iI (w + (-1)))), (0, .ref (h 0)), (2, .int (iI (ok))), (3, .int (iI (k)))]) (k := 1) hx hb dX1_tail_74 hl rfl (by decide) rfl (fun ls hl => ?_)
                  refine lv_goto (tgt := 5) hx hb dX1_tail_77 (by decide) ?_
                  exact ih5 (w - 1) (σ) _ _ _ (by omega) (by omega) (fun k9 h1 h2 => by
                        by_cases q : k9 = w
                        · rw [q]
                          rcases k2 with z | z
                          · omega
                          · exact z.2
                        · exact j2 k9 (by omega) h2) (rfl) hw (by rw [show ((w - 1 : Nat) : Int) = (w : Int) + -1 from by omega]; exact lv_sub hl [1, 0] rfl)
                · refine lv_iload_n hx hb dX1_tail_72 rfl (lv_at hl 1 rfl) ?_
                  refine G_reti (σ' := σ) (z := w) hx hb hr hlk hw ?_ dX1_tail_73
                  refine ⟨?_, rfl⟩
                  have hk : k = w := by omega
                  rcases k2 with z | z
                  · rw [bst_eq (P := P) (T := T) (e := N) j1 ⟨z.2.1, fun i hi => z.2.2 i (by omega)⟩ j2]
                  · omega
              · refine lv_iload_n hx hb dX1_tail_30 rfl (lv_at hl 2 rfl) ?_
                refine r_if_eq (a := ok) (tgt := 68) hx hb dX1_tail_31 (by decide) (by omega) (fun c_31 => ?_) (fun c_31 => ?_)
                · refine lv_iload_n hx hb dX1_tail_68 rfl (lv_at hl 2 rfl) ?_
                  refine r_if_eq (a := ok) (tgt := 74) hx hb dX1_tail_69 (by decide) (by omega) (fun c_69 => ?_) (fun c_69 => ?_)
                  · refine r_iinc (a := w) (lv' := [(1, .int (iI (w + (-1)))), (0, .ref (h 0)), (2, .int (iI (ok))), (3, .int (iI (k)))]) (k := 1) hx hb dX1_tail_74 hl rfl (by decide) rfl (fun ls hl => ?_)
                    refine lv_goto (tgt := 5) hx hb dX1_tail_77 (by decide) ?_
                    exact ih5 (w - 1) (σ) _ _ _ (by omega) (by omega) (fun k9 h1 h2 => by
                          by_cases q : k9 = w
                          · rw [q]
                            rcases k2 with z | z
                            · omega
                            · exact z.2
                          · exact j2 k9 (by omega) h2) (rfl) hw (by rw [show ((w - 1 : Nat) : Int) = (w : Int) + -1 from by omega]; exact lv_sub hl [1, 0] rfl)
                  · refine lv_iload_n hx hb dX1_tail_72 rfl (lv_at hl 1 rfl) ?_
                    refine G_reti (σ' := σ) (z := w) hx hb hr hlk hw ?_ dX1_tail_73
                    refine ⟨?_, rfl⟩
                    have hk : k = w := by omega
                    rcases k2 with z | z
                    · rw [bst_eq (P := P) (T := T) (e := N) j1 ⟨z.2.1, fun i hi => z.2.2 i (by omega)⟩ j2]
                    · omega
                · have jj : ok = 1 ∧ w ≤ N ∧ ∀ i, i < k → T (N - w + i) = P i := by
                    rcases k2 with z | z
                    · exact z
                    · omega
                  have wN := jj.2.1
                  have b4 := hT4 (N - w + k) (by omega)
                  have b5 := hPt.2 k (by omega)
                  refine lv_aload_n hx hb dX1_tail_34 rfl (lv_at hl 0 rfl) ?_
                  refine gM_1 S hw dX1_tail_35 ?_
                  refine lv_aload_n hx hb dX1_tail_38 rfl (lv_at hl 0 rfl) ?_
                  refine gM_0 S hw (v := N) t0 dX1_tail_39 ?_
                  refine lv_iload_n hx hb dX1_tail_42 rfl (lv_at hl 1 rfl) ?_
                  refine r_isub (a := N) (b := w) hx hb dX1_tail_43 ?_
                  refine lv_iload_n hx hb dX1_tail_44 rfl (lv_at hl 3 rfl) ?_
                  refine r_iadd (a := (N - w)) (b := k) hx hb dX1_tail_45 ?_
                  refine aM_1 hx hb hw (N - w + k) (z := ((N - w) + k)) (v := T (N - w + k)) (by omega) (by omega) (t1 _ (by omega)) dX1_tail_46 ?_
                  refine lv_aload_n hx hb dX1_tail_47 rfl (lv_at hl 0 rfl) ?_
                  refine gM_8 S hw dX1_tail_48 ?_
                  refine lv_iload_n hx hb dX1_tail_51 rfl (lv_at hl 3 rfl) ?_
                  refine aM_8 hx hb hw (k) (z := k) (v := P k) (by omega) (by omega) (t8 k (by omega)) dX1_tail_52 ?_
                  refine r_icmp_ne (a := T (N - w + k)) (b := P k) (tgt := 60) hx hb dX1_tail_53 (by decide) (by omega) (by omega) (fun c_53 => ?_) (fun c_53 => ?_)
                  · refine r_iconst hx hb dX1_tail_60 ?_
                    refine lv_istore_n (lv' := [(2, .int (iI (0))), (0, .ref (h 0)), (1, .int (iI (w))), (3, .int (iI (k)))]) hx hb dX1_tail_61 rfl hl (by decide) rfl (fun ls hl => ?_)
                    refine r_iinc (a := k) (lv' := [(3, .int (iI (k + 1))), (2, .int (iI (0))), (0, .ref (h 0)), (1, .int (iI (w)))]) (k := 3) hx hb dX1_tail_62 hl rfl (by decide) rfl (fun ls hl => ?_)
                    refine lv_goto (tgt := 25) hx hb dX1_tail_65 (by decide) ?_
                    exact ih25 (k + 1) (0) (σ) _ _ _ (by omega) (by omega) (Or.inr ⟨rfl, fun z => by
                          have := z.2 k (by omega)
                          omega⟩) (rfl) hw (by rw [show ((k + 1 : Nat) : Int) = (k : Int) + 1 from by omega, show ((0 : Nat) : Int) = 0 from rfl]; exact lv_sub hl [2, 3, 1, 0] rfl)
                  · refine r_iconst hx hb dX1_tail_56 ?_
                    refine lv_goto (tgt := 61) hx hb dX1_tail_57 (by decide) ?_
                    refine lv_istore_n (lv' := [(2, .int (iI (1))), (0, .ref (h 0)), (1, .int (iI (w))), (3, .int (iI (k)))]) hx hb dX1_tail_61 rfl hl (by decide) rfl (fun ls hl => ?_)
                    refine r_iinc (a := k) (lv' := [(3, .int (iI (k + 1))), (2, .int (iI (1))), (0, .ref (h 0)), (1, .int (iI (w)))]) (k := 3) hx hb dX1_tail_62 hl rfl (by decide) rfl (fun ls hl => ?_)
                    refine lv_goto (tgt := 25) hx hb dX1_tail_65 (by decide) ?_
                    exact ih25 (k + 1) (1) (σ) _ _ _ (by omega) (by omega) (Or.inl ⟨rfl, by omega, fun i hi => by
                          by_cases q : i = k
                          · rw [q]; omega
                          · exact jj.2.2 i (by omega)⟩) (rfl) hw (by rw [show ((k + 1 : Nat) : Int) = (k : Int) + 1 from by omega, show ((1 : Nat) : Int) = 1 from rfl]; exact lv_sub hl [2, 3, 1, 0] rfl)
          exact loop25 (w + 1) (0) (0) (σ) _ _ _ (by omega) (by omega) (Or.inr ⟨rfl, fun z => by have := z.1; omega⟩) (rfl) hw (by rw [show ((0 : Nat) : Int) = 0 from rfl]; exact lv_sub hl [2, 3, 1, 0] rfl)
        · refine r_iconst hx hb dX1_tail_17 ?_
          refine lv_goto (tgt := 22) hx hb dX1_tail_18 (by decide) ?_
          refine lv_istore_n (lv' := [(2, .int (iI (1))), (0, .ref (h 0)), (1, .int (iI (w)))]) hx hb dX1_tail_22 rfl hl (by decide) rfl (fun ls hl => ?_)
          refine r_iconst hx hb dX1_tail_23 ?_
          refine lv_istore_n (lv' := [(3, .int (iI (0))), (2, .int (iI (1))), (0, .ref (h 0)), (1, .int (iI (w)))]) hx hb dX1_tail_24 rfl hl (by decide) rfl (fun ls hl => ?_)
          have loop25 : ∀ (f : Nat) (k : Nat) (ok : Nat) (σ2 : St) (H : Heap) (locs : List Loc) (ls : Array Slot), w < k + f → (k ≤ w) → ((ok = 1 ∧ w ≤ N ∧ ∀ i, i < k → T (N - w + i) = P i) ∨ (ok = 0 ∧ ¬ mt P T N w)) → (σ2 = σ) → GW D [(cI, .int)] (wM h cI σ2) A s H locs → lv_has ls 4 [(0, .ref (h 0)), (1, .int (iI (w))), (2, .int (iI (ok))), (3, .int (iI (k)))] → W p l e ({ frames := 0, cells := 0, slots := 0, locals := 0 }) s mi (Value.ref (h 0) :: []).toArray bl me co H locs 0 0 (QGi D [(cI, .int)] (wM h cI) A s (Value.ref (h 0) :: []).toArray bl (fun z σ' => z = (bst P T N m : Int) ∧ σ' = σ)) (F0 mi 25 ls []) := by
            intro f
            induction f with
            | zero =>
              intro k ok σ2 H locs ls q0 k1 k2 k3
              exact absurd q0 (by omega)
            | succ f ih25 =>
              intro k ok σ2 H locs ls q0 k1 k2 k3 hw hl
              rw [k3] at hw
              have ok01 : ok = 0 ∨ ok = 1 := by omega
              refine lv_iload_n hx hb dX1_tail_25 rfl (lv_at hl 3 rfl) ?_
              refine lv_iload_n hx hb dX1_tail_26 rfl (lv_at hl 1 rfl) ?_
              refine r_icmp_ge (a := k) (b := w) (tgt := 68) hx hb dX1_tail_27 (by decide) (by omega) (by omega) (fun c_27 => ?_) (fun c_27 => ?_)
              · refine lv_iload_n hx hb dX1_tail_68 rfl (lv_at hl 2 rfl) ?_
                refine r_if_eq (a := ok) (tgt := 74) hx hb dX1_tail_69 (by decide) (by omega) (fun c_69 => ?_) (fun c_69 => ?_)
                · refine r_iinc (a := w) (lv' := [(1, .int (iI (w + (-1)))), (0, .ref (h 0)), (2, .int (iI (ok))), (3, .int (iI (k)))]) (k := 1) hx hb dX1_tail_74 hl rfl (by decide) rfl (fun ls hl => ?_)
                  refine lv_goto (tgt := 5) hx hb dX1_tail_77 (by decide) ?_
                  exact ih5 (w - 1) (σ) _ _ _ (by omega) (by omega) (fun k9 h1 h2 => by
                        by_cases q : k9 = w
                        · rw [q]
                          rcases k2 with z | z
                          · omega
                          · exact z.2
                        · exact j2 k9 (by omega) h2) (rfl) hw (by rw [show ((w - 1 : Nat) : Int) = (w : Int) + -1 from by omega]; exact lv_sub hl [1, 0] rfl)
                · refine lv_iload_n hx hb dX1_tail_72 rfl (lv_at hl 1 rfl) ?_
                  refine G_reti (σ' := σ) (z := w) hx hb hr hlk hw ?_ dX1_tail_73
                  refine ⟨?_, rfl⟩
                  have hk : k = w := by omega
                  rcases k2 with z | z
                  · rw [bst_eq (P := P) (T := T) (e := N) j1 ⟨z.2.1, fun i hi => z.2.2 i (by omega)⟩ j2]
                  · omega
              · refine lv_iload_n hx hb dX1_tail_30 rfl (lv_at hl 2 rfl) ?_
                refine r_if_eq (a := ok) (tgt := 68) hx hb dX1_tail_31 (by decide) (by omega) (fun c_31 => ?_) (fun c_31 => ?_)
                · refine lv_iload_n hx hb dX1_tail_68 rfl (lv_at hl 2 rfl) ?_
                  refine r_if_eq (a := ok) (tgt := 74) hx hb dX1_tail_69 (by decide) (by omega) (fun c_69 => ?_) (fun c_69 => ?_)
                  · refine r_iinc (a := w) (lv' := [(1, .int (iI (w + (-1)))), (0, .ref (h 0)), (2, .int (iI (ok))), (3, .int (iI (k)))]) (k := 1) hx hb dX1_tail_74 hl rfl (by decide) rfl (fun ls hl => ?_)
                    refine lv_goto (tgt := 5) hx hb dX1_tail_77 (by decide) ?_
                    exact ih5 (w - 1) (σ) _ _ _ (by omega) (by omega) (fun k9 h1 h2 => by
                          by_cases q : k9 = w
                          · rw [q]
                            rcases k2 with z | z
                            · omega
                            · exact z.2
                          · exact j2 k9 (by omega) h2) (rfl) hw (by rw [show ((w - 1 : Nat) : Int) = (w : Int) + -1 from by omega]; exact lv_sub hl [1, 0] rfl)
                  · refine lv_iload_n hx hb dX1_tail_72 rfl (lv_at hl 1 rfl) ?_
                    refine G_reti (σ' := σ) (z := w) hx hb hr hlk hw ?_ dX1_tail_73
                    refine ⟨?_, rfl⟩
                    have hk : k = w := by omega
                    rcases k2 with z | z
                    · rw [bst_eq (P := P) (T := T) (e := N) j1 ⟨z.2.1, fun i hi => z.2.2 i (by omega)⟩ j2]
                    · omega
                · have jj : ok = 1 ∧ w ≤ N ∧ ∀ i, i < k → T (N - w + i) = P i := by
                    rcases k2 with z | z
                    · exact z
                    · omega
                  have wN := jj.2.1
                  have b4 := hT4 (N - w + k) (by omega)
                  have b5 := hPt.2 k (by omega)
                  refine lv_aload_n hx hb dX1_tail_34 rfl (lv_at hl 0 rfl) ?_
                  refine gM_1 S hw dX1_tail_35 ?_
                  refine lv_aload_n hx hb dX1_tail_38 rfl (lv_at hl 0 rfl) ?_
                  refine gM_0 S hw (v := N) t0 dX1_tail_39 ?_
                  refine lv_iload_n hx hb dX1_tail_42 rfl (lv_at hl 1 rfl) ?_
                  refine r_isub (a := N) (b := w) hx hb dX1_tail_43 ?_
                  refine lv_iload_n hx hb dX1_tail_44 rfl (lv_at hl 3 rfl) ?_
                  refine r_iadd (a := (N - w)) (b := k) hx hb dX1_tail_45 ?_
                  refine aM_1 hx hb hw (N - w + k) (z := ((N - w) + k)) (v := T (N - w + k)) (by omega) (by omega) (t1 _ (by omega)) dX1_tail_46 ?_
                  refine lv_aload_n hx hb dX1_tail_47 rfl (lv_at hl 0 rfl) ?_
                  refine gM_8 S hw dX1_tail_48 ?_
                  refine lv_iload_n hx hb dX1_tail_51 rfl (lv_at hl 3 rfl) ?_
                  refine aM_8 hx hb hw (k) (z := k) (v := P k) (by omega) (by omega) (t8 k (by omega)) dX1_tail_52 ?_
                  refine r_icmp_ne (a := T (N - w + k)) (b := P k) (tgt := 60) hx hb dX1_tail_53 (by decide) (by omega) (by omega) (fun c_53 => ?_) (fun c_53 => ?_)
                  · refine r_iconst hx hb dX1_tail_60 ?_
                    refine lv_istore_n (lv' := [(2, .int (iI (0))), (0, .ref (h 0)), (1, .int (iI (w))), (3, .int (iI (k)))]) hx hb dX1_tail_61 rfl hl (by decide) rfl (fun ls hl => ?_)
                    refine r_iinc (a := k) (lv' := [(3, .int (iI (k + 1))), (2, .int (iI (0))), (0, .ref (h 0)), (1, .int (iI (w)))]) (k := 3) hx hb dX1_tail_62 hl rfl (by decide) rfl (fun ls hl => ?_)
                    refine lv_goto (tgt := 25) hx hb dX1_tail_65 (by decide) ?_
                    exact ih25 (k + 1) (0) (σ) _ _ _ (by omega) (by omega) (Or.inr ⟨rfl, fun z => by
                          have := z.2 k (by omega)
                          omega⟩) (rfl) hw (by rw [show ((k + 1 : Nat) : Int) = (k : Int) + 1 from by omega, show ((0 : Nat) : Int) = 0 from rfl]; exact lv_sub hl [2, 3, 1, 0] rfl)
                  · refine r_iconst hx hb dX1_tail_56 ?_
                    refine lv_goto (tgt := 61) hx hb dX1_tail_57 (by decide) ?_
                    refine lv_istore_n (lv' := [(2, .int (iI (1))), (0, .ref (h 0)), (1, .int (iI (w))), (3, .int (iI (k)))]) hx hb dX1_tail_61 rfl hl (by decide) rfl (fun ls hl => ?_)
                    refine r_iinc (a := k) (lv' := [(3, .int (iI (k + 1))), (2, .int (iI (1))), (0, .ref (h 0)), (1, .int (iI (w)))]) (k := 3) hx hb dX1_tail_62 hl rfl (by decide) rfl (fun ls hl => ?_)
                    refine lv_goto (tgt := 25) hx hb dX1_tail_65 (by decide) ?_
                    exact ih25 (k + 1) (1) (σ) _ _ _ (by omega) (by omega) (Or.inl ⟨rfl, by omega, fun i hi => by
                          by_cases q : i = k
                          · rw [q]; omega
                          · exact jj.2.2 i (by omega)⟩) (rfl) hw (by rw [show ((k + 1 : Nat) : Int) = (k : Int) + 1 from by omega, show ((1 : Nat) : Int) = 1 from rfl]; exact lv_sub hl [2, 3, 1, 0] rfl)
          exact loop25 (w + 1) (0) (1) (σ) _ _ _ (by omega) (by omega) (Or.inl ⟨rfl, by omega, fun i hi => absurd hi (by omega)⟩) (rfl) hw (by rw [show ((0 : Nat) : Int) = 0 from rfl, show ((1 : Nat) : Int) = 1 from rfl]; exact lv_sub hl [2, 3, 1, 0] rfl)
  exact loop5 (m + 1) (m) (σ) _ _ _ (by omega) (by omega) (fun k h1 h2 => absurd h1 (by omega)) (rfl) hw (lv_sub hl [1, 0] rfl)
theorem sw_step {m k : Nat} {f : Nat → Nat} : ((if m = 0 then 0 else sw f k : Nat) : Int) + ((if m = 0 then 0 else f k : Nat) : Int) = ((if m = 0 then 0 else sw f (k + 1) : Nat) : Int) := by
  by_cases q : m = 0
  · rw [if_pos q, if_pos q, if_pos q]; rfl
  · rw [if_neg q, if_neg q, if_neg q]; exact (Int.natCast_add _ _).symm
set_option maxRecDepth 100000 in
theorem mM_within (l : Launch) (D : va_G) (cI : ClassId) (h : Nat → Nat) (σ : St) {wc : Nat} {len : Nat → Nat} {sy : Nat → Nat → Nat} {n N : Nat} {cd bg T : Nat → Nat} {m : Nat} {P : Nat → Nat} (hf : Wf wc len sy n N cd bg T m P) (hr0 : MRep wc len sy n N bg T m P σ) :
    GMi l yX1_within cX1_within 3 (some .int) 2 47 D [(cI, .int)] (wM h cI) (adM h) (h 0) [] σ (fun z σ' => z = (sWithin len sy n cd m P : Int) ∧ σ' = σ) := by
  have hf0 := hf
  have hr00 := hr0
  obtain ⟨hD, hC, hPt⟩ := hf
  obtain ⟨t0, t1, t2, t3, t4, t5, t7, t8⟩ := hr0
  have d1 := hD.1
  have d2 := hD.2.1
  have p1 : m ≤ 6 := hPt.1
  have hN : N ≤ 250 := hC.1
  have hnN : n ≤ N := hC.nN hD
  refine GMi.of (by decide) rfl (Nat.le_of_ble_eq_true rfl) ?_
  intro p e s mi bl me co A ls S hr hlk hw hl
  have S : CallFix p mi co cX1_within 3 s _ lw_all RX1 := S
  have hx := S.1
  have hb := S.2.1
  have hts := S.2.2.2.2
  have hl : lv_has ls 3 [(0, .ref (h 0))] := hl
  refine r_iconst hx hb dX1_within_0 ?_
  refine lv_istore_n (lv' := [(1, .int (iI (0))), (0, .ref (h 0))]) hx hb dX1_within_1 rfl hl (by decide) rfl (fun ls hl => ?_)
  refine r_iconst hx hb dX1_within_2 ?_
  refine lv_istore_n (lv' := [(2, .int (iI (0))), (1, .int (iI (0))), (0, .ref (h 0))]) hx hb dX1_within_3 rfl hl (by decide) rfl (fun ls hl => ?_)
  have loop4 : ∀ (f : Nat) (k : Nat) (σ1 : St) (H : Heap) (locs : List Loc) (ls : Array Slot), n < k + f → (k ≤ n) → (σ1 = σ) → GW D [(cI, .int)] (wM h cI σ1) A s H locs → lv_has ls 3 [(0, .ref (h 0)), (1, .int (iI ((if m = 0 then 0 else sw (fun k => sIn len sy m P (cd k)) k : Nat)))), (2, .int (iI (k)))] → W p l e ({ frames := 2, cells := 0, slots := 0, locals := 47 }) s mi (Value.ref (h 0) :: []).toArray bl me co H locs 0 0 (QGi D [(cI, .int)] (wM h cI) A s (Value.ref (h 0) :: []).toArray bl (fun z σ' => z = (sWithin len sy n cd m P : Int) ∧ σ' = σ)) (F0 mi 4 ls []) := by
    intro f
    induction f with
    | zero =>
      intro k σ1 H locs ls q0 j1 j4
      exact absurd q0 (by omega)
    | succ f ih4 =>
      intro k σ1 H locs ls q0 j1 j4 hw hl
      rw [j4] at hw
      refine lv_iload_n hx hb dX1_within_4 rfl (lv_at hl 2 rfl) ?_
      refine lv_aload_n hx hb dX1_within_5 rfl (lv_at hl 0 rfl) ?_
      refine gM_2 S hw (v := n) t2 dX1_within_6 ?_
      refine r_icmp_ge (a := k) (b := n) (tgt := 39) hx hb dX1_within_9 (by decide) (by omega) (by omega) (fun c_9 => ?_) (fun c_9 => ?_)
      · refine lv_iload_n hx hb dX1_within_39 rfl (lv_at hl 1 rfl) ?_
        exact G_reti (σ' := σ) (z := (if m = 0 then 0 else sw (fun k => sIn len sy m P (cd k)) k : Nat)) hx hb hr hlk hw (⟨by rw [show k = n by omega]; rfl, rfl⟩) dX1_within_40
      · obtain ⟨c1, c2, c3⟩ := hC.2.2.2 k (by omega)
        have b1 := hC.bgN hD (k + 1) (by omega)
        refine lv_iload_n hx hb dX1_within_12 rfl (lv_at hl 1 rfl) ?_
        refine lv_aload_n hx hb dX1_within_13 rfl (lv_at hl 0 rfl) ?_
        refine lv_aload_n hx hb dX1_within_14 rfl (lv_at hl 0 rfl) ?_
        refine gM_3 S hw dX1_within_15 ?_
        refine lv_iload_n hx hb dX1_within_18 rfl (lv_at hl 2 rfl) ?_
        refine aM_3 hx hb hw (k) (z := k) (v := bg k) (by omega) (by omega) (t3 k (by omega)) dX1_within_19 ?_
        refine lv_aload_n hx hb dX1_within_20 rfl (lv_at hl 0 rfl) ?_
        refine gM_3 S hw dX1_within_21 ?_
        refine lv_iload_n hx hb dX1_within_24 rfl (lv_at hl 2 rfl) ?_
        refine r_iconst hx hb dX1_within_25 ?_
        refine r_iadd (a := k) (b := 1) hx hb dX1_within_26 ?_
        refine aM_3 hx hb hw (k + 1) (z := (k + 1)) (v := bg (k + 1)) (by omega) (by omega) (t3 (k + 1) (by omega)) dX1_within_27 ?_
        refine cM_i (As := [.int (iI (bg k)), .int (iI (bg (k + 1)))]) (rest := [.int (iI ((if m = 0 then 0 else sw (fun k => sIn len sy m P (cd k)) k : Nat)))]) S hw (mM_between l D cI h σ (bg k) (bg (k + 1)) hf0 hr00 (by omega) (by omega)) (cwV 2 hts (lw_V q293 q295 qs12 q16 q296) rfl rfl rfl (by decide +kernel) ⟨Nat.le_of_ble_eq_true rfl, Nat.le_of_ble_eq_true rfl⟩) ⟨Nat.le_refl 0, Nat.le_refl 0⟩ rfl hl.1 rfl (Nat.le_of_ble_eq_true rfl) dX1_within_28 (fun z1 σ1 H locs hp1 hw => ?_)
        obtain ⟨hz1, es⟩ := hp1
        rw [es] at hw
        rw [c2, bt_word c3] at hz1
        refine r_iadd (a := (if m = 0 then 0 else sw (fun k => sIn len sy m P (cd k)) k : Nat)) (b := z1) hx hb dX1_within_31 ?_
        refine r_top (a := ((if m = 0 then 0 else sw (fun k => sIn len sy m P (cd k)) k : Nat) + z1)) (b := ((if m = 0 then 0 else sw (fun k => sIn len sy m P (cd k)) (k + 1) : Nat) : Int)) (by rw [hz1]; exact sw_step) ?_
        refine lv_istore_n (lv' := [(1, .int (iI (((if m = 0 then 0 else sw (fun k => sIn len sy m P (cd k)) (k + 1) : Nat) : Int)))), (0, .ref (h 0)), (2, .int (iI (k)))]) hx hb dX1_within_32 rfl hl (by decide) rfl (fun ls hl => ?_)
        refine r_iinc (a := k) (lv' := [(2, .int (iI (k + 1))), (1, .int (iI (((if m = 0 then 0 else sw (fun k => sIn len sy m P (cd k)) (k + 1) : Nat) : Int)))), (0, .ref (h 0))]) (k := 2) hx hb dX1_within_33 hl rfl (by decide) rfl (fun ls hl => ?_)
        refine lv_goto (tgt := 4) hx hb dX1_within_36 (by decide) ?_
        exact ih4 (k + 1) (σ) _ _ _ (by omega) (by omega) (rfl) hw (by rw [show ((k + 1 : Nat) : Int) = (k : Int) + 1 from by omega]; exact lv_sub hl [2, 1, 0] rfl)
  exact loop4 (n + 1) (0) (σ) _ _ _ (by omega) (by omega) (rfl) hw (by rw [show ((if m = 0 then 0 else sw (fun k => sIn len sy m P (cd k)) 0 : Nat) : Int) = 0 from by split <;> rfl, show ((0 : Nat) : Int) = 0 from rfl]; exact lv_sub hl [2, 1, 0] rfl)
set_option maxRecDepth 100000 in
theorem mM_endingIn (l : Launch) (D : va_G) (cI : ClassId) (h : Nat → Nat) (σ : St) {wc : Nat} {len : Nat → Nat} {sy : Nat → Nat → Nat} {n N : Nat} {cd bg T : Nat → Nat} {m : Nat} {P : Nat → Nat} (x : Int) (hf : Wf wc len sy n N cd bg T m P) (hr0 : MRep wc len sy n N bg T m P σ) (bx : -2147483648 ≤ x ∧ x < 2147483648) :
    GMi l yX1_endingIn cX1_endingIn 2 (some .int) 2 47 D [(cI, .int)] (wM h cI) (adM h) (h 0) [.int (iI (x))] σ (fun z σ' => ((0 ≤ x ∧ x < n ∧ z = (sEnd len sy cd bg T m P x.toNat : Int)) ∨ (¬ (0 ≤ x ∧ x < n) ∧ z = 0)) ∧ σ' = σ) := by
  have hf0 := hf
  have hr00 := hr0
  obtain ⟨hD, hC, hPt⟩ := hf
  obtain ⟨t0, t1, t2, t3, t4, t5, t7, t8⟩ := hr0
  have d1 := hD.1
  have d2 := hD.2.1
  have p1 : m ≤ 6 := hPt.1
  have hN : N ≤ 250 := hC.1
  have hnN : n ≤ N := hC.nN hD
  refine GMi.of (by decide) rfl (Nat.le_of_ble_eq_true rfl) ?_
  intro p e s mi bl me co A ls S hr hlk hw hl
  have S : CallFix p mi co cX1_endingIn 2 s _ lw_all RX1 := S
  have hx := S.1
  have hb := S.2.1
  have hts := S.2.2.2.2
  have hl : lv_has ls 2 [(0, .ref (h 0)), (1, .int (iI (x)))] := hl
  refine lv_iload_n hx hb dX1_endingIn_0 rfl (lv_at hl 1 rfl) ?_
  refine r_if_lt (a := x) (tgt := 12) hx hb dX1_endingIn_1 (by decide) (by omega) (fun c_1 => ?_) (fun c_1 => ?_)
  · refine r_iconst hx hb dX1_endingIn_12 ?_
    exact G_reti (σ' := σ) (z := 0) hx hb hr hlk hw (⟨Or.inr ⟨by omega, rfl⟩, rfl⟩) dX1_endingIn_13
  · refine lv_iload_n hx hb dX1_endingIn_4 rfl (lv_at hl 1 rfl) ?_
    refine lv_aload_n hx hb dX1_endingIn_5 rfl (lv_at hl 0 rfl) ?_
    refine gM_2 S hw (v := n) t2 dX1_endingIn_6 ?_
    refine r_icmp_lt (a := x) (b := n) (tgt := 14) hx hb dX1_endingIn_9 (by decide) (by omega) (by omega) (fun c_9 => ?_) (fun c_9 => ?_)
    · have x0 : 0 ≤ x := by omega
      have xn : x < n := by omega
      obtain ⟨c1, c2, c3⟩ := hC.2.2.2 x.toNat (by omega)
      have b1 := hC.bgN hD (x.toNat + 1) (by omega)
      refine lv_aload_n hx hb dX1_endingIn_14 rfl (lv_at hl 0 rfl) ?_
      refine r_iconst hx hb dX1_endingIn_15 ?_
      refine r_top (a := 0) (b := ((0 : Nat) : Int)) (rfl) ?_
      refine lv_aload_n hx hb dX1_endingIn_16 rfl (lv_at hl 0 rfl) ?_
      refine gM_3 S hw dX1_endingIn_17 ?_
      refine lv_iload_n hx hb dX1_endingIn_20 rfl (lv_at hl 1 rfl) ?_
      refine r_iconst hx hb dX1_endingIn_21 ?_
      refine r_iadd (a := x) (b := 1) hx hb dX1_endingIn_22 ?_
      refine aM_3 hx hb hw (x.toNat + 1) (z := (x + 1)) (v := bg (x.toNat + 1)) (by omega) (by omega) (t3 _ (by omega)) dX1_endingIn_23 ?_
      refine cM_i (As := [.int (iI (((0 : Nat) : Int))), .int (iI (bg (x.toNat + 1)))]) (rest := []) S hw (mM_between l D cI h σ 0 (bg (x.toNat + 1)) hf0 hr00 (by omega) (by omega)) (cwV 2 hts (lw_V q293 q295 qs12 q16 q296) rfl rfl rfl (by decide +kernel) ⟨Nat.le_of_ble_eq_true rfl, Nat.le_of_ble_eq_true rfl⟩) ⟨Nat.le_refl 0, Nat.le_refl 0⟩ rfl hl.1 rfl (Nat.le_of_ble_eq_true rfl) dX1_endingIn_24 (fun z1 σ1 H locs hp1 hw => ?_)
      obtain ⟨hz1, es⟩ := hp1
      rw [es] at hw
      refine lv_aload_n hx hb dX1_endingIn_27 rfl (lv_at hl 0 rfl) ?_
      refine r_iconst hx hb dX1_endingIn_28 ?_
      refine r_top (a := 0) (b := ((0 : Nat) : Int)) (rfl) ?_
      refine lv_aload_n hx hb dX1_endingIn_29 rfl (lv_at hl 0 rfl) ?_
      refine gM_3 S hw dX1_endingIn_30 ?_
      refine lv_iload_n hx hb dX1_endingIn_33 rfl (lv_at hl 1 rfl) ?_
      refine aM_3 hx hb hw (x.toNat) (z := x) (v := bg x.toNat) (by omega) (by omega) (t3 _ (by omega)) dX1_endingIn_34 ?_
      refine cM_i (As := [.int (iI (((0 : Nat) : Int))), .int (iI (bg x.toNat))]) (rest := [.int (iI (z1))]) S hw (mM_between l D cI h σ 0 (bg x.toNat) hf0 hr00 (by omega) (by omega)) (cwV 2 hts (lw_V q293 q295 qs12 q16 q296) rfl rfl rfl (by decide +kernel) ⟨Nat.le_of_ble_eq_true rfl, Nat.le_of_ble_eq_true rfl⟩) ⟨Nat.le_refl 0, Nat.le_refl 0⟩ rfl hl.1 rfl (Nat.le_of_ble_eq_true rfl) dX1_endingIn_35 (fun z2 σ1 H locs hp1 hw => ?_)
      obtain ⟨hz2, es⟩ := hp1
      rw [es] at hw
      refine r_isub (a := z1) (b := z2) hx hb dX1_endingIn_38 ?_
      exact G_reti (σ' := σ) (z := (z1 - z2)) hx hb hr hlk hw (⟨Or.inl ⟨x0, xn, by rw [hz1, hz2, c2]; exact bt_end c3⟩, rfl⟩) dX1_endingIn_39
    · refine r_iconst hx hb dX1_endingIn_12 ?_
      exact G_reti (σ' := σ) (z := 0) hx hb hr hlk hw (⟨Or.inr ⟨by omega, rfl⟩, rfl⟩) dX1_endingIn_13
end
section
/-! CodeSearcherModel: feed (printed by gen/m3.py) -/
set_option maxRecDepth 100000 in
theorem mM_feed (l : Launch) (D : va_G) (cI : ClassId) (h : Nat → Nat) (σ : St) {wc : Nat} {len : Nat → Nat} {sy : Nat → Nat → Nat} {n N : Nat} {cd bg T : Nat → Nat} {m : Nat} {P : Nat → Nat} (x : Int) (hf : Wf wc len sy n N cd bg T m P) (hr0 : MRep wc len sy n N bg T m P σ) (bx : -2147483648 ≤ x ∧ x < 2147483648) :
    GMi l yX1_feed cX1_feed 6 (some .int) 1 22 D [(cI, .int)] (wM h cI) (adM h) (h 0) [.int (iI (x))] σ (fun z σ' => (okF wc len n N cd x ∧ z = fLen wc len n cd x.toNat ∧ MRep (fWc wc n) (fLen wc len n cd) (fSy wc len sy n cd x.toNat) (n + 1) (N + fLen wc len n cd x.toNat) (aB n N bg (fLen wc len n cd x.toNat)) (aT N T (fSy wc len sy n cd x.toNat x.toNat)) m P σ') ∨ (¬ okF wc len n N cd x ∧ z = -1 ∧ σ' = σ)) := by
  have hf0 := hf
  have hr00 := hr0
  obtain ⟨hD, hC, hPt⟩ := hf
  obtain ⟨t0, t1, t2, t3, t4, t5, t7, t8⟩ := hr0
  have d1 := hD.1
  have d2 := hD.2.1
  have p1 : m ≤ 6 := hPt.1
  have hN : N ≤ 250 := hC.1
  have hnN : n ≤ N := hC.nN hD
  refine GMi.of (by decide) rfl (Nat.le_of_ble_eq_true rfl) ?_
  intro p e s mi bl me co A ls S hr hlk hw hl
  have S : CallFix p mi co cX1_feed 6 s _ lw_all RX1 := S
  have hx := S.1
  have hb := S.2.1
  have hts := S.2.2.2.2
  have hl : lv_has ls 6 [(0, .ref (h 0)), (1, .int (iI (x)))] := hl
  refine lv_iload_n hx hb dX1_feed_0 rfl (lv_at hl 1 rfl) ?_
  refine r_if_lt (a := x) (tgt := 41) hx hb dX1_feed_1 (by decide) (by omega) (fun c_1 => ?_) (fun c_1 => ?_)
  · refine r_iconst hx hb dX1_feed_41 ?_
    exact G_reti (σ' := σ) (z := (-1)) hx hb hr hlk hw (Or.inr ⟨fun q => by have q1 := q.1; have q2 := q.2.1; have q3 := q.2.2.1; omega, rfl, rfl⟩) dX1_feed_42
  · refine lv_aload_n hx hb dX1_feed_4 rfl (lv_at hl 0 rfl) ?_
    refine gM_2 S hw (v := n) t2 dX1_feed_5 ?_
    refine r_if_ne (a := n) (tgt := 16) hx hb dX1_feed_8 (by decide) (by omega) (fun c_8 => ?_) (fun c_8 => ?_)
    · have n0 : 0 < n := by omega
      refine lv_iload_n hx hb dX1_feed_16 rfl (lv_at hl 1 rfl) ?_
      refine lv_aload_n hx hb dX1_feed_17 rfl (lv_at hl 0 rfl) ?_
      refine gM_4 S hw (v := wc) t4 dX1_feed_18 ?_
      refine r_icmp_gt (a := x) (b := wc) (tgt := 41) hx hb dX1_feed_21 (by decide) (by omega) (by omega) (fun c_21 => ?_) (fun c_21 => ?_)
      · refine r_iconst hx hb dX1_feed_41 ?_
        exact G_reti (σ' := σ) (z := (-1)) hx hb hr hlk hw (Or.inr ⟨fun q => by have q1 := q.1; have q2 := q.2.1; have q3 := q.2.2.1; omega, rfl, rfl⟩) dX1_feed_42
      · refine lv_iload_n hx hb dX1_feed_24 rfl (lv_at hl 1 rfl) ?_
        refine lv_aload_n hx hb dX1_feed_25 rfl (lv_at hl 0 rfl) ?_
        refine gM_4 S hw (v := wc) t4 dX1_feed_26 ?_
        refine r_icmp_ne (a := x) (b := wc) (tgt := 43) hx hb dX1_feed_29 (by decide) (by omega) (by omega) (fun c_29 => ?_) (fun c_29 => ?_)
        · refine lv_aload_n hx hb dX1_feed_43 rfl (lv_at hl 0 rfl) ?_
          refine gM_2 S hw (v := n) t2 dX1_feed_44 ?_
          refine r_if_le (a := n) (tgt := 64) hx hb dX1_feed_47 (by decide) (by omega) (fun c_47 => ?_) (fun c_47 => ?_)
          · exact absurd c_47 (by omega)
          · obtain ⟨c1, c2, c3⟩ := hC.2.2.2 (n - 1) (by omega)
            rw [show n - 1 + 1 = n by omega, hC.2.2.1] at c2
            have l1 := (hD.2.2.2 _ c1).1
            have l2 := (hD.2.2.2 _ c1).2.1
            refine lv_aload_n hx hb dX1_feed_50 rfl (lv_at hl 0 rfl) ?_
            refine gM_3 S hw dX1_feed_51 ?_
            refine lv_aload_n hx hb dX1_feed_54 rfl (lv_at hl 0 rfl) ?_
            refine gM_2 S hw (v := n) t2 dX1_feed_55 ?_
            refine r_iconst hx hb dX1_feed_58 ?_
            refine r_isub (a := n) (b := 1) hx hb dX1_feed_59 ?_
            refine aM_3 hx hb hw (n - 1) (z := (n - 1)) (v := bg (n - 1)) (by omega) (by omega) (t3 (n - 1) (by omega)) dX1_feed_60 ?_
            refine lv_goto (tgt := 65) hx hb dX1_feed_61 (by decide) ?_
            refine lv_istore_n (lv' := [(2, .int (iI (bg (n - 1)))), (0, .ref (h 0)), (1, .int (iI (x)))]) hx hb dX1_feed_65 rfl hl (by decide) rfl (fun ls hl => ?_)
            refine lv_iload_n hx hb dX1_feed_66 rfl (lv_at hl 2 rfl) ?_
            refine lv_aload_n hx hb dX1_feed_67 rfl (lv_at hl 1 rfl) ?_
            refine gM_4 S hw (v := wc) t4 dX1_feed_68 ?_
            refine r_icmp_ge (a := x) (b := wc) (tgt := 82) hx hb dX1_feed_71 (by decide) (by omega) (by omega) (fun c_71 => ?_) (fun c_71 => ?_)
            · exact absurd c_71 (by omega)
            · refine lv_aload_n hx hb dX1_feed_74 rfl (lv_at hl 1 rfl) ?_
              refine lv_iload_n hx hb dX1_feed_75 rfl (lv_at hl 2 rfl) ?_
              refine r_top (a := x) (b := ((x.toNat : Nat) : Int)) (by omega) ?_
              refine cM_i (As := [.int (iI (((x.toNat : Nat) : Int)))]) (rest := []) S hw (mM_lengthOf l D cI h σ x.toNat (len x.toNat : Int) (by omega) (fun q => by rw [(hD.2.2.1 _ q).1]; rfl) (fun q => (t5 _ q (by omega)).1)) (cwV 1 hts (lw_V q241 q243 qs10 q16 q244) rfl rfl rfl (by decide +kernel) ⟨Nat.le_of_ble_eq_true rfl, Nat.le_of_ble_eq_true rfl⟩) ⟨Nat.le_refl 0, Nat.le_refl 0⟩ rfl hl.1 rfl (Nat.le_of_ble_eq_true rfl) dX1_feed_76 (fun z1 σ1 H locs hp1 hw => ?_)
              obtain ⟨hz1, es⟩ := hp1
              rw [es] at hw
              refine r_top (a := z1) (b := xL wc len n cd x) (by rw [hz1]; unfold xL; rw [if_neg (by omega)]) ?_
              refine lv_goto (tgt := 90) hx hb dX1_feed_79 (by decide) ?_
              have eX : xL wc len n cd x = len x.toNat := by unfold xL; rw [if_neg (by omega)]
              have l3 := (hD.2.2.2 x.toNat (by omega)).1
              have l4 := (hD.2.2.2 x.toNat (by omega)).2.1
              have l5 : x.toNat < 4 → len x.toNat = 1 := fun q => (hD.2.2.1 _ q).1
              refine lv_istore_n (lv' := [(3, .int (iI (xL wc len n cd x))), (2, .int (iI (bg (n - 1)))), (0, .ref (h 0)), (1, .int (iI (x)))]) hx hb dX1_feed_90 rfl hl (by decide) rfl (fun ls hl => ?_)
              refine lv_aload_n hx hb dX1_feed_91 rfl (lv_at hl 2 rfl) ?_
              refine gM_0 S hw (v := N) t0 dX1_feed_92 ?_
              refine lv_iload_n hx hb dX1_feed_95 rfl (lv_at hl 0 rfl) ?_
              refine r_iadd (a := N) (b := xL wc len n cd x) hx hb dX1_feed_96 ?_
              refine r_sipush hx hb dX1_feed_97 (by decide) ?_
              refine r_icmp_le (a := (N + xL wc len n cd x)) (b := 250) (tgt := 105) hx hb dX1_feed_100 (by decide) (by omega) (by omega) (fun c_100 => ?_) (fun c_100 => ?_)
              · have ok : okF wc len n N cd x := ⟨by omega, fun _ => by omega, fun _ => ⟨by omega, by omega⟩, by omega⟩
                obtain ⟨o1, eL⟩ := okF_x hD.1 hD.2.1 ok
                refine lv_aload_n hx hb dX1_feed_105 rfl (lv_at hl 2 rfl) ?_
                refine gM_0 S hw (v := N) t0 dX1_feed_106 ?_
                refine lv_istore (lv' := [(4, .int (iI (N))), (3, .int (iI (xL wc len n cd x))), (2, .int (iI (bg (n - 1)))), (0, .ref (h 0)), (1, .int (iI (x)))]) hx hb dX1_feed_109 hl (by decide) rfl (fun ls hl => ?_)
                refine r_iconst hx hb dX1_feed_111 ?_
                refine lv_istore (lv' := [(5, .int (iI (0))), (4, .int (iI (N))), (3, .int (iI (xL wc len n cd x))), (2, .int (iI (bg (n - 1)))), (0, .ref (h 0)), (1, .int (iI (x)))]) hx hb dX1_feed_112 hl (by decide) rfl (fun ls hl => ?_)
                have loop114 : ∀ (f : Nat) (k : Nat) (σ2 : St) (H : Heap) (locs : List Loc) (ls : Array Slot), xL wc len n cd x < k + f → (k ≤ xL wc len n cd x) → (∀ i, i < N → σ2 1 i = (T i : Int)) → (∀ i, i < k → σ2 1 (N + i) = (fSy wc len sy n cd x.toNat x.toNat i : Int)) → (∀ a j, a ≠ 1 → σ2 a j = σ a j) → GW D [(cI, .int)] (wM h cI σ2) A s H locs → lv_has ls 6 [(0, .ref (h 0)), (1, .int (iI (x))), (2, .int (iI (bg (n - 1)))), (3, .int (iI (xL wc len n cd x))), (4, .int (iI (N))), (5, .int (iI (k)))] → W p l e ({ frames := 1, cells := 0, slots := 0, locals := 22 }) s mi (Value.ref (h 0) :: [.int (iI (x))]).toArray bl me co H locs 0 0 (QGi D [(cI, .int)] (wM h cI) A s (Value.ref (h 0) :: [.int (iI (x))]).toArray bl (fun z σ' => (okF wc len n N cd x ∧ z = fLen wc len n cd x.toNat ∧ MRep (fWc wc n) (fLen wc len n cd) (fSy wc len sy n cd x.toNat) (n + 1) (N + fLen wc len n cd x.toNat) (aB n N bg (fLen wc len n cd x.toNat)) (aT N T (fSy wc len sy n cd x.toNat x.toNat)) m P σ') ∨ (¬ okF wc len n N cd x ∧ z = -1 ∧ σ' = σ))) (F0 mi 114 ls []) := by
                  intro f
                  induction f with
                  | zero =>
                    intro k σ2 H locs ls q0 j1 j2 j3 j5
                    exact absurd q0 (by omega)
                  | succ f ih114 =>
                    intro k σ2 H locs ls q0 j1 j2 j3 j5 hw hl
                    refine lv_iload hx hb dX1_feed_114 (lv_at hl 5 rfl) ?_
                    refine lv_iload_n hx hb dX1_feed_116 rfl (lv_at hl 3 rfl) ?_
                    refine r_icmp_ge (a := k) (b := xL wc len n cd x) (tgt := 163) hx hb dX1_feed_117 (by decide) (by omega) (by omega) (fun c_117 => ?_) (fun c_117 => ?_)
                    · refine lv_aload_n hx hb dX1_feed_163 rfl (lv_at hl 0 rfl) ?_
                      refine lv_iload hx hb dX1_feed_164 (lv_at hl 4 rfl) ?_
                      refine lv_iload_n hx hb dX1_feed_166 rfl (lv_at hl 3 rfl) ?_
                      refine r_iadd (a := N) (b := xL wc len n cd x) hx hb dX1_feed_167 ?_
                      refine pM_0 S hw (v := (N + xL wc len n cd x)) dX1_feed_168 (fun H locs hw => ?_)
                      refine lv_aload_n hx hb dX1_feed_171 rfl (lv_at hl 0 rfl) ?_
                      refine gM_2 S hw (v := n) ((j5 2 0 (by omega)).trans t2) dX1_feed_172 ?_
                      refine r_if_le (a := n) (tgt := 222) hx hb dX1_feed_175 (by decide) (by omega) (fun c_175 => ?_) (fun c_175 => ?_)
                      · exact absurd c_175 (by omega)
                      · refine lv_aload_n hx hb dX1_feed_178 rfl (lv_at hl 0 rfl) ?_
                        refine gM_4 S hw (v := wc) ((j5 4 0 (by omega)).trans t4) dX1_feed_179 ?_
                        refine r_bipush hx hb dX1_feed_182 (by decide) ?_
                        refine r_icmp_ge (a := wc) (b := 60) (tgt := 222) hx hb dX1_feed_184 (by decide) (by omega) (by omega) (fun c_184 => ?_) (fun c_184 => ?_)
                        · refine lv_aload_n hx hb dX1_feed_222 rfl (lv_at hl 0 rfl) ?_
                          refine gM_3 S hw dX1_feed_223 ?_
                          refine lv_aload_n hx hb dX1_feed_226 rfl (lv_at hl 0 rfl) ?_
                          refine gM_2 S hw (v := n) ((j5 2 0 (by omega)).trans t2) dX1_feed_227 ?_
                          refine lv_iload hx hb dX1_feed_230 (lv_at hl 4 rfl) ?_
                          refine sM_3 hx hb hw (n) (z := n) (v := N) (by omega) (by omega) dX1_feed_232 (fun H locs hw => ?_)
                          refine lv_aload_n hx hb dX1_feed_233 rfl (lv_at hl 0 rfl) ?_
                          refine lv_dup hx hb dX1_feed_234 rfl ?_
                          refine gM_2 S hw (v := n) ((j5 2 0 (by omega)).trans t2) dX1_feed_235 ?_
                          refine r_iconst hx hb dX1_feed_238 ?_
                          refine r_iadd (a := n) (b := 1) hx hb dX1_feed_239 ?_
                          refine pM_2 S hw (v := (n + 1)) dX1_feed_240 (fun H locs hw => ?_)
                          refine lv_aload_n hx hb dX1_feed_243 rfl (lv_at hl 0 rfl) ?_
                          refine gM_3 S hw dX1_feed_244 ?_
                          refine lv_aload_n hx hb dX1_feed_247 rfl (lv_at hl 0 rfl) ?_
                          refine gM_2 S hw (v := (n + 1)) rfl dX1_feed_248 ?_
                          refine lv_aload_n hx hb dX1_feed_251 rfl (lv_at hl 0 rfl) ?_
                          refine gM_0 S hw (v := (N + xL wc len n cd x)) rfl dX1_feed_252 ?_
                          refine sM_3 hx hb hw (n + 1) (z := (n + 1)) (v := (N + xL wc len n cd x)) (by omega) (by omega) dX1_feed_255 (fun H locs hw => ?_)
                          refine lv_iload_n hx hb dX1_feed_256 rfl (lv_at hl 3 rfl) ?_
                          refine G_reti (σ' := (up2 (up2 (up2 (up2 σ2 0 0 ((N + xL wc len n cd x))) 3 (n) (N)) 2 0 ((n + 1))) 3 (n + 1) ((N + xL wc len n cd x)))) (z := xL wc len n cd x) hx hb hr hlk hw ?_ dX1_feed_257
                          have kx : k = xL wc len n cd x := by omega
                          refine Or.inl ⟨ok, by rw [eL], M_feed hf0 hr00 ok (by rw [eL]; rfl) (fun i hi => ?_) (fun i hi => ?_) rfl (fun k9 hk => ?_) ?_ ?_ ?_ (fun i => ?_) ?_⟩
                          · rw [up2_nk (by omega), up2_nk (by omega), up2_nk (by omega), up2_nk (by omega)]; exact j2 i hi
                          · rw [up2_nk (by omega), up2_nk (by omega), up2_nk (by omega), up2_nk (by omega)]; exact j3 i (by omega)
                          · rw [up2_nj (by omega), up2_nk (by omega), up2_nj (by omega), up2_nk (by omega)]; exact j5 3 k9 (by omega)
                          · rw [up2_nj (by omega), up2_nk (by omega), up2_eq]
                          · rw [up2_eq, eL]
                          · rw [up2_nk (by omega), up2_nk (by omega), up2_nk (by omega), up2_nk (by omega)]; exact j5 7 0 (by omega)
                          · rw [up2_nk (by omega), up2_nk (by omega), up2_nk (by omega), up2_nk (by omega)]; exact j5 8 i (by omega)
                          · exact Or.inr ⟨by omega, by rw [up2_nk (by omega), up2_nk (by omega), up2_nk (by omega), up2_nk (by omega)]; exact (j5 4 0 (by omega)).trans t4, fun w => ⟨by rw [up2_nk (by omega), up2_nk (by omega), up2_nk (by omega), up2_nk (by omega)]; exact j5 5 w (by omega), by rw [up2_nk (by omega), up2_nk (by omega), up2_nk (by omega), up2_nk (by omega)]; exact j5 6 w (by omega)⟩⟩
                        · refine lv_aload_n hx hb dX1_feed_187 rfl (lv_at hl 0 rfl) ?_
                          refine gM_5 S hw dX1_feed_188 ?_
                          refine lv_aload_n hx hb dX1_feed_191 rfl (lv_at hl 0 rfl) ?_
                          refine gM_4 S hw (v := wc) ((j5 4 0 (by omega)).trans t4) dX1_feed_192 ?_
                          refine lv_iload_n hx hb dX1_feed_195 rfl (lv_at hl 2 rfl) ?_
                          refine sM_5 hx hb hw (wc) (z := wc) (v := bg (n - 1)) (by omega) (by omega) dX1_feed_196 (fun H locs hw => ?_)
                          refine lv_aload_n hx hb dX1_feed_197 rfl (lv_at hl 0 rfl) ?_
                          refine gM_6 S hw dX1_feed_198 ?_
                          refine lv_aload_n hx hb dX1_feed_201 rfl (lv_at hl 0 rfl) ?_
                          refine gM_4 S hw (v := wc) ((j5 4 0 (by omega)).trans t4) dX1_feed_202 ?_
                          refine lv_iload hx hb dX1_feed_205 (lv_at hl 4 rfl) ?_
                          refine lv_iload_n hx hb dX1_feed_207 rfl (lv_at hl 2 rfl) ?_
                          refine r_isub (a := N) (b := bg (n - 1)) hx hb dX1_feed_208 ?_
                          refine r_iconst hx hb dX1_feed_209 ?_
                          refine r_iadd (a := (N - bg (n - 1))) (b := 1) hx hb dX1_feed_210 ?_
                          refine sM_6 hx hb hw (wc) (z := wc) (v := ((N - bg (n - 1)) + 1)) (by omega) (by omega) dX1_feed_211 (fun H locs hw => ?_)
                          refine lv_aload_n hx hb dX1_feed_212 rfl (lv_at hl 0 rfl) ?_
                          refine lv_dup hx hb dX1_feed_213 rfl ?_
                          refine gM_4 S hw (v := wc) ((j5 4 0 (by omega)).trans t4) dX1_feed_214 ?_
                          refine r_iconst hx hb dX1_feed_217 ?_
                          refine r_iadd (a := wc) (b := 1) hx hb dX1_feed_218 ?_
                          refine pM_4 S hw (v := (wc + 1)) dX1_feed_219 (fun H locs hw => ?_)
                          refine lv_aload_n hx hb dX1_feed_222 rfl (lv_at hl 0 rfl) ?_
                          refine gM_3 S hw dX1_feed_223 ?_
                          refine lv_aload_n hx hb dX1_feed_226 rfl (lv_at hl 0 rfl) ?_
                          refine gM_2 S hw (v := n) ((j5 2 0 (by omega)).trans t2) dX1_feed_227 ?_
                          refine lv_iload hx hb dX1_feed_230 (lv_at hl 4 rfl) ?_
                          refine sM_3 hx hb hw (n) (z := n) (v := N) (by omega) (by omega) dX1_feed_232 (fun H locs hw => ?_)
                          refine lv_aload_n hx hb dX1_feed_233 rfl (lv_at hl 0 rfl) ?_
                          refine lv_dup hx hb dX1_feed_234 rfl ?_
                          refine gM_2 S hw (v := n) ((j5 2 0 (by omega)).trans t2) dX1_feed_235 ?_
                          refine r_iconst hx hb dX1_feed_238 ?_
                          refine r_iadd (a := n) (b := 1) hx hb dX1_feed_239 ?_
                          refine pM_2 S hw (v := (n + 1)) dX1_feed_240 (fun H locs hw => ?_)
                          refine lv_aload_n hx hb dX1_feed_243 rfl (lv_at hl 0 rfl) ?_
                          refine gM_3 S hw dX1_feed_244 ?_
                          refine lv_aload_n hx hb dX1_feed_247 rfl (lv_at hl 0 rfl) ?_
                          refine gM_2 S hw (v := (n + 1)) rfl dX1_feed_248 ?_
                          refine lv_aload_n hx hb dX1_feed_251 rfl (lv_at hl 0 rfl) ?_
                          refine gM_0 S hw (v := (N + xL wc len n cd x)) rfl dX1_feed_252 ?_
                          refine sM_3 hx hb hw (n + 1) (z := (n + 1)) (v := (N + xL wc len n cd x)) (by omega) (by omega) dX1_feed_255 (fun H locs hw => ?_)
                          refine lv_iload_n hx hb dX1_feed_256 rfl (lv_at hl 3 rfl) ?_
                          refine G_reti (σ' := (up2 (up2 (up2 (up2 (up2 (up2 (up2 σ2 0 0 ((N + xL wc len n cd x))) 5 (wc) (bg (n - 1))) 6 (wc) (((N - bg (n - 1)) + 1))) 4 0 ((wc + 1))) 3 (n) (N)) 2 0 ((n + 1))) 3 (n + 1) ((N + xL wc len n cd x)))) (z := xL wc len n cd x) hx hb hr hlk hw ?_ dX1_feed_257
                          have kx : k = xL wc len n cd x := by omega
                          refine Or.inl ⟨ok, by rw [eL], M_feed hf0 hr00 ok (by rw [eL]; rfl) (fun i hi => ?_) (fun i hi => ?_) rfl (fun k9 hk => ?_) ?_ ?_ ?_ (fun i => ?_) ?_⟩
                          · rw [up2_nk (by omega), up2_nk (by omega), up2_nk (by omega), up2_nk (by omega), up2_nk (by omega), up2_nk (by omega), up2_nk (by omega)]; exact j2 i hi
                          · rw [up2_nk (by omega), up2_nk (by omega), up2_nk (by omega), up2_nk (by omega), up2_nk (by omega), up2_nk (by omega), up2_nk (by omega)]; exact j3 i (by omega)
                          · rw [up2_nj (by omega), up2_nk (by omega), up2_nj (by omega), up2_nk (by omega), up2_nk (by omega), up2_nk (by omega), up2_nk (by omega)]; exact j5 3 k9 (by omega)
                          · rw [up2_nj (by omega), up2_nk (by omega), up2_eq]
                          · rw [up2_eq, eL]
                          · rw [up2_nk (by omega), up2_nk (by omega), up2_nk (by omega), up2_nk (by omega), up2_nk (by omega), up2_nk (by omega), up2_nk (by omega)]; exact j5 7 0 (by omega)
                          · rw [up2_nk (by omega), up2_nk (by omega), up2_nk (by omega), up2_nk (by omega), up2_nk (by omega), up2_nk (by omega), up2_nk (by omega)]; exact j5 8 i (by omega)
                          · exact Or.inl ⟨⟨by omega, by omega⟩, rfl, by rw [up2_nk (by omega), up2_nk (by omega), up2_nk (by omega), up2_nk (by omega), up2_nk (by omega), up2_eq], by rw [up2_nk (by omega), up2_nk (by omega), up2_nk (by omega), up2_nk (by omega), up2_eq], fun w hw => ⟨by rw [up2_nk (by omega), up2_nk (by omega), up2_nk (by omega), up2_nk (by omega), up2_nk (by omega), up2_nj (by omega), up2_nk (by omega)]; exact j5 5 w (by omega), by rw [up2_nk (by omega), up2_nk (by omega), up2_nk (by omega), up2_nk (by omega), up2_nj (by omega), up2_nk (by omega), up2_nk (by omega)]; exact j5 6 w (by omega)⟩⟩
                    · refine lv_aload_n hx hb dX1_feed_120 rfl (lv_at hl 0 rfl) ?_
                      refine gM_1 S hw dX1_feed_121 ?_
                      refine lv_iload hx hb dX1_feed_124 (lv_at hl 4 rfl) ?_
                      refine lv_iload hx hb dX1_feed_126 (lv_at hl 5 rfl) ?_
                      refine r_iadd (a := N) (b := k) hx hb dX1_feed_128 ?_
                      refine lv_iload_n hx hb dX1_feed_129 rfl (lv_at hl 1 rfl) ?_
                      refine lv_aload_n hx hb dX1_feed_130 rfl (lv_at hl 0 rfl) ?_
                      refine gM_4 S hw (v := wc) ((j5 4 0 (by omega)).trans t4) dX1_feed_131 ?_
                      refine r_icmp_ge (a := x) (b := wc) (tgt := 147) hx hb dX1_feed_134 (by decide) (by omega) (by omega) (fun c_134 => ?_) (fun c_134 => ?_)
                      · exact absurd c_134 (by omega)
                      · refine lv_aload_n hx hb dX1_feed_137 rfl (lv_at hl 0 rfl) ?_
                        refine lv_iload_n hx hb dX1_feed_138 rfl (lv_at hl 1 rfl) ?_
                        refine r_top (a := x) (b := ((x.toNat : Nat) : Int)) (by omega) ?_
                        refine lv_iload hx hb dX1_feed_139 (lv_at hl 5 rfl) ?_
                        refine cM_i (As := [.int (iI (((x.toNat : Nat) : Int))), .int (iI (k))]) (rest := [.int (iI ((N + k))), .ref (h 1)]) S hw (mM_symbolOf l D cI h σ2 x.toNat k (sy x.toNat k : Int) (by omega) (fun q => by have e8 := hD.2.2.1 _ q; rw [show k = 0 by omega, e8.2]) (fun q => by obtain ⟨-, pp, a1, a2, a3⟩ := t5 _ q (by omega); exact ⟨pp, (j5 5 _ (by omega)).trans a1, by omega, by rw [j2 _ (by omega), a3 _ (by omega)]⟩)) (cwV 2 hts (lw_V q245 q247 qs11 q16 q248) rfl rfl rfl (by decide +kernel) ⟨Nat.le_of_ble_eq_true rfl, Nat.le_of_ble_eq_true rfl⟩) ⟨Nat.le_refl 0, Nat.le_refl 0⟩ rfl hl.1 rfl (Nat.le_of_ble_eq_true rfl) dX1_feed_141 (fun z2 σ1 H locs hp1 hw => ?_)
                        obtain ⟨hz2, es⟩ := hp1
                        rw [es] at hw
                        refine r_top (a := z2) (b := fSy wc len sy n cd x.toNat x.toNat k) (by rw [hz2, fSy_x (by omega)]) ?_
                        refine lv_goto (tgt := 156) hx hb dX1_feed_144 (by decide) ?_
                        refine sM_1 hx hb hw (N + k) (z := (N + k)) (v := fSy wc len sy n cd x.toNat x.toNat k) (by omega) (by omega) dX1_feed_156 (fun H locs hw => ?_)
                        refine r_iinc (a := k) (lv' := [(5, .int (iI (k + 1))), (0, .ref (h 0)), (1, .int (iI (x))), (2, .int (iI (bg (n - 1)))), (3, .int (iI (xL wc len n cd x))), (4, .int (iI (N)))]) (k := 5) hx hb dX1_feed_157 hl rfl (by decide) rfl (fun ls hl => ?_)
                        refine lv_goto (tgt := 114) hx hb dX1_feed_160 (by decide) ?_
                        exact ih114 (k + 1) ((up2 σ2 1 (N + k) (fSy wc len sy n cd x.toNat x.toNat k))) _ _ _ (by omega) (by omega) (fun i hi => by rw [up2_nj (by omega)]; exact j2 i hi) (fun i hi => by
                              by_cases q : i = k
                              · rw [q, up2_eq]
                              · rw [up2_nj (by omega)]; exact j3 i (by omega)) (fun a j ha => by rw [up2_nk ha]; exact j5 a j ha) hw (by rw [show ((k + 1 : Nat) : Int) = (k : Int) + 1 from by omega]; exact lv_sub hl [1, 2, 3, 4, 5, 0] rfl)
                exact loop114 (xL wc len n cd x + 1) (0) (σ) _ _ _ (by omega) (by omega) (t1) (fun i hi => absurd hi (by omega)) (fun a j _ => rfl) hw (by rw [show ((0 : Nat) : Int) = 0 from rfl]; exact lv_sub hl [4, 5, 3, 2, 1, 0] rfl)
              · refine r_iconst hx hb dX1_feed_103 ?_
                exact G_reti (σ' := σ) (z := (-1)) hx hb hr hlk hw (Or.inr ⟨fun q => by have := q.2.2.2; omega, rfl, rfl⟩) dX1_feed_104
        · refine lv_aload_n hx hb dX1_feed_32 rfl (lv_at hl 0 rfl) ?_
          refine gM_4 S hw (v := wc) t4 dX1_feed_33 ?_
          refine r_bipush hx hb dX1_feed_36 (by decide) ?_
          refine r_icmp_ne (a := wc) (b := 60) (tgt := 43) hx hb dX1_feed_38 (by decide) (by omega) (by omega) (fun c_38 => ?_) (fun c_38 => ?_)
          · refine lv_aload_n hx hb dX1_feed_43 rfl (lv_at hl 0 rfl) ?_
            refine gM_2 S hw (v := n) t2 dX1_feed_44 ?_
            refine r_if_le (a := n) (tgt := 64) hx hb dX1_feed_47 (by decide) (by omega) (fun c_47 => ?_) (fun c_47 => ?_)
            · exact absurd c_47 (by omega)
            · obtain ⟨c1, c2, c3⟩ := hC.2.2.2 (n - 1) (by omega)
              rw [show n - 1 + 1 = n by omega, hC.2.2.1] at c2
              have l1 := (hD.2.2.2 _ c1).1
              have l2 := (hD.2.2.2 _ c1).2.1
              refine lv_aload_n hx hb dX1_feed_50 rfl (lv_at hl 0 rfl) ?_
              refine gM_3 S hw dX1_feed_51 ?_
              refine lv_aload_n hx hb dX1_feed_54 rfl (lv_at hl 0 rfl) ?_
              refine gM_2 S hw (v := n) t2 dX1_feed_55 ?_
              refine r_iconst hx hb dX1_feed_58 ?_
              refine r_isub (a := n) (b := 1) hx hb dX1_feed_59 ?_
              refine aM_3 hx hb hw (n - 1) (z := (n - 1)) (v := bg (n - 1)) (by omega) (by omega) (t3 (n - 1) (by omega)) dX1_feed_60 ?_
              refine lv_goto (tgt := 65) hx hb dX1_feed_61 (by decide) ?_
              refine lv_istore_n (lv' := [(2, .int (iI (bg (n - 1)))), (0, .ref (h 0)), (1, .int (iI (x)))]) hx hb dX1_feed_65 rfl hl (by decide) rfl (fun ls hl => ?_)
              refine lv_iload_n hx hb dX1_feed_66 rfl (lv_at hl 2 rfl) ?_
              refine lv_aload_n hx hb dX1_feed_67 rfl (lv_at hl 1 rfl) ?_
              refine gM_4 S hw (v := wc) t4 dX1_feed_68 ?_
              refine r_icmp_ge (a := x) (b := wc) (tgt := 82) hx hb dX1_feed_71 (by decide) (by omega) (by omega) (fun c_71 => ?_) (fun c_71 => ?_)
              · refine lv_aload_n hx hb dX1_feed_82 rfl (lv_at hl 1 rfl) ?_
                refine gM_0 S hw (v := N) t0 dX1_feed_83 ?_
                refine lv_iload_n hx hb dX1_feed_86 rfl (lv_at hl 0 rfl) ?_
                refine r_isub (a := N) (b := bg (n - 1)) hx hb dX1_feed_87 ?_
                refine r_iconst hx hb dX1_feed_88 ?_
                refine r_iadd (a := (N - bg (n - 1))) (b := 1) hx hb dX1_feed_89 ?_
                refine r_top (a := ((N - bg (n - 1)) + 1)) (b := xL wc len n cd x) (by unfold xL; rw [if_pos ⟨by omega, by omega⟩]; omega) ?_
                have eX : xL wc len n cd x = len (cd (n - 1)) + 1 := by unfold xL; rw [if_pos ⟨by omega, by omega⟩]
                refine lv_istore_n (lv' := [(3, .int (iI (xL wc len n cd x))), (2, .int (iI (bg (n - 1)))), (0, .ref (h 0)), (1, .int (iI (x)))]) hx hb dX1_feed_90 rfl hl (by decide) rfl (fun ls hl => ?_)
                refine lv_aload_n hx hb dX1_feed_91 rfl (lv_at hl 2 rfl) ?_
                refine gM_0 S hw (v := N) t0 dX1_feed_92 ?_
                refine lv_iload_n hx hb dX1_feed_95 rfl (lv_at hl 0 rfl) ?_
                refine r_iadd (a := N) (b := xL wc len n cd x) hx hb dX1_feed_96 ?_
                refine r_sipush hx hb dX1_feed_97 (by decide) ?_
                refine r_icmp_le (a := (N + xL wc len n cd x)) (b := 250) (tgt := 105) hx hb dX1_feed_100 (by decide) (by omega) (by omega) (fun c_100 => ?_) (fun c_100 => ?_)
                · have ok : okF wc len n N cd x := ⟨by omega, fun _ => by omega, fun _ => ⟨by omega, by omega⟩, by omega⟩
                  obtain ⟨o1, eL⟩ := okF_x hD.1 hD.2.1 ok
                  refine lv_aload_n hx hb dX1_feed_105 rfl (lv_at hl 2 rfl) ?_
                  refine gM_0 S hw (v := N) t0 dX1_feed_106 ?_
                  refine lv_istore (lv' := [(4, .int (iI (N))), (3, .int (iI (xL wc len n cd x))), (2, .int (iI (bg (n - 1)))), (0, .ref (h 0)), (1, .int (iI (x)))]) hx hb dX1_feed_109 hl (by decide) rfl (fun ls hl => ?_)
                  refine r_iconst hx hb dX1_feed_111 ?_
                  refine lv_istore (lv' := [(5, .int (iI (0))), (4, .int (iI (N))), (3, .int (iI (xL wc len n cd x))), (2, .int (iI (bg (n - 1)))), (0, .ref (h 0)), (1, .int (iI (x)))]) hx hb dX1_feed_112 hl (by decide) rfl (fun ls hl => ?_)
                  have loop114 : ∀ (f : Nat) (k : Nat) (σ2 : St) (H : Heap) (locs : List Loc) (ls : Array Slot), xL wc len n cd x < k + f → (k ≤ xL wc len n cd x) → (∀ i, i < N → σ2 1 i = (T i : Int)) → (∀ i, i < k → σ2 1 (N + i) = (fSy wc len sy n cd x.toNat x.toNat i : Int)) → (∀ a j, a ≠ 1 → σ2 a j = σ a j) → GW D [(cI, .int)] (wM h cI σ2) A s H locs → lv_has ls 6 [(0, .ref (h 0)), (1, .int (iI (x))), (2, .int (iI (bg (n - 1)))), (3, .int (iI (xL wc len n cd x))), (4, .int (iI (N))), (5, .int (iI (k)))] → W p l e ({ frames := 1, cells := 0, slots := 0, locals := 22 }) s mi (Value.ref (h 0) :: [.int (iI (x))]).toArray bl me co H locs 0 0 (QGi D [(cI, .int)] (wM h cI) A s (Value.ref (h 0) :: [.int (iI (x))]).toArray bl (fun z σ' => (okF wc len n N cd x ∧ z = fLen wc len n cd x.toNat ∧ MRep (fWc wc n) (fLen wc len n cd) (fSy wc len sy n cd x.toNat) (n + 1) (N + fLen wc len n cd x.toNat) (aB n N bg (fLen wc len n cd x.toNat)) (aT N T (fSy wc len sy n cd x.toNat x.toNat)) m P σ') ∨ (¬ okF wc len n N cd x ∧ z = -1 ∧ σ' = σ))) (F0 mi 114 ls []) := by
                    intro f
                    induction f with
                    | zero =>
                      intro k σ2 H locs ls q0 j1 j2 j3 j5
                      exact absurd q0 (by omega)
                    | succ f ih114 =>
                      intro k σ2 H locs ls q0 j1 j2 j3 j5 hw hl
                      refine lv_iload hx hb dX1_feed_114 (lv_at hl 5 rfl) ?_
                      refine lv_iload_n hx hb dX1_feed_116 rfl (lv_at hl 3 rfl) ?_
                      refine r_icmp_ge (a := k) (b := xL wc len n cd x) (tgt := 163) hx hb dX1_feed_117 (by decide) (by omega) (by omega) (fun c_117 => ?_) (fun c_117 => ?_)
                      · refine lv_aload_n hx hb dX1_feed_163 rfl (lv_at hl 0 rfl) ?_
                        refine lv_iload hx hb dX1_feed_164 (lv_at hl 4 rfl) ?_
                        refine lv_iload_n hx hb dX1_feed_166 rfl (lv_at hl 3 rfl) ?_
                        refine r_iadd (a := N) (b := xL wc len n cd x) hx hb dX1_feed_167 ?_
                        refine pM_0 S hw (v := (N + xL wc len n cd x)) dX1_feed_168 (fun H locs hw => ?_)
                        refine lv_aload_n hx hb dX1_feed_171 rfl (lv_at hl 0 rfl) ?_
                        refine gM_2 S hw (v := n) ((j5 2 0 (by omega)).trans t2) dX1_feed_172 ?_
                        refine r_if_le (a := n) (tgt := 222) hx hb dX1_feed_175 (by decide) (by omega) (fun c_175 => ?_) (fun c_175 => ?_)
                        · exact absurd c_175 (by omega)
                        · refine lv_aload_n hx hb dX1_feed_178 rfl (lv_at hl 0 rfl) ?_
                          refine gM_4 S hw (v := wc) ((j5 4 0 (by omega)).trans t4) dX1_feed_179 ?_
                          refine r_bipush hx hb dX1_feed_182 (by decide) ?_
                          refine r_icmp_ge (a := wc) (b := 60) (tgt := 222) hx hb dX1_feed_184 (by decide) (by omega) (by omega) (fun c_184 => ?_) (fun c_184 => ?_)
                          · exact absurd c_184 (by omega)
                          · refine lv_aload_n hx hb dX1_feed_187 rfl (lv_at hl 0 rfl) ?_
                            refine gM_5 S hw dX1_feed_188 ?_
                            refine lv_aload_n hx hb dX1_feed_191 rfl (lv_at hl 0 rfl) ?_
                            refine gM_4 S hw (v := wc) ((j5 4 0 (by omega)).trans t4) dX1_feed_192 ?_
                            refine lv_iload_n hx hb dX1_feed_195 rfl (lv_at hl 2 rfl) ?_
                            refine sM_5 hx hb hw (wc) (z := wc) (v := bg (n - 1)) (by omega) (by omega) dX1_feed_196 (fun H locs hw => ?_)
                            refine lv_aload_n hx hb dX1_feed_197 rfl (lv_at hl 0 rfl) ?_
                            refine gM_6 S hw dX1_feed_198 ?_
                            refine lv_aload_n hx hb dX1_feed_201 rfl (lv_at hl 0 rfl) ?_
                            refine gM_4 S hw (v := wc) ((j5 4 0 (by omega)).trans t4) dX1_feed_202 ?_
                            refine lv_iload hx hb dX1_feed_205 (lv_at hl 4 rfl) ?_
                            refine lv_iload_n hx hb dX1_feed_207 rfl (lv_at hl 2 rfl) ?_
                            refine r_isub (a := N) (b := bg (n - 1)) hx hb dX1_feed_208 ?_
                            refine r_iconst hx hb dX1_feed_209 ?_
                            refine r_iadd (a := (N - bg (n - 1))) (b := 1) hx hb dX1_feed_210 ?_
                            refine sM_6 hx hb hw (wc) (z := wc) (v := ((N - bg (n - 1)) + 1)) (by omega) (by omega) dX1_feed_211 (fun H locs hw => ?_)
                            refine lv_aload_n hx hb dX1_feed_212 rfl (lv_at hl 0 rfl) ?_
                            refine lv_dup hx hb dX1_feed_213 rfl ?_
                            refine gM_4 S hw (v := wc) ((j5 4 0 (by omega)).trans t4) dX1_feed_214 ?_
                            refine r_iconst hx hb dX1_feed_217 ?_
                            refine r_iadd (a := wc) (b := 1) hx hb dX1_feed_218 ?_
                            refine pM_4 S hw (v := (wc + 1)) dX1_feed_219 (fun H locs hw => ?_)
                            refine lv_aload_n hx hb dX1_feed_222 rfl (lv_at hl 0 rfl) ?_
                            refine gM_3 S hw dX1_feed_223 ?_
                            refine lv_aload_n hx hb dX1_feed_226 rfl (lv_at hl 0 rfl) ?_
                            refine gM_2 S hw (v := n) ((j5 2 0 (by omega)).trans t2) dX1_feed_227 ?_
                            refine lv_iload hx hb dX1_feed_230 (lv_at hl 4 rfl) ?_
                            refine sM_3 hx hb hw (n) (z := n) (v := N) (by omega) (by omega) dX1_feed_232 (fun H locs hw => ?_)
                            refine lv_aload_n hx hb dX1_feed_233 rfl (lv_at hl 0 rfl) ?_
                            refine lv_dup hx hb dX1_feed_234 rfl ?_
                            refine gM_2 S hw (v := n) ((j5 2 0 (by omega)).trans t2) dX1_feed_235 ?_
                            refine r_iconst hx hb dX1_feed_238 ?_
                            refine r_iadd (a := n) (b := 1) hx hb dX1_feed_239 ?_
                            refine pM_2 S hw (v := (n + 1)) dX1_feed_240 (fun H locs hw => ?_)
                            refine lv_aload_n hx hb dX1_feed_243 rfl (lv_at hl 0 rfl) ?_
                            refine gM_3 S hw dX1_feed_244 ?_
                            refine lv_aload_n hx hb dX1_feed_247 rfl (lv_at hl 0 rfl) ?_
                            refine gM_2 S hw (v := (n + 1)) rfl dX1_feed_248 ?_
                            refine lv_aload_n hx hb dX1_feed_251 rfl (lv_at hl 0 rfl) ?_
                            refine gM_0 S hw (v := (N + xL wc len n cd x)) rfl dX1_feed_252 ?_
                            refine sM_3 hx hb hw (n + 1) (z := (n + 1)) (v := (N + xL wc len n cd x)) (by omega) (by omega) dX1_feed_255 (fun H locs hw => ?_)
                            refine lv_iload_n hx hb dX1_feed_256 rfl (lv_at hl 3 rfl) ?_
                            refine G_reti (σ' := (up2 (up2 (up2 (up2 (up2 (up2 (up2 σ2 0 0 ((N + xL wc len n cd x))) 5 (wc) (bg (n - 1))) 6 (wc) (((N - bg (n - 1)) + 1))) 4 0 ((wc + 1))) 3 (n) (N)) 2 0 ((n + 1))) 3 (n + 1) ((N + xL wc len n cd x)))) (z := xL wc len n cd x) hx hb hr hlk hw ?_ dX1_feed_257
                            have kx : k = xL wc len n cd x := by omega
                            refine Or.inl ⟨ok, by rw [eL], M_feed hf0 hr00 ok (by rw [eL]; rfl) (fun i hi => ?_) (fun i hi => ?_) rfl (fun k9 hk => ?_) ?_ ?_ ?_ (fun i => ?_) ?_⟩
                            · rw [up2_nk (by omega), up2_nk (by omega), up2_nk (by omega), up2_nk (by omega), up2_nk (by omega), up2_nk (by omega), up2_nk (by omega)]; exact j2 i hi
                            · rw [up2_nk (by omega), up2_nk (by omega), up2_nk (by omega), up2_nk (by omega), up2_nk (by omega), up2_nk (by omega), up2_nk (by omega)]; exact j3 i (by omega)
                            · rw [up2_nj (by omega), up2_nk (by omega), up2_nj (by omega), up2_nk (by omega), up2_nk (by omega), up2_nk (by omega), up2_nk (by omega)]; exact j5 3 k9 (by omega)
                            · rw [up2_nj (by omega), up2_nk (by omega), up2_eq]
                            · rw [up2_eq, eL]
                            · rw [up2_nk (by omega), up2_nk (by omega), up2_nk (by omega), up2_nk (by omega), up2_nk (by omega), up2_nk (by omega), up2_nk (by omega)]; exact j5 7 0 (by omega)
                            · rw [up2_nk (by omega), up2_nk (by omega), up2_nk (by omega), up2_nk (by omega), up2_nk (by omega), up2_nk (by omega), up2_nk (by omega)]; exact j5 8 i (by omega)
                            · exact Or.inl ⟨⟨by omega, by omega⟩, rfl, by rw [up2_nk (by omega), up2_nk (by omega), up2_nk (by omega), up2_nk (by omega), up2_nk (by omega), up2_eq], by rw [up2_nk (by omega), up2_nk (by omega), up2_nk (by omega), up2_nk (by omega), up2_eq], fun w hw => ⟨by rw [up2_nk (by omega), up2_nk (by omega), up2_nk (by omega), up2_nk (by omega), up2_nk (by omega), up2_nj (by omega), up2_nk (by omega)]; exact j5 5 w (by omega), by rw [up2_nk (by omega), up2_nk (by omega), up2_nk (by omega), up2_nk (by omega), up2_nj (by omega), up2_nk (by omega), up2_nk (by omega)]; exact j5 6 w (by omega)⟩⟩
                      · refine lv_aload_n hx hb dX1_feed_120 rfl (lv_at hl 0 rfl) ?_
                        refine gM_1 S hw dX1_feed_121 ?_
                        refine lv_iload hx hb dX1_feed_124 (lv_at hl 4 rfl) ?_
                        refine lv_iload hx hb dX1_feed_126 (lv_at hl 5 rfl) ?_
                        refine r_iadd (a := N) (b := k) hx hb dX1_feed_128 ?_
                        refine lv_iload_n hx hb dX1_feed_129 rfl (lv_at hl 1 rfl) ?_
                        refine lv_aload_n hx hb dX1_feed_130 rfl (lv_at hl 0 rfl) ?_
                        refine gM_4 S hw (v := wc) ((j5 4 0 (by omega)).trans t4) dX1_feed_131 ?_
                        refine r_icmp_ge (a := x) (b := wc) (tgt := 147) hx hb dX1_feed_134 (by decide) (by omega) (by omega) (fun c_134 => ?_) (fun c_134 => ?_)
                        · refine lv_aload_n hx hb dX1_feed_147 rfl (lv_at hl 0 rfl) ?_
                          refine gM_1 S hw dX1_feed_148 ?_
                          refine lv_iload_n hx hb dX1_feed_151 rfl (lv_at hl 2 rfl) ?_
                          refine lv_iload hx hb dX1_feed_152 (lv_at hl 5 rfl) ?_
                          refine r_iadd (a := bg (n - 1)) (b := k) hx hb dX1_feed_154 ?_
                          refine aM_1 hx hb hw (bg (n - 1) + k) (z := (bg (n - 1) + k)) (v := fSy wc len sy n cd x.toNat x.toNat k) (by omega) (by omega) (by
                                have ex : x.toNat = wc := by omega
                                rw [ex, fSy_n ⟨by omega, by omega⟩]
                                by_cases q : k < len (cd (n - 1))
                                · rw [if_pos q, j2 _ (by omega), c3 k q]
                                · have e9 := j3 0 (by omega)
                                  rw [ex, fSy_n ⟨by omega, by omega⟩, if_pos (by omega)] at e9
                                  rw [if_neg q, show bg (n - 1) + k = N + 0 by omega]
                                  exact e9) dX1_feed_155 ?_
                          refine sM_1 hx hb hw (N + k) (z := (N + k)) (v := fSy wc len sy n cd x.toNat x.toNat k) (by omega) (by omega) dX1_feed_156 (fun H locs hw => ?_)
                          refine r_iinc (a := k) (lv' := [(5, .int (iI (k + 1))), (0, .ref (h 0)), (1, .int (iI (x))), (2, .int (iI (bg (n - 1)))), (3, .int (iI (xL wc len n cd x))), (4, .int (iI (N)))]) (k := 5) hx hb dX1_feed_157 hl rfl (by decide) rfl (fun ls hl => ?_)
                          refine lv_goto (tgt := 114) hx hb dX1_feed_160 (by decide) ?_
                          exact ih114 (k + 1) ((up2 σ2 1 (N + k) (fSy wc len sy n cd x.toNat x.toNat k))) _ _ _ (by omega) (by omega) (fun i hi => by rw [up2_nj (by omega)]; exact j2 i hi) (fun i hi => by
                                by_cases q : i = k
                                · rw [q, up2_eq]
                                · rw [up2_nj (by omega)]; exact j3 i (by omega)) (fun a j ha => by rw [up2_nk ha]; exact j5 a j ha) hw (by rw [show ((k + 1 : Nat) : Int) = (k : Int) + 1 from by omega]; exact lv_sub hl [1, 2, 3, 4, 5, 0] rfl)
                        · exact absurd c_134 (by omega)
                  exact loop114 (xL wc len n cd x + 1) (0) (σ) _ _ _ (by omega) (by omega) (t1) (fun i hi => absurd hi (by omega)) (fun a j _ => rfl) hw (by rw [show ((0 : Nat) : Int) = 0 from rfl]; exact lv_sub hl [4, 5, 3, 2, 1, 0] rfl)
                · refine r_iconst hx hb dX1_feed_103 ?_
                  exact G_reti (σ' := σ) (z := (-1)) hx hb hr hlk hw (Or.inr ⟨fun q => by have := q.2.2.2; omega, rfl, rfl⟩) dX1_feed_104
              · exact absurd c_71 (by omega)
          · refine r_iconst hx hb dX1_feed_41 ?_
            exact G_reti (σ' := σ) (z := (-1)) hx hb hr hlk hw (Or.inr ⟨fun q => by have q1 := q.1; have q2 := q.2.1; have q3 := q.2.2.1; omega, rfl, rfl⟩) dX1_feed_42
    · have n0 : n = 0 := by omega
      refine lv_iload_n hx hb dX1_feed_11 rfl (lv_at hl 1 rfl) ?_
      refine r_iconst hx hb dX1_feed_12 ?_
      refine r_icmp_gt (a := x) (b := 3) (tgt := 41) hx hb dX1_feed_13 (by decide) (by omega) (by omega) (fun c_13 => ?_) (fun c_13 => ?_)
      · refine r_iconst hx hb dX1_feed_41 ?_
        exact G_reti (σ' := σ) (z := (-1)) hx hb hr hlk hw (Or.inr ⟨fun q => by have q1 := q.1; have q2 := q.2.1; have q3 := q.2.2.1; omega, rfl, rfl⟩) dX1_feed_42
      · refine lv_iload_n hx hb dX1_feed_16 rfl (lv_at hl 1 rfl) ?_
        refine lv_aload_n hx hb dX1_feed_17 rfl (lv_at hl 0 rfl) ?_
        refine gM_4 S hw (v := wc) t4 dX1_feed_18 ?_
        refine r_icmp_gt (a := x) (b := wc) (tgt := 41) hx hb dX1_feed_21 (by decide) (by omega) (by omega) (fun c_21 => ?_) (fun c_21 => ?_)
        · exact absurd c_21 (by omega)
        · refine lv_iload_n hx hb dX1_feed_24 rfl (lv_at hl 1 rfl) ?_
          refine lv_aload_n hx hb dX1_feed_25 rfl (lv_at hl 0 rfl) ?_
          refine gM_4 S hw (v := wc) t4 dX1_feed_26 ?_
          refine r_icmp_ne (a := x) (b := wc) (tgt := 43) hx hb dX1_feed_29 (by decide) (by omega) (by omega) (fun c_29 => ?_) (fun c_29 => ?_)
          · refine lv_aload_n hx hb dX1_feed_43 rfl (lv_at hl 0 rfl) ?_
            refine gM_2 S hw (v := n) t2 dX1_feed_44 ?_
            refine r_if_le (a := n) (tgt := 64) hx hb dX1_feed_47 (by decide) (by omega) (fun c_47 => ?_) (fun c_47 => ?_)
            · refine r_iconst hx hb dX1_feed_64 ?_
              refine lv_istore_n (lv' := [(2, .int (iI (0))), (0, .ref (h 0)), (1, .int (iI (x)))]) hx hb dX1_feed_65 rfl hl (by decide) rfl (fun ls hl => ?_)
              refine lv_iload_n hx hb dX1_feed_66 rfl (lv_at hl 2 rfl) ?_
              refine lv_aload_n hx hb dX1_feed_67 rfl (lv_at hl 1 rfl) ?_
              refine gM_4 S hw (v := wc) t4 dX1_feed_68 ?_
              refine r_icmp_ge (a := x) (b := wc) (tgt := 82) hx hb dX1_feed_71 (by decide) (by omega) (by omega) (fun c_71 => ?_) (fun c_71 => ?_)
              · exact absurd c_71 (by omega)
              · refine lv_aload_n hx hb dX1_feed_74 rfl (lv_at hl 1 rfl) ?_
                refine lv_iload_n hx hb dX1_feed_75 rfl (lv_at hl 2 rfl) ?_
                refine r_top (a := x) (b := ((x.toNat : Nat) : Int)) (by omega) ?_
                refine cM_i (As := [.int (iI (((x.toNat : Nat) : Int)))]) (rest := []) S hw (mM_lengthOf l D cI h σ x.toNat (len x.toNat : Int) (by omega) (fun q => by rw [(hD.2.2.1 _ q).1]; rfl) (fun q => (t5 _ q (by omega)).1)) (cwV 1 hts (lw_V q241 q243 qs10 q16 q244) rfl rfl rfl (by decide +kernel) ⟨Nat.le_of_ble_eq_true rfl, Nat.le_of_ble_eq_true rfl⟩) ⟨Nat.le_refl 0, Nat.le_refl 0⟩ rfl hl.1 rfl (Nat.le_of_ble_eq_true rfl) dX1_feed_76 (fun z1 σ1 H locs hp1 hw => ?_)
                obtain ⟨hz1, es⟩ := hp1
                rw [es] at hw
                refine r_top (a := z1) (b := xL wc len n cd x) (by rw [hz1]; unfold xL; rw [if_neg (by omega)]) ?_
                refine lv_goto (tgt := 90) hx hb dX1_feed_79 (by decide) ?_
                have eX : xL wc len n cd x = len x.toNat := by unfold xL; rw [if_neg (by omega)]
                have l3 := (hD.2.2.2 x.toNat (by omega)).1
                have l4 := (hD.2.2.2 x.toNat (by omega)).2.1
                have l5 : x.toNat < 4 → len x.toNat = 1 := fun q => (hD.2.2.1 _ q).1
                refine lv_istore_n (lv' := [(3, .int (iI (xL wc len n cd x))), (2, .int (iI (0))), (0, .ref (h 0)), (1, .int (iI (x)))]) hx hb dX1_feed_90 rfl hl (by decide) rfl (fun ls hl => ?_)
                refine lv_aload_n hx hb dX1_feed_91 rfl (lv_at hl 2 rfl) ?_
                refine gM_0 S hw (v := N) t0 dX1_feed_92 ?_
                refine lv_iload_n hx hb dX1_feed_95 rfl (lv_at hl 0 rfl) ?_
                refine r_iadd (a := N) (b := xL wc len n cd x) hx hb dX1_feed_96 ?_
                refine r_sipush hx hb dX1_feed_97 (by decide) ?_
                refine r_icmp_le (a := (N + xL wc len n cd x)) (b := 250) (tgt := 105) hx hb dX1_feed_100 (by decide) (by omega) (by omega) (fun c_100 => ?_) (fun c_100 => ?_)
                · have ok : okF wc len n N cd x := ⟨by omega, fun _ => by omega, fun _ => ⟨by omega, by omega⟩, by omega⟩
                  obtain ⟨o1, eL⟩ := okF_x hD.1 hD.2.1 ok
                  refine lv_aload_n hx hb dX1_feed_105 rfl (lv_at hl 2 rfl) ?_
                  refine gM_0 S hw (v := N) t0 dX1_feed_106 ?_
                  refine lv_istore (lv' := [(4, .int (iI (N))), (3, .int (iI (xL wc len n cd x))), (2, .int (iI (0))), (0, .ref (h 0)), (1, .int (iI (x)))]) hx hb dX1_feed_109 hl (by decide) rfl (fun ls hl => ?_)
                  refine r_iconst hx hb dX1_feed_111 ?_
                  refine lv_istore (lv' := [(5, .int (iI (0))), (4, .int (iI (N))), (3, .int (iI (xL wc len n cd x))), (2, .int (iI (0))), (0, .ref (h 0)), (1, .int (iI (x)))]) hx hb dX1_feed_112 hl (by decide) rfl (fun ls hl => ?_)
                  have loop114 : ∀ (f : Nat) (k : Nat) (σ2 : St) (H : Heap) (locs : List Loc) (ls : Array Slot), xL wc len n cd x < k + f → (k ≤ xL wc len n cd x) → (∀ i, i < N → σ2 1 i = (T i : Int)) → (∀ i, i < k → σ2 1 (N + i) = (fSy wc len sy n cd x.toNat x.toNat i : Int)) → (∀ a j, a ≠ 1 → σ2 a j = σ a j) → GW D [(cI, .int)] (wM h cI σ2) A s H locs → lv_has ls 6 [(0, .ref (h 0)), (1, .int (iI (x))), (2, .int (iI (0))), (3, .int (iI (xL wc len n cd x))), (4, .int (iI (N))), (5, .int (iI (k)))] → W p l e ({ frames := 1, cells := 0, slots := 0, locals := 22 }) s mi (Value.ref (h 0) :: [.int (iI (x))]).toArray bl me co H locs 0 0 (QGi D [(cI, .int)] (wM h cI) A s (Value.ref (h 0) :: [.int (iI (x))]).toArray bl (fun z σ' => (okF wc len n N cd x ∧ z = fLen wc len n cd x.toNat ∧ MRep (fWc wc n) (fLen wc len n cd) (fSy wc len sy n cd x.toNat) (n + 1) (N + fLen wc len n cd x.toNat) (aB n N bg (fLen wc len n cd x.toNat)) (aT N T (fSy wc len sy n cd x.toNat x.toNat)) m P σ') ∨ (¬ okF wc len n N cd x ∧ z = -1 ∧ σ' = σ))) (F0 mi 114 ls []) := by
                    intro f
                    induction f with
                    | zero =>
                      intro k σ2 H locs ls q0 j1 j2 j3 j5
                      exact absurd q0 (by omega)
                    | succ f ih114 =>
                      intro k σ2 H locs ls q0 j1 j2 j3 j5 hw hl
                      refine lv_iload hx hb dX1_feed_114 (lv_at hl 5 rfl) ?_
                      refine lv_iload_n hx hb dX1_feed_116 rfl (lv_at hl 3 rfl) ?_
                      refine r_icmp_ge (a := k) (b := xL wc len n cd x) (tgt := 163) hx hb dX1_feed_117 (by decide) (by omega) (by omega) (fun c_117 => ?_) (fun c_117 => ?_)
                      · refine lv_aload_n hx hb dX1_feed_163 rfl (lv_at hl 0 rfl) ?_
                        refine lv_iload hx hb dX1_feed_164 (lv_at hl 4 rfl) ?_
                        refine lv_iload_n hx hb dX1_feed_166 rfl (lv_at hl 3 rfl) ?_
                        refine r_iadd (a := N) (b := xL wc len n cd x) hx hb dX1_feed_167 ?_
                        refine pM_0 S hw (v := (N + xL wc len n cd x)) dX1_feed_168 (fun H locs hw => ?_)
                        refine lv_aload_n hx hb dX1_feed_171 rfl (lv_at hl 0 rfl) ?_
                        refine gM_2 S hw (v := n) ((j5 2 0 (by omega)).trans t2) dX1_feed_172 ?_
                        refine r_if_le (a := n) (tgt := 222) hx hb dX1_feed_175 (by decide) (by omega) (fun c_175 => ?_) (fun c_175 => ?_)
                        · refine lv_aload_n hx hb dX1_feed_222 rfl (lv_at hl 0 rfl) ?_
                          refine gM_3 S hw dX1_feed_223 ?_
                          refine lv_aload_n hx hb dX1_feed_226 rfl (lv_at hl 0 rfl) ?_
                          refine gM_2 S hw (v := n) ((j5 2 0 (by omega)).trans t2) dX1_feed_227 ?_
                          refine lv_iload hx hb dX1_feed_230 (lv_at hl 4 rfl) ?_
                          refine sM_3 hx hb hw (n) (z := n) (v := N) (by omega) (by omega) dX1_feed_232 (fun H locs hw => ?_)
                          refine lv_aload_n hx hb dX1_feed_233 rfl (lv_at hl 0 rfl) ?_
                          refine lv_dup hx hb dX1_feed_234 rfl ?_
                          refine gM_2 S hw (v := n) ((j5 2 0 (by omega)).trans t2) dX1_feed_235 ?_
                          refine r_iconst hx hb dX1_feed_238 ?_
                          refine r_iadd (a := n) (b := 1) hx hb dX1_feed_239 ?_
                          refine pM_2 S hw (v := (n + 1)) dX1_feed_240 (fun H locs hw => ?_)
                          refine lv_aload_n hx hb dX1_feed_243 rfl (lv_at hl 0 rfl) ?_
                          refine gM_3 S hw dX1_feed_244 ?_
                          refine lv_aload_n hx hb dX1_feed_247 rfl (lv_at hl 0 rfl) ?_
                          refine gM_2 S hw (v := (n + 1)) rfl dX1_feed_248 ?_
                          refine lv_aload_n hx hb dX1_feed_251 rfl (lv_at hl 0 rfl) ?_
                          refine gM_0 S hw (v := (N + xL wc len n cd x)) rfl dX1_feed_252 ?_
                          refine sM_3 hx hb hw (n + 1) (z := (n + 1)) (v := (N + xL wc len n cd x)) (by omega) (by omega) dX1_feed_255 (fun H locs hw => ?_)
                          refine lv_iload_n hx hb dX1_feed_256 rfl (lv_at hl 3 rfl) ?_
                          refine G_reti (σ' := (up2 (up2 (up2 (up2 σ2 0 0 ((N + xL wc len n cd x))) 3 (n) (N)) 2 0 ((n + 1))) 3 (n + 1) ((N + xL wc len n cd x)))) (z := xL wc len n cd x) hx hb hr hlk hw ?_ dX1_feed_257
                          have kx : k = xL wc len n cd x := by omega
                          refine Or.inl ⟨ok, by rw [eL], M_feed hf0 hr00 ok (by rw [eL]; rfl) (fun i hi => ?_) (fun i hi => ?_) rfl (fun k9 hk => ?_) ?_ ?_ ?_ (fun i => ?_) ?_⟩
                          · rw [up2_nk (by omega), up2_nk (by omega), up2_nk (by omega), up2_nk (by omega)]; exact j2 i hi
                          · rw [up2_nk (by omega), up2_nk (by omega), up2_nk (by omega), up2_nk (by omega)]; exact j3 i (by omega)
                          · rw [up2_nj (by omega), up2_nk (by omega), up2_nj (by omega), up2_nk (by omega)]; exact j5 3 k9 (by omega)
                          · rw [up2_nj (by omega), up2_nk (by omega), up2_eq]
                          · rw [up2_eq, eL]
                          · rw [up2_nk (by omega), up2_nk (by omega), up2_nk (by omega), up2_nk (by omega)]; exact j5 7 0 (by omega)
                          · rw [up2_nk (by omega), up2_nk (by omega), up2_nk (by omega), up2_nk (by omega)]; exact j5 8 i (by omega)
                          · exact Or.inr ⟨by omega, by rw [up2_nk (by omega), up2_nk (by omega), up2_nk (by omega), up2_nk (by omega)]; exact (j5 4 0 (by omega)).trans t4, fun w => ⟨by rw [up2_nk (by omega), up2_nk (by omega), up2_nk (by omega), up2_nk (by omega)]; exact j5 5 w (by omega), by rw [up2_nk (by omega), up2_nk (by omega), up2_nk (by omega), up2_nk (by omega)]; exact j5 6 w (by omega)⟩⟩
                        · exact absurd c_175 (by omega)
                      · refine lv_aload_n hx hb dX1_feed_120 rfl (lv_at hl 0 rfl) ?_
                        refine gM_1 S hw dX1_feed_121 ?_
                        refine lv_iload hx hb dX1_feed_124 (lv_at hl 4 rfl) ?_
                        refine lv_iload hx hb dX1_feed_126 (lv_at hl 5 rfl) ?_
                        refine r_iadd (a := N) (b := k) hx hb dX1_feed_128 ?_
                        refine lv_iload_n hx hb dX1_feed_129 rfl (lv_at hl 1 rfl) ?_
                        refine lv_aload_n hx hb dX1_feed_130 rfl (lv_at hl 0 rfl) ?_
                        refine gM_4 S hw (v := wc) ((j5 4 0 (by omega)).trans t4) dX1_feed_131 ?_
                        refine r_icmp_ge (a := x) (b := wc) (tgt := 147) hx hb dX1_feed_134 (by decide) (by omega) (by omega) (fun c_134 => ?_) (fun c_134 => ?_)
                        · exact absurd c_134 (by omega)
                        · refine lv_aload_n hx hb dX1_feed_137 rfl (lv_at hl 0 rfl) ?_
                          refine lv_iload_n hx hb dX1_feed_138 rfl (lv_at hl 1 rfl) ?_
                          refine r_top (a := x) (b := ((x.toNat : Nat) : Int)) (by omega) ?_
                          refine lv_iload hx hb dX1_feed_139 (lv_at hl 5 rfl) ?_
                          refine cM_i (As := [.int (iI (((x.toNat : Nat) : Int))), .int (iI (k))]) (rest := [.int (iI ((N + k))), .ref (h 1)]) S hw (mM_symbolOf l D cI h σ2 x.toNat k (sy x.toNat k : Int) (by omega) (fun q => by have e8 := hD.2.2.1 _ q; rw [show k = 0 by omega, e8.2]) (fun q => by obtain ⟨-, pp, a1, a2, a3⟩ := t5 _ q (by omega); exact ⟨pp, (j5 5 _ (by omega)).trans a1, by omega, by rw [j2 _ (by omega), a3 _ (by omega)]⟩)) (cwV 2 hts (lw_V q245 q247 qs11 q16 q248) rfl rfl rfl (by decide +kernel) ⟨Nat.le_of_ble_eq_true rfl, Nat.le_of_ble_eq_true rfl⟩) ⟨Nat.le_refl 0, Nat.le_refl 0⟩ rfl hl.1 rfl (Nat.le_of_ble_eq_true rfl) dX1_feed_141 (fun z2 σ1 H locs hp1 hw => ?_)
                          obtain ⟨hz2, es⟩ := hp1
                          rw [es] at hw
                          refine r_top (a := z2) (b := fSy wc len sy n cd x.toNat x.toNat k) (by rw [hz2, fSy_x (by omega)]) ?_
                          refine lv_goto (tgt := 156) hx hb dX1_feed_144 (by decide) ?_
                          refine sM_1 hx hb hw (N + k) (z := (N + k)) (v := fSy wc len sy n cd x.toNat x.toNat k) (by omega) (by omega) dX1_feed_156 (fun H locs hw => ?_)
                          refine r_iinc (a := k) (lv' := [(5, .int (iI (k + 1))), (0, .ref (h 0)), (1, .int (iI (x))), (2, .int (iI (0))), (3, .int (iI (xL wc len n cd x))), (4, .int (iI (N)))]) (k := 5) hx hb dX1_feed_157 hl rfl (by decide) rfl (fun ls hl => ?_)
                          refine lv_goto (tgt := 114) hx hb dX1_feed_160 (by decide) ?_
                          exact ih114 (k + 1) ((up2 σ2 1 (N + k) (fSy wc len sy n cd x.toNat x.toNat k))) _ _ _ (by omega) (by omega) (fun i hi => by rw [up2_nj (by omega)]; exact j2 i hi) (fun i hi => by
                                by_cases q : i = k
                                · rw [q, up2_eq]
                                · rw [up2_nj (by omega)]; exact j3 i (by omega)) (fun a j ha => by rw [up2_nk ha]; exact j5 a j ha) hw (by rw [show ((k + 1 : Nat) : Int) = (k : Int) + 1 from by omega]; exact lv_sub hl [1, 2, 3, 4, 5, 0] rfl)
                  exact loop114 (xL wc len n cd x + 1) (0) (σ) _ _ _ (by omega) (by omega) (t1) (fun i hi => absurd hi (by omega)) (fun a j _ => rfl) hw (by rw [show ((0 : Nat) : Int) = 0 from rfl]; exact lv_sub hl [4, 5, 3, 2, 1, 0] rfl)
                · refine r_iconst hx hb dX1_feed_103 ?_
                  exact G_reti (σ' := σ) (z := (-1)) hx hb hr hlk hw (Or.inr ⟨fun q => by have := q.2.2.2; omega, rfl, rfl⟩) dX1_feed_104
            · exact absurd c_47 (by omega)
          · exact absurd c_29 (by omega)
end
section
/-! the two constructors (printed by gen/init.py) -/
set_option maxRecDepth 100000
def gL : Nat → Nat := fun _ => 1
def gS : Nat → Nat → Nat := fun w _ => w
def g0 : Nat → Nat := fun _ => 0
def s0X : St := fun a b => if a = 0 ∧ b = 0 then 4 else 0
def s0M : St := fun a b => if a = 4 ∧ b = 0 then 4 else 0
abbrev fsX : List Value := [.int 0, .null, .null, .null, .null, .null, .int 0, .int 0, .null, .int 0, .null, .null, .null, .null, .null, .int 0, .int 0, .int 0, .int 0, .int 0, .int 0, .int 0]
abbrev fsM : List Value := [.int 0, .null, .int 0, .null, .int 0, .null, .null, .int 0, .null]
theorem Wf0 : Wf 4 gL gS 0 0 g0 g0 g0 0 g0 := ⟨⟨by omega, by omega, fun w _ => ⟨rfl, rfl⟩, fun w hw => ⟨Nat.le_refl 1, by show 1 ≤ 250; omega, fun k _ => hw⟩⟩, ⟨by omega, rfl, rfl, fun k hk => absurd hk (by omega)⟩, ⟨by omega, fun i hi => absurd hi (by omega)⟩⟩
theorem MRep0 : MRep 4 gL gS 0 0 g0 g0 0 g0 s0M := ⟨rfl, fun i hi => absurd hi (by omega), rfl, fun k _ => rfl, rfl, fun w h1 h2 => absurd h1 (by omega), rfl, fun i hi => absurd hi (by omega)⟩
theorem X_init_tail {p : Program} {l : Launch} {e : Env} {R : Room} {s : State} {mi : MethodId} {args : Array Value} {bl : List Frame} {me : Method} {co : Code} {cells slots : Nat} {Q : State → Prop} {D : va_G} {A : Nat → Prop} {cB cS : ClassId} {h : Nat → Nat} {H : Heap} {locs : List Loc} {ls : Array Slot} (S : CallFix p mi co cX0_init 2 s args lw_all RX0) (hw : GW D [(cB, .byte), (cS, .short)] (wX h cB cS s0X) A s H locs) (hl : lv_has ls 2 [(0, .ref (h 0))])
    (kx : ∀ (σ1 : St) (H1 : Heap) (locs1 : List Loc) (ls1 : Array Slot), XRep 4 gL gS 0 0 g0 g0 0 g0 σ1 → GW D [(cB, .byte), (cS, .short)] (wX h cB cS σ1) A s H1 locs1 → W p l e R s mi args bl me co H1 locs1 cells slots Q (F0 mi 145 ls1 [])) : W p l e R s mi args bl me co H locs cells slots Q (F0 mi 102 ls []) := by
  have hx := S.1
  have hb := S.2.1
  refine r_iconst hx hb dX0_init_102 ?_
  refine lv_istore_n (lv' := [(1, .int (iI (0))), (0, .ref (h 0))]) hx hb dX0_init_103 rfl hl (by decide) rfl (fun ls hl => ?_)
  have loop104 : ∀ (f : Nat) (i : Nat) (σ1 : St) (H : Heap) (locs : List Loc) (ls : Array Slot), 4 < i + f → (i ≤ 4) → (∀ w, w < i → σ1 1 w = -1 ∧ σ1 2 w = (w : Int) ∧ σ1 3 w = (w : Int) ∧ σ1 4 w = 1) → (∀ a j, (a = 0 ∨ 5 ≤ a) → σ1 a j = s0X a j) → GW D [(cB, .byte), (cS, .short)] (wX h cB cS σ1) A s H locs → lv_has ls 2 [(0, .ref (h 0)), (1, .int (iI (i)))] → W p l e R s mi args bl me co H locs cells slots Q (F0 mi 104 ls []) := by
    intro f
    induction f with
    | zero =>
      intro i σ1 H locs ls q0 j1 j2 j3
      exact absurd q0 (by omega)
    | succ f ih104 =>
      intro i σ1 H locs ls q0 j1 j2 j3 hw hl
      refine lv_iload_n hx hb dX0_init_104 rfl (lv_at hl 1 rfl) ?_
      refine r_iconst hx hb dX0_init_105 ?_
      refine r_icmp_ge (a := i) (b := 4) (tgt := 145) hx hb dX0_init_106 (by decide) (by omega) (by omega) (fun c_106 => ?_) (fun c_106 => ?_)
      · refine kx σ1 _ _ _ ⟨⟨j3 0 0 (by omega), fun w hw => ?_, fun w hw => (j2 w (by omega)).1, fun w h1 h2 => absurd h1 (by omega)⟩, ⟨j3 6 0 (by omega), j3 7 0 (by omega), fun k hk => absurd hk (by omega)⟩, ⟨j3 9 0 (by omega), fun k hk => absurd hk (by omega)⟩, XTab.none (j3 15 0 (by omega)), Or.inl (j3 16 0 (by omega))⟩ hw
        obtain ⟨a1, a2, a3, a4⟩ := j2 w (by omega)
        exact ⟨a4, a2, a3⟩
      · refine lv_aload_n hx hb dX0_init_109 rfl (lv_at hl 0 rfl) ?_
        refine gX_1 S hw dX0_init_110 ?_
        refine lv_iload_n hx hb dX0_init_113 rfl (lv_at hl 1 rfl) ?_
        refine r_iconst hx hb dX0_init_114 ?_
        refine sX_1 hx hb hw (i) (z := i) (v := (-1)) (by omega) (by omega) (by omega) dX0_init_115 (fun H locs hw => ?_)
        refine lv_aload_n hx hb dX0_init_116 rfl (lv_at hl 0 rfl) ?_
        refine gX_2 S hw dX0_init_117 ?_
        refine lv_iload_n hx hb dX0_init_120 rfl (lv_at hl 1 rfl) ?_
        refine lv_iload_n hx hb dX0_init_121 rfl (lv_at hl 1 rfl) ?_
        refine r_i2b (a := i) hx hb dX0_init_122 (by omega) ?_
        refine sX_2 hx hb hw (i) (z := i) (v := i) (by omega) (by omega) (by omega) dX0_init_123 (fun H locs hw => ?_)
        refine lv_aload_n hx hb dX0_init_124 rfl (lv_at hl 0 rfl) ?_
        refine gX_3 S hw dX0_init_125 ?_
        refine lv_iload_n hx hb dX0_init_128 rfl (lv_at hl 1 rfl) ?_
        refine lv_iload_n hx hb dX0_init_129 rfl (lv_at hl 1 rfl) ?_
        refine r_i2b (a := i) hx hb dX0_init_130 (by omega) ?_
        refine sX_3 hx hb hw (i) (z := i) (v := i) (by omega) (by omega) (by omega) dX0_init_131 (fun H locs hw => ?_)
        refine lv_aload_n hx hb dX0_init_132 rfl (lv_at hl 0 rfl) ?_
        refine gX_4 S hw dX0_init_133 ?_
        refine lv_iload_n hx hb dX0_init_136 rfl (lv_at hl 1 rfl) ?_
        refine r_iconst hx hb dX0_init_137 ?_
        refine sX_4 hx hb hw (i) (z := i) (v := 1) (by omega) (by omega) (by omega) dX0_init_138 (fun H locs hw => ?_)
        refine r_iinc (a := i) (lv' := [(1, .int (iI (i + 1))), (0, .ref (h 0))]) (k := 1) hx hb dX0_init_139 hl rfl (by decide) rfl (fun ls hl => ?_)
        refine lv_goto (tgt := 104) hx hb dX0_init_142 (by decide) ?_
        exact ih104 (i + 1) ((up2 (up2 (up2 (up2 σ1 1 (i) ((-1))) 2 (i) (i)) 3 (i) (i)) 4 (i) (1))) _ _ _ (by omega) (by omega) (fun w hw => by
              by_cases q : w = i
              · subst q; simp [up2]
              · have := j2 w (by omega)
                simp [up2, q, this]) (fun a j ha => by rw [up2_nk (by omega), up2_nk (by omega), up2_nk (by omega), up2_nk (by omega)]; exact j3 a j ha) hw (by rw [show ((i + 1 : Nat) : Int) = (i : Int) + 1 from by omega]; exact lv_sub hl [1, 0] rfl)
  exact loop104 (5) (0) (s0X) _ _ _ (by omega) (by omega) (fun w hw => absurd hw (by omega)) (fun a j _ => rfl) hw (by rw [show ((0 : Nat) : Int) = 0 from rfl]; exact lv_sub hl [1, 0] rfl)
set_option maxHeartbeats 4000000 in
theorem mX_init (l : Launch) (D : va_G) (h0 sz : Nat) : Met l yX0_init (ws_ yX0_init cX0_init 2 none) ({ frames := 1, cells := 11, slots := 2204, locals := 12 }) (va_Pc [.ref h0] (fun U => U.heap.size = sz ∧ GB D [] [(h0, .inr (0, fsX))] (fun _ => True) U)) (va_Qv (fun (u : (Nat → Nat) × ClassId × ClassId × St) => u.1 0 = h0 ∧ XRep 4 gL gS 0 0 g0 g0 0 g0 u.2.2.2) (fun u t => GB D [(u.2.1, .byte), (u.2.2.1, .short)] (wX u.1 u.2.1 u.2.2.1 u.2.2.2) (GA [h0] sz) t) (GA [h0] sz)) 11 2204 (GA [h0] sz) := by
  refine Met.ofW (cc := cX0_init) (maxL := 2) (ret := none) (by decide) rfl ?_
  intro p e s m args below meth c s₁ B hml hv
  obtain ⟨rfl, hsz, hP, hK, hD0⟩ := hv
  have hx := B.exec
  have hb := B.bytes
  have hr := B.returns
  have hts := atoms_spec (ws := ws_ yX0_init cX0_init 2 none) B.pre
  have hts : ∀ w ∈ lw_all, w.before _ s = true := fun w h => hts w (List.mem_cons_of_mem _ h)
  have hown : s.vm.findClass RX0 = some m.cls := findClass_of_methodNamed B.named
  have hlk := B.notSynchronized
  have hin : meth.name = "<init>" := (name_of_methodNamed B.named B.method).1
  subst hsz
  have hD := hD0.self (sz := s.heap.size)
  rw [GA_eq (ad := [h0]) rfl] at hD
  have hA : ∀ q : Nat, s.heap.size ≤ q → GA [h0] s.heap.size q := fun q h => Or.inr h
  generalize GA [h0] s.heap.size = A at hD hA ⊢
  have hS : va_S A s.heap s.heap [] := va_S.rf
  have hl := lv_entry ([.ref h0]) (n := 2) (Nat.le_of_ble_eq_true rfl)
  rw [lg_entry_eq]
  generalize (lg_sl ([.ref h0]) ++ List.replicate (2 - (lg_sl ([.ref h0])).length) Slot.unset).toArray = ls at hl ⊢
  have hl : lv_has ls 2 [(0, .ref h0)] := hl
  refine lv_aload_n hx hb dX0_init_0 rfl (lv_at hl 0 rfl) ?_
  refine W.objInit hx hb hown (hts _ q22) (hts _ q23) (hts _ q24) rfl (by rw [hml]; exact hl.1) rfl dX0_init_1 (Nat.le_of_ble_eq_true rfl) (Nat.le_of_ble_eq_true rfl) ?_
  refine W.eq (g2 := F0 m 4 ls []) rfl ?_
  refine lv_aload_n hx hb dX0_init_4 rfl (lv_at hl 0 rfl) ?_
  refine r_iconst hx hb dX0_init_5 ?_
  refine va_put (D := D) (ci := 0) (v := .int (iI 4)) (ty := .int) (C := RX0) (T := TX0) (N := 22) hx hb hts in_X0 tyX0 tyX0_ok nmX0 hown hK hP hD hS 0 rfl rfl 0 (by decide) (hts _ q25) (fun _ h9 => h9) rfl (by decide +kernel) rfl rfl (Nat.le_of_ble_eq_true rfl) dX0_init_6 (fun H locs hP hD hS => ?_)
  have hP : va_P D vwCl [(h0, .inr (0, [.int (iI 4), .null, .null, .null, .null, .null, .int 0, .int 0, .null, .int 0, .null, .null, .null, .null, .null, .int 0, .int 0, .int 0, .int 0, .int 0, .int 0, .int 0]))] H := hP
  have hD : va_D A [(h0, .inr (0, [.int (iI 4), .null, .null, .null, .null, .null, .int 0, .int 0, .null, .int 0, .null, .null, .null, .null, .null, .int 0, .int 0, .int 0, .int 0, .int 0, .int 0, .int 0]))] := hD
  refine lv_aload_n hx hb dX0_init_9 rfl (lv_at hl 0 rfl) ?_
  refine r_bipush hx hb dX0_init_10 (by decide) ?_
  refine va_newa (D := D) (a0 := (60, .inl (fun _ => 0))) (N' := 60) (ty := .byte) (atype := .byte) hx hb (hts _ q92) rfl hK hP hD hS hA (fun _ => rfl) (by decide) (by decide) (by decide) (Nat.le_of_ble_eq_true rfl) (Nat.le_of_ble_eq_true rfl) dX0_init_12 (fun a0 cB H hK hP hD hS => ?_)
  have hP : va_P D vwCl [(h0, .inr (0, [.int (iI 4), .null, .null, .null, .null, .null, .int 0, .int 0, .null, .int 0, .null, .null, .null, .null, .null, .int 0, .int 0, .int 0, .int 0, .int 0, .int 0, .int 0])), (a0, .inl (cB, 60, .inl (fun _ => 0)))] H := hP
  have hD : va_D A [(h0, .inr (0, [.int (iI 4), .null, .null, .null, .null, .null, .int 0, .int 0, .null, .int 0, .null, .null, .null, .null, .null, .int 0, .int 0, .int 0, .int 0, .int 0, .int 0, .int 0])), (a0, .inl (cB, 60, .inl (fun _ => 0)))] := hD
  have hK : va_K D vwCl [(cB, .byte)] s := hK
  refine va_putF (D := D) (ci := 0) (v := .ref a0) (ty := .array .byte) (C := RX0) (T := TX0) (N := 22) hx hb hts in_X0 tyX0 tyX0_ok nmX0 hown hK hP hD hS 0 rfl rfl 1 (by decide) (hts _ q26) (fun _ h9 => h9) rfl hin rfl (by decide +kernel) rfl rfl (Nat.le_of_ble_eq_true rfl) dX0_init_14 (fun H locs hP hD hS => ?_)
  have hP : va_P D vwCl [(h0, .inr (0, [.int (iI 4), .ref a0, .null, .null, .null, .null, .int 0, .int 0, .null, .int 0, .null, .null, .null, .null, .null, .int 0, .int 0, .int 0, .int 0, .int 0, .int 0, .int 0])), (a0, .inl (cB, 60, .inl (fun _ => 0)))] H := hP
  have hD : va_D A [(h0, .inr (0, [.int (iI 4), .ref a0, .null, .null, .null, .null, .int 0, .int 0, .null, .int 0, .null, .null, .null, .null, .null, .int 0, .int 0, .int 0, .int 0, .int 0, .int 0, .int 0])), (a0, .inl (cB, 60, .inl (fun _ => 0)))] := hD
  refine lv_aload_n hx hb dX0_init_17 rfl (lv_at hl 0 rfl) ?_
  refine r_bipush hx hb dX0_init_18 (by decide) ?_
  refine va_newa (D := D) (a0 := (60, .inl (fun _ => 0))) (N' := 60) (ty := .byte) (atype := .byte) hx hb (hts _ q92) rfl hK hP hD hS hA (fun _ => rfl) (by decide) (by decide) (by decide) (Nat.le_of_ble_eq_true rfl) (Nat.le_of_ble_eq_true rfl) dX0_init_20 (fun a1 c9 H hK hP hD hS => ?_)
  have ec : cB = c9 := Option.some.inj ((hK.2 0 _ rfl).2.symm.trans (hK.2 1 _ rfl).2)
  subst ec
  have hK := hK.sub (tys' := [(cB, .byte)]) [0] rfl
  have hP : va_P D vwCl [(h0, .inr (0, [.int (iI 4), .ref a0, .null, .null, .null, .null, .int 0, .int 0, .null, .int 0, .null, .null, .null, .null, .null, .int 0, .int 0, .int 0, .int 0, .int 0, .int 0, .int 0])), (a0, .inl (cB, 60, .inl (fun _ => 0))), (a1, .inl (cB, 60, .inl (fun _ => 0)))] H := hP
  have hD : va_D A [(h0, .inr (0, [.int (iI 4), .ref a0, .null, .null, .null, .null, .int 0, .int 0, .null, .int 0, .null, .null, .null, .null, .null, .int 0, .int 0, .int 0, .int 0, .int 0, .int 0, .int 0])), (a0, .inl (cB, 60, .inl (fun _ => 0))), (a1, .inl (cB, 60, .inl (fun _ => 0)))] := hD
  have hK : va_K D vwCl [(cB, .byte)] s := hK
  refine va_putF (D := D) (ci := 0) (v := .ref a1) (ty := .array .byte) (C := RX0) (T := TX0) (N := 22) hx hb hts in_X0 tyX0 tyX0_ok nmX0 hown hK hP hD hS 0 rfl rfl 2 (by decide) (hts _ q27) (fun _ h9 => h9) rfl hin rfl (by decide +kernel) rfl rfl (Nat.le_of_ble_eq_true rfl) dX0_init_22 (fun H locs hP hD hS => ?_)
  have hP : va_P D vwCl [(h0, .inr (0, [.int (iI 4), .ref a0, .ref a1, .null, .null, .null, .int 0, .int 0, .null, .int 0, .null, .null, .null, .null, .null, .int 0, .int 0, .int 0, .int 0, .int 0, .int 0, .int 0])), (a0, .inl (cB, 60, .inl (fun _ => 0))), (a1, .inl (cB, 60, .inl (fun _ => 0)))] H := hP
  have hD : va_D A [(h0, .inr (0, [.int (iI 4), .ref a0, .ref a1, .null, .null, .null, .int 0, .int 0, .null, .int 0, .null, .null, .null, .null, .null, .int 0, .int 0, .int 0, .int 0, .int 0, .int 0, .int 0])), (a0, .inl (cB, 60, .inl (fun _ => 0))), (a1, .inl (cB, 60, .inl (fun _ => 0)))] := hD
  refine lv_aload_n hx hb dX0_init_25 rfl (lv_at hl 0 rfl) ?_
  refine r_bipush hx hb dX0_init_26 (by decide) ?_
  refine va_newa (D := D) (a0 := (60, .inl (fun _ => 0))) (N' := 60) (ty := .byte) (atype := .byte) hx hb (hts _ q92) rfl hK hP hD hS hA (fun _ => rfl) (by decide) (by decide) (by decide) (Nat.le_of_ble_eq_true rfl) (Nat.le_of_ble_eq_true rfl) dX0_init_28 (fun a2 c9 H hK hP hD hS => ?_)
  have ec : cB = c9 := Option.some.inj ((hK.2 0 _ rfl).2.symm.trans (hK.2 1 _ rfl).2)
  subst ec
  have hK := hK.sub (tys' := [(cB, .byte)]) [0] rfl
  have hP : va_P D vwCl [(h0, .inr (0, [.int (iI 4), .ref a0, .ref a1, .null, .null, .null, .int 0, .int 0, .null, .int 0, .null, .null, .null, .null, .null, .int 0, .int 0, .int 0, .int 0, .int 0, .int 0, .int 0])), (a0, .inl (cB, 60, .inl (fun _ => 0))), (a1, .inl (cB, 60, .inl (fun _ => 0))), (a2, .inl (cB, 60, .inl (fun _ => 0)))] H := hP
  have hD : va_D A [(h0, .inr (0, [.int (iI 4), .ref a0, .ref a1, .null, .null, .null, .int 0, .int 0, .null, .int 0, .null, .null, .null, .null, .null, .int 0, .int 0, .int 0, .int 0, .int 0, .int 0, .int 0])), (a0, .inl (cB, 60, .inl (fun _ => 0))), (a1, .inl (cB, 60, .inl (fun _ => 0))), (a2, .inl (cB, 60, .inl (fun _ => 0)))] := hD
  have hK : va_K D vwCl [(cB, .byte)] s := hK
  refine va_putF (D := D) (ci := 0) (v := .ref a2) (ty := .array .byte) (C := RX0) (T := TX0) (N := 22) hx hb hts in_X0 tyX0 tyX0_ok nmX0 hown hK hP hD hS 0 rfl rfl 3 (by decide) (hts _ q28) (fun _ h9 => h9) rfl hin rfl (by decide +kernel) rfl rfl (Nat.le_of_ble_eq_true rfl) dX0_init_30 (fun H locs hP hD hS => ?_)
  have hP : va_P D vwCl [(h0, .inr (0, [.int (iI 4), .ref a0, .ref a1, .ref a2, .null, .null, .int 0, .int 0, .null, .int 0, .null, .null, .null, .null, .null, .int 0, .int 0, .int 0, .int 0, .int 0, .int 0, .int 0])), (a0, .inl (cB, 60, .inl (fun _ => 0))), (a1, .inl (cB, 60, .inl (fun _ => 0))), (a2, .inl (cB, 60, .inl (fun _ => 0)))] H := hP
  have hD : va_D A [(h0, .inr (0, [.int (iI 4), .ref a0, .ref a1, .ref a2, .null, .null, .int 0, .int 0, .null, .int 0, .null, .null, .null, .null, .null, .int 0, .int 0, .int 0, .int 0, .int 0, .int 0, .int 0])), (a0, .inl (cB, 60, .inl (fun _ => 0))), (a1, .inl (cB, 60, .inl (fun _ => 0))), (a2, .inl (cB, 60, .inl (fun _ => 0)))] := hD
  refine lv_aload_n hx hb dX0_init_33 rfl (lv_at hl 0 rfl) ?_
  refine r_bipush hx hb dX0_init_34 (by decide) ?_
  refine va_newa (D := D) (a0 := (60, .inl (fun _ => 0))) (N' := 60) (ty := .short) (atype := .short) hx hb (hts _ q93) rfl hK hP hD hS hA (fun _ => rfl) (by decide) (by decide) (by decide) (Nat.le_of_ble_eq_true rfl) (Nat.le_of_ble_eq_true rfl) dX0_init_36 (fun a3 cS H hK hP hD hS => ?_)
  have hP : va_P D vwCl [(h0, .inr (0, [.int (iI 4), .ref a0, .ref a1, .ref a2, .null, .null, .int 0, .int 0, .null, .int 0, .null, .null, .null, .null, .null, .int 0, .int 0, .int 0, .int 0, .int 0, .int 0, .int 0])), (a0, .inl (cB, 60, .inl (fun _ => 0))), (a1, .inl (cB, 60, .inl (fun _ => 0))), (a2, .inl (cB, 60, .inl (fun _ => 0))), (a3, .inl (cS, 60, .inl (fun _ => 0)))] H := hP
  have hD : va_D A [(h0, .inr (0, [.int (iI 4), .ref a0, .ref a1, .ref a2, .null, .null, .int 0, .int 0, .null, .int 0, .null, .null, .null, .null, .null, .int 0, .int 0, .int 0, .int 0, .int 0, .int 0, .int 0])), (a0, .inl (cB, 60, .inl (fun _ => 0))), (a1, .inl (cB, 60, .inl (fun _ => 0))), (a2, .inl (cB, 60, .inl (fun _ => 0))), (a3, .inl (cS, 60, .inl (fun _ => 0)))] := hD
  have hK : va_K D vwCl [(cB, .byte), (cS, .short)] s := hK
  refine va_putF (D := D) (ci := 0) (v := .ref a3) (ty := .array .short) (C := RX0) (T := TX0) (N := 22) hx hb hts in_X0 tyX0 tyX0_ok nmX0 hown hK hP hD hS 0 rfl rfl 4 (by decide) (hts _ q29) (fun _ h9 => h9) rfl hin rfl (by decide +kernel) rfl rfl (Nat.le_of_ble_eq_true rfl) dX0_init_38 (fun H locs hP hD hS => ?_)
  have hP : va_P D vwCl [(h0, .inr (0, [.int (iI 4), .ref a0, .ref a1, .ref a2, .ref a3, .null, .int 0, .int 0, .null, .int 0, .null, .null, .null, .null, .null, .int 0, .int 0, .int 0, .int 0, .int 0, .int 0, .int 0])), (a0, .inl (cB, 60, .inl (fun _ => 0))), (a1, .inl (cB, 60, .inl (fun _ => 0))), (a2, .inl (cB, 60, .inl (fun _ => 0))), (a3, .inl (cS, 60, .inl (fun _ => 0)))] H := hP
  have hD : va_D A [(h0, .inr (0, [.int (iI 4), .ref a0, .ref a1, .ref a2, .ref a3, .null, .int 0, .int 0, .null, .int 0, .null, .null, .null, .null, .null, .int 0, .int 0, .int 0, .int 0, .int 0, .int 0, .int 0])), (a0, .inl (cB, 60, .inl (fun _ => 0))), (a1, .inl (cB, 60, .inl (fun _ => 0))), (a2, .inl (cB, 60, .inl (fun _ => 0))), (a3, .inl (cS, 60, .inl (fun _ => 0)))] := hD
  refine lv_aload_n hx hb dX0_init_41 rfl (lv_at hl 0 rfl) ?_
  refine r_sipush hx hb dX0_init_42 (by decide) ?_
  refine va_newa (D := D) (a0 := (250, .inl (fun _ => 0))) (N' := 250) (ty := .byte) (atype := .byte) hx hb (hts _ q92) rfl hK hP hD hS hA (fun _ => rfl) (by decide) (by decide) (by decide) (Nat.le_of_ble_eq_true rfl) (Nat.le_of_ble_eq_true rfl) dX0_init_45 (fun a4 c9 H hK hP hD hS => ?_)
  have ec : cB = c9 := Option.some.inj ((hK.2 0 _ rfl).2.symm.trans (hK.2 2 _ rfl).2)
  subst ec
  have hK := hK.sub (tys' := [(cB, .byte), (cS, .short)]) [0, 1] rfl
  have hP : va_P D vwCl [(h0, .inr (0, [.int (iI 4), .ref a0, .ref a1, .ref a2, .ref a3, .null, .int 0, .int 0, .null, .int 0, .null, .null, .null, .null, .null, .int 0, .int 0, .int 0, .int 0, .int 0, .int 0, .int 0])), (a0, .inl (cB, 60, .inl (fun _ => 0))), (a1, .inl (cB, 60, .inl (fun _ => 0))), (a2, .inl (cB, 60, .inl (fun _ => 0))), (a3, .inl (cS, 60, .inl (fun _ => 0))), (a4, .inl (cB, 250, .inl (fun _ => 0)))] H := hP
  have hD : va_D A [(h0, .inr (0, [.int (iI 4), .ref a0, .ref a1, .ref a2, .ref a3, .null, .int 0, .int 0, .null, .int 0, .null, .null, .null, .null, .null, .int 0, .int 0, .int 0, .int 0, .int 0, .int 0, .int 0])), (a0, .inl (cB, 60, .inl (fun _ => 0))), (a1, .inl (cB, 60, .inl (fun _ => 0))), (a2, .inl (cB, 60, .inl (fun _ => 0))), (a3, .inl (cS, 60, .inl (fun _ => 0))), (a4, .inl (cB, 250, .inl (fun _ => 0)))] := hD
  have hK : va_K D vwCl [(cB, .byte), (cS, .short)] s := hK
  refine va_putF (D := D) (ci := 0) (v := .ref a4) (ty := .array .byte) (C := RX0) (T := TX0) (N := 22) hx hb hts in_X0 tyX0 tyX0_ok nmX0 hown hK hP hD hS 0 rfl rfl 5 (by decide) (hts _ q30) (fun _ h9 => h9) rfl hin rfl (by decide +kernel) rfl rfl (Nat.le_of_ble_eq_true rfl) dX0_init_47 (fun H locs hP hD hS => ?_)
  have hP : va_P D vwCl [(h0, .inr (0, [.int (iI 4), .ref a0, .ref a1, .ref a2, .ref a3, .ref a4, .int 0, .int 0, .null, .int 0, .null, .null, .null, .null, .null, .int 0, .int 0, .int 0, .int 0, .int 0, .int 0, .int 0])), (a0, .inl (cB, 60, .inl (fun _ => 0))), (a1, .inl (cB, 60, .inl (fun _ => 0))), (a2, .inl (cB, 60, .inl (fun _ => 0))), (a3, .inl (cS, 60, .inl (fun _ => 0))), (a4, .inl (cB, 250, .inl (fun _ => 0)))] H := hP
  have hD : va_D A [(h0, .inr (0, [.int (iI 4), .ref a0, .ref a1, .ref a2, .ref a3, .ref a4, .int 0, .int 0, .null, .int 0, .null, .null, .null, .null, .null, .int 0, .int 0, .int 0, .int 0, .int 0, .int 0, .int 0])), (a0, .inl (cB, 60, .inl (fun _ => 0))), (a1, .inl (cB, 60, .inl (fun _ => 0))), (a2, .inl (cB, 60, .inl (fun _ => 0))), (a3, .inl (cS, 60, .inl (fun _ => 0))), (a4, .inl (cB, 250, .inl (fun _ => 0)))] := hD
  refine lv_aload_n hx hb dX0_init_50 rfl (lv_at hl 0 rfl) ?_
  refine r_bipush hx hb dX0_init_51 (by decide) ?_
  refine va_newa (D := D) (a0 := (6, .inl (fun _ => 0))) (N' := 6) (ty := .byte) (atype := .byte) hx hb (hts _ q92) rfl hK hP hD hS hA (fun _ => rfl) (by decide) (by decide) (by decide) (Nat.le_of_ble_eq_true rfl) (Nat.le_of_ble_eq_true rfl) dX0_init_53 (fun a5 c9 H hK hP hD hS => ?_)
  have ec : cB = c9 := Option.some.inj ((hK.2 0 _ rfl).2.symm.trans (hK.2 2 _ rfl).2)
  subst ec
  have hK := hK.sub (tys' := [(cB, .byte), (cS, .short)]) [0, 1] rfl
  have hP : va_P D vwCl [(h0, .inr (0, [.int (iI 4), .ref a0, .ref a1, .ref a2, .ref a3, .ref a4, .int 0, .int 0, .null, .int 0, .null, .null, .null, .null, .null, .int 0, .int 0, .int 0, .int 0, .int 0, .int 0, .int 0])), (a0, .inl (cB, 60, .inl (fun _ => 0))), (a1, .inl (cB, 60, .inl (fun _ => 0))), (a2, .inl (cB, 60, .inl (fun _ => 0))), (a3, .inl (cS, 60, .inl (fun _ => 0))), (a4, .inl (cB, 250, .inl (fun _ => 0))), (a5, .inl (cB, 6, .inl (fun _ => 0)))] H := hP
  have hD : va_D A [(h0, .inr (0, [.int (iI 4), .ref a0, .ref a1, .ref a2, .ref a3, .ref a4, .int 0, .int 0, .null, .int 0, .null, .null, .null, .null, .null, .int 0, .int 0, .int 0, .int 0, .int 0, .int 0, .int 0])), (a0, .inl (cB, 60, .inl (fun _ => 0))), (a1, .inl (cB, 60, .inl (fun _ => 0))), (a2, .inl (cB, 60, .inl (fun _ => 0))), (a3, .inl (cS, 60, .inl (fun _ => 0))), (a4, .inl (cB, 250, .inl (fun _ => 0))), (a5, .inl (cB, 6, .inl (fun _ => 0)))] := hD
  have hK : va_K D vwCl [(cB, .byte), (cS, .short)] s := hK
  refine va_putF (D := D) (ci := 0) (v := .ref a5) (ty := .array .byte) (C := RX0) (T := TX0) (N := 22) hx hb hts in_X0 tyX0 tyX0_ok nmX0 hown hK hP hD hS 0 rfl rfl 8 (by decide) (hts _ q33) (fun _ h9 => h9) rfl hin rfl (by decide +kernel) rfl rfl (Nat.le_of_ble_eq_true rfl) dX0_init_55 (fun H locs hP hD hS => ?_)
  have hP : va_P D vwCl [(h0, .inr (0, [.int (iI 4), .ref a0, .ref a1, .ref a2, .ref a3, .ref a4, .int 0, .int 0, .ref a5, .int 0, .null, .null, .null, .null, .null, .int 0, .int 0, .int 0, .int 0, .int 0, .int 0, .int 0])), (a0, .inl (cB, 60, .inl (fun _ => 0))), (a1, .inl (cB, 60, .inl (fun _ => 0))), (a2, .inl (cB, 60, .inl (fun _ => 0))), (a3, .inl (cS, 60, .inl (fun _ => 0))), (a4, .inl (cB, 250, .inl (fun _ => 0))), (a5, .inl (cB, 6, .inl (fun _ => 0)))] H := hP
  have hD : va_D A [(h0, .inr (0, [.int (iI 4), .ref a0, .ref a1, .ref a2, .ref a3, .ref a4, .int 0, .int 0, .ref a5, .int 0, .null, .null, .null, .null, .null, .int 0, .int 0, .int 0, .int 0, .int 0, .int 0, .int 0])), (a0, .inl (cB, 60, .inl (fun _ => 0))), (a1, .inl (cB, 60, .inl (fun _ => 0))), (a2, .inl (cB, 60, .inl (fun _ => 0))), (a3, .inl (cS, 60, .inl (fun _ => 0))), (a4, .inl (cB, 250, .inl (fun _ => 0))), (a5, .inl (cB, 6, .inl (fun _ => 0)))] := hD
  refine lv_aload_n hx hb dX0_init_58 rfl (lv_at hl 0 rfl) ?_
  refine r_bipush hx hb dX0_init_59 (by decide) ?_
  refine va_newa (D := D) (a0 := (28, .inl (fun _ => 0))) (N' := 28) (ty := .byte) (atype := .byte) hx hb (hts _ q92) rfl hK hP hD hS hA (fun _ => rfl) (by decide) (by decide) (by decide) (Nat.le_of_ble_eq_true rfl) (Nat.le_of_ble_eq_true rfl) dX0_init_61 (fun a6 c9 H hK hP hD hS => ?_)
  have ec : cB = c9 := Option.some.inj ((hK.2 0 _ rfl).2.symm.trans (hK.2 2 _ rfl).2)
  subst ec
  have hK := hK.sub (tys' := [(cB, .byte), (cS, .short)]) [0, 1] rfl
  have hP : va_P D vwCl [(h0, .inr (0, [.int (iI 4), .ref a0, .ref a1, .ref a2, .ref a3, .ref a4, .int 0, .int 0, .ref a5, .int 0, .null, .null, .null, .null, .null, .int 0, .int 0, .int 0, .int 0, .int 0, .int 0, .int 0])), (a0, .inl (cB, 60, .inl (fun _ => 0))), (a1, .inl (cB, 60, .inl (fun _ => 0))), (a2, .inl (cB, 60, .inl (fun _ => 0))), (a3, .inl (cS, 60, .inl (fun _ => 0))), (a4, .inl (cB, 250, .inl (fun _ => 0))), (a5, .inl (cB, 6, .inl (fun _ => 0))), (a6, .inl (cB, 28, .inl (fun _ => 0)))] H := hP
  have hD : va_D A [(h0, .inr (0, [.int (iI 4), .ref a0, .ref a1, .ref a2, .ref a3, .ref a4, .int 0, .int 0, .ref a5, .int 0, .null, .null, .null, .null, .null, .int 0, .int 0, .int 0, .int 0, .int 0, .int 0, .int 0])), (a0, .inl (cB, 60, .inl (fun _ => 0))), (a1, .inl (cB, 60, .inl (fun _ => 0))), (a2, .inl (cB, 60, .inl (fun _ => 0))), (a3, .inl (cS, 60, .inl (fun _ => 0))), (a4, .inl (cB, 250, .inl (fun _ => 0))), (a5, .inl (cB, 6, .inl (fun _ => 0))), (a6, .inl (cB, 28, .inl (fun _ => 0)))] := hD
  have hK : va_K D vwCl [(cB, .byte), (cS, .short)] s := hK
  refine va_putF (D := D) (ci := 0) (v := .ref a6) (ty := .array .byte) (C := RX0) (T := TX0) (N := 22) hx hb hts in_X0 tyX0 tyX0_ok nmX0 hown hK hP hD hS 0 rfl rfl 10 (by decide) (hts _ q35) (fun _ h9 => h9) rfl hin rfl (by decide +kernel) rfl rfl (Nat.le_of_ble_eq_true rfl) dX0_init_63 (fun H locs hP hD hS => ?_)
  have hP : va_P D vwCl [(h0, .inr (0, [.int (iI 4), .ref a0, .ref a1, .ref a2, .ref a3, .ref a4, .int 0, .int 0, .ref a5, .int 0, .ref a6, .null, .null, .null, .null, .int 0, .int 0, .int 0, .int 0, .int 0, .int 0, .int 0])), (a0, .inl (cB, 60, .inl (fun _ => 0))), (a1, .inl (cB, 60, .inl (fun _ => 0))), (a2, .inl (cB, 60, .inl (fun _ => 0))), (a3, .inl (cS, 60, .inl (fun _ => 0))), (a4, .inl (cB, 250, .inl (fun _ => 0))), (a5, .inl (cB, 6, .inl (fun _ => 0))), (a6, .inl (cB, 28, .inl (fun _ => 0)))] H := hP
  have hD : va_D A [(h0, .inr (0, [.int (iI 4), .ref a0, .ref a1, .ref a2, .ref a3, .ref a4, .int 0, .int 0, .ref a5, .int 0, .ref a6, .null, .null, .null, .null, .int 0, .int 0, .int 0, .int 0, .int 0, .int 0, .int 0])), (a0, .inl (cB, 60, .inl (fun _ => 0))), (a1, .inl (cB, 60, .inl (fun _ => 0))), (a2, .inl (cB, 60, .inl (fun _ => 0))), (a3, .inl (cS, 60, .inl (fun _ => 0))), (a4, .inl (cB, 250, .inl (fun _ => 0))), (a5, .inl (cB, 6, .inl (fun _ => 0))), (a6, .inl (cB, 28, .inl (fun _ => 0)))] := hD
  refine lv_aload_n hx hb dX0_init_66 rfl (lv_at hl 0 rfl) ?_
  refine r_sipush hx hb dX0_init_67 (by decide) ?_
  refine va_newa (D := D) (a0 := (420, .inl (fun _ => 0))) (N' := 420) (ty := .byte) (atype := .byte) hx hb (hts _ q92) rfl hK hP hD hS hA (fun _ => rfl) (by decide) (by decide) (by decide) (Nat.le_of_ble_eq_true rfl) (Nat.le_of_ble_eq_true rfl) dX0_init_70 (fun a7 c9 H hK hP hD hS => ?_)
  have ec : cB = c9 := Option.some.inj ((hK.2 0 _ rfl).2.symm.trans (hK.2 2 _ rfl).2)
  subst ec
  have hK := hK.sub (tys' := [(cB, .byte), (cS, .short)]) [0, 1] rfl
  have hP : va_P D vwCl [(h0, .inr (0, [.int (iI 4), .ref a0, .ref a1, .ref a2, .ref a3, .ref a4, .int 0, .int 0, .ref a5, .int 0, .ref a6, .null, .null, .null, .null, .int 0, .int 0, .int 0, .int 0, .int 0, .int 0, .int 0])), (a0, .inl (cB, 60, .inl (fun _ => 0))), (a1, .inl (cB, 60, .inl (fun _ => 0))), (a2, .inl (cB, 60, .inl (fun _ => 0))), (a3, .inl (cS, 60, .inl (fun _ => 0))), (a4, .inl (cB, 250, .inl (fun _ => 0))), (a5, .inl (cB, 6, .inl (fun _ => 0))), (a6, .inl (cB, 28, .inl (fun _ => 0))), (a7, .inl (cB, 420, .inl (fun _ => 0)))] H := hP
  have hD : va_D A [(h0, .inr (0, [.int (iI 4), .ref a0, .ref a1, .ref a2, .ref a3, .ref a4, .int 0, .int 0, .ref a5, .int 0, .ref a6, .null, .null, .null, .null, .int 0, .int 0, .int 0, .int 0, .int 0, .int 0, .int 0])), (a0, .inl (cB, 60, .inl (fun _ => 0))), (a1, .inl (cB, 60, .inl (fun _ => 0))), (a2, .inl (cB, 60, .inl (fun _ => 0))), (a3, .inl (cS, 60, .inl (fun _ => 0))), (a4, .inl (cB, 250, .inl (fun _ => 0))), (a5, .inl (cB, 6, .inl (fun _ => 0))), (a6, .inl (cB, 28, .inl (fun _ => 0))), (a7, .inl (cB, 420, .inl (fun _ => 0)))] := hD
  have hK : va_K D vwCl [(cB, .byte), (cS, .short)] s := hK
  refine va_putF (D := D) (ci := 0) (v := .ref a7) (ty := .array .byte) (C := RX0) (T := TX0) (N := 22) hx hb hts in_X0 tyX0 tyX0_ok nmX0 hown hK hP hD hS 0 rfl rfl 11 (by decide) (hts _ q36) (fun _ h9 => h9) rfl hin rfl (by decide +kernel) rfl rfl (Nat.le_of_ble_eq_true rfl) dX0_init_72 (fun H locs hP hD hS => ?_)
  have hP : va_P D vwCl [(h0, .inr (0, [.int (iI 4), .ref a0, .ref a1, .ref a2, .ref a3, .ref a4, .int 0, .int 0, .ref a5, .int 0, .ref a6, .ref a7, .null, .null, .null, .int 0, .int 0, .int 0, .int 0, .int 0, .int 0, .int 0])), (a0, .inl (cB, 60, .inl (fun _ => 0))), (a1, .inl (cB, 60, .inl (fun _ => 0))), (a2, .inl (cB, 60, .inl (fun _ => 0))), (a3, .inl (cS, 60, .inl (fun _ => 0))), (a4, .inl (cB, 250, .inl (fun _ => 0))), (a5, .inl (cB, 6, .inl (fun _ => 0))), (a6, .inl (cB, 28, .inl (fun _ => 0))), (a7, .inl (cB, 420, .inl (fun _ => 0)))] H := hP
  have hD : va_D A [(h0, .inr (0, [.int (iI 4), .ref a0, .ref a1, .ref a2, .ref a3, .ref a4, .int 0, .int 0, .ref a5, .int 0, .ref a6, .ref a7, .null, .null, .null, .int 0, .int 0, .int 0, .int 0, .int 0, .int 0, .int 0])), (a0, .inl (cB, 60, .inl (fun _ => 0))), (a1, .inl (cB, 60, .inl (fun _ => 0))), (a2, .inl (cB, 60, .inl (fun _ => 0))), (a3, .inl (cS, 60, .inl (fun _ => 0))), (a4, .inl (cB, 250, .inl (fun _ => 0))), (a5, .inl (cB, 6, .inl (fun _ => 0))), (a6, .inl (cB, 28, .inl (fun _ => 0))), (a7, .inl (cB, 420, .inl (fun _ => 0)))] := hD
  refine lv_aload_n hx hb dX0_init_75 rfl (lv_at hl 0 rfl) ?_
  refine r_sipush hx hb dX0_init_76 (by decide) ?_
  refine va_newa (D := D) (a0 := (420, .inl (fun _ => 0))) (N' := 420) (ty := .short) (atype := .short) hx hb (hts _ q93) rfl hK hP hD hS hA (fun _ => rfl) (by decide) (by decide) (by decide) (Nat.le_of_ble_eq_true rfl) (Nat.le_of_ble_eq_true rfl) dX0_init_79 (fun a8 c9 H hK hP hD hS => ?_)
  have ec : cS = c9 := Option.some.inj ((hK.2 1 _ rfl).2.symm.trans (hK.2 2 _ rfl).2)
  subst ec
  have hK := hK.sub (tys' := [(cB, .byte), (cS, .short)]) [0, 1] rfl
  have hP : va_P D vwCl [(h0, .inr (0, [.int (iI 4), .ref a0, .ref a1, .ref a2, .ref a3, .ref a4, .int 0, .int 0, .ref a5, .int 0, .ref a6, .ref a7, .null, .null, .null, .int 0, .int 0, .int 0, .int 0, .int 0, .int 0, .int 0])), (a0, .inl (cB, 60, .inl (fun _ => 0))), (a1, .inl (cB, 60, .inl (fun _ => 0))), (a2, .inl (cB, 60, .inl (fun _ => 0))), (a3, .inl (cS, 60, .inl (fun _ => 0))), (a4, .inl (cB, 250, .inl (fun _ => 0))), (a5, .inl (cB, 6, .inl (fun _ => 0))), (a6, .inl (cB, 28, .inl (fun _ => 0))), (a7, .inl (cB, 420, .inl (fun _ => 0))), (a8, .inl (cS, 420, .inl (fun _ => 0)))] H := hP
  have hD : va_D A [(h0, .inr (0, [.int (iI 4), .ref a0, .ref a1, .ref a2, .ref a3, .ref a4, .int 0, .int 0, .ref a5, .int 0, .ref a6, .ref a7, .null, .null, .null, .int 0, .int 0, .int 0, .int 0, .int 0, .int 0, .int 0])), (a0, .inl (cB, 60, .inl (fun _ => 0))), (a1, .inl (cB, 60, .inl (fun _ => 0))), (a2, .inl (cB, 60, .inl (fun _ => 0))), (a3, .inl (cS, 60, .inl (fun _ => 0))), (a4, .inl (cB, 250, .inl (fun _ => 0))), (a5, .inl (cB, 6, .inl (fun _ => 0))), (a6, .inl (cB, 28, .inl (fun _ => 0))), (a7, .inl (cB, 420, .inl (fun _ => 0))), (a8, .inl (cS, 420, .inl (fun _ => 0)))] := hD
  have hK : va_K D vwCl [(cB, .byte), (cS, .short)] s := hK
  refine va_putF (D := D) (ci := 0) (v := .ref a8) (ty := .array .short) (C := RX0) (T := TX0) (N := 22) hx hb hts in_X0 tyX0 tyX0_ok nmX0 hown hK hP hD hS 0 rfl rfl 12 (by decide) (hts _ q37) (fun _ h9 => h9) rfl hin rfl (by decide +kernel) rfl rfl (Nat.le_of_ble_eq_true rfl) dX0_init_81 (fun H locs hP hD hS => ?_)
  have hP : va_P D vwCl [(h0, .inr (0, [.int (iI 4), .ref a0, .ref a1, .ref a2, .ref a3, .ref a4, .int 0, .int 0, .ref a5, .int 0, .ref a6, .ref a7, .ref a8, .null, .null, .int 0, .int 0, .int 0, .int 0, .int 0, .int 0, .int 0])), (a0, .inl (cB, 60, .inl (fun _ => 0))), (a1, .inl (cB, 60, .inl (fun _ => 0))), (a2, .inl (cB, 60, .inl (fun _ => 0))), (a3, .inl (cS, 60, .inl (fun _ => 0))), (a4, .inl (cB, 250, .inl (fun _ => 0))), (a5, .inl (cB, 6, .inl (fun _ => 0))), (a6, .inl (cB, 28, .inl (fun _ => 0))), (a7, .inl (cB, 420, .inl (fun _ => 0))), (a8, .inl (cS, 420, .inl (fun _ => 0)))] H := hP
  have hD : va_D A [(h0, .inr (0, [.int (iI 4), .ref a0, .ref a1, .ref a2, .ref a3, .ref a4, .int 0, .int 0, .ref a5, .int 0, .ref a6, .ref a7, .ref a8, .null, .null, .int 0, .int 0, .int 0, .int 0, .int 0, .int 0, .int 0])), (a0, .inl (cB, 60, .inl (fun _ => 0))), (a1, .inl (cB, 60, .inl (fun _ => 0))), (a2, .inl (cB, 60, .inl (fun _ => 0))), (a3, .inl (cS, 60, .inl (fun _ => 0))), (a4, .inl (cB, 250, .inl (fun _ => 0))), (a5, .inl (cB, 6, .inl (fun _ => 0))), (a6, .inl (cB, 28, .inl (fun _ => 0))), (a7, .inl (cB, 420, .inl (fun _ => 0))), (a8, .inl (cS, 420, .inl (fun _ => 0)))] := hD
  refine lv_aload_n hx hb dX0_init_84 rfl (lv_at hl 0 rfl) ?_
  refine r_sipush hx hb dX0_init_85 (by decide) ?_
  refine va_newa (D := D) (a0 := (420, .inl (fun _ => 0))) (N' := 420) (ty := .short) (atype := .short) hx hb (hts _ q93) rfl hK hP hD hS hA (fun _ => rfl) (by decide) (by decide) (by decide) (Nat.le_of_ble_eq_true rfl) (Nat.le_of_ble_eq_true rfl) dX0_init_88 (fun a9 c9 H hK hP hD hS => ?_)
  have ec : cS = c9 := Option.some.inj ((hK.2 1 _ rfl).2.symm.trans (hK.2 2 _ rfl).2)
  subst ec
  have hK := hK.sub (tys' := [(cB, .byte), (cS, .short)]) [0, 1] rfl
  have hP : va_P D vwCl [(h0, .inr (0, [.int (iI 4), .ref a0, .ref a1, .ref a2, .ref a3, .ref a4, .int 0, .int 0, .ref a5, .int 0, .ref a6, .ref a7, .ref a8, .null, .null, .int 0, .int 0, .int 0, .int 0, .int 0, .int 0, .int 0])), (a0, .inl (cB, 60, .inl (fun _ => 0))), (a1, .inl (cB, 60, .inl (fun _ => 0))), (a2, .inl (cB, 60, .inl (fun _ => 0))), (a3, .inl (cS, 60, .inl (fun _ => 0))), (a4, .inl (cB, 250, .inl (fun _ => 0))), (a5, .inl (cB, 6, .inl (fun _ => 0))), (a6, .inl (cB, 28, .inl (fun _ => 0))), (a7, .inl (cB, 420, .inl (fun _ => 0))), (a8, .inl (cS, 420, .inl (fun _ => 0))), (a9, .inl (cS, 420, .inl (fun _ => 0)))] H := hP
  have hD : va_D A [(h0, .inr (0, [.int (iI 4), .ref a0, .ref a1, .ref a2, .ref a3, .ref a4, .int 0, .int 0, .ref a5, .int 0, .ref a6, .ref a7, .ref a8, .null, .null, .int 0, .int 0, .int 0, .int 0, .int 0, .int 0, .int 0])), (a0, .inl (cB, 60, .inl (fun _ => 0))), (a1, .inl (cB, 60, .inl (fun _ => 0))), (a2, .inl (cB, 60, .inl (fun _ => 0))), (a3, .inl (cS, 60, .inl (fun _ => 0))), (a4, .inl (cB, 250, .inl (fun _ => 0))), (a5, .inl (cB, 6, .inl (fun _ => 0))), (a6, .inl (cB, 28, .inl (fun _ => 0))), (a7, .inl (cB, 420, .inl (fun _ => 0))), (a8, .inl (cS, 420, .inl (fun _ => 0))), (a9, .inl (cS, 420, .inl (fun _ => 0)))] := hD
  have hK : va_K D vwCl [(cB, .byte), (cS, .short)] s := hK
  refine va_putF (D := D) (ci := 0) (v := .ref a9) (ty := .array .short) (C := RX0) (T := TX0) (N := 22) hx hb hts in_X0 tyX0 tyX0_ok nmX0 hown hK hP hD hS 0 rfl rfl 13 (by decide) (hts _ q38) (fun _ h9 => h9) rfl hin rfl (by decide +kernel) rfl rfl (Nat.le_of_ble_eq_true rfl) dX0_init_90 (fun H locs hP hD hS => ?_)
  have hP : va_P D vwCl [(h0, .inr (0, [.int (iI 4), .ref a0, .ref a1, .ref a2, .ref a3, .ref a4, .int 0, .int 0, .ref a5, .int 0, .ref a6, .ref a7, .ref a8, .ref a9, .null, .int 0, .int 0, .int 0, .int 0, .int 0, .int 0, .int 0])), (a0, .inl (cB, 60, .inl (fun _ => 0))), (a1, .inl (cB, 60, .inl (fun _ => 0))), (a2, .inl (cB, 60, .inl (fun _ => 0))), (a3, .inl (cS, 60, .inl (fun _ => 0))), (a4, .inl (cB, 250, .inl (fun _ => 0))), (a5, .inl (cB, 6, .inl (fun _ => 0))), (a6, .inl (cB, 28, .inl (fun _ => 0))), (a7, .inl (cB, 420, .inl (fun _ => 0))), (a8, .inl (cS, 420, .inl (fun _ => 0))), (a9, .inl (cS, 420, .inl (fun _ => 0)))] H := hP
  have hD : va_D A [(h0, .inr (0, [.int (iI 4), .ref a0, .ref a1, .ref a2, .ref a3, .ref a4, .int 0, .int 0, .ref a5, .int 0, .ref a6, .ref a7, .ref a8, .ref a9, .null, .int 0, .int 0, .int 0, .int 0, .int 0, .int 0, .int 0])), (a0, .inl (cB, 60, .inl (fun _ => 0))), (a1, .inl (cB, 60, .inl (fun _ => 0))), (a2, .inl (cB, 60, .inl (fun _ => 0))), (a3, .inl (cS, 60, .inl (fun _ => 0))), (a4, .inl (cB, 250, .inl (fun _ => 0))), (a5, .inl (cB, 6, .inl (fun _ => 0))), (a6, .inl (cB, 28, .inl (fun _ => 0))), (a7, .inl (cB, 420, .inl (fun _ => 0))), (a8, .inl (cS, 420, .inl (fun _ => 0))), (a9, .inl (cS, 420, .inl (fun _ => 0)))] := hD
  refine lv_aload_n hx hb dX0_init_93 rfl (lv_at hl 0 rfl) ?_
  refine r_sipush hx hb dX0_init_94 (by decide) ?_
  refine va_newa (D := D) (a0 := (420, .inl (fun _ => 0))) (N' := 420) (ty := .short) (atype := .short) hx hb (hts _ q93) rfl hK hP hD hS hA (fun _ => rfl) (by decide) (by decide) (by decide) (Nat.le_of_ble_eq_true rfl) (Nat.le_of_ble_eq_true rfl) dX0_init_97 (fun a10 c9 H hK hP hD hS => ?_)
  have ec : cS = c9 := Option.some.inj ((hK.2 1 _ rfl).2.symm.trans (hK.2 2 _ rfl).2)
  subst ec
  have hK := hK.sub (tys' := [(cB, .byte), (cS, .short)]) [0, 1] rfl
  have hP : va_P D vwCl [(h0, .inr (0, [.int (iI 4), .ref a0, .ref a1, .ref a2, .ref a3, .ref a4, .int 0, .int 0, .ref a5, .int 0, .ref a6, .ref a7, .ref a8, .ref a9, .null, .int 0, .int 0, .int 0, .int 0, .int 0, .int 0, .int 0])), (a0, .inl (cB, 60, .inl (fun _ => 0))), (a1, .inl (cB, 60, .inl (fun _ => 0))), (a2, .inl (cB, 60, .inl (fun _ => 0))), (a3, .inl (cS, 60, .inl (fun _ => 0))), (a4, .inl (cB, 250, .inl (fun _ => 0))), (a5, .inl (cB, 6, .inl (fun _ => 0))), (a6, .inl (cB, 28, .inl (fun _ => 0))), (a7, .inl (cB, 420, .inl (fun _ => 0))), (a8, .inl (cS, 420, .inl (fun _ => 0))), (a9, .inl (cS, 420, .inl (fun _ => 0))), (a10, .inl (cS, 420, .inl (fun _ => 0)))] H := hP
  have hD : va_D A [(h0, .inr (0, [.int (iI 4), .ref a0, .ref a1, .ref a2, .ref a3, .ref a4, .int 0, .int 0, .ref a5, .int 0, .ref a6, .ref a7, .ref a8, .ref a9, .null, .int 0, .int 0, .int 0, .int 0, .int 0, .int 0, .int 0])), (a0, .inl (cB, 60, .inl (fun _ => 0))), (a1, .inl (cB, 60, .inl (fun _ => 0))), (a2, .inl (cB, 60, .inl (fun _ => 0))), (a3, .inl (cS, 60, .inl (fun _ => 0))), (a4, .inl (cB, 250, .inl (fun _ => 0))), (a5, .inl (cB, 6, .inl (fun _ => 0))), (a6, .inl (cB, 28, .inl (fun _ => 0))), (a7, .inl (cB, 420, .inl (fun _ => 0))), (a8, .inl (cS, 420, .inl (fun _ => 0))), (a9, .inl (cS, 420, .inl (fun _ => 0))), (a10, .inl (cS, 420, .inl (fun _ => 0)))] := hD
  have hK : va_K D vwCl [(cB, .byte), (cS, .short)] s := hK
  refine va_putF (D := D) (ci := 0) (v := .ref a10) (ty := .array .short) (C := RX0) (T := TX0) (N := 22) hx hb hts in_X0 tyX0 tyX0_ok nmX0 hown hK hP hD hS 0 rfl rfl 14 (by decide) (hts _ q39) (fun _ h9 => h9) rfl hin rfl (by decide +kernel) rfl rfl (Nat.le_of_ble_eq_true rfl) dX0_init_99 (fun H locs hP hD hS => ?_)
  have hP : va_P D vwCl [(h0, .inr (0, [.int (iI 4), .ref a0, .ref a1, .ref a2, .ref a3, .ref a4, .int 0, .int 0, .ref a5, .int 0, .ref a6, .ref a7, .ref a8, .ref a9, .ref a10, .int 0, .int 0, .int 0, .int 0, .int 0, .int 0, .int 0])), (a0, .inl (cB, 60, .inl (fun _ => 0))), (a1, .inl (cB, 60, .inl (fun _ => 0))), (a2, .inl (cB, 60, .inl (fun _ => 0))), (a3, .inl (cS, 60, .inl (fun _ => 0))), (a4, .inl (cB, 250, .inl (fun _ => 0))), (a5, .inl (cB, 6, .inl (fun _ => 0))), (a6, .inl (cB, 28, .inl (fun _ => 0))), (a7, .inl (cB, 420, .inl (fun _ => 0))), (a8, .inl (cS, 420, .inl (fun _ => 0))), (a9, .inl (cS, 420, .inl (fun _ => 0))), (a10, .inl (cS, 420, .inl (fun _ => 0)))] H := hP
  have hD : va_D A [(h0, .inr (0, [.int (iI 4), .ref a0, .ref a1, .ref a2, .ref a3, .ref a4, .int 0, .int 0, .ref a5, .int 0, .ref a6, .ref a7, .ref a8, .ref a9, .ref a10, .int 0, .int 0, .int 0, .int 0, .int 0, .int 0, .int 0])), (a0, .inl (cB, 60, .inl (fun _ => 0))), (a1, .inl (cB, 60, .inl (fun _ => 0))), (a2, .inl (cB, 60, .inl (fun _ => 0))), (a3, .inl (cS, 60, .inl (fun _ => 0))), (a4, .inl (cB, 250, .inl (fun _ => 0))), (a5, .inl (cB, 6, .inl (fun _ => 0))), (a6, .inl (cB, 28, .inl (fun _ => 0))), (a7, .inl (cB, 420, .inl (fun _ => 0))), (a8, .inl (cS, 420, .inl (fun _ => 0))), (a9, .inl (cS, 420, .inl (fun _ => 0))), (a10, .inl (cS, 420, .inl (fun _ => 0)))] := hD
  refine W.widen (k := 11) (n := 2204) (Nat.le_of_ble_eq_true rfl) (Nat.le_of_ble_eq_true rfl) ?_
  have conv : ∃ h : Nat → Nat, h 0 = h0 ∧ va_P D vwCl (wX h cB cS s0X) H ∧ va_D A (wX h cB cS s0X) := ⟨fun k => if k = 0 then h0 else if k = 1 then a0 else if k = 2 then a1 else if k = 3 then a2 else if k = 4 then a3 else if k = 5 then a4 else if k = 8 then a5 else if k = 10 then a6 else if k = 11 then a7 else if k = 12 then a8 else if k = 13 then a9 else if k = 14 then a10 else 0, rfl, hP, hD⟩
  obtain ⟨h, rfl, hP, hD⟩ := conv
  have hw : GW D [(cB, .byte), (cS, .short)] (wX h cB cS s0X) A s H locs := ⟨hK, hP, hD, hS, hA⟩
  refine X_init_tail ⟨hx, hb, hml, hown, hts⟩ hw hl (fun σ1 H locs ls hxr hw => ?_)
  exact W.vret hx hb hr (fun t ht hW => ⟨⟨(h, cB, cS, σ1), rfl, ⟨rfl, hxr⟩, by rw [ht]; exact hw.2.1, va_K.moved hW.alike hw.1, hw.2.2.1⟩, hw.2.2.2.1.F ht⟩) hw.2.2.2.1.2.2 dX0_init_145 hlk
set_option maxHeartbeats 4000000 in
theorem mM_init (l : Launch) (D : va_G) (h0 sz : Nat) : Met l yX1_init (ws_ yX1_init cX1_init 1 none) ({ frames := 1, cells := 5, slots := 627, locals := 12 }) (va_Pc [.ref h0] (fun U => U.heap.size = sz ∧ GB D [] [(h0, .inr (1, fsM))] (fun _ => True) U)) (va_Qv (fun (u : (Nat → Nat) × ClassId × St) => u.1 0 = h0 ∧ u.2.2 = s0M) (fun u t => GB D [(u.2.1, .int)] (wM u.1 u.2.1 u.2.2) (GA [h0] sz) t) (GA [h0] sz)) 5 627 (GA [h0] sz) := by
  refine Met.ofW (cc := cX1_init) (maxL := 1) (ret := none) (by decide) rfl ?_
  intro p e s m args below meth c s₁ B hml hv
  obtain ⟨rfl, hsz, hP, hK, hD0⟩ := hv
  have hx := B.exec
  have hb := B.bytes
  have hr := B.returns
  have hts := atoms_spec (ws := ws_ yX1_init cX1_init 1 none) B.pre
  have hts : ∀ w ∈ lw_all, w.before _ s = true := fun w h => hts w (List.mem_cons_of_mem _ h)
  have hown : s.vm.findClass RX1 = some m.cls := findClass_of_methodNamed B.named
  have hlk := B.notSynchronized
  have hin : meth.name = "<init>" := (name_of_methodNamed B.named B.method).1
  subst hsz
  have hD := hD0.self (sz := s.heap.size)
  rw [GA_eq (ad := [h0]) rfl] at hD
  have hA : ∀ q : Nat, s.heap.size ≤ q → GA [h0] s.heap.size q := fun q h => Or.inr h
  generalize GA [h0] s.heap.size = A at hD hA ⊢
  have hS : va_S A s.heap s.heap [] := va_S.rf
  have hl := lv_entry ([.ref h0]) (n := 1) (Nat.le_of_ble_eq_true rfl)
  rw [lg_entry_eq]
  generalize (lg_sl ([.ref h0]) ++ List.replicate (1 - (lg_sl ([.ref h0])).length) Slot.unset).toArray = ls at hl ⊢
  have hl : lv_has ls 1 [(0, .ref h0)] := hl
  refine lv_aload_n hx hb dX1_init_0 rfl (lv_at hl 0 rfl) ?_
  refine W.objInit hx hb hown (hts _ q207) (hts _ q23) (hts _ q24) rfl (by rw [hml]; exact hl.1) rfl dX1_init_1 (Nat.le_of_ble_eq_true rfl) (Nat.le_of_ble_eq_true rfl) ?_
  refine W.eq (g2 := F0 m 4 ls []) rfl ?_
  refine lv_aload_n hx hb dX1_init_4 rfl (lv_at hl 0 rfl) ?_
  refine r_sipush hx hb dX1_init_5 (by decide) ?_
  refine va_newa (D := D) (a0 := (250, .inl (fun _ => 0))) (N' := 250) (ty := .int) (atype := .int) hx hb (hts _ q236) rfl hK hP hD hS hA (fun _ => rfl) (by decide) (by decide) (by decide) (Nat.le_of_ble_eq_true rfl) (Nat.le_of_ble_eq_true rfl) dX1_init_8 (fun a0 cI H hK hP hD hS => ?_)
  have hP : va_P D vwCl [(h0, .inr (1, [.int 0, .null, .int 0, .null, .int 0, .null, .null, .int 0, .null])), (a0, .inl (cI, 250, .inl (fun _ => 0)))] H := hP
  have hD : va_D A [(h0, .inr (1, [.int 0, .null, .int 0, .null, .int 0, .null, .null, .int 0, .null])), (a0, .inl (cI, 250, .inl (fun _ => 0)))] := hD
  have hK : va_K D vwCl [(cI, .int)] s := hK
  refine va_put (D := D) (ci := 1) (v := .ref a0) (ty := .array .int) (C := RX1) (T := TX1) (N := 9) hx hb hts in_X1 tyX1 tyX1_ok nmX1 hown hK hP hD hS 0 rfl rfl 1 (by decide) (hts _ q209) (fun _ h9 => h9) rfl (by decide +kernel) rfl rfl (Nat.le_of_ble_eq_true rfl) dX1_init_10 (fun H locs hP hD hS => ?_)
  have hP : va_P D vwCl [(h0, .inr (1, [.int 0, .ref a0, .int 0, .null, .int 0, .null, .null, .int 0, .null])), (a0, .inl (cI, 250, .inl (fun _ => 0)))] H := hP
  have hD : va_D A [(h0, .inr (1, [.int 0, .ref a0, .int 0, .null, .int 0, .null, .null, .int 0, .null])), (a0, .inl (cI, 250, .inl (fun _ => 0)))] := hD
  refine lv_aload_n hx hb dX1_init_13 rfl (lv_at hl 0 rfl) ?_
  refine r_sipush hx hb dX1_init_14 (by decide) ?_
  refine va_newa (D := D) (a0 := (251, .inl (fun _ => 0))) (N' := 251) (ty := .int) (atype := .int) hx hb (hts _ q236) rfl hK hP hD hS hA (fun _ => rfl) (by decide) (by decide) (by decide) (Nat.le_of_ble_eq_true rfl) (Nat.le_of_ble_eq_true rfl) dX1_init_17 (fun a1 c9 H hK hP hD hS => ?_)
  have ec : cI = c9 := Option.some.inj ((hK.2 0 _ rfl).2.symm.trans (hK.2 1 _ rfl).2)
  subst ec
  have hK := hK.sub (tys' := [(cI, .int)]) [0] rfl
  have hP : va_P D vwCl [(h0, .inr (1, [.int 0, .ref a0, .int 0, .null, .int 0, .null, .null, .int 0, .null])), (a0, .inl (cI, 250, .inl (fun _ => 0))), (a1, .inl (cI, 251, .inl (fun _ => 0)))] H := hP
  have hD : va_D A [(h0, .inr (1, [.int 0, .ref a0, .int 0, .null, .int 0, .null, .null, .int 0, .null])), (a0, .inl (cI, 250, .inl (fun _ => 0))), (a1, .inl (cI, 251, .inl (fun _ => 0)))] := hD
  have hK : va_K D vwCl [(cI, .int)] s := hK
  refine va_put (D := D) (ci := 1) (v := .ref a1) (ty := .array .int) (C := RX1) (T := TX1) (N := 9) hx hb hts in_X1 tyX1 tyX1_ok nmX1 hown hK hP hD hS 0 rfl rfl 3 (by decide) (hts _ q211) (fun _ h9 => h9) rfl (by decide +kernel) rfl rfl (Nat.le_of_ble_eq_true rfl) dX1_init_19 (fun H locs hP hD hS => ?_)
  have hP : va_P D vwCl [(h0, .inr (1, [.int 0, .ref a0, .int 0, .ref a1, .int 0, .null, .null, .int 0, .null])), (a0, .inl (cI, 250, .inl (fun _ => 0))), (a1, .inl (cI, 251, .inl (fun _ => 0)))] H := hP
  have hD : va_D A [(h0, .inr (1, [.int 0, .ref a0, .int 0, .ref a1, .int 0, .null, .null, .int 0, .null])), (a0, .inl (cI, 250, .inl (fun _ => 0))), (a1, .inl (cI, 251, .inl (fun _ => 0)))] := hD
  refine lv_aload_n hx hb dX1_init_22 rfl (lv_at hl 0 rfl) ?_
  refine r_bipush hx hb dX1_init_23 (by decide) ?_
  refine va_newa (D := D) (a0 := (60, .inl (fun _ => 0))) (N' := 60) (ty := .int) (atype := .int) hx hb (hts _ q236) rfl hK hP hD hS hA (fun _ => rfl) (by decide) (by decide) (by decide) (Nat.le_of_ble_eq_true rfl) (Nat.le_of_ble_eq_true rfl) dX1_init_25 (fun a2 c9 H hK hP hD hS => ?_)
  have ec : cI = c9 := Option.some.inj ((hK.2 0 _ rfl).2.symm.trans (hK.2 1 _ rfl).2)
  subst ec
  have hK := hK.sub (tys' := [(cI, .int)]) [0] rfl
  have hP : va_P D vwCl [(h0, .inr (1, [.int 0, .ref a0, .int 0, .ref a1, .int 0, .null, .null, .int 0, .null])), (a0, .inl (cI, 250, .inl (fun _ => 0))), (a1, .inl (cI, 251, .inl (fun _ => 0))), (a2, .inl (cI, 60, .inl (fun _ => 0)))] H := hP
  have hD : va_D A [(h0, .inr (1, [.int 0, .ref a0, .int 0, .ref a1, .int 0, .null, .null, .int 0, .null])), (a0, .inl (cI, 250, .inl (fun _ => 0))), (a1, .inl (cI, 251, .inl (fun _ => 0))), (a2, .inl (cI, 60, .inl (fun _ => 0)))] := hD
  have hK : va_K D vwCl [(cI, .int)] s := hK
  refine va_put (D := D) (ci := 1) (v := .ref a2) (ty := .array .int) (C := RX1) (T := TX1) (N := 9) hx hb hts in_X1 tyX1 tyX1_ok nmX1 hown hK hP hD hS 0 rfl rfl 5 (by decide) (hts _ q213) (fun _ h9 => h9) rfl (by decide +kernel) rfl rfl (Nat.le_of_ble_eq_true rfl) dX1_init_27 (fun H locs hP hD hS => ?_)
  have hP : va_P D vwCl [(h0, .inr (1, [.int 0, .ref a0, .int 0, .ref a1, .int 0, .ref a2, .null, .int 0, .null])), (a0, .inl (cI, 250, .inl (fun _ => 0))), (a1, .inl (cI, 251, .inl (fun _ => 0))), (a2, .inl (cI, 60, .inl (fun _ => 0)))] H := hP
  have hD : va_D A [(h0, .inr (1, [.int 0, .ref a0, .int 0, .ref a1, .int 0, .ref a2, .null, .int 0, .null])), (a0, .inl (cI, 250, .inl (fun _ => 0))), (a1, .inl (cI, 251, .inl (fun _ => 0))), (a2, .inl (cI, 60, .inl (fun _ => 0)))] := hD
  refine lv_aload_n hx hb dX1_init_30 rfl (lv_at hl 0 rfl) ?_
  refine r_bipush hx hb dX1_init_31 (by decide) ?_
  refine va_newa (D := D) (a0 := (60, .inl (fun _ => 0))) (N' := 60) (ty := .int) (atype := .int) hx hb (hts _ q236) rfl hK hP hD hS hA (fun _ => rfl) (by decide) (by decide) (by decide) (Nat.le_of_ble_eq_true rfl) (Nat.le_of_ble_eq_true rfl) dX1_init_33 (fun a3 c9 H hK hP hD hS => ?_)
  have ec : cI = c9 := Option.some.inj ((hK.2 0 _ rfl).2.symm.trans (hK.2 1 _ rfl).2)
  subst ec
  have hK := hK.sub (tys' := [(cI, .int)]) [0] rfl
  have hP : va_P D vwCl [(h0, .inr (1, [.int 0, .ref a0, .int 0, .ref a1, .int 0, .ref a2, .null, .int 0, .null])), (a0, .inl (cI, 250, .inl (fun _ => 0))), (a1, .inl (cI, 251, .inl (fun _ => 0))), (a2, .inl (cI, 60, .inl (fun _ => 0))), (a3, .inl (cI, 60, .inl (fun _ => 0)))] H := hP
  have hD : va_D A [(h0, .inr (1, [.int 0, .ref a0, .int 0, .ref a1, .int 0, .ref a2, .null, .int 0, .null])), (a0, .inl (cI, 250, .inl (fun _ => 0))), (a1, .inl (cI, 251, .inl (fun _ => 0))), (a2, .inl (cI, 60, .inl (fun _ => 0))), (a3, .inl (cI, 60, .inl (fun _ => 0)))] := hD
  have hK : va_K D vwCl [(cI, .int)] s := hK
  refine va_put (D := D) (ci := 1) (v := .ref a3) (ty := .array .int) (C := RX1) (T := TX1) (N := 9) hx hb hts in_X1 tyX1 tyX1_ok nmX1 hown hK hP hD hS 0 rfl rfl 6 (by decide) (hts _ q214) (fun _ h9 => h9) rfl (by decide +kernel) rfl rfl (Nat.le_of_ble_eq_true rfl) dX1_init_35 (fun H locs hP hD hS => ?_)
  have hP : va_P D vwCl [(h0, .inr (1, [.int 0, .ref a0, .int 0, .ref a1, .int 0, .ref a2, .ref a3, .int 0, .null])), (a0, .inl (cI, 250, .inl (fun _ => 0))), (a1, .inl (cI, 251, .inl (fun _ => 0))), (a2, .inl (cI, 60, .inl (fun _ => 0))), (a3, .inl (cI, 60, .inl (fun _ => 0)))] H := hP
  have hD : va_D A [(h0, .inr (1, [.int 0, .ref a0, .int 0, .ref a1, .int 0, .ref a2, .ref a3, .int 0, .null])), (a0, .inl (cI, 250, .inl (fun _ => 0))), (a1, .inl (cI, 251, .inl (fun _ => 0))), (a2, .inl (cI, 60, .inl (fun _ => 0))), (a3, .inl (cI, 60, .inl (fun _ => 0)))] := hD
  refine lv_aload_n hx hb dX1_init_38 rfl (lv_at hl 0 rfl) ?_
  refine r_bipush hx hb dX1_init_39 (by decide) ?_
  refine va_newa (D := D) (a0 := (6, .inl (fun _ => 0))) (N' := 6) (ty := .int) (atype := .int) hx hb (hts _ q236) rfl hK hP hD hS hA (fun _ => rfl) (by decide) (by decide) (by decide) (Nat.le_of_ble_eq_true rfl) (Nat.le_of_ble_eq_true rfl) dX1_init_41 (fun a4 c9 H hK hP hD hS => ?_)
  have ec : cI = c9 := Option.some.inj ((hK.2 0 _ rfl).2.symm.trans (hK.2 1 _ rfl).2)
  subst ec
  have hK := hK.sub (tys' := [(cI, .int)]) [0] rfl
  have hP : va_P D vwCl [(h0, .inr (1, [.int 0, .ref a0, .int 0, .ref a1, .int 0, .ref a2, .ref a3, .int 0, .null])), (a0, .inl (cI, 250, .inl (fun _ => 0))), (a1, .inl (cI, 251, .inl (fun _ => 0))), (a2, .inl (cI, 60, .inl (fun _ => 0))), (a3, .inl (cI, 60, .inl (fun _ => 0))), (a4, .inl (cI, 6, .inl (fun _ => 0)))] H := hP
  have hD : va_D A [(h0, .inr (1, [.int 0, .ref a0, .int 0, .ref a1, .int 0, .ref a2, .ref a3, .int 0, .null])), (a0, .inl (cI, 250, .inl (fun _ => 0))), (a1, .inl (cI, 251, .inl (fun _ => 0))), (a2, .inl (cI, 60, .inl (fun _ => 0))), (a3, .inl (cI, 60, .inl (fun _ => 0))), (a4, .inl (cI, 6, .inl (fun _ => 0)))] := hD
  have hK : va_K D vwCl [(cI, .int)] s := hK
  refine va_put (D := D) (ci := 1) (v := .ref a4) (ty := .array .int) (C := RX1) (T := TX1) (N := 9) hx hb hts in_X1 tyX1 tyX1_ok nmX1 hown hK hP hD hS 0 rfl rfl 8 (by decide) (hts _ q216) (fun _ h9 => h9) rfl (by decide +kernel) rfl rfl (Nat.le_of_ble_eq_true rfl) dX1_init_43 (fun H locs hP hD hS => ?_)
  have hP : va_P D vwCl [(h0, .inr (1, [.int 0, .ref a0, .int 0, .ref a1, .int 0, .ref a2, .ref a3, .int 0, .ref a4])), (a0, .inl (cI, 250, .inl (fun _ => 0))), (a1, .inl (cI, 251, .inl (fun _ => 0))), (a2, .inl (cI, 60, .inl (fun _ => 0))), (a3, .inl (cI, 60, .inl (fun _ => 0))), (a4, .inl (cI, 6, .inl (fun _ => 0)))] H := hP
  have hD : va_D A [(h0, .inr (1, [.int 0, .ref a0, .int 0, .ref a1, .int 0, .ref a2, .ref a3, .int 0, .ref a4])), (a0, .inl (cI, 250, .inl (fun _ => 0))), (a1, .inl (cI, 251, .inl (fun _ => 0))), (a2, .inl (cI, 60, .inl (fun _ => 0))), (a3, .inl (cI, 60, .inl (fun _ => 0))), (a4, .inl (cI, 6, .inl (fun _ => 0)))] := hD
  refine lv_aload_n hx hb dX1_init_46 rfl (lv_at hl 0 rfl) ?_
  refine r_iconst hx hb dX1_init_47 ?_
  refine va_put (D := D) (ci := 1) (v := .int (iI 4)) (ty := .int) (C := RX1) (T := TX1) (N := 9) hx hb hts in_X1 tyX1 tyX1_ok nmX1 hown hK hP hD hS 0 rfl rfl 4 (by decide) (hts _ q212) (fun _ h9 => h9) rfl (by decide +kernel) rfl rfl (Nat.le_of_ble_eq_true rfl) dX1_init_48 (fun H locs hP hD hS => ?_)
  have hP : va_P D vwCl [(h0, .inr (1, [.int 0, .ref a0, .int 0, .ref a1, .int (iI 4), .ref a2, .ref a3, .int 0, .ref a4])), (a0, .inl (cI, 250, .inl (fun _ => 0))), (a1, .inl (cI, 251, .inl (fun _ => 0))), (a2, .inl (cI, 60, .inl (fun _ => 0))), (a3, .inl (cI, 60, .inl (fun _ => 0))), (a4, .inl (cI, 6, .inl (fun _ => 0)))] H := hP
  have hD : va_D A [(h0, .inr (1, [.int 0, .ref a0, .int 0, .ref a1, .int (iI 4), .ref a2, .ref a3, .int 0, .ref a4])), (a0, .inl (cI, 250, .inl (fun _ => 0))), (a1, .inl (cI, 251, .inl (fun _ => 0))), (a2, .inl (cI, 60, .inl (fun _ => 0))), (a3, .inl (cI, 60, .inl (fun _ => 0))), (a4, .inl (cI, 6, .inl (fun _ => 0)))] := hD
  refine W.widen (k := 5) (n := 627) (Nat.le_of_ble_eq_true rfl) (Nat.le_of_ble_eq_true rfl) ?_
  have conv : ∃ h : Nat → Nat, h 0 = h0 ∧ va_P D vwCl (wM h cI s0M) H ∧ va_D A (wM h cI s0M) := ⟨fun k => if k = 0 then h0 else if k = 1 then a0 else if k = 3 then a1 else if k = 5 then a2 else if k = 6 then a3 else if k = 8 then a4 else 0, rfl, hP, hD⟩
  obtain ⟨h, rfl, hP, hD⟩ := conv
  have hw : GW D [(cI, .int)] (wM h cI s0M) A s H locs := ⟨hK, hP, hD, hS, hA⟩
  exact W.vret hx hb hr (fun t ht hW => ⟨⟨(h, cI, s0M), rfl, ⟨rfl, rfl⟩, by rw [ht]; exact hw.2.1, va_K.moved hW.alike hw.1, hw.2.2.1⟩, hw.2.2.2.1.F ht⟩) hw.2.2.2.1.2.2 dX1_init_51 hlk
end
section
/-! the law: its own world, calls, cases (printed by gen/law.py; the first rows began as the skeleton's) -/
set_option maxRecDepth 100000
def R_law : String := "CodeSearcherLaw"
def lw_P (b : Addr) (xs : List Int32) (args : Array Value) (s : State) : Prop := args = #[.ref b] ∧ s.IntsAt b xs ∧ xs.length ≤ 192 ∧ (Jvm.Cond.and given_1 narrow_1).before args s = true
def lw_Q (_ : Array Value) (s : State) (o : Outcome) (t : State) : Prop := o = .returned (some (.int 1)) ∧ Framed s o t [] 600000 7290000
def lw_Z (below : List Frame) (a : Array Value) (s : State) : State → Prop := fun t => ∃ o, t.status = .running ∧ Ended t below o ∧ lw_Q a s o t
/-- the law's own end, with 1 on the stack, nothing written that was there before, its room as the claim has it -/
theorem lw_ret {p : Program} {l : Launch} {e : Env} {s : State} {m : MethodId} {below : List Frame} {meth : Method} {c : Code} {b : Nat} (hx : p.tables.exec = Jvm.exec) (hb : c.code = code) (hr : meth.sig.returnType = ret) (hlocks : meth.locks = false) {pc : Nat} {H : Heap} {ls : Array Slot} (hdg : decode code pc = .ok (.ireturn, 1)) : W p l e room_1 s m #[Value.ref b] below meth c H [] 600000 7290000 (lw_Z below #[Value.ref b] s) (F0 m pc ls [.int 1]) := by
  intro T hT X
  obtain ⟨fs, hret, hrun, hended, hW, hframe⟩ := X.leave (v := some (.int 1)) (hlocks := hlocks) (fun h => by rw [hr] at h; cases h)
  have hmeth' : T.vm.method? m = some meth := X.method'
  refine ⟨T.setFrames fs, ?_, .returned (some (.int 1)), hrun, hended, rfl, ⟨_, rfl⟩, hW, hframe⟩
  jvm_step X.here [X.here.top, hx, hb, hdg, hmeth', hr, ret, narrow_b1]
  (try refine ⟨rfl, ?_⟩); (try refine ⟨rfl, ?_⟩)
  first | (intro acts; rw [hret _ acts rfl rfl rfl]) | rw [hret _ _ rfl rfl rfl]
  exact Steps.refl _
/-- what holds at the law's entry: the machine, the code, the tables' words (any of lw_tbl by 'hts w (by decide +kernel)'), the script of L ints xs at the cell b, what the Statement gives of the start (any of its parts by flat_of_before) -/
def lw_At (p : Program) (s : State) (m : MethodId) (meth : Method) (c : Code) (b L : Nat) (xs : Nat → Int32) : Prop :=
  p.tables.exec = Jvm.exec ∧ c.code = code ∧ meth.sig.returnType = ret ∧ c.maxLocals = 4 ∧ s.vm.findClass R_law = some m.cls ∧ (∀ w ∈ lw_tbl, w.before #[Value.ref b] s = true) ∧ va_X b L xs s s.heap ∧ b < s.heap.size ∧ meth.locks = false ∧ (Jvm.Cond.and given_1 narrow_1).before #[Value.ref b] s = true
def LW (D : va_G) (cB cS : ClassId) (h : Nat → Nat) (cI : ClassId) (g : Nat → Nat) (A : Nat → Prop) (s : State) (σ τ : St) (H : Heap) (locs : List Loc) : Prop := GW D [(cB, .byte), (cS, .short), (cI, .int)] (wX h cB cS σ ++ wM g cI τ) A s H locs
section
variable {p : Program} {l : Launch} {e : Env} {R : Room} {s : State} {m : MethodId} {args : Array Value} {below : List Frame} {meth : Method} {c : Code} {H : Heap} {locs : List Loc} {cells slots : Nat} {Q : State → Prop}
variable {cc : ByteArray} {pc nL : Nat} {ls : Array Slot} {rest : List Value} {D : va_G} {A : Nat → Prop} {h g : Nat → Nat} {cB cS cI : ClassId} {σ τ : St} {own : String}
theorem L_swap (hw : GW D [(cB, .byte), (cS, .short), (cI, .int)] (wM g cI τ ++ wX h cB cS σ) A s H locs) : LW D cB cS h cI g A s σ τ H locs :=
  ⟨hw.1, hw.2.1.sub [6, 7, 8, 9, 10, 11, 12, 13, 14, 15, 16, 17, 0, 1, 2, 3, 4, 5] rfl, hw.2.2.1.sub [6, 7, 8, 9, 10, 11, 12, 13, 14, 15, 16, 17, 0, 1, 2, 3, 4, 5] (by decide) rfl, hw.2.2.2.1, hw.2.2.2.2⟩
theorem LX_i {As st : List Value} {post : Int → St → Prop} {y : MethodName} {b : ByteArray} {L fr lo n index : Nat} {r : Option FieldType} (S : CallFix p m c cc nL s args lw_all own) (hw : LW D cB cS h cI g A s σ τ H locs) (hM : GMi l y b L r fr lo D [(cB, .byte), (cS, .short)] (wX h cB cS) (adX h) (h 0) As σ post) (cw : CallW R s args own RX0 index y b L r (ws_ y b L r) ({ frames := fr, cells := 0, slots := 0, locals := lo }) 0 0 n) (hcs : cells ≤ R.cells ∧ slots ≤ R.slots) (hAs : As.length = n) (hsz : ls.size = nL) (hst : st = As.reverse ++ .ref (h 0) :: rest) (hcat : (rest.map fun v => v.category).sum ≤ 8) (hdg : decode cc pc = .ok (.invokevirtual index, 3))
    (kk : ∀ (z : Int) (σ1 : St) (H1 : Heap) (locs1 : List Loc), post z σ1 → LW D cB cS h cI g A s σ1 τ H1 locs1 → W p l e R s m args below meth c H1 locs1 cells slots Q (F0 m (pc + 3) ls (.int (iI z) :: rest))) : W p l e R s m args below meth c H locs cells slots Q (F0 m pc ls st) :=
  G_calli (wr := wM g cI τ) S hw (List.range 12) [12, 13, 14, 15, 16, 17] rfl rfl rfl rfl (by decide) (hw.1.sub [0, 1] rfl) hM rfl (va_recv hw.1 hw.2.1 (ci := 0) (q0 := 0) rfl rfl) cw hcs hAs hsz hst hcat hdg (fun z x H1 locs1 hp hw => kk z x H1 locs1 hp (L_swap hw))
theorem LX_v {As st : List Value} {post : St → Prop} {y : MethodName} {b : ByteArray} {L fr lo n index : Nat} {r : Option FieldType} (S : CallFix p m c cc nL s args lw_all own) (hw : LW D cB cS h cI g A s σ τ H locs) (hM : GMv l y b L r fr lo D [(cB, .byte), (cS, .short)] (wX h cB cS) (adX h) (h 0) As σ post) (cw : CallW R s args own RX0 index y b L r (ws_ y b L r) ({ frames := fr, cells := 0, slots := 0, locals := lo }) 0 0 n) (hcs : cells ≤ R.cells ∧ slots ≤ R.slots) (hAs : As.length = n) (hsz : ls.size = nL) (hst : st = As.reverse ++ .ref (h 0) :: rest) (hcat : (rest.map fun v => v.category).sum ≤ 8) (hdg : decode cc pc = .ok (.invokevirtual index, 3))
    (kk : ∀ (σ1 : St) (H1 : Heap) (locs1 : List Loc), post σ1 → LW D cB cS h cI g A s σ1 τ H1 locs1 → W p l e R s m args below meth c H1 locs1 cells slots Q (F0 m (pc + 3) ls rest)) : W p l e R s m args below meth c H locs cells slots Q (F0 m pc ls st) :=
  G_callv (wr := wM g cI τ) S hw (List.range 12) [12, 13, 14, 15, 16, 17] rfl rfl rfl rfl (by decide) (hw.1.sub [0, 1] rfl) hM rfl (va_recv hw.1 hw.2.1 (ci := 0) (q0 := 0) rfl rfl) cw hcs hAs hsz hst hcat hdg (fun x H1 locs1 hp hw => kk x H1 locs1 hp (L_swap hw))
theorem LM_i {As st : List Value} {post : Int → St → Prop} {y : MethodName} {b : ByteArray} {L fr lo n index : Nat} {r : Option FieldType} (S : CallFix p m c cc nL s args lw_all own) (hw : LW D cB cS h cI g A s σ τ H locs) (hM : GMi l y b L r fr lo D [(cI, .int)] (wM g cI) (adM g) (g 0) As τ post) (cw : CallW R s args own RX1 index y b L r (ws_ y b L r) ({ frames := fr, cells := 0, slots := 0, locals := lo }) 0 0 n) (hcs : cells ≤ R.cells ∧ slots ≤ R.slots) (hAs : As.length = n) (hsz : ls.size = nL) (hst : st = As.reverse ++ .ref (g 0) :: rest) (hcat : (rest.map fun v => v.category).sum ≤ 8) (hdg : decode cc pc = .ok (.invokevirtual index, 3))
    (kk : ∀ (z : Int) (τ1 : St) (H1 : Heap) (locs1 : List Loc), post z τ1 → LW D cB cS h cI g A s σ τ1 H1 locs1 → W p l e R s m args below meth c H1 locs1 cells slots Q (F0 m (pc + 3) ls (.int (iI z) :: rest))) : W p l e R s m args below meth c H locs cells slots Q (F0 m pc ls st) :=
  G_calli (wr := wX h cB cS σ) S hw [12, 13, 14, 15, 16, 17] (List.range 12) rfl rfl rfl rfl (by decide) (hw.1.sub [2] rfl) hM rfl (va_recv hw.1 hw.2.1 (ci := 1) (q0 := 12) rfl rfl) cw hcs hAs hsz hst hcat hdg (fun z x H1 locs1 hp hw => kk z x H1 locs1 hp hw)
theorem LM_v {As st : List Value} {post : St → Prop} {y : MethodName} {b : ByteArray} {L fr lo n index : Nat} {r : Option FieldType} (S : CallFix p m c cc nL s args lw_all own) (hw : LW D cB cS h cI g A s σ τ H locs) (hM : GMv l y b L r fr lo D [(cI, .int)] (wM g cI) (adM g) (g 0) As τ post) (cw : CallW R s args own RX1 index y b L r (ws_ y b L r) ({ frames := fr, cells := 0, slots := 0, locals := lo }) 0 0 n) (hcs : cells ≤ R.cells ∧ slots ≤ R.slots) (hAs : As.length = n) (hsz : ls.size = nL) (hst : st = As.reverse ++ .ref (g 0) :: rest) (hcat : (rest.map fun v => v.category).sum ≤ 8) (hdg : decode cc pc = .ok (.invokevirtual index, 3))
    (kk : ∀ (τ1 : St) (H1 : Heap) (locs1 : List Loc), post τ1 → LW D cB cS h cI g A s σ τ1 H1 locs1 → W p l e R s m args below meth c H1 locs1 cells slots Q (F0 m (pc + 3) ls rest)) : W p l e R s m args below meth c H locs cells slots Q (F0 m pc ls st) :=
  G_callv (wr := wX h cB cS σ) S hw [12, 13, 14, 15, 16, 17] (List.range 12) rfl rfl rfl rfl (by decide) (hw.1.sub [2] rfl) hM rfl (va_recv hw.1 hw.2.1 (ci := 1) (q0 := 12) rfl rfl) cw hcs hAs hsz hst hcat hdg (fun x H1 locs1 hp hw => kk x H1 locs1 hp hw)
theorem r_sld (hx : p.tables.exec = Jvm.exec) (hb : c.code = cc) {b L : Nat} {xs : Nat → Int32} (hX : va_X b L xs s s.heap) (hbl : b < s.heap.size) (hbA : ¬ A b) (hS : va_S A s.heap H locs) (j : Nat) {z : Int} (hz : z = (j : Int)) (hj : j < L) (hL : L < 2147483648) (hdg : decode cc pc = .ok (.iaload, 1)) (kk : W p l e R s m args below meth c H locs cells slots Q (F0 m (pc + 1) ls (.int (iI (xs j).toInt) :: rest))) : W p l e R s m args below meth c H locs cells slots Q (F0 m pc ls (.int (iI z) :: .ref b :: rest)) := by
  subst hz
  refine va_sld hx hb hX hbl hbA hS (iI_in hj hL) hdg ?_
  rw [iI_cl j (by omega), ← iI_of (xs j)]
  exact kk
theorem r_slen (hx : p.tables.exec = Jvm.exec) (hb : c.code = cc) {b L : Nat} {xs : Nat → Int32} (hX : va_X b L xs s s.heap) (hbl : b < s.heap.size) (hbA : ¬ A b) (hS : va_S A s.heap H locs) (hdg : decode cc pc = .ok (.arraylength, 1)) (kk : W p l e R s m args below meth c H locs cells slots Q (F0 m (pc + 1) ls (.int (iI (L : Int)) :: rest))) : W p l e R s m args below meth c H locs cells slots Q (F0 m pc ls (.ref b :: rest)) := by
  refine va_slen hx hb hX hbl hbA hS hdg ?_
  rw [← Int32.ofInt_eq_ofNat]
  exact kk
end
def LC (p : Program) (s : State) (m : MethodId) (c : Code) (b L : Nat) (xs : Nat → Int32) : Prop := CallFix p m c code 4 s #[Value.ref b] lw_all R_law ∧ va_X b L xs s s.heap ∧ b < s.heap.size ∧ L ≤ 192
def LInv (σ τ : St) : Prop := ∃ (wc : Nat) (len : Nat → Nat) (sy : Nat → Nat → Nat) (n N : Nat) (cd bg T : Nat → Nat) (mm : Nat) (P : Nat → Nat), Wf wc len sy n N cd bg T mm P ∧ XRep wc len sy n N cd T mm P σ ∧ MRep wc len sy n N bg T mm P τ
theorem Wf.extend {wc : Nat} {len : Nat → Nat} {sy : Nat → Nat → Nat} {n N : Nat} {cd bg T : Nat → Nat} {m : Nat} {P : Nat → Nat} {x : Int} (hf : Wf wc len sy n N cd bg T m P) (h0 : 0 ≤ x) (h4 : x < 4) (h6 : m < 6) : Wf wc len sy n N cd bg T (m + 1) (aC m P x.toNat) := by
  refine ⟨hf.1, hf.2.1, by omega, fun i hi => ?_⟩
  unfold aC
  split
  · omega
  · exact hf.2.2.2 i (by omega)
theorem Wf.shorten {wc : Nat} {len : Nat → Nat} {sy : Nat → Nat → Nat} {n N : Nat} {cd bg T : Nat → Nat} {m : Nat} {P : Nat → Nat} (hf : Wf wc len sy n N cd bg T m P) : Wf wc len sy n N cd bg T (m - 1) (fun i => P (i + 1)) :=
  ⟨hf.1, hf.2.1, by have := hf.2.2.1; omega, fun i hi => hf.2.2.2 (i + 1) (by omega)⟩
theorem b32 (x : Int32) : -2147483648 ≤ x.toInt ∧ x.toInt < 2147483648 := ⟨Int32.le_toInt x, Int32.toInt_lt x⟩
theorem law_0 {p : Program} {l : Launch} {e : Env} {s : State} {m : MethodId} {below : List Frame} {meth : Method} {c : Code} {b L : Nat} {xs : Nat → Int32} {D : va_G} {cB cS cI : ClassId} {h g : Nat → Nat} {σ τ : St} {H : Heap} {locs : List Loc} {ls : Array Slot} {i : Nat} {Q : State → Prop} (C : LC p s m c b L xs) (hi : i + 3 ≤ L) (hw : LW D cB cS h cI g (fun q => s.heap.size ≤ q) s σ τ H locs) (hI : LInv σ τ) (hl : lv_has ls 4 [(0, .ref b), (1, .ref (h 0)), (2, .ref (g 0)), (3, .int (iI i))])
    (kk : ∀ (σ1 τ1 : St) (H1 : Heap) (locs1 : List Loc), LInv σ1 τ1 → LW D cB cS h cI g (fun q => s.heap.size ≤ q) s σ1 τ1 H1 locs1 → W p l e room_1 s m #[Value.ref b] below meth c H1 locs1 600000 7290000 Q (F0 m 405 ls [])) : W p l e room_1 s m #[Value.ref b] below meth c H locs 600000 7290000 Q (F0 m 116 ls []) := by
  obtain ⟨S, hX, hbl, hL⟩ := C
  have hx := S.1
  have hb := S.2.1
  have hts := S.2.2.2.2
  have hI0 := hI
  obtain ⟨wc, len, sy, n, N, cd, bg, T, mm, P, hf, hxr, hmr⟩ := hI
  refine lv_aload_n hx hb dL_law_116 rfl (lv_at hl 1 rfl) ?_
  refine lv_aload_n hx hb dL_law_117 rfl (lv_at hl 0 rfl) ?_
  refine lv_iload_n hx hb dL_law_118 rfl (lv_at hl 3 rfl) ?_
  refine r_iconst hx hb dL_law_119 ?_
  refine r_iadd (a := i) (b := 1) hx hb dL_law_120 ?_
  refine r_sld hx hb hX hbl (by omega) hw.2.2.2.1 (i + 1) (z := (i + 1)) (by omega) (by omega) (by omega) dL_law_121 ?_
  refine LX_i (As := [.int (iI ((xs (i + 1)).toInt))]) (rest := []) S hw (mX_feed l D cB cS h σ ((xs (i + 1)).toInt) hf hxr (b32 _)) (cwV 1 hts (lw_V q94 q95 q96 q15 q97) rfl rfl rfl (by decide +kernel) ⟨Nat.le_of_ble_eq_true rfl, Nat.le_of_ble_eq_true rfl⟩) ⟨Nat.le_of_ble_eq_true rfl, Nat.le_of_ble_eq_true rfl⟩ rfl hl.1 rfl (Nat.le_of_ble_eq_true rfl) dL_law_122 (fun z1 σ1 H locs hp1 hw => ?_)
  refine lv_aload_n hx hb dL_law_125 rfl (lv_at hl 2 rfl) ?_
  refine lv_aload_n hx hb dL_law_126 rfl (lv_at hl 0 rfl) ?_
  refine lv_iload_n hx hb dL_law_127 rfl (lv_at hl 3 rfl) ?_
  refine r_iconst hx hb dL_law_128 ?_
  refine r_iadd (a := i) (b := 1) hx hb dL_law_129 ?_
  refine r_sld hx hb hX hbl (by omega) hw.2.2.2.1 (i + 1) (z := (i + 1)) (by omega) (by omega) (by omega) dL_law_130 ?_
  refine LM_i (As := [.int (iI ((xs (i + 1)).toInt))]) (rest := [.int (iI (z1))]) S hw (mM_feed l D cI g τ ((xs (i + 1)).toInt) hf hmr (b32 _)) (cwV 1 hts (lw_V q237 q238 q239 q16 q240) rfl rfl rfl (by decide +kernel) ⟨Nat.le_of_ble_eq_true rfl, Nat.le_of_ble_eq_true rfl⟩) ⟨Nat.le_of_ble_eq_true rfl, Nat.le_of_ble_eq_true rfl⟩ rfl hl.1 rfl (Nat.le_of_ble_eq_true rfl) dL_law_131 (fun z2 τ1 H locs hp2 hw => ?_)
  have both : z1 = z2 ∧ LInv σ1 τ1 := by
    rcases hp1 with ⟨k1, a1, a2⟩ | ⟨k1, a1, a2⟩
    · rcases hp2 with ⟨k2, b1, b2⟩ | ⟨k2, b1, b2⟩
      · exact ⟨by rw [a1, b1], ⟨_, _, _, _, _, _, _, _, _, _, hf.feed k1, a2, b2⟩⟩
      · exact absurd k1 k2
    · rcases hp2 with ⟨k2, b1, b2⟩ | ⟨k2, b1, b2⟩
      · exact absurd k2 k1
      · exact ⟨by rw [a1, b1], by rw [a2, b2]; exact hI0⟩
  obtain ⟨ez, hI2⟩ := both
  refine lv_icmp_eq (tgt := 405) hx hb dL_law_134 (by decide) (fun _ => ?_) (fun q9 => absurd (by rw [ez]) q9)
  exact kk σ1 τ1 _ _ hI2 hw
theorem law_1 {p : Program} {l : Launch} {e : Env} {s : State} {m : MethodId} {below : List Frame} {meth : Method} {c : Code} {b L : Nat} {xs : Nat → Int32} {D : va_G} {cB cS cI : ClassId} {h g : Nat → Nat} {σ τ : St} {H : Heap} {locs : List Loc} {ls : Array Slot} {i : Nat} {Q : State → Prop} (C : LC p s m c b L xs) (hi : i + 3 ≤ L) (hw : LW D cB cS h cI g (fun q => s.heap.size ≤ q) s σ τ H locs) (hI : LInv σ τ) (hl : lv_has ls 4 [(0, .ref b), (1, .ref (h 0)), (2, .ref (g 0)), (3, .int (iI i))])
    (kk : ∀ (σ1 τ1 : St) (H1 : Heap) (locs1 : List Loc), LInv σ1 τ1 → LW D cB cS h cI g (fun q => s.heap.size ≤ q) s σ1 τ1 H1 locs1 → W p l e room_1 s m #[Value.ref b] below meth c H1 locs1 600000 7290000 Q (F0 m 405 ls [])) : W p l e room_1 s m #[Value.ref b] below meth c H locs 600000 7290000 Q (F0 m 139 ls []) := by
  obtain ⟨S, hX, hbl, hL⟩ := C
  have hx := S.1
  have hb := S.2.1
  have hts := S.2.2.2.2
  have hI0 := hI
  obtain ⟨wc, len, sy, n, N, cd, bg, T, mm, P, hf, hxr, hmr⟩ := hI
  refine lv_aload_n hx hb dL_law_139 rfl (lv_at hl 1 rfl) ?_
  refine LX_v (As := []) (rest := []) S hw (mX_restart l D cB cS h σ  hf hxr ) (cwV 0 hts (lw_V q106 q107 q108 q15 q109) rfl rfl rfl (by decide +kernel) ⟨Nat.le_of_ble_eq_true rfl, Nat.le_of_ble_eq_true rfl⟩) ⟨Nat.le_of_ble_eq_true rfl, Nat.le_of_ble_eq_true rfl⟩ rfl hl.1 rfl (Nat.le_of_ble_eq_true rfl) dL_law_140 (fun σ1 H locs hp1 hw => ?_)
  refine lv_aload_n hx hb dL_law_143 rfl (lv_at hl 2 rfl) ?_
  refine LM_v (As := []) (rest := []) S hw (mM_restart l D cI g τ  hf hmr ) (cwV 0 hts (lw_V q249 q250 q251 q16 q252) rfl rfl rfl (by decide +kernel) ⟨Nat.le_of_ble_eq_true rfl, Nat.le_of_ble_eq_true rfl⟩) ⟨Nat.le_of_ble_eq_true rfl, Nat.le_of_ble_eq_true rfl⟩ rfl hl.1 rfl (Nat.le_of_ble_eq_true rfl) dL_law_144 (fun τ1 H locs hp2 hw => ?_)
  have hI2 : LInv σ1 τ1 := ⟨_, _, _, _, _, _, _, _, _, _, hf.restart, hp1, hp2⟩
  refine lv_goto (tgt := 405) hx hb dL_law_147 (by decide) ?_
  exact kk σ1 τ1 _ _ hI2 hw
theorem law_2 {p : Program} {l : Launch} {e : Env} {s : State} {m : MethodId} {below : List Frame} {meth : Method} {c : Code} {b L : Nat} {xs : Nat → Int32} {D : va_G} {cB cS cI : ClassId} {h g : Nat → Nat} {σ τ : St} {H : Heap} {locs : List Loc} {ls : Array Slot} {i : Nat} {Q : State → Prop} (C : LC p s m c b L xs) (hi : i + 3 ≤ L) (hw : LW D cB cS h cI g (fun q => s.heap.size ≤ q) s σ τ H locs) (hI : LInv σ τ) (hl : lv_has ls 4 [(0, .ref b), (1, .ref (h 0)), (2, .ref (g 0)), (3, .int (iI i))])
    (kk : ∀ (σ1 τ1 : St) (H1 : Heap) (locs1 : List Loc), LInv σ1 τ1 → LW D cB cS h cI g (fun q => s.heap.size ≤ q) s σ1 τ1 H1 locs1 → W p l e room_1 s m #[Value.ref b] below meth c H1 locs1 600000 7290000 Q (F0 m 405 ls [])) : W p l e room_1 s m #[Value.ref b] below meth c H locs 600000 7290000 Q (F0 m 150 ls []) := by
  obtain ⟨S, hX, hbl, hL⟩ := C
  have hx := S.1
  have hb := S.2.1
  have hts := S.2.2.2.2
  have hI0 := hI
  obtain ⟨wc, len, sy, n, N, cd, bg, T, mm, P, hf, hxr, hmr⟩ := hI
  refine lv_aload_n hx hb dL_law_150 rfl (lv_at hl 1 rfl) ?_
  refine lv_aload_n hx hb dL_law_151 rfl (lv_at hl 0 rfl) ?_
  refine lv_iload_n hx hb dL_law_152 rfl (lv_at hl 3 rfl) ?_
  refine r_iconst hx hb dL_law_153 ?_
  refine r_iadd (a := i) (b := 1) hx hb dL_law_154 ?_
  refine r_sld hx hb hX hbl (by omega) hw.2.2.2.1 (i + 1) (z := (i + 1)) (by omega) (by omega) (by omega) dL_law_155 ?_
  refine LX_i (As := [.int (iI ((xs (i + 1)).toInt))]) (rest := []) S hw (mX_extend l D cB cS h σ ((xs (i + 1)).toInt) hf hxr (b32 _)) (cwV 1 hts (lw_V q110 q111 q112 q15 q113) rfl rfl rfl (by decide +kernel) ⟨Nat.le_of_ble_eq_true rfl, Nat.le_of_ble_eq_true rfl⟩) ⟨Nat.le_of_ble_eq_true rfl, Nat.le_of_ble_eq_true rfl⟩ rfl hl.1 rfl (Nat.le_of_ble_eq_true rfl) dL_law_156 (fun z1 σ1 H locs hp1 hw => ?_)
  refine lv_aload_n hx hb dL_law_159 rfl (lv_at hl 2 rfl) ?_
  refine lv_aload_n hx hb dL_law_160 rfl (lv_at hl 0 rfl) ?_
  refine lv_iload_n hx hb dL_law_161 rfl (lv_at hl 3 rfl) ?_
  refine r_iconst hx hb dL_law_162 ?_
  refine r_iadd (a := i) (b := 1) hx hb dL_law_163 ?_
  refine r_sld hx hb hX hbl (by omega) hw.2.2.2.1 (i + 1) (z := (i + 1)) (by omega) (by omega) (by omega) dL_law_164 ?_
  refine LM_i (As := [.int (iI ((xs (i + 1)).toInt))]) (rest := [.int (iI (z1))]) S hw (mM_extend l D cI g τ ((xs (i + 1)).toInt) hf hmr (b32 _)) (cwV 1 hts (lw_V q253 q254 q255 q16 q256) rfl rfl rfl (by decide +kernel) ⟨Nat.le_of_ble_eq_true rfl, Nat.le_of_ble_eq_true rfl⟩) ⟨Nat.le_of_ble_eq_true rfl, Nat.le_of_ble_eq_true rfl⟩ rfl hl.1 rfl (Nat.le_of_ble_eq_true rfl) dL_law_165 (fun z2 τ1 H locs hp2 hw => ?_)
  have both : z1 = z2 ∧ LInv σ1 τ1 := by
    rcases hp1 with ⟨k1, k2, k3, a1, a2⟩ | ⟨k1, a1, a2⟩
    · rcases hp2 with ⟨k4, k5, k6, b1, b2⟩ | ⟨k4, b1, b2⟩
      · exact ⟨by rw [a1, b1], ⟨_, _, _, _, _, _, _, _, _, _, hf.extend k1 k2 k3, a2, b2⟩⟩
      · exact absurd ⟨k1, k2, k3⟩ k4
    · rcases hp2 with ⟨k4, k5, k6, b1, b2⟩ | ⟨k4, b1, b2⟩
      · exact absurd ⟨k4, k5, k6⟩ k1
      · exact ⟨by rw [a1, b1], by rw [a2, b2]; exact hI0⟩
  obtain ⟨ez, hI2⟩ := both
  refine lv_icmp_eq (tgt := 405) hx hb dL_law_168 (by decide) (fun _ => ?_) (fun q9 => absurd (by rw [ez]) q9)
  exact kk σ1 τ1 _ _ hI2 hw
theorem law_3 {p : Program} {l : Launch} {e : Env} {s : State} {m : MethodId} {below : List Frame} {meth : Method} {c : Code} {b L : Nat} {xs : Nat → Int32} {D : va_G} {cB cS cI : ClassId} {h g : Nat → Nat} {σ τ : St} {H : Heap} {locs : List Loc} {ls : Array Slot} {i : Nat} {Q : State → Prop} (C : LC p s m c b L xs) (hi : i + 3 ≤ L) (hw : LW D cB cS h cI g (fun q => s.heap.size ≤ q) s σ τ H locs) (hI : LInv σ τ) (hl : lv_has ls 4 [(0, .ref b), (1, .ref (h 0)), (2, .ref (g 0)), (3, .int (iI i))])
    (kk : ∀ (σ1 τ1 : St) (H1 : Heap) (locs1 : List Loc), LInv σ1 τ1 → LW D cB cS h cI g (fun q => s.heap.size ≤ q) s σ1 τ1 H1 locs1 → W p l e room_1 s m #[Value.ref b] below meth c H1 locs1 600000 7290000 Q (F0 m 405 ls [])) : W p l e room_1 s m #[Value.ref b] below meth c H locs 600000 7290000 Q (F0 m 173 ls []) := by
  obtain ⟨S, hX, hbl, hL⟩ := C
  have hx := S.1
  have hb := S.2.1
  have hts := S.2.2.2.2
  have hI0 := hI
  obtain ⟨wc, len, sy, n, N, cd, bg, T, mm, P, hf, hxr, hmr⟩ := hI
  refine lv_aload_n hx hb dL_law_173 rfl (lv_at hl 1 rfl) ?_
  refine LX_i (As := []) (rest := []) S hw (mX_shorten l D cB cS h σ  hf hxr ) (cwV 0 hts (lw_V q118 q119 q120 q15 q121) rfl rfl rfl (by decide +kernel) ⟨Nat.le_of_ble_eq_true rfl, Nat.le_of_ble_eq_true rfl⟩) ⟨Nat.le_of_ble_eq_true rfl, Nat.le_of_ble_eq_true rfl⟩ rfl hl.1 rfl (Nat.le_of_ble_eq_true rfl) dL_law_174 (fun z1 σ1 H locs hp1 hw => ?_)
  refine lv_aload_n hx hb dL_law_177 rfl (lv_at hl 2 rfl) ?_
  refine LM_i (As := []) (rest := [.int (iI (z1))]) S hw (mM_shorten l D cI g τ  hf hmr ) (cwV 0 hts (lw_V q257 q258 q259 q16 q260) rfl rfl rfl (by decide +kernel) ⟨Nat.le_of_ble_eq_true rfl, Nat.le_of_ble_eq_true rfl⟩) ⟨Nat.le_of_ble_eq_true rfl, Nat.le_of_ble_eq_true rfl⟩ rfl hl.1 rfl (Nat.le_of_ble_eq_true rfl) dL_law_178 (fun z2 τ1 H locs hp2 hw => ?_)
  have both : z1 = z2 ∧ LInv σ1 τ1 := by
    rcases hp1 with ⟨k1, a1, a2⟩ | ⟨k1, a1, a2⟩
    · rcases hp2 with ⟨k2, b1, b2⟩ | ⟨k2, b1, b2⟩
      · exact ⟨by rw [a1, b1], ⟨_, _, _, _, _, _, _, _, _, _, hf.shorten, a2, b2⟩⟩
      · exact absurd k1 k2
    · rcases hp2 with ⟨k2, b1, b2⟩ | ⟨k2, b1, b2⟩
      · exact absurd k2 k1
      · exact ⟨by rw [a1, b1], by rw [a2, b2]; exact hI0⟩
  obtain ⟨ez, hI2⟩ := both
  refine lv_icmp_eq (tgt := 405) hx hb dL_law_181 (by decide) (fun _ => ?_) (fun q9 => absurd (by rw [ez]) q9)
  exact kk σ1 τ1 _ _ hI2 hw
theorem law_4 {p : Program} {l : Launch} {e : Env} {s : State} {m : MethodId} {below : List Frame} {meth : Method} {c : Code} {b L : Nat} {xs : Nat → Int32} {D : va_G} {cB cS cI : ClassId} {h g : Nat → Nat} {σ τ : St} {H : Heap} {locs : List Loc} {ls : Array Slot} {i : Nat} {Q : State → Prop} (C : LC p s m c b L xs) (hi : i + 3 ≤ L) (hw : LW D cB cS h cI g (fun q => s.heap.size ≤ q) s σ τ H locs) (hI : LInv σ τ) (hl : lv_has ls 4 [(0, .ref b), (1, .ref (h 0)), (2, .ref (g 0)), (3, .int (iI i))])
    (kk : ∀ (σ1 τ1 : St) (H1 : Heap) (locs1 : List Loc), LInv σ1 τ1 → LW D cB cS h cI g (fun q => s.heap.size ≤ q) s σ1 τ1 H1 locs1 → W p l e room_1 s m #[Value.ref b] below meth c H1 locs1 600000 7290000 Q (F0 m 405 ls [])) : W p l e room_1 s m #[Value.ref b] below meth c H locs 600000 7290000 Q (F0 m 186 ls []) := by
  obtain ⟨S, hX, hbl, hL⟩ := C
  have hx := S.1
  have hb := S.2.1
  have hts := S.2.2.2.2
  have hI0 := hI
  obtain ⟨wc, len, sy, n, N, cd, bg, T, mm, P, hf, hxr, hmr⟩ := hI
  refine lv_aload_n hx hb dL_law_186 rfl (lv_at hl 1 rfl) ?_
  refine LX_i (As := []) (rest := []) S hw (mX_pattern l D cB cS h σ) (cwV 0 hts (lw_V q122 q123 q124 q15 q125) rfl rfl rfl (by decide +kernel) ⟨Nat.le_of_ble_eq_true rfl, Nat.le_of_ble_eq_true rfl⟩) ⟨Nat.le_of_ble_eq_true rfl, Nat.le_of_ble_eq_true rfl⟩ rfl hl.1 rfl (Nat.le_of_ble_eq_true rfl) dL_law_187 (fun z1 σ1 H locs hp1 hw => ?_)
  refine lv_aload_n hx hb dL_law_190 rfl (lv_at hl 2 rfl) ?_
  refine LM_i (As := []) (rest := [.int (iI (z1))]) S hw (mM_pattern l D cI g τ) (cwV 0 hts (lw_V q261 q262 q263 q16 q264) rfl rfl rfl (by decide +kernel) ⟨Nat.le_of_ble_eq_true rfl, Nat.le_of_ble_eq_true rfl⟩) ⟨Nat.le_of_ble_eq_true rfl, Nat.le_of_ble_eq_true rfl⟩ rfl hl.1 rfl (Nat.le_of_ble_eq_true rfl) dL_law_191 (fun z2 τ1 H locs hp2 hw => ?_)
  obtain ⟨e1, e2⟩ := hp1
  obtain ⟨e3, e4⟩ := hp2
  rw [e2, e4] at hw
  have hI2 := hI0
  have ez : z1 = z2 := by rw [e1, e3, hxr.2.2.1.1, hmr.2.2.2.2.2.2.1]
  refine lv_icmp_eq (tgt := 405) hx hb dL_law_194 (by decide) (fun _ => ?_) (fun q9 => absurd (by rw [ez]) q9)
  exact kk σ τ _ _ hI2 hw
theorem law_5 {p : Program} {l : Launch} {e : Env} {s : State} {m : MethodId} {below : List Frame} {meth : Method} {c : Code} {b L : Nat} {xs : Nat → Int32} {D : va_G} {cB cS cI : ClassId} {h g : Nat → Nat} {σ τ : St} {H : Heap} {locs : List Loc} {ls : Array Slot} {i : Nat} {Q : State → Prop} (C : LC p s m c b L xs) (hi : i + 3 ≤ L) (hw : LW D cB cS h cI g (fun q => s.heap.size ≤ q) s σ τ H locs) (hI : LInv σ τ) (hl : lv_has ls 4 [(0, .ref b), (1, .ref (h 0)), (2, .ref (g 0)), (3, .int (iI i))])
    (kk : ∀ (σ1 τ1 : St) (H1 : Heap) (locs1 : List Loc), LInv σ1 τ1 → LW D cB cS h cI g (fun q => s.heap.size ≤ q) s σ1 τ1 H1 locs1 → W p l e room_1 s m #[Value.ref b] below meth c H1 locs1 600000 7290000 Q (F0 m 405 ls [])) : W p l e room_1 s m #[Value.ref b] below meth c H locs 600000 7290000 Q (F0 m 199 ls []) := by
  obtain ⟨S, hX, hbl, hL⟩ := C
  have hx := S.1
  have hb := S.2.1
  have hts := S.2.2.2.2
  have hI0 := hI
  obtain ⟨wc, len, sy, n, N, cd, bg, T, mm, P, hf, hxr, hmr⟩ := hI
  refine lv_aload_n hx hb dL_law_199 rfl (lv_at hl 1 rfl) ?_
  refine LX_i (As := []) (rest := []) S hw (mX_codes l D cB cS h σ) (cwV 0 hts (lw_V q126 q127 q128 q15 q129) rfl rfl rfl (by decide +kernel) ⟨Nat.le_of_ble_eq_true rfl, Nat.le_of_ble_eq_true rfl⟩) ⟨Nat.le_of_ble_eq_true rfl, Nat.le_of_ble_eq_true rfl⟩ rfl hl.1 rfl (Nat.le_of_ble_eq_true rfl) dL_law_200 (fun z1 σ1 H locs hp1 hw => ?_)
  refine lv_aload_n hx hb dL_law_203 rfl (lv_at hl 2 rfl) ?_
  refine LM_i (As := []) (rest := [.int (iI (z1))]) S hw (mM_codes l D cI g τ) (cwV 0 hts (lw_V q265 q266 q267 q16 q268) rfl rfl rfl (by decide +kernel) ⟨Nat.le_of_ble_eq_true rfl, Nat.le_of_ble_eq_true rfl⟩) ⟨Nat.le_of_ble_eq_true rfl, Nat.le_of_ble_eq_true rfl⟩ rfl hl.1 rfl (Nat.le_of_ble_eq_true rfl) dL_law_204 (fun z2 τ1 H locs hp2 hw => ?_)
  obtain ⟨e1, e2⟩ := hp1
  obtain ⟨e3, e4⟩ := hp2
  rw [e2, e4] at hw
  have hI2 := hI0
  have ez : z1 = z2 := by rw [e1, e3, hxr.2.1.1, hmr.2.2.1]
  refine lv_icmp_eq (tgt := 405) hx hb dL_law_207 (by decide) (fun _ => ?_) (fun q9 => absurd (by rw [ez]) q9)
  exact kk σ τ _ _ hI2 hw
theorem law_6 {p : Program} {l : Launch} {e : Env} {s : State} {m : MethodId} {below : List Frame} {meth : Method} {c : Code} {b L : Nat} {xs : Nat → Int32} {D : va_G} {cB cS cI : ClassId} {h g : Nat → Nat} {σ τ : St} {H : Heap} {locs : List Loc} {ls : Array Slot} {i : Nat} {Q : State → Prop} (C : LC p s m c b L xs) (hi : i + 3 ≤ L) (hw : LW D cB cS h cI g (fun q => s.heap.size ≤ q) s σ τ H locs) (hI : LInv σ τ) (hl : lv_has ls 4 [(0, .ref b), (1, .ref (h 0)), (2, .ref (g 0)), (3, .int (iI i))])
    (kk : ∀ (σ1 τ1 : St) (H1 : Heap) (locs1 : List Loc), LInv σ1 τ1 → LW D cB cS h cI g (fun q => s.heap.size ≤ q) s σ1 τ1 H1 locs1 → W p l e room_1 s m #[Value.ref b] below meth c H1 locs1 600000 7290000 Q (F0 m 405 ls [])) : W p l e room_1 s m #[Value.ref b] below meth c H locs 600000 7290000 Q (F0 m 212 ls []) := by
  obtain ⟨S, hX, hbl, hL⟩ := C
  have hx := S.1
  have hb := S.2.1
  have hts := S.2.2.2.2
  have hI0 := hI
  obtain ⟨wc, len, sy, n, N, cd, bg, T, mm, P, hf, hxr, hmr⟩ := hI
  refine lv_aload_n hx hb dL_law_212 rfl (lv_at hl 1 rfl) ?_
  refine LX_i (As := []) (rest := []) S hw (mX_words l D cB cS h σ) (cwV 0 hts (lw_V q130 q131 q132 q15 q133) rfl rfl rfl (by decide +kernel) ⟨Nat.le_of_ble_eq_true rfl, Nat.le_of_ble_eq_true rfl⟩) ⟨Nat.le_of_ble_eq_true rfl, Nat.le_of_ble_eq_true rfl⟩ rfl hl.1 rfl (Nat.le_of_ble_eq_true rfl) dL_law_213 (fun z1 σ1 H locs hp1 hw => ?_)
  refine lv_aload_n hx hb dL_law_216 rfl (lv_at hl 2 rfl) ?_
  refine LM_i (As := []) (rest := [.int (iI (z1))]) S hw (mM_words l D cI g τ) (cwV 0 hts (lw_V q269 q270 q271 q16 q272) rfl rfl rfl (by decide +kernel) ⟨Nat.le_of_ble_eq_true rfl, Nat.le_of_ble_eq_true rfl⟩) ⟨Nat.le_of_ble_eq_true rfl, Nat.le_of_ble_eq_true rfl⟩ rfl hl.1 rfl (Nat.le_of_ble_eq_true rfl) dL_law_217 (fun z2 τ1 H locs hp2 hw => ?_)
  obtain ⟨e1, e2⟩ := hp1
  obtain ⟨e3, e4⟩ := hp2
  rw [e2, e4] at hw
  have hI2 := hI0
  have ez : z1 = z2 := by rw [e1, e3, hxr.1.1, hmr.2.2.2.2.1]
  refine lv_icmp_eq (tgt := 405) hx hb dL_law_220 (by decide) (fun _ => ?_) (fun q9 => absurd (by rw [ez]) q9)
  exact kk σ τ _ _ hI2 hw
theorem law_7 {p : Program} {l : Launch} {e : Env} {s : State} {m : MethodId} {below : List Frame} {meth : Method} {c : Code} {b L : Nat} {xs : Nat → Int32} {D : va_G} {cB cS cI : ClassId} {h g : Nat → Nat} {σ τ : St} {H : Heap} {locs : List Loc} {ls : Array Slot} {i : Nat} {Q : State → Prop} (C : LC p s m c b L xs) (hi : i + 3 ≤ L) (hw : LW D cB cS h cI g (fun q => s.heap.size ≤ q) s σ τ H locs) (hI : LInv σ τ) (hl : lv_has ls 4 [(0, .ref b), (1, .ref (h 0)), (2, .ref (g 0)), (3, .int (iI i))])
    (kk : ∀ (σ1 τ1 : St) (H1 : Heap) (locs1 : List Loc), LInv σ1 τ1 → LW D cB cS h cI g (fun q => s.heap.size ≤ q) s σ1 τ1 H1 locs1 → W p l e room_1 s m #[Value.ref b] below meth c H1 locs1 600000 7290000 Q (F0 m 405 ls [])) : W p l e room_1 s m #[Value.ref b] below meth c H locs 600000 7290000 Q (F0 m 225 ls []) := by
  obtain ⟨S, hX, hbl, hL⟩ := C
  have hx := S.1
  have hb := S.2.1
  have hts := S.2.2.2.2
  have hI0 := hI
  obtain ⟨wc, len, sy, n, N, cd, bg, T, mm, P, hf, hxr, hmr⟩ := hI
  refine lv_aload_n hx hb dL_law_225 rfl (lv_at hl 1 rfl) ?_
  refine lv_aload_n hx hb dL_law_226 rfl (lv_at hl 0 rfl) ?_
  refine lv_iload_n hx hb dL_law_227 rfl (lv_at hl 3 rfl) ?_
  refine r_iconst hx hb dL_law_228 ?_
  refine r_iadd (a := i) (b := 1) hx hb dL_law_229 ?_
  refine r_sld hx hb hX hbl (by omega) hw.2.2.2.1 (i + 1) (z := (i + 1)) (by omega) (by omega) (by omega) dL_law_230 ?_
  refine LX_i (As := [.int (iI ((xs (i + 1)).toInt))]) (rest := []) S hw (mX_wordLength l D cB cS h σ ((xs (i + 1)).toInt) hf hxr (b32 _)) (cwV 1 hts (lw_V q134 q135 q136 q15 q137) rfl rfl rfl (by decide +kernel) ⟨Nat.le_of_ble_eq_true rfl, Nat.le_of_ble_eq_true rfl⟩) ⟨Nat.le_of_ble_eq_true rfl, Nat.le_of_ble_eq_true rfl⟩ rfl hl.1 rfl (Nat.le_of_ble_eq_true rfl) dL_law_231 (fun z1 σ1 H locs hp1 hw => ?_)
  refine lv_aload_n hx hb dL_law_234 rfl (lv_at hl 2 rfl) ?_
  refine lv_aload_n hx hb dL_law_235 rfl (lv_at hl 0 rfl) ?_
  refine lv_iload_n hx hb dL_law_236 rfl (lv_at hl 3 rfl) ?_
  refine r_iconst hx hb dL_law_237 ?_
  refine r_iadd (a := i) (b := 1) hx hb dL_law_238 ?_
  refine r_sld hx hb hX hbl (by omega) hw.2.2.2.1 (i + 1) (z := (i + 1)) (by omega) (by omega) (by omega) dL_law_239 ?_
  refine LM_i (As := [.int (iI ((xs (i + 1)).toInt))]) (rest := [.int (iI (z1))]) S hw (mM_wordLength l D cI g τ ((xs (i + 1)).toInt) hf hmr (b32 _)) (cwV 1 hts (lw_V q273 q274 q275 q16 q276) rfl rfl rfl (by decide +kernel) ⟨Nat.le_of_ble_eq_true rfl, Nat.le_of_ble_eq_true rfl⟩) ⟨Nat.le_of_ble_eq_true rfl, Nat.le_of_ble_eq_true rfl⟩ rfl hl.1 rfl (Nat.le_of_ble_eq_true rfl) dL_law_240 (fun z2 τ1 H locs hp2 hw => ?_)
  obtain ⟨e1, e2⟩ := hp1
  obtain ⟨e3, e4⟩ := hp2
  rw [e2, e4] at hw
  have hI2 := hI0
  have ez : z1 = z2 := by omega
  refine lv_icmp_eq (tgt := 405) hx hb dL_law_243 (by decide) (fun _ => ?_) (fun q9 => absurd (by rw [ez]) q9)
  exact kk σ τ _ _ hI2 hw
theorem law_8 {p : Program} {l : Launch} {e : Env} {s : State} {m : MethodId} {below : List Frame} {meth : Method} {c : Code} {b L : Nat} {xs : Nat → Int32} {D : va_G} {cB cS cI : ClassId} {h g : Nat → Nat} {σ τ : St} {H : Heap} {locs : List Loc} {ls : Array Slot} {i : Nat} {Q : State → Prop} (C : LC p s m c b L xs) (hi : i + 3 ≤ L) (hw : LW D cB cS h cI g (fun q => s.heap.size ≤ q) s σ τ H locs) (hI : LInv σ τ) (hl : lv_has ls 4 [(0, .ref b), (1, .ref (h 0)), (2, .ref (g 0)), (3, .int (iI i))])
    (kk : ∀ (σ1 τ1 : St) (H1 : Heap) (locs1 : List Loc), LInv σ1 τ1 → LW D cB cS h cI g (fun q => s.heap.size ≤ q) s σ1 τ1 H1 locs1 → W p l e room_1 s m #[Value.ref b] below meth c H1 locs1 600000 7290000 Q (F0 m 405 ls [])) : W p l e room_1 s m #[Value.ref b] below meth c H locs 600000 7290000 Q (F0 m 248 ls []) := by
  obtain ⟨S, hX, hbl, hL⟩ := C
  have hx := S.1
  have hb := S.2.1
  have hts := S.2.2.2.2
  have hI0 := hI
  obtain ⟨wc, len, sy, n, N, cd, bg, T, mm, P, hf, hxr, hmr⟩ := hI
  refine lv_aload_n hx hb dL_law_248 rfl (lv_at hl 1 rfl) ?_
  refine lv_aload_n hx hb dL_law_249 rfl (lv_at hl 0 rfl) ?_
  refine lv_iload_n hx hb dL_law_250 rfl (lv_at hl 3 rfl) ?_
  refine r_iconst hx hb dL_law_251 ?_
  refine r_iadd (a := i) (b := 1) hx hb dL_law_252 ?_
  refine r_sld hx hb hX hbl (by omega) hw.2.2.2.1 (i + 1) (z := (i + 1)) (by omega) (by omega) (by omega) dL_law_253 ?_
  refine lv_aload_n hx hb dL_law_254 rfl (lv_at hl 0 rfl) ?_
  refine lv_iload_n hx hb dL_law_255 rfl (lv_at hl 3 rfl) ?_
  refine r_iconst hx hb dL_law_256 ?_
  refine r_iadd (a := i) (b := 2) hx hb dL_law_257 ?_
  refine r_sld hx hb hX hbl (by omega) hw.2.2.2.1 (i + 2) (z := (i + 2)) (by omega) (by omega) (by omega) dL_law_258 ?_
  refine LX_i (As := [.int (iI ((xs (i + 1)).toInt)), .int (iI ((xs (i + 2)).toInt))]) (rest := []) S hw (mX_wordSymbol l D cB cS h σ ((xs (i + 1)).toInt) ((xs (i + 2)).toInt) hf hxr (b32 _) (b32 _)) (cwV 2 hts (lw_V q142 q143 q144 q15 q145) rfl rfl rfl (by decide +kernel) ⟨Nat.le_of_ble_eq_true rfl, Nat.le_of_ble_eq_true rfl⟩) ⟨Nat.le_of_ble_eq_true rfl, Nat.le_of_ble_eq_true rfl⟩ rfl hl.1 rfl (Nat.le_of_ble_eq_true rfl) dL_law_259 (fun z1 σ1 H locs hp1 hw => ?_)
  refine lv_aload_n hx hb dL_law_262 rfl (lv_at hl 2 rfl) ?_
  refine lv_aload_n hx hb dL_law_263 rfl (lv_at hl 0 rfl) ?_
  refine lv_iload_n hx hb dL_law_264 rfl (lv_at hl 3 rfl) ?_
  refine r_iconst hx hb dL_law_265 ?_
  refine r_iadd (a := i) (b := 1) hx hb dL_law_266 ?_
  refine r_sld hx hb hX hbl (by omega) hw.2.2.2.1 (i + 1) (z := (i + 1)) (by omega) (by omega) (by omega) dL_law_267 ?_
  refine lv_aload_n hx hb dL_law_268 rfl (lv_at hl 0 rfl) ?_
  refine lv_iload_n hx hb dL_law_269 rfl (lv_at hl 3 rfl) ?_
  refine r_iconst hx hb dL_law_270 ?_
  refine r_iadd (a := i) (b := 2) hx hb dL_law_271 ?_
  refine r_sld hx hb hX hbl (by omega) hw.2.2.2.1 (i + 2) (z := (i + 2)) (by omega) (by omega) (by omega) dL_law_272 ?_
  refine LM_i (As := [.int (iI ((xs (i + 1)).toInt)), .int (iI ((xs (i + 2)).toInt))]) (rest := [.int (iI (z1))]) S hw (mM_wordSymbol l D cI g τ ((xs (i + 1)).toInt) ((xs (i + 2)).toInt) hf hmr (b32 _) (b32 _)) (cwV 2 hts (lw_V q277 q278 q279 q16 q280) rfl rfl rfl (by decide +kernel) ⟨Nat.le_of_ble_eq_true rfl, Nat.le_of_ble_eq_true rfl⟩) ⟨Nat.le_of_ble_eq_true rfl, Nat.le_of_ble_eq_true rfl⟩ rfl hl.1 rfl (Nat.le_of_ble_eq_true rfl) dL_law_273 (fun z2 τ1 H locs hp2 hw => ?_)
  obtain ⟨e1, e2⟩ := hp1
  obtain ⟨e3, e4⟩ := hp2
  rw [e2, e4] at hw
  have hI2 := hI0
  have ez : z1 = z2 := by omega
  refine lv_icmp_eq (tgt := 405) hx hb dL_law_276 (by decide) (fun _ => ?_) (fun q9 => absurd (by rw [ez]) q9)
  exact kk σ τ _ _ hI2 hw
theorem law_9 {p : Program} {l : Launch} {e : Env} {s : State} {m : MethodId} {below : List Frame} {meth : Method} {c : Code} {b L : Nat} {xs : Nat → Int32} {D : va_G} {cB cS cI : ClassId} {h g : Nat → Nat} {σ τ : St} {H : Heap} {locs : List Loc} {ls : Array Slot} {i : Nat} {Q : State → Prop} (C : LC p s m c b L xs) (hi : i + 3 ≤ L) (hw : LW D cB cS h cI g (fun q => s.heap.size ≤ q) s σ τ H locs) (hI : LInv σ τ) (hl : lv_has ls 4 [(0, .ref b), (1, .ref (h 0)), (2, .ref (g 0)), (3, .int (iI i))])
    (kk : ∀ (σ1 τ1 : St) (H1 : Heap) (locs1 : List Loc), LInv σ1 τ1 → LW D cB cS h cI g (fun q => s.heap.size ≤ q) s σ1 τ1 H1 locs1 → W p l e room_1 s m #[Value.ref b] below meth c H1 locs1 600000 7290000 Q (F0 m 405 ls [])) : W p l e room_1 s m #[Value.ref b] below meth c H locs 600000 7290000 Q (F0 m 281 ls []) := by
  obtain ⟨S, hX, hbl, hL⟩ := C
  have hx := S.1
  have hb := S.2.1
  have hts := S.2.2.2.2
  have hI0 := hI
  obtain ⟨wc, len, sy, n, N, cd, bg, T, mm, P, hf, hxr, hmr⟩ := hI
  refine lv_aload_n hx hb dL_law_281 rfl (lv_at hl 1 rfl) ?_
  refine LX_i (As := []) (rest := []) S hw (mX_length l D cB cS h σ) (cwV 0 hts (lw_V q150 q151 q152 q15 q153) rfl rfl rfl (by decide +kernel) ⟨Nat.le_of_ble_eq_true rfl, Nat.le_of_ble_eq_true rfl⟩) ⟨Nat.le_of_ble_eq_true rfl, Nat.le_of_ble_eq_true rfl⟩ rfl hl.1 rfl (Nat.le_of_ble_eq_true rfl) dL_law_282 (fun z1 σ1 H locs hp1 hw => ?_)
  refine lv_aload_n hx hb dL_law_285 rfl (lv_at hl 2 rfl) ?_
  refine LM_i (As := []) (rest := [.int (iI (z1))]) S hw (mM_length l D cI g τ) (cwV 0 hts (lw_V q281 q282 q283 q16 q284) rfl rfl rfl (by decide +kernel) ⟨Nat.le_of_ble_eq_true rfl, Nat.le_of_ble_eq_true rfl⟩) ⟨Nat.le_of_ble_eq_true rfl, Nat.le_of_ble_eq_true rfl⟩ rfl hl.1 rfl (Nat.le_of_ble_eq_true rfl) dL_law_286 (fun z2 τ1 H locs hp2 hw => ?_)
  obtain ⟨e1, e2⟩ := hp1
  obtain ⟨e3, e4⟩ := hp2
  rw [e2, e4] at hw
  have hI2 := hI0
  have ez : z1 = z2 := by rw [e1, e3, hxr.2.1.2.1, hmr.1]
  refine lv_icmp_eq (tgt := 405) hx hb dL_law_289 (by decide) (fun _ => ?_) (fun q9 => absurd (by rw [ez]) q9)
  exact kk σ τ _ _ hI2 hw
theorem law_10 {p : Program} {l : Launch} {e : Env} {s : State} {m : MethodId} {below : List Frame} {meth : Method} {c : Code} {b L : Nat} {xs : Nat → Int32} {D : va_G} {cB cS cI : ClassId} {h g : Nat → Nat} {σ τ : St} {H : Heap} {locs : List Loc} {ls : Array Slot} {i : Nat} {Q : State → Prop} (C : LC p s m c b L xs) (hi : i + 3 ≤ L) (hw : LW D cB cS h cI g (fun q => s.heap.size ≤ q) s σ τ H locs) (hI : LInv σ τ) (hl : lv_has ls 4 [(0, .ref b), (1, .ref (h 0)), (2, .ref (g 0)), (3, .int (iI i))])
    (kk : ∀ (σ1 τ1 : St) (H1 : Heap) (locs1 : List Loc), LInv σ1 τ1 → LW D cB cS h cI g (fun q => s.heap.size ≤ q) s σ1 τ1 H1 locs1 → W p l e room_1 s m #[Value.ref b] below meth c H1 locs1 600000 7290000 Q (F0 m 405 ls [])) : W p l e room_1 s m #[Value.ref b] below meth c H locs 600000 7290000 Q (F0 m 294 ls []) := by
  obtain ⟨S, hX, hbl, hL⟩ := C
  have hx := S.1
  have hb := S.2.1
  have hts := S.2.2.2.2
  have hI0 := hI
  obtain ⟨wc, len, sy, n, N, cd, bg, T, mm, P, hf, hxr, hmr⟩ := hI
  refine lv_aload_n hx hb dL_law_294 rfl (lv_at hl 1 rfl) ?_
  refine lv_aload_n hx hb dL_law_295 rfl (lv_at hl 0 rfl) ?_
  refine lv_iload_n hx hb dL_law_296 rfl (lv_at hl 3 rfl) ?_
  refine r_iconst hx hb dL_law_297 ?_
  refine r_iadd (a := i) (b := 1) hx hb dL_law_298 ?_
  refine r_sld hx hb hX hbl (by omega) hw.2.2.2.1 (i + 1) (z := (i + 1)) (by omega) (by omega) (by omega) dL_law_299 ?_
  refine LX_i (As := [.int (iI ((xs (i + 1)).toInt))]) (rest := []) S hw (mX_symbol l D cB cS h σ ((xs (i + 1)).toInt) hf hxr (b32 _)) (cwV 1 hts (lw_V q154 q155 q156 q15 q157) rfl rfl rfl (by decide +kernel) ⟨Nat.le_of_ble_eq_true rfl, Nat.le_of_ble_eq_true rfl⟩) ⟨Nat.le_of_ble_eq_true rfl, Nat.le_of_ble_eq_true rfl⟩ rfl hl.1 rfl (Nat.le_of_ble_eq_true rfl) dL_law_300 (fun z1 σ1 H locs hp1 hw => ?_)
  refine lv_aload_n hx hb dL_law_303 rfl (lv_at hl 2 rfl) ?_
  refine lv_aload_n hx hb dL_law_304 rfl (lv_at hl 0 rfl) ?_
  refine lv_iload_n hx hb dL_law_305 rfl (lv_at hl 3 rfl) ?_
  refine r_iconst hx hb dL_law_306 ?_
  refine r_iadd (a := i) (b := 1) hx hb dL_law_307 ?_
  refine r_sld hx hb hX hbl (by omega) hw.2.2.2.1 (i + 1) (z := (i + 1)) (by omega) (by omega) (by omega) dL_law_308 ?_
  refine LM_i (As := [.int (iI ((xs (i + 1)).toInt))]) (rest := [.int (iI (z1))]) S hw (mM_symbol l D cI g τ ((xs (i + 1)).toInt) hf hmr (b32 _)) (cwV 1 hts (lw_V q285 q286 q287 q16 q288) rfl rfl rfl (by decide +kernel) ⟨Nat.le_of_ble_eq_true rfl, Nat.le_of_ble_eq_true rfl⟩) ⟨Nat.le_of_ble_eq_true rfl, Nat.le_of_ble_eq_true rfl⟩ rfl hl.1 rfl (Nat.le_of_ble_eq_true rfl) dL_law_309 (fun z2 τ1 H locs hp2 hw => ?_)
  obtain ⟨e1, e2⟩ := hp1
  obtain ⟨e3, e4⟩ := hp2
  rw [e2, e4] at hw
  have hI2 := hI0
  have ez : z1 = z2 := by omega
  refine lv_icmp_eq (tgt := 405) hx hb dL_law_312 (by decide) (fun _ => ?_) (fun q9 => absurd (by rw [ez]) q9)
  exact kk σ τ _ _ hI2 hw
theorem law_11 {p : Program} {l : Launch} {e : Env} {s : State} {m : MethodId} {below : List Frame} {meth : Method} {c : Code} {b L : Nat} {xs : Nat → Int32} {D : va_G} {cB cS cI : ClassId} {h g : Nat → Nat} {σ τ : St} {H : Heap} {locs : List Loc} {ls : Array Slot} {i : Nat} {Q : State → Prop} (C : LC p s m c b L xs) (hi : i + 3 ≤ L) (hw : LW D cB cS h cI g (fun q => s.heap.size ≤ q) s σ τ H locs) (hI : LInv σ τ) (hl : lv_has ls 4 [(0, .ref b), (1, .ref (h 0)), (2, .ref (g 0)), (3, .int (iI i))])
    (kk : ∀ (σ1 τ1 : St) (H1 : Heap) (locs1 : List Loc), LInv σ1 τ1 → LW D cB cS h cI g (fun q => s.heap.size ≤ q) s σ1 τ1 H1 locs1 → W p l e room_1 s m #[Value.ref b] below meth c H1 locs1 600000 7290000 Q (F0 m 405 ls [])) : W p l e room_1 s m #[Value.ref b] below meth c H locs 600000 7290000 Q (F0 m 317 ls []) := by
  obtain ⟨S, hX, hbl, hL⟩ := C
  have hx := S.1
  have hb := S.2.1
  have hts := S.2.2.2.2
  have hI0 := hI
  obtain ⟨wc, len, sy, n, N, cd, bg, T, mm, P, hf, hxr, hmr⟩ := hI
  refine lv_aload_n hx hb dL_law_317 rfl (lv_at hl 1 rfl) ?_
  refine LX_i (As := []) (rest := []) S hw (mX_count l D cB cS h σ  hf hxr ) (cwV 0 hts (lw_V q158 q159 q160 q15 q161) rfl rfl rfl (by decide +kernel) ⟨Nat.le_of_ble_eq_true rfl, Nat.le_of_ble_eq_true rfl⟩) ⟨Nat.le_of_ble_eq_true rfl, Nat.le_of_ble_eq_true rfl⟩ rfl hl.1 rfl (Nat.le_of_ble_eq_true rfl) dL_law_318 (fun z1 σ1 H locs hp1 hw => ?_)
  refine lv_aload_n hx hb dL_law_321 rfl (lv_at hl 2 rfl) ?_
  refine LM_i (As := []) (rest := [.int (iI (z1))]) S hw (mM_count l D cI g τ  hf hmr ) (cwV 0 hts (lw_V q289 q290 q291 q16 q292) rfl rfl rfl (by decide +kernel) ⟨Nat.le_of_ble_eq_true rfl, Nat.le_of_ble_eq_true rfl⟩) ⟨Nat.le_of_ble_eq_true rfl, Nat.le_of_ble_eq_true rfl⟩ rfl hl.1 rfl (Nat.le_of_ble_eq_true rfl) dL_law_322 (fun z2 τ1 H locs hp2 hw => ?_)
  obtain ⟨e1, e2⟩ := hp1
  obtain ⟨e3, e4⟩ := hp2
  rw [e4] at hw
  have hI2 : LInv σ1 τ := ⟨_, _, _, _, _, _, _, _, _, _, hf, e2, hmr⟩
  have ez : z1 = z2 := by rw [e1, e3]
  refine lv_icmp_eq (tgt := 405) hx hb dL_law_325 (by decide) (fun _ => ?_) (fun q9 => absurd (by rw [ez]) q9)
  exact kk σ1 τ _ _ hI2 hw
theorem law_12 {p : Program} {l : Launch} {e : Env} {s : State} {m : MethodId} {below : List Frame} {meth : Method} {c : Code} {b L : Nat} {xs : Nat → Int32} {D : va_G} {cB cS cI : ClassId} {h g : Nat → Nat} {σ τ : St} {H : Heap} {locs : List Loc} {ls : Array Slot} {i : Nat} {Q : State → Prop} (C : LC p s m c b L xs) (hi : i + 3 ≤ L) (hw : LW D cB cS h cI g (fun q => s.heap.size ≤ q) s σ τ H locs) (hI : LInv σ τ) (hl : lv_has ls 4 [(0, .ref b), (1, .ref (h 0)), (2, .ref (g 0)), (3, .int (iI i))])
    (kk : ∀ (σ1 τ1 : St) (H1 : Heap) (locs1 : List Loc), LInv σ1 τ1 → LW D cB cS h cI g (fun q => s.heap.size ≤ q) s σ1 τ1 H1 locs1 → W p l e room_1 s m #[Value.ref b] below meth c H1 locs1 600000 7290000 Q (F0 m 405 ls [])) : W p l e room_1 s m #[Value.ref b] below meth c H locs 600000 7290000 Q (F0 m 330 ls []) := by
  obtain ⟨S, hX, hbl, hL⟩ := C
  have hx := S.1
  have hb := S.2.1
  have hts := S.2.2.2.2
  have hI0 := hI
  obtain ⟨wc, len, sy, n, N, cd, bg, T, mm, P, hf, hxr, hmr⟩ := hI
  refine lv_aload_n hx hb dL_law_330 rfl (lv_at hl 1 rfl) ?_
  refine LX_i (As := []) (rest := []) S hw (mX_first l D cB cS h σ  hf hxr ) (cwV 0 hts (lw_V q182 q183 q184 q15 q185) rfl rfl rfl (by decide +kernel) ⟨Nat.le_of_ble_eq_true rfl, Nat.le_of_ble_eq_true rfl⟩) ⟨Nat.le_of_ble_eq_true rfl, Nat.le_of_ble_eq_true rfl⟩ rfl hl.1 rfl (Nat.le_of_ble_eq_true rfl) dL_law_331 (fun z1 σ1 H locs hp1 hw => ?_)
  refine lv_aload_n hx hb dL_law_334 rfl (lv_at hl 2 rfl) ?_
  refine LM_i (As := []) (rest := [.int (iI (z1))]) S hw (mM_first l D cI g τ  hf hmr ) (cwV 0 hts (lw_V q301 q302 q303 q16 q304) rfl rfl rfl (by decide +kernel) ⟨Nat.le_of_ble_eq_true rfl, Nat.le_of_ble_eq_true rfl⟩) ⟨Nat.le_of_ble_eq_true rfl, Nat.le_of_ble_eq_true rfl⟩ rfl hl.1 rfl (Nat.le_of_ble_eq_true rfl) dL_law_335 (fun z2 τ1 H locs hp2 hw => ?_)
  obtain ⟨e1, e2⟩ := hp1
  obtain ⟨e3, e4⟩ := hp2
  rw [e4] at hw
  have hI2 : LInv σ1 τ := ⟨_, _, _, _, _, _, _, _, _, _, hf, e2, hmr⟩
  have ez : z1 = z2 := by rw [e1, e3]
  refine lv_icmp_eq (tgt := 405) hx hb dL_law_338 (by decide) (fun _ => ?_) (fun q9 => absurd (by rw [ez]) q9)
  exact kk σ1 τ _ _ hI2 hw
theorem law_13 {p : Program} {l : Launch} {e : Env} {s : State} {m : MethodId} {below : List Frame} {meth : Method} {c : Code} {b L : Nat} {xs : Nat → Int32} {D : va_G} {cB cS cI : ClassId} {h g : Nat → Nat} {σ τ : St} {H : Heap} {locs : List Loc} {ls : Array Slot} {i : Nat} {Q : State → Prop} (C : LC p s m c b L xs) (hi : i + 3 ≤ L) (hw : LW D cB cS h cI g (fun q => s.heap.size ≤ q) s σ τ H locs) (hI : LInv σ τ) (hl : lv_has ls 4 [(0, .ref b), (1, .ref (h 0)), (2, .ref (g 0)), (3, .int (iI i))])
    (kk : ∀ (σ1 τ1 : St) (H1 : Heap) (locs1 : List Loc), LInv σ1 τ1 → LW D cB cS h cI g (fun q => s.heap.size ≤ q) s σ1 τ1 H1 locs1 → W p l e room_1 s m #[Value.ref b] below meth c H1 locs1 600000 7290000 Q (F0 m 405 ls [])) : W p l e room_1 s m #[Value.ref b] below meth c H locs 600000 7290000 Q (F0 m 343 ls []) := by
  obtain ⟨S, hX, hbl, hL⟩ := C
  have hx := S.1
  have hb := S.2.1
  have hts := S.2.2.2.2
  have hI0 := hI
  obtain ⟨wc, len, sy, n, N, cd, bg, T, mm, P, hf, hxr, hmr⟩ := hI
  refine lv_aload_n hx hb dL_law_343 rfl (lv_at hl 1 rfl) ?_
  refine LX_i (As := []) (rest := []) S hw (mX_last l D cB cS h σ  hf hxr ) (cwV 0 hts (lw_V q186 q187 q188 q15 q189) rfl rfl rfl (by decide +kernel) ⟨Nat.le_of_ble_eq_true rfl, Nat.le_of_ble_eq_true rfl⟩) ⟨Nat.le_of_ble_eq_true rfl, Nat.le_of_ble_eq_true rfl⟩ rfl hl.1 rfl (Nat.le_of_ble_eq_true rfl) dL_law_344 (fun z1 σ1 H locs hp1 hw => ?_)
  refine lv_aload_n hx hb dL_law_347 rfl (lv_at hl 2 rfl) ?_
  refine LM_i (As := []) (rest := [.int (iI (z1))]) S hw (mM_last l D cI g τ  hf hmr ) (cwV 0 hts (lw_V q305 q306 q307 q16 q308) rfl rfl rfl (by decide +kernel) ⟨Nat.le_of_ble_eq_true rfl, Nat.le_of_ble_eq_true rfl⟩) ⟨Nat.le_of_ble_eq_true rfl, Nat.le_of_ble_eq_true rfl⟩ rfl hl.1 rfl (Nat.le_of_ble_eq_true rfl) dL_law_348 (fun z2 τ1 H locs hp2 hw => ?_)
  obtain ⟨e1, e2⟩ := hp1
  obtain ⟨e3, e4⟩ := hp2
  rw [e4] at hw
  have hI2 : LInv σ1 τ := ⟨_, _, _, _, _, _, _, _, _, _, hf, e2, hmr⟩
  have ez : z1 = z2 := by rw [e1, e3]
  refine lv_icmp_eq (tgt := 405) hx hb dL_law_351 (by decide) (fun _ => ?_) (fun q9 => absurd (by rw [ez]) q9)
  exact kk σ1 τ _ _ hI2 hw
theorem law_14 {p : Program} {l : Launch} {e : Env} {s : State} {m : MethodId} {below : List Frame} {meth : Method} {c : Code} {b L : Nat} {xs : Nat → Int32} {D : va_G} {cB cS cI : ClassId} {h g : Nat → Nat} {σ τ : St} {H : Heap} {locs : List Loc} {ls : Array Slot} {i : Nat} {Q : State → Prop} (C : LC p s m c b L xs) (hi : i + 3 ≤ L) (hw : LW D cB cS h cI g (fun q => s.heap.size ≤ q) s σ τ H locs) (hI : LInv σ τ) (hl : lv_has ls 4 [(0, .ref b), (1, .ref (h 0)), (2, .ref (g 0)), (3, .int (iI i))])
    (kk : ∀ (σ1 τ1 : St) (H1 : Heap) (locs1 : List Loc), LInv σ1 τ1 → LW D cB cS h cI g (fun q => s.heap.size ≤ q) s σ1 τ1 H1 locs1 → W p l e room_1 s m #[Value.ref b] below meth c H1 locs1 600000 7290000 Q (F0 m 405 ls [])) : W p l e room_1 s m #[Value.ref b] below meth c H locs 600000 7290000 Q (F0 m 356 ls []) := by
  obtain ⟨S, hX, hbl, hL⟩ := C
  have hx := S.1
  have hb := S.2.1
  have hts := S.2.2.2.2
  have hI0 := hI
  obtain ⟨wc, len, sy, n, N, cd, bg, T, mm, P, hf, hxr, hmr⟩ := hI
  refine lv_aload_n hx hb dL_law_356 rfl (lv_at hl 1 rfl) ?_
  refine LX_i (As := []) (rest := []) S hw (mX_tail l D cB cS h σ  hf hxr ) (cwV 0 hts (lw_V q190 q191 q192 q15 q193) rfl rfl rfl (by decide +kernel) ⟨Nat.le_of_ble_eq_true rfl, Nat.le_of_ble_eq_true rfl⟩) ⟨Nat.le_of_ble_eq_true rfl, Nat.le_of_ble_eq_true rfl⟩ rfl hl.1 rfl (Nat.le_of_ble_eq_true rfl) dL_law_357 (fun z1 σ1 H locs hp1 hw => ?_)
  refine lv_aload_n hx hb dL_law_360 rfl (lv_at hl 2 rfl) ?_
  refine LM_i (As := []) (rest := [.int (iI (z1))]) S hw (mM_tail l D cI g τ  hf hmr ) (cwV 0 hts (lw_V q309 q310 q311 q16 q312) rfl rfl rfl (by decide +kernel) ⟨Nat.le_of_ble_eq_true rfl, Nat.le_of_ble_eq_true rfl⟩) ⟨Nat.le_of_ble_eq_true rfl, Nat.le_of_ble_eq_true rfl⟩ rfl hl.1 rfl (Nat.le_of_ble_eq_true rfl) dL_law_361 (fun z2 τ1 H locs hp2 hw => ?_)
  obtain ⟨e1, e2⟩ := hp1
  obtain ⟨e3, e4⟩ := hp2
  rw [e4] at hw
  have hI2 : LInv σ1 τ := ⟨_, _, _, _, _, _, _, _, _, _, hf, e2, hmr⟩
  have ez : z1 = z2 := by rw [e1, e3]
  refine lv_icmp_eq (tgt := 405) hx hb dL_law_364 (by decide) (fun _ => ?_) (fun q9 => absurd (by rw [ez]) q9)
  exact kk σ1 τ _ _ hI2 hw
theorem law_15 {p : Program} {l : Launch} {e : Env} {s : State} {m : MethodId} {below : List Frame} {meth : Method} {c : Code} {b L : Nat} {xs : Nat → Int32} {D : va_G} {cB cS cI : ClassId} {h g : Nat → Nat} {σ τ : St} {H : Heap} {locs : List Loc} {ls : Array Slot} {i : Nat} {Q : State → Prop} (C : LC p s m c b L xs) (hi : i + 3 ≤ L) (hw : LW D cB cS h cI g (fun q => s.heap.size ≤ q) s σ τ H locs) (hI : LInv σ τ) (hl : lv_has ls 4 [(0, .ref b), (1, .ref (h 0)), (2, .ref (g 0)), (3, .int (iI i))])
    (kk : ∀ (σ1 τ1 : St) (H1 : Heap) (locs1 : List Loc), LInv σ1 τ1 → LW D cB cS h cI g (fun q => s.heap.size ≤ q) s σ1 τ1 H1 locs1 → W p l e room_1 s m #[Value.ref b] below meth c H1 locs1 600000 7290000 Q (F0 m 405 ls [])) : W p l e room_1 s m #[Value.ref b] below meth c H locs 600000 7290000 Q (F0 m 369 ls []) := by
  obtain ⟨S, hX, hbl, hL⟩ := C
  have hx := S.1
  have hb := S.2.1
  have hts := S.2.2.2.2
  have hI0 := hI
  obtain ⟨wc, len, sy, n, N, cd, bg, T, mm, P, hf, hxr, hmr⟩ := hI
  refine lv_aload_n hx hb dL_law_369 rfl (lv_at hl 1 rfl) ?_
  refine LX_i (As := []) (rest := []) S hw (mX_within l D cB cS h σ  hf hxr ) (cwV 0 hts (lw_V q194 q195 q196 q15 q197) rfl rfl rfl (by decide +kernel) ⟨Nat.le_of_ble_eq_true rfl, Nat.le_of_ble_eq_true rfl⟩) ⟨Nat.le_of_ble_eq_true rfl, Nat.le_of_ble_eq_true rfl⟩ rfl hl.1 rfl (Nat.le_of_ble_eq_true rfl) dL_law_370 (fun z1 σ1 H locs hp1 hw => ?_)
  refine lv_aload_n hx hb dL_law_373 rfl (lv_at hl 2 rfl) ?_
  refine LM_i (As := []) (rest := [.int (iI (z1))]) S hw (mM_within l D cI g τ  hf hmr ) (cwV 0 hts (lw_V q313 q314 q315 q16 q316) rfl rfl rfl (by decide +kernel) ⟨Nat.le_of_ble_eq_true rfl, Nat.le_of_ble_eq_true rfl⟩) ⟨Nat.le_of_ble_eq_true rfl, Nat.le_of_ble_eq_true rfl⟩ rfl hl.1 rfl (Nat.le_of_ble_eq_true rfl) dL_law_374 (fun z2 τ1 H locs hp2 hw => ?_)
  obtain ⟨e1, e2⟩ := hp1
  obtain ⟨e3, e4⟩ := hp2
  rw [e4] at hw
  have hI2 : LInv σ1 τ := ⟨_, _, _, _, _, _, _, _, _, _, hf, e2, hmr⟩
  have ez : z1 = z2 := by rw [e1, e3]
  refine lv_icmp_eq (tgt := 405) hx hb dL_law_377 (by decide) (fun _ => ?_) (fun q9 => absurd (by rw [ez]) q9)
  exact kk σ1 τ _ _ hI2 hw
theorem law_16 {p : Program} {l : Launch} {e : Env} {s : State} {m : MethodId} {below : List Frame} {meth : Method} {c : Code} {b L : Nat} {xs : Nat → Int32} {D : va_G} {cB cS cI : ClassId} {h g : Nat → Nat} {σ τ : St} {H : Heap} {locs : List Loc} {ls : Array Slot} {i : Nat} {Q : State → Prop} (C : LC p s m c b L xs) (hi : i + 3 ≤ L) (hw : LW D cB cS h cI g (fun q => s.heap.size ≤ q) s σ τ H locs) (hI : LInv σ τ) (hl : lv_has ls 4 [(0, .ref b), (1, .ref (h 0)), (2, .ref (g 0)), (3, .int (iI i))])
    (kk : ∀ (σ1 τ1 : St) (H1 : Heap) (locs1 : List Loc), LInv σ1 τ1 → LW D cB cS h cI g (fun q => s.heap.size ≤ q) s σ1 τ1 H1 locs1 → W p l e room_1 s m #[Value.ref b] below meth c H1 locs1 600000 7290000 Q (F0 m 405 ls [])) : W p l e room_1 s m #[Value.ref b] below meth c H locs 600000 7290000 Q (F0 m 382 ls []) := by
  obtain ⟨S, hX, hbl, hL⟩ := C
  have hx := S.1
  have hb := S.2.1
  have hts := S.2.2.2.2
  have hI0 := hI
  obtain ⟨wc, len, sy, n, N, cd, bg, T, mm, P, hf, hxr, hmr⟩ := hI
  refine lv_aload_n hx hb dL_law_382 rfl (lv_at hl 1 rfl) ?_
  refine lv_aload_n hx hb dL_law_383 rfl (lv_at hl 0 rfl) ?_
  refine lv_iload_n hx hb dL_law_384 rfl (lv_at hl 3 rfl) ?_
  refine r_iconst hx hb dL_law_385 ?_
  refine r_iadd (a := i) (b := 1) hx hb dL_law_386 ?_
  refine r_sld hx hb hX hbl (by omega) hw.2.2.2.1 (i + 1) (z := (i + 1)) (by omega) (by omega) (by omega) dL_law_387 ?_
  refine LX_i (As := [.int (iI ((xs (i + 1)).toInt))]) (rest := []) S hw (mX_endingIn l D cB cS h σ ((xs (i + 1)).toInt) hf hxr (b32 _)) (cwV 1 hts (lw_V q198 q199 q200 q15 q201) rfl rfl rfl (by decide +kernel) ⟨Nat.le_of_ble_eq_true rfl, Nat.le_of_ble_eq_true rfl⟩) ⟨Nat.le_of_ble_eq_true rfl, Nat.le_of_ble_eq_true rfl⟩ rfl hl.1 rfl (Nat.le_of_ble_eq_true rfl) dL_law_388 (fun z1 σ1 H locs hp1 hw => ?_)
  refine lv_aload_n hx hb dL_law_391 rfl (lv_at hl 2 rfl) ?_
  refine lv_aload_n hx hb dL_law_392 rfl (lv_at hl 0 rfl) ?_
  refine lv_iload_n hx hb dL_law_393 rfl (lv_at hl 3 rfl) ?_
  refine r_iconst hx hb dL_law_394 ?_
  refine r_iadd (a := i) (b := 1) hx hb dL_law_395 ?_
  refine r_sld hx hb hX hbl (by omega) hw.2.2.2.1 (i + 1) (z := (i + 1)) (by omega) (by omega) (by omega) dL_law_396 ?_
  refine LM_i (As := [.int (iI ((xs (i + 1)).toInt))]) (rest := [.int (iI (z1))]) S hw (mM_endingIn l D cI g τ ((xs (i + 1)).toInt) hf hmr (b32 _)) (cwV 1 hts (lw_V q317 q318 q319 q16 q320) rfl rfl rfl (by decide +kernel) ⟨Nat.le_of_ble_eq_true rfl, Nat.le_of_ble_eq_true rfl⟩) ⟨Nat.le_of_ble_eq_true rfl, Nat.le_of_ble_eq_true rfl⟩ rfl hl.1 rfl (Nat.le_of_ble_eq_true rfl) dL_law_397 (fun z2 τ1 H locs hp2 hw => ?_)
  obtain ⟨e1, e2⟩ := hp1
  obtain ⟨e3, e4⟩ := hp2
  rw [e4] at hw
  have hI2 : LInv σ1 τ := ⟨_, _, _, _, _, _, _, _, _, _, hf, e2, hmr⟩
  have ez : z1 = z2 := by omega
  refine lv_icmp_eq (tgt := 405) hx hb dL_law_400 (by decide) (fun _ => ?_) (fun q9 => absurd (by rw [ez]) q9)
  exact kk σ1 τ _ _ hI2 hw
end
section
/-! the law's loop and its start (printed by gen/whole.py; the rows behind whole_start are the skeleton's) -/
set_option maxRecDepth 100000
theorem law_loop {p : Program} {l : Launch} {e : Env} {s : State} {m : MethodId} {below : List Frame} {meth : Method} {c : Code} {b L : Nat} {xs : Nat → Int32} {D : va_G} {cB cS cI : ClassId} {h g : Nat → Nat} (C : LC p s m c b L xs) (hr : meth.sig.returnType = ret) (hlk : meth.locks = false) :
    ∀ (f i : Nat) (σ τ : St) (H : Heap) (locs : List Loc) (ls : Array Slot), L < i + f → i ≤ L → LInv σ τ → LW D cB cS h cI g (fun q => s.heap.size ≤ q) s σ τ H locs → lv_has ls 4 [(0, .ref b), (1, .ref (h 0)), (2, .ref (g 0)), (3, .int (iI i))] → W p l e room_1 s m #[Value.ref b] below meth c H locs 600000 7290000 (lw_Z below #[Value.ref b] s) (F0 m 18 ls []) := by
  intro f
  induction f with
  | zero =>
    intro i σ τ H locs ls q0 q1
    exact absurd q0 (by omega)
  | succ f ih =>
    intro i σ τ H locs ls q0 q1 hI hw hl
    have C0 := C
    obtain ⟨S, hX, hbl, hL⟩ := C
    have hx := S.1
    have hb := S.2.1
    refine lv_iload_n hx hb dL_law_18 rfl (lv_at hl 3 rfl) ?_
    refine lv_aload_n hx hb dL_law_19 rfl (lv_at hl 0 rfl) ?_
    refine r_slen hx hb hX hbl (by omega) hw.2.2.2.1 dL_law_20 ?_
    refine r_iconst hx hb dL_law_21 ?_
    refine r_isub (a := L) (b := 3) hx hb dL_law_22 ?_
    refine r_icmp_gt (a := i) (b := ((L : Int) - 3)) (tgt := 411) hx hb dL_law_23 (by decide) (by omega) (by omega) (fun c_23 => ?_) (fun c_23 => ?_)
    · refine lv_iconst (v := 1) hx hb dL_law_411 (by decide) ?_
      refine va_forget (fun q hq => hw.2.2.2.1.2.2 q hq) ?_
      exact lw_ret hx hb hr hlk dL_law_412
    · have hi : i + 3 ≤ L := by omega
      have kk : ∀ (σ1 τ1 : St) (H1 : Heap) (locs1 : List Loc), LInv σ1 τ1 → LW D cB cS h cI g (fun q => s.heap.size ≤ q) s σ1 τ1 H1 locs1 → W p l e room_1 s m #[Value.ref b] below meth c H1 locs1 600000 7290000 (lw_Z below #[Value.ref b] s) (F0 m 405 ls []) := by
        intro σ1 τ1 H1 locs1 hI1 hw1
        refine r_iinc (a := i) (lv' := [(3, .int (iI ((i : Int) + 3))), (0, .ref b), (1, .ref (h 0)), (2, .ref (g 0))]) (k := 3) hx hb dL_law_405 hl rfl (by decide) rfl (fun ls hl => ?_)
        refine lv_goto (tgt := 18) hx hb dL_law_408 (by decide) ?_
        exact ih (i + 3) σ1 τ1 _ _ _ (by omega) hi hI1 hw1 (by rw [show ((i + 3 : Nat) : Int) = (i : Int) + 3 from by omega]; exact lv_sub hl [1, 2, 3, 0] rfl)
      refine lv_aload_n hx hb dL_law_26 rfl (lv_at hl 0 rfl) ?_
      refine lv_iload_n hx hb dL_law_27 rfl (lv_at hl 3 rfl) ?_
      refine r_sld hx hb hX hbl (by omega) hw.2.2.2.1 i (z := i) rfl (by omega) (by omega) dL_law_28 ?_
      refine r_bipush hx hb dL_law_29 (by decide) ?_
      refine lv_iand hx hb dL_law_31 ?_
      obtain ⟨j, hj, ej⟩ := pk_andE (iI (xs i).toInt) (m := iI 31) 5 (by decide)
      rw [ej]
      have hj : j < 32 := hj
      rcases (show j = 0 ∨ j = 1 ∨ j = 2 ∨ j = 3 ∨ j = 4 ∨ j = 5 ∨ j = 6 ∨ j = 7 ∨ j = 8 ∨ j = 9 ∨ j = 10 ∨ j = 11 ∨ j = 12 ∨ j = 13 ∨ j = 14 ∨ j = 15 ∨ j = 16 ∨ 17 ≤ j by omega) with rfl | rfl | rfl | rfl | rfl | rfl | rfl | rfl | rfl | rfl | rfl | rfl | rfl | rfl | rfl | rfl | rfl | hj2
      · refine lv_tableIn (off := 84) (tgt := 116) hx hb dL_law_32 (by decide) (by decide) rfl (by decide) ?_
        exact law_0 C0 hi hw hI hl kk
      · refine lv_tableIn (off := 107) (tgt := 139) hx hb dL_law_32 (by decide) (by decide) rfl (by decide) ?_
        exact law_1 C0 hi hw hI hl kk
      · refine lv_tableIn (off := 118) (tgt := 150) hx hb dL_law_32 (by decide) (by decide) rfl (by decide) ?_
        exact law_2 C0 hi hw hI hl kk
      · refine lv_tableIn (off := 141) (tgt := 173) hx hb dL_law_32 (by decide) (by decide) rfl (by decide) ?_
        exact law_3 C0 hi hw hI hl kk
      · refine lv_tableIn (off := 154) (tgt := 186) hx hb dL_law_32 (by decide) (by decide) rfl (by decide) ?_
        exact law_4 C0 hi hw hI hl kk
      · refine lv_tableIn (off := 167) (tgt := 199) hx hb dL_law_32 (by decide) (by decide) rfl (by decide) ?_
        exact law_5 C0 hi hw hI hl kk
      · refine lv_tableIn (off := 180) (tgt := 212) hx hb dL_law_32 (by decide) (by decide) rfl (by decide) ?_
        exact law_6 C0 hi hw hI hl kk
      · refine lv_tableIn (off := 193) (tgt := 225) hx hb dL_law_32 (by decide) (by decide) rfl (by decide) ?_
        exact law_7 C0 hi hw hI hl kk
      · refine lv_tableIn (off := 216) (tgt := 248) hx hb dL_law_32 (by decide) (by decide) rfl (by decide) ?_
        exact law_8 C0 hi hw hI hl kk
      · refine lv_tableIn (off := 249) (tgt := 281) hx hb dL_law_32 (by decide) (by decide) rfl (by decide) ?_
        exact law_9 C0 hi hw hI hl kk
      · refine lv_tableIn (off := 262) (tgt := 294) hx hb dL_law_32 (by decide) (by decide) rfl (by decide) ?_
        exact law_10 C0 hi hw hI hl kk
      · refine lv_tableIn (off := 285) (tgt := 317) hx hb dL_law_32 (by decide) (by decide) rfl (by decide) ?_
        exact law_11 C0 hi hw hI hl kk
      · refine lv_tableIn (off := 298) (tgt := 330) hx hb dL_law_32 (by decide) (by decide) rfl (by decide) ?_
        exact law_12 C0 hi hw hI hl kk
      · refine lv_tableIn (off := 311) (tgt := 343) hx hb dL_law_32 (by decide) (by decide) rfl (by decide) ?_
        exact law_13 C0 hi hw hI hl kk
      · refine lv_tableIn (off := 324) (tgt := 356) hx hb dL_law_32 (by decide) (by decide) rfl (by decide) ?_
        exact law_14 C0 hi hw hI hl kk
      · refine lv_tableIn (off := 337) (tgt := 369) hx hb dL_law_32 (by decide) (by decide) rfl (by decide) ?_
        exact law_15 C0 hi hw hI hl kk
      · refine lv_tableIn (off := 350) (tgt := 382) hx hb dL_law_32 (by decide) (by decide) rfl (by decide) ?_
        exact law_16 C0 hi hw hI hl kk
      · refine lv_tableOut (tgt := 405) hx hb dL_law_32 (Or.inr (by rw [nI_toInt (by omega)]; omega)) (by decide) ?_
        exact kk σ τ _ _ hI hw
set_option maxHeartbeats 4000000 in
/-- from the entry, for every script of at most 192 ints, the law comes to its end with true -/
theorem whole_start {p : Program} {e : Env} {s : State} {m : MethodId} {below : List Frame} {meth : Method} {c : Code} (l : Launch) {b L : Nat} {xs : Nat → Int32} (hL : L ≤ 192) (C0 : lw_At p s m meth c b L xs) : W p l e room_1 s m #[Value.ref b] below meth c s.heap [] 0 0 (lw_Z below #[Value.ref b] s) (entryFrame m ([Value.ref b] : List Value).toArray 4) := by
  obtain ⟨hx, hb, hr, hml, hown, hts0, hX, hbl, hlk, hgv⟩ := C0
  have hts : ∀ w ∈ lw_all, w.before #[Value.ref b] s = true := fun w h => hts0 w (lw_all_tbl h)
  obtain ⟨c0_, iS0, hKn0⟩ := u_known (C := RX0) (T := TX0) (N := 22) (n := 22) hts in_X0 (hts _ q18)
  obtain ⟨c1_, iS1, hKn1⟩ := u_known (C := RX1) (T := TX1) (N := 9) (n := 9) hts in_X1 (hts _ q203)
  have hKe : ∃ D : va_G, va_K D vwCl [] s := by
    refine ⟨(fun k => if k = 0 then c0_ else c1_, fun k => if k = 0 then iS0 else iS1), fun k q hq => ?_, fun k q hk => by simp at hk⟩
    match k, hq with
    | 0, hq => cases hq; exact hKn0
    | 1, hq => cases hq; exact hKn1
    | k + 2, hq => simp [vwCl] at hq
  obtain ⟨D, hK⟩ := hKe
  have hP : va_P D vwCl [] s.heap := fun k q hk => by simp at hk
  have hD : va_D (fun q => s.heap.size ≤ q) [] := ⟨fun i j p q h => by simp at h, fun k q h => by simp at h⟩
  have hS : va_S (fun q => s.heap.size ≤ q) s.heap s.heap [] := va_S.rf
  have hA : ∀ q : Nat, s.heap.size ≤ q → (fun q => s.heap.size ≤ q) q := fun q h => h
  have hl := lv_entry ([.ref b]) (n := 4) (Nat.le_of_ble_eq_true rfl)
  rw [lg_entry_eq]
  generalize (lg_sl ([.ref b]) ++ List.replicate (4 - (lg_sl ([.ref b])).length) Slot.unset).toArray = ls at hl ⊢
  have hl : lv_has ls 4 [(0, .ref b)] := hl
  refine va_new (ci := 0) (fs := fsX) (C := RX0) (T := TX0) (N := 22) hx hb hts in_X0 tyX0 tyX0_ok hown (hts _ q17) (hts _ q18) (hts _ q15) hK hP hD hS hA rfl (fun j hj => by rcases (show j = 0 ∨ j = 1 ∨ j = 2 ∨ j = 3 ∨ j = 4 ∨ j = 5 ∨ j = 6 ∨ j = 7 ∨ j = 8 ∨ j = 9 ∨ j = 10 ∨ j = 11 ∨ j = 12 ∨ j = 13 ∨ j = 14 ∨ j = 15 ∨ j = 16 ∨ j = 17 ∨ j = 18 ∨ j = 19 ∨ j = 20 ∨ j = 21 by omega) with rfl | rfl | rfl | rfl | rfl | rfl | rfl | rfl | rfl | rfl | rfl | rfl | rfl | rfl | rfl | rfl | rfl | rfl | rfl | rfl | rfl | rfl <;> rfl) (Nat.le_of_ble_eq_true rfl) (Nat.le_of_ble_eq_true rfl) dL_law_0 (fun a0 H hP hD hS => ?_)
  have hP : va_P D vwCl ([(a0, .inr (0, fsX))]) H := hP
  have hD : va_D (fun q => s.heap.size ≤ q) ([(a0, .inr (0, fsX))]) := hD
  refine lv_dup hx hb dL_law_3 rfl ?_
  have hPc := hP.sub (ws' := [(a0, .inr (0, fsX))]) [0] rfl
  have hDc := hD.sub (ws' := [(a0, .inr (0, fsX))]) [0] (by decide) rfl
  have hKc := hK.sub (tys' := []) [] rfl
  have hFc := va_free (wc := [(a0, .inr (0, fsX))]) hD hS hA [0] rfl
  have hFg : ∀ q, GA [a0] H.size q → (fun q => s.heap.size ≤ q) q := by rw [← GA_eq (ws := [(a0, .inr (0, fsX))]) (ad := [a0]) rfl]; exact hFc
  refine va_callv (va_runI (As := []) (rest := [.ref a0]) ⟨hx, hb, hml, hown, hts⟩ (mX_init l D a0 H.size) (cwI 0 hts (lw_meth q21) rfl rfl rfl (hts _ q15) (hts _ q19) (hts _ q20) rfl (by decide +kernel) ⟨Nat.le_of_ble_eq_true rfl, Nat.le_of_ble_eq_true rfl⟩) ⟨fun a U g mk q => by obtain ⟨q0, q1, qP, qK, qD⟩ := q; exact ⟨q0, q1, qP, va_K.moved (u := U) (U := U.calling g mk a) (Vm.Alike.refl U.vm) qK, qD⟩, fun U hU hW => ⟨rfl, by rw [hU], by rw [hU]; exact hPc, va_K.moved hW.alike hKc, hDc.weaken (fun _ _ _ _ => trivial)⟩⟩ rfl rfl hl.1 rfl (lv_room (Nat.le_of_ble_eq_true rfl)) dL_law_4 ⟨Nat.le_of_ble_eq_true rfl, Nat.le_of_ble_eq_true rfl⟩) hS (fun q _ h => hFg q h) hFg (fun u t H1 locs ht hvm hw1 hB hz1 hk1 hS => ?_)
  obtain ⟨h, cB, cS, σ⟩ := u
  obtain ⟨e0, hxr⟩ := hw1
  have e0 : h 0 = a0 := e0
  subst e0
  obtain ⟨hP1, hK1, hD1⟩ := hB
  rw [ht] at hP1
  have hK1 := va_K.moved hvm.symm hK1
  obtain ⟨hP, hD⟩ := va_join (wr := []) (w1 := wX h cB cS σ) hP hD [0] [] rfl rfl rfl (fun _ h9 => by cases h9) (by rw [GA_eq (ad := [h 0]) rfl]; exact hk1) hFc hP1 (by rw [GA_eq (ad := [h 0]) rfl]; exact hD1)
  have hP : va_P D vwCl (wX h cB cS σ) H1 := hP
  have hD : va_D (fun q => s.heap.size ≤ q) (wX h cB cS σ) := hD
  have hK : va_K D vwCl [(cB, .byte), (cS, .short)] s := hK1
  refine lv_astore_n (lv' := [(1, .ref (h 0)), (0, .ref b)]) hx hb dL_law_7 rfl hl (by decide) rfl (fun ls hl => ?_)
  refine va_new (ci := 1) (fs := fsM) (C := RX1) (T := TX1) (N := 9) hx hb hts in_X1 tyX1 tyX1_ok hown (hts _ q202) (hts _ q203) (hts _ q16) hK hP hD hS hA rfl (fun j hj => by rcases (show j = 0 ∨ j = 1 ∨ j = 2 ∨ j = 3 ∨ j = 4 ∨ j = 5 ∨ j = 6 ∨ j = 7 ∨ j = 8 by omega) with rfl | rfl | rfl | rfl | rfl | rfl | rfl | rfl | rfl <;> rfl) (Nat.le_of_ble_eq_true rfl) (Nat.le_of_ble_eq_true rfl) dL_law_8 (fun a1 H hP hD hS => ?_)
  have hP : va_P D vwCl (wX h cB cS σ ++ [(a1, .inr (1, fsM))]) H := hP
  have hD : va_D (fun q => s.heap.size ≤ q) (wX h cB cS σ ++ [(a1, .inr (1, fsM))]) := hD
  refine lv_dup hx hb dL_law_11 rfl ?_
  have hPc := hP.sub (ws' := [(a1, .inr (1, fsM))]) [12] rfl
  have hDc := hD.sub (ws' := [(a1, .inr (1, fsM))]) [12] (by decide) rfl
  have hKc := hK.sub (tys' := []) [] rfl
  have hFc := va_free (wc := [(a1, .inr (1, fsM))]) hD hS hA [12] rfl
  have hFg : ∀ q, GA [a1] H.size q → (fun q => s.heap.size ≤ q) q := by rw [← GA_eq (ws := [(a1, .inr (1, fsM))]) (ad := [a1]) rfl]; exact hFc
  refine va_callv (va_runI (As := []) (rest := [.ref a1]) ⟨hx, hb, hml, hown, hts⟩ (mM_init l D a1 H.size) (cwI 0 hts (lw_meth q206) rfl rfl rfl (hts _ q16) (hts _ q204) (hts _ q205) rfl (by decide +kernel) ⟨Nat.le_of_ble_eq_true rfl, Nat.le_of_ble_eq_true rfl⟩) ⟨fun a U g mk q => by obtain ⟨q0, q1, qP, qK, qD⟩ := q; exact ⟨q0, q1, qP, va_K.moved (u := U) (U := U.calling g mk a) (Vm.Alike.refl U.vm) qK, qD⟩, fun U hU hW => ⟨rfl, by rw [hU], by rw [hU]; exact hPc, va_K.moved hW.alike hKc, hDc.weaken (fun _ _ _ _ => trivial)⟩⟩ rfl rfl hl.1 rfl (lv_room (Nat.le_of_ble_eq_true rfl)) dL_law_12 ⟨Nat.le_of_ble_eq_true rfl, Nat.le_of_ble_eq_true rfl⟩) hS (fun q _ h => hFg q h) hFg (fun u t H1 locs ht hvm hw1 hB hz1 hk1 hS => ?_)
  obtain ⟨g, cI, τ⟩ := u
  obtain ⟨e1, e2⟩ := hw1
  have e1 : g 0 = a1 := e1
  have e2 : τ = s0M := e2
  subst e1
  obtain ⟨hP1, hK1, hD1⟩ := hB
  rw [ht] at hP1
  have hK1 := va_K.moved hvm.symm hK1
  obtain ⟨hP, hD⟩ := va_join (wr := wX h cB cS σ) (w1 := wM g cI τ) hP hD [12] (List.range 12) rfl rfl rfl (by decide) (by rw [GA_eq (ad := [g 0]) rfl]; exact hk1) hFc hP1 (by rw [GA_eq (ad := [g 0]) rfl]; exact hD1)
  have hK : va_K D vwCl [(cB, .byte), (cS, .short), (cI, .int)] s := hK.app hK1
  refine lv_astore_n (lv' := [(2, .ref (g 0)), (1, .ref (h 0)), (0, .ref b)]) hx hb dL_law_15 rfl hl (by decide) rfl (fun ls hl => ?_)
  refine r_iconst hx hb dL_law_16 ?_
  refine lv_istore_n (lv' := [(3, .int (iI 0)), (2, .ref (g 0)), (1, .ref (h 0)), (0, .ref b)]) hx hb dL_law_17 rfl hl (by decide) rfl (fun ls hl => ?_)
  refine W.widen (k := 600000) (n := 7290000) (Nat.le_of_ble_eq_true rfl) (Nat.le_of_ble_eq_true rfl) ?_
  exact law_loop ⟨⟨hx, hb, hml, hown, hts⟩, hX, hbl, hL⟩ hr hlk (L + 1) 0 σ τ _ _ _ (by omega) (by omega) ⟨_, _, _, _, _, _, _, _, _, _, Wf0, hxr, by rw [e2]; exact MRep0⟩ ⟨hK, hP, hD, hS, hA⟩ (by rw [show ((0 : Nat) : Int) = 0 from rfl]; exact lv_sub hl [3, 2, 1, 0] rfl)
set_option maxHeartbeats 4000000 in
theorem lw_walk (l : Launch) (b : Addr) (xs : List Int32) : MetFree l x (headSpec (Jvm.Cond.code x code maxLocals ret :: tables_1) room_1) (lw_P b xs) (fun _ _ _ _ _ => True) lw_Q := by
  refine MetFree.of_bodyS (code := code) (maxLocals := maxLocals) (ret := ret) (by decide) ?_ ?_
  · intro args s m h hn
    obtain ⟨meth, c, h1, h2, h3, h4, h5, h6, -, -⟩ := Cond.code_spec hn (atoms_spec (ws := Jvm.Cond.code x code maxLocals ret :: tables_1) h _ List.mem_cons_self)
    exact ⟨meth, c, h1, h2, h3, h4, h5, h6⟩
  · intro p e s m args below meth c s₁ B hml0 hP _
    obtain ⟨rfl, hx, hbd, hgv⟩ := hP
    obtain ⟨scr, harrAt, hlist, hof, hsmall⟩ := hx
    obtain ⟨hcb, hkn, -, -⟩ := State.arrayAt?_spec harrAt
    have hown : s.vm.findClass R_law = some m.cls := findClass_of_methodNamed B.named
    have hts0 : ∀ c ∈ (Jvm.Cond.code x code maxLocals ret :: tables_1), c.before #[Value.ref b] s = true := atoms_spec (ws := Jvm.Cond.code x code maxLocals ret :: tables_1) B.pre
    have hts : ∀ w ∈ lw_tbl, w.before #[Value.ref b] s = true := k2_hts_sels lw_privs (fun w hw => hts0 w (List.mem_cons_of_mem _ hw)) lw_privs_ok
    have hml : c.maxLocals = 4 := B.maxLocals_eq (hts0 _ List.mem_cons_self)
    have X₀ : Stand p l e room_1 s m #[Value.ref b] below meth c s₁ [] 0 0 := Stand.of_body B
    have hh0 : s₁.heap = s.heap := by rw [B.state]; rfl
    have hsz : scr.slots.size = xs.length := by rw [← Array.length_toList, hlist, List.length_map]
    have hval : ∀ j : Nat, j < xs.length → scr.slots[j]? = some (.int (xs.getD j 0)) := fun j hj => by
      rw [← Array.getElem?_toList, hlist]
      simp [hj]
    have hbl : b < s.heap.size := (Array.getElem?_eq_some_iff.mp hcb).1
    have hX : va_X b xs.length (fun j => xs.getD j 0) s s.heap := ⟨scr, hcb, hof, hkn, hsz, hval⟩
    have K : W p l e room_1 s m #[Value.ref b] below meth c s₁.heap [] 0 0 (lw_Z below #[Value.ref b] s) (entryFrame m ([Value.ref b] : List Value).toArray 4) := by
      rw [hh0]
      exact whole_start l hbd ⟨B.exec, B.bytes, B.returns, hml, hown, hts, hX, hbl, B.notSynchronized, hgv⟩
    obtain ⟨t, a1, o, b1, b2, b3⟩ := K s₁ rfl X₀
    exact ⟨t, o, a1, b1, b2, b3⟩
theorem lw_pre_spec {args : Array Value} {s : State} (h : (Jvm.Cond.and given_1 narrow_1).before args s = true) (hr : rest_1_c.before args s = true) : ∃ (b : Addr) (xs : List Int32), lw_P b xs args s := by
  have hs := flat_of_before _ h
  have hq := flat_of_before _ hr
  have hc : (Cond.count 1).before args s = true := hs _ (by decide +kernel)
  have harr : (Cond.arrayOf (.arg 0) .int).before args s = true := hs _ (by decide +kernel)
  have hle : (Cond.le (.length (.arg 0)) (.int 192)).before args s = true := hs _ (by decide +kernel)
  have hlen : (Cond.isInt (.length (.arg 0))).before args s = true := hq _ (by decide +kernel)
  have hall : (Cond.all (.arg 0) (.isInt (.elem (.arg 0) (.index 0)))).before args s = true := hq _ (by decide +kernel)
  obtain ⟨b, xs, hb, hx⟩ := State.ints_of_pre rfl harr hlen hall
  have hsm : xs.length < 2 ^ 31 := hx.choose_spec.2.2.2
  have hev : (Term.length (.arg 0)).eval args s none [] s = some (.int xs.length.toInt32) := hx.length_eval hb
  have hv := Cond.le_ints hev (show (Term.int 192).eval args s none [] s = some (.int 192) from rfl)
  have hd : xs.length.toInt32 ≤ 192 := by
    simpa [Cond.before, Cond.holds, hv] using hle
  have hN : xs.length ≤ 192 := (Int32.ofNat_le_ofNat hsm (by decide)).mp (show Int32.ofNat xs.length ≤ Int32.ofNat 192 from hd)
  exact ⟨b, xs, Cond.one_arg hc (show args[0]? = some (.ref b) from hb), hx, hN, h⟩
theorem lw_comes (l : Launch) : Comes l x (Jvm.Cond.code x code maxLocals ret :: tables_1) room_1 (fun tb e args s => Calls_1 tb e args s ∧ rest_1 tb e args s ∧ Pre_1 tb e args s)
    (fun _ _ args s o t => lw_Q args s o t) := by
  intro p e ha hc hk s m args below hf hfit hheap happ hpre
  obtain ⟨b, xs, hP⟩ := lw_pre_spec hpre.2.2 hpre.2.1
  obtain ⟨k, o, h1, h2, h3, hQ⟩ := lw_walk l b xs p e ha hc hk s m args below hf ((Spec.applies_iff_loose hf).mp happ).1 hP trivial
  exact ⟨k, o, h1, h2, h3, hQ⟩
theorem lw_frame {s t : State} {o : Outcome} {args : Array Value} (h : Framed s o t [] 600000 7290000) :
    Framed s o t (fieldLocs frame_1_writes args s ++ arrayLocs frame_1_arrays args s ++ staticLocs frame_1_statics s) 600000 7290000 := h
theorem lw_limb (L : Cond) (hL : ∀ (args : Array Value) (s t : State), L.after args s (.returned (some (.int 1))) t = true) :
    ArmFor flags0 classFile x code maxLocals ret World_1 tables_1 room_1 Calls_1 rest_1 Pre_1
      (fun tb e a s o t => postC L tb e a s o t ∧ Framed s o t (fieldLocs frame_1_writes a s ++ arrayLocs frame_1_arrays a s ++ staticLocs frame_1_statics s) 600000 7290000) := by
  intro l _ _ _ p e ha hc hk s m args below hf hfit hheap happ hpre
  obtain ⟨k, o, h1, h2, h3, rfl, hF⟩ := lw_comes l p e ha hc hk s m args below hf hfit hheap happ hpre
  exact ⟨k, _, h1, h2, h3, hL args s _, lw_frame hF⟩
theorem i_vc : Claimed_1_1 ∧ Claimed_1_2 := ⟨lw_limb limb_1_1 (fun args s t => by simp [limb_1_1, Cond.after, Cond.holds, Cond.value]), lw_limb limb_1_2 (fun args s t => Cond.after_iff.mpr (by
  first | (rw [show limb_1_2 = Cond.eq .result (.int 1) from rfl, Cond.eq_ints (x := 1) (y := 1) rfl rfl]; simp; done) | (simp [limb_1_2, Cond.value, Term.eval]; done)))⟩
end
