section
-- ===== PART A: goes FIRST, ahead of the names: the tables' words, and 'selects' of the private methods out of them =====
/-- a private method of a class that the tables say can be made, by its rows of tables_1 -/
def lw_okq (q : MethodName × Nat) : Prop := (q.1.cls ≠ "java/lang/invoke/MethodHandle" ∧ q.1.cls ≠ "java/lang/invoke/VarHandle") ∧ Cond.instantiable q.1.cls q.2 ∈ tables_1 ∧ Cond.privateMethod q.1 ∈ tables_1 ∧ Cond.instanceMethod q.1 ∈ tables_1
set_option maxRecDepth 100000
theorem lw_p0 : lw_okq (⟨"NestedWords", "readAll", "()V"⟩, 10) := ⟨⟨by decide +kernel, by decide +kernel⟩, List.mem_of_getElem? (i := 4) rfl, List.mem_of_getElem? (i := 60) rfl, List.mem_of_getElem? (i := 61) rfl⟩
theorem lw_p1 : lw_okq (⟨"NestedWords", "add", "(I)V"⟩, 10) := ⟨⟨by decide +kernel, by decide +kernel⟩, List.mem_of_getElem? (i := 4) rfl, List.mem_of_getElem? (i := 67) rfl, List.mem_of_getElem? (i := 68) rfl⟩
theorem lw_p2 : lw_okq (⟨"NestedWords", "plainSteps", "(I)I"⟩, 10) := ⟨⟨by decide +kernel, by decide +kernel⟩, List.mem_of_getElem? (i := 4) rfl, List.mem_of_getElem? (i := 71) rfl, List.mem_of_getElem? (i := 72) rfl⟩
theorem lw_p3 : lw_okq (⟨"NestedWords", "stackSteps", "(II)I"⟩, 10) := ⟨⟨by decide +kernel, by decide +kernel⟩, List.mem_of_getElem? (i := 4) rfl, List.mem_of_getElem? (i := 81) rfl, List.mem_of_getElem? (i := 82) rfl⟩
theorem lw_p4 : lw_okq (⟨"NestedWords", "closedSteps", "(III)I"⟩, 10) := ⟨⟨by decide +kernel, by decide +kernel⟩, List.mem_of_getElem? (i := 4) rfl, List.mem_of_getElem? (i := 85) rfl, List.mem_of_getElem? (i := 86) rfl⟩
theorem lw_p5 : lw_okq (⟨"NestedWordsModel", "liveAfter", "(I)I"⟩, 8) := ⟨⟨by decide +kernel, by decide +kernel⟩, List.mem_of_getElem? (i := 120) rfl, List.mem_of_getElem? (i := 166) rfl, List.mem_of_getElem? (i := 167) rfl⟩
theorem lw_p6 : lw_okq (⟨"NestedWordsModel", "match", "(I)I"⟩, 8) := ⟨⟨by decide +kernel, by decide +kernel⟩, List.mem_of_getElem? (i := 120) rfl, List.mem_of_getElem? (i := 170) rfl, List.mem_of_getElem? (i := 171) rfl⟩
theorem lw_p7 : lw_okq (⟨"NestedWordsModel", "piece", "(II)I"⟩, 8) := ⟨⟨by decide +kernel, by decide +kernel⟩, List.mem_of_getElem? (i := 120) rfl, List.mem_of_getElem? (i := 174) rfl, List.mem_of_getElem? (i := 175) rfl⟩
theorem lw_p8 : lw_okq (⟨"NestedWordsModel", "between", "(II)I"⟩, 8) := ⟨⟨by decide +kernel, by decide +kernel⟩, List.mem_of_getElem? (i := 120) rfl, List.mem_of_getElem? (i := 178) rfl, List.mem_of_getElem? (i := 179) rfl⟩
theorem lw_p9 : lw_okq (⟨"NestedWordsModel", "pairs", "(II)I"⟩, 8) := ⟨⟨by decide +kernel, by decide +kernel⟩, List.mem_of_getElem? (i := 120) rfl, List.mem_of_getElem? (i := 183) rfl, List.mem_of_getElem? (i := 184) rfl⟩
theorem lw_p10 : lw_okq (⟨"NestedWordsModel", "endsOf", "()I"⟩, 8) := ⟨⟨by decide +kernel, by decide +kernel⟩, List.mem_of_getElem? (i := 120) rfl, List.mem_of_getElem? (i := 210) rfl, List.mem_of_getElem? (i := 211) rfl⟩
def lw_privs_1 : List (MethodName × Nat) := [(⟨"NestedWords", "readAll", "()V"⟩, 10), (⟨"NestedWords", "add", "(I)V"⟩, 10), (⟨"NestedWords", "plainSteps", "(I)I"⟩, 10), (⟨"NestedWords", "stackSteps", "(II)I"⟩, 10), (⟨"NestedWords", "closedSteps", "(III)I"⟩, 10), (⟨"NestedWordsModel", "liveAfter", "(I)I"⟩, 8), (⟨"NestedWordsModel", "match", "(I)I"⟩, 8), (⟨"NestedWordsModel", "piece", "(II)I"⟩, 8), (⟨"NestedWordsModel", "between", "(II)I"⟩, 8), (⟨"NestedWordsModel", "pairs", "(II)I"⟩, 8), (⟨"NestedWordsModel", "endsOf", "()I"⟩, 8)]
theorem lw_r1 : ∀ q ∈ lw_privs_1, lw_okq q := List.forall_mem_cons.mpr ⟨lw_p0, List.forall_mem_cons.mpr ⟨lw_p1, List.forall_mem_cons.mpr ⟨lw_p2, List.forall_mem_cons.mpr ⟨lw_p3, List.forall_mem_cons.mpr ⟨lw_p4, List.forall_mem_cons.mpr ⟨lw_p5, List.forall_mem_cons.mpr ⟨lw_p6, List.forall_mem_cons.mpr ⟨lw_p7, List.forall_mem_cons.mpr ⟨lw_p8, List.forall_mem_cons.mpr ⟨lw_p9, List.forall_mem_cons.mpr ⟨lw_p10, fun _ h => absurd h List.not_mem_nil⟩⟩⟩⟩⟩⟩⟩⟩⟩⟩⟩
def lw_privs : List (MethodName × Nat) := lw_privs_1
def lw_tbl : List Cond := k2_sels lw_privs ++ tables_1
theorem lw_privs_ok : ∀ q ∈ lw_privs, lw_okq q := lw_r1
-- ===== ONE list of words for every method: the tables' words that hold all through a run =====
def lw_all : List Cond := lw_tbl.filter goodWord
/-- a word of the tables by its place: claim/WORDS.tsv -/
theorem lw_w {w : Cond} (i : Nat) (h : lw_tbl[i]? = some w) (g : goodWord w = true) : w ∈ lw_all := List.mem_filter.mpr ⟨List.mem_of_getElem? h, g⟩
theorem lw_all_tbl {w : Cond} (h : w ∈ lw_all) : w ∈ lw_tbl := (List.mem_filter.mp h).1
theorem lw_self : GoodIn lw_all lw_all := fun w h => ⟨h, good_of_word (List.mem_filter.mp h).2⟩
/-- a class's field words, by their places -/
theorem lw_in (ws : List Cond) (ps : List Nat) (hp : ws = ps.filterMap (fun i => lw_tbl[i]?)) (hg : ws.all goodWord = true) : ∀ w ∈ ws, w ∈ lw_all := by
  intro w h
  have h1 := List.all_eq_true.mp hg w h
  rw [hp] at h
  obtain ⟨i, -, hi⟩ := List.mem_filterMap.mp h
  exact lw_w i hi h1
/-- the words of a contract for the method y with code b, L locals, answer r -/
abbrev ws_ (y : MethodName) (b : ByteArray) (L : Nat) (r : Option FieldType) : List Cond := Cond.code y b L r :: lw_all
theorem lw_meth {y : MethodName} {b : ByteArray} {L : Nat} {r : Option FieldType} (h : Cond.code y b L r ∈ lw_all) : GoodIn lw_all (ws_ y b L r) := by
  intro w hw
  rcases List.mem_cons.mp hw with e | e
  · rw [e]
    exact lw_self _ h
  · exact lw_self _ e
theorem lw_app {a c : List Cond} (ha : ∀ w ∈ a, w ∈ lw_all) (hc : GoodIn lw_all c) : GoodIn lw_all (a ++ c) := by
  intro w hw
  rcases List.mem_append.mp hw with e | e
  · exact lw_self w (ha w e)
  · exact hc w e
/-- what a call through an object asks: cwV n hts (lw_V ..) -/
theorem lw_V {own : String} {idx : Nat} {C : String} {y : MethodName} {b : ByteArray} {L : Nat} {r : Option FieldType} (h1 : Cond.methodLink own idx y ∈ lw_all) (h2 : Cond.instanceMethod y ∈ lw_all) (h3 : Cond.selects C y y ∈ lw_all) (h4 : Cond.initialized C ∈ lw_all) (h5 : Cond.code y b L r ∈ lw_all) : GoodIn lw_all (wsV own idx C y (ws_ y b L r)) := by
  refine lw_app ?_ (lw_meth h5)
  intro w hw
  simp only [List.mem_cons, List.not_mem_nil, or_false] at hw
  rcases hw with e | e | e | e
  · rw [e]; exact h1
  · rw [e]; exact h2
  · rw [e]; exact h3
  · rw [e]; exact h4
/-- what a static call asks: va_cwS n hts (lw_S ..) -/
theorem lw_S {own : String} {idx : Nat} {y : MethodName} {b : ByteArray} {L : Nat} {r : Option FieldType} (h1 : Cond.methodLink own idx y ∈ lw_all) (h2 : Cond.static y ∈ lw_all) (h3 : Cond.initialized y.cls ∈ lw_all) (h4 : Cond.code y b L r ∈ lw_all) : GoodIn lw_all (va_wsS own idx y (ws_ y b L r)) := by
  refine lw_app ?_ (lw_meth h4)
  intro w hw
  simp only [List.mem_cons, List.not_mem_nil, or_false] at hw
  rcases hw with e | e | e
  · rw [e]; exact h1
  · rw [e]; exact h2
  · rw [e]; exact h3
/-- the words of a contract for a method WITH HANDLERS (hh: its table) -/
abbrev wsW_ (y : MethodName) (b : ByteArray) (L : Nat) (r : Option FieldType) (hh : List (Nat × Nat × Nat × Nat)) : List Cond := Cond.codeWith y b L r hh :: lw_all
theorem lw_methW {y : MethodName} {b : ByteArray} {L : Nat} {r : Option FieldType} {hh : List (Nat × Nat × Nat × Nat)} (h : Cond.codeWith y b L r hh ∈ lw_all) : GoodIn lw_all (wsW_ y b L r hh) := by
  intro w hw
  rcases List.mem_cons.mp hw with e | e
  · rw [e]
    exact lw_self _ h
  · exact lw_self _ e
/-- any list of words by their places (lw_in), good -/
theorem lw_good {ws : List Cond} (h : ∀ w ∈ ws, w ∈ lw_all) : GoodIn lw_all ws := fun w hw => lw_self w (h w hw)
/-- what a call of a method with handlers asks: vx_cwVW n hts (lw_VW ..), vx_cwSW n hts (lw_SW ..) -/
theorem lw_VW {own : String} {idx : Nat} {C : String} {y : MethodName} {b : ByteArray} {L : Nat} {r : Option FieldType} {hh : List (Nat × Nat × Nat × Nat)} (h1 : Cond.methodLink own idx y ∈ lw_all) (h2 : Cond.instanceMethod y ∈ lw_all) (h3 : Cond.selects C y y ∈ lw_all) (h4 : Cond.initialized C ∈ lw_all) (h5 : Cond.codeWith y b L r hh ∈ lw_all) : GoodIn lw_all (wsV own idx C y (wsW_ y b L r hh)) := by
  refine lw_app ?_ (lw_methW h5)
  intro w hw
  simp only [List.mem_cons, List.not_mem_nil, or_false] at hw
  rcases hw with e | e | e | e
  · rw [e]; exact h1
  · rw [e]; exact h2
  · rw [e]; exact h3
  · rw [e]; exact h4
theorem lw_SW {own : String} {idx : Nat} {y : MethodName} {b : ByteArray} {L : Nat} {r : Option FieldType} {hh : List (Nat × Nat × Nat × Nat)} (h1 : Cond.methodLink own idx y ∈ lw_all) (h2 : Cond.static y ∈ lw_all) (h3 : Cond.initialized y.cls ∈ lw_all) (h4 : Cond.codeWith y b L r hh ∈ lw_all) : GoodIn lw_all (va_wsS own idx y (wsW_ y b L r hh)) := by
  refine lw_app ?_ (lw_methW h4)
  intro w hw
  simp only [List.mem_cons, List.not_mem_nil, or_false] at hw
  rcases hw with e | e | e
  · rw [e]; exact h1
  · rw [e]; exact h2
  · rw [e]; exact h3
/-- a word by its place in its run of the tables -/
theorem lw_at {r : List Cond} (hr : ∀ w ∈ r, w ∈ lw_tbl) {w : Cond} (i : Nat) (h : r[i]? = some w) : w ∈ lw_tbl := hr w (List.mem_of_getElem? h)
theorem lw_g {w : Cond} (h : w ∈ lw_tbl) (g : goodWord w = true) : w ∈ lw_all := List.mem_filter.mpr ⟨h, g⟩
theorem lw_ms : ∀ w ∈ k2_sels lw_privs, w ∈ lw_tbl := fun w h => show w ∈ k2_sels lw_privs ++ tables_1 from List.mem_append_left _ h
theorem lw_m0 : ∀ w ∈ tables_1, w ∈ lw_tbl := fun w h => show w ∈ k2_sels lw_privs ++ tables_1 from List.mem_append_right (k2_sels lw_privs) h
theorem qs0 : (Cond.selects "NestedWords" ⟨"NestedWords", "readAll", "()V"⟩ ⟨"NestedWords", "readAll", "()V"⟩) ∈ lw_all := lw_g (lw_at lw_ms 0 rfl) rfl
theorem qs1 : (Cond.selects "NestedWords" ⟨"NestedWords", "add", "(I)V"⟩ ⟨"NestedWords", "add", "(I)V"⟩) ∈ lw_all := lw_g (lw_at lw_ms 1 rfl) rfl
theorem qs2 : (Cond.selects "NestedWords" ⟨"NestedWords", "plainSteps", "(I)I"⟩ ⟨"NestedWords", "plainSteps", "(I)I"⟩) ∈ lw_all := lw_g (lw_at lw_ms 2 rfl) rfl
theorem qs3 : (Cond.selects "NestedWords" ⟨"NestedWords", "stackSteps", "(II)I"⟩ ⟨"NestedWords", "stackSteps", "(II)I"⟩) ∈ lw_all := lw_g (lw_at lw_ms 3 rfl) rfl
theorem qs4 : (Cond.selects "NestedWords" ⟨"NestedWords", "closedSteps", "(III)I"⟩ ⟨"NestedWords", "closedSteps", "(III)I"⟩) ∈ lw_all := lw_g (lw_at lw_ms 4 rfl) rfl
theorem qs5 : (Cond.selects "NestedWordsModel" ⟨"NestedWordsModel", "liveAfter", "(I)I"⟩ ⟨"NestedWordsModel", "liveAfter", "(I)I"⟩) ∈ lw_all := lw_g (lw_at lw_ms 5 rfl) rfl
theorem qs6 : (Cond.selects "NestedWordsModel" ⟨"NestedWordsModel", "match", "(I)I"⟩ ⟨"NestedWordsModel", "match", "(I)I"⟩) ∈ lw_all := lw_g (lw_at lw_ms 6 rfl) rfl
theorem qs7 : (Cond.selects "NestedWordsModel" ⟨"NestedWordsModel", "piece", "(II)I"⟩ ⟨"NestedWordsModel", "piece", "(II)I"⟩) ∈ lw_all := lw_g (lw_at lw_ms 7 rfl) rfl
theorem qs8 : (Cond.selects "NestedWordsModel" ⟨"NestedWordsModel", "between", "(II)I"⟩ ⟨"NestedWordsModel", "between", "(II)I"⟩) ∈ lw_all := lw_g (lw_at lw_ms 8 rfl) rfl
theorem qs9 : (Cond.selects "NestedWordsModel" ⟨"NestedWordsModel", "pairs", "(II)I"⟩ ⟨"NestedWordsModel", "pairs", "(II)I"⟩) ∈ lw_all := lw_g (lw_at lw_ms 9 rfl) rfl
theorem qs10 : (Cond.selects "NestedWordsModel" ⟨"NestedWordsModel", "endsOf", "()I"⟩ ⟨"NestedWordsModel", "endsOf", "()I"⟩) ∈ lw_all := lw_g (lw_at lw_ms 10 rfl) rfl

/-! java/lang/Object -/
def RJ0 : String := "java/lang/Object"
abbrev cJ0_init : ByteArray := object_method_1_code
def yJ0_init : MethodName := ⟨RJ0, "<init>", "()V"⟩
theorem dJ0_init_0 : decode cJ0_init 0 = .ok (.return_, 1) := by decide +kernel
theorem q20 : (Jvm.Cond.instanceMethod ({ cls := "java/lang/Object", name := "<init>", desc := "()V" } : Jvm.MethodName)) ∈ lw_all := lw_g (lw_at lw_m0 9 rfl) rfl
theorem q21 : (Jvm.Cond.code ({ cls := "java/lang/Object", name := "<init>", desc := "()V" } : Jvm.MethodName) object_method_1_code (1 : Nat) (Option.none : Option Jvm.ClassFile.FieldType)) ∈ lw_all := lw_g (lw_at lw_m0 10 rfl) rfl
theorem q53 : (Jvm.Cond.arrayClass Jvm.ClassFile.FieldType.boolean) ∈ lw_all := lw_g (lw_at lw_m0 42 rfl) rfl
theorem q54 : (Jvm.Cond.arrayClass Jvm.ClassFile.FieldType.int) ∈ lw_all := lw_g (lw_at lw_m0 43 rfl) rfl
theorem q11 : (Jvm.Cond.initialized "NestedWordsLaw") ∈ lw_all := lw_g (lw_at lw_m0 0 rfl) rfl
theorem q14 : (Jvm.Cond.classLink "NestedWordsLaw" (7 : Nat) "NestedWords") ∈ lw_all := lw_g (lw_at lw_m0 3 rfl) rfl
theorem q16 : (Jvm.Cond.methodLink "NestedWordsLaw" (9 : Nat) ({ cls := "NestedWords", name := "<init>", desc := "()V" } : Jvm.MethodName)) ∈ lw_all := lw_g (lw_at lw_m0 5 rfl) rfl
theorem q55 : (Jvm.Cond.methodLink "NestedWordsLaw" (13 : Nat) ({ cls := "NestedWords", name := "move", desc := "(IIIIZ)I" } : Jvm.MethodName)) ∈ lw_all := lw_g (lw_at lw_m0 44 rfl) rfl
theorem q62 : (Jvm.Cond.methodLink "NestedWordsLaw" (18 : Nat) ({ cls := "NestedWords", name := "state", desc := "(IZZ)I" } : Jvm.MethodName)) ∈ lw_all := lw_g (lw_at lw_m0 51 rfl) rfl
theorem q66 : (Jvm.Cond.methodLink "NestedWordsLaw" (23 : Nat) ({ cls := "NestedWords", name := "read", desc := "(I)I" } : Jvm.MethodName)) ∈ lw_all := lw_g (lw_at lw_m0 55 rfl) rfl
theorem q102 : (Jvm.Cond.methodLink "NestedWordsLaw" (28 : Nat) ({ cls := "NestedWords", name := "back", desc := "()I" } : Jvm.MethodName)) ∈ lw_all := lw_g (lw_at lw_m0 91 rfl) rfl
theorem q106 : (Jvm.Cond.methodLink "NestedWordsLaw" (33 : Nat) ({ cls := "NestedWords", name := "erase", desc := "()V" } : Jvm.MethodName)) ∈ lw_all := lw_g (lw_at lw_m0 95 rfl) rfl
theorem q110 : (Jvm.Cond.methodLink "NestedWordsLaw" (37 : Nat) ({ cls := "NestedWords", name := "live", desc := "()I" } : Jvm.MethodName)) ∈ lw_all := lw_g (lw_at lw_m0 99 rfl) rfl
theorem q114 : (Jvm.Cond.methodLink "NestedWordsLaw" (41 : Nat) ({ cls := "NestedWords", name := "accepted", desc := "()I" } : Jvm.MethodName)) ∈ lw_all := lw_g (lw_at lw_m0 103 rfl) rfl
theorem q118 : (Jvm.Cond.methodLink "NestedWordsLaw" (45 : Nat) ({ cls := "NestedWords", name := "open", desc := "()I" } : Jvm.MethodName)) ∈ lw_all := lw_g (lw_at lw_m0 107 rfl) rfl
theorem q122 : (Jvm.Cond.methodLink "NestedWordsLaw" (49 : Nat) ({ cls := "NestedWords", name := "next", desc := "()I" } : Jvm.MethodName)) ∈ lw_all := lw_g (lw_at lw_m0 111 rfl) rfl
theorem q126 : (Jvm.Cond.methodLink "NestedWordsLaw" (53 : Nat) ({ cls := "NestedWords", name := "close", desc := "()I" } : Jvm.MethodName)) ∈ lw_all := lw_g (lw_at lw_m0 115 rfl) rfl
theorem q130 : (Jvm.Cond.classLink "NestedWordsLaw" (10 : Nat) "NestedWordsModel") ∈ lw_all := lw_g (lw_at lw_m0 119 rfl) rfl
theorem q132 : (Jvm.Cond.methodLink "NestedWordsLaw" (12 : Nat) ({ cls := "NestedWordsModel", name := "<init>", desc := "()V" } : Jvm.MethodName)) ∈ lw_all := lw_g (lw_at lw_m0 121 rfl) rfl
theorem q161 : (Jvm.Cond.methodLink "NestedWordsLaw" (17 : Nat) ({ cls := "NestedWordsModel", name := "move", desc := "(IIIIZ)I" } : Jvm.MethodName)) ∈ lw_all := lw_g (lw_at lw_m0 150 rfl) rfl
theorem q168 : (Jvm.Cond.methodLink "NestedWordsLaw" (22 : Nat) ({ cls := "NestedWordsModel", name := "state", desc := "(IZZ)I" } : Jvm.MethodName)) ∈ lw_all := lw_g (lw_at lw_m0 157 rfl) rfl
theorem q172 : (Jvm.Cond.methodLink "NestedWordsLaw" (27 : Nat) ({ cls := "NestedWordsModel", name := "read", desc := "(I)I" } : Jvm.MethodName)) ∈ lw_all := lw_g (lw_at lw_m0 161 rfl) rfl
theorem q203 : (Jvm.Cond.methodLink "NestedWordsLaw" (32 : Nat) ({ cls := "NestedWordsModel", name := "back", desc := "()I" } : Jvm.MethodName)) ∈ lw_all := lw_g (lw_at lw_m0 192 rfl) rfl
theorem q207 : (Jvm.Cond.methodLink "NestedWordsLaw" (36 : Nat) ({ cls := "NestedWordsModel", name := "erase", desc := "()V" } : Jvm.MethodName)) ∈ lw_all := lw_g (lw_at lw_m0 196 rfl) rfl
theorem q211 : (Jvm.Cond.methodLink "NestedWordsLaw" (40 : Nat) ({ cls := "NestedWordsModel", name := "live", desc := "()I" } : Jvm.MethodName)) ∈ lw_all := lw_g (lw_at lw_m0 200 rfl) rfl
theorem q215 : (Jvm.Cond.methodLink "NestedWordsLaw" (44 : Nat) ({ cls := "NestedWordsModel", name := "accepted", desc := "()I" } : Jvm.MethodName)) ∈ lw_all := lw_g (lw_at lw_m0 204 rfl) rfl
theorem q224 : (Jvm.Cond.methodLink "NestedWordsLaw" (48 : Nat) ({ cls := "NestedWordsModel", name := "open", desc := "()I" } : Jvm.MethodName)) ∈ lw_all := lw_g (lw_at lw_m0 213 rfl) rfl
theorem q228 : (Jvm.Cond.methodLink "NestedWordsLaw" (52 : Nat) ({ cls := "NestedWordsModel", name := "next", desc := "()I" } : Jvm.MethodName)) ∈ lw_all := lw_g (lw_at lw_m0 217 rfl) rfl
theorem q232 : (Jvm.Cond.methodLink "NestedWordsLaw" (56 : Nat) ({ cls := "NestedWordsModel", name := "close", desc := "()I" } : Jvm.MethodName)) ∈ lw_all := lw_g (lw_at lw_m0 221 rfl) rfl
end
section
/-! NestedWords -/
set_option maxRecDepth 100000
def RX0 : String := "NestedWords"
def TX0 : u_T := fun k => match k with
  | 0 => ("NestedWords", "stackMove", "[Z", true)
  | 1 => ("NestedWords", "plainMove", "[Z", true)
  | 2 => ("NestedWords", "starts", "I", false)
  | 3 => ("NestedWords", "ends", "I", false)
  | 4 => ("NestedWords", "known", "Z", false)
  | 5 => ("NestedWords", "length", "I", false)
  | 6 => ("NestedWords", "word", "[I", true)
  | 7 => ("NestedWords", "way", "[I", true)
  | 8 => ("NestedWords", "alive", "[I", true)
  | _ => ("NestedWords", "opened", "[I", true)
def tyX0 : Nat → FieldType := fun k => match k with
  | 0 => .array .boolean
  | 1 => .array .boolean
  | 2 => .int
  | 3 => .int
  | 4 => .boolean
  | 5 => .int
  | 6 => .array .int
  | 7 => .array .int
  | 8 => .array .int
  | _ => .array .int
abbrev wsX00 : List Cond := u_ws RX0 TX0 10
theorem nmX0 : ∀ a, a < 10 → ∀ b, b < 10 → a ≠ b → (TX0 a).2.1 ≠ (TX0 b).2.1 := by decide +kernel
theorem tyX0_ok : ∀ k, k < 10 → parseFieldDescriptor (TX0 k).2.2.1 = some (tyX0 k) := by decide +kernel
abbrev cX0_init : ByteArray := prog_1_method_1_code
def yX0_init : MethodName := ⟨RX0, "<init>", "()V"⟩
theorem dX0_init_0 : decode cX0_init 0 = .ok (.aload_n 0, 1) := by decide +kernel
theorem dX0_init_1 : decode cX0_init 1 = .ok (.invokespecial 1, 3) := by decide +kernel
theorem dX0_init_4 : decode cX0_init 4 = .ok (.aload_n 0, 1) := by decide +kernel
theorem dX0_init_5 : decode cX0_init 5 = .ok (.sipush 400, 3) := by decide +kernel
theorem dX0_init_8 : decode cX0_init 8 = .ok (.newarray .boolean, 2) := by decide +kernel
theorem dX0_init_10 : decode cX0_init 10 = .ok (.putfield 7, 3) := by decide +kernel
theorem dX0_init_13 : decode cX0_init 13 = .ok (.aload_n 0, 1) := by decide +kernel
theorem dX0_init_14 : decode cX0_init 14 = .ok (.bipush 50, 2) := by decide +kernel
theorem dX0_init_16 : decode cX0_init 16 = .ok (.newarray .boolean, 2) := by decide +kernel
theorem dX0_init_18 : decode cX0_init 18 = .ok (.putfield 13, 3) := by decide +kernel
theorem dX0_init_21 : decode cX0_init 21 = .ok (.aload_n 0, 1) := by decide +kernel
theorem dX0_init_22 : decode cX0_init 22 = .ok (.bipush 21, 2) := by decide +kernel
theorem dX0_init_24 : decode cX0_init 24 = .ok (.newarray .int, 2) := by decide +kernel
theorem dX0_init_26 : decode cX0_init 26 = .ok (.putfield 16, 3) := by decide +kernel
theorem dX0_init_29 : decode cX0_init 29 = .ok (.aload_n 0, 1) := by decide +kernel
theorem dX0_init_30 : decode cX0_init 30 = .ok (.bipush 22, 2) := by decide +kernel
theorem dX0_init_32 : decode cX0_init 32 = .ok (.newarray .int, 2) := by decide +kernel
theorem dX0_init_34 : decode cX0_init 34 = .ok (.putfield 20, 3) := by decide +kernel
theorem dX0_init_37 : decode cX0_init 37 = .ok (.aload_n 0, 1) := by decide +kernel
theorem dX0_init_38 : decode cX0_init 38 = .ok (.bipush 22, 2) := by decide +kernel
theorem dX0_init_40 : decode cX0_init 40 = .ok (.newarray .int, 2) := by decide +kernel
theorem dX0_init_42 : decode cX0_init 42 = .ok (.putfield 23, 3) := by decide +kernel
theorem dX0_init_45 : decode cX0_init 45 = .ok (.aload_n 0, 1) := by decide +kernel
theorem dX0_init_46 : decode cX0_init 46 = .ok (.bipush 22, 2) := by decide +kernel
theorem dX0_init_48 : decode cX0_init 48 = .ok (.newarray .int, 2) := by decide +kernel
theorem dX0_init_50 : decode cX0_init 50 = .ok (.putfield 26, 3) := by decide +kernel
theorem dX0_init_53 : decode cX0_init 53 = .ok (.return_, 1) := by decide +kernel
abbrev cX0_move : ByteArray := prog_1_method_2_code
def yX0_move : MethodName := ⟨RX0, "move", "(IIIIZ)I"⟩
theorem dX0_move_0 : decode cX0_move 0 = .ok (.iload_n 1, 1) := by decide +kernel
theorem dX0_move_1 : decode cX0_move 1 = .ok (.invokestatic 29, 3) := by decide +kernel
theorem dX0_move_4 : decode cX0_move 4 = .ok (.ifCond .eq 44, 3) := by decide +kernel
theorem dX0_move_7 : decode cX0_move 7 = .ok (.iload_n 3, 1) := by decide +kernel
theorem dX0_move_8 : decode cX0_move 8 = .ok (.invokestatic 29, 3) := by decide +kernel
theorem dX0_move_11 : decode cX0_move 11 = .ok (.ifCond .eq 37, 3) := by decide +kernel
theorem dX0_move_14 : decode cX0_move 14 = .ok (.iload_n 2, 1) := by decide +kernel
theorem dX0_move_15 : decode cX0_move 15 = .ok (.ifCond .lt 33, 3) := by decide +kernel
theorem dX0_move_18 : decode cX0_move 18 = .ok (.iload_n 2, 1) := by decide +kernel
theorem dX0_move_19 : decode cX0_move 19 = .ok (.iconst 5, 1) := by decide +kernel
theorem dX0_move_20 : decode cX0_move 20 = .ok (.if_icmp .gt 28, 3) := by decide +kernel
theorem dX0_move_23 : decode cX0_move 23 = .ok (.iload_n 2, 1) := by decide +kernel
theorem dX0_move_24 : decode cX0_move 24 = .ok (.iconst 4, 1) := by decide +kernel
theorem dX0_move_25 : decode cX0_move 25 = .ok (.if_icmp .ge 25, 3) := by decide +kernel
theorem dX0_move_28 : decode cX0_move 28 = .ok (.iload 4, 2) := by decide +kernel
theorem dX0_move_30 : decode cX0_move 30 = .ok (.ifCond .lt 18, 3) := by decide +kernel
theorem dX0_move_33 : decode cX0_move 33 = .ok (.iload 4, 2) := by decide +kernel
theorem dX0_move_35 : decode cX0_move 35 = .ok (.iload_n 2, 1) := by decide +kernel
theorem dX0_move_36 : decode cX0_move 36 = .ok (.iconst 2, 1) := by decide +kernel
theorem dX0_move_37 : decode cX0_move 37 = .ok (.if_icmp .ge 7, 3) := by decide +kernel
theorem dX0_move_40 : decode cX0_move 40 = .ok (.iconst 2, 1) := by decide +kernel
theorem dX0_move_41 : decode cX0_move 41 = .ok (.goto 4, 3) := by decide +kernel
theorem dX0_move_44 : decode cX0_move 44 = .ok (.iconst 3, 1) := by decide +kernel
theorem dX0_move_45 : decode cX0_move 45 = .ok (.if_icmp .le 5, 3) := by decide +kernel
theorem dX0_move_48 : decode cX0_move 48 = .ok (.iconst (-1), 1) := by decide +kernel
theorem dX0_move_49 : decode cX0_move 49 = .ok (.ireturn, 1) := by decide +kernel
theorem dX0_move_50 : decode cX0_move 50 = .ok (.aload_n 0, 1) := by decide +kernel
theorem dX0_move_51 : decode cX0_move 51 = .ok (.iconst 0, 1) := by decide +kernel
theorem dX0_move_52 : decode cX0_move 52 = .ok (.putfield 33, 3) := by decide +kernel
theorem dX0_move_55 : decode cX0_move 55 = .ok (.iload_n 2, 1) := by decide +kernel
theorem dX0_move_56 : decode cX0_move 56 = .ok (.iconst 4, 1) := by decide +kernel
theorem dX0_move_57 : decode cX0_move 57 = .ok (.if_icmp .lt 46, 3) := by decide +kernel
theorem dX0_move_60 : decode cX0_move 60 = .ok (.bipush 25, 2) := by decide +kernel
theorem dX0_move_62 : decode cX0_move 62 = .ok (.iload_n 2, 1) := by decide +kernel
theorem dX0_move_63 : decode cX0_move 63 = .ok (.iconst 4, 1) := by decide +kernel
theorem dX0_move_64 : decode cX0_move 64 = .ok (.isub, 1) := by decide +kernel
theorem dX0_move_65 : decode cX0_move 65 = .ok (.imul, 1) := by decide +kernel
theorem dX0_move_66 : decode cX0_move 66 = .ok (.iconst 5, 1) := by decide +kernel
theorem dX0_move_67 : decode cX0_move 67 = .ok (.iload_n 1, 1) := by decide +kernel
theorem dX0_move_68 : decode cX0_move 68 = .ok (.imul, 1) := by decide +kernel
theorem dX0_move_69 : decode cX0_move 69 = .ok (.iadd, 1) := by decide +kernel
theorem dX0_move_70 : decode cX0_move 70 = .ok (.iload_n 3, 1) := by decide +kernel
theorem dX0_move_71 : decode cX0_move 71 = .ok (.iadd, 1) := by decide +kernel
theorem dX0_move_72 : decode cX0_move 72 = .ok (.istore 6, 2) := by decide +kernel
theorem dX0_move_74 : decode cX0_move 74 = .ok (.aload_n 0, 1) := by decide +kernel
theorem dX0_move_75 : decode cX0_move 75 = .ok (.getfield 13, 3) := by decide +kernel
theorem dX0_move_78 : decode cX0_move 78 = .ok (.iload 6, 2) := by decide +kernel
theorem dX0_move_80 : decode cX0_move 80 = .ok (.baload, 1) := by decide +kernel
theorem dX0_move_81 : decode cX0_move 81 = .ok (.ifCond .eq 7, 3) := by decide +kernel
theorem dX0_move_84 : decode cX0_move 84 = .ok (.iconst 1, 1) := by decide +kernel
theorem dX0_move_85 : decode cX0_move 85 = .ok (.goto 4, 3) := by decide +kernel
theorem dX0_move_88 : decode cX0_move 88 = .ok (.iconst 0, 1) := by decide +kernel
theorem dX0_move_89 : decode cX0_move 89 = .ok (.istore 7, 2) := by decide +kernel
theorem dX0_move_91 : decode cX0_move 91 = .ok (.aload_n 0, 1) := by decide +kernel
theorem dX0_move_92 : decode cX0_move 92 = .ok (.getfield 13, 3) := by decide +kernel
theorem dX0_move_95 : decode cX0_move 95 = .ok (.iload 6, 2) := by decide +kernel
theorem dX0_move_97 : decode cX0_move 97 = .ok (.iload 5, 2) := by decide +kernel
theorem dX0_move_99 : decode cX0_move 99 = .ok (.bastore, 1) := by decide +kernel
theorem dX0_move_100 : decode cX0_move 100 = .ok (.iload 7, 2) := by decide +kernel
theorem dX0_move_102 : decode cX0_move 102 = .ok (.ireturn, 1) := by decide +kernel
theorem dX0_move_103 : decode cX0_move 103 = .ok (.bipush 100, 2) := by decide +kernel
theorem dX0_move_105 : decode cX0_move 105 = .ok (.iload_n 2, 1) := by decide +kernel
theorem dX0_move_106 : decode cX0_move 106 = .ok (.imul, 1) := by decide +kernel
theorem dX0_move_107 : decode cX0_move 107 = .ok (.iconst 4, 1) := by decide +kernel
theorem dX0_move_108 : decode cX0_move 108 = .ok (.iconst 5, 1) := by decide +kernel
theorem dX0_move_109 : decode cX0_move 109 = .ok (.iload_n 1, 1) := by decide +kernel
theorem dX0_move_110 : decode cX0_move 110 = .ok (.imul, 1) := by decide +kernel
theorem dX0_move_111 : decode cX0_move 111 = .ok (.iload_n 3, 1) := by decide +kernel
theorem dX0_move_112 : decode cX0_move 112 = .ok (.iadd, 1) := by decide +kernel
theorem dX0_move_113 : decode cX0_move 113 = .ok (.imul, 1) := by decide +kernel
theorem dX0_move_114 : decode cX0_move 114 = .ok (.iadd, 1) := by decide +kernel
theorem dX0_move_115 : decode cX0_move 115 = .ok (.iload 4, 2) := by decide +kernel
theorem dX0_move_117 : decode cX0_move 117 = .ok (.iadd, 1) := by decide +kernel
theorem dX0_move_118 : decode cX0_move 118 = .ok (.istore 6, 2) := by decide +kernel
theorem dX0_move_120 : decode cX0_move 120 = .ok (.aload_n 0, 1) := by decide +kernel
theorem dX0_move_121 : decode cX0_move 121 = .ok (.getfield 7, 3) := by decide +kernel
theorem dX0_move_124 : decode cX0_move 124 = .ok (.iload 6, 2) := by decide +kernel
theorem dX0_move_126 : decode cX0_move 126 = .ok (.baload, 1) := by decide +kernel
theorem dX0_move_127 : decode cX0_move 127 = .ok (.ifCond .eq 7, 3) := by decide +kernel
theorem dX0_move_130 : decode cX0_move 130 = .ok (.iconst 1, 1) := by decide +kernel
theorem dX0_move_131 : decode cX0_move 131 = .ok (.goto 4, 3) := by decide +kernel
theorem dX0_move_134 : decode cX0_move 134 = .ok (.iconst 0, 1) := by decide +kernel
theorem dX0_move_135 : decode cX0_move 135 = .ok (.istore 7, 2) := by decide +kernel
theorem dX0_move_137 : decode cX0_move 137 = .ok (.aload_n 0, 1) := by decide +kernel
theorem dX0_move_138 : decode cX0_move 138 = .ok (.getfield 7, 3) := by decide +kernel
theorem dX0_move_141 : decode cX0_move 141 = .ok (.iload 6, 2) := by decide +kernel
theorem dX0_move_143 : decode cX0_move 143 = .ok (.iload 5, 2) := by decide +kernel
theorem dX0_move_145 : decode cX0_move 145 = .ok (.bastore, 1) := by decide +kernel
theorem dX0_move_146 : decode cX0_move 146 = .ok (.iload 7, 2) := by decide +kernel
theorem dX0_move_148 : decode cX0_move 148 = .ok (.ireturn, 1) := by decide +kernel
abbrev cX0_isState : ByteArray := prog_1_method_12_code
def yX0_isState : MethodName := ⟨RX0, "isState", "(I)Z"⟩
theorem dX0_isState_0 : decode cX0_isState 0 = .ok (.iload_n 0, 1) := by decide +kernel
theorem dX0_isState_1 : decode cX0_isState 1 = .ok (.ifCond .lt 12, 3) := by decide +kernel
theorem dX0_isState_4 : decode cX0_isState 4 = .ok (.iload_n 0, 1) := by decide +kernel
theorem dX0_isState_5 : decode cX0_isState 5 = .ok (.iconst 4, 1) := by decide +kernel
theorem dX0_isState_6 : decode cX0_isState 6 = .ok (.if_icmp .gt 7, 3) := by decide +kernel
theorem dX0_isState_9 : decode cX0_isState 9 = .ok (.iconst 1, 1) := by decide +kernel
theorem dX0_isState_10 : decode cX0_isState 10 = .ok (.goto 4, 3) := by decide +kernel
theorem dX0_isState_13 : decode cX0_isState 13 = .ok (.iconst 0, 1) := by decide +kernel
theorem dX0_isState_14 : decode cX0_isState 14 = .ok (.ireturn, 1) := by decide +kernel
abbrev cX0_state : ByteArray := prog_1_method_3_code
def yX0_state : MethodName := ⟨RX0, "state", "(IZZ)I"⟩
theorem dX0_state_0 : decode cX0_state 0 = .ok (.iload_n 1, 1) := by decide +kernel
theorem dX0_state_1 : decode cX0_state 1 = .ok (.invokestatic 29, 3) := by decide +kernel
theorem dX0_state_4 : decode cX0_state 4 = .ok (.ifCond .ne 5, 3) := by decide +kernel
theorem dX0_state_7 : decode cX0_state 7 = .ok (.iconst (-1), 1) := by decide +kernel
theorem dX0_state_8 : decode cX0_state 8 = .ok (.ireturn, 1) := by decide +kernel
theorem dX0_state_9 : decode cX0_state 9 = .ok (.aload_n 0, 1) := by decide +kernel
theorem dX0_state_10 : decode cX0_state 10 = .ok (.iconst 0, 1) := by decide +kernel
theorem dX0_state_11 : decode cX0_state 11 = .ok (.putfield 33, 3) := by decide +kernel
theorem dX0_state_14 : decode cX0_state 14 = .ok (.aload_n 0, 1) := by decide +kernel
theorem dX0_state_15 : decode cX0_state 15 = .ok (.iload_n 2, 1) := by decide +kernel
theorem dX0_state_16 : decode cX0_state 16 = .ok (.ifCond .eq 14, 3) := by decide +kernel
theorem dX0_state_19 : decode cX0_state 19 = .ok (.aload_n 0, 1) := by decide +kernel
theorem dX0_state_20 : decode cX0_state 20 = .ok (.getfield 37, 3) := by decide +kernel
theorem dX0_state_23 : decode cX0_state 23 = .ok (.iconst 1, 1) := by decide +kernel
theorem dX0_state_24 : decode cX0_state 24 = .ok (.iload_n 1, 1) := by decide +kernel
theorem dX0_state_25 : decode cX0_state 25 = .ok (.ishl, 1) := by decide +kernel
theorem dX0_state_26 : decode cX0_state 26 = .ok (.ior, 1) := by decide +kernel
theorem dX0_state_27 : decode cX0_state 27 = .ok (.goto 13, 3) := by decide +kernel
theorem dX0_state_30 : decode cX0_state 30 = .ok (.aload_n 0, 1) := by decide +kernel
theorem dX0_state_31 : decode cX0_state 31 = .ok (.getfield 37, 3) := by decide +kernel
theorem dX0_state_34 : decode cX0_state 34 = .ok (.iconst 1, 1) := by decide +kernel
theorem dX0_state_35 : decode cX0_state 35 = .ok (.iload_n 1, 1) := by decide +kernel
theorem dX0_state_36 : decode cX0_state 36 = .ok (.ishl, 1) := by decide +kernel
theorem dX0_state_37 : decode cX0_state 37 = .ok (.iconst (-1), 1) := by decide +kernel
theorem dX0_state_38 : decode cX0_state 38 = .ok (.ixor, 1) := by decide +kernel
theorem dX0_state_39 : decode cX0_state 39 = .ok (.iand, 1) := by decide +kernel
theorem dX0_state_40 : decode cX0_state 40 = .ok (.putfield 37, 3) := by decide +kernel
theorem dX0_state_43 : decode cX0_state 43 = .ok (.aload_n 0, 1) := by decide +kernel
theorem dX0_state_44 : decode cX0_state 44 = .ok (.iload_n 3, 1) := by decide +kernel
theorem dX0_state_45 : decode cX0_state 45 = .ok (.ifCond .eq 14, 3) := by decide +kernel
theorem dX0_state_48 : decode cX0_state 48 = .ok (.aload_n 0, 1) := by decide +kernel
theorem dX0_state_49 : decode cX0_state 49 = .ok (.getfield 41, 3) := by decide +kernel
theorem dX0_state_52 : decode cX0_state 52 = .ok (.iconst 1, 1) := by decide +kernel
theorem dX0_state_53 : decode cX0_state 53 = .ok (.iload_n 1, 1) := by decide +kernel
theorem dX0_state_54 : decode cX0_state 54 = .ok (.ishl, 1) := by decide +kernel
theorem dX0_state_55 : decode cX0_state 55 = .ok (.ior, 1) := by decide +kernel
theorem dX0_state_56 : decode cX0_state 56 = .ok (.goto 13, 3) := by decide +kernel
theorem dX0_state_59 : decode cX0_state 59 = .ok (.aload_n 0, 1) := by decide +kernel
theorem dX0_state_60 : decode cX0_state 60 = .ok (.getfield 41, 3) := by decide +kernel
theorem dX0_state_63 : decode cX0_state 63 = .ok (.iconst 1, 1) := by decide +kernel
theorem dX0_state_64 : decode cX0_state 64 = .ok (.iload_n 1, 1) := by decide +kernel
theorem dX0_state_65 : decode cX0_state 65 = .ok (.ishl, 1) := by decide +kernel
theorem dX0_state_66 : decode cX0_state 66 = .ok (.iconst (-1), 1) := by decide +kernel
theorem dX0_state_67 : decode cX0_state 67 = .ok (.ixor, 1) := by decide +kernel
theorem dX0_state_68 : decode cX0_state 68 = .ok (.iand, 1) := by decide +kernel
theorem dX0_state_69 : decode cX0_state 69 = .ok (.putfield 41, 3) := by decide +kernel
theorem dX0_state_72 : decode cX0_state 72 = .ok (.iconst 0, 1) := by decide +kernel
theorem dX0_state_73 : decode cX0_state 73 = .ok (.ireturn, 1) := by decide +kernel
abbrev cX0_read : ByteArray := prog_1_method_4_code
def yX0_read : MethodName := ⟨RX0, "read", "(I)I"⟩
theorem dX0_read_0 : decode cX0_read 0 = .ok (.iload_n 1, 1) := by decide +kernel
theorem dX0_read_1 : decode cX0_read 1 = .ok (.ifCond .lt 17, 3) := by decide +kernel
theorem dX0_read_4 : decode cX0_read 4 = .ok (.iload_n 1, 1) := by decide +kernel
theorem dX0_read_5 : decode cX0_read 5 = .ok (.iconst 5, 1) := by decide +kernel
theorem dX0_read_6 : decode cX0_read 6 = .ok (.if_icmp .gt 12, 3) := by decide +kernel
theorem dX0_read_9 : decode cX0_read 9 = .ok (.aload_n 0, 1) := by decide +kernel
theorem dX0_read_10 : decode cX0_read 10 = .ok (.getfield 44, 3) := by decide +kernel
theorem dX0_read_13 : decode cX0_read 13 = .ok (.bipush 16, 2) := by decide +kernel
theorem dX0_read_15 : decode cX0_read 15 = .ok (.if_icmp .lt 5, 3) := by decide +kernel
theorem dX0_read_18 : decode cX0_read 18 = .ok (.iconst (-1), 1) := by decide +kernel
theorem dX0_read_19 : decode cX0_read 19 = .ok (.ireturn, 1) := by decide +kernel
theorem dX0_read_20 : decode cX0_read 20 = .ok (.aload_n 0, 1) := by decide +kernel
theorem dX0_read_21 : decode cX0_read 21 = .ok (.invokevirtual 47, 3) := by decide +kernel
theorem dX0_read_24 : decode cX0_read 24 = .ok (.aload_n 0, 1) := by decide +kernel
theorem dX0_read_25 : decode cX0_read 25 = .ok (.iload_n 1, 1) := by decide +kernel
theorem dX0_read_26 : decode cX0_read 26 = .ok (.invokevirtual 50, 3) := by decide +kernel
theorem dX0_read_29 : decode cX0_read 29 = .ok (.aload_n 0, 1) := by decide +kernel
theorem dX0_read_30 : decode cX0_read 30 = .ok (.getfield 23, 3) := by decide +kernel
theorem dX0_read_33 : decode cX0_read 33 = .ok (.aload_n 0, 1) := by decide +kernel
theorem dX0_read_34 : decode cX0_read 34 = .ok (.getfield 44, 3) := by decide +kernel
theorem dX0_read_37 : decode cX0_read 37 = .ok (.iaload, 1) := by decide +kernel
theorem dX0_read_38 : decode cX0_read 38 = .ok (.invokestatic 54, 3) := by decide +kernel
theorem dX0_read_41 : decode cX0_read 41 = .ok (.ireturn, 1) := by decide +kernel
abbrev cX0_readAll : ByteArray := prog_1_method_14_code
def yX0_readAll : MethodName := ⟨RX0, "readAll", "()V"⟩
theorem dX0_readAll_0 : decode cX0_readAll 0 = .ok (.aload_n 0, 1) := by decide +kernel
theorem dX0_readAll_1 : decode cX0_readAll 1 = .ok (.getfield 33, 3) := by decide +kernel
theorem dX0_readAll_4 : decode cX0_readAll 4 = .ok (.ifCond .eq 4, 3) := by decide +kernel
theorem dX0_readAll_7 : decode cX0_readAll 7 = .ok (.return_, 1) := by decide +kernel
theorem dX0_readAll_8 : decode cX0_readAll 8 = .ok (.aload_n 0, 1) := by decide +kernel
theorem dX0_readAll_9 : decode cX0_readAll 9 = .ok (.iconst 1, 1) := by decide +kernel
theorem dX0_readAll_10 : decode cX0_readAll 10 = .ok (.putfield 33, 3) := by decide +kernel
theorem dX0_readAll_13 : decode cX0_readAll 13 = .ok (.aload_n 0, 1) := by decide +kernel
theorem dX0_readAll_14 : decode cX0_readAll 14 = .ok (.getfield 44, 3) := by decide +kernel
theorem dX0_readAll_17 : decode cX0_readAll 17 = .ok (.istore_n 1, 1) := by decide +kernel
theorem dX0_readAll_18 : decode cX0_readAll 18 = .ok (.aload_n 0, 1) := by decide +kernel
theorem dX0_readAll_19 : decode cX0_readAll 19 = .ok (.iconst 0, 1) := by decide +kernel
theorem dX0_readAll_20 : decode cX0_readAll 20 = .ok (.putfield 44, 3) := by decide +kernel
theorem dX0_readAll_23 : decode cX0_readAll 23 = .ok (.aload_n 0, 1) := by decide +kernel
theorem dX0_readAll_24 : decode cX0_readAll 24 = .ok (.getfield 20, 3) := by decide +kernel
theorem dX0_readAll_27 : decode cX0_readAll 27 = .ok (.iconst 0, 1) := by decide +kernel
theorem dX0_readAll_28 : decode cX0_readAll 28 = .ok (.invokestatic 58, 3) := by decide +kernel
theorem dX0_readAll_31 : decode cX0_readAll 31 = .ok (.iastore, 1) := by decide +kernel
theorem dX0_readAll_32 : decode cX0_readAll 32 = .ok (.aload_n 0, 1) := by decide +kernel
theorem dX0_readAll_33 : decode cX0_readAll 33 = .ok (.getfield 23, 3) := by decide +kernel
theorem dX0_readAll_36 : decode cX0_readAll 36 = .ok (.iconst 0, 1) := by decide +kernel
theorem dX0_readAll_37 : decode cX0_readAll 37 = .ok (.aload_n 0, 1) := by decide +kernel
theorem dX0_readAll_38 : decode cX0_readAll 38 = .ok (.getfield 37, 3) := by decide +kernel
theorem dX0_readAll_41 : decode cX0_readAll 41 = .ok (.iastore, 1) := by decide +kernel
theorem dX0_readAll_42 : decode cX0_readAll 42 = .ok (.aload_n 0, 1) := by decide +kernel
theorem dX0_readAll_43 : decode cX0_readAll 43 = .ok (.getfield 26, 3) := by decide +kernel
theorem dX0_readAll_46 : decode cX0_readAll 46 = .ok (.iconst 0, 1) := by decide +kernel
theorem dX0_readAll_47 : decode cX0_readAll 47 = .ok (.iconst (-1), 1) := by decide +kernel
theorem dX0_readAll_48 : decode cX0_readAll 48 = .ok (.iastore, 1) := by decide +kernel
theorem dX0_readAll_49 : decode cX0_readAll 49 = .ok (.iconst 0, 1) := by decide +kernel
theorem dX0_readAll_50 : decode cX0_readAll 50 = .ok (.istore_n 2, 1) := by decide +kernel
theorem dX0_readAll_51 : decode cX0_readAll 51 = .ok (.iload_n 2, 1) := by decide +kernel
theorem dX0_readAll_52 : decode cX0_readAll 52 = .ok (.iload_n 1, 1) := by decide +kernel
theorem dX0_readAll_53 : decode cX0_readAll 53 = .ok (.if_icmp .ge 19, 3) := by decide +kernel
theorem dX0_readAll_56 : decode cX0_readAll 56 = .ok (.aload_n 0, 1) := by decide +kernel
theorem dX0_readAll_57 : decode cX0_readAll 57 = .ok (.aload_n 0, 1) := by decide +kernel
theorem dX0_readAll_58 : decode cX0_readAll 58 = .ok (.getfield 16, 3) := by decide +kernel
theorem dX0_readAll_61 : decode cX0_readAll 61 = .ok (.iload_n 2, 1) := by decide +kernel
theorem dX0_readAll_62 : decode cX0_readAll 62 = .ok (.iaload, 1) := by decide +kernel
theorem dX0_readAll_63 : decode cX0_readAll 63 = .ok (.invokevirtual 50, 3) := by decide +kernel
theorem dX0_readAll_66 : decode cX0_readAll 66 = .ok (.iinc 2 1, 3) := by decide +kernel
theorem dX0_readAll_69 : decode cX0_readAll 69 = .ok (.goto (-18), 3) := by decide +kernel
theorem dX0_readAll_72 : decode cX0_readAll 72 = .ok (.return_, 1) := by decide +kernel
abbrev cX0_same : ByteArray := prog_1_method_15_code
def yX0_same : MethodName := ⟨RX0, "same", "()I"⟩
theorem dX0_same_0 : decode cX0_same 0 = .ok (.iconst 0, 1) := by decide +kernel
theorem dX0_same_1 : decode cX0_same 1 = .ok (.istore_n 0, 1) := by decide +kernel
theorem dX0_same_2 : decode cX0_same 2 = .ok (.iconst 0, 1) := by decide +kernel
theorem dX0_same_3 : decode cX0_same 3 = .ok (.istore_n 1, 1) := by decide +kernel
theorem dX0_same_4 : decode cX0_same 4 = .ok (.iload_n 1, 1) := by decide +kernel
theorem dX0_same_5 : decode cX0_same 5 = .ok (.iconst 5, 1) := by decide +kernel
theorem dX0_same_6 : decode cX0_same 6 = .ok (.if_icmp .ge 18, 3) := by decide +kernel
theorem dX0_same_9 : decode cX0_same 9 = .ok (.iload_n 0, 1) := by decide +kernel
theorem dX0_same_10 : decode cX0_same 10 = .ok (.iconst 1, 1) := by decide +kernel
theorem dX0_same_11 : decode cX0_same 11 = .ok (.bipush 6, 2) := by decide +kernel
theorem dX0_same_13 : decode cX0_same 13 = .ok (.iload_n 1, 1) := by decide +kernel
theorem dX0_same_14 : decode cX0_same 14 = .ok (.imul, 1) := by decide +kernel
theorem dX0_same_15 : decode cX0_same 15 = .ok (.ishl, 1) := by decide +kernel
theorem dX0_same_16 : decode cX0_same 16 = .ok (.ior, 1) := by decide +kernel
theorem dX0_same_17 : decode cX0_same 17 = .ok (.istore_n 0, 1) := by decide +kernel
theorem dX0_same_18 : decode cX0_same 18 = .ok (.iinc 1 1, 3) := by decide +kernel
theorem dX0_same_21 : decode cX0_same 21 = .ok (.goto (-17), 3) := by decide +kernel
theorem dX0_same_24 : decode cX0_same 24 = .ok (.iload_n 0, 1) := by decide +kernel
theorem dX0_same_25 : decode cX0_same 25 = .ok (.ireturn, 1) := by decide +kernel
abbrev cX0_add : ByteArray := prog_1_method_16_code
def yX0_add : MethodName := ⟨RX0, "add", "(I)V"⟩
theorem dX0_add_0 : decode cX0_add 0 = .ok (.aload_n 0, 1) := by decide +kernel
theorem dX0_add_1 : decode cX0_add 1 = .ok (.getfield 44, 3) := by decide +kernel
theorem dX0_add_4 : decode cX0_add 4 = .ok (.istore_n 2, 1) := by decide +kernel
theorem dX0_add_5 : decode cX0_add 5 = .ok (.aload_n 0, 1) := by decide +kernel
theorem dX0_add_6 : decode cX0_add 6 = .ok (.getfield 16, 3) := by decide +kernel
theorem dX0_add_9 : decode cX0_add 9 = .ok (.iload_n 2, 1) := by decide +kernel
theorem dX0_add_10 : decode cX0_add 10 = .ok (.iload_n 1, 1) := by decide +kernel
theorem dX0_add_11 : decode cX0_add 11 = .ok (.iastore, 1) := by decide +kernel
theorem dX0_add_12 : decode cX0_add 12 = .ok (.aload_n 0, 1) := by decide +kernel
theorem dX0_add_13 : decode cX0_add 13 = .ok (.dup, 1) := by decide +kernel
theorem dX0_add_14 : decode cX0_add 14 = .ok (.getfield 44, 3) := by decide +kernel
theorem dX0_add_17 : decode cX0_add 17 = .ok (.iconst 1, 1) := by decide +kernel
theorem dX0_add_18 : decode cX0_add 18 = .ok (.iadd, 1) := by decide +kernel
theorem dX0_add_19 : decode cX0_add 19 = .ok (.putfield 44, 3) := by decide +kernel
theorem dX0_add_22 : decode cX0_add 22 = .ok (.iload_n 1, 1) := by decide +kernel
theorem dX0_add_23 : decode cX0_add 23 = .ok (.iconst 4, 1) := by decide +kernel
theorem dX0_add_24 : decode cX0_add 24 = .ok (.if_icmp .lt 62, 3) := by decide +kernel
theorem dX0_add_27 : decode cX0_add 27 = .ok (.aload_n 0, 1) := by decide +kernel
theorem dX0_add_28 : decode cX0_add 28 = .ok (.iload_n 1, 1) := by decide +kernel
theorem dX0_add_29 : decode cX0_add 29 = .ok (.invokevirtual 62, 3) := by decide +kernel
theorem dX0_add_32 : decode cX0_add 32 = .ok (.istore_n 3, 1) := by decide +kernel
theorem dX0_add_33 : decode cX0_add 33 = .ok (.aload_n 0, 1) := by decide +kernel
theorem dX0_add_34 : decode cX0_add 34 = .ok (.getfield 20, 3) := by decide +kernel
theorem dX0_add_37 : decode cX0_add 37 = .ok (.iload_n 2, 1) := by decide +kernel
theorem dX0_add_38 : decode cX0_add 38 = .ok (.iconst 1, 1) := by decide +kernel
theorem dX0_add_39 : decode cX0_add 39 = .ok (.iadd, 1) := by decide +kernel
theorem dX0_add_40 : decode cX0_add 40 = .ok (.aload_n 0, 1) := by decide +kernel
theorem dX0_add_41 : decode cX0_add 41 = .ok (.getfield 20, 3) := by decide +kernel
theorem dX0_add_44 : decode cX0_add 44 = .ok (.iload_n 2, 1) := by decide +kernel
theorem dX0_add_45 : decode cX0_add 45 = .ok (.iaload, 1) := by decide +kernel
theorem dX0_add_46 : decode cX0_add 46 = .ok (.iload_n 3, 1) := by decide +kernel
theorem dX0_add_47 : decode cX0_add 47 = .ok (.invokestatic 65, 3) := by decide +kernel
theorem dX0_add_50 : decode cX0_add 50 = .ok (.iastore, 1) := by decide +kernel
theorem dX0_add_51 : decode cX0_add 51 = .ok (.aload_n 0, 1) := by decide +kernel
theorem dX0_add_52 : decode cX0_add 52 = .ok (.getfield 23, 3) := by decide +kernel
theorem dX0_add_55 : decode cX0_add 55 = .ok (.iload_n 2, 1) := by decide +kernel
theorem dX0_add_56 : decode cX0_add 56 = .ok (.iconst 1, 1) := by decide +kernel
theorem dX0_add_57 : decode cX0_add 57 = .ok (.iadd, 1) := by decide +kernel
theorem dX0_add_58 : decode cX0_add 58 = .ok (.aload_n 0, 1) := by decide +kernel
theorem dX0_add_59 : decode cX0_add 59 = .ok (.getfield 23, 3) := by decide +kernel
theorem dX0_add_62 : decode cX0_add 62 = .ok (.iload_n 2, 1) := by decide +kernel
theorem dX0_add_63 : decode cX0_add 63 = .ok (.iaload, 1) := by decide +kernel
theorem dX0_add_64 : decode cX0_add 64 = .ok (.iload_n 3, 1) := by decide +kernel
theorem dX0_add_65 : decode cX0_add 65 = .ok (.invokestatic 69, 3) := by decide +kernel
theorem dX0_add_68 : decode cX0_add 68 = .ok (.iastore, 1) := by decide +kernel
theorem dX0_add_69 : decode cX0_add 69 = .ok (.aload_n 0, 1) := by decide +kernel
theorem dX0_add_70 : decode cX0_add 70 = .ok (.getfield 26, 3) := by decide +kernel
theorem dX0_add_73 : decode cX0_add 73 = .ok (.iload_n 2, 1) := by decide +kernel
theorem dX0_add_74 : decode cX0_add 74 = .ok (.iconst 1, 1) := by decide +kernel
theorem dX0_add_75 : decode cX0_add 75 = .ok (.iadd, 1) := by decide +kernel
theorem dX0_add_76 : decode cX0_add 76 = .ok (.aload_n 0, 1) := by decide +kernel
theorem dX0_add_77 : decode cX0_add 77 = .ok (.getfield 26, 3) := by decide +kernel
theorem dX0_add_80 : decode cX0_add 80 = .ok (.iload_n 2, 1) := by decide +kernel
theorem dX0_add_81 : decode cX0_add 81 = .ok (.iaload, 1) := by decide +kernel
theorem dX0_add_82 : decode cX0_add 82 = .ok (.iastore, 1) := by decide +kernel
theorem dX0_add_83 : decode cX0_add 83 = .ok (.goto 200, 3) := by decide +kernel
theorem dX0_add_86 : decode cX0_add 86 = .ok (.iload_n 1, 1) := by decide +kernel
theorem dX0_add_87 : decode cX0_add 87 = .ok (.iconst 2, 1) := by decide +kernel
theorem dX0_add_88 : decode cX0_add 88 = .ok (.if_icmp .ge 52, 3) := by decide +kernel
theorem dX0_add_91 : decode cX0_add 91 = .ok (.aload_n 0, 1) := by decide +kernel
theorem dX0_add_92 : decode cX0_add 92 = .ok (.iload_n 1, 1) := by decide +kernel
theorem dX0_add_93 : decode cX0_add 93 = .ok (.bipush 7, 2) := by decide +kernel
theorem dX0_add_95 : decode cX0_add 95 = .ok (.invokevirtual 72, 3) := by decide +kernel
theorem dX0_add_98 : decode cX0_add 98 = .ok (.istore_n 3, 1) := by decide +kernel
theorem dX0_add_99 : decode cX0_add 99 = .ok (.aload_n 0, 1) := by decide +kernel
theorem dX0_add_100 : decode cX0_add 100 = .ok (.getfield 20, 3) := by decide +kernel
theorem dX0_add_103 : decode cX0_add 103 = .ok (.iload_n 2, 1) := by decide +kernel
theorem dX0_add_104 : decode cX0_add 104 = .ok (.iconst 1, 1) := by decide +kernel
theorem dX0_add_105 : decode cX0_add 105 = .ok (.iadd, 1) := by decide +kernel
theorem dX0_add_106 : decode cX0_add 106 = .ok (.invokestatic 58, 3) := by decide +kernel
theorem dX0_add_109 : decode cX0_add 109 = .ok (.iastore, 1) := by decide +kernel
theorem dX0_add_110 : decode cX0_add 110 = .ok (.aload_n 0, 1) := by decide +kernel
theorem dX0_add_111 : decode cX0_add 111 = .ok (.getfield 23, 3) := by decide +kernel
theorem dX0_add_114 : decode cX0_add 114 = .ok (.iload_n 2, 1) := by decide +kernel
theorem dX0_add_115 : decode cX0_add 115 = .ok (.iconst 1, 1) := by decide +kernel
theorem dX0_add_116 : decode cX0_add 116 = .ok (.iadd, 1) := by decide +kernel
theorem dX0_add_117 : decode cX0_add 117 = .ok (.aload_n 0, 1) := by decide +kernel
theorem dX0_add_118 : decode cX0_add 118 = .ok (.getfield 23, 3) := by decide +kernel
theorem dX0_add_121 : decode cX0_add 121 = .ok (.iload_n 2, 1) := by decide +kernel
theorem dX0_add_122 : decode cX0_add 122 = .ok (.iaload, 1) := by decide +kernel
theorem dX0_add_123 : decode cX0_add 123 = .ok (.iload_n 3, 1) := by decide +kernel
theorem dX0_add_124 : decode cX0_add 124 = .ok (.invokestatic 69, 3) := by decide +kernel
theorem dX0_add_127 : decode cX0_add 127 = .ok (.iastore, 1) := by decide +kernel
theorem dX0_add_128 : decode cX0_add 128 = .ok (.aload_n 0, 1) := by decide +kernel
theorem dX0_add_129 : decode cX0_add 129 = .ok (.getfield 26, 3) := by decide +kernel
theorem dX0_add_132 : decode cX0_add 132 = .ok (.iload_n 2, 1) := by decide +kernel
theorem dX0_add_133 : decode cX0_add 133 = .ok (.iconst 1, 1) := by decide +kernel
theorem dX0_add_134 : decode cX0_add 134 = .ok (.iadd, 1) := by decide +kernel
theorem dX0_add_135 : decode cX0_add 135 = .ok (.iload_n 2, 1) := by decide +kernel
theorem dX0_add_136 : decode cX0_add 136 = .ok (.iastore, 1) := by decide +kernel
theorem dX0_add_137 : decode cX0_add 137 = .ok (.goto 146, 3) := by decide +kernel
theorem dX0_add_140 : decode cX0_add 140 = .ok (.aload_n 0, 1) := by decide +kernel
theorem dX0_add_141 : decode cX0_add 141 = .ok (.getfield 26, 3) := by decide +kernel
theorem dX0_add_144 : decode cX0_add 144 = .ok (.iload_n 2, 1) := by decide +kernel
theorem dX0_add_145 : decode cX0_add 145 = .ok (.iaload, 1) := by decide +kernel
theorem dX0_add_146 : decode cX0_add 146 = .ok (.ifCond .ge 59, 3) := by decide +kernel
theorem dX0_add_149 : decode cX0_add 149 = .ok (.aload_n 0, 1) := by decide +kernel
theorem dX0_add_150 : decode cX0_add 150 = .ok (.iload_n 1, 1) := by decide +kernel
theorem dX0_add_151 : decode cX0_add 151 = .ok (.bipush 8, 2) := by decide +kernel
theorem dX0_add_153 : decode cX0_add 153 = .ok (.invokevirtual 72, 3) := by decide +kernel
theorem dX0_add_156 : decode cX0_add 156 = .ok (.istore_n 3, 1) := by decide +kernel
theorem dX0_add_157 : decode cX0_add 157 = .ok (.aload_n 0, 1) := by decide +kernel
theorem dX0_add_158 : decode cX0_add 158 = .ok (.getfield 20, 3) := by decide +kernel
theorem dX0_add_161 : decode cX0_add 161 = .ok (.iload_n 2, 1) := by decide +kernel
theorem dX0_add_162 : decode cX0_add 162 = .ok (.iconst 1, 1) := by decide +kernel
theorem dX0_add_163 : decode cX0_add 163 = .ok (.iadd, 1) := by decide +kernel
theorem dX0_add_164 : decode cX0_add 164 = .ok (.aload_n 0, 1) := by decide +kernel
theorem dX0_add_165 : decode cX0_add 165 = .ok (.getfield 20, 3) := by decide +kernel
theorem dX0_add_168 : decode cX0_add 168 = .ok (.iload_n 2, 1) := by decide +kernel
theorem dX0_add_169 : decode cX0_add 169 = .ok (.iaload, 1) := by decide +kernel
theorem dX0_add_170 : decode cX0_add 170 = .ok (.iload_n 3, 1) := by decide +kernel
theorem dX0_add_171 : decode cX0_add 171 = .ok (.invokestatic 65, 3) := by decide +kernel
theorem dX0_add_174 : decode cX0_add 174 = .ok (.iastore, 1) := by decide +kernel
theorem dX0_add_175 : decode cX0_add 175 = .ok (.aload_n 0, 1) := by decide +kernel
theorem dX0_add_176 : decode cX0_add 176 = .ok (.getfield 23, 3) := by decide +kernel
theorem dX0_add_179 : decode cX0_add 179 = .ok (.iload_n 2, 1) := by decide +kernel
theorem dX0_add_180 : decode cX0_add 180 = .ok (.iconst 1, 1) := by decide +kernel
theorem dX0_add_181 : decode cX0_add 181 = .ok (.iadd, 1) := by decide +kernel
theorem dX0_add_182 : decode cX0_add 182 = .ok (.aload_n 0, 1) := by decide +kernel
theorem dX0_add_183 : decode cX0_add 183 = .ok (.getfield 23, 3) := by decide +kernel
theorem dX0_add_186 : decode cX0_add 186 = .ok (.iload_n 2, 1) := by decide +kernel
theorem dX0_add_187 : decode cX0_add 187 = .ok (.iaload, 1) := by decide +kernel
theorem dX0_add_188 : decode cX0_add 188 = .ok (.iload_n 3, 1) := by decide +kernel
theorem dX0_add_189 : decode cX0_add 189 = .ok (.invokestatic 69, 3) := by decide +kernel
theorem dX0_add_192 : decode cX0_add 192 = .ok (.iastore, 1) := by decide +kernel
theorem dX0_add_193 : decode cX0_add 193 = .ok (.aload_n 0, 1) := by decide +kernel
theorem dX0_add_194 : decode cX0_add 194 = .ok (.getfield 26, 3) := by decide +kernel
theorem dX0_add_197 : decode cX0_add 197 = .ok (.iload_n 2, 1) := by decide +kernel
theorem dX0_add_198 : decode cX0_add 198 = .ok (.iconst 1, 1) := by decide +kernel
theorem dX0_add_199 : decode cX0_add 199 = .ok (.iadd, 1) := by decide +kernel
theorem dX0_add_200 : decode cX0_add 200 = .ok (.iconst (-1), 1) := by decide +kernel
theorem dX0_add_201 : decode cX0_add 201 = .ok (.iastore, 1) := by decide +kernel
theorem dX0_add_202 : decode cX0_add 202 = .ok (.goto 81, 3) := by decide +kernel
theorem dX0_add_205 : decode cX0_add 205 = .ok (.aload_n 0, 1) := by decide +kernel
theorem dX0_add_206 : decode cX0_add 206 = .ok (.getfield 26, 3) := by decide +kernel
theorem dX0_add_209 : decode cX0_add 209 = .ok (.iload_n 2, 1) := by decide +kernel
theorem dX0_add_210 : decode cX0_add 210 = .ok (.iaload, 1) := by decide +kernel
theorem dX0_add_211 : decode cX0_add 211 = .ok (.istore_n 3, 1) := by decide +kernel
theorem dX0_add_212 : decode cX0_add 212 = .ok (.aload_n 0, 1) := by decide +kernel
theorem dX0_add_213 : decode cX0_add 213 = .ok (.aload_n 0, 1) := by decide +kernel
theorem dX0_add_214 : decode cX0_add 214 = .ok (.getfield 16, 3) := by decide +kernel
theorem dX0_add_217 : decode cX0_add 217 = .ok (.iload_n 3, 1) := by decide +kernel
theorem dX0_add_218 : decode cX0_add 218 = .ok (.iaload, 1) := by decide +kernel
theorem dX0_add_219 : decode cX0_add 219 = .ok (.aload_n 0, 1) := by decide +kernel
theorem dX0_add_220 : decode cX0_add 220 = .ok (.getfield 20, 3) := by decide +kernel
theorem dX0_add_223 : decode cX0_add 223 = .ok (.iload_n 2, 1) := by decide +kernel
theorem dX0_add_224 : decode cX0_add 224 = .ok (.iaload, 1) := by decide +kernel
theorem dX0_add_225 : decode cX0_add 225 = .ok (.iload_n 1, 1) := by decide +kernel
theorem dX0_add_226 : decode cX0_add 226 = .ok (.invokevirtual 75, 3) := by decide +kernel
theorem dX0_add_229 : decode cX0_add 229 = .ok (.istore 4, 2) := by decide +kernel
theorem dX0_add_231 : decode cX0_add 231 = .ok (.aload_n 0, 1) := by decide +kernel
theorem dX0_add_232 : decode cX0_add 232 = .ok (.getfield 20, 3) := by decide +kernel
theorem dX0_add_235 : decode cX0_add 235 = .ok (.iload_n 2, 1) := by decide +kernel
theorem dX0_add_236 : decode cX0_add 236 = .ok (.iconst 1, 1) := by decide +kernel
theorem dX0_add_237 : decode cX0_add 237 = .ok (.iadd, 1) := by decide +kernel
theorem dX0_add_238 : decode cX0_add 238 = .ok (.aload_n 0, 1) := by decide +kernel
theorem dX0_add_239 : decode cX0_add 239 = .ok (.getfield 20, 3) := by decide +kernel
theorem dX0_add_242 : decode cX0_add 242 = .ok (.iload_n 3, 1) := by decide +kernel
theorem dX0_add_243 : decode cX0_add 243 = .ok (.iaload, 1) := by decide +kernel
theorem dX0_add_244 : decode cX0_add 244 = .ok (.iload 4, 2) := by decide +kernel
theorem dX0_add_246 : decode cX0_add 246 = .ok (.invokestatic 65, 3) := by decide +kernel
theorem dX0_add_249 : decode cX0_add 249 = .ok (.iastore, 1) := by decide +kernel
theorem dX0_add_250 : decode cX0_add 250 = .ok (.aload_n 0, 1) := by decide +kernel
theorem dX0_add_251 : decode cX0_add 251 = .ok (.getfield 23, 3) := by decide +kernel
theorem dX0_add_254 : decode cX0_add 254 = .ok (.iload_n 2, 1) := by decide +kernel
theorem dX0_add_255 : decode cX0_add 255 = .ok (.iconst 1, 1) := by decide +kernel
theorem dX0_add_256 : decode cX0_add 256 = .ok (.iadd, 1) := by decide +kernel
theorem dX0_add_257 : decode cX0_add 257 = .ok (.aload_n 0, 1) := by decide +kernel
theorem dX0_add_258 : decode cX0_add 258 = .ok (.getfield 23, 3) := by decide +kernel
theorem dX0_add_261 : decode cX0_add 261 = .ok (.iload_n 3, 1) := by decide +kernel
theorem dX0_add_262 : decode cX0_add 262 = .ok (.iaload, 1) := by decide +kernel
theorem dX0_add_263 : decode cX0_add 263 = .ok (.iload 4, 2) := by decide +kernel
theorem dX0_add_265 : decode cX0_add 265 = .ok (.invokestatic 69, 3) := by decide +kernel
theorem dX0_add_268 : decode cX0_add 268 = .ok (.iastore, 1) := by decide +kernel
theorem dX0_add_269 : decode cX0_add 269 = .ok (.aload_n 0, 1) := by decide +kernel
theorem dX0_add_270 : decode cX0_add 270 = .ok (.getfield 26, 3) := by decide +kernel
theorem dX0_add_273 : decode cX0_add 273 = .ok (.iload_n 2, 1) := by decide +kernel
theorem dX0_add_274 : decode cX0_add 274 = .ok (.iconst 1, 1) := by decide +kernel
theorem dX0_add_275 : decode cX0_add 275 = .ok (.iadd, 1) := by decide +kernel
theorem dX0_add_276 : decode cX0_add 276 = .ok (.aload_n 0, 1) := by decide +kernel
theorem dX0_add_277 : decode cX0_add 277 = .ok (.getfield 26, 3) := by decide +kernel
theorem dX0_add_280 : decode cX0_add 280 = .ok (.iload_n 3, 1) := by decide +kernel
theorem dX0_add_281 : decode cX0_add 281 = .ok (.iaload, 1) := by decide +kernel
theorem dX0_add_282 : decode cX0_add 282 = .ok (.iastore, 1) := by decide +kernel
theorem dX0_add_283 : decode cX0_add 283 = .ok (.return_, 1) := by decide +kernel
abbrev cX0_plainSteps : ByteArray := prog_1_method_17_code
def yX0_plainSteps : MethodName := ⟨RX0, "plainSteps", "(I)I"⟩
theorem dX0_plainSteps_0 : decode cX0_plainSteps 0 = .ok (.iconst 0, 1) := by decide +kernel
theorem dX0_plainSteps_1 : decode cX0_plainSteps 1 = .ok (.istore_n 2, 1) := by decide +kernel
theorem dX0_plainSteps_2 : decode cX0_plainSteps 2 = .ok (.iconst 0, 1) := by decide +kernel
theorem dX0_plainSteps_3 : decode cX0_plainSteps 3 = .ok (.istore_n 3, 1) := by decide +kernel
theorem dX0_plainSteps_4 : decode cX0_plainSteps 4 = .ok (.iload_n 3, 1) := by decide +kernel
theorem dX0_plainSteps_5 : decode cX0_plainSteps 5 = .ok (.bipush 25, 2) := by decide +kernel
theorem dX0_plainSteps_7 : decode cX0_plainSteps 7 = .ok (.if_icmp .ge 35, 3) := by decide +kernel
theorem dX0_plainSteps_10 : decode cX0_plainSteps 10 = .ok (.iload_n 2, 1) := by decide +kernel
theorem dX0_plainSteps_11 : decode cX0_plainSteps 11 = .ok (.aload_n 0, 1) := by decide +kernel
theorem dX0_plainSteps_12 : decode cX0_plainSteps 12 = .ok (.getfield 13, 3) := by decide +kernel
theorem dX0_plainSteps_15 : decode cX0_plainSteps 15 = .ok (.bipush 25, 2) := by decide +kernel
theorem dX0_plainSteps_17 : decode cX0_plainSteps 17 = .ok (.iload_n 1, 1) := by decide +kernel
theorem dX0_plainSteps_18 : decode cX0_plainSteps 18 = .ok (.iconst 4, 1) := by decide +kernel
theorem dX0_plainSteps_19 : decode cX0_plainSteps 19 = .ok (.isub, 1) := by decide +kernel
theorem dX0_plainSteps_20 : decode cX0_plainSteps 20 = .ok (.imul, 1) := by decide +kernel
theorem dX0_plainSteps_21 : decode cX0_plainSteps 21 = .ok (.iload_n 3, 1) := by decide +kernel
theorem dX0_plainSteps_22 : decode cX0_plainSteps 22 = .ok (.iadd, 1) := by decide +kernel
theorem dX0_plainSteps_23 : decode cX0_plainSteps 23 = .ok (.baload, 1) := by decide +kernel
theorem dX0_plainSteps_24 : decode cX0_plainSteps 24 = .ok (.ifCond .eq 9, 3) := by decide +kernel
theorem dX0_plainSteps_27 : decode cX0_plainSteps 27 = .ok (.iconst 1, 1) := by decide +kernel
theorem dX0_plainSteps_28 : decode cX0_plainSteps 28 = .ok (.iload_n 3, 1) := by decide +kernel
theorem dX0_plainSteps_29 : decode cX0_plainSteps 29 = .ok (.ishl, 1) := by decide +kernel
theorem dX0_plainSteps_30 : decode cX0_plainSteps 30 = .ok (.goto 4, 3) := by decide +kernel
theorem dX0_plainSteps_33 : decode cX0_plainSteps 33 = .ok (.iconst 0, 1) := by decide +kernel
theorem dX0_plainSteps_34 : decode cX0_plainSteps 34 = .ok (.ior, 1) := by decide +kernel
theorem dX0_plainSteps_35 : decode cX0_plainSteps 35 = .ok (.istore_n 2, 1) := by decide +kernel
theorem dX0_plainSteps_36 : decode cX0_plainSteps 36 = .ok (.iinc 3 1, 3) := by decide +kernel
theorem dX0_plainSteps_39 : decode cX0_plainSteps 39 = .ok (.goto (-35), 3) := by decide +kernel
theorem dX0_plainSteps_42 : decode cX0_plainSteps 42 = .ok (.iload_n 2, 1) := by decide +kernel
theorem dX0_plainSteps_43 : decode cX0_plainSteps 43 = .ok (.ireturn, 1) := by decide +kernel
abbrev cX0_join : ByteArray := prog_1_method_20_code
def yX0_join : MethodName := ⟨RX0, "join", "(II)I"⟩
theorem dX0_join_0 : decode cX0_join 0 = .ok (.iconst 0, 1) := by decide +kernel
theorem dX0_join_1 : decode cX0_join 1 = .ok (.istore_n 2, 1) := by decide +kernel
theorem dX0_join_2 : decode cX0_join 2 = .ok (.iconst 0, 1) := by decide +kernel
theorem dX0_join_3 : decode cX0_join 3 = .ok (.istore_n 3, 1) := by decide +kernel
theorem dX0_join_4 : decode cX0_join 4 = .ok (.iload_n 3, 1) := by decide +kernel
theorem dX0_join_5 : decode cX0_join 5 = .ok (.iconst 5, 1) := by decide +kernel
theorem dX0_join_6 : decode cX0_join 6 = .ok (.if_icmp .ge 32, 3) := by decide +kernel
theorem dX0_join_9 : decode cX0_join 9 = .ok (.iload_n 0, 1) := by decide +kernel
theorem dX0_join_10 : decode cX0_join 10 = .ok (.iconst 5, 1) := by decide +kernel
theorem dX0_join_11 : decode cX0_join 11 = .ok (.iload_n 3, 1) := by decide +kernel
theorem dX0_join_12 : decode cX0_join 12 = .ok (.imul, 1) := by decide +kernel
theorem dX0_join_13 : decode cX0_join 13 = .ok (.iushr, 1) := by decide +kernel
theorem dX0_join_14 : decode cX0_join 14 = .ok (.bipush 31, 2) := by decide +kernel
theorem dX0_join_16 : decode cX0_join 16 = .ok (.iand, 1) := by decide +kernel
theorem dX0_join_17 : decode cX0_join 17 = .ok (.istore 4, 2) := by decide +kernel
theorem dX0_join_19 : decode cX0_join 19 = .ok (.iload_n 2, 1) := by decide +kernel
theorem dX0_join_20 : decode cX0_join 20 = .ok (.iload 4, 2) := by decide +kernel
theorem dX0_join_22 : decode cX0_join 22 = .ok (.iload_n 1, 1) := by decide +kernel
theorem dX0_join_23 : decode cX0_join 23 = .ok (.invokestatic 69, 3) := by decide +kernel
theorem dX0_join_26 : decode cX0_join 26 = .ok (.iconst 5, 1) := by decide +kernel
theorem dX0_join_27 : decode cX0_join 27 = .ok (.iload_n 3, 1) := by decide +kernel
theorem dX0_join_28 : decode cX0_join 28 = .ok (.imul, 1) := by decide +kernel
theorem dX0_join_29 : decode cX0_join 29 = .ok (.ishl, 1) := by decide +kernel
theorem dX0_join_30 : decode cX0_join 30 = .ok (.ior, 1) := by decide +kernel
theorem dX0_join_31 : decode cX0_join 31 = .ok (.istore_n 2, 1) := by decide +kernel
theorem dX0_join_32 : decode cX0_join 32 = .ok (.iinc 3 1, 3) := by decide +kernel
theorem dX0_join_35 : decode cX0_join 35 = .ok (.goto (-31), 3) := by decide +kernel
theorem dX0_join_38 : decode cX0_join 38 = .ok (.iload_n 2, 1) := by decide +kernel
theorem dX0_join_39 : decode cX0_join 39 = .ok (.ireturn, 1) := by decide +kernel
abbrev cX0_lead : ByteArray := prog_1_method_21_code
def yX0_lead : MethodName := ⟨RX0, "lead", "(II)I"⟩
theorem dX0_lead_0 : decode cX0_lead 0 = .ok (.iconst 0, 1) := by decide +kernel
theorem dX0_lead_1 : decode cX0_lead 1 = .ok (.istore_n 2, 1) := by decide +kernel
theorem dX0_lead_2 : decode cX0_lead 2 = .ok (.iconst 0, 1) := by decide +kernel
theorem dX0_lead_3 : decode cX0_lead 3 = .ok (.istore_n 3, 1) := by decide +kernel
theorem dX0_lead_4 : decode cX0_lead 4 = .ok (.iload_n 3, 1) := by decide +kernel
theorem dX0_lead_5 : decode cX0_lead 5 = .ok (.iconst 5, 1) := by decide +kernel
theorem dX0_lead_6 : decode cX0_lead 6 = .ok (.if_icmp .ge 32, 3) := by decide +kernel
theorem dX0_lead_9 : decode cX0_lead 9 = .ok (.iload_n 2, 1) := by decide +kernel
theorem dX0_lead_10 : decode cX0_lead 10 = .ok (.iload_n 0, 1) := by decide +kernel
theorem dX0_lead_11 : decode cX0_lead 11 = .ok (.iload_n 3, 1) := by decide +kernel
theorem dX0_lead_12 : decode cX0_lead 12 = .ok (.iushr, 1) := by decide +kernel
theorem dX0_lead_13 : decode cX0_lead 13 = .ok (.iconst 1, 1) := by decide +kernel
theorem dX0_lead_14 : decode cX0_lead 14 = .ok (.iand, 1) := by decide +kernel
theorem dX0_lead_15 : decode cX0_lead 15 = .ok (.ifCond .eq 14, 3) := by decide +kernel
theorem dX0_lead_18 : decode cX0_lead 18 = .ok (.iload_n 1, 1) := by decide +kernel
theorem dX0_lead_19 : decode cX0_lead 19 = .ok (.iconst 5, 1) := by decide +kernel
theorem dX0_lead_20 : decode cX0_lead 20 = .ok (.iload_n 3, 1) := by decide +kernel
theorem dX0_lead_21 : decode cX0_lead 21 = .ok (.imul, 1) := by decide +kernel
theorem dX0_lead_22 : decode cX0_lead 22 = .ok (.iushr, 1) := by decide +kernel
theorem dX0_lead_23 : decode cX0_lead 23 = .ok (.bipush 31, 2) := by decide +kernel
theorem dX0_lead_25 : decode cX0_lead 25 = .ok (.iand, 1) := by decide +kernel
theorem dX0_lead_26 : decode cX0_lead 26 = .ok (.goto 4, 3) := by decide +kernel
theorem dX0_lead_29 : decode cX0_lead 29 = .ok (.iconst 0, 1) := by decide +kernel
theorem dX0_lead_30 : decode cX0_lead 30 = .ok (.ior, 1) := by decide +kernel
theorem dX0_lead_31 : decode cX0_lead 31 = .ok (.istore_n 2, 1) := by decide +kernel
theorem dX0_lead_32 : decode cX0_lead 32 = .ok (.iinc 3 1, 3) := by decide +kernel
theorem dX0_lead_35 : decode cX0_lead 35 = .ok (.goto (-31), 3) := by decide +kernel
theorem dX0_lead_38 : decode cX0_lead 38 = .ok (.iload_n 2, 1) := by decide +kernel
theorem dX0_lead_39 : decode cX0_lead 39 = .ok (.ireturn, 1) := by decide +kernel
abbrev cX0_stackSteps : ByteArray := prog_1_method_18_code
def yX0_stackSteps : MethodName := ⟨RX0, "stackSteps", "(II)I"⟩
theorem dX0_stackSteps_0 : decode cX0_stackSteps 0 = .ok (.iconst 0, 1) := by decide +kernel
theorem dX0_stackSteps_1 : decode cX0_stackSteps 1 = .ok (.istore_n 3, 1) := by decide +kernel
theorem dX0_stackSteps_2 : decode cX0_stackSteps 2 = .ok (.iconst 0, 1) := by decide +kernel
theorem dX0_stackSteps_3 : decode cX0_stackSteps 3 = .ok (.istore 4, 2) := by decide +kernel
theorem dX0_stackSteps_5 : decode cX0_stackSteps 5 = .ok (.iload 4, 2) := by decide +kernel
theorem dX0_stackSteps_7 : decode cX0_stackSteps 7 = .ok (.bipush 25, 2) := by decide +kernel
theorem dX0_stackSteps_9 : decode cX0_stackSteps 9 = .ok (.if_icmp .ge 64, 3) := by decide +kernel
theorem dX0_stackSteps_12 : decode cX0_stackSteps 12 = .ok (.iconst 0, 1) := by decide +kernel
theorem dX0_stackSteps_13 : decode cX0_stackSteps 13 = .ok (.istore 5, 2) := by decide +kernel
theorem dX0_stackSteps_15 : decode cX0_stackSteps 15 = .ok (.iload 5, 2) := by decide +kernel
theorem dX0_stackSteps_17 : decode cX0_stackSteps 17 = .ok (.iconst 4, 1) := by decide +kernel
theorem dX0_stackSteps_18 : decode cX0_stackSteps 18 = .ok (.if_icmp .ge 49, 3) := by decide +kernel
theorem dX0_stackSteps_21 : decode cX0_stackSteps 21 = .ok (.iload_n 3, 1) := by decide +kernel
theorem dX0_stackSteps_22 : decode cX0_stackSteps 22 = .ok (.iload_n 2, 1) := by decide +kernel
theorem dX0_stackSteps_23 : decode cX0_stackSteps 23 = .ok (.iload 5, 2) := by decide +kernel
theorem dX0_stackSteps_25 : decode cX0_stackSteps 25 = .ok (.iushr, 1) := by decide +kernel
theorem dX0_stackSteps_26 : decode cX0_stackSteps 26 = .ok (.iconst 1, 1) := by decide +kernel
theorem dX0_stackSteps_27 : decode cX0_stackSteps 27 = .ok (.iand, 1) := by decide +kernel
theorem dX0_stackSteps_28 : decode cX0_stackSteps 28 = .ok (.ifCond .eq 30, 3) := by decide +kernel
theorem dX0_stackSteps_31 : decode cX0_stackSteps 31 = .ok (.aload_n 0, 1) := by decide +kernel
theorem dX0_stackSteps_32 : decode cX0_stackSteps 32 = .ok (.getfield 7, 3) := by decide +kernel
theorem dX0_stackSteps_35 : decode cX0_stackSteps 35 = .ok (.bipush 100, 2) := by decide +kernel
theorem dX0_stackSteps_37 : decode cX0_stackSteps 37 = .ok (.iload_n 1, 1) := by decide +kernel
theorem dX0_stackSteps_38 : decode cX0_stackSteps 38 = .ok (.imul, 1) := by decide +kernel
theorem dX0_stackSteps_39 : decode cX0_stackSteps 39 = .ok (.iconst 4, 1) := by decide +kernel
theorem dX0_stackSteps_40 : decode cX0_stackSteps 40 = .ok (.iload 4, 2) := by decide +kernel
theorem dX0_stackSteps_42 : decode cX0_stackSteps 42 = .ok (.imul, 1) := by decide +kernel
theorem dX0_stackSteps_43 : decode cX0_stackSteps 43 = .ok (.iadd, 1) := by decide +kernel
theorem dX0_stackSteps_44 : decode cX0_stackSteps 44 = .ok (.iload 5, 2) := by decide +kernel
theorem dX0_stackSteps_46 : decode cX0_stackSteps 46 = .ok (.iadd, 1) := by decide +kernel
theorem dX0_stackSteps_47 : decode cX0_stackSteps 47 = .ok (.baload, 1) := by decide +kernel
theorem dX0_stackSteps_48 : decode cX0_stackSteps 48 = .ok (.ifCond .eq 10, 3) := by decide +kernel
theorem dX0_stackSteps_51 : decode cX0_stackSteps 51 = .ok (.iconst 1, 1) := by decide +kernel
theorem dX0_stackSteps_52 : decode cX0_stackSteps 52 = .ok (.iload 4, 2) := by decide +kernel
theorem dX0_stackSteps_54 : decode cX0_stackSteps 54 = .ok (.ishl, 1) := by decide +kernel
theorem dX0_stackSteps_55 : decode cX0_stackSteps 55 = .ok (.goto 4, 3) := by decide +kernel
theorem dX0_stackSteps_58 : decode cX0_stackSteps 58 = .ok (.iconst 0, 1) := by decide +kernel
theorem dX0_stackSteps_59 : decode cX0_stackSteps 59 = .ok (.ior, 1) := by decide +kernel
theorem dX0_stackSteps_60 : decode cX0_stackSteps 60 = .ok (.istore_n 3, 1) := by decide +kernel
theorem dX0_stackSteps_61 : decode cX0_stackSteps 61 = .ok (.iinc 5 1, 3) := by decide +kernel
theorem dX0_stackSteps_64 : decode cX0_stackSteps 64 = .ok (.goto (-49), 3) := by decide +kernel
theorem dX0_stackSteps_67 : decode cX0_stackSteps 67 = .ok (.iinc 4 1, 3) := by decide +kernel
theorem dX0_stackSteps_70 : decode cX0_stackSteps 70 = .ok (.goto (-65), 3) := by decide +kernel
theorem dX0_stackSteps_73 : decode cX0_stackSteps 73 = .ok (.iload_n 3, 1) := by decide +kernel
theorem dX0_stackSteps_74 : decode cX0_stackSteps 74 = .ok (.ireturn, 1) := by decide +kernel
abbrev cX0_closedSteps : ByteArray := prog_1_method_19_code
def yX0_closedSteps : MethodName := ⟨RX0, "closedSteps", "(III)I"⟩
theorem dX0_closedSteps_0 : decode cX0_closedSteps 0 = .ok (.iconst 0, 1) := by decide +kernel
theorem dX0_closedSteps_1 : decode cX0_closedSteps 1 = .ok (.istore 4, 2) := by decide +kernel
theorem dX0_closedSteps_3 : decode cX0_closedSteps 3 = .ok (.iconst 0, 1) := by decide +kernel
theorem dX0_closedSteps_4 : decode cX0_closedSteps 4 = .ok (.istore 5, 2) := by decide +kernel
theorem dX0_closedSteps_6 : decode cX0_closedSteps 6 = .ok (.iload 5, 2) := by decide +kernel
theorem dX0_closedSteps_8 : decode cX0_closedSteps 8 = .ok (.iconst 3, 1) := by decide +kernel
theorem dX0_closedSteps_9 : decode cX0_closedSteps 9 = .ok (.if_icmp .ge 51, 3) := by decide +kernel
theorem dX0_closedSteps_12 : decode cX0_closedSteps 12 = .ok (.aload_n 0, 1) := by decide +kernel
theorem dX0_closedSteps_13 : decode cX0_closedSteps 13 = .ok (.iload_n 1, 1) := by decide +kernel
theorem dX0_closedSteps_14 : decode cX0_closedSteps 14 = .ok (.iconst 1, 1) := by decide +kernel
theorem dX0_closedSteps_15 : decode cX0_closedSteps 15 = .ok (.iload 5, 2) := by decide +kernel
theorem dX0_closedSteps_17 : decode cX0_closedSteps 17 = .ok (.ishl, 1) := by decide +kernel
theorem dX0_closedSteps_18 : decode cX0_closedSteps 18 = .ok (.invokevirtual 72, 3) := by decide +kernel
theorem dX0_closedSteps_21 : decode cX0_closedSteps 21 = .ok (.istore 6, 2) := by decide +kernel
theorem dX0_closedSteps_23 : decode cX0_closedSteps 23 = .ok (.aload_n 0, 1) := by decide +kernel
theorem dX0_closedSteps_24 : decode cX0_closedSteps 24 = .ok (.iload_n 3, 1) := by decide +kernel
theorem dX0_closedSteps_25 : decode cX0_closedSteps 25 = .ok (.iconst 1, 1) := by decide +kernel
theorem dX0_closedSteps_26 : decode cX0_closedSteps 26 = .ok (.iload 5, 2) := by decide +kernel
theorem dX0_closedSteps_28 : decode cX0_closedSteps 28 = .ok (.ishl, 1) := by decide +kernel
theorem dX0_closedSteps_29 : decode cX0_closedSteps 29 = .ok (.invokevirtual 72, 3) := by decide +kernel
theorem dX0_closedSteps_32 : decode cX0_closedSteps 32 = .ok (.istore 7, 2) := by decide +kernel
theorem dX0_closedSteps_34 : decode cX0_closedSteps 34 = .ok (.iload 6, 2) := by decide +kernel
theorem dX0_closedSteps_36 : decode cX0_closedSteps 36 = .ok (.iload_n 2, 1) := by decide +kernel
theorem dX0_closedSteps_37 : decode cX0_closedSteps 37 = .ok (.invokestatic 65, 3) := by decide +kernel
theorem dX0_closedSteps_40 : decode cX0_closedSteps 40 = .ok (.istore 8, 2) := by decide +kernel
theorem dX0_closedSteps_42 : decode cX0_closedSteps 42 = .ok (.iload 4, 2) := by decide +kernel
theorem dX0_closedSteps_44 : decode cX0_closedSteps 44 = .ok (.iload 8, 2) := by decide +kernel
theorem dX0_closedSteps_46 : decode cX0_closedSteps 46 = .ok (.iload 7, 2) := by decide +kernel
theorem dX0_closedSteps_48 : decode cX0_closedSteps 48 = .ok (.invokestatic 65, 3) := by decide +kernel
theorem dX0_closedSteps_51 : decode cX0_closedSteps 51 = .ok (.ior, 1) := by decide +kernel
theorem dX0_closedSteps_52 : decode cX0_closedSteps 52 = .ok (.istore 4, 2) := by decide +kernel
theorem dX0_closedSteps_54 : decode cX0_closedSteps 54 = .ok (.iinc 5 1, 3) := by decide +kernel
theorem dX0_closedSteps_57 : decode cX0_closedSteps 57 = .ok (.goto (-51), 3) := by decide +kernel
theorem dX0_closedSteps_60 : decode cX0_closedSteps 60 = .ok (.iload 4, 2) := by decide +kernel
theorem dX0_closedSteps_62 : decode cX0_closedSteps 62 = .ok (.ireturn, 1) := by decide +kernel
abbrev cX0_ones : ByteArray := prog_1_method_13_code
def yX0_ones : MethodName := ⟨RX0, "ones", "(I)I"⟩
theorem dX0_ones_0 : decode cX0_ones 0 = .ok (.iconst 0, 1) := by decide +kernel
theorem dX0_ones_1 : decode cX0_ones 1 = .ok (.istore_n 1, 1) := by decide +kernel
theorem dX0_ones_2 : decode cX0_ones 2 = .ok (.iconst 0, 1) := by decide +kernel
theorem dX0_ones_3 : decode cX0_ones 3 = .ok (.istore_n 2, 1) := by decide +kernel
theorem dX0_ones_4 : decode cX0_ones 4 = .ok (.iload_n 2, 1) := by decide +kernel
theorem dX0_ones_5 : decode cX0_ones 5 = .ok (.iconst 5, 1) := by decide +kernel
theorem dX0_ones_6 : decode cX0_ones 6 = .ok (.if_icmp .ge 17, 3) := by decide +kernel
theorem dX0_ones_9 : decode cX0_ones 9 = .ok (.iload_n 1, 1) := by decide +kernel
theorem dX0_ones_10 : decode cX0_ones 10 = .ok (.iload_n 0, 1) := by decide +kernel
theorem dX0_ones_11 : decode cX0_ones 11 = .ok (.iload_n 2, 1) := by decide +kernel
theorem dX0_ones_12 : decode cX0_ones 12 = .ok (.iushr, 1) := by decide +kernel
theorem dX0_ones_13 : decode cX0_ones 13 = .ok (.iconst 1, 1) := by decide +kernel
theorem dX0_ones_14 : decode cX0_ones 14 = .ok (.iand, 1) := by decide +kernel
theorem dX0_ones_15 : decode cX0_ones 15 = .ok (.iadd, 1) := by decide +kernel
theorem dX0_ones_16 : decode cX0_ones 16 = .ok (.istore_n 1, 1) := by decide +kernel
theorem dX0_ones_17 : decode cX0_ones 17 = .ok (.iinc 2 1, 3) := by decide +kernel
theorem dX0_ones_20 : decode cX0_ones 20 = .ok (.goto (-16), 3) := by decide +kernel
theorem dX0_ones_23 : decode cX0_ones 23 = .ok (.iload_n 1, 1) := by decide +kernel
theorem dX0_ones_24 : decode cX0_ones 24 = .ok (.ireturn, 1) := by decide +kernel
abbrev cX0_back : ByteArray := prog_1_method_5_code
def yX0_back : MethodName := ⟨RX0, "back", "()I"⟩
theorem dX0_back_0 : decode cX0_back 0 = .ok (.aload_n 0, 1) := by decide +kernel
theorem dX0_back_1 : decode cX0_back 1 = .ok (.getfield 44, 3) := by decide +kernel
theorem dX0_back_4 : decode cX0_back 4 = .ok (.ifCond .ne 5, 3) := by decide +kernel
theorem dX0_back_7 : decode cX0_back 7 = .ok (.iconst (-1), 1) := by decide +kernel
theorem dX0_back_8 : decode cX0_back 8 = .ok (.ireturn, 1) := by decide +kernel
theorem dX0_back_9 : decode cX0_back 9 = .ok (.aload_n 0, 1) := by decide +kernel
theorem dX0_back_10 : decode cX0_back 10 = .ok (.dup, 1) := by decide +kernel
theorem dX0_back_11 : decode cX0_back 11 = .ok (.getfield 44, 3) := by decide +kernel
theorem dX0_back_14 : decode cX0_back 14 = .ok (.iconst 1, 1) := by decide +kernel
theorem dX0_back_15 : decode cX0_back 15 = .ok (.isub, 1) := by decide +kernel
theorem dX0_back_16 : decode cX0_back 16 = .ok (.putfield 44, 3) := by decide +kernel
theorem dX0_back_19 : decode cX0_back 19 = .ok (.aload_n 0, 1) := by decide +kernel
theorem dX0_back_20 : decode cX0_back 20 = .ok (.getfield 16, 3) := by decide +kernel
theorem dX0_back_23 : decode cX0_back 23 = .ok (.aload_n 0, 1) := by decide +kernel
theorem dX0_back_24 : decode cX0_back 24 = .ok (.getfield 44, 3) := by decide +kernel
theorem dX0_back_27 : decode cX0_back 27 = .ok (.iaload, 1) := by decide +kernel
theorem dX0_back_28 : decode cX0_back 28 = .ok (.ireturn, 1) := by decide +kernel
abbrev cX0_erase : ByteArray := prog_1_method_6_code
def yX0_erase : MethodName := ⟨RX0, "erase", "()V"⟩
theorem dX0_erase_0 : decode cX0_erase 0 = .ok (.aload_n 0, 1) := by decide +kernel
theorem dX0_erase_1 : decode cX0_erase 1 = .ok (.iconst 0, 1) := by decide +kernel
theorem dX0_erase_2 : decode cX0_erase 2 = .ok (.putfield 44, 3) := by decide +kernel
theorem dX0_erase_5 : decode cX0_erase 5 = .ok (.return_, 1) := by decide +kernel
abbrev cX0_live : ByteArray := prog_1_method_7_code
def yX0_live : MethodName := ⟨RX0, "live", "()I"⟩
theorem dX0_live_0 : decode cX0_live 0 = .ok (.aload_n 0, 1) := by decide +kernel
theorem dX0_live_1 : decode cX0_live 1 = .ok (.invokevirtual 47, 3) := by decide +kernel
theorem dX0_live_4 : decode cX0_live 4 = .ok (.aload_n 0, 1) := by decide +kernel
theorem dX0_live_5 : decode cX0_live 5 = .ok (.getfield 23, 3) := by decide +kernel
theorem dX0_live_8 : decode cX0_live 8 = .ok (.aload_n 0, 1) := by decide +kernel
theorem dX0_live_9 : decode cX0_live 9 = .ok (.getfield 44, 3) := by decide +kernel
theorem dX0_live_12 : decode cX0_live 12 = .ok (.iaload, 1) := by decide +kernel
theorem dX0_live_13 : decode cX0_live 13 = .ok (.ireturn, 1) := by decide +kernel
abbrev cX0_accepted : ByteArray := prog_1_method_8_code
def yX0_accepted : MethodName := ⟨RX0, "accepted", "()I"⟩
theorem dX0_accepted_0 : decode cX0_accepted 0 = .ok (.aload_n 0, 1) := by decide +kernel
theorem dX0_accepted_1 : decode cX0_accepted 1 = .ok (.invokevirtual 47, 3) := by decide +kernel
theorem dX0_accepted_4 : decode cX0_accepted 4 = .ok (.aload_n 0, 1) := by decide +kernel
theorem dX0_accepted_5 : decode cX0_accepted 5 = .ok (.getfield 23, 3) := by decide +kernel
theorem dX0_accepted_8 : decode cX0_accepted 8 = .ok (.aload_n 0, 1) := by decide +kernel
theorem dX0_accepted_9 : decode cX0_accepted 9 = .ok (.getfield 44, 3) := by decide +kernel
theorem dX0_accepted_12 : decode cX0_accepted 12 = .ok (.iaload, 1) := by decide +kernel
theorem dX0_accepted_13 : decode cX0_accepted 13 = .ok (.aload_n 0, 1) := by decide +kernel
theorem dX0_accepted_14 : decode cX0_accepted 14 = .ok (.getfield 41, 3) := by decide +kernel
theorem dX0_accepted_17 : decode cX0_accepted 17 = .ok (.iand, 1) := by decide +kernel
theorem dX0_accepted_18 : decode cX0_accepted 18 = .ok (.ifCond .eq 7, 3) := by decide +kernel
theorem dX0_accepted_21 : decode cX0_accepted 21 = .ok (.iconst 1, 1) := by decide +kernel
theorem dX0_accepted_22 : decode cX0_accepted 22 = .ok (.goto 4, 3) := by decide +kernel
theorem dX0_accepted_25 : decode cX0_accepted 25 = .ok (.iconst 0, 1) := by decide +kernel
theorem dX0_accepted_26 : decode cX0_accepted 26 = .ok (.ireturn, 1) := by decide +kernel
abbrev cX0_open : ByteArray := prog_1_method_9_code
def yX0_open : MethodName := ⟨RX0, "open", "()I"⟩
theorem dX0_open_0 : decode cX0_open 0 = .ok (.aload_n 0, 1) := by decide +kernel
theorem dX0_open_1 : decode cX0_open 1 = .ok (.invokevirtual 47, 3) := by decide +kernel
theorem dX0_open_4 : decode cX0_open 4 = .ok (.iconst 0, 1) := by decide +kernel
theorem dX0_open_5 : decode cX0_open 5 = .ok (.istore_n 1, 1) := by decide +kernel
theorem dX0_open_6 : decode cX0_open 6 = .ok (.aload_n 0, 1) := by decide +kernel
theorem dX0_open_7 : decode cX0_open 7 = .ok (.getfield 26, 3) := by decide +kernel
theorem dX0_open_10 : decode cX0_open 10 = .ok (.aload_n 0, 1) := by decide +kernel
theorem dX0_open_11 : decode cX0_open 11 = .ok (.getfield 44, 3) := by decide +kernel
theorem dX0_open_14 : decode cX0_open 14 = .ok (.iaload, 1) := by decide +kernel
theorem dX0_open_15 : decode cX0_open 15 = .ok (.istore_n 2, 1) := by decide +kernel
theorem dX0_open_16 : decode cX0_open 16 = .ok (.iconst 0, 1) := by decide +kernel
theorem dX0_open_17 : decode cX0_open 17 = .ok (.istore_n 3, 1) := by decide +kernel
theorem dX0_open_18 : decode cX0_open 18 = .ok (.iload_n 3, 1) := by decide +kernel
theorem dX0_open_19 : decode cX0_open 19 = .ok (.bipush 16, 2) := by decide +kernel
theorem dX0_open_21 : decode cX0_open 21 = .ok (.if_icmp .ge 23, 3) := by decide +kernel
theorem dX0_open_24 : decode cX0_open 24 = .ok (.iload_n 2, 1) := by decide +kernel
theorem dX0_open_25 : decode cX0_open 25 = .ok (.ifCond .lt 19, 3) := by decide +kernel
theorem dX0_open_28 : decode cX0_open 28 = .ok (.iinc 1 1, 3) := by decide +kernel
theorem dX0_open_31 : decode cX0_open 31 = .ok (.aload_n 0, 1) := by decide +kernel
theorem dX0_open_32 : decode cX0_open 32 = .ok (.getfield 26, 3) := by decide +kernel
theorem dX0_open_35 : decode cX0_open 35 = .ok (.iload_n 2, 1) := by decide +kernel
theorem dX0_open_36 : decode cX0_open 36 = .ok (.iaload, 1) := by decide +kernel
theorem dX0_open_37 : decode cX0_open 37 = .ok (.istore_n 2, 1) := by decide +kernel
theorem dX0_open_38 : decode cX0_open 38 = .ok (.iinc 3 1, 3) := by decide +kernel
theorem dX0_open_41 : decode cX0_open 41 = .ok (.goto (-23), 3) := by decide +kernel
theorem dX0_open_44 : decode cX0_open 44 = .ok (.iload_n 1, 1) := by decide +kernel
theorem dX0_open_45 : decode cX0_open 45 = .ok (.ireturn, 1) := by decide +kernel
abbrev cX0_next : ByteArray := prog_1_method_10_code
def yX0_next : MethodName := ⟨RX0, "next", "()I"⟩
theorem dX0_next_0 : decode cX0_next 0 = .ok (.aload_n 0, 1) := by decide +kernel
theorem dX0_next_1 : decode cX0_next 1 = .ok (.invokevirtual 47, 3) := by decide +kernel
theorem dX0_next_4 : decode cX0_next 4 = .ok (.iconst 0, 1) := by decide +kernel
theorem dX0_next_5 : decode cX0_next 5 = .ok (.istore_n 1, 1) := by decide +kernel
theorem dX0_next_6 : decode cX0_next 6 = .ok (.iconst 0, 1) := by decide +kernel
theorem dX0_next_7 : decode cX0_next 7 = .ok (.istore_n 2, 1) := by decide +kernel
theorem dX0_next_8 : decode cX0_next 8 = .ok (.iload_n 2, 1) := by decide +kernel
theorem dX0_next_9 : decode cX0_next 9 = .ok (.bipush 6, 2) := by decide +kernel
theorem dX0_next_11 : decode cX0_next 11 = .ok (.if_icmp .ge 46, 3) := by decide +kernel
theorem dX0_next_14 : decode cX0_next 14 = .ok (.aload_n 0, 1) := by decide +kernel
theorem dX0_next_15 : decode cX0_next 15 = .ok (.iload_n 2, 1) := by decide +kernel
theorem dX0_next_16 : decode cX0_next 16 = .ok (.invokevirtual 50, 3) := by decide +kernel
theorem dX0_next_19 : decode cX0_next 19 = .ok (.iload_n 1, 1) := by decide +kernel
theorem dX0_next_20 : decode cX0_next 20 = .ok (.aload_n 0, 1) := by decide +kernel
theorem dX0_next_21 : decode cX0_next 21 = .ok (.getfield 23, 3) := by decide +kernel
theorem dX0_next_24 : decode cX0_next 24 = .ok (.aload_n 0, 1) := by decide +kernel
theorem dX0_next_25 : decode cX0_next 25 = .ok (.getfield 44, 3) := by decide +kernel
theorem dX0_next_28 : decode cX0_next 28 = .ok (.iaload, 1) := by decide +kernel
theorem dX0_next_29 : decode cX0_next 29 = .ok (.ifCond .eq 9, 3) := by decide +kernel
theorem dX0_next_32 : decode cX0_next 32 = .ok (.iconst 1, 1) := by decide +kernel
theorem dX0_next_33 : decode cX0_next 33 = .ok (.iload_n 2, 1) := by decide +kernel
theorem dX0_next_34 : decode cX0_next 34 = .ok (.ishl, 1) := by decide +kernel
theorem dX0_next_35 : decode cX0_next 35 = .ok (.goto 4, 3) := by decide +kernel
theorem dX0_next_38 : decode cX0_next 38 = .ok (.iconst 0, 1) := by decide +kernel
theorem dX0_next_39 : decode cX0_next 39 = .ok (.ior, 1) := by decide +kernel
theorem dX0_next_40 : decode cX0_next 40 = .ok (.istore_n 1, 1) := by decide +kernel
theorem dX0_next_41 : decode cX0_next 41 = .ok (.aload_n 0, 1) := by decide +kernel
theorem dX0_next_42 : decode cX0_next 42 = .ok (.dup, 1) := by decide +kernel
theorem dX0_next_43 : decode cX0_next 43 = .ok (.getfield 44, 3) := by decide +kernel
theorem dX0_next_46 : decode cX0_next 46 = .ok (.iconst 1, 1) := by decide +kernel
theorem dX0_next_47 : decode cX0_next 47 = .ok (.isub, 1) := by decide +kernel
theorem dX0_next_48 : decode cX0_next 48 = .ok (.putfield 44, 3) := by decide +kernel
theorem dX0_next_51 : decode cX0_next 51 = .ok (.iinc 2 1, 3) := by decide +kernel
theorem dX0_next_54 : decode cX0_next 54 = .ok (.goto (-46), 3) := by decide +kernel
theorem dX0_next_57 : decode cX0_next 57 = .ok (.iload_n 1, 1) := by decide +kernel
theorem dX0_next_58 : decode cX0_next 58 = .ok (.ireturn, 1) := by decide +kernel
abbrev cX0_close : ByteArray := prog_1_method_11_code
def yX0_close : MethodName := ⟨RX0, "close", "()I"⟩
theorem dX0_close_0 : decode cX0_close 0 = .ok (.aload_n 0, 1) := by decide +kernel
theorem dX0_close_1 : decode cX0_close 1 = .ok (.invokevirtual 47, 3) := by decide +kernel
theorem dX0_close_4 : decode cX0_close 4 = .ok (.aload_n 0, 1) := by decide +kernel
theorem dX0_close_5 : decode cX0_close 5 = .ok (.getfield 44, 3) := by decide +kernel
theorem dX0_close_8 : decode cX0_close 8 = .ok (.istore_n 1, 1) := by decide +kernel
theorem dX0_close_9 : decode cX0_close 9 = .ok (.iconst (-1), 1) := by decide +kernel
theorem dX0_close_10 : decode cX0_close 10 = .ok (.istore_n 2, 1) := by decide +kernel
theorem dX0_close_11 : decode cX0_close 11 = .ok (.iconst 0, 1) := by decide +kernel
theorem dX0_close_12 : decode cX0_close 12 = .ok (.istore_n 3, 1) := by decide +kernel
theorem dX0_close_13 : decode cX0_close 13 = .ok (.iload_n 3, 1) := by decide +kernel
theorem dX0_close_14 : decode cX0_close 14 = .ok (.iconst 4, 1) := by decide +kernel
theorem dX0_close_15 : decode cX0_close 15 = .ok (.if_icmp .gt 37, 3) := by decide +kernel
theorem dX0_close_18 : decode cX0_close 18 = .ok (.iload_n 2, 1) := by decide +kernel
theorem dX0_close_19 : decode cX0_close 19 = .ok (.ifCond .ge 22, 3) := by decide +kernel
theorem dX0_close_22 : decode cX0_close 22 = .ok (.aload_n 0, 1) := by decide +kernel
theorem dX0_close_23 : decode cX0_close 23 = .ok (.getfield 23, 3) := by decide +kernel
theorem dX0_close_26 : decode cX0_close 26 = .ok (.aload_n 0, 1) := by decide +kernel
theorem dX0_close_27 : decode cX0_close 27 = .ok (.getfield 44, 3) := by decide +kernel
theorem dX0_close_30 : decode cX0_close 30 = .ok (.iaload, 1) := by decide +kernel
theorem dX0_close_31 : decode cX0_close 31 = .ok (.aload_n 0, 1) := by decide +kernel
theorem dX0_close_32 : decode cX0_close 32 = .ok (.getfield 41, 3) := by decide +kernel
theorem dX0_close_35 : decode cX0_close 35 = .ok (.iand, 1) := by decide +kernel
theorem dX0_close_36 : decode cX0_close 36 = .ok (.ifCond .eq 5, 3) := by decide +kernel
theorem dX0_close_39 : decode cX0_close 39 = .ok (.iload_n 3, 1) := by decide +kernel
theorem dX0_close_40 : decode cX0_close 40 = .ok (.istore_n 2, 1) := by decide +kernel
theorem dX0_close_41 : decode cX0_close 41 = .ok (.aload_n 0, 1) := by decide +kernel
theorem dX0_close_42 : decode cX0_close 42 = .ok (.iconst 2, 1) := by decide +kernel
theorem dX0_close_43 : decode cX0_close 43 = .ok (.invokevirtual 50, 3) := by decide +kernel
theorem dX0_close_46 : decode cX0_close 46 = .ok (.iinc 3 1, 3) := by decide +kernel
theorem dX0_close_49 : decode cX0_close 49 = .ok (.goto (-36), 3) := by decide +kernel
theorem dX0_close_52 : decode cX0_close 52 = .ok (.aload_n 0, 1) := by decide +kernel
theorem dX0_close_53 : decode cX0_close 53 = .ok (.iload_n 1, 1) := by decide +kernel
theorem dX0_close_54 : decode cX0_close 54 = .ok (.putfield 44, 3) := by decide +kernel
theorem dX0_close_57 : decode cX0_close 57 = .ok (.iload_n 2, 1) := by decide +kernel
theorem dX0_close_58 : decode cX0_close 58 = .ok (.ireturn, 1) := by decide +kernel
theorem q12 : (Jvm.Cond.initialized "NestedWords") ∈ lw_all := lw_g (lw_at lw_m0 1 rfl) rfl
theorem q15 : (Jvm.Cond.instantiable "NestedWords" (10 : Nat)) ∈ lw_all := lw_g (lw_at lw_m0 4 rfl) rfl
theorem q17 : (Jvm.Cond.instanceMethod ({ cls := "NestedWords", name := "<init>", desc := "()V" } : Jvm.MethodName)) ∈ lw_all := lw_g (lw_at lw_m0 6 rfl) rfl
theorem q18 : (Jvm.Cond.code ({ cls := "NestedWords", name := "<init>", desc := "()V" } : Jvm.MethodName) prog_1_method_1_code (1 : Nat) (Option.none : Option Jvm.ClassFile.FieldType)) ∈ lw_all := lw_g (lw_at lw_m0 7 rfl) rfl
theorem q19 : (Jvm.Cond.methodLink "NestedWords" (1 : Nat) ({ cls := "java/lang/Object", name := "<init>", desc := "()V" } : Jvm.MethodName)) ∈ lw_all := lw_g (lw_at lw_m0 8 rfl) rfl
theorem q22 : (Jvm.Cond.fieldLink "NestedWords" (7 : Nat) "NestedWords" "stackMove" "[Z") ∈ lw_all := lw_g (lw_at lw_m0 11 rfl) rfl
theorem q23 : (Jvm.Cond.fieldLink "NestedWords" (13 : Nat) "NestedWords" "plainMove" "[Z") ∈ lw_all := lw_g (lw_at lw_m0 12 rfl) rfl
theorem q24 : (Jvm.Cond.fieldLink "NestedWords" (37 : Nat) "NestedWords" "starts" "I") ∈ lw_all := lw_g (lw_at lw_m0 13 rfl) rfl
theorem q25 : (Jvm.Cond.fieldLink "NestedWords" (41 : Nat) "NestedWords" "ends" "I") ∈ lw_all := lw_g (lw_at lw_m0 14 rfl) rfl
theorem q26 : (Jvm.Cond.fieldLink "NestedWords" (33 : Nat) "NestedWords" "known" "Z") ∈ lw_all := lw_g (lw_at lw_m0 15 rfl) rfl
theorem q27 : (Jvm.Cond.fieldLink "NestedWords" (44 : Nat) "NestedWords" "length" "I") ∈ lw_all := lw_g (lw_at lw_m0 16 rfl) rfl
theorem q28 : (Jvm.Cond.fieldLink "NestedWords" (16 : Nat) "NestedWords" "word" "[I") ∈ lw_all := lw_g (lw_at lw_m0 17 rfl) rfl
theorem q29 : (Jvm.Cond.fieldLink "NestedWords" (20 : Nat) "NestedWords" "way" "[I") ∈ lw_all := lw_g (lw_at lw_m0 18 rfl) rfl
theorem q30 : (Jvm.Cond.fieldLink "NestedWords" (23 : Nat) "NestedWords" "alive" "[I") ∈ lw_all := lw_g (lw_at lw_m0 19 rfl) rfl
theorem q31 : (Jvm.Cond.fieldLink "NestedWords" (26 : Nat) "NestedWords" "opened" "[I") ∈ lw_all := lw_g (lw_at lw_m0 20 rfl) rfl
theorem q32 : (Jvm.Cond.laysFinal "NestedWords" "NestedWords" "stackMove" "[Z") ∈ lw_all := lw_g (lw_at lw_m0 21 rfl) rfl
theorem q33 : (Jvm.Cond.soleField "NestedWords" "stackMove") ∈ lw_all := lw_g (lw_at lw_m0 22 rfl) rfl
theorem q34 : (Jvm.Cond.laysFinal "NestedWords" "NestedWords" "plainMove" "[Z") ∈ lw_all := lw_g (lw_at lw_m0 23 rfl) rfl
theorem q35 : (Jvm.Cond.soleField "NestedWords" "plainMove") ∈ lw_all := lw_g (lw_at lw_m0 24 rfl) rfl
theorem q36 : (Jvm.Cond.lays "NestedWords" "NestedWords" "starts" "I") ∈ lw_all := lw_g (lw_at lw_m0 25 rfl) rfl
theorem q37 : (Jvm.Cond.soleField "NestedWords" "starts") ∈ lw_all := lw_g (lw_at lw_m0 26 rfl) rfl
theorem q38 : (Jvm.Cond.lays "NestedWords" "NestedWords" "ends" "I") ∈ lw_all := lw_g (lw_at lw_m0 27 rfl) rfl
theorem q39 : (Jvm.Cond.soleField "NestedWords" "ends") ∈ lw_all := lw_g (lw_at lw_m0 28 rfl) rfl
theorem q40 : (Jvm.Cond.lays "NestedWords" "NestedWords" "known" "Z") ∈ lw_all := lw_g (lw_at lw_m0 29 rfl) rfl
theorem q41 : (Jvm.Cond.soleField "NestedWords" "known") ∈ lw_all := lw_g (lw_at lw_m0 30 rfl) rfl
theorem q42 : (Jvm.Cond.lays "NestedWords" "NestedWords" "length" "I") ∈ lw_all := lw_g (lw_at lw_m0 31 rfl) rfl
theorem q43 : (Jvm.Cond.soleField "NestedWords" "length") ∈ lw_all := lw_g (lw_at lw_m0 32 rfl) rfl
theorem q44 : (Jvm.Cond.laysFinal "NestedWords" "NestedWords" "word" "[I") ∈ lw_all := lw_g (lw_at lw_m0 33 rfl) rfl
theorem q45 : (Jvm.Cond.soleField "NestedWords" "word") ∈ lw_all := lw_g (lw_at lw_m0 34 rfl) rfl
theorem q46 : (Jvm.Cond.laysFinal "NestedWords" "NestedWords" "way" "[I") ∈ lw_all := lw_g (lw_at lw_m0 35 rfl) rfl
theorem q47 : (Jvm.Cond.soleField "NestedWords" "way") ∈ lw_all := lw_g (lw_at lw_m0 36 rfl) rfl
theorem q48 : (Jvm.Cond.laysFinal "NestedWords" "NestedWords" "alive" "[I") ∈ lw_all := lw_g (lw_at lw_m0 37 rfl) rfl
theorem q49 : (Jvm.Cond.soleField "NestedWords" "alive") ∈ lw_all := lw_g (lw_at lw_m0 38 rfl) rfl
theorem q50 : (Jvm.Cond.laysFinal "NestedWords" "NestedWords" "opened" "[I") ∈ lw_all := lw_g (lw_at lw_m0 39 rfl) rfl
theorem q51 : (Jvm.Cond.soleField "NestedWords" "opened") ∈ lw_all := lw_g (lw_at lw_m0 40 rfl) rfl
theorem q52 : (Jvm.Cond.superclass "NestedWords" "java/lang/Object") ∈ lw_all := lw_g (lw_at lw_m0 41 rfl) rfl
theorem q56 : (Jvm.Cond.instanceMethod ({ cls := "NestedWords", name := "move", desc := "(IIIIZ)I" } : Jvm.MethodName)) ∈ lw_all := lw_g (lw_at lw_m0 45 rfl) rfl
theorem q57 : (Jvm.Cond.selects "NestedWords" ({ cls := "NestedWords", name := "move", desc := "(IIIIZ)I" } : Jvm.MethodName) ({ cls := "NestedWords", name := "move", desc := "(IIIIZ)I" } : Jvm.MethodName)) ∈ lw_all := lw_g (lw_at lw_m0 46 rfl) rfl
theorem q58 : (Jvm.Cond.code ({ cls := "NestedWords", name := "move", desc := "(IIIIZ)I" } : Jvm.MethodName) prog_1_method_2_code (8 : Nat) (Option.some Jvm.ClassFile.FieldType.int)) ∈ lw_all := lw_g (lw_at lw_m0 47 rfl) rfl
theorem q59 : (Jvm.Cond.methodLink "NestedWords" (29 : Nat) ({ cls := "NestedWords", name := "isState", desc := "(I)Z" } : Jvm.MethodName)) ∈ lw_all := lw_g (lw_at lw_m0 48 rfl) rfl
theorem q60 : (Jvm.Cond.static ({ cls := "NestedWords", name := "isState", desc := "(I)Z" } : Jvm.MethodName)) ∈ lw_all := lw_g (lw_at lw_m0 49 rfl) rfl
theorem q61 : (Jvm.Cond.code ({ cls := "NestedWords", name := "isState", desc := "(I)Z" } : Jvm.MethodName) prog_1_method_12_code (1 : Nat) (Option.some Jvm.ClassFile.FieldType.boolean)) ∈ lw_all := lw_g (lw_at lw_m0 50 rfl) rfl
theorem q63 : (Jvm.Cond.instanceMethod ({ cls := "NestedWords", name := "state", desc := "(IZZ)I" } : Jvm.MethodName)) ∈ lw_all := lw_g (lw_at lw_m0 52 rfl) rfl
theorem q64 : (Jvm.Cond.selects "NestedWords" ({ cls := "NestedWords", name := "state", desc := "(IZZ)I" } : Jvm.MethodName) ({ cls := "NestedWords", name := "state", desc := "(IZZ)I" } : Jvm.MethodName)) ∈ lw_all := lw_g (lw_at lw_m0 53 rfl) rfl
theorem q65 : (Jvm.Cond.code ({ cls := "NestedWords", name := "state", desc := "(IZZ)I" } : Jvm.MethodName) prog_1_method_3_code (4 : Nat) (Option.some Jvm.ClassFile.FieldType.int)) ∈ lw_all := lw_g (lw_at lw_m0 54 rfl) rfl
theorem q67 : (Jvm.Cond.instanceMethod ({ cls := "NestedWords", name := "read", desc := "(I)I" } : Jvm.MethodName)) ∈ lw_all := lw_g (lw_at lw_m0 56 rfl) rfl
theorem q68 : (Jvm.Cond.selects "NestedWords" ({ cls := "NestedWords", name := "read", desc := "(I)I" } : Jvm.MethodName) ({ cls := "NestedWords", name := "read", desc := "(I)I" } : Jvm.MethodName)) ∈ lw_all := lw_g (lw_at lw_m0 57 rfl) rfl
theorem q69 : (Jvm.Cond.code ({ cls := "NestedWords", name := "read", desc := "(I)I" } : Jvm.MethodName) prog_1_method_4_code (2 : Nat) (Option.some Jvm.ClassFile.FieldType.int)) ∈ lw_all := lw_g (lw_at lw_m0 58 rfl) rfl
theorem q70 : (Jvm.Cond.methodLink "NestedWords" (47 : Nat) ({ cls := "NestedWords", name := "readAll", desc := "()V" } : Jvm.MethodName)) ∈ lw_all := lw_g (lw_at lw_m0 59 rfl) rfl
theorem q71 : (Jvm.Cond.privateMethod ({ cls := "NestedWords", name := "readAll", desc := "()V" } : Jvm.MethodName)) ∈ lw_tbl := lw_at lw_m0 60 rfl
theorem q72 : (Jvm.Cond.instanceMethod ({ cls := "NestedWords", name := "readAll", desc := "()V" } : Jvm.MethodName)) ∈ lw_all := lw_g (lw_at lw_m0 61 rfl) rfl
theorem q73 : (Jvm.Cond.code ({ cls := "NestedWords", name := "readAll", desc := "()V" } : Jvm.MethodName) prog_1_method_14_code (3 : Nat) (Option.none : Option Jvm.ClassFile.FieldType)) ∈ lw_all := lw_g (lw_at lw_m0 62 rfl) rfl
theorem q74 : (Jvm.Cond.methodLink "NestedWords" (58 : Nat) ({ cls := "NestedWords", name := "same", desc := "()I" } : Jvm.MethodName)) ∈ lw_all := lw_g (lw_at lw_m0 63 rfl) rfl
theorem q75 : (Jvm.Cond.static ({ cls := "NestedWords", name := "same", desc := "()I" } : Jvm.MethodName)) ∈ lw_all := lw_g (lw_at lw_m0 64 rfl) rfl
theorem q76 : (Jvm.Cond.code ({ cls := "NestedWords", name := "same", desc := "()I" } : Jvm.MethodName) prog_1_method_15_code (2 : Nat) (Option.some Jvm.ClassFile.FieldType.int)) ∈ lw_all := lw_g (lw_at lw_m0 65 rfl) rfl
theorem q77 : (Jvm.Cond.methodLink "NestedWords" (50 : Nat) ({ cls := "NestedWords", name := "add", desc := "(I)V" } : Jvm.MethodName)) ∈ lw_all := lw_g (lw_at lw_m0 66 rfl) rfl
theorem q78 : (Jvm.Cond.privateMethod ({ cls := "NestedWords", name := "add", desc := "(I)V" } : Jvm.MethodName)) ∈ lw_tbl := lw_at lw_m0 67 rfl
theorem q79 : (Jvm.Cond.instanceMethod ({ cls := "NestedWords", name := "add", desc := "(I)V" } : Jvm.MethodName)) ∈ lw_all := lw_g (lw_at lw_m0 68 rfl) rfl
theorem q80 : (Jvm.Cond.code ({ cls := "NestedWords", name := "add", desc := "(I)V" } : Jvm.MethodName) prog_1_method_16_code (5 : Nat) (Option.none : Option Jvm.ClassFile.FieldType)) ∈ lw_all := lw_g (lw_at lw_m0 69 rfl) rfl
theorem q81 : (Jvm.Cond.methodLink "NestedWords" (62 : Nat) ({ cls := "NestedWords", name := "plainSteps", desc := "(I)I" } : Jvm.MethodName)) ∈ lw_all := lw_g (lw_at lw_m0 70 rfl) rfl
theorem q82 : (Jvm.Cond.privateMethod ({ cls := "NestedWords", name := "plainSteps", desc := "(I)I" } : Jvm.MethodName)) ∈ lw_tbl := lw_at lw_m0 71 rfl
theorem q83 : (Jvm.Cond.instanceMethod ({ cls := "NestedWords", name := "plainSteps", desc := "(I)I" } : Jvm.MethodName)) ∈ lw_all := lw_g (lw_at lw_m0 72 rfl) rfl
theorem q84 : (Jvm.Cond.code ({ cls := "NestedWords", name := "plainSteps", desc := "(I)I" } : Jvm.MethodName) prog_1_method_17_code (4 : Nat) (Option.some Jvm.ClassFile.FieldType.int)) ∈ lw_all := lw_g (lw_at lw_m0 73 rfl) rfl
theorem q85 : (Jvm.Cond.methodLink "NestedWords" (65 : Nat) ({ cls := "NestedWords", name := "join", desc := "(II)I" } : Jvm.MethodName)) ∈ lw_all := lw_g (lw_at lw_m0 74 rfl) rfl
theorem q86 : (Jvm.Cond.static ({ cls := "NestedWords", name := "join", desc := "(II)I" } : Jvm.MethodName)) ∈ lw_all := lw_g (lw_at lw_m0 75 rfl) rfl
theorem q87 : (Jvm.Cond.code ({ cls := "NestedWords", name := "join", desc := "(II)I" } : Jvm.MethodName) prog_1_method_20_code (5 : Nat) (Option.some Jvm.ClassFile.FieldType.int)) ∈ lw_all := lw_g (lw_at lw_m0 76 rfl) rfl
theorem q88 : (Jvm.Cond.methodLink "NestedWords" (69 : Nat) ({ cls := "NestedWords", name := "lead", desc := "(II)I" } : Jvm.MethodName)) ∈ lw_all := lw_g (lw_at lw_m0 77 rfl) rfl
theorem q89 : (Jvm.Cond.static ({ cls := "NestedWords", name := "lead", desc := "(II)I" } : Jvm.MethodName)) ∈ lw_all := lw_g (lw_at lw_m0 78 rfl) rfl
theorem q90 : (Jvm.Cond.code ({ cls := "NestedWords", name := "lead", desc := "(II)I" } : Jvm.MethodName) prog_1_method_21_code (4 : Nat) (Option.some Jvm.ClassFile.FieldType.int)) ∈ lw_all := lw_g (lw_at lw_m0 79 rfl) rfl
theorem q91 : (Jvm.Cond.methodLink "NestedWords" (72 : Nat) ({ cls := "NestedWords", name := "stackSteps", desc := "(II)I" } : Jvm.MethodName)) ∈ lw_all := lw_g (lw_at lw_m0 80 rfl) rfl
theorem q92 : (Jvm.Cond.privateMethod ({ cls := "NestedWords", name := "stackSteps", desc := "(II)I" } : Jvm.MethodName)) ∈ lw_tbl := lw_at lw_m0 81 rfl
theorem q93 : (Jvm.Cond.instanceMethod ({ cls := "NestedWords", name := "stackSteps", desc := "(II)I" } : Jvm.MethodName)) ∈ lw_all := lw_g (lw_at lw_m0 82 rfl) rfl
theorem q94 : (Jvm.Cond.code ({ cls := "NestedWords", name := "stackSteps", desc := "(II)I" } : Jvm.MethodName) prog_1_method_18_code (6 : Nat) (Option.some Jvm.ClassFile.FieldType.int)) ∈ lw_all := lw_g (lw_at lw_m0 83 rfl) rfl
theorem q95 : (Jvm.Cond.methodLink "NestedWords" (75 : Nat) ({ cls := "NestedWords", name := "closedSteps", desc := "(III)I" } : Jvm.MethodName)) ∈ lw_all := lw_g (lw_at lw_m0 84 rfl) rfl
theorem q96 : (Jvm.Cond.privateMethod ({ cls := "NestedWords", name := "closedSteps", desc := "(III)I" } : Jvm.MethodName)) ∈ lw_tbl := lw_at lw_m0 85 rfl
theorem q97 : (Jvm.Cond.instanceMethod ({ cls := "NestedWords", name := "closedSteps", desc := "(III)I" } : Jvm.MethodName)) ∈ lw_all := lw_g (lw_at lw_m0 86 rfl) rfl
theorem q98 : (Jvm.Cond.code ({ cls := "NestedWords", name := "closedSteps", desc := "(III)I" } : Jvm.MethodName) prog_1_method_19_code (9 : Nat) (Option.some Jvm.ClassFile.FieldType.int)) ∈ lw_all := lw_g (lw_at lw_m0 87 rfl) rfl
theorem q99 : (Jvm.Cond.methodLink "NestedWords" (54 : Nat) ({ cls := "NestedWords", name := "ones", desc := "(I)I" } : Jvm.MethodName)) ∈ lw_all := lw_g (lw_at lw_m0 88 rfl) rfl
theorem q100 : (Jvm.Cond.static ({ cls := "NestedWords", name := "ones", desc := "(I)I" } : Jvm.MethodName)) ∈ lw_all := lw_g (lw_at lw_m0 89 rfl) rfl
theorem q101 : (Jvm.Cond.code ({ cls := "NestedWords", name := "ones", desc := "(I)I" } : Jvm.MethodName) prog_1_method_13_code (3 : Nat) (Option.some Jvm.ClassFile.FieldType.int)) ∈ lw_all := lw_g (lw_at lw_m0 90 rfl) rfl
theorem q103 : (Jvm.Cond.instanceMethod ({ cls := "NestedWords", name := "back", desc := "()I" } : Jvm.MethodName)) ∈ lw_all := lw_g (lw_at lw_m0 92 rfl) rfl
theorem q104 : (Jvm.Cond.selects "NestedWords" ({ cls := "NestedWords", name := "back", desc := "()I" } : Jvm.MethodName) ({ cls := "NestedWords", name := "back", desc := "()I" } : Jvm.MethodName)) ∈ lw_all := lw_g (lw_at lw_m0 93 rfl) rfl
theorem q105 : (Jvm.Cond.code ({ cls := "NestedWords", name := "back", desc := "()I" } : Jvm.MethodName) prog_1_method_5_code (1 : Nat) (Option.some Jvm.ClassFile.FieldType.int)) ∈ lw_all := lw_g (lw_at lw_m0 94 rfl) rfl
theorem q107 : (Jvm.Cond.instanceMethod ({ cls := "NestedWords", name := "erase", desc := "()V" } : Jvm.MethodName)) ∈ lw_all := lw_g (lw_at lw_m0 96 rfl) rfl
theorem q108 : (Jvm.Cond.selects "NestedWords" ({ cls := "NestedWords", name := "erase", desc := "()V" } : Jvm.MethodName) ({ cls := "NestedWords", name := "erase", desc := "()V" } : Jvm.MethodName)) ∈ lw_all := lw_g (lw_at lw_m0 97 rfl) rfl
theorem q109 : (Jvm.Cond.code ({ cls := "NestedWords", name := "erase", desc := "()V" } : Jvm.MethodName) prog_1_method_6_code (1 : Nat) (Option.none : Option Jvm.ClassFile.FieldType)) ∈ lw_all := lw_g (lw_at lw_m0 98 rfl) rfl
theorem q111 : (Jvm.Cond.instanceMethod ({ cls := "NestedWords", name := "live", desc := "()I" } : Jvm.MethodName)) ∈ lw_all := lw_g (lw_at lw_m0 100 rfl) rfl
theorem q112 : (Jvm.Cond.selects "NestedWords" ({ cls := "NestedWords", name := "live", desc := "()I" } : Jvm.MethodName) ({ cls := "NestedWords", name := "live", desc := "()I" } : Jvm.MethodName)) ∈ lw_all := lw_g (lw_at lw_m0 101 rfl) rfl
theorem q113 : (Jvm.Cond.code ({ cls := "NestedWords", name := "live", desc := "()I" } : Jvm.MethodName) prog_1_method_7_code (1 : Nat) (Option.some Jvm.ClassFile.FieldType.int)) ∈ lw_all := lw_g (lw_at lw_m0 102 rfl) rfl
theorem q115 : (Jvm.Cond.instanceMethod ({ cls := "NestedWords", name := "accepted", desc := "()I" } : Jvm.MethodName)) ∈ lw_all := lw_g (lw_at lw_m0 104 rfl) rfl
theorem q116 : (Jvm.Cond.selects "NestedWords" ({ cls := "NestedWords", name := "accepted", desc := "()I" } : Jvm.MethodName) ({ cls := "NestedWords", name := "accepted", desc := "()I" } : Jvm.MethodName)) ∈ lw_all := lw_g (lw_at lw_m0 105 rfl) rfl
theorem q117 : (Jvm.Cond.code ({ cls := "NestedWords", name := "accepted", desc := "()I" } : Jvm.MethodName) prog_1_method_8_code (1 : Nat) (Option.some Jvm.ClassFile.FieldType.int)) ∈ lw_all := lw_g (lw_at lw_m0 106 rfl) rfl
theorem q119 : (Jvm.Cond.instanceMethod ({ cls := "NestedWords", name := "open", desc := "()I" } : Jvm.MethodName)) ∈ lw_all := lw_g (lw_at lw_m0 108 rfl) rfl
theorem q120 : (Jvm.Cond.selects "NestedWords" ({ cls := "NestedWords", name := "open", desc := "()I" } : Jvm.MethodName) ({ cls := "NestedWords", name := "open", desc := "()I" } : Jvm.MethodName)) ∈ lw_all := lw_g (lw_at lw_m0 109 rfl) rfl
theorem q121 : (Jvm.Cond.code ({ cls := "NestedWords", name := "open", desc := "()I" } : Jvm.MethodName) prog_1_method_9_code (4 : Nat) (Option.some Jvm.ClassFile.FieldType.int)) ∈ lw_all := lw_g (lw_at lw_m0 110 rfl) rfl
theorem q123 : (Jvm.Cond.instanceMethod ({ cls := "NestedWords", name := "next", desc := "()I" } : Jvm.MethodName)) ∈ lw_all := lw_g (lw_at lw_m0 112 rfl) rfl
theorem q124 : (Jvm.Cond.selects "NestedWords" ({ cls := "NestedWords", name := "next", desc := "()I" } : Jvm.MethodName) ({ cls := "NestedWords", name := "next", desc := "()I" } : Jvm.MethodName)) ∈ lw_all := lw_g (lw_at lw_m0 113 rfl) rfl
theorem q125 : (Jvm.Cond.code ({ cls := "NestedWords", name := "next", desc := "()I" } : Jvm.MethodName) prog_1_method_10_code (3 : Nat) (Option.some Jvm.ClassFile.FieldType.int)) ∈ lw_all := lw_g (lw_at lw_m0 114 rfl) rfl
theorem q127 : (Jvm.Cond.instanceMethod ({ cls := "NestedWords", name := "close", desc := "()I" } : Jvm.MethodName)) ∈ lw_all := lw_g (lw_at lw_m0 116 rfl) rfl
theorem q128 : (Jvm.Cond.selects "NestedWords" ({ cls := "NestedWords", name := "close", desc := "()I" } : Jvm.MethodName) ({ cls := "NestedWords", name := "close", desc := "()I" } : Jvm.MethodName)) ∈ lw_all := lw_g (lw_at lw_m0 117 rfl) rfl
theorem q129 : (Jvm.Cond.code ({ cls := "NestedWords", name := "close", desc := "()I" } : Jvm.MethodName) prog_1_method_11_code (4 : Nat) (Option.some Jvm.ClassFile.FieldType.int)) ∈ lw_all := lw_g (lw_at lw_m0 118 rfl) rfl
theorem in_X0 : ∀ w ∈ wsX00, w ∈ lw_all := lw_in wsX00 [32, 34, 36, 38, 40, 42, 44, 46, 48, 50] (by decide +kernel) (by decide +kernel)
end
section
/-! NestedWordsModel -/
set_option maxRecDepth 100000
def RX1 : String := "NestedWordsModel"
def TX1 : u_T := fun k => match k with
  | 0 => ("NestedWordsModel", "moves", "[Z", true)
  | 1 => ("NestedWordsModel", "starts", "[Z", true)
  | 2 => ("NestedWordsModel", "ends", "[Z", true)
  | 3 => ("NestedWordsModel", "length", "I", false)
  | 4 => ("NestedWordsModel", "word", "[I", true)
  | 5 => ("NestedWordsModel", "partner", "[I", true)
  | 6 => ("NestedWordsModel", "leads", "[I", true)
  | _ => ("NestedWordsModel", "waiting", "[I", true)
def tyX1 : Nat → FieldType := fun k => match k with
  | 0 => .array .boolean
  | 1 => .array .boolean
  | 2 => .array .boolean
  | 3 => .int
  | 4 => .array .int
  | 5 => .array .int
  | 6 => .array .int
  | _ => .array .int
abbrev wsX10 : List Cond := u_ws RX1 TX1 8
theorem nmX1 : ∀ a, a < 8 → ∀ b, b < 8 → a ≠ b → (TX1 a).2.1 ≠ (TX1 b).2.1 := by decide +kernel
theorem tyX1_ok : ∀ k, k < 8 → parseFieldDescriptor (TX1 k).2.2.1 = some (tyX1 k) := by decide +kernel
abbrev cX1_init : ByteArray := prog_3_method_1_code
def yX1_init : MethodName := ⟨RX1, "<init>", "()V"⟩
theorem dX1_init_0 : decode cX1_init 0 = .ok (.aload_n 0, 1) := by decide +kernel
theorem dX1_init_1 : decode cX1_init 1 = .ok (.invokespecial 1, 3) := by decide +kernel
theorem dX1_init_4 : decode cX1_init 4 = .ok (.aload_n 0, 1) := by decide +kernel
theorem dX1_init_5 : decode cX1_init 5 = .ok (.sipush 600, 3) := by decide +kernel
theorem dX1_init_8 : decode cX1_init 8 = .ok (.newarray .boolean, 2) := by decide +kernel
theorem dX1_init_10 : decode cX1_init 10 = .ok (.putfield 7, 3) := by decide +kernel
theorem dX1_init_13 : decode cX1_init 13 = .ok (.aload_n 0, 1) := by decide +kernel
theorem dX1_init_14 : decode cX1_init 14 = .ok (.iconst 5, 1) := by decide +kernel
theorem dX1_init_15 : decode cX1_init 15 = .ok (.newarray .boolean, 2) := by decide +kernel
theorem dX1_init_17 : decode cX1_init 17 = .ok (.putfield 13, 3) := by decide +kernel
theorem dX1_init_20 : decode cX1_init 20 = .ok (.aload_n 0, 1) := by decide +kernel
theorem dX1_init_21 : decode cX1_init 21 = .ok (.iconst 5, 1) := by decide +kernel
theorem dX1_init_22 : decode cX1_init 22 = .ok (.newarray .boolean, 2) := by decide +kernel
theorem dX1_init_24 : decode cX1_init 24 = .ok (.putfield 16, 3) := by decide +kernel
theorem dX1_init_27 : decode cX1_init 27 = .ok (.aload_n 0, 1) := by decide +kernel
theorem dX1_init_28 : decode cX1_init 28 = .ok (.bipush 20, 2) := by decide +kernel
theorem dX1_init_30 : decode cX1_init 30 = .ok (.newarray .int, 2) := by decide +kernel
theorem dX1_init_32 : decode cX1_init 32 = .ok (.putfield 19, 3) := by decide +kernel
theorem dX1_init_35 : decode cX1_init 35 = .ok (.aload_n 0, 1) := by decide +kernel
theorem dX1_init_36 : decode cX1_init 36 = .ok (.bipush 20, 2) := by decide +kernel
theorem dX1_init_38 : decode cX1_init 38 = .ok (.newarray .int, 2) := by decide +kernel
theorem dX1_init_40 : decode cX1_init 40 = .ok (.putfield 23, 3) := by decide +kernel
theorem dX1_init_43 : decode cX1_init 43 = .ok (.aload_n 0, 1) := by decide +kernel
theorem dX1_init_44 : decode cX1_init 44 = .ok (.bipush 20, 2) := by decide +kernel
theorem dX1_init_46 : decode cX1_init 46 = .ok (.newarray .int, 2) := by decide +kernel
theorem dX1_init_48 : decode cX1_init 48 = .ok (.putfield 26, 3) := by decide +kernel
theorem dX1_init_51 : decode cX1_init 51 = .ok (.aload_n 0, 1) := by decide +kernel
theorem dX1_init_52 : decode cX1_init 52 = .ok (.bipush 20, 2) := by decide +kernel
theorem dX1_init_54 : decode cX1_init 54 = .ok (.newarray .int, 2) := by decide +kernel
theorem dX1_init_56 : decode cX1_init 56 = .ok (.putfield 29, 3) := by decide +kernel
theorem dX1_init_59 : decode cX1_init 59 = .ok (.return_, 1) := by decide +kernel
abbrev cX1_move : ByteArray := prog_3_method_3_code
def yX1_move : MethodName := ⟨RX1, "move", "(IIIIZ)I"⟩
theorem dX1_move_0 : decode cX1_move 0 = .ok (.iload_n 1, 1) := by decide +kernel
theorem dX1_move_1 : decode cX1_move 1 = .ok (.invokestatic 32, 3) := by decide +kernel
theorem dX1_move_4 : decode cX1_move 4 = .ok (.ifCond .ne 19, 3) := by decide +kernel
theorem dX1_move_7 : decode cX1_move 7 = .ok (.iload_n 3, 1) := by decide +kernel
theorem dX1_move_8 : decode cX1_move 8 = .ok (.invokestatic 32, 3) := by decide +kernel
theorem dX1_move_11 : decode cX1_move 11 = .ok (.ifCond .ne 12, 3) := by decide +kernel
theorem dX1_move_14 : decode cX1_move 14 = .ok (.iload_n 2, 1) := by decide +kernel
theorem dX1_move_15 : decode cX1_move 15 = .ok (.ifCond .lt 8, 3) := by decide +kernel
theorem dX1_move_18 : decode cX1_move 18 = .ok (.iload_n 2, 1) := by decide +kernel
theorem dX1_move_19 : decode cX1_move 19 = .ok (.iconst 5, 1) := by decide +kernel
theorem dX1_move_20 : decode cX1_move 20 = .ok (.if_icmp .le 5, 3) := by decide +kernel
theorem dX1_move_23 : decode cX1_move 23 = .ok (.iconst (-1), 1) := by decide +kernel
theorem dX1_move_24 : decode cX1_move 24 = .ok (.ireturn, 1) := by decide +kernel
theorem dX1_move_25 : decode cX1_move 25 = .ok (.iload_n 2, 1) := by decide +kernel
theorem dX1_move_26 : decode cX1_move 26 = .ok (.iconst 4, 1) := by decide +kernel
theorem dX1_move_27 : decode cX1_move 27 = .ok (.if_icmp .ge 25, 3) := by decide +kernel
theorem dX1_move_30 : decode cX1_move 30 = .ok (.iload 4, 2) := by decide +kernel
theorem dX1_move_32 : decode cX1_move 32 = .ok (.ifCond .lt 18, 3) := by decide +kernel
theorem dX1_move_35 : decode cX1_move 35 = .ok (.iload 4, 2) := by decide +kernel
theorem dX1_move_37 : decode cX1_move 37 = .ok (.iload_n 2, 1) := by decide +kernel
theorem dX1_move_38 : decode cX1_move 38 = .ok (.iconst 2, 1) := by decide +kernel
theorem dX1_move_39 : decode cX1_move 39 = .ok (.if_icmp .ge 7, 3) := by decide +kernel
theorem dX1_move_42 : decode cX1_move 42 = .ok (.iconst 2, 1) := by decide +kernel
theorem dX1_move_43 : decode cX1_move 43 = .ok (.goto 4, 3) := by decide +kernel
theorem dX1_move_46 : decode cX1_move 46 = .ok (.iconst 3, 1) := by decide +kernel
theorem dX1_move_47 : decode cX1_move 47 = .ok (.if_icmp .le 5, 3) := by decide +kernel
theorem dX1_move_50 : decode cX1_move 50 = .ok (.iconst (-1), 1) := by decide +kernel
theorem dX1_move_51 : decode cX1_move 51 = .ok (.ireturn, 1) := by decide +kernel
theorem dX1_move_52 : decode cX1_move 52 = .ok (.bipush 120, 2) := by decide +kernel
theorem dX1_move_54 : decode cX1_move 54 = .ok (.iload_n 1, 1) := by decide +kernel
theorem dX1_move_55 : decode cX1_move 55 = .ok (.imul, 1) := by decide +kernel
theorem dX1_move_56 : decode cX1_move 56 = .ok (.bipush 20, 2) := by decide +kernel
theorem dX1_move_58 : decode cX1_move 58 = .ok (.iload_n 2, 1) := by decide +kernel
theorem dX1_move_59 : decode cX1_move 59 = .ok (.imul, 1) := by decide +kernel
theorem dX1_move_60 : decode cX1_move 60 = .ok (.iadd, 1) := by decide +kernel
theorem dX1_move_61 : decode cX1_move 61 = .ok (.iconst 4, 1) := by decide +kernel
theorem dX1_move_62 : decode cX1_move 62 = .ok (.iload_n 3, 1) := by decide +kernel
theorem dX1_move_63 : decode cX1_move 63 = .ok (.imul, 1) := by decide +kernel
theorem dX1_move_64 : decode cX1_move 64 = .ok (.iadd, 1) := by decide +kernel
theorem dX1_move_65 : decode cX1_move 65 = .ok (.iload_n 2, 1) := by decide +kernel
theorem dX1_move_66 : decode cX1_move 66 = .ok (.iconst 4, 1) := by decide +kernel
theorem dX1_move_67 : decode cX1_move 67 = .ok (.if_icmp .ge 8, 3) := by decide +kernel
theorem dX1_move_70 : decode cX1_move 70 = .ok (.iload 4, 2) := by decide +kernel
theorem dX1_move_72 : decode cX1_move 72 = .ok (.goto 4, 3) := by decide +kernel
theorem dX1_move_75 : decode cX1_move 75 = .ok (.iconst 0, 1) := by decide +kernel
theorem dX1_move_76 : decode cX1_move 76 = .ok (.iadd, 1) := by decide +kernel
theorem dX1_move_77 : decode cX1_move 77 = .ok (.istore 6, 2) := by decide +kernel
theorem dX1_move_79 : decode cX1_move 79 = .ok (.aload_n 0, 1) := by decide +kernel
theorem dX1_move_80 : decode cX1_move 80 = .ok (.getfield 7, 3) := by decide +kernel
theorem dX1_move_83 : decode cX1_move 83 = .ok (.iload 6, 2) := by decide +kernel
theorem dX1_move_85 : decode cX1_move 85 = .ok (.baload, 1) := by decide +kernel
theorem dX1_move_86 : decode cX1_move 86 = .ok (.istore 7, 2) := by decide +kernel
theorem dX1_move_88 : decode cX1_move 88 = .ok (.aload_n 0, 1) := by decide +kernel
theorem dX1_move_89 : decode cX1_move 89 = .ok (.getfield 7, 3) := by decide +kernel
theorem dX1_move_92 : decode cX1_move 92 = .ok (.iload 6, 2) := by decide +kernel
theorem dX1_move_94 : decode cX1_move 94 = .ok (.iload 5, 2) := by decide +kernel
theorem dX1_move_96 : decode cX1_move 96 = .ok (.bastore, 1) := by decide +kernel
theorem dX1_move_97 : decode cX1_move 97 = .ok (.iload 7, 2) := by decide +kernel
theorem dX1_move_99 : decode cX1_move 99 = .ok (.ifCond .eq 7, 3) := by decide +kernel
theorem dX1_move_102 : decode cX1_move 102 = .ok (.iconst 1, 1) := by decide +kernel
theorem dX1_move_103 : decode cX1_move 103 = .ok (.goto 4, 3) := by decide +kernel
theorem dX1_move_106 : decode cX1_move 106 = .ok (.iconst 0, 1) := by decide +kernel
theorem dX1_move_107 : decode cX1_move 107 = .ok (.ireturn, 1) := by decide +kernel
abbrev cX1_bad : ByteArray := prog_3_method_2_code
def yX1_bad : MethodName := ⟨RX1, "bad", "(I)Z"⟩
theorem dX1_bad_0 : decode cX1_bad 0 = .ok (.iload_n 0, 1) := by decide +kernel
theorem dX1_bad_1 : decode cX1_bad 1 = .ok (.ifCond .lt 8, 3) := by decide +kernel
theorem dX1_bad_4 : decode cX1_bad 4 = .ok (.iload_n 0, 1) := by decide +kernel
theorem dX1_bad_5 : decode cX1_bad 5 = .ok (.iconst 4, 1) := by decide +kernel
theorem dX1_bad_6 : decode cX1_bad 6 = .ok (.if_icmp .le 7, 3) := by decide +kernel
theorem dX1_bad_9 : decode cX1_bad 9 = .ok (.iconst 1, 1) := by decide +kernel
theorem dX1_bad_10 : decode cX1_bad 10 = .ok (.goto 4, 3) := by decide +kernel
theorem dX1_bad_13 : decode cX1_bad 13 = .ok (.iconst 0, 1) := by decide +kernel
theorem dX1_bad_14 : decode cX1_bad 14 = .ok (.ireturn, 1) := by decide +kernel
abbrev cX1_state : ByteArray := prog_3_method_4_code
def yX1_state : MethodName := ⟨RX1, "state", "(IZZ)I"⟩
theorem dX1_state_0 : decode cX1_state 0 = .ok (.iload_n 1, 1) := by decide +kernel
theorem dX1_state_1 : decode cX1_state 1 = .ok (.invokestatic 32, 3) := by decide +kernel
theorem dX1_state_4 : decode cX1_state 4 = .ok (.ifCond .eq 5, 3) := by decide +kernel
theorem dX1_state_7 : decode cX1_state 7 = .ok (.iconst (-1), 1) := by decide +kernel
theorem dX1_state_8 : decode cX1_state 8 = .ok (.ireturn, 1) := by decide +kernel
theorem dX1_state_9 : decode cX1_state 9 = .ok (.aload_n 0, 1) := by decide +kernel
theorem dX1_state_10 : decode cX1_state 10 = .ok (.getfield 13, 3) := by decide +kernel
theorem dX1_state_13 : decode cX1_state 13 = .ok (.iload_n 1, 1) := by decide +kernel
theorem dX1_state_14 : decode cX1_state 14 = .ok (.iload_n 2, 1) := by decide +kernel
theorem dX1_state_15 : decode cX1_state 15 = .ok (.bastore, 1) := by decide +kernel
theorem dX1_state_16 : decode cX1_state 16 = .ok (.aload_n 0, 1) := by decide +kernel
theorem dX1_state_17 : decode cX1_state 17 = .ok (.getfield 16, 3) := by decide +kernel
theorem dX1_state_20 : decode cX1_state 20 = .ok (.iload_n 1, 1) := by decide +kernel
theorem dX1_state_21 : decode cX1_state 21 = .ok (.iload_n 3, 1) := by decide +kernel
theorem dX1_state_22 : decode cX1_state 22 = .ok (.bastore, 1) := by decide +kernel
theorem dX1_state_23 : decode cX1_state 23 = .ok (.iconst 0, 1) := by decide +kernel
theorem dX1_state_24 : decode cX1_state 24 = .ok (.ireturn, 1) := by decide +kernel
abbrev cX1_read : ByteArray := prog_3_method_5_code
def yX1_read : MethodName := ⟨RX1, "read", "(I)I"⟩
theorem dX1_read_0 : decode cX1_read 0 = .ok (.iload_n 1, 1) := by decide +kernel
theorem dX1_read_1 : decode cX1_read 1 = .ok (.ifCond .lt 17, 3) := by decide +kernel
theorem dX1_read_4 : decode cX1_read 4 = .ok (.iload_n 1, 1) := by decide +kernel
theorem dX1_read_5 : decode cX1_read 5 = .ok (.iconst 5, 1) := by decide +kernel
theorem dX1_read_6 : decode cX1_read 6 = .ok (.if_icmp .gt 12, 3) := by decide +kernel
theorem dX1_read_9 : decode cX1_read 9 = .ok (.aload_n 0, 1) := by decide +kernel
theorem dX1_read_10 : decode cX1_read 10 = .ok (.getfield 36, 3) := by decide +kernel
theorem dX1_read_13 : decode cX1_read 13 = .ok (.bipush 16, 2) := by decide +kernel
theorem dX1_read_15 : decode cX1_read 15 = .ok (.if_icmp .ne 5, 3) := by decide +kernel
theorem dX1_read_18 : decode cX1_read 18 = .ok (.iconst (-1), 1) := by decide +kernel
theorem dX1_read_19 : decode cX1_read 19 = .ok (.ireturn, 1) := by decide +kernel
theorem dX1_read_20 : decode cX1_read 20 = .ok (.aload_n 0, 1) := by decide +kernel
theorem dX1_read_21 : decode cX1_read 21 = .ok (.getfield 19, 3) := by decide +kernel
theorem dX1_read_24 : decode cX1_read 24 = .ok (.aload_n 0, 1) := by decide +kernel
theorem dX1_read_25 : decode cX1_read 25 = .ok (.getfield 36, 3) := by decide +kernel
theorem dX1_read_28 : decode cX1_read 28 = .ok (.iload_n 1, 1) := by decide +kernel
theorem dX1_read_29 : decode cX1_read 29 = .ok (.iastore, 1) := by decide +kernel
theorem dX1_read_30 : decode cX1_read 30 = .ok (.aload_n 0, 1) := by decide +kernel
theorem dX1_read_31 : decode cX1_read 31 = .ok (.dup, 1) := by decide +kernel
theorem dX1_read_32 : decode cX1_read 32 = .ok (.getfield 36, 3) := by decide +kernel
theorem dX1_read_35 : decode cX1_read 35 = .ok (.iconst 1, 1) := by decide +kernel
theorem dX1_read_36 : decode cX1_read 36 = .ok (.iadd, 1) := by decide +kernel
theorem dX1_read_37 : decode cX1_read 37 = .ok (.putfield 36, 3) := by decide +kernel
theorem dX1_read_40 : decode cX1_read 40 = .ok (.aload_n 0, 1) := by decide +kernel
theorem dX1_read_41 : decode cX1_read 41 = .ok (.aload_n 0, 1) := by decide +kernel
theorem dX1_read_42 : decode cX1_read 42 = .ok (.getfield 36, 3) := by decide +kernel
theorem dX1_read_45 : decode cX1_read 45 = .ok (.invokevirtual 40, 3) := by decide +kernel
theorem dX1_read_48 : decode cX1_read 48 = .ok (.istore_n 2, 1) := by decide +kernel
theorem dX1_read_49 : decode cX1_read 49 = .ok (.iconst 0, 1) := by decide +kernel
theorem dX1_read_50 : decode cX1_read 50 = .ok (.istore_n 3, 1) := by decide +kernel
theorem dX1_read_51 : decode cX1_read 51 = .ok (.iconst 0, 1) := by decide +kernel
theorem dX1_read_52 : decode cX1_read 52 = .ok (.istore 4, 2) := by decide +kernel
theorem dX1_read_54 : decode cX1_read 54 = .ok (.iload 4, 2) := by decide +kernel
theorem dX1_read_56 : decode cX1_read 56 = .ok (.iconst 5, 1) := by decide +kernel
theorem dX1_read_57 : decode cX1_read 57 = .ok (.if_icmp .ge 18, 3) := by decide +kernel
theorem dX1_read_60 : decode cX1_read 60 = .ok (.iload_n 3, 1) := by decide +kernel
theorem dX1_read_61 : decode cX1_read 61 = .ok (.iload_n 2, 1) := by decide +kernel
theorem dX1_read_62 : decode cX1_read 62 = .ok (.iload 4, 2) := by decide +kernel
theorem dX1_read_64 : decode cX1_read 64 = .ok (.ishr, 1) := by decide +kernel
theorem dX1_read_65 : decode cX1_read 65 = .ok (.iconst 1, 1) := by decide +kernel
theorem dX1_read_66 : decode cX1_read 66 = .ok (.iand, 1) := by decide +kernel
theorem dX1_read_67 : decode cX1_read 67 = .ok (.iadd, 1) := by decide +kernel
theorem dX1_read_68 : decode cX1_read 68 = .ok (.istore_n 3, 1) := by decide +kernel
theorem dX1_read_69 : decode cX1_read 69 = .ok (.iinc 4 1, 3) := by decide +kernel
theorem dX1_read_72 : decode cX1_read 72 = .ok (.goto (-18), 3) := by decide +kernel
theorem dX1_read_75 : decode cX1_read 75 = .ok (.iload_n 3, 1) := by decide +kernel
theorem dX1_read_76 : decode cX1_read 76 = .ok (.ireturn, 1) := by decide +kernel
abbrev cX1_liveAfter : ByteArray := prog_3_method_14_code
def yX1_liveAfter : MethodName := ⟨RX1, "liveAfter", "(I)I"⟩
theorem dX1_liveAfter_0 : decode cX1_liveAfter 0 = .ok (.aload_n 0, 1) := by decide +kernel
theorem dX1_liveAfter_1 : decode cX1_liveAfter 1 = .ok (.iload_n 1, 1) := by decide +kernel
theorem dX1_liveAfter_2 : decode cX1_liveAfter 2 = .ok (.invokevirtual 55, 3) := by decide +kernel
theorem dX1_liveAfter_5 : decode cX1_liveAfter 5 = .ok (.pop, 1) := by decide +kernel
theorem dX1_liveAfter_6 : decode cX1_liveAfter 6 = .ok (.iconst 0, 1) := by decide +kernel
theorem dX1_liveAfter_7 : decode cX1_liveAfter 7 = .ok (.istore_n 2, 1) := by decide +kernel
theorem dX1_liveAfter_8 : decode cX1_liveAfter 8 = .ok (.iconst 0, 1) := by decide +kernel
theorem dX1_liveAfter_9 : decode cX1_liveAfter 9 = .ok (.istore_n 3, 1) := by decide +kernel
theorem dX1_liveAfter_10 : decode cX1_liveAfter 10 = .ok (.iload_n 3, 1) := by decide +kernel
theorem dX1_liveAfter_11 : decode cX1_liveAfter 11 = .ok (.iconst 5, 1) := by decide +kernel
theorem dX1_liveAfter_12 : decode cX1_liveAfter 12 = .ok (.if_icmp .ge 28, 3) := by decide +kernel
theorem dX1_liveAfter_15 : decode cX1_liveAfter 15 = .ok (.iload_n 2, 1) := by decide +kernel
theorem dX1_liveAfter_16 : decode cX1_liveAfter 16 = .ok (.aload_n 0, 1) := by decide +kernel
theorem dX1_liveAfter_17 : decode cX1_liveAfter 17 = .ok (.getfield 13, 3) := by decide +kernel
theorem dX1_liveAfter_20 : decode cX1_liveAfter 20 = .ok (.iload_n 3, 1) := by decide +kernel
theorem dX1_liveAfter_21 : decode cX1_liveAfter 21 = .ok (.baload, 1) := by decide +kernel
theorem dX1_liveAfter_22 : decode cX1_liveAfter 22 = .ok (.ifCond .eq 9, 3) := by decide +kernel
theorem dX1_liveAfter_25 : decode cX1_liveAfter 25 = .ok (.iconst 1, 1) := by decide +kernel
theorem dX1_liveAfter_26 : decode cX1_liveAfter 26 = .ok (.iload_n 3, 1) := by decide +kernel
theorem dX1_liveAfter_27 : decode cX1_liveAfter 27 = .ok (.ishl, 1) := by decide +kernel
theorem dX1_liveAfter_28 : decode cX1_liveAfter 28 = .ok (.goto 4, 3) := by decide +kernel
theorem dX1_liveAfter_31 : decode cX1_liveAfter 31 = .ok (.iconst 0, 1) := by decide +kernel
theorem dX1_liveAfter_32 : decode cX1_liveAfter 32 = .ok (.ior, 1) := by decide +kernel
theorem dX1_liveAfter_33 : decode cX1_liveAfter 33 = .ok (.istore_n 2, 1) := by decide +kernel
theorem dX1_liveAfter_34 : decode cX1_liveAfter 34 = .ok (.iinc 3 1, 3) := by decide +kernel
theorem dX1_liveAfter_37 : decode cX1_liveAfter 37 = .ok (.goto (-27), 3) := by decide +kernel
theorem dX1_liveAfter_40 : decode cX1_liveAfter 40 = .ok (.iconst 0, 1) := by decide +kernel
theorem dX1_liveAfter_41 : decode cX1_liveAfter 41 = .ok (.istore_n 3, 1) := by decide +kernel
theorem dX1_liveAfter_42 : decode cX1_liveAfter 42 = .ok (.iload_n 3, 1) := by decide +kernel
theorem dX1_liveAfter_43 : decode cX1_liveAfter 43 = .ok (.iload_n 1, 1) := by decide +kernel
theorem dX1_liveAfter_44 : decode cX1_liveAfter 44 = .ok (.if_icmp .ge 55, 3) := by decide +kernel
theorem dX1_liveAfter_47 : decode cX1_liveAfter 47 = .ok (.aload_n 0, 1) := by decide +kernel
theorem dX1_liveAfter_48 : decode cX1_liveAfter 48 = .ok (.getfield 19, 3) := by decide +kernel
theorem dX1_liveAfter_51 : decode cX1_liveAfter 51 = .ok (.iload_n 3, 1) := by decide +kernel
theorem dX1_liveAfter_52 : decode cX1_liveAfter 52 = .ok (.iaload, 1) := by decide +kernel
theorem dX1_liveAfter_53 : decode cX1_liveAfter 53 = .ok (.iconst 2, 1) := by decide +kernel
theorem dX1_liveAfter_54 : decode cX1_liveAfter 54 = .ok (.if_icmp .eq 13, 3) := by decide +kernel
theorem dX1_liveAfter_57 : decode cX1_liveAfter 57 = .ok (.aload_n 0, 1) := by decide +kernel
theorem dX1_liveAfter_58 : decode cX1_liveAfter 58 = .ok (.getfield 19, 3) := by decide +kernel
theorem dX1_liveAfter_61 : decode cX1_liveAfter 61 = .ok (.iload_n 3, 1) := by decide +kernel
theorem dX1_liveAfter_62 : decode cX1_liveAfter 62 = .ok (.iaload, 1) := by decide +kernel
theorem dX1_liveAfter_63 : decode cX1_liveAfter 63 = .ok (.iconst 3, 1) := by decide +kernel
theorem dX1_liveAfter_64 : decode cX1_liveAfter 64 = .ok (.if_icmp .ne 29, 3) := by decide +kernel
theorem dX1_liveAfter_67 : decode cX1_liveAfter 67 = .ok (.aload_n 0, 1) := by decide +kernel
theorem dX1_liveAfter_68 : decode cX1_liveAfter 68 = .ok (.getfield 23, 3) := by decide +kernel
theorem dX1_liveAfter_71 : decode cX1_liveAfter 71 = .ok (.iload_n 3, 1) := by decide +kernel
theorem dX1_liveAfter_72 : decode cX1_liveAfter 72 = .ok (.iaload, 1) := by decide +kernel
theorem dX1_liveAfter_73 : decode cX1_liveAfter 73 = .ok (.ifCond .lt 20, 3) := by decide +kernel
theorem dX1_liveAfter_76 : decode cX1_liveAfter 76 = .ok (.aload_n 0, 1) := by decide +kernel
theorem dX1_liveAfter_77 : decode cX1_liveAfter 77 = .ok (.getfield 26, 3) := by decide +kernel
theorem dX1_liveAfter_80 : decode cX1_liveAfter 80 = .ok (.iload_n 3, 1) := by decide +kernel
theorem dX1_liveAfter_81 : decode cX1_liveAfter 81 = .ok (.aload_n 0, 1) := by decide +kernel
theorem dX1_liveAfter_82 : decode cX1_liveAfter 82 = .ok (.aload_n 0, 1) := by decide +kernel
theorem dX1_liveAfter_83 : decode cX1_liveAfter 83 = .ok (.getfield 23, 3) := by decide +kernel
theorem dX1_liveAfter_86 : decode cX1_liveAfter 86 = .ok (.iload_n 3, 1) := by decide +kernel
theorem dX1_liveAfter_87 : decode cX1_liveAfter 87 = .ok (.iaload, 1) := by decide +kernel
theorem dX1_liveAfter_88 : decode cX1_liveAfter 88 = .ok (.iload_n 3, 1) := by decide +kernel
theorem dX1_liveAfter_89 : decode cX1_liveAfter 89 = .ok (.invokevirtual 58, 3) := by decide +kernel
theorem dX1_liveAfter_92 : decode cX1_liveAfter 92 = .ok (.iastore, 1) := by decide +kernel
theorem dX1_liveAfter_93 : decode cX1_liveAfter 93 = .ok (.iinc 3 1, 3) := by decide +kernel
theorem dX1_liveAfter_96 : decode cX1_liveAfter 96 = .ok (.goto (-54), 3) := by decide +kernel
theorem dX1_liveAfter_99 : decode cX1_liveAfter 99 = .ok (.iconst 0, 1) := by decide +kernel
theorem dX1_liveAfter_100 : decode cX1_liveAfter 100 = .ok (.istore_n 3, 1) := by decide +kernel
theorem dX1_liveAfter_101 : decode cX1_liveAfter 101 = .ok (.iload_n 3, 1) := by decide +kernel
theorem dX1_liveAfter_102 : decode cX1_liveAfter 102 = .ok (.iload_n 1, 1) := by decide +kernel
theorem dX1_liveAfter_103 : decode cX1_liveAfter 103 = .ok (.if_icmp .ge 110, 3) := by decide +kernel
theorem dX1_liveAfter_106 : decode cX1_liveAfter 106 = .ok (.aload_n 0, 1) := by decide +kernel
theorem dX1_liveAfter_107 : decode cX1_liveAfter 107 = .ok (.getfield 19, 3) := by decide +kernel
theorem dX1_liveAfter_110 : decode cX1_liveAfter 110 = .ok (.iload_n 3, 1) := by decide +kernel
theorem dX1_liveAfter_111 : decode cX1_liveAfter 111 = .ok (.iaload, 1) := by decide +kernel
theorem dX1_liveAfter_112 : decode cX1_liveAfter 112 = .ok (.istore 4, 2) := by decide +kernel
theorem dX1_liveAfter_114 : decode cX1_liveAfter 114 = .ok (.iload 4, 2) := by decide +kernel
theorem dX1_liveAfter_116 : decode cX1_liveAfter 116 = .ok (.iconst 4, 1) := by decide +kernel
theorem dX1_liveAfter_117 : decode cX1_liveAfter 117 = .ok (.if_icmp .lt 13, 3) := by decide +kernel
theorem dX1_liveAfter_120 : decode cX1_liveAfter 120 = .ok (.aload_n 0, 1) := by decide +kernel
theorem dX1_liveAfter_121 : decode cX1_liveAfter 121 = .ok (.iload 4, 2) := by decide +kernel
theorem dX1_liveAfter_123 : decode cX1_liveAfter 123 = .ok (.iconst 0, 1) := by decide +kernel
theorem dX1_liveAfter_124 : decode cX1_liveAfter 124 = .ok (.invokevirtual 45, 3) := by decide +kernel
theorem dX1_liveAfter_127 : decode cX1_liveAfter 127 = .ok (.goto 10, 3) := by decide +kernel
theorem dX1_liveAfter_130 : decode cX1_liveAfter 130 = .ok (.aload_n 0, 1) := by decide +kernel
theorem dX1_liveAfter_131 : decode cX1_liveAfter 131 = .ok (.iload 4, 2) := by decide +kernel
theorem dX1_liveAfter_133 : decode cX1_liveAfter 133 = .ok (.iconst 3, 1) := by decide +kernel
theorem dX1_liveAfter_134 : decode cX1_liveAfter 134 = .ok (.invokevirtual 45, 3) := by decide +kernel
theorem dX1_liveAfter_137 : decode cX1_liveAfter 137 = .ok (.istore 5, 2) := by decide +kernel
theorem dX1_liveAfter_139 : decode cX1_liveAfter 139 = .ok (.iload 4, 2) := by decide +kernel
theorem dX1_liveAfter_141 : decode cX1_liveAfter 141 = .ok (.iconst 1, 1) := by decide +kernel
theorem dX1_liveAfter_142 : decode cX1_liveAfter 142 = .ok (.if_icmp .gt 28, 3) := by decide +kernel
theorem dX1_liveAfter_145 : decode cX1_liveAfter 145 = .ok (.aload_n 0, 1) := by decide +kernel
theorem dX1_liveAfter_146 : decode cX1_liveAfter 146 = .ok (.iload 4, 2) := by decide +kernel
theorem dX1_liveAfter_148 : decode cX1_liveAfter 148 = .ok (.iconst 0, 1) := by decide +kernel
theorem dX1_liveAfter_149 : decode cX1_liveAfter 149 = .ok (.invokevirtual 45, 3) := by decide +kernel
theorem dX1_liveAfter_152 : decode cX1_liveAfter 152 = .ok (.aload_n 0, 1) := by decide +kernel
theorem dX1_liveAfter_153 : decode cX1_liveAfter 153 = .ok (.iload 4, 2) := by decide +kernel
theorem dX1_liveAfter_155 : decode cX1_liveAfter 155 = .ok (.iconst 1, 1) := by decide +kernel
theorem dX1_liveAfter_156 : decode cX1_liveAfter 156 = .ok (.invokevirtual 45, 3) := by decide +kernel
theorem dX1_liveAfter_159 : decode cX1_liveAfter 159 = .ok (.ior, 1) := by decide +kernel
theorem dX1_liveAfter_160 : decode cX1_liveAfter 160 = .ok (.aload_n 0, 1) := by decide +kernel
theorem dX1_liveAfter_161 : decode cX1_liveAfter 161 = .ok (.iload 4, 2) := by decide +kernel
theorem dX1_liveAfter_163 : decode cX1_liveAfter 163 = .ok (.iconst 2, 1) := by decide +kernel
theorem dX1_liveAfter_164 : decode cX1_liveAfter 164 = .ok (.invokevirtual 45, 3) := by decide +kernel
theorem dX1_liveAfter_167 : decode cX1_liveAfter 167 = .ok (.ior, 1) := by decide +kernel
theorem dX1_liveAfter_168 : decode cX1_liveAfter 168 = .ok (.istore 5, 2) := by decide +kernel
theorem dX1_liveAfter_170 : decode cX1_liveAfter 170 = .ok (.iload 4, 2) := by decide +kernel
theorem dX1_liveAfter_172 : decode cX1_liveAfter 172 = .ok (.iconst 1, 1) := by decide +kernel
theorem dX1_liveAfter_173 : decode cX1_liveAfter 173 = .ok (.if_icmp .gt 27, 3) := by decide +kernel
theorem dX1_liveAfter_176 : decode cX1_liveAfter 176 = .ok (.aload_n 0, 1) := by decide +kernel
theorem dX1_liveAfter_177 : decode cX1_liveAfter 177 = .ok (.getfield 23, 3) := by decide +kernel
theorem dX1_liveAfter_180 : decode cX1_liveAfter 180 = .ok (.iload_n 3, 1) := by decide +kernel
theorem dX1_liveAfter_181 : decode cX1_liveAfter 181 = .ok (.iaload, 1) := by decide +kernel
theorem dX1_liveAfter_182 : decode cX1_liveAfter 182 = .ok (.ifCond .lt 18, 3) := by decide +kernel
theorem dX1_liveAfter_185 : decode cX1_liveAfter 185 = .ok (.aload_n 0, 1) := by decide +kernel
theorem dX1_liveAfter_186 : decode cX1_liveAfter 186 = .ok (.getfield 23, 3) := by decide +kernel
theorem dX1_liveAfter_189 : decode cX1_liveAfter 189 = .ok (.iload_n 3, 1) := by decide +kernel
theorem dX1_liveAfter_190 : decode cX1_liveAfter 190 = .ok (.iaload, 1) := by decide +kernel
theorem dX1_liveAfter_191 : decode cX1_liveAfter 191 = .ok (.istore_n 3, 1) := by decide +kernel
theorem dX1_liveAfter_192 : decode cX1_liveAfter 192 = .ok (.aload_n 0, 1) := by decide +kernel
theorem dX1_liveAfter_193 : decode cX1_liveAfter 193 = .ok (.getfield 26, 3) := by decide +kernel
theorem dX1_liveAfter_196 : decode cX1_liveAfter 196 = .ok (.iload_n 3, 1) := by decide +kernel
theorem dX1_liveAfter_197 : decode cX1_liveAfter 197 = .ok (.iaload, 1) := by decide +kernel
theorem dX1_liveAfter_198 : decode cX1_liveAfter 198 = .ok (.istore 5, 2) := by decide +kernel
theorem dX1_liveAfter_200 : decode cX1_liveAfter 200 = .ok (.iload_n 2, 1) := by decide +kernel
theorem dX1_liveAfter_201 : decode cX1_liveAfter 201 = .ok (.iload 5, 2) := by decide +kernel
theorem dX1_liveAfter_203 : decode cX1_liveAfter 203 = .ok (.invokestatic 61, 3) := by decide +kernel
theorem dX1_liveAfter_206 : decode cX1_liveAfter 206 = .ok (.istore_n 2, 1) := by decide +kernel
theorem dX1_liveAfter_207 : decode cX1_liveAfter 207 = .ok (.iinc 3 1, 3) := by decide +kernel
theorem dX1_liveAfter_210 : decode cX1_liveAfter 210 = .ok (.goto (-109), 3) := by decide +kernel
theorem dX1_liveAfter_213 : decode cX1_liveAfter 213 = .ok (.iload_n 2, 1) := by decide +kernel
theorem dX1_liveAfter_214 : decode cX1_liveAfter 214 = .ok (.ireturn, 1) := by decide +kernel
abbrev cX1_match : ByteArray := prog_3_method_8_code
def yX1_match : MethodName := ⟨RX1, "match", "(I)I"⟩
theorem dX1_match_0 : decode cX1_match 0 = .ok (.iconst 0, 1) := by decide +kernel
theorem dX1_match_1 : decode cX1_match 1 = .ok (.istore_n 2, 1) := by decide +kernel
theorem dX1_match_2 : decode cX1_match 2 = .ok (.iconst 0, 1) := by decide +kernel
theorem dX1_match_3 : decode cX1_match 3 = .ok (.istore_n 3, 1) := by decide +kernel
theorem dX1_match_4 : decode cX1_match 4 = .ok (.iload_n 3, 1) := by decide +kernel
theorem dX1_match_5 : decode cX1_match 5 = .ok (.iload_n 1, 1) := by decide +kernel
theorem dX1_match_6 : decode cX1_match 6 = .ok (.if_icmp .ge 80, 3) := by decide +kernel
theorem dX1_match_9 : decode cX1_match 9 = .ok (.aload_n 0, 1) := by decide +kernel
theorem dX1_match_10 : decode cX1_match 10 = .ok (.getfield 23, 3) := by decide +kernel
theorem dX1_match_13 : decode cX1_match 13 = .ok (.iload_n 3, 1) := by decide +kernel
theorem dX1_match_14 : decode cX1_match 14 = .ok (.iconst (-1), 1) := by decide +kernel
theorem dX1_match_15 : decode cX1_match 15 = .ok (.iastore, 1) := by decide +kernel
theorem dX1_match_16 : decode cX1_match 16 = .ok (.aload_n 0, 1) := by decide +kernel
theorem dX1_match_17 : decode cX1_match 17 = .ok (.getfield 19, 3) := by decide +kernel
theorem dX1_match_20 : decode cX1_match 20 = .ok (.iload_n 3, 1) := by decide +kernel
theorem dX1_match_21 : decode cX1_match 21 = .ok (.iaload, 1) := by decide +kernel
theorem dX1_match_22 : decode cX1_match 22 = .ok (.iconst 1, 1) := by decide +kernel
theorem dX1_match_23 : decode cX1_match 23 = .ok (.if_icmp .gt 16, 3) := by decide +kernel
theorem dX1_match_26 : decode cX1_match 26 = .ok (.aload_n 0, 1) := by decide +kernel
theorem dX1_match_27 : decode cX1_match 27 = .ok (.getfield 29, 3) := by decide +kernel
theorem dX1_match_30 : decode cX1_match 30 = .ok (.iload_n 2, 1) := by decide +kernel
theorem dX1_match_31 : decode cX1_match 31 = .ok (.iload_n 3, 1) := by decide +kernel
theorem dX1_match_32 : decode cX1_match 32 = .ok (.iastore, 1) := by decide +kernel
theorem dX1_match_33 : decode cX1_match 33 = .ok (.iinc 2 1, 3) := by decide +kernel
theorem dX1_match_36 : decode cX1_match 36 = .ok (.goto 44, 3) := by decide +kernel
theorem dX1_match_39 : decode cX1_match 39 = .ok (.aload_n 0, 1) := by decide +kernel
theorem dX1_match_40 : decode cX1_match 40 = .ok (.getfield 19, 3) := by decide +kernel
theorem dX1_match_43 : decode cX1_match 43 = .ok (.iload_n 3, 1) := by decide +kernel
theorem dX1_match_44 : decode cX1_match 44 = .ok (.iaload, 1) := by decide +kernel
theorem dX1_match_45 : decode cX1_match 45 = .ok (.iconst 3, 1) := by decide +kernel
theorem dX1_match_46 : decode cX1_match 46 = .ok (.if_icmp .gt 34, 3) := by decide +kernel
theorem dX1_match_49 : decode cX1_match 49 = .ok (.iload_n 2, 1) := by decide +kernel
theorem dX1_match_50 : decode cX1_match 50 = .ok (.ifCond .le 30, 3) := by decide +kernel
theorem dX1_match_53 : decode cX1_match 53 = .ok (.iinc 2 (-1), 3) := by decide +kernel
theorem dX1_match_56 : decode cX1_match 56 = .ok (.aload_n 0, 1) := by decide +kernel
theorem dX1_match_57 : decode cX1_match 57 = .ok (.getfield 23, 3) := by decide +kernel
theorem dX1_match_60 : decode cX1_match 60 = .ok (.iload_n 3, 1) := by decide +kernel
theorem dX1_match_61 : decode cX1_match 61 = .ok (.aload_n 0, 1) := by decide +kernel
theorem dX1_match_62 : decode cX1_match 62 = .ok (.getfield 29, 3) := by decide +kernel
theorem dX1_match_65 : decode cX1_match 65 = .ok (.iload_n 2, 1) := by decide +kernel
theorem dX1_match_66 : decode cX1_match 66 = .ok (.iaload, 1) := by decide +kernel
theorem dX1_match_67 : decode cX1_match 67 = .ok (.iastore, 1) := by decide +kernel
theorem dX1_match_68 : decode cX1_match 68 = .ok (.aload_n 0, 1) := by decide +kernel
theorem dX1_match_69 : decode cX1_match 69 = .ok (.getfield 23, 3) := by decide +kernel
theorem dX1_match_72 : decode cX1_match 72 = .ok (.aload_n 0, 1) := by decide +kernel
theorem dX1_match_73 : decode cX1_match 73 = .ok (.getfield 29, 3) := by decide +kernel
theorem dX1_match_76 : decode cX1_match 76 = .ok (.iload_n 2, 1) := by decide +kernel
theorem dX1_match_77 : decode cX1_match 77 = .ok (.iaload, 1) := by decide +kernel
theorem dX1_match_78 : decode cX1_match 78 = .ok (.iload_n 3, 1) := by decide +kernel
theorem dX1_match_79 : decode cX1_match 79 = .ok (.iastore, 1) := by decide +kernel
theorem dX1_match_80 : decode cX1_match 80 = .ok (.iinc 3 1, 3) := by decide +kernel
theorem dX1_match_83 : decode cX1_match 83 = .ok (.goto (-79), 3) := by decide +kernel
theorem dX1_match_86 : decode cX1_match 86 = .ok (.iload_n 2, 1) := by decide +kernel
theorem dX1_match_87 : decode cX1_match 87 = .ok (.ireturn, 1) := by decide +kernel
abbrev cX1_piece : ByteArray := prog_3_method_12_code
def yX1_piece : MethodName := ⟨RX1, "piece", "(II)I"⟩
theorem dX1_piece_0 : decode cX1_piece 0 = .ok (.aload_n 0, 1) := by decide +kernel
theorem dX1_piece_1 : decode cX1_piece 1 = .ok (.iload_n 1, 1) := by decide +kernel
theorem dX1_piece_2 : decode cX1_piece 2 = .ok (.iload_n 2, 1) := by decide +kernel
theorem dX1_piece_3 : decode cX1_piece 3 = .ok (.invokevirtual 52, 3) := by decide +kernel
theorem dX1_piece_6 : decode cX1_piece 6 = .ok (.istore_n 3, 1) := by decide +kernel
theorem dX1_piece_7 : decode cX1_piece 7 = .ok (.iconst 0, 1) := by decide +kernel
theorem dX1_piece_8 : decode cX1_piece 8 = .ok (.istore 4, 2) := by decide +kernel
theorem dX1_piece_10 : decode cX1_piece 10 = .ok (.iconst 0, 1) := by decide +kernel
theorem dX1_piece_11 : decode cX1_piece 11 = .ok (.istore 5, 2) := by decide +kernel
theorem dX1_piece_13 : decode cX1_piece 13 = .ok (.iload 5, 2) := by decide +kernel
theorem dX1_piece_15 : decode cX1_piece 15 = .ok (.iconst 3, 1) := by decide +kernel
theorem dX1_piece_16 : decode cX1_piece 16 = .ok (.if_icmp .ge 57, 3) := by decide +kernel
theorem dX1_piece_19 : decode cX1_piece 19 = .ok (.aload_n 0, 1) := by decide +kernel
theorem dX1_piece_20 : decode cX1_piece 20 = .ok (.aload_n 0, 1) := by decide +kernel
theorem dX1_piece_21 : decode cX1_piece 21 = .ok (.getfield 19, 3) := by decide +kernel
theorem dX1_piece_24 : decode cX1_piece 24 = .ok (.iload_n 1, 1) := by decide +kernel
theorem dX1_piece_25 : decode cX1_piece 25 = .ok (.iaload, 1) := by decide +kernel
theorem dX1_piece_26 : decode cX1_piece 26 = .ok (.iload 5, 2) := by decide +kernel
theorem dX1_piece_28 : decode cX1_piece 28 = .ok (.invokevirtual 45, 3) := by decide +kernel
theorem dX1_piece_31 : decode cX1_piece 31 = .ok (.istore 6, 2) := by decide +kernel
theorem dX1_piece_33 : decode cX1_piece 33 = .ok (.aload_n 0, 1) := by decide +kernel
theorem dX1_piece_34 : decode cX1_piece 34 = .ok (.aload_n 0, 1) := by decide +kernel
theorem dX1_piece_35 : decode cX1_piece 35 = .ok (.getfield 19, 3) := by decide +kernel
theorem dX1_piece_38 : decode cX1_piece 38 = .ok (.iload_n 2, 1) := by decide +kernel
theorem dX1_piece_39 : decode cX1_piece 39 = .ok (.iaload, 1) := by decide +kernel
theorem dX1_piece_40 : decode cX1_piece 40 = .ok (.iload 5, 2) := by decide +kernel
theorem dX1_piece_42 : decode cX1_piece 42 = .ok (.invokevirtual 45, 3) := by decide +kernel
theorem dX1_piece_45 : decode cX1_piece 45 = .ok (.istore 7, 2) := by decide +kernel
theorem dX1_piece_47 : decode cX1_piece 47 = .ok (.iload 6, 2) := by decide +kernel
theorem dX1_piece_49 : decode cX1_piece 49 = .ok (.iload_n 3, 1) := by decide +kernel
theorem dX1_piece_50 : decode cX1_piece 50 = .ok (.invokestatic 49, 3) := by decide +kernel
theorem dX1_piece_53 : decode cX1_piece 53 = .ok (.istore 8, 2) := by decide +kernel
theorem dX1_piece_55 : decode cX1_piece 55 = .ok (.iload 4, 2) := by decide +kernel
theorem dX1_piece_57 : decode cX1_piece 57 = .ok (.iload 8, 2) := by decide +kernel
theorem dX1_piece_59 : decode cX1_piece 59 = .ok (.iload 7, 2) := by decide +kernel
theorem dX1_piece_61 : decode cX1_piece 61 = .ok (.invokestatic 49, 3) := by decide +kernel
theorem dX1_piece_64 : decode cX1_piece 64 = .ok (.ior, 1) := by decide +kernel
theorem dX1_piece_65 : decode cX1_piece 65 = .ok (.istore 4, 2) := by decide +kernel
theorem dX1_piece_67 : decode cX1_piece 67 = .ok (.iinc 5 1, 3) := by decide +kernel
theorem dX1_piece_70 : decode cX1_piece 70 = .ok (.goto (-57), 3) := by decide +kernel
theorem dX1_piece_73 : decode cX1_piece 73 = .ok (.iload 4, 2) := by decide +kernel
theorem dX1_piece_75 : decode cX1_piece 75 = .ok (.ireturn, 1) := by decide +kernel
abbrev cX1_between : ByteArray := prog_3_method_11_code
def yX1_between : MethodName := ⟨RX1, "between", "(II)I"⟩
theorem dX1_between_0 : decode cX1_between 0 = .ok (.ldc 44, 2) := by decide +kernel
theorem dX1_between_2 : decode cX1_between 2 = .ok (.istore_n 3, 1) := by decide +kernel
theorem dX1_between_3 : decode cX1_between 3 = .ok (.iload_n 1, 1) := by decide +kernel
theorem dX1_between_4 : decode cX1_between 4 = .ok (.iconst 1, 1) := by decide +kernel
theorem dX1_between_5 : decode cX1_between 5 = .ok (.iadd, 1) := by decide +kernel
theorem dX1_between_6 : decode cX1_between 6 = .ok (.istore 4, 2) := by decide +kernel
theorem dX1_between_8 : decode cX1_between 8 = .ok (.iload 4, 2) := by decide +kernel
theorem dX1_between_10 : decode cX1_between 10 = .ok (.iload_n 2, 1) := by decide +kernel
theorem dX1_between_11 : decode cX1_between 11 = .ok (.if_icmp .ge 76, 3) := by decide +kernel
theorem dX1_between_14 : decode cX1_between 14 = .ok (.aload_n 0, 1) := by decide +kernel
theorem dX1_between_15 : decode cX1_between 15 = .ok (.getfield 19, 3) := by decide +kernel
theorem dX1_between_18 : decode cX1_between 18 = .ok (.iload 4, 2) := by decide +kernel
theorem dX1_between_20 : decode cX1_between 20 = .ok (.iaload, 1) := by decide +kernel
theorem dX1_between_21 : decode cX1_between 21 = .ok (.iconst 4, 1) := by decide +kernel
theorem dX1_between_22 : decode cX1_between 22 = .ok (.if_icmp .lt 18, 3) := by decide +kernel
theorem dX1_between_25 : decode cX1_between 25 = .ok (.aload_n 0, 1) := by decide +kernel
theorem dX1_between_26 : decode cX1_between 26 = .ok (.aload_n 0, 1) := by decide +kernel
theorem dX1_between_27 : decode cX1_between 27 = .ok (.getfield 19, 3) := by decide +kernel
theorem dX1_between_30 : decode cX1_between 30 = .ok (.iload 4, 2) := by decide +kernel
theorem dX1_between_32 : decode cX1_between 32 = .ok (.iaload, 1) := by decide +kernel
theorem dX1_between_33 : decode cX1_between 33 = .ok (.iconst 0, 1) := by decide +kernel
theorem dX1_between_34 : decode cX1_between 34 = .ok (.invokevirtual 45, 3) := by decide +kernel
theorem dX1_between_37 : decode cX1_between 37 = .ok (.goto 15, 3) := by decide +kernel
theorem dX1_between_40 : decode cX1_between 40 = .ok (.aload_n 0, 1) := by decide +kernel
theorem dX1_between_41 : decode cX1_between 41 = .ok (.getfield 26, 3) := by decide +kernel
theorem dX1_between_44 : decode cX1_between 44 = .ok (.aload_n 0, 1) := by decide +kernel
theorem dX1_between_45 : decode cX1_between 45 = .ok (.getfield 23, 3) := by decide +kernel
theorem dX1_between_48 : decode cX1_between 48 = .ok (.iload 4, 2) := by decide +kernel
theorem dX1_between_50 : decode cX1_between 50 = .ok (.iaload, 1) := by decide +kernel
theorem dX1_between_51 : decode cX1_between 51 = .ok (.iaload, 1) := by decide +kernel
theorem dX1_between_52 : decode cX1_between 52 = .ok (.istore 5, 2) := by decide +kernel
theorem dX1_between_54 : decode cX1_between 54 = .ok (.iload_n 3, 1) := by decide +kernel
theorem dX1_between_55 : decode cX1_between 55 = .ok (.iload 5, 2) := by decide +kernel
theorem dX1_between_57 : decode cX1_between 57 = .ok (.invokestatic 49, 3) := by decide +kernel
theorem dX1_between_60 : decode cX1_between 60 = .ok (.istore_n 3, 1) := by decide +kernel
theorem dX1_between_61 : decode cX1_between 61 = .ok (.aload_n 0, 1) := by decide +kernel
theorem dX1_between_62 : decode cX1_between 62 = .ok (.getfield 19, 3) := by decide +kernel
theorem dX1_between_65 : decode cX1_between 65 = .ok (.iload 4, 2) := by decide +kernel
theorem dX1_between_67 : decode cX1_between 67 = .ok (.iaload, 1) := by decide +kernel
theorem dX1_between_68 : decode cX1_between 68 = .ok (.iconst 1, 1) := by decide +kernel
theorem dX1_between_69 : decode cX1_between 69 = .ok (.if_icmp .gt 12, 3) := by decide +kernel
theorem dX1_between_72 : decode cX1_between 72 = .ok (.aload_n 0, 1) := by decide +kernel
theorem dX1_between_73 : decode cX1_between 73 = .ok (.getfield 23, 3) := by decide +kernel
theorem dX1_between_76 : decode cX1_between 76 = .ok (.iload 4, 2) := by decide +kernel
theorem dX1_between_78 : decode cX1_between 78 = .ok (.iaload, 1) := by decide +kernel
theorem dX1_between_79 : decode cX1_between 79 = .ok (.istore 4, 2) := by decide +kernel
theorem dX1_between_81 : decode cX1_between 81 = .ok (.iinc 4 1, 3) := by decide +kernel
theorem dX1_between_84 : decode cX1_between 84 = .ok (.goto (-76), 3) := by decide +kernel
theorem dX1_between_87 : decode cX1_between 87 = .ok (.iload_n 3, 1) := by decide +kernel
theorem dX1_between_88 : decode cX1_between 88 = .ok (.ireturn, 1) := by decide +kernel
abbrev cX1_pairs : ByteArray := prog_3_method_9_code
def yX1_pairs : MethodName := ⟨RX1, "pairs", "(II)I"⟩
theorem dX1_pairs_0 : decode cX1_pairs 0 = .ok (.iconst 0, 1) := by decide +kernel
theorem dX1_pairs_1 : decode cX1_pairs 1 = .ok (.istore_n 3, 1) := by decide +kernel
theorem dX1_pairs_2 : decode cX1_pairs 2 = .ok (.iconst 0, 1) := by decide +kernel
theorem dX1_pairs_3 : decode cX1_pairs 3 = .ok (.istore 4, 2) := by decide +kernel
theorem dX1_pairs_5 : decode cX1_pairs 5 = .ok (.iload 4, 2) := by decide +kernel
theorem dX1_pairs_7 : decode cX1_pairs 7 = .ok (.bipush 25, 2) := by decide +kernel
theorem dX1_pairs_9 : decode cX1_pairs 9 = .ok (.if_icmp .ge 45, 3) := by decide +kernel
theorem dX1_pairs_12 : decode cX1_pairs 12 = .ok (.aload_n 0, 1) := by decide +kernel
theorem dX1_pairs_13 : decode cX1_pairs 13 = .ok (.getfield 7, 3) := by decide +kernel
theorem dX1_pairs_16 : decode cX1_pairs 16 = .ok (.bipush 120, 2) := by decide +kernel
theorem dX1_pairs_18 : decode cX1_pairs 18 = .ok (.iload 4, 2) := by decide +kernel
theorem dX1_pairs_20 : decode cX1_pairs 20 = .ok (.iconst 5, 1) := by decide +kernel
theorem dX1_pairs_21 : decode cX1_pairs 21 = .ok (.idiv, 1) := by decide +kernel
theorem dX1_pairs_22 : decode cX1_pairs 22 = .ok (.imul, 1) := by decide +kernel
theorem dX1_pairs_23 : decode cX1_pairs 23 = .ok (.bipush 20, 2) := by decide +kernel
theorem dX1_pairs_25 : decode cX1_pairs 25 = .ok (.iload_n 1, 1) := by decide +kernel
theorem dX1_pairs_26 : decode cX1_pairs 26 = .ok (.imul, 1) := by decide +kernel
theorem dX1_pairs_27 : decode cX1_pairs 27 = .ok (.iadd, 1) := by decide +kernel
theorem dX1_pairs_28 : decode cX1_pairs 28 = .ok (.iconst 4, 1) := by decide +kernel
theorem dX1_pairs_29 : decode cX1_pairs 29 = .ok (.iload 4, 2) := by decide +kernel
theorem dX1_pairs_31 : decode cX1_pairs 31 = .ok (.iconst 5, 1) := by decide +kernel
theorem dX1_pairs_32 : decode cX1_pairs 32 = .ok (.irem, 1) := by decide +kernel
theorem dX1_pairs_33 : decode cX1_pairs 33 = .ok (.imul, 1) := by decide +kernel
theorem dX1_pairs_34 : decode cX1_pairs 34 = .ok (.iadd, 1) := by decide +kernel
theorem dX1_pairs_35 : decode cX1_pairs 35 = .ok (.iload_n 2, 1) := by decide +kernel
theorem dX1_pairs_36 : decode cX1_pairs 36 = .ok (.iadd, 1) := by decide +kernel
theorem dX1_pairs_37 : decode cX1_pairs 37 = .ok (.baload, 1) := by decide +kernel
theorem dX1_pairs_38 : decode cX1_pairs 38 = .ok (.ifCond .eq 10, 3) := by decide +kernel
theorem dX1_pairs_41 : decode cX1_pairs 41 = .ok (.iload_n 3, 1) := by decide +kernel
theorem dX1_pairs_42 : decode cX1_pairs 42 = .ok (.iconst 1, 1) := by decide +kernel
theorem dX1_pairs_43 : decode cX1_pairs 43 = .ok (.iload 4, 2) := by decide +kernel
theorem dX1_pairs_45 : decode cX1_pairs 45 = .ok (.ishl, 1) := by decide +kernel
theorem dX1_pairs_46 : decode cX1_pairs 46 = .ok (.ior, 1) := by decide +kernel
theorem dX1_pairs_47 : decode cX1_pairs 47 = .ok (.istore_n 3, 1) := by decide +kernel
theorem dX1_pairs_48 : decode cX1_pairs 48 = .ok (.iinc 4 1, 3) := by decide +kernel
theorem dX1_pairs_51 : decode cX1_pairs 51 = .ok (.goto (-46), 3) := by decide +kernel
theorem dX1_pairs_54 : decode cX1_pairs 54 = .ok (.iload_n 3, 1) := by decide +kernel
theorem dX1_pairs_55 : decode cX1_pairs 55 = .ok (.ireturn, 1) := by decide +kernel
abbrev cX1_then : ByteArray := prog_3_method_10_code
def yX1_then : MethodName := ⟨RX1, "then", "(II)I"⟩
theorem dX1_then_0 : decode cX1_then 0 = .ok (.iconst 0, 1) := by decide +kernel
theorem dX1_then_1 : decode cX1_then 1 = .ok (.istore_n 2, 1) := by decide +kernel
theorem dX1_then_2 : decode cX1_then 2 = .ok (.iconst 0, 1) := by decide +kernel
theorem dX1_then_3 : decode cX1_then 3 = .ok (.istore_n 3, 1) := by decide +kernel
theorem dX1_then_4 : decode cX1_then 4 = .ok (.iload_n 3, 1) := by decide +kernel
theorem dX1_then_5 : decode cX1_then 5 = .ok (.bipush 125, 2) := by decide +kernel
theorem dX1_then_7 : decode cX1_then 7 = .ok (.if_icmp .ge 69, 3) := by decide +kernel
theorem dX1_then_10 : decode cX1_then 10 = .ok (.iload_n 3, 1) := by decide +kernel
theorem dX1_then_11 : decode cX1_then 11 = .ok (.bipush 25, 2) := by decide +kernel
theorem dX1_then_13 : decode cX1_then 13 = .ok (.idiv, 1) := by decide +kernel
theorem dX1_then_14 : decode cX1_then 14 = .ok (.istore 4, 2) := by decide +kernel
theorem dX1_then_16 : decode cX1_then 16 = .ok (.iload_n 3, 1) := by decide +kernel
theorem dX1_then_17 : decode cX1_then 17 = .ok (.iconst 5, 1) := by decide +kernel
theorem dX1_then_18 : decode cX1_then 18 = .ok (.idiv, 1) := by decide +kernel
theorem dX1_then_19 : decode cX1_then 19 = .ok (.iconst 5, 1) := by decide +kernel
theorem dX1_then_20 : decode cX1_then 20 = .ok (.irem, 1) := by decide +kernel
theorem dX1_then_21 : decode cX1_then 21 = .ok (.istore 5, 2) := by decide +kernel
theorem dX1_then_23 : decode cX1_then 23 = .ok (.iload_n 3, 1) := by decide +kernel
theorem dX1_then_24 : decode cX1_then 24 = .ok (.iconst 5, 1) := by decide +kernel
theorem dX1_then_25 : decode cX1_then 25 = .ok (.irem, 1) := by decide +kernel
theorem dX1_then_26 : decode cX1_then 26 = .ok (.istore 6, 2) := by decide +kernel
theorem dX1_then_28 : decode cX1_then 28 = .ok (.iload_n 0, 1) := by decide +kernel
theorem dX1_then_29 : decode cX1_then 29 = .ok (.iconst 5, 1) := by decide +kernel
theorem dX1_then_30 : decode cX1_then 30 = .ok (.iload 4, 2) := by decide +kernel
theorem dX1_then_32 : decode cX1_then 32 = .ok (.imul, 1) := by decide +kernel
theorem dX1_then_33 : decode cX1_then 33 = .ok (.iload 5, 2) := by decide +kernel
theorem dX1_then_35 : decode cX1_then 35 = .ok (.iadd, 1) := by decide +kernel
theorem dX1_then_36 : decode cX1_then 36 = .ok (.ishr, 1) := by decide +kernel
theorem dX1_then_37 : decode cX1_then 37 = .ok (.iconst 1, 1) := by decide +kernel
theorem dX1_then_38 : decode cX1_then 38 = .ok (.iand, 1) := by decide +kernel
theorem dX1_then_39 : decode cX1_then 39 = .ok (.iconst 1, 1) := by decide +kernel
theorem dX1_then_40 : decode cX1_then 40 = .ok (.if_icmp .ne 30, 3) := by decide +kernel
theorem dX1_then_43 : decode cX1_then 43 = .ok (.iload_n 1, 1) := by decide +kernel
theorem dX1_then_44 : decode cX1_then 44 = .ok (.iconst 5, 1) := by decide +kernel
theorem dX1_then_45 : decode cX1_then 45 = .ok (.iload 5, 2) := by decide +kernel
theorem dX1_then_47 : decode cX1_then 47 = .ok (.imul, 1) := by decide +kernel
theorem dX1_then_48 : decode cX1_then 48 = .ok (.iload 6, 2) := by decide +kernel
theorem dX1_then_50 : decode cX1_then 50 = .ok (.iadd, 1) := by decide +kernel
theorem dX1_then_51 : decode cX1_then 51 = .ok (.ishr, 1) := by decide +kernel
theorem dX1_then_52 : decode cX1_then 52 = .ok (.iconst 1, 1) := by decide +kernel
theorem dX1_then_53 : decode cX1_then 53 = .ok (.iand, 1) := by decide +kernel
theorem dX1_then_54 : decode cX1_then 54 = .ok (.iconst 1, 1) := by decide +kernel
theorem dX1_then_55 : decode cX1_then 55 = .ok (.if_icmp .ne 15, 3) := by decide +kernel
theorem dX1_then_58 : decode cX1_then 58 = .ok (.iload_n 2, 1) := by decide +kernel
theorem dX1_then_59 : decode cX1_then 59 = .ok (.iconst 1, 1) := by decide +kernel
theorem dX1_then_60 : decode cX1_then 60 = .ok (.iconst 5, 1) := by decide +kernel
theorem dX1_then_61 : decode cX1_then 61 = .ok (.iload 4, 2) := by decide +kernel
theorem dX1_then_63 : decode cX1_then 63 = .ok (.imul, 1) := by decide +kernel
theorem dX1_then_64 : decode cX1_then 64 = .ok (.iload 6, 2) := by decide +kernel
theorem dX1_then_66 : decode cX1_then 66 = .ok (.iadd, 1) := by decide +kernel
theorem dX1_then_67 : decode cX1_then 67 = .ok (.ishl, 1) := by decide +kernel
theorem dX1_then_68 : decode cX1_then 68 = .ok (.ior, 1) := by decide +kernel
theorem dX1_then_69 : decode cX1_then 69 = .ok (.istore_n 2, 1) := by decide +kernel
theorem dX1_then_70 : decode cX1_then 70 = .ok (.iinc 3 1, 3) := by decide +kernel
theorem dX1_then_73 : decode cX1_then 73 = .ok (.goto (-69), 3) := by decide +kernel
theorem dX1_then_76 : decode cX1_then 76 = .ok (.iload_n 2, 1) := by decide +kernel
theorem dX1_then_77 : decode cX1_then 77 = .ok (.ireturn, 1) := by decide +kernel
abbrev cX1_image : ByteArray := prog_3_method_13_code
def yX1_image : MethodName := ⟨RX1, "image", "(II)I"⟩
theorem dX1_image_0 : decode cX1_image 0 = .ok (.iconst 0, 1) := by decide +kernel
theorem dX1_image_1 : decode cX1_image 1 = .ok (.istore_n 2, 1) := by decide +kernel
theorem dX1_image_2 : decode cX1_image 2 = .ok (.iconst 0, 1) := by decide +kernel
theorem dX1_image_3 : decode cX1_image 3 = .ok (.istore_n 3, 1) := by decide +kernel
theorem dX1_image_4 : decode cX1_image 4 = .ok (.iload_n 3, 1) := by decide +kernel
theorem dX1_image_5 : decode cX1_image 5 = .ok (.bipush 25, 2) := by decide +kernel
theorem dX1_image_7 : decode cX1_image 7 = .ok (.if_icmp .ge 37, 3) := by decide +kernel
theorem dX1_image_10 : decode cX1_image 10 = .ok (.iload_n 0, 1) := by decide +kernel
theorem dX1_image_11 : decode cX1_image 11 = .ok (.iload_n 3, 1) := by decide +kernel
theorem dX1_image_12 : decode cX1_image 12 = .ok (.iconst 5, 1) := by decide +kernel
theorem dX1_image_13 : decode cX1_image 13 = .ok (.idiv, 1) := by decide +kernel
theorem dX1_image_14 : decode cX1_image 14 = .ok (.ishr, 1) := by decide +kernel
theorem dX1_image_15 : decode cX1_image 15 = .ok (.iconst 1, 1) := by decide +kernel
theorem dX1_image_16 : decode cX1_image 16 = .ok (.iand, 1) := by decide +kernel
theorem dX1_image_17 : decode cX1_image 17 = .ok (.iconst 1, 1) := by decide +kernel
theorem dX1_image_18 : decode cX1_image 18 = .ok (.if_icmp .ne 20, 3) := by decide +kernel
theorem dX1_image_21 : decode cX1_image 21 = .ok (.iload_n 1, 1) := by decide +kernel
theorem dX1_image_22 : decode cX1_image 22 = .ok (.iload_n 3, 1) := by decide +kernel
theorem dX1_image_23 : decode cX1_image 23 = .ok (.ishr, 1) := by decide +kernel
theorem dX1_image_24 : decode cX1_image 24 = .ok (.iconst 1, 1) := by decide +kernel
theorem dX1_image_25 : decode cX1_image 25 = .ok (.iand, 1) := by decide +kernel
theorem dX1_image_26 : decode cX1_image 26 = .ok (.iconst 1, 1) := by decide +kernel
theorem dX1_image_27 : decode cX1_image 27 = .ok (.if_icmp .ne 11, 3) := by decide +kernel
theorem dX1_image_30 : decode cX1_image 30 = .ok (.iload_n 2, 1) := by decide +kernel
theorem dX1_image_31 : decode cX1_image 31 = .ok (.iconst 1, 1) := by decide +kernel
theorem dX1_image_32 : decode cX1_image 32 = .ok (.iload_n 3, 1) := by decide +kernel
theorem dX1_image_33 : decode cX1_image 33 = .ok (.iconst 5, 1) := by decide +kernel
theorem dX1_image_34 : decode cX1_image 34 = .ok (.irem, 1) := by decide +kernel
theorem dX1_image_35 : decode cX1_image 35 = .ok (.ishl, 1) := by decide +kernel
theorem dX1_image_36 : decode cX1_image 36 = .ok (.ior, 1) := by decide +kernel
theorem dX1_image_37 : decode cX1_image 37 = .ok (.istore_n 2, 1) := by decide +kernel
theorem dX1_image_38 : decode cX1_image 38 = .ok (.iinc 3 1, 3) := by decide +kernel
theorem dX1_image_41 : decode cX1_image 41 = .ok (.goto (-37), 3) := by decide +kernel
theorem dX1_image_44 : decode cX1_image 44 = .ok (.iload_n 2, 1) := by decide +kernel
theorem dX1_image_45 : decode cX1_image 45 = .ok (.ireturn, 1) := by decide +kernel
abbrev cX1_back : ByteArray := prog_3_method_6_code
def yX1_back : MethodName := ⟨RX1, "back", "()I"⟩
theorem dX1_back_0 : decode cX1_back 0 = .ok (.aload_n 0, 1) := by decide +kernel
theorem dX1_back_1 : decode cX1_back 1 = .ok (.getfield 36, 3) := by decide +kernel
theorem dX1_back_4 : decode cX1_back 4 = .ok (.ifCond .ne 5, 3) := by decide +kernel
theorem dX1_back_7 : decode cX1_back 7 = .ok (.iconst (-1), 1) := by decide +kernel
theorem dX1_back_8 : decode cX1_back 8 = .ok (.ireturn, 1) := by decide +kernel
theorem dX1_back_9 : decode cX1_back 9 = .ok (.aload_n 0, 1) := by decide +kernel
theorem dX1_back_10 : decode cX1_back 10 = .ok (.dup, 1) := by decide +kernel
theorem dX1_back_11 : decode cX1_back 11 = .ok (.getfield 36, 3) := by decide +kernel
theorem dX1_back_14 : decode cX1_back 14 = .ok (.iconst 1, 1) := by decide +kernel
theorem dX1_back_15 : decode cX1_back 15 = .ok (.isub, 1) := by decide +kernel
theorem dX1_back_16 : decode cX1_back 16 = .ok (.putfield 36, 3) := by decide +kernel
theorem dX1_back_19 : decode cX1_back 19 = .ok (.aload_n 0, 1) := by decide +kernel
theorem dX1_back_20 : decode cX1_back 20 = .ok (.getfield 19, 3) := by decide +kernel
theorem dX1_back_23 : decode cX1_back 23 = .ok (.aload_n 0, 1) := by decide +kernel
theorem dX1_back_24 : decode cX1_back 24 = .ok (.getfield 36, 3) := by decide +kernel
theorem dX1_back_27 : decode cX1_back 27 = .ok (.iaload, 1) := by decide +kernel
theorem dX1_back_28 : decode cX1_back 28 = .ok (.ireturn, 1) := by decide +kernel
abbrev cX1_erase : ByteArray := prog_3_method_7_code
def yX1_erase : MethodName := ⟨RX1, "erase", "()V"⟩
theorem dX1_erase_0 : decode cX1_erase 0 = .ok (.aload_n 0, 1) := by decide +kernel
theorem dX1_erase_1 : decode cX1_erase 1 = .ok (.iconst 0, 1) := by decide +kernel
theorem dX1_erase_2 : decode cX1_erase 2 = .ok (.putfield 36, 3) := by decide +kernel
theorem dX1_erase_5 : decode cX1_erase 5 = .ok (.return_, 1) := by decide +kernel
abbrev cX1_live : ByteArray := prog_3_method_15_code
def yX1_live : MethodName := ⟨RX1, "live", "()I"⟩
theorem dX1_live_0 : decode cX1_live 0 = .ok (.aload_n 0, 1) := by decide +kernel
theorem dX1_live_1 : decode cX1_live 1 = .ok (.aload_n 0, 1) := by decide +kernel
theorem dX1_live_2 : decode cX1_live 2 = .ok (.getfield 36, 3) := by decide +kernel
theorem dX1_live_5 : decode cX1_live 5 = .ok (.invokevirtual 40, 3) := by decide +kernel
theorem dX1_live_8 : decode cX1_live 8 = .ok (.ireturn, 1) := by decide +kernel
abbrev cX1_accepted : ByteArray := prog_3_method_17_code
def yX1_accepted : MethodName := ⟨RX1, "accepted", "()I"⟩
theorem dX1_accepted_0 : decode cX1_accepted 0 = .ok (.aload_n 0, 1) := by decide +kernel
theorem dX1_accepted_1 : decode cX1_accepted 1 = .ok (.invokevirtual 64, 3) := by decide +kernel
theorem dX1_accepted_4 : decode cX1_accepted 4 = .ok (.aload_n 0, 1) := by decide +kernel
theorem dX1_accepted_5 : decode cX1_accepted 5 = .ok (.invokevirtual 68, 3) := by decide +kernel
theorem dX1_accepted_8 : decode cX1_accepted 8 = .ok (.iand, 1) := by decide +kernel
theorem dX1_accepted_9 : decode cX1_accepted 9 = .ok (.ifCond .eq 7, 3) := by decide +kernel
theorem dX1_accepted_12 : decode cX1_accepted 12 = .ok (.iconst 1, 1) := by decide +kernel
theorem dX1_accepted_13 : decode cX1_accepted 13 = .ok (.goto 4, 3) := by decide +kernel
theorem dX1_accepted_16 : decode cX1_accepted 16 = .ok (.iconst 0, 1) := by decide +kernel
theorem dX1_accepted_17 : decode cX1_accepted 17 = .ok (.ireturn, 1) := by decide +kernel
abbrev cX1_endsOf : ByteArray := prog_3_method_16_code
def yX1_endsOf : MethodName := ⟨RX1, "endsOf", "()I"⟩
theorem dX1_endsOf_0 : decode cX1_endsOf 0 = .ok (.iconst 0, 1) := by decide +kernel
theorem dX1_endsOf_1 : decode cX1_endsOf 1 = .ok (.istore_n 1, 1) := by decide +kernel
theorem dX1_endsOf_2 : decode cX1_endsOf 2 = .ok (.iconst 0, 1) := by decide +kernel
theorem dX1_endsOf_3 : decode cX1_endsOf 3 = .ok (.istore_n 2, 1) := by decide +kernel
theorem dX1_endsOf_4 : decode cX1_endsOf 4 = .ok (.iload_n 2, 1) := by decide +kernel
theorem dX1_endsOf_5 : decode cX1_endsOf 5 = .ok (.iconst 5, 1) := by decide +kernel
theorem dX1_endsOf_6 : decode cX1_endsOf 6 = .ok (.if_icmp .ge 28, 3) := by decide +kernel
theorem dX1_endsOf_9 : decode cX1_endsOf 9 = .ok (.iload_n 1, 1) := by decide +kernel
theorem dX1_endsOf_10 : decode cX1_endsOf 10 = .ok (.aload_n 0, 1) := by decide +kernel
theorem dX1_endsOf_11 : decode cX1_endsOf 11 = .ok (.getfield 16, 3) := by decide +kernel
theorem dX1_endsOf_14 : decode cX1_endsOf 14 = .ok (.iload_n 2, 1) := by decide +kernel
theorem dX1_endsOf_15 : decode cX1_endsOf 15 = .ok (.baload, 1) := by decide +kernel
theorem dX1_endsOf_16 : decode cX1_endsOf 16 = .ok (.ifCond .eq 9, 3) := by decide +kernel
theorem dX1_endsOf_19 : decode cX1_endsOf 19 = .ok (.iconst 1, 1) := by decide +kernel
theorem dX1_endsOf_20 : decode cX1_endsOf 20 = .ok (.iload_n 2, 1) := by decide +kernel
theorem dX1_endsOf_21 : decode cX1_endsOf 21 = .ok (.ishl, 1) := by decide +kernel
theorem dX1_endsOf_22 : decode cX1_endsOf 22 = .ok (.goto 4, 3) := by decide +kernel
theorem dX1_endsOf_25 : decode cX1_endsOf 25 = .ok (.iconst 0, 1) := by decide +kernel
theorem dX1_endsOf_26 : decode cX1_endsOf 26 = .ok (.ior, 1) := by decide +kernel
theorem dX1_endsOf_27 : decode cX1_endsOf 27 = .ok (.istore_n 1, 1) := by decide +kernel
theorem dX1_endsOf_28 : decode cX1_endsOf 28 = .ok (.iinc 2 1, 3) := by decide +kernel
theorem dX1_endsOf_31 : decode cX1_endsOf 31 = .ok (.goto (-27), 3) := by decide +kernel
theorem dX1_endsOf_34 : decode cX1_endsOf 34 = .ok (.iload_n 1, 1) := by decide +kernel
theorem dX1_endsOf_35 : decode cX1_endsOf 35 = .ok (.ireturn, 1) := by decide +kernel
abbrev cX1_open : ByteArray := prog_3_method_18_code
def yX1_open : MethodName := ⟨RX1, "open", "()I"⟩
theorem dX1_open_0 : decode cX1_open 0 = .ok (.aload_n 0, 1) := by decide +kernel
theorem dX1_open_1 : decode cX1_open 1 = .ok (.aload_n 0, 1) := by decide +kernel
theorem dX1_open_2 : decode cX1_open 2 = .ok (.getfield 36, 3) := by decide +kernel
theorem dX1_open_5 : decode cX1_open 5 = .ok (.invokevirtual 55, 3) := by decide +kernel
theorem dX1_open_8 : decode cX1_open 8 = .ok (.ireturn, 1) := by decide +kernel
abbrev cX1_next : ByteArray := prog_3_method_19_code
def yX1_next : MethodName := ⟨RX1, "next", "()I"⟩
theorem dX1_next_0 : decode cX1_next 0 = .ok (.iconst 0, 1) := by decide +kernel
theorem dX1_next_1 : decode cX1_next 1 = .ok (.istore_n 1, 1) := by decide +kernel
theorem dX1_next_2 : decode cX1_next 2 = .ok (.iconst 0, 1) := by decide +kernel
theorem dX1_next_3 : decode cX1_next 3 = .ok (.istore_n 2, 1) := by decide +kernel
theorem dX1_next_4 : decode cX1_next 4 = .ok (.iload_n 2, 1) := by decide +kernel
theorem dX1_next_5 : decode cX1_next 5 = .ok (.bipush 6, 2) := by decide +kernel
theorem dX1_next_7 : decode cX1_next 7 = .ok (.if_icmp .ge 38, 3) := by decide +kernel
theorem dX1_next_10 : decode cX1_next 10 = .ok (.aload_n 0, 1) := by decide +kernel
theorem dX1_next_11 : decode cX1_next 11 = .ok (.getfield 19, 3) := by decide +kernel
theorem dX1_next_14 : decode cX1_next 14 = .ok (.aload_n 0, 1) := by decide +kernel
theorem dX1_next_15 : decode cX1_next 15 = .ok (.getfield 36, 3) := by decide +kernel
theorem dX1_next_18 : decode cX1_next 18 = .ok (.iload_n 2, 1) := by decide +kernel
theorem dX1_next_19 : decode cX1_next 19 = .ok (.iastore, 1) := by decide +kernel
theorem dX1_next_20 : decode cX1_next 20 = .ok (.aload_n 0, 1) := by decide +kernel
theorem dX1_next_21 : decode cX1_next 21 = .ok (.aload_n 0, 1) := by decide +kernel
theorem dX1_next_22 : decode cX1_next 22 = .ok (.getfield 36, 3) := by decide +kernel
theorem dX1_next_25 : decode cX1_next 25 = .ok (.iconst 1, 1) := by decide +kernel
theorem dX1_next_26 : decode cX1_next 26 = .ok (.iadd, 1) := by decide +kernel
theorem dX1_next_27 : decode cX1_next 27 = .ok (.invokevirtual 40, 3) := by decide +kernel
theorem dX1_next_30 : decode cX1_next 30 = .ok (.ifCond .eq 9, 3) := by decide +kernel
theorem dX1_next_33 : decode cX1_next 33 = .ok (.iload_n 1, 1) := by decide +kernel
theorem dX1_next_34 : decode cX1_next 34 = .ok (.iconst 1, 1) := by decide +kernel
theorem dX1_next_35 : decode cX1_next 35 = .ok (.iload_n 2, 1) := by decide +kernel
theorem dX1_next_36 : decode cX1_next 36 = .ok (.ishl, 1) := by decide +kernel
theorem dX1_next_37 : decode cX1_next 37 = .ok (.ior, 1) := by decide +kernel
theorem dX1_next_38 : decode cX1_next 38 = .ok (.istore_n 1, 1) := by decide +kernel
theorem dX1_next_39 : decode cX1_next 39 = .ok (.iinc 2 1, 3) := by decide +kernel
theorem dX1_next_42 : decode cX1_next 42 = .ok (.goto (-38), 3) := by decide +kernel
theorem dX1_next_45 : decode cX1_next 45 = .ok (.iload_n 1, 1) := by decide +kernel
theorem dX1_next_46 : decode cX1_next 46 = .ok (.ireturn, 1) := by decide +kernel
abbrev cX1_close : ByteArray := prog_3_method_20_code
def yX1_close : MethodName := ⟨RX1, "close", "()I"⟩
theorem dX1_close_0 : decode cX1_close 0 = .ok (.iconst 0, 1) := by decide +kernel
theorem dX1_close_1 : decode cX1_close 1 = .ok (.istore_n 1, 1) := by decide +kernel
theorem dX1_close_2 : decode cX1_close 2 = .ok (.iload_n 1, 1) := by decide +kernel
theorem dX1_close_3 : decode cX1_close 3 = .ok (.iconst 4, 1) := by decide +kernel
theorem dX1_close_4 : decode cX1_close 4 = .ok (.if_icmp .gt 46, 3) := by decide +kernel
theorem dX1_close_7 : decode cX1_close 7 = .ok (.aload_n 0, 1) := by decide +kernel
theorem dX1_close_8 : decode cX1_close 8 = .ok (.aload_n 0, 1) := by decide +kernel
theorem dX1_close_9 : decode cX1_close 9 = .ok (.getfield 36, 3) := by decide +kernel
theorem dX1_close_12 : decode cX1_close 12 = .ok (.iload_n 1, 1) := by decide +kernel
theorem dX1_close_13 : decode cX1_close 13 = .ok (.iadd, 1) := by decide +kernel
theorem dX1_close_14 : decode cX1_close 14 = .ok (.invokevirtual 40, 3) := by decide +kernel
theorem dX1_close_17 : decode cX1_close 17 = .ok (.aload_n 0, 1) := by decide +kernel
theorem dX1_close_18 : decode cX1_close 18 = .ok (.invokevirtual 68, 3) := by decide +kernel
theorem dX1_close_21 : decode cX1_close 21 = .ok (.iand, 1) := by decide +kernel
theorem dX1_close_22 : decode cX1_close 22 = .ok (.ifCond .eq 5, 3) := by decide +kernel
theorem dX1_close_25 : decode cX1_close 25 = .ok (.iload_n 1, 1) := by decide +kernel
theorem dX1_close_26 : decode cX1_close 26 = .ok (.ireturn, 1) := by decide +kernel
theorem dX1_close_27 : decode cX1_close 27 = .ok (.iload_n 1, 1) := by decide +kernel
theorem dX1_close_28 : decode cX1_close 28 = .ok (.iconst 4, 1) := by decide +kernel
theorem dX1_close_29 : decode cX1_close 29 = .ok (.if_icmp .ge 15, 3) := by decide +kernel
theorem dX1_close_32 : decode cX1_close 32 = .ok (.aload_n 0, 1) := by decide +kernel
theorem dX1_close_33 : decode cX1_close 33 = .ok (.getfield 19, 3) := by decide +kernel
theorem dX1_close_36 : decode cX1_close 36 = .ok (.aload_n 0, 1) := by decide +kernel
theorem dX1_close_37 : decode cX1_close 37 = .ok (.getfield 36, 3) := by decide +kernel
theorem dX1_close_40 : decode cX1_close 40 = .ok (.iload_n 1, 1) := by decide +kernel
theorem dX1_close_41 : decode cX1_close 41 = .ok (.iadd, 1) := by decide +kernel
theorem dX1_close_42 : decode cX1_close 42 = .ok (.iconst 2, 1) := by decide +kernel
theorem dX1_close_43 : decode cX1_close 43 = .ok (.iastore, 1) := by decide +kernel
theorem dX1_close_44 : decode cX1_close 44 = .ok (.iinc 1 1, 3) := by decide +kernel
theorem dX1_close_47 : decode cX1_close 47 = .ok (.goto (-45), 3) := by decide +kernel
theorem dX1_close_50 : decode cX1_close 50 = .ok (.iconst (-1), 1) := by decide +kernel
theorem dX1_close_51 : decode cX1_close 51 = .ok (.ireturn, 1) := by decide +kernel
theorem q13 : (Jvm.Cond.initialized "NestedWordsModel") ∈ lw_all := lw_g (lw_at lw_m0 2 rfl) rfl
theorem q131 : (Jvm.Cond.instantiable "NestedWordsModel" (8 : Nat)) ∈ lw_all := lw_g (lw_at lw_m0 120 rfl) rfl
theorem q133 : (Jvm.Cond.instanceMethod ({ cls := "NestedWordsModel", name := "<init>", desc := "()V" } : Jvm.MethodName)) ∈ lw_all := lw_g (lw_at lw_m0 122 rfl) rfl
theorem q134 : (Jvm.Cond.code ({ cls := "NestedWordsModel", name := "<init>", desc := "()V" } : Jvm.MethodName) prog_3_method_1_code (1 : Nat) (Option.none : Option Jvm.ClassFile.FieldType)) ∈ lw_all := lw_g (lw_at lw_m0 123 rfl) rfl
theorem q135 : (Jvm.Cond.methodLink "NestedWordsModel" (1 : Nat) ({ cls := "java/lang/Object", name := "<init>", desc := "()V" } : Jvm.MethodName)) ∈ lw_all := lw_g (lw_at lw_m0 124 rfl) rfl
theorem q136 : (Jvm.Cond.fieldLink "NestedWordsModel" (7 : Nat) "NestedWordsModel" "moves" "[Z") ∈ lw_all := lw_g (lw_at lw_m0 125 rfl) rfl
theorem q137 : (Jvm.Cond.fieldLink "NestedWordsModel" (13 : Nat) "NestedWordsModel" "starts" "[Z") ∈ lw_all := lw_g (lw_at lw_m0 126 rfl) rfl
theorem q138 : (Jvm.Cond.fieldLink "NestedWordsModel" (16 : Nat) "NestedWordsModel" "ends" "[Z") ∈ lw_all := lw_g (lw_at lw_m0 127 rfl) rfl
theorem q139 : (Jvm.Cond.fieldLink "NestedWordsModel" (36 : Nat) "NestedWordsModel" "length" "I") ∈ lw_all := lw_g (lw_at lw_m0 128 rfl) rfl
theorem q140 : (Jvm.Cond.fieldLink "NestedWordsModel" (19 : Nat) "NestedWordsModel" "word" "[I") ∈ lw_all := lw_g (lw_at lw_m0 129 rfl) rfl
theorem q141 : (Jvm.Cond.fieldLink "NestedWordsModel" (23 : Nat) "NestedWordsModel" "partner" "[I") ∈ lw_all := lw_g (lw_at lw_m0 130 rfl) rfl
theorem q142 : (Jvm.Cond.fieldLink "NestedWordsModel" (26 : Nat) "NestedWordsModel" "leads" "[I") ∈ lw_all := lw_g (lw_at lw_m0 131 rfl) rfl
theorem q143 : (Jvm.Cond.fieldLink "NestedWordsModel" (29 : Nat) "NestedWordsModel" "waiting" "[I") ∈ lw_all := lw_g (lw_at lw_m0 132 rfl) rfl
theorem q144 : (Jvm.Cond.laysFinal "NestedWordsModel" "NestedWordsModel" "moves" "[Z") ∈ lw_all := lw_g (lw_at lw_m0 133 rfl) rfl
theorem q145 : (Jvm.Cond.soleField "NestedWordsModel" "moves") ∈ lw_all := lw_g (lw_at lw_m0 134 rfl) rfl
theorem q146 : (Jvm.Cond.laysFinal "NestedWordsModel" "NestedWordsModel" "starts" "[Z") ∈ lw_all := lw_g (lw_at lw_m0 135 rfl) rfl
theorem q147 : (Jvm.Cond.soleField "NestedWordsModel" "starts") ∈ lw_all := lw_g (lw_at lw_m0 136 rfl) rfl
theorem q148 : (Jvm.Cond.laysFinal "NestedWordsModel" "NestedWordsModel" "ends" "[Z") ∈ lw_all := lw_g (lw_at lw_m0 137 rfl) rfl
theorem q149 : (Jvm.Cond.soleField "NestedWordsModel" "ends") ∈ lw_all := lw_g (lw_at lw_m0 138 rfl) rfl
theorem q150 : (Jvm.Cond.lays "NestedWordsModel" "NestedWordsModel" "length" "I") ∈ lw_all := lw_g (lw_at lw_m0 139 rfl) rfl
theorem q151 : (Jvm.Cond.soleField "NestedWordsModel" "length") ∈ lw_all := lw_g (lw_at lw_m0 140 rfl) rfl
theorem q152 : (Jvm.Cond.laysFinal "NestedWordsModel" "NestedWordsModel" "word" "[I") ∈ lw_all := lw_g (lw_at lw_m0 141 rfl) rfl
theorem q153 : (Jvm.Cond.soleField "NestedWordsModel" "word") ∈ lw_all := lw_g (lw_at lw_m0 142 rfl) rfl
theorem q154 : (Jvm.Cond.laysFinal "NestedWordsModel" "NestedWordsModel" "partner" "[I") ∈ lw_all := lw_g (lw_at lw_m0 143 rfl) rfl
theorem q155 : (Jvm.Cond.soleField "NestedWordsModel" "partner") ∈ lw_all := lw_g (lw_at lw_m0 144 rfl) rfl
theorem q156 : (Jvm.Cond.laysFinal "NestedWordsModel" "NestedWordsModel" "leads" "[I") ∈ lw_all := lw_g (lw_at lw_m0 145 rfl) rfl
theorem q157 : (Jvm.Cond.soleField "NestedWordsModel" "leads") ∈ lw_all := lw_g (lw_at lw_m0 146 rfl) rfl
theorem q158 : (Jvm.Cond.laysFinal "NestedWordsModel" "NestedWordsModel" "waiting" "[I") ∈ lw_all := lw_g (lw_at lw_m0 147 rfl) rfl
theorem q159 : (Jvm.Cond.soleField "NestedWordsModel" "waiting") ∈ lw_all := lw_g (lw_at lw_m0 148 rfl) rfl
theorem q160 : (Jvm.Cond.superclass "NestedWordsModel" "java/lang/Object") ∈ lw_all := lw_g (lw_at lw_m0 149 rfl) rfl
theorem q162 : (Jvm.Cond.instanceMethod ({ cls := "NestedWordsModel", name := "move", desc := "(IIIIZ)I" } : Jvm.MethodName)) ∈ lw_all := lw_g (lw_at lw_m0 151 rfl) rfl
theorem q163 : (Jvm.Cond.selects "NestedWordsModel" ({ cls := "NestedWordsModel", name := "move", desc := "(IIIIZ)I" } : Jvm.MethodName) ({ cls := "NestedWordsModel", name := "move", desc := "(IIIIZ)I" } : Jvm.MethodName)) ∈ lw_all := lw_g (lw_at lw_m0 152 rfl) rfl
theorem q164 : (Jvm.Cond.code ({ cls := "NestedWordsModel", name := "move", desc := "(IIIIZ)I" } : Jvm.MethodName) prog_3_method_3_code (8 : Nat) (Option.some Jvm.ClassFile.FieldType.int)) ∈ lw_all := lw_g (lw_at lw_m0 153 rfl) rfl
theorem q165 : (Jvm.Cond.methodLink "NestedWordsModel" (32 : Nat) ({ cls := "NestedWordsModel", name := "bad", desc := "(I)Z" } : Jvm.MethodName)) ∈ lw_all := lw_g (lw_at lw_m0 154 rfl) rfl
theorem q166 : (Jvm.Cond.static ({ cls := "NestedWordsModel", name := "bad", desc := "(I)Z" } : Jvm.MethodName)) ∈ lw_all := lw_g (lw_at lw_m0 155 rfl) rfl
theorem q167 : (Jvm.Cond.code ({ cls := "NestedWordsModel", name := "bad", desc := "(I)Z" } : Jvm.MethodName) prog_3_method_2_code (1 : Nat) (Option.some Jvm.ClassFile.FieldType.boolean)) ∈ lw_all := lw_g (lw_at lw_m0 156 rfl) rfl
theorem q169 : (Jvm.Cond.instanceMethod ({ cls := "NestedWordsModel", name := "state", desc := "(IZZ)I" } : Jvm.MethodName)) ∈ lw_all := lw_g (lw_at lw_m0 158 rfl) rfl
theorem q170 : (Jvm.Cond.selects "NestedWordsModel" ({ cls := "NestedWordsModel", name := "state", desc := "(IZZ)I" } : Jvm.MethodName) ({ cls := "NestedWordsModel", name := "state", desc := "(IZZ)I" } : Jvm.MethodName)) ∈ lw_all := lw_g (lw_at lw_m0 159 rfl) rfl
theorem q171 : (Jvm.Cond.code ({ cls := "NestedWordsModel", name := "state", desc := "(IZZ)I" } : Jvm.MethodName) prog_3_method_4_code (4 : Nat) (Option.some Jvm.ClassFile.FieldType.int)) ∈ lw_all := lw_g (lw_at lw_m0 160 rfl) rfl
theorem q173 : (Jvm.Cond.instanceMethod ({ cls := "NestedWordsModel", name := "read", desc := "(I)I" } : Jvm.MethodName)) ∈ lw_all := lw_g (lw_at lw_m0 162 rfl) rfl
theorem q174 : (Jvm.Cond.selects "NestedWordsModel" ({ cls := "NestedWordsModel", name := "read", desc := "(I)I" } : Jvm.MethodName) ({ cls := "NestedWordsModel", name := "read", desc := "(I)I" } : Jvm.MethodName)) ∈ lw_all := lw_g (lw_at lw_m0 163 rfl) rfl
theorem q175 : (Jvm.Cond.code ({ cls := "NestedWordsModel", name := "read", desc := "(I)I" } : Jvm.MethodName) prog_3_method_5_code (5 : Nat) (Option.some Jvm.ClassFile.FieldType.int)) ∈ lw_all := lw_g (lw_at lw_m0 164 rfl) rfl
theorem q176 : (Jvm.Cond.methodLink "NestedWordsModel" (40 : Nat) ({ cls := "NestedWordsModel", name := "liveAfter", desc := "(I)I" } : Jvm.MethodName)) ∈ lw_all := lw_g (lw_at lw_m0 165 rfl) rfl
theorem q177 : (Jvm.Cond.privateMethod ({ cls := "NestedWordsModel", name := "liveAfter", desc := "(I)I" } : Jvm.MethodName)) ∈ lw_tbl := lw_at lw_m0 166 rfl
theorem q178 : (Jvm.Cond.instanceMethod ({ cls := "NestedWordsModel", name := "liveAfter", desc := "(I)I" } : Jvm.MethodName)) ∈ lw_all := lw_g (lw_at lw_m0 167 rfl) rfl
theorem q179 : (Jvm.Cond.code ({ cls := "NestedWordsModel", name := "liveAfter", desc := "(I)I" } : Jvm.MethodName) prog_3_method_14_code (6 : Nat) (Option.some Jvm.ClassFile.FieldType.int)) ∈ lw_all := lw_g (lw_at lw_m0 168 rfl) rfl
theorem q180 : (Jvm.Cond.methodLink "NestedWordsModel" (55 : Nat) ({ cls := "NestedWordsModel", name := "match", desc := "(I)I" } : Jvm.MethodName)) ∈ lw_all := lw_g (lw_at lw_m0 169 rfl) rfl
theorem q181 : (Jvm.Cond.privateMethod ({ cls := "NestedWordsModel", name := "match", desc := "(I)I" } : Jvm.MethodName)) ∈ lw_tbl := lw_at lw_m0 170 rfl
theorem q182 : (Jvm.Cond.instanceMethod ({ cls := "NestedWordsModel", name := "match", desc := "(I)I" } : Jvm.MethodName)) ∈ lw_all := lw_g (lw_at lw_m0 171 rfl) rfl
theorem q183 : (Jvm.Cond.code ({ cls := "NestedWordsModel", name := "match", desc := "(I)I" } : Jvm.MethodName) prog_3_method_8_code (4 : Nat) (Option.some Jvm.ClassFile.FieldType.int)) ∈ lw_all := lw_g (lw_at lw_m0 172 rfl) rfl
theorem q184 : (Jvm.Cond.methodLink "NestedWordsModel" (58 : Nat) ({ cls := "NestedWordsModel", name := "piece", desc := "(II)I" } : Jvm.MethodName)) ∈ lw_all := lw_g (lw_at lw_m0 173 rfl) rfl
theorem q185 : (Jvm.Cond.privateMethod ({ cls := "NestedWordsModel", name := "piece", desc := "(II)I" } : Jvm.MethodName)) ∈ lw_tbl := lw_at lw_m0 174 rfl
theorem q186 : (Jvm.Cond.instanceMethod ({ cls := "NestedWordsModel", name := "piece", desc := "(II)I" } : Jvm.MethodName)) ∈ lw_all := lw_g (lw_at lw_m0 175 rfl) rfl
theorem q187 : (Jvm.Cond.code ({ cls := "NestedWordsModel", name := "piece", desc := "(II)I" } : Jvm.MethodName) prog_3_method_12_code (9 : Nat) (Option.some Jvm.ClassFile.FieldType.int)) ∈ lw_all := lw_g (lw_at lw_m0 176 rfl) rfl
theorem q188 : (Jvm.Cond.methodLink "NestedWordsModel" (52 : Nat) ({ cls := "NestedWordsModel", name := "between", desc := "(II)I" } : Jvm.MethodName)) ∈ lw_all := lw_g (lw_at lw_m0 177 rfl) rfl
theorem q189 : (Jvm.Cond.privateMethod ({ cls := "NestedWordsModel", name := "between", desc := "(II)I" } : Jvm.MethodName)) ∈ lw_tbl := lw_at lw_m0 178 rfl
theorem q190 : (Jvm.Cond.instanceMethod ({ cls := "NestedWordsModel", name := "between", desc := "(II)I" } : Jvm.MethodName)) ∈ lw_all := lw_g (lw_at lw_m0 179 rfl) rfl
theorem q191 : (Jvm.Cond.code ({ cls := "NestedWordsModel", name := "between", desc := "(II)I" } : Jvm.MethodName) prog_3_method_11_code (6 : Nat) (Option.some Jvm.ClassFile.FieldType.int)) ∈ lw_all := lw_g (lw_at lw_m0 180 rfl) rfl
theorem q192 : (Jvm.Cond.constant "NestedWordsModel" (44 : Nat) (17043521 : Int32)) ∈ lw_all := lw_g (lw_at lw_m0 181 rfl) rfl
theorem q193 : (Jvm.Cond.methodLink "NestedWordsModel" (45 : Nat) ({ cls := "NestedWordsModel", name := "pairs", desc := "(II)I" } : Jvm.MethodName)) ∈ lw_all := lw_g (lw_at lw_m0 182 rfl) rfl
theorem q194 : (Jvm.Cond.privateMethod ({ cls := "NestedWordsModel", name := "pairs", desc := "(II)I" } : Jvm.MethodName)) ∈ lw_tbl := lw_at lw_m0 183 rfl
theorem q195 : (Jvm.Cond.instanceMethod ({ cls := "NestedWordsModel", name := "pairs", desc := "(II)I" } : Jvm.MethodName)) ∈ lw_all := lw_g (lw_at lw_m0 184 rfl) rfl
theorem q196 : (Jvm.Cond.code ({ cls := "NestedWordsModel", name := "pairs", desc := "(II)I" } : Jvm.MethodName) prog_3_method_9_code (5 : Nat) (Option.some Jvm.ClassFile.FieldType.int)) ∈ lw_all := lw_g (lw_at lw_m0 185 rfl) rfl
theorem q197 : (Jvm.Cond.methodLink "NestedWordsModel" (49 : Nat) ({ cls := "NestedWordsModel", name := "then", desc := "(II)I" } : Jvm.MethodName)) ∈ lw_all := lw_g (lw_at lw_m0 186 rfl) rfl
theorem q198 : (Jvm.Cond.static ({ cls := "NestedWordsModel", name := "then", desc := "(II)I" } : Jvm.MethodName)) ∈ lw_all := lw_g (lw_at lw_m0 187 rfl) rfl
theorem q199 : (Jvm.Cond.code ({ cls := "NestedWordsModel", name := "then", desc := "(II)I" } : Jvm.MethodName) prog_3_method_10_code (7 : Nat) (Option.some Jvm.ClassFile.FieldType.int)) ∈ lw_all := lw_g (lw_at lw_m0 188 rfl) rfl
theorem q200 : (Jvm.Cond.methodLink "NestedWordsModel" (61 : Nat) ({ cls := "NestedWordsModel", name := "image", desc := "(II)I" } : Jvm.MethodName)) ∈ lw_all := lw_g (lw_at lw_m0 189 rfl) rfl
theorem q201 : (Jvm.Cond.static ({ cls := "NestedWordsModel", name := "image", desc := "(II)I" } : Jvm.MethodName)) ∈ lw_all := lw_g (lw_at lw_m0 190 rfl) rfl
theorem q202 : (Jvm.Cond.code ({ cls := "NestedWordsModel", name := "image", desc := "(II)I" } : Jvm.MethodName) prog_3_method_13_code (4 : Nat) (Option.some Jvm.ClassFile.FieldType.int)) ∈ lw_all := lw_g (lw_at lw_m0 191 rfl) rfl
theorem q204 : (Jvm.Cond.instanceMethod ({ cls := "NestedWordsModel", name := "back", desc := "()I" } : Jvm.MethodName)) ∈ lw_all := lw_g (lw_at lw_m0 193 rfl) rfl
theorem q205 : (Jvm.Cond.selects "NestedWordsModel" ({ cls := "NestedWordsModel", name := "back", desc := "()I" } : Jvm.MethodName) ({ cls := "NestedWordsModel", name := "back", desc := "()I" } : Jvm.MethodName)) ∈ lw_all := lw_g (lw_at lw_m0 194 rfl) rfl
theorem q206 : (Jvm.Cond.code ({ cls := "NestedWordsModel", name := "back", desc := "()I" } : Jvm.MethodName) prog_3_method_6_code (1 : Nat) (Option.some Jvm.ClassFile.FieldType.int)) ∈ lw_all := lw_g (lw_at lw_m0 195 rfl) rfl
theorem q208 : (Jvm.Cond.instanceMethod ({ cls := "NestedWordsModel", name := "erase", desc := "()V" } : Jvm.MethodName)) ∈ lw_all := lw_g (lw_at lw_m0 197 rfl) rfl
theorem q209 : (Jvm.Cond.selects "NestedWordsModel" ({ cls := "NestedWordsModel", name := "erase", desc := "()V" } : Jvm.MethodName) ({ cls := "NestedWordsModel", name := "erase", desc := "()V" } : Jvm.MethodName)) ∈ lw_all := lw_g (lw_at lw_m0 198 rfl) rfl
theorem q210 : (Jvm.Cond.code ({ cls := "NestedWordsModel", name := "erase", desc := "()V" } : Jvm.MethodName) prog_3_method_7_code (1 : Nat) (Option.none : Option Jvm.ClassFile.FieldType)) ∈ lw_all := lw_g (lw_at lw_m0 199 rfl) rfl
theorem q212 : (Jvm.Cond.instanceMethod ({ cls := "NestedWordsModel", name := "live", desc := "()I" } : Jvm.MethodName)) ∈ lw_all := lw_g (lw_at lw_m0 201 rfl) rfl
theorem q213 : (Jvm.Cond.selects "NestedWordsModel" ({ cls := "NestedWordsModel", name := "live", desc := "()I" } : Jvm.MethodName) ({ cls := "NestedWordsModel", name := "live", desc := "()I" } : Jvm.MethodName)) ∈ lw_all := lw_g (lw_at lw_m0 202 rfl) rfl
theorem q214 : (Jvm.Cond.code ({ cls := "NestedWordsModel", name := "live", desc := "()I" } : Jvm.MethodName) prog_3_method_15_code (1 : Nat) (Option.some Jvm.ClassFile.FieldType.int)) ∈ lw_all := lw_g (lw_at lw_m0 203 rfl) rfl
theorem q216 : (Jvm.Cond.instanceMethod ({ cls := "NestedWordsModel", name := "accepted", desc := "()I" } : Jvm.MethodName)) ∈ lw_all := lw_g (lw_at lw_m0 205 rfl) rfl
theorem q217 : (Jvm.Cond.selects "NestedWordsModel" ({ cls := "NestedWordsModel", name := "accepted", desc := "()I" } : Jvm.MethodName) ({ cls := "NestedWordsModel", name := "accepted", desc := "()I" } : Jvm.MethodName)) ∈ lw_all := lw_g (lw_at lw_m0 206 rfl) rfl
theorem q218 : (Jvm.Cond.code ({ cls := "NestedWordsModel", name := "accepted", desc := "()I" } : Jvm.MethodName) prog_3_method_17_code (1 : Nat) (Option.some Jvm.ClassFile.FieldType.int)) ∈ lw_all := lw_g (lw_at lw_m0 207 rfl) rfl
theorem q219 : (Jvm.Cond.methodLink "NestedWordsModel" (64 : Nat) ({ cls := "NestedWordsModel", name := "live", desc := "()I" } : Jvm.MethodName)) ∈ lw_all := lw_g (lw_at lw_m0 208 rfl) rfl
theorem q220 : (Jvm.Cond.methodLink "NestedWordsModel" (68 : Nat) ({ cls := "NestedWordsModel", name := "endsOf", desc := "()I" } : Jvm.MethodName)) ∈ lw_all := lw_g (lw_at lw_m0 209 rfl) rfl
theorem q221 : (Jvm.Cond.privateMethod ({ cls := "NestedWordsModel", name := "endsOf", desc := "()I" } : Jvm.MethodName)) ∈ lw_tbl := lw_at lw_m0 210 rfl
theorem q222 : (Jvm.Cond.instanceMethod ({ cls := "NestedWordsModel", name := "endsOf", desc := "()I" } : Jvm.MethodName)) ∈ lw_all := lw_g (lw_at lw_m0 211 rfl) rfl
theorem q223 : (Jvm.Cond.code ({ cls := "NestedWordsModel", name := "endsOf", desc := "()I" } : Jvm.MethodName) prog_3_method_16_code (3 : Nat) (Option.some Jvm.ClassFile.FieldType.int)) ∈ lw_all := lw_g (lw_at lw_m0 212 rfl) rfl
theorem q225 : (Jvm.Cond.instanceMethod ({ cls := "NestedWordsModel", name := "open", desc := "()I" } : Jvm.MethodName)) ∈ lw_all := lw_g (lw_at lw_m0 214 rfl) rfl
theorem q226 : (Jvm.Cond.selects "NestedWordsModel" ({ cls := "NestedWordsModel", name := "open", desc := "()I" } : Jvm.MethodName) ({ cls := "NestedWordsModel", name := "open", desc := "()I" } : Jvm.MethodName)) ∈ lw_all := lw_g (lw_at lw_m0 215 rfl) rfl
theorem q227 : (Jvm.Cond.code ({ cls := "NestedWordsModel", name := "open", desc := "()I" } : Jvm.MethodName) prog_3_method_18_code (1 : Nat) (Option.some Jvm.ClassFile.FieldType.int)) ∈ lw_all := lw_g (lw_at lw_m0 216 rfl) rfl
theorem q229 : (Jvm.Cond.instanceMethod ({ cls := "NestedWordsModel", name := "next", desc := "()I" } : Jvm.MethodName)) ∈ lw_all := lw_g (lw_at lw_m0 218 rfl) rfl
theorem q230 : (Jvm.Cond.selects "NestedWordsModel" ({ cls := "NestedWordsModel", name := "next", desc := "()I" } : Jvm.MethodName) ({ cls := "NestedWordsModel", name := "next", desc := "()I" } : Jvm.MethodName)) ∈ lw_all := lw_g (lw_at lw_m0 219 rfl) rfl
theorem q231 : (Jvm.Cond.code ({ cls := "NestedWordsModel", name := "next", desc := "()I" } : Jvm.MethodName) prog_3_method_19_code (3 : Nat) (Option.some Jvm.ClassFile.FieldType.int)) ∈ lw_all := lw_g (lw_at lw_m0 220 rfl) rfl
theorem q233 : (Jvm.Cond.instanceMethod ({ cls := "NestedWordsModel", name := "close", desc := "()I" } : Jvm.MethodName)) ∈ lw_all := lw_g (lw_at lw_m0 222 rfl) rfl
theorem q234 : (Jvm.Cond.selects "NestedWordsModel" ({ cls := "NestedWordsModel", name := "close", desc := "()I" } : Jvm.MethodName) ({ cls := "NestedWordsModel", name := "close", desc := "()I" } : Jvm.MethodName)) ∈ lw_all := lw_g (lw_at lw_m0 223 rfl) rfl
theorem q235 : (Jvm.Cond.code ({ cls := "NestedWordsModel", name := "close", desc := "()I" } : Jvm.MethodName) prog_3_method_20_code (2 : Nat) (Option.some Jvm.ClassFile.FieldType.int)) ∈ lw_all := lw_g (lw_at lw_m0 224 rfl) rfl
theorem in_X1 : ∀ w ∈ wsX10, w ∈ lw_all := lw_in wsX10 [144, 146, 148, 150, 152, 154, 156, 158] (by decide +kernel) (by decide +kernel)
end
section
/-! the law's own entry -/
set_option maxRecDepth 100000
abbrev cL_law : ByteArray := code
theorem dL_law_0 : decode cL_law 0 = .ok (.new 7, 3) := by decide +kernel
theorem dL_law_3 : decode cL_law 3 = .ok (.dup, 1) := by decide +kernel
theorem dL_law_4 : decode cL_law 4 = .ok (.invokespecial 9, 3) := by decide +kernel
theorem dL_law_7 : decode cL_law 7 = .ok (.astore_n 1, 1) := by decide +kernel
theorem dL_law_8 : decode cL_law 8 = .ok (.new 10, 3) := by decide +kernel
theorem dL_law_11 : decode cL_law 11 = .ok (.dup, 1) := by decide +kernel
theorem dL_law_12 : decode cL_law 12 = .ok (.invokespecial 12, 3) := by decide +kernel
theorem dL_law_15 : decode cL_law 15 = .ok (.astore_n 2, 1) := by decide +kernel
theorem dL_law_16 : decode cL_law 16 = .ok (.iconst 0, 1) := by decide +kernel
theorem dL_law_17 : decode cL_law 17 = .ok (.istore_n 3, 1) := by decide +kernel
theorem dL_law_18 : decode cL_law 18 = .ok (.iload_n 3, 1) := by decide +kernel
theorem dL_law_19 : decode cL_law 19 = .ok (.aload_n 0, 1) := by decide +kernel
theorem dL_law_20 : decode cL_law 20 = .ok (.arraylength, 1) := by decide +kernel
theorem dL_law_21 : decode cL_law 21 = .ok (.bipush 6, 2) := by decide +kernel
theorem dL_law_23 : decode cL_law 23 = .ok (.isub, 1) := by decide +kernel
theorem dL_law_24 : decode cL_law 24 = .ok (.if_icmp .gt 336, 3) := by decide +kernel
theorem dL_law_27 : decode cL_law 27 = .ok (.aload_n 0, 1) := by decide +kernel
theorem dL_law_28 : decode cL_law 28 = .ok (.iload_n 3, 1) := by decide +kernel
theorem dL_law_29 : decode cL_law 29 = .ok (.iaload, 1) := by decide +kernel
theorem dL_law_30 : decode cL_law 30 = .ok (.bipush 15, 2) := by decide +kernel
theorem dL_law_32 : decode cL_law 32 = .ok (.iand, 1) := by decide +kernel
theorem dL_law_33 : decode cL_law 33 = .ok (.tableswitch 321 0 9 #[55, 134, 209, 232, 245, 256, 269, 282, 295, 308], 55) := by decide +kernel
theorem dL_law_88 : decode cL_law 88 = .ok (.aload_n 1, 1) := by decide +kernel
theorem dL_law_89 : decode cL_law 89 = .ok (.aload_n 0, 1) := by decide +kernel
theorem dL_law_90 : decode cL_law 90 = .ok (.iload_n 3, 1) := by decide +kernel
theorem dL_law_91 : decode cL_law 91 = .ok (.iconst 1, 1) := by decide +kernel
theorem dL_law_92 : decode cL_law 92 = .ok (.iadd, 1) := by decide +kernel
theorem dL_law_93 : decode cL_law 93 = .ok (.iaload, 1) := by decide +kernel
theorem dL_law_94 : decode cL_law 94 = .ok (.aload_n 0, 1) := by decide +kernel
theorem dL_law_95 : decode cL_law 95 = .ok (.iload_n 3, 1) := by decide +kernel
theorem dL_law_96 : decode cL_law 96 = .ok (.iconst 2, 1) := by decide +kernel
theorem dL_law_97 : decode cL_law 97 = .ok (.iadd, 1) := by decide +kernel
theorem dL_law_98 : decode cL_law 98 = .ok (.iaload, 1) := by decide +kernel
theorem dL_law_99 : decode cL_law 99 = .ok (.aload_n 0, 1) := by decide +kernel
theorem dL_law_100 : decode cL_law 100 = .ok (.iload_n 3, 1) := by decide +kernel
theorem dL_law_101 : decode cL_law 101 = .ok (.iconst 3, 1) := by decide +kernel
theorem dL_law_102 : decode cL_law 102 = .ok (.iadd, 1) := by decide +kernel
theorem dL_law_103 : decode cL_law 103 = .ok (.iaload, 1) := by decide +kernel
theorem dL_law_104 : decode cL_law 104 = .ok (.aload_n 0, 1) := by decide +kernel
theorem dL_law_105 : decode cL_law 105 = .ok (.iload_n 3, 1) := by decide +kernel
theorem dL_law_106 : decode cL_law 106 = .ok (.iconst 4, 1) := by decide +kernel
theorem dL_law_107 : decode cL_law 107 = .ok (.iadd, 1) := by decide +kernel
theorem dL_law_108 : decode cL_law 108 = .ok (.iaload, 1) := by decide +kernel
theorem dL_law_109 : decode cL_law 109 = .ok (.aload_n 0, 1) := by decide +kernel
theorem dL_law_110 : decode cL_law 110 = .ok (.iload_n 3, 1) := by decide +kernel
theorem dL_law_111 : decode cL_law 111 = .ok (.iconst 5, 1) := by decide +kernel
theorem dL_law_112 : decode cL_law 112 = .ok (.iadd, 1) := by decide +kernel
theorem dL_law_113 : decode cL_law 113 = .ok (.iaload, 1) := by decide +kernel
theorem dL_law_114 : decode cL_law 114 = .ok (.ifCond .eq 7, 3) := by decide +kernel
theorem dL_law_117 : decode cL_law 117 = .ok (.iconst 1, 1) := by decide +kernel
theorem dL_law_118 : decode cL_law 118 = .ok (.goto 4, 3) := by decide +kernel
theorem dL_law_121 : decode cL_law 121 = .ok (.iconst 0, 1) := by decide +kernel
theorem dL_law_122 : decode cL_law 122 = .ok (.invokevirtual 13, 3) := by decide +kernel
theorem dL_law_125 : decode cL_law 125 = .ok (.aload_n 2, 1) := by decide +kernel
theorem dL_law_126 : decode cL_law 126 = .ok (.aload_n 0, 1) := by decide +kernel
theorem dL_law_127 : decode cL_law 127 = .ok (.iload_n 3, 1) := by decide +kernel
theorem dL_law_128 : decode cL_law 128 = .ok (.iconst 1, 1) := by decide +kernel
theorem dL_law_129 : decode cL_law 129 = .ok (.iadd, 1) := by decide +kernel
theorem dL_law_130 : decode cL_law 130 = .ok (.iaload, 1) := by decide +kernel
theorem dL_law_131 : decode cL_law 131 = .ok (.aload_n 0, 1) := by decide +kernel
theorem dL_law_132 : decode cL_law 132 = .ok (.iload_n 3, 1) := by decide +kernel
theorem dL_law_133 : decode cL_law 133 = .ok (.iconst 2, 1) := by decide +kernel
theorem dL_law_134 : decode cL_law 134 = .ok (.iadd, 1) := by decide +kernel
theorem dL_law_135 : decode cL_law 135 = .ok (.iaload, 1) := by decide +kernel
theorem dL_law_136 : decode cL_law 136 = .ok (.aload_n 0, 1) := by decide +kernel
theorem dL_law_137 : decode cL_law 137 = .ok (.iload_n 3, 1) := by decide +kernel
theorem dL_law_138 : decode cL_law 138 = .ok (.iconst 3, 1) := by decide +kernel
theorem dL_law_139 : decode cL_law 139 = .ok (.iadd, 1) := by decide +kernel
theorem dL_law_140 : decode cL_law 140 = .ok (.iaload, 1) := by decide +kernel
theorem dL_law_141 : decode cL_law 141 = .ok (.aload_n 0, 1) := by decide +kernel
theorem dL_law_142 : decode cL_law 142 = .ok (.iload_n 3, 1) := by decide +kernel
theorem dL_law_143 : decode cL_law 143 = .ok (.iconst 4, 1) := by decide +kernel
theorem dL_law_144 : decode cL_law 144 = .ok (.iadd, 1) := by decide +kernel
theorem dL_law_145 : decode cL_law 145 = .ok (.iaload, 1) := by decide +kernel
theorem dL_law_146 : decode cL_law 146 = .ok (.aload_n 0, 1) := by decide +kernel
theorem dL_law_147 : decode cL_law 147 = .ok (.iload_n 3, 1) := by decide +kernel
theorem dL_law_148 : decode cL_law 148 = .ok (.iconst 5, 1) := by decide +kernel
theorem dL_law_149 : decode cL_law 149 = .ok (.iadd, 1) := by decide +kernel
theorem dL_law_150 : decode cL_law 150 = .ok (.iaload, 1) := by decide +kernel
theorem dL_law_151 : decode cL_law 151 = .ok (.ifCond .eq 7, 3) := by decide +kernel
theorem dL_law_154 : decode cL_law 154 = .ok (.iconst 1, 1) := by decide +kernel
theorem dL_law_155 : decode cL_law 155 = .ok (.goto 4, 3) := by decide +kernel
theorem dL_law_158 : decode cL_law 158 = .ok (.iconst 0, 1) := by decide +kernel
theorem dL_law_159 : decode cL_law 159 = .ok (.invokevirtual 17, 3) := by decide +kernel
theorem dL_law_162 : decode cL_law 162 = .ok (.if_icmp .eq 192, 3) := by decide +kernel
theorem dL_law_165 : decode cL_law 165 = .ok (.iconst 0, 1) := by decide +kernel
theorem dL_law_166 : decode cL_law 166 = .ok (.ireturn, 1) := by decide +kernel
theorem dL_law_167 : decode cL_law 167 = .ok (.aload_n 1, 1) := by decide +kernel
theorem dL_law_168 : decode cL_law 168 = .ok (.aload_n 0, 1) := by decide +kernel
theorem dL_law_169 : decode cL_law 169 = .ok (.iload_n 3, 1) := by decide +kernel
theorem dL_law_170 : decode cL_law 170 = .ok (.iconst 1, 1) := by decide +kernel
theorem dL_law_171 : decode cL_law 171 = .ok (.iadd, 1) := by decide +kernel
theorem dL_law_172 : decode cL_law 172 = .ok (.iaload, 1) := by decide +kernel
theorem dL_law_173 : decode cL_law 173 = .ok (.aload_n 0, 1) := by decide +kernel
theorem dL_law_174 : decode cL_law 174 = .ok (.iload_n 3, 1) := by decide +kernel
theorem dL_law_175 : decode cL_law 175 = .ok (.iconst 2, 1) := by decide +kernel
theorem dL_law_176 : decode cL_law 176 = .ok (.iadd, 1) := by decide +kernel
theorem dL_law_177 : decode cL_law 177 = .ok (.iaload, 1) := by decide +kernel
theorem dL_law_178 : decode cL_law 178 = .ok (.ifCond .eq 7, 3) := by decide +kernel
theorem dL_law_181 : decode cL_law 181 = .ok (.iconst 1, 1) := by decide +kernel
theorem dL_law_182 : decode cL_law 182 = .ok (.goto 4, 3) := by decide +kernel
theorem dL_law_185 : decode cL_law 185 = .ok (.iconst 0, 1) := by decide +kernel
theorem dL_law_186 : decode cL_law 186 = .ok (.aload_n 0, 1) := by decide +kernel
theorem dL_law_187 : decode cL_law 187 = .ok (.iload_n 3, 1) := by decide +kernel
theorem dL_law_188 : decode cL_law 188 = .ok (.iconst 3, 1) := by decide +kernel
theorem dL_law_189 : decode cL_law 189 = .ok (.iadd, 1) := by decide +kernel
theorem dL_law_190 : decode cL_law 190 = .ok (.iaload, 1) := by decide +kernel
theorem dL_law_191 : decode cL_law 191 = .ok (.ifCond .eq 7, 3) := by decide +kernel
theorem dL_law_194 : decode cL_law 194 = .ok (.iconst 1, 1) := by decide +kernel
theorem dL_law_195 : decode cL_law 195 = .ok (.goto 4, 3) := by decide +kernel
theorem dL_law_198 : decode cL_law 198 = .ok (.iconst 0, 1) := by decide +kernel
theorem dL_law_199 : decode cL_law 199 = .ok (.invokevirtual 18, 3) := by decide +kernel
theorem dL_law_202 : decode cL_law 202 = .ok (.aload_n 2, 1) := by decide +kernel
theorem dL_law_203 : decode cL_law 203 = .ok (.aload_n 0, 1) := by decide +kernel
theorem dL_law_204 : decode cL_law 204 = .ok (.iload_n 3, 1) := by decide +kernel
theorem dL_law_205 : decode cL_law 205 = .ok (.iconst 1, 1) := by decide +kernel
theorem dL_law_206 : decode cL_law 206 = .ok (.iadd, 1) := by decide +kernel
theorem dL_law_207 : decode cL_law 207 = .ok (.iaload, 1) := by decide +kernel
theorem dL_law_208 : decode cL_law 208 = .ok (.aload_n 0, 1) := by decide +kernel
theorem dL_law_209 : decode cL_law 209 = .ok (.iload_n 3, 1) := by decide +kernel
theorem dL_law_210 : decode cL_law 210 = .ok (.iconst 2, 1) := by decide +kernel
theorem dL_law_211 : decode cL_law 211 = .ok (.iadd, 1) := by decide +kernel
theorem dL_law_212 : decode cL_law 212 = .ok (.iaload, 1) := by decide +kernel
theorem dL_law_213 : decode cL_law 213 = .ok (.ifCond .eq 7, 3) := by decide +kernel
theorem dL_law_216 : decode cL_law 216 = .ok (.iconst 1, 1) := by decide +kernel
theorem dL_law_217 : decode cL_law 217 = .ok (.goto 4, 3) := by decide +kernel
theorem dL_law_220 : decode cL_law 220 = .ok (.iconst 0, 1) := by decide +kernel
theorem dL_law_221 : decode cL_law 221 = .ok (.aload_n 0, 1) := by decide +kernel
theorem dL_law_222 : decode cL_law 222 = .ok (.iload_n 3, 1) := by decide +kernel
theorem dL_law_223 : decode cL_law 223 = .ok (.iconst 3, 1) := by decide +kernel
theorem dL_law_224 : decode cL_law 224 = .ok (.iadd, 1) := by decide +kernel
theorem dL_law_225 : decode cL_law 225 = .ok (.iaload, 1) := by decide +kernel
theorem dL_law_226 : decode cL_law 226 = .ok (.ifCond .eq 7, 3) := by decide +kernel
theorem dL_law_229 : decode cL_law 229 = .ok (.iconst 1, 1) := by decide +kernel
theorem dL_law_230 : decode cL_law 230 = .ok (.goto 4, 3) := by decide +kernel
theorem dL_law_233 : decode cL_law 233 = .ok (.iconst 0, 1) := by decide +kernel
theorem dL_law_234 : decode cL_law 234 = .ok (.invokevirtual 22, 3) := by decide +kernel
theorem dL_law_237 : decode cL_law 237 = .ok (.if_icmp .eq 117, 3) := by decide +kernel
theorem dL_law_240 : decode cL_law 240 = .ok (.iconst 0, 1) := by decide +kernel
theorem dL_law_241 : decode cL_law 241 = .ok (.ireturn, 1) := by decide +kernel
theorem dL_law_242 : decode cL_law 242 = .ok (.aload_n 1, 1) := by decide +kernel
theorem dL_law_243 : decode cL_law 243 = .ok (.aload_n 0, 1) := by decide +kernel
theorem dL_law_244 : decode cL_law 244 = .ok (.iload_n 3, 1) := by decide +kernel
theorem dL_law_245 : decode cL_law 245 = .ok (.iconst 1, 1) := by decide +kernel
theorem dL_law_246 : decode cL_law 246 = .ok (.iadd, 1) := by decide +kernel
theorem dL_law_247 : decode cL_law 247 = .ok (.iaload, 1) := by decide +kernel
theorem dL_law_248 : decode cL_law 248 = .ok (.invokevirtual 23, 3) := by decide +kernel
theorem dL_law_251 : decode cL_law 251 = .ok (.aload_n 2, 1) := by decide +kernel
theorem dL_law_252 : decode cL_law 252 = .ok (.aload_n 0, 1) := by decide +kernel
theorem dL_law_253 : decode cL_law 253 = .ok (.iload_n 3, 1) := by decide +kernel
theorem dL_law_254 : decode cL_law 254 = .ok (.iconst 1, 1) := by decide +kernel
theorem dL_law_255 : decode cL_law 255 = .ok (.iadd, 1) := by decide +kernel
theorem dL_law_256 : decode cL_law 256 = .ok (.iaload, 1) := by decide +kernel
theorem dL_law_257 : decode cL_law 257 = .ok (.invokevirtual 27, 3) := by decide +kernel
theorem dL_law_260 : decode cL_law 260 = .ok (.if_icmp .eq 94, 3) := by decide +kernel
theorem dL_law_263 : decode cL_law 263 = .ok (.iconst 0, 1) := by decide +kernel
theorem dL_law_264 : decode cL_law 264 = .ok (.ireturn, 1) := by decide +kernel
theorem dL_law_265 : decode cL_law 265 = .ok (.aload_n 1, 1) := by decide +kernel
theorem dL_law_266 : decode cL_law 266 = .ok (.invokevirtual 28, 3) := by decide +kernel
theorem dL_law_269 : decode cL_law 269 = .ok (.aload_n 2, 1) := by decide +kernel
theorem dL_law_270 : decode cL_law 270 = .ok (.invokevirtual 32, 3) := by decide +kernel
theorem dL_law_273 : decode cL_law 273 = .ok (.if_icmp .eq 81, 3) := by decide +kernel
theorem dL_law_276 : decode cL_law 276 = .ok (.iconst 0, 1) := by decide +kernel
theorem dL_law_277 : decode cL_law 277 = .ok (.ireturn, 1) := by decide +kernel
theorem dL_law_278 : decode cL_law 278 = .ok (.aload_n 1, 1) := by decide +kernel
theorem dL_law_279 : decode cL_law 279 = .ok (.invokevirtual 33, 3) := by decide +kernel
theorem dL_law_282 : decode cL_law 282 = .ok (.aload_n 2, 1) := by decide +kernel
theorem dL_law_283 : decode cL_law 283 = .ok (.invokevirtual 36, 3) := by decide +kernel
theorem dL_law_286 : decode cL_law 286 = .ok (.goto 68, 3) := by decide +kernel
theorem dL_law_289 : decode cL_law 289 = .ok (.aload_n 1, 1) := by decide +kernel
theorem dL_law_290 : decode cL_law 290 = .ok (.invokevirtual 37, 3) := by decide +kernel
theorem dL_law_293 : decode cL_law 293 = .ok (.aload_n 2, 1) := by decide +kernel
theorem dL_law_294 : decode cL_law 294 = .ok (.invokevirtual 40, 3) := by decide +kernel
theorem dL_law_297 : decode cL_law 297 = .ok (.if_icmp .eq 57, 3) := by decide +kernel
theorem dL_law_300 : decode cL_law 300 = .ok (.iconst 0, 1) := by decide +kernel
theorem dL_law_301 : decode cL_law 301 = .ok (.ireturn, 1) := by decide +kernel
theorem dL_law_302 : decode cL_law 302 = .ok (.aload_n 1, 1) := by decide +kernel
theorem dL_law_303 : decode cL_law 303 = .ok (.invokevirtual 41, 3) := by decide +kernel
theorem dL_law_306 : decode cL_law 306 = .ok (.aload_n 2, 1) := by decide +kernel
theorem dL_law_307 : decode cL_law 307 = .ok (.invokevirtual 44, 3) := by decide +kernel
theorem dL_law_310 : decode cL_law 310 = .ok (.if_icmp .eq 44, 3) := by decide +kernel
theorem dL_law_313 : decode cL_law 313 = .ok (.iconst 0, 1) := by decide +kernel
theorem dL_law_314 : decode cL_law 314 = .ok (.ireturn, 1) := by decide +kernel
theorem dL_law_315 : decode cL_law 315 = .ok (.aload_n 1, 1) := by decide +kernel
theorem dL_law_316 : decode cL_law 316 = .ok (.invokevirtual 45, 3) := by decide +kernel
theorem dL_law_319 : decode cL_law 319 = .ok (.aload_n 2, 1) := by decide +kernel
theorem dL_law_320 : decode cL_law 320 = .ok (.invokevirtual 48, 3) := by decide +kernel
theorem dL_law_323 : decode cL_law 323 = .ok (.if_icmp .eq 31, 3) := by decide +kernel
theorem dL_law_326 : decode cL_law 326 = .ok (.iconst 0, 1) := by decide +kernel
theorem dL_law_327 : decode cL_law 327 = .ok (.ireturn, 1) := by decide +kernel
theorem dL_law_328 : decode cL_law 328 = .ok (.aload_n 1, 1) := by decide +kernel
theorem dL_law_329 : decode cL_law 329 = .ok (.invokevirtual 49, 3) := by decide +kernel
theorem dL_law_332 : decode cL_law 332 = .ok (.aload_n 2, 1) := by decide +kernel
theorem dL_law_333 : decode cL_law 333 = .ok (.invokevirtual 52, 3) := by decide +kernel
theorem dL_law_336 : decode cL_law 336 = .ok (.if_icmp .eq 18, 3) := by decide +kernel
theorem dL_law_339 : decode cL_law 339 = .ok (.iconst 0, 1) := by decide +kernel
theorem dL_law_340 : decode cL_law 340 = .ok (.ireturn, 1) := by decide +kernel
theorem dL_law_341 : decode cL_law 341 = .ok (.aload_n 1, 1) := by decide +kernel
theorem dL_law_342 : decode cL_law 342 = .ok (.invokevirtual 53, 3) := by decide +kernel
theorem dL_law_345 : decode cL_law 345 = .ok (.aload_n 2, 1) := by decide +kernel
theorem dL_law_346 : decode cL_law 346 = .ok (.invokevirtual 56, 3) := by decide +kernel
theorem dL_law_349 : decode cL_law 349 = .ok (.if_icmp .eq 5, 3) := by decide +kernel
theorem dL_law_352 : decode cL_law 352 = .ok (.iconst 0, 1) := by decide +kernel
theorem dL_law_353 : decode cL_law 353 = .ok (.ireturn, 1) := by decide +kernel
theorem dL_law_354 : decode cL_law 354 = .ok (.iinc 3 6, 3) := by decide +kernel
theorem dL_law_357 : decode cL_law 357 = .ok (.goto (-339), 3) := by decide +kernel
theorem dL_law_360 : decode cL_law 360 = .ok (.iconst 1, 1) := by decide +kernel
theorem dL_law_361 : decode cL_law 361 = .ok (.ireturn, 1) := by decide +kernel
end
section
/-! PURE 1: bits, the loops as recursion (family bt: pasted out of kit/laws/BITS.to-paste) -/
def bt (x : Int32) (i : Nat) : Bool := x.toBitVec.getLsbD i
theorem b_ext {x y : Int32} (h : ∀ i, i < 32 → bt x i = bt y i) : x = y := Int32.toBitVec_inj.mp (BitVec.eq_of_getLsbD_eq (fun i hi => h i hi))
theorem b_or (x y : Int32) (i : Nat) : bt (x ||| y) i = (bt x i || bt y i) := by unfold bt; rw [Int32.toBitVec_or, BitVec.getLsbD_or]
theorem b_and (x y : Int32) (i : Nat) : bt (x &&& y) i = (bt x i && bt y i) := by unfold bt; rw [Int32.toBitVec_and, BitVec.getLsbD_and]
theorem b_xor (x y : Int32) (i : Nat) : bt (x ^^^ y) i = (bt x i ^^ bt y i) := by unfold bt; rw [Int32.toBitVec_xor, BitVec.getLsbD_xor]
theorem b_big {x : Int32} {i : Nat} (h : 32 ≤ i) : bt x i = false := BitVec.getLsbD_of_ge _ _ h
theorem b_255 (i : Nat) : bt 255 i = decide (i < 8) := by
  rcases Nat.lt_or_ge i 32 with h | h
  · exact (by decide +kernel : ∀ i, i < 32 → bt 255 i = decide (i < 8)) i h
  · rw [b_big h, decide_eq_false (by omega)]
theorem b_65535 (i : Nat) : bt 65535 i = decide (i < 16) := by
  rcases Nat.lt_or_ge i 32 with h | h
  · exact (by decide +kernel : ∀ i, i < 32 → bt 65535 i = decide (i < 16)) i h
  · rw [b_big h, decide_eq_false (by omega)]
theorem b_m1 : ∀ i, i < 32 → bt (-1) i = true := by decide +kernel
theorem b_0 (i : Nat) : bt 0 i = false := BitVec.getLsbD_zero
theorem s_l : ∀ n, n < 32 → ((nI n &&& 31).toBitVec.smod 32).toNat = n := by decide +kernel
theorem s_u : ∀ n, n < 32 → (((nI n).toUInt32 &&& Int32.toUInt32 31).toBitVec % 32).toNat = n := by decide +kernel
theorem b_shl (n : Nat) (hn : n < 32) (x : Int32) {i : Nat} (hi : i < 32) : bt (x <<< (nI n &&& 31)) i = (decide (n ≤ i) && bt x (i - n)) := by
  unfold bt
  rw [Int32.toBitVec_shiftLeft]
  show (x.toBitVec <<< ((nI n &&& 31).toBitVec.smod 32).toNat).getLsbD i = _
  rw [s_l n hn, BitVec.getLsbD_shiftLeft]
  rcases Nat.lt_or_ge i n with h | h
  · simp [h, Nat.not_le.mpr h]
  · simp [hi, h, Nat.not_lt.mpr h]
theorem b_ushr (n : Nat) (hn : n < 32) (x : Int32) (i : Nat) : bt ((x.toUInt32 >>> ((nI n).toUInt32 &&& Int32.toUInt32 31)).toInt32) i = bt x (n + i) := by
  show (x.toUInt32 >>> ((nI n).toUInt32 &&& Int32.toUInt32 31)).toBitVec.getLsbD i = x.toUInt32.toBitVec.getLsbD (n + i)
  rw [UInt32.toBitVec_shiftRight]
  show (x.toUInt32.toBitVec >>> (((nI n).toUInt32 &&& Int32.toUInt32 31).toBitVec % 32).toNat).getLsbD i = _
  rw [s_u n hn, BitVec.getLsbD_ushiftRight]
theorem b_sshr (n : Nat) (hn : n < 32) (x : Int32) {i : Nat} (hi : i < 32) : bt (x >>> (nI n &&& 31)) i = if n + i < 32 then bt x (n + i) else bt x 31 := by
  unfold bt
  rw [Int32.toBitVec_shiftRight]
  show (x.toBitVec.sshiftRight ((nI n &&& 31).toBitVec.smod 32).toNat).getLsbD i = _
  rw [s_l n hn, BitVec.getLsbD_sshiftRight, BitVec.msb_eq_getLsbD_last]
  simp [hi]
theorem b_iff {x y : Int32} (h : ∀ i, i < 32 → (bt x i = true ↔ bt y i = true)) : x = y := b_ext (fun i hi => Bool.eq_iff_iff.mpr (h i hi))
theorem b_1 (i : Nat) : bt 1 i = decide (i = 0) := by
  rcases Nat.lt_or_ge i 32 with h | h
  · exact (by decide +kernel : ∀ i, i < 32 → bt 1 i = decide (i = 0)) i h
  · rw [b_big h, decide_eq_false (by omega)]
theorem b_31 (i : Nat) : bt 31 i = decide (i < 5) := by
  rcases Nat.lt_or_ge i 32 with h | h
  · exact (by decide +kernel : ∀ i, i < 32 → bt 31 i = decide (i < 5)) i h
  · rw [b_big h, decide_eq_false (by omega)]
/-- the unsigned shift, as the machine has it -/
def nw_u (x y : Int32) : Int32 := (x.toUInt32 >>> (y.toUInt32 &&& Int32.toUInt32 31)).toInt32
theorem nw_bu (n : Nat) (hn : n < 32) (x : Int32) (i : Nat) : bt (nw_u x (nI n)) i = bt x (n + i) := b_ushr n hn x i
theorem nw_t0 (x : Int32) : (x &&& 1) = 0 ↔ bt x 0 = false := by
  constructor
  · intro h
    have h1 : bt (x &&& 1) 0 = bt 0 0 := by rw [h]
    rw [b_and, b_1, b_0] at h1
    simpa using h1
  · intro h
    apply b_ext
    intro i hi
    rw [b_and, b_1, b_0]
    by_cases h0 : i = 0
    · rw [h0, h]; rfl
    · rw [decide_eq_false h0, Bool.and_false]
theorem nw_t1 (x : Int32) : (x &&& 1) = 1 ↔ bt x 0 = true := by
  constructor
  · intro h
    have h1 : bt (x &&& 1) 0 = bt 1 0 := by rw [h]
    rw [b_and, b_1] at h1
    simpa using h1
  · intro h
    apply b_ext
    intro i hi
    rw [b_and, b_1]
    by_cases h0 : i = 0
    · rw [h0, h]; rfl
    · rw [decide_eq_false h0, Bool.and_false]
theorem nw_t0u (n : Nat) (hn : n < 32) (x : Int32) : (nw_u x (nI n) &&& 1) = 0 ↔ bt x n = false := by
  rw [nw_t0, nw_bu n hn, Nat.add_zero]
theorem nw_t1s (n : Nat) (hn : n < 32) (x : Int32) : (x >>> (nI n &&& 31) &&& 1) = 1 ↔ bt x n = true := by
  rw [nw_t1, b_sshr n hn x (by omega : 0 < 32), Nat.add_zero, if_pos hn]
theorem nw_b1 (n : Nat) (hn : n < 32) (x : Int32) : (x >>> (nI n &&& 31) &&& 1) = (nw_u x (nI n) &&& 1) := by
  apply b_ext
  intro i hi
  rw [b_and, b_and, b_1]
  by_cases h0 : i = 0
  · rw [h0, b_sshr n hn x (by omega : 0 < 32), nw_bu n hn, if_pos (by omega)]
  · rw [decide_eq_false h0, Bool.and_false, Bool.and_false]
theorem nw_s1 (n : Nat) (hn : n < 32) {i : Nat} (hi : i < 32) : bt ((1 : Int32) <<< (nI n &&& 31)) i = decide (i = n) := by
  rw [b_shl n hn 1 hi, b_1, Bool.eq_iff_iff]
  simp only [Bool.and_eq_true, decide_eq_true_eq]
  omega
theorem nw_s1' (n : Nat) (hn : n < 32) {i : Nat} (hi : i < 32) : bt ((1 : Int32) <<< (nI n &&& 31)) i = true ↔ i = n := by
  rw [nw_s1 n hn hi, decide_eq_true_eq]
theorem nw_ex {P : Nat → Prop} {n : Nat} : (∃ q, q < n + 1 ∧ P q) ↔ ((∃ q, q < n ∧ P q) ∨ P n) := by
  constructor
  · intro h
    obtain ⟨q, h1, h2⟩ := h
    rcases Nat.lt_or_ge q n with h | h
    · exact Or.inl ⟨q, h, h2⟩
    · have e : q = n := by omega
      rw [e] at h2
      exact Or.inr h2
  · intro h
    rcases h with ⟨q, h1, h2⟩ | h
    · exact ⟨q, by omega, h2⟩
    · exact ⟨n, by omega, h⟩
/-- a number made by or-ing, bit by bit -/
theorem nw_bx {F : Nat → Int32} {c : Int32} {P : Nat → Nat → Prop} {N : Nat} (h0 : F 0 = c) (hs : ∀ n, n < N → ∀ i, i < 32 → (bt (F (n + 1)) i = true ↔ (bt (F n) i = true ∨ P n i))) : ∀ n, n ≤ N → ∀ i, i < 32 → (bt (F n) i = true ↔ (bt c i = true ∨ ∃ q, q < n ∧ P q i)) := by
  intro n
  induction n with
  | zero =>
    intro _ i _
    rw [h0]
    constructor
    · exact fun h => Or.inl h
    · intro h
      rcases h with h | ⟨q, h1, _⟩
      · exact h
      · omega
  | succ n ih =>
    intro hn i hi
    rw [hs n (by omega) i hi, ih (by omega) i hi, nw_ex (P := fun q => P q i), or_assoc]
theorem nw_b0 {F : Nat → Int32} {P : Nat → Nat → Prop} {N : Nat} (h0 : F 0 = 0) (hs : ∀ n, n < N → ∀ i, i < 32 → (bt (F (n + 1)) i = true ↔ (bt (F n) i = true ∨ P n i))) : ∀ n, n ≤ N → ∀ i, i < 32 → (bt (F n) i = true ↔ ∃ q, q < n ∧ P q i) := by
  intro n hn i hi
  rw [nw_bx h0 hs n hn i hi, b_0]
  constructor
  · intro h
    rcases h with h | h
    · cases h
    · exact h
  · exact fun h => Or.inr h
-- ===== lead and image =====
def nw_ld (a b : Int32) : Nat → Int32
  | 0 => 0
  | q + 1 => nw_ld a b q ||| (if (nw_u a (nI q) &&& 1) = 0 then 0 else (nw_u b (nI (5 * q)) &&& 31))
theorem nw_ld_z {a b : Int32} {q : Nat} (h : (nw_u a (nI q) &&& 1) = 0) : (nw_ld a b q ||| 0) = nw_ld a b (q + 1) := by
  show _ = (nw_ld a b q ||| (if (nw_u a (nI q) &&& 1) = 0 then 0 else (nw_u b (nI (5 * q)) &&& 31)))
  rw [if_pos h]
theorem nw_ld_n {a b : Int32} {q : Nat} (h : ¬ (nw_u a (nI q) &&& 1) = 0) : (nw_ld a b q ||| (nw_u b (nI (5 * q)) &&& 31)) = nw_ld a b (q + 1) := by
  show _ = (nw_ld a b q ||| (if (nw_u a (nI q) &&& 1) = 0 then 0 else (nw_u b (nI (5 * q)) &&& 31)))
  rw [if_neg h]
theorem nw_ld_b (a b : Int32) : ∀ n, n ≤ 6 → ∀ i, i < 32 → (bt (nw_ld a b n) i = true ↔ ∃ q, q < n ∧ (i < 5 ∧ bt a q = true ∧ bt b (5 * q + i) = true)) := by
  refine nw_b0 (F := nw_ld a b) (P := fun q i => i < 5 ∧ bt a q = true ∧ bt b (5 * q + i) = true) rfl ?_
  intro n hn i hi
  show bt (nw_ld a b n ||| (if (nw_u a (nI n) &&& 1) = 0 then 0 else (nw_u b (nI (5 * n)) &&& 31))) i = true ↔ _
  rw [b_or, Bool.or_eq_true]
  by_cases h : (nw_u a (nI n) &&& 1) = 0
  · have h1 := (nw_t0u n (by omega) a).mp h
    rw [if_pos h, b_0, h1]
    simp
  · have h1 : bt a n = true := by
      have := mt (nw_t0u n (by omega) a).mpr h
      simpa using this
    rw [if_neg h, b_and, nw_bu (5 * n) (by omega), b_31, h1]
    simp only [Bool.and_eq_true, decide_eq_true_eq, true_and]
    rw [and_comm (a := i < 5)]
def nw_im (a b : Int32) : Nat → Int32
  | 0 => 0
  | k + 1 => if (a >>> (nI (k / 5) &&& 31) &&& 1) = 1 then (if (b >>> (nI k &&& 31) &&& 1) = 1 then (nw_im a b k ||| (1 : Int32) <<< (nI (k % 5) &&& 31)) else nw_im a b k) else nw_im a b k
theorem nw_im_y {a b : Int32} {k : Nat} (h : (a >>> (nI (k / 5) &&& 31) &&& 1) = 1) (h2 : (b >>> (nI k &&& 31) &&& 1) = 1) : (nw_im a b k ||| (1 : Int32) <<< (nI (k % 5) &&& 31)) = nw_im a b (k + 1) := by
  rw [nw_im, if_pos h, if_pos h2]
theorem nw_im_n1 {a b : Int32} {k : Nat} (h : ¬ (a >>> (nI (k / 5) &&& 31) &&& 1) = 1) : nw_im a b k = nw_im a b (k + 1) := by
  rw [nw_im, if_neg h]
theorem nw_im_n2 {a b : Int32} {k : Nat} (h2 : ¬ (b >>> (nI k &&& 31) &&& 1) = 1) : nw_im a b k = nw_im a b (k + 1) := by
  rw [nw_im, if_neg h2]
  split <;> rfl
theorem nw_im_b (a b : Int32) : ∀ n, n ≤ 25 → ∀ i, i < 32 → (bt (nw_im a b n) i = true ↔ ∃ k, k < n ∧ (bt a (k / 5) = true ∧ bt b k = true ∧ i = k % 5)) := by
  refine nw_b0 (F := nw_im a b) (P := fun k i => bt a (k / 5) = true ∧ bt b k = true ∧ i = k % 5) rfl ?_
  intro n hn i hi
  rw [nw_im]
  by_cases h : (a >>> (nI (n / 5) &&& 31) &&& 1) = 1
  · have h1 := (nw_t1s (n / 5) (by omega) a).mp h
    rw [if_pos h, h1]
    by_cases h2 : (b >>> (nI n &&& 31) &&& 1) = 1
    · have h3 := (nw_t1s n (by omega) b).mp h2
      rw [if_pos h2, h3, b_or, Bool.or_eq_true, nw_s1' (n % 5) (by omega) hi]
      simp
    · have h3 := mt (nw_t1s n (by omega) b).mpr h2
      rw [if_neg h2]
      simp [h3]
  · have h1 := mt (nw_t1s (n / 5) (by omega) a).mpr h
    rw [if_neg h]
    simp [h1]
/-- the two ways to go from a set of states by a table of steps -/
theorem nw_im_ld (a b : Int32) : nw_im a b 25 = nw_ld a b 5 := by
  apply b_iff
  intro i hi
  rw [nw_im_b a b 25 (by omega) i hi, nw_ld_b a b 5 (by omega) i hi]
  constructor
  · intro h
    obtain ⟨k, hk, h1, h2, h3⟩ := h
    exact ⟨k / 5, by omega, by omega, h1, by rw [show 5 * (k / 5) + i = k by omega]; exact h2⟩
  · intro h
    obtain ⟨q, hq, h1, h2, h3⟩ := h
    refine ⟨5 * q + i, by omega, ?_, h3, by omega⟩
    rw [show (5 * q + i) / 5 = q by omega]
    exact h2
-- ===== join and then =====
def nw_jn (a b : Int32) : Nat → Int32
  | 0 => 0
  | q + 1 => nw_jn a b q ||| nw_ld (nw_u a (nI (5 * q)) &&& 31) b 5 <<< (nI (5 * q) &&& 31)
theorem nw_jn_s (a b : Int32) (q : Nat) : (nw_jn a b q ||| nw_ld (nw_u a (nI (5 * q)) &&& 31) b 5 <<< (nI (5 * q) &&& 31)) = nw_jn a b (q + 1) := rfl
theorem nw_jn_b (a b : Int32) : ∀ n, n ≤ 5 → ∀ i, i < 32 → (bt (nw_jn a b n) i = true ↔ ∃ q, q < n ∧ (5 * q ≤ i ∧ i < 5 * q + 5 ∧ ∃ s, s < 5 ∧ (bt a (5 * q + s) = true ∧ bt b (5 * s + (i - 5 * q)) = true))) := by
  refine nw_b0 (F := nw_jn a b) (P := fun q i => 5 * q ≤ i ∧ i < 5 * q + 5 ∧ ∃ s, s < 5 ∧ (bt a (5 * q + s) = true ∧ bt b (5 * s + (i - 5 * q)) = true)) rfl ?_
  intro n hn i hi
  show bt (nw_jn a b n ||| nw_ld (nw_u a (nI (5 * n)) &&& 31) b 5 <<< (nI (5 * n) &&& 31)) i = true ↔ _
  rw [b_or, Bool.or_eq_true, b_shl (5 * n) (by omega) _ hi, Bool.and_eq_true, decide_eq_true_eq]
  refine or_congr Iff.rfl ?_
  constructor
  · intro h
    obtain ⟨h1, h2⟩ := h
    rw [nw_ld_b _ _ 5 (by omega) _ (by omega)] at h2
    obtain ⟨s, hs, h3, h4, h5⟩ := h2
    rw [b_and, nw_bu (5 * n) (by omega), b_31, Bool.and_eq_true] at h4
    exact ⟨h1, by omega, s, hs, h4.1, h5⟩
  · intro h
    obtain ⟨h1, h2, s, hs, h3, h4⟩ := h
    refine ⟨h1, ?_⟩
    rw [nw_ld_b _ _ 5 (by omega) _ (by omega)]
    refine ⟨s, hs, by omega, ?_, h4⟩
    rw [b_and, nw_bu (5 * n) (by omega), b_31, h3, decide_eq_true hs]
    rfl
def nw_th (a b : Int32) : Nat → Int32
  | 0 => 0
  | k + 1 => if (a >>> (nI (5 * (k / 25) + k / 5 % 5) &&& 31) &&& 1) = 1 then (if (b >>> (nI (5 * (k / 5 % 5) + k % 5) &&& 31) &&& 1) = 1 then (nw_th a b k ||| (1 : Int32) <<< (nI (5 * (k / 25) + k % 5) &&& 31)) else nw_th a b k) else nw_th a b k
theorem nw_th_y {a b : Int32} {k : Nat} (h : (a >>> (nI (5 * (k / 25) + k / 5 % 5) &&& 31) &&& 1) = 1) (h2 : (b >>> (nI (5 * (k / 5 % 5) + k % 5) &&& 31) &&& 1) = 1) : (nw_th a b k ||| (1 : Int32) <<< (nI (5 * (k / 25) + k % 5) &&& 31)) = nw_th a b (k + 1) := by
  rw [nw_th, if_pos h, if_pos h2]
theorem nw_th_n1 {a b : Int32} {k : Nat} (h : ¬ (a >>> (nI (5 * (k / 25) + k / 5 % 5) &&& 31) &&& 1) = 1) : nw_th a b k = nw_th a b (k + 1) := by
  rw [nw_th, if_neg h]
theorem nw_th_n2 {a b : Int32} {k : Nat} (h2 : ¬ (b >>> (nI (5 * (k / 5 % 5) + k % 5) &&& 31) &&& 1) = 1) : nw_th a b k = nw_th a b (k + 1) := by
  rw [nw_th, if_neg h2]
  split <;> rfl
theorem nw_th_b (a b : Int32) : ∀ n, n ≤ 125 → ∀ i, i < 32 → (bt (nw_th a b n) i = true ↔ ∃ k, k < n ∧ (bt a (5 * (k / 25) + k / 5 % 5) = true ∧ bt b (5 * (k / 5 % 5) + k % 5) = true ∧ i = 5 * (k / 25) + k % 5)) := by
  refine nw_b0 (F := nw_th a b) (P := fun k i => bt a (5 * (k / 25) + k / 5 % 5) = true ∧ bt b (5 * (k / 5 % 5) + k % 5) = true ∧ i = 5 * (k / 25) + k % 5) rfl ?_
  intro n hn i hi
  rw [nw_th]
  by_cases h : (a >>> (nI (5 * (n / 25) + n / 5 % 5) &&& 31) &&& 1) = 1
  · have h1 := (nw_t1s (5 * (n / 25) + n / 5 % 5) (by omega) a).mp h
    rw [if_pos h, h1]
    by_cases h2 : (b >>> (nI (5 * (n / 5 % 5) + n % 5) &&& 31) &&& 1) = 1
    · have h3 := (nw_t1s (5 * (n / 5 % 5) + n % 5) (by omega) b).mp h2
      rw [if_pos h2, h3, b_or, Bool.or_eq_true, nw_s1' (5 * (n / 25) + n % 5) (by omega) hi]
      simp
    · have h3 := mt (nw_t1s (5 * (n / 5 % 5) + n % 5) (by omega) b).mpr h2
      rw [if_neg h2]
      simp [h3]
  · have h1 := mt (nw_t1s (5 * (n / 25) + n / 5 % 5) (by omega) a).mpr h
    rw [if_neg h]
    simp [h1]
/-- the two ways to join tables of steps -/
theorem nw_th_jn (a b : Int32) : nw_th a b 125 = nw_jn a b 5 := by
  apply b_iff
  intro i hi
  rw [nw_th_b a b 125 (by omega) i hi, nw_jn_b a b 5 (by omega) i hi]
  constructor
  · intro h
    obtain ⟨k, hk, h1, h2, h3⟩ := h
    exact ⟨k / 25, by omega, by omega, by omega, k / 5 % 5, by omega, h1, by rw [show i - 5 * (k / 25) = k % 5 by omega]; exact h2⟩
  · intro h
    obtain ⟨q, hq, h1, h2, s, hs, h3, h4⟩ := h
    have e1 : (25 * q + 5 * s + (i - 5 * q)) / 25 = q := by omega
    have e2 : (25 * q + 5 * s + (i - 5 * q)) / 5 % 5 = s := by omega
    have e3 : (25 * q + 5 * s + (i - 5 * q)) % 5 = i - 5 * q := by omega
    refine ⟨25 * q + 5 * s + (i - 5 * q), by omega, ?_, ?_, ?_⟩
    · rw [e1, e2]; exact h3
    · rw [e2, e3]; exact h4
    · rw [e1, e3]; omega
-- ===== tables out of arrays =====
/-- plainSteps, starts, endsOf: bit k is set if V (b + k) isn't 0 -/
def nw_pl (V : Nat → Int32) (b : Nat) : Nat → Int32
  | 0 => 0
  | k + 1 => nw_pl V b k ||| (if V (b + k) = 0 then 0 else (1 : Int32) <<< (nI k &&& 31))
theorem nw_pl_z {V : Nat → Int32} {b k : Nat} (h : V (b + k) = 0) : (nw_pl V b k ||| 0) = nw_pl V b (k + 1) := by
  show _ = (nw_pl V b k ||| (if V (b + k) = 0 then 0 else (1 : Int32) <<< (nI k &&& 31)))
  rw [if_pos h]
theorem nw_pl_n {V : Nat → Int32} {b k : Nat} (h : ¬ V (b + k) = 0) : (nw_pl V b k ||| (1 : Int32) <<< (nI k &&& 31)) = nw_pl V b (k + 1) := by
  show _ = (nw_pl V b k ||| (if V (b + k) = 0 then 0 else (1 : Int32) <<< (nI k &&& 31)))
  rw [if_neg h]
theorem nw_pl_b (V : Nat → Int32) (b : Nat) : ∀ n, n ≤ 31 → ∀ i, i < 32 → (bt (nw_pl V b n) i = true ↔ ∃ k, k < n ∧ (¬ V (b + k) = 0 ∧ i = k)) := by
  refine nw_b0 (F := nw_pl V b) (P := fun k i => ¬ V (b + k) = 0 ∧ i = k) rfl ?_
  intro n hn i hi
  show bt (nw_pl V b n ||| (if V (b + n) = 0 then 0 else (1 : Int32) <<< (nI n &&& 31))) i = true ↔ _
  rw [b_or, Bool.or_eq_true]
  by_cases h : V (b + n) = 0
  · rw [if_pos h, b_0]
    simp [h]
  · rw [if_neg h, nw_s1' n (by omega) hi]
    simp [h]
/-- pairs(letter, mark) -/
def nw_pr (M : Nat → Int32) (l mk : Nat) : Nat → Int32
  | 0 => 0
  | k + 1 => if M (120 * (k / 5) + 20 * l + 4 * (k % 5) + mk) = 0 then nw_pr M l mk k else (nw_pr M l mk k ||| (1 : Int32) <<< (nI k &&& 31))
theorem nw_pr_z {M : Nat → Int32} {l mk k : Nat} (h : M (120 * (k / 5) + 20 * l + 4 * (k % 5) + mk) = 0) : nw_pr M l mk k = nw_pr M l mk (k + 1) := by
  rw [nw_pr, if_pos h]
theorem nw_pr_n {M : Nat → Int32} {l mk k : Nat} (h : ¬ M (120 * (k / 5) + 20 * l + 4 * (k % 5) + mk) = 0) : (nw_pr M l mk k ||| (1 : Int32) <<< (nI k &&& 31)) = nw_pr M l mk (k + 1) := by
  rw [nw_pr, if_neg h]
theorem nw_pr_b (M : Nat → Int32) (l mk : Nat) : ∀ n, n ≤ 31 → ∀ i, i < 32 → (bt (nw_pr M l mk n) i = true ↔ ∃ k, k < n ∧ (¬ M (120 * (k / 5) + 20 * l + 4 * (k % 5) + mk) = 0 ∧ i = k)) := by
  refine nw_b0 (F := nw_pr M l mk) (P := fun k i => ¬ M (120 * (k / 5) + 20 * l + 4 * (k % 5) + mk) = 0 ∧ i = k) rfl ?_
  intro n hn i hi
  rw [nw_pr]
  by_cases h : M (120 * (n / 5) + 20 * l + 4 * (n % 5) + mk) = 0
  · rw [if_pos h]
    simp [h]
  · rw [if_neg h, b_or, Bool.or_eq_true, nw_s1' n (by omega) hi]
    simp [h]
/-- stackSteps(letter, marks): its inner loop over the marks, then the outer one -/
def nw_si (S : Nat → Int32) (l : Nat) (mk : Int32) (k : Nat) (acc : Int32) : Nat → Int32
  | 0 => acc
  | m + 1 => nw_si S l mk k acc m ||| (if (nw_u mk (nI m) &&& 1) = 0 then 0 else if S (100 * l + 4 * k + m) = 0 then 0 else (1 : Int32) <<< (nI k &&& 31))
theorem nw_si_z1 {S : Nat → Int32} {l : Nat} {mk : Int32} {k : Nat} {acc : Int32} {m : Nat} (h : (nw_u mk (nI m) &&& 1) = 0) : (nw_si S l mk k acc m ||| 0) = nw_si S l mk k acc (m + 1) := by
  show _ = (nw_si S l mk k acc m ||| (if (nw_u mk (nI m) &&& 1) = 0 then 0 else if S (100 * l + 4 * k + m) = 0 then 0 else (1 : Int32) <<< (nI k &&& 31)))
  rw [if_pos h]
theorem nw_si_z2 {S : Nat → Int32} {l : Nat} {mk : Int32} {k : Nat} {acc : Int32} {m : Nat} (h : S (100 * l + 4 * k + m) = 0) : (nw_si S l mk k acc m ||| 0) = nw_si S l mk k acc (m + 1) := by
  show _ = (nw_si S l mk k acc m ||| (if (nw_u mk (nI m) &&& 1) = 0 then 0 else if S (100 * l + 4 * k + m) = 0 then 0 else (1 : Int32) <<< (nI k &&& 31)))
  rw [if_pos h]
  split <;> rfl
theorem nw_si_n {S : Nat → Int32} {l : Nat} {mk : Int32} {k : Nat} {acc : Int32} {m : Nat} (h1 : ¬ (nw_u mk (nI m) &&& 1) = 0) (h : ¬ S (100 * l + 4 * k + m) = 0) : (nw_si S l mk k acc m ||| (1 : Int32) <<< (nI k &&& 31)) = nw_si S l mk k acc (m + 1) := by
  show _ = (nw_si S l mk k acc m ||| (if (nw_u mk (nI m) &&& 1) = 0 then 0 else if S (100 * l + 4 * k + m) = 0 then 0 else (1 : Int32) <<< (nI k &&& 31)))
  rw [if_neg h1, if_neg h]
theorem nw_si_b (S : Nat → Int32) (l : Nat) (mk : Int32) (k : Nat) (hk : k < 32) (acc : Int32) : ∀ n, n ≤ 31 → ∀ i, i < 32 → (bt (nw_si S l mk k acc n) i = true ↔ (bt acc i = true ∨ ∃ m, m < n ∧ ((bt mk m = true ∧ ¬ S (100 * l + 4 * k + m) = 0) ∧ i = k))) := by
  refine nw_bx (F := nw_si S l mk k acc) (P := fun m i => (bt mk m = true ∧ ¬ S (100 * l + 4 * k + m) = 0) ∧ i = k) rfl ?_
  intro n hn i hi
  show bt (nw_si S l mk k acc n ||| (if (nw_u mk (nI n) &&& 1) = 0 then 0 else if S (100 * l + 4 * k + n) = 0 then 0 else (1 : Int32) <<< (nI k &&& 31))) i = true ↔ _
  rw [b_or, Bool.or_eq_true]
  by_cases h : (nw_u mk (nI n) &&& 1) = 0
  · have h1 := (nw_t0u n (by omega) mk).mp h
    rw [if_pos h, b_0, h1]
    simp
  · have h1 : bt mk n = true := by
      have := mt (nw_t0u n (by omega) mk).mpr h
      simpa using this
    rw [if_neg h, h1]
    by_cases h2 : S (100 * l + 4 * k + n) = 0
    · rw [if_pos h2, b_0]
      simp [h2]
    · rw [if_neg h2, nw_s1' k hk hi]
      simp [h2]
def nw_sk (S : Nat → Int32) (l : Nat) (mk : Int32) : Nat → Int32
  | 0 => 0
  | k + 1 => nw_si S l mk k (nw_sk S l mk k) 4
theorem nw_sk_b (S : Nat → Int32) (l : Nat) (mk : Int32) : ∀ n, n ≤ 31 → ∀ i, i < 32 → (bt (nw_sk S l mk n) i = true ↔ ∃ k, k < n ∧ ∃ m, m < 4 ∧ ((bt mk m = true ∧ ¬ S (100 * l + 4 * k + m) = 0) ∧ i = k)) := by
  refine nw_b0 (F := nw_sk S l mk) (P := fun k i => ∃ m, m < 4 ∧ ((bt mk m = true ∧ ¬ S (100 * l + 4 * k + m) = 0) ∧ i = k)) rfl ?_
  intro n hn i hi
  show bt (nw_si S l mk n (nw_sk S l mk n) 4) i = true ↔ _
  rw [nw_si_b S l mk n (by omega) _ 4 (by omega) i hi]
/-- the tables of the system and of the reference say the same -/
def nw_TB (S P M : Nat → Int32) : Prop := (∀ q r l m, q < 5 → r < 5 → l < 4 → m < 4 → S (100 * l + 4 * (5 * q + r) + m) = M (120 * q + 20 * l + 4 * r + m)) ∧ (∀ q r l, q < 5 → r < 5 → 4 ≤ l → l < 6 → P (25 * (l - 4) + (5 * q + r)) = M (120 * q + 20 * l + 4 * r))
theorem nw_TB0 : nw_TB (fun _ => 0) (fun _ => 0) (fun _ => 0) := ⟨fun _ _ _ _ _ _ _ _ => rfl, fun _ _ _ _ _ _ _ => rfl⟩
theorem nw_TBk {S P M : Nat → Int32} (h : nw_TB S P M) {k l m : Nat} (hk : k < 25) (hl : l < 4) (hm : m < 4) : S (100 * l + 4 * k + m) = M (120 * (k / 5) + 20 * l + 4 * (k % 5) + m) := by
  have := h.1 (k / 5) (k % 5) l m (by omega) (by omega) hl hm
  rw [show 5 * (k / 5) + k % 5 = k by omega] at this
  exact this
theorem nw_TBp {S P M : Nat → Int32} (h : nw_TB S P M) {k l : Nat} (hk : k < 25) (hl : 4 ≤ l) (hl2 : l < 6) : P (25 * (l - 4) + k) = M (120 * (k / 5) + 20 * l + 4 * (k % 5) + 0) := by
  have := h.2 (k / 5) (k % 5) l (by omega) (by omega) hl hl2
  rw [show 5 * (k / 5) + k % 5 = k by omega] at this
  exact this
theorem nw_TBs {S P M : Nat → Int32} (h : nw_TB S P M) {q r l m : Nat} (v : Int32) (hq : q < 5) (hr : r < 5) (hl : l < 4) (hm : m < 4) : nw_TB (upd S (100 * l + 4 * (5 * q + r) + m) v) P (upd M (120 * q + 20 * l + 4 * r + m) v) := by
  refine ⟨fun q' r' l' m' h1 h2 h3 h4 => ?_, fun q' r' l' h1 h2 h3 h4 => ?_⟩
  · by_cases e : 100 * l' + 4 * (5 * q' + r') + m' = 100 * l + 4 * (5 * q + r) + m
    · have e2 : 120 * q' + 20 * l' + 4 * r' + m' = 120 * q + 20 * l + 4 * r + m := by omega
      rw [e, e2, pk_us, pk_us]
    · have e2 : ¬ 120 * q' + 20 * l' + 4 * r' + m' = 120 * q + 20 * l + 4 * r + m := by omega
      rw [pk_un e, pk_un e2]
      exact h.1 q' r' l' m' h1 h2 h3 h4
  · have e2 : ¬ 120 * q' + 20 * l' + 4 * r' = 120 * q + 20 * l + 4 * r + m := by omega
    rw [pk_un e2]
    exact h.2 q' r' l' h1 h2 h3 h4
theorem nw_TBl {S P M : Nat → Int32} (h : nw_TB S P M) {q r l : Nat} (v : Int32) (hq : q < 5) (hr : r < 5) (hl : 4 ≤ l) (hl2 : l < 6) : nw_TB S (upd P (25 * (l - 4) + (5 * q + r)) v) (upd M (120 * q + 20 * l + 4 * r) v) := by
  refine ⟨fun q' r' l' m' h1 h2 h3 h4 => ?_, fun q' r' l' h1 h2 h3 h4 => ?_⟩
  · have e2 : ¬ 120 * q' + 20 * l' + 4 * r' + m' = 120 * q + 20 * l + 4 * r := by omega
    rw [pk_un e2]
    exact h.1 q' r' l' m' h1 h2 h3 h4
  · by_cases e : 25 * (l' - 4) + (5 * q' + r') = 25 * (l - 4) + (5 * q + r)
    · have e2 : 120 * q' + 20 * l' + 4 * r' = 120 * q + 20 * l + 4 * r := by omega
      rw [e, e2, pk_us, pk_us]
    · have e2 : ¬ 120 * q' + 20 * l' + 4 * r' = 120 * q + 20 * l + 4 * r := by omega
      rw [pk_un e, pk_un e2]
      exact h.2 q' r' l' h1 h2 h3 h4
/-- the reference's pairs, all 25 bits -/
def nw_pp (M : Nat → Int32) (l m : Nat) : Int32 := nw_pr M l m 25
def nw_o3 (pr : Nat → Nat → Int32) (l : Nat) : Int32 := (pr l 0 ||| pr l 1) ||| pr l 2
/-- what the system's tables give, in terms of pr -/
def nw_TC (S P : Nat → Int32) (pr : Nat → Nat → Int32) : Prop := (∀ l, 4 ≤ l → l < 6 → nw_pl P (25 * (l - 4)) 25 = pr l 0) ∧ (∀ l, l < 2 → nw_sk S l 7 25 = nw_o3 pr l) ∧ (∀ l, l < 4 → nw_sk S l 8 25 = pr l 3) ∧ (∀ l m, l < 4 → m < 3 → nw_sk S l ((1 : Int32) <<< (nI m &&& 31)) 25 = pr l m)
theorem nw_b7 : ∀ m, m < 4 → (bt 7 m = true ↔ m < 3) := by decide +kernel
theorem nw_b8 : ∀ m, m < 4 → (bt 8 m = true ↔ m = 3) := by decide +kernel
theorem nw_TBC {S P M : Nat → Int32} (h : nw_TB S P M) : nw_TC S P (nw_pp M) := by
  refine ⟨fun l h1 h2 => ?_, fun l h1 => ?_, fun l h1 => ?_, fun l m h1 h2 => ?_⟩
  · apply b_iff
    intro i hi
    unfold nw_pp
    rw [nw_pl_b P _ 25 (by omega) i hi, nw_pr_b M l 0 25 (by omega) i hi]
    constructor
    · intro g
      obtain ⟨k, g1, g2, g3⟩ := g
      exact ⟨k, g1, by rw [← nw_TBp h g1 h1 h2]; exact g2, g3⟩
    · intro g
      obtain ⟨k, g1, g2, g3⟩ := g
      exact ⟨k, g1, by rw [nw_TBp h g1 h1 h2]; exact g2, g3⟩
  · apply b_iff
    intro i hi
    unfold nw_o3 nw_pp
    rw [nw_sk_b S l 7 25 (by omega) i hi, b_or, b_or, Bool.or_eq_true, Bool.or_eq_true, nw_pr_b M l 0 25 (by omega) i hi, nw_pr_b M l 1 25 (by omega) i hi, nw_pr_b M l 2 25 (by omega) i hi]
    constructor
    · intro g
      obtain ⟨k, g1, m, g2, ⟨g3, g4⟩, g5⟩ := g
      have g6 := (nw_b7 m g2).mp g3
      rw [nw_TBk h g1 (by omega) g2] at g4
      rcases (show m = 0 ∨ m = 1 ∨ m = 2 by omega) with e | e | e
      · subst e; exact Or.inl (Or.inl ⟨k, g1, g4, g5⟩)
      · subst e; exact Or.inl (Or.inr ⟨k, g1, g4, g5⟩)
      · subst e; exact Or.inr ⟨k, g1, g4, g5⟩
    · intro g
      rcases g with (⟨k, g1, g4, g5⟩ | ⟨k, g1, g4, g5⟩) | ⟨k, g1, g4, g5⟩
      · exact ⟨k, g1, 0, by omega, ⟨(nw_b7 0 (by omega)).mpr (by omega), by rw [nw_TBk h g1 (by omega) (by omega)]; exact g4⟩, g5⟩
      · exact ⟨k, g1, 1, by omega, ⟨(nw_b7 1 (by omega)).mpr (by omega), by rw [nw_TBk h g1 (by omega) (by omega)]; exact g4⟩, g5⟩
      · exact ⟨k, g1, 2, by omega, ⟨(nw_b7 2 (by omega)).mpr (by omega), by rw [nw_TBk h g1 (by omega) (by omega)]; exact g4⟩, g5⟩
  · apply b_iff
    intro i hi
    unfold nw_pp
    rw [nw_sk_b S l 8 25 (by omega) i hi, nw_pr_b M l 3 25 (by omega) i hi]
    constructor
    · intro g
      obtain ⟨k, g1, m, g2, ⟨g3, g4⟩, g5⟩ := g
      have g6 := (nw_b8 m g2).mp g3
      subst g6
      rw [nw_TBk h g1 (by omega) g2] at g4
      exact ⟨k, g1, g4, g5⟩
    · intro g
      obtain ⟨k, g1, g4, g5⟩ := g
      exact ⟨k, g1, 3, by omega, ⟨(nw_b8 3 (by omega)).mpr rfl, by rw [nw_TBk h g1 (by omega) (by omega)]; exact g4⟩, g5⟩
  · apply b_iff
    intro i hi
    unfold nw_pp
    rw [nw_sk_b S l _ 25 (by omega) i hi, nw_pr_b M l m 25 (by omega) i hi]
    constructor
    · intro g
      obtain ⟨k, g1, m', g2, ⟨g3, g4⟩, g5⟩ := g
      rw [nw_s1' m (by omega) (by omega)] at g3
      subst g3
      rw [nw_TBk h g1 (by omega) g2] at g4
      exact ⟨k, g1, g4, g5⟩
    · intro g
      obtain ⟨k, g1, g4, g5⟩ := g
      exact ⟨k, g1, m, by omega, ⟨(nw_s1' m (by omega) (by omega)).mpr rfl, by rw [nw_TBk h g1 (by omega) (by omega)]; exact g4⟩, g5⟩
/-- starts or ends: a state comes in or goes out -/
theorem nw_plu (V : Nat → Int32) (q : Nat) (hq : q < 5) (v : Int32) (hv : ¬ v = 0) : (nw_pl V 0 5 ||| (1 : Int32) <<< (nI q &&& 31)) = nw_pl (upd V q v) 0 5 := by
  apply b_iff
  intro i hi
  rw [b_or, Bool.or_eq_true, nw_s1' q (by omega) hi, nw_pl_b V 0 5 (by omega) i hi, nw_pl_b (upd V q v) 0 5 (by omega) i hi]
  constructor
  · intro g
    rcases g with ⟨k, g1, g2, g3⟩ | g
    · refine ⟨k, g1, ?_, g3⟩
      by_cases e : 0 + k = q
      · rw [e, pk_us]; exact hv
      · rw [pk_un e]; exact g2
    · exact ⟨q, hq, by rw [Nat.zero_add, pk_us]; exact hv, g⟩
  · intro g
    obtain ⟨k, g1, g2, g3⟩ := g
    by_cases e : 0 + k = q
    · exact Or.inr (by omega)
    · rw [pk_un e] at g2
      exact Or.inl ⟨k, g1, g2, g3⟩
theorem nw_pld (V : Nat → Int32) (q : Nat) (hq : q < 5) : (nw_pl V 0 5 &&& ((1 : Int32) <<< (nI q &&& 31) ^^^ (-1))) = nw_pl (upd V q 0) 0 5 := by
  apply b_iff
  intro i hi
  rw [b_and, Bool.and_eq_true, b_xor, nw_s1 q (by omega) hi, b_m1 i hi, nw_pl_b V 0 5 (by omega) i hi, nw_pl_b (upd V q 0) 0 5 (by omega) i hi]
  constructor
  · intro g
    obtain ⟨⟨k, g1, g2, g3⟩, g4⟩ := g
    refine ⟨k, g1, ?_, g3⟩
    have e : ¬ 0 + k = q := by
      intro e
      rw [decide_eq_true (by omega : i = q)] at g4
      simp at g4
    rw [pk_un e]
    exact g2
  · intro g
    obtain ⟨k, g1, g2, g3⟩ := g
    have e : ¬ 0 + k = q := by
      intro e
      rw [e, pk_us] at g2
      exact g2 rfl
    rw [pk_un e] at g2
    refine ⟨⟨k, g1, g2, g3⟩, ?_⟩
    rw [decide_eq_false (by omega : ¬ i = q)]
    rfl
-- ===== ones, same =====
def nw_on (x : Int32) : Nat → Int32
  | 0 => 0
  | q + 1 => nw_on x q + (nw_u x (nI q) &&& 1)
theorem nw_on_s (x : Int32) (q : Nat) : nw_on x q + (nw_u x (nI q) &&& 1) = nw_on x (q + 1) := rfl
theorem nw_on_s2 (x : Int32) (q : Nat) (hq : q < 32) : nw_on x q + (x >>> (nI q &&& 31) &&& 1) = nw_on x (q + 1) := by
  rw [nw_b1 q hq]
  rfl
def nw_sa : Nat → Int32
  | 0 => 0
  | q + 1 => nw_sa q ||| (1 : Int32) <<< (nI (6 * q) &&& 31)
theorem nw_sa_s (q : Nat) : (nw_sa q ||| (1 : Int32) <<< (nI (6 * q) &&& 31)) = nw_sa (q + 1) := rfl
theorem nw_sa5 : nw_sa 5 = 17043521 := by decide +kernel
end
section
/-! PURE 2: the word, read letter by letter: the canonical value that both sides compute -/
/-- closedSteps = piece: an opening move, what lay between, a closing move with the same mark -/
def nw_cl (pr : Nat → Nat → Int32) (l : Nat) (y : Int32) (c : Nat) : Nat → Int32
  | 0 => 0
  | m + 1 => nw_cl pr l y c m ||| nw_jn (nw_jn (pr l m) y 5) (pr c m) 5
theorem nw_cl_s (pr : Nat → Nat → Int32) (l : Nat) (y : Int32) (c m : Nat) : (nw_cl pr l y c m ||| nw_jn (nw_jn (pr l m) y 5) (pr c m) 5) = nw_cl pr l y c (m + 1) := rfl
abbrev nw_R : Type := Int32 × Int32 × List (Nat × Int32 × Int32)
/-- one letter more: way, live states, the waiting opening letters with way and live states ahead of each -/
def nw_st (pr : Nat → Nat → Int32) (w : Nat → Nat) (k : Nat) (r : nw_R) : nw_R :=
  if w k < 2 then (17043521, nw_ld r.2.1 (nw_o3 pr (w k)) 5, (k, r.1, r.2.1) :: r.2.2)
  else if w k < 4 then
    match r.2.2 with
    | [] => (nw_jn r.1 (pr (w k) 3) 5, nw_ld r.2.1 (pr (w k) 3) 5, [])
    | q :: t => (nw_jn q.2.1 (nw_cl pr (w q.1) r.1 (w k) 3) 5, nw_ld q.2.2 (nw_cl pr (w q.1) r.1 (w k) 3) 5, t)
  else (nw_jn r.1 (pr (w k) 0) 5, nw_ld r.2.1 (pr (w k) 0) 5, r.2.2)
def nw_rn (pr : Nat → Nat → Int32) (s0 : Int32) (w : Nat → Nat) : Nat → nw_R
  | 0 => (17043521, s0, [])
  | k + 1 => nw_st pr w k (nw_rn pr s0 w k)
/-- positions of the waiting opening letters, the last one first -/
def nw_sp (w : Nat → Nat) : Nat → List Nat
  | 0 => []
  | k + 1 => if w k < 2 then k :: nw_sp w k else if w k < 4 then (nw_sp w k).tail else nw_sp w k
section RUN
variable {pr : Nat → Nat → Int32} {s0 : Int32} {w : Nat → Nat} {k : Nat}
theorem nw_rn_o (h : w k < 2) : nw_rn pr s0 w (k + 1) = (17043521, nw_ld (nw_rn pr s0 w k).2.1 (nw_o3 pr (w k)) 5, (k, (nw_rn pr s0 w k).1, (nw_rn pr s0 w k).2.1) :: (nw_rn pr s0 w k).2.2) := by
  rw [nw_rn, nw_st, if_pos h]
theorem nw_rn_p (h : ¬ w k < 4) : nw_rn pr s0 w (k + 1) = (nw_jn (nw_rn pr s0 w k).1 (pr (w k) 0) 5, nw_ld (nw_rn pr s0 w k).2.1 (pr (w k) 0) 5, (nw_rn pr s0 w k).2.2) := by
  rw [nw_rn, nw_st, if_neg (by omega), if_neg h]
theorem nw_rn_c0 (h1 : ¬ w k < 2) (h2 : w k < 4) (h : (nw_rn pr s0 w k).2.2 = []) : nw_rn pr s0 w (k + 1) = (nw_jn (nw_rn pr s0 w k).1 (pr (w k) 3) 5, nw_ld (nw_rn pr s0 w k).2.1 (pr (w k) 3) 5, []) := by
  rw [nw_rn, nw_st, if_neg h1, if_pos h2, h]
theorem nw_rn_c1 (h1 : ¬ w k < 2) (h2 : w k < 4) {q : Nat × Int32 × Int32} {t : List (Nat × Int32 × Int32)} (h : (nw_rn pr s0 w k).2.2 = q :: t) : nw_rn pr s0 w (k + 1) = (nw_jn q.2.1 (nw_cl pr (w q.1) (nw_rn pr s0 w k).1 (w k) 3) 5, nw_ld q.2.2 (nw_cl pr (w q.1) (nw_rn pr s0 w k).1 (w k) 3) 5, t) := by
  rw [nw_rn, nw_st, if_neg h1, if_pos h2, h]
theorem nw_sp_o (h : w k < 2) : nw_sp w (k + 1) = k :: nw_sp w k := by
  rw [nw_sp, if_pos h]
theorem nw_sp_c (h1 : ¬ w k < 2) (h2 : w k < 4) : nw_sp w (k + 1) = (nw_sp w k).tail := by
  rw [nw_sp, if_neg h1, if_pos h2]
theorem nw_sp_p (h : ¬ w k < 4) : nw_sp w (k + 1) = nw_sp w k := by
  rw [nw_sp, if_neg (by omega), if_neg h]
end RUN
theorem nw_rn_top (pr : Nat → Nat → Int32) (s0 : Int32) (w : Nat → Nat) : ∀ (n k : Nat), k ≤ n → ∀ (q : Nat × Int32 × Int32) (t : List (Nat × Int32 × Int32)), (nw_rn pr s0 w k).2.2 = q :: t → q.1 < k ∧ w q.1 < 2 ∧ nw_rn pr s0 w q.1 = (q.2.1, q.2.2, t) := by
  intro n
  induction n with
  | zero =>
    intro k hk q t h
    have e : k = 0 := by omega
    subst e
    cases h
  | succ n ih =>
    intro k hk q t h
    match k, hk, h with
    | 0, _, h => cases h
    | j + 1, hk, h =>
      by_cases h1 : w j < 2
      · rw [nw_rn_o h1] at h
        injection h with e1 e2
        subst e1
        subst e2
        exact ⟨Nat.lt_succ_self j, h1, rfl⟩
      · by_cases h2 : w j < 4
        · cases hs : (nw_rn pr s0 w j).2.2 with
          | nil =>
            rw [nw_rn_c0 h1 h2 hs] at h
            cases h
          | cons q' t' =>
            rw [nw_rn_c1 h1 h2 hs] at h
            obtain ⟨g1, g2, g3⟩ := ih j (by omega) q' t' hs
            have g4 : (nw_rn pr s0 w q'.1).2.2 = q :: t := by rw [g3]; exact h
            obtain ⟨f1, f2, f3⟩ := ih q'.1 (by omega) q t g4
            exact ⟨by omega, f2, f3⟩
        · rw [nw_rn_p h2] at h
          obtain ⟨f1, f2, f3⟩ := ih j (by omega) q t h
          exact ⟨by omega, f2, f3⟩
theorem nw_rn_sp (pr : Nat → Nat → Int32) (s0 : Int32) (w : Nat → Nat) : ∀ k, (nw_rn pr s0 w k).2.2.map (fun q => q.1) = nw_sp w k := by
  intro k
  induction k with
  | zero => rfl
  | succ k ih =>
    by_cases h1 : w k < 2
    · rw [nw_rn_o h1, nw_sp_o h1, ← ih]
      rfl
    · by_cases h2 : w k < 4
      · rw [nw_sp_c h1 h2, ← ih]
        cases hs : (nw_rn pr s0 w k).2.2 with
        | nil => rw [nw_rn_c0 h1 h2 hs]; rfl
        | cons q t => rw [nw_rn_c1 h1 h2 hs]; rfl
      · rw [nw_rn_p h2, nw_sp_p h2, ← ih]
theorem nw_rn_nil {pr : Nat → Nat → Int32} {s0 : Int32} {w : Nat → Nat} {k : Nat} (h : nw_sp w k = []) : (nw_rn pr s0 w k).2.2 = [] := by
  rw [← nw_rn_sp pr s0 w k] at h
  exact List.map_eq_nil_iff.mp h
theorem nw_rn_cons {pr : Nat → Nat → Int32} {s0 : Int32} {w : Nat → Nat} {k p : Nat} {t : List Nat} (h : nw_sp w k = p :: t) : (nw_rn pr s0 w k).2.2 = (p, (nw_rn pr s0 w p).1, (nw_rn pr s0 w p).2.1) :: (nw_rn pr s0 w p).2.2 := by
  rw [← nw_rn_sp pr s0 w k] at h
  cases hs : (nw_rn pr s0 w k).2.2 with
  | nil => rw [hs] at h; cases h
  | cons q r =>
    rw [hs] at h
    injection h with e1 e2
    obtain ⟨-, -, g3⟩ := nw_rn_top pr s0 w k k (Nat.le_refl k) q r hs
    have e1 : q.1 = p := e1
    rw [e1] at g3
    rw [g3]
    obtain ⟨a, b, c⟩ := q
    have e1 : a = p := e1
    subst e1
    rfl
theorem nw_rn_len (pr : Nat → Nat → Int32) (s0 : Int32) (w : Nat → Nat) (k : Nat) : (nw_rn pr s0 w k).2.2.length = (nw_sp w k).length := by
  rw [← nw_rn_sp pr s0 w k, List.length_map]
theorem nw_sp_top {w : Nat → Nat} : ∀ {k p : Nat} {t : List Nat}, nw_sp w k = p :: t → p < k ∧ w p < 2 ∧ nw_sp w p = t := by
  intro k p t h
  rw [← nw_rn_sp (fun _ _ => 0) 0 w k] at h
  cases hs : (nw_rn (fun _ _ => 0) 0 w k).2.2 with
  | nil => rw [hs] at h; cases h
  | cons q r =>
    rw [hs] at h
    injection h with e1 e2
    obtain ⟨g1, g2, g3⟩ := nw_rn_top (fun _ _ => 0) 0 w k k (Nat.le_refl k) q r hs
    have e1 : q.1 = p := e1
    rw [e1] at g1 g2 g3
    refine ⟨g1, g2, ?_⟩
    rw [← nw_rn_sp (fun _ _ => 0) 0 w p, g3]
    exact e2
theorem nw_sp_step {w : Nat → Nat} {j p : Nat} (h : p ∈ nw_sp w (j + 1)) : p = j ∨ p ∈ nw_sp w j := by
  by_cases h1 : w j < 2
  · rw [nw_sp_o h1] at h
    exact List.mem_cons.mp h
  · by_cases h2 : w j < 4
    · rw [nw_sp_c h1 h2] at h
      exact Or.inr (List.mem_of_mem_tail h)
    · rw [nw_sp_p h2] at h
      exact Or.inr h
theorem nw_sp_lt {w : Nat → Nat} : ∀ {k p : Nat}, p ∈ nw_sp w k → p < k := by
  intro k
  induction k with
  | zero => intro p h; cases h
  | succ k ih =>
    intro p h
    rcases nw_sp_step h with e | e
    · omega
    · have := ih e
      omega
theorem nw_sp_op {w : Nat → Nat} : ∀ {k p : Nat}, p ∈ nw_sp w k → w p < 2 := by
  intro k
  induction k with
  | zero => intro p h; cases h
  | succ k ih =>
    intro p h
    by_cases h1 : w k < 2
    · rcases nw_sp_step h with e | e
      · rw [e]; exact h1
      · exact ih e
    · rcases nw_sp_step h with e | e
      · by_cases h2 : w k < 4
        · rw [nw_sp_c h1 h2] at h
          have := nw_sp_lt (List.mem_of_mem_tail h)
          omega
        · rw [nw_sp_p h2] at h
          have := nw_sp_lt h
          omega
      · exact ih e
theorem nw_sp_back {w : Nat → Nat} : ∀ {k p q : Nat}, p ∈ nw_sp w k → p < q → q ≤ k → p ∈ nw_sp w q := by
  intro k
  induction k with
  | zero => intro p q h; cases h
  | succ k ih =>
    intro p q h h1 h2
    rcases Nat.lt_or_ge q (k + 1) with g | g
    · rcases nw_sp_step h with e | e
      · omega
      · exact ih e h1 (by omega)
    · have e : q = k + 1 := by omega
      rw [e]
      exact h
/-- what a closing letter takes off is gone -/
theorem nw_sp_gone {w : Nat → Nat} {q k p : Nat} {t : List Nat} (h : nw_sp w q = p :: t) (h1 : ¬ w q < 2) (h2 : w q < 4) (hk : q < k) : p ∉ nw_sp w k := by
  intro hp
  obtain ⟨g1, g2, g3⟩ := nw_sp_top h
  have g4 := nw_sp_back hp (show p < q + 1 by omega) (by omega)
  rw [nw_sp_c h1 h2, h] at g4
  have g5 : p ∈ t := g4
  rw [← g3] at g5
  have := nw_sp_lt g5
  omega
/-- an opening letter that waits no more was closed -/
theorem nw_sp_pop {w : Nat → Nat} {q : Nat} (hq : w q < 2) : ∀ {k : Nat}, q < k → q ∉ nw_sp w k → ∃ r, q < r ∧ r < k ∧ nw_sp w r = q :: nw_sp w q ∧ ¬ w r < 2 ∧ w r < 4 := by
  intro k
  induction k with
  | zero => intro h; omega
  | succ k ih =>
    intro h hn
    rcases Nat.lt_or_ge q k with g | g
    · by_cases hm : q ∈ nw_sp w k
      · by_cases h1 : w k < 2
        · rw [nw_sp_o h1] at hn
          exact absurd (List.mem_cons_of_mem _ hm) hn
        · by_cases h2 : w k < 4
          · rw [nw_sp_c h1 h2] at hn
            cases hs : nw_sp w k with
            | nil => rw [hs] at hm; cases hm
            | cons p t =>
              rw [hs] at hm hn
              rcases List.mem_cons.mp hm with e | e
              · subst e
                obtain ⟨-, -, g3⟩ := nw_sp_top hs
                exact ⟨k, g, Nat.lt_succ_self k, by rw [hs, g3], h1, h2⟩
              · exact absurd e hn
          · rw [nw_sp_p h2] at hn
            exact absurd hm hn
      · obtain ⟨r, r1, r2, r3⟩ := ih g hm
        exact ⟨r, r1, by omega, r3⟩
    · have e : q = k := by omega
      subst e
      rw [nw_sp_o hq] at hn
      exact absurd List.mem_cons_self hn
theorem nw_sp_len {w : Nat → Nat} : ∀ k, (nw_sp w k).length ≤ k := by
  intro k
  induction k with
  | zero => exact Nat.le_refl 0
  | succ k ih =>
    by_cases h1 : w k < 2
    · rw [nw_sp_o h1, List.length_cons]; omega
    · by_cases h2 : w k < 4
      · rw [nw_sp_c h1 h2, List.length_tail]; omega
      · rw [nw_sp_p h2]; omega
-- ===== words that begin alike =====
theorem nw_rn_eq (pr : Nat → Nat → Int32) (s0 : Int32) {w w' : Nat → Nat} : ∀ k, (∀ j, j < k → w j = w' j) → nw_rn pr s0 w k = nw_rn pr s0 w' k := by
  intro k
  induction k with
  | zero => intro _; rfl
  | succ k ih =>
    intro h
    have e := ih (fun j hj => h j (by omega))
    have ek := h k (by omega)
    by_cases h1 : w k < 2
    · rw [nw_rn_o h1, nw_rn_o (by rw [← ek]; exact h1), e, ek]
    · by_cases h2 : w k < 4
      · cases hs : (nw_rn pr s0 w k).2.2 with
        | nil => rw [nw_rn_c0 h1 h2 hs, nw_rn_c0 (by rw [← ek]; exact h1) (by rw [← ek]; exact h2) (by rw [← e]; exact hs), e, ek]
        | cons q t =>
          have g := (nw_rn_top pr s0 w k k (Nat.le_refl k) q t hs).1
          rw [nw_rn_c1 h1 h2 hs, nw_rn_c1 (by rw [← ek]; exact h1) (by rw [← ek]; exact h2) (by rw [← e]; exact hs), e, ek, h q.1 (by omega)]
      · rw [nw_rn_p h2, nw_rn_p (by rw [← ek]; exact h2), e, ek]
/-- a letter put at a place -/
def nw_up (w : Nat → Nat) (n l : Nat) : Nat → Nat := fun j => if j = n then l else w j
theorem nw_up_s (w : Nat → Nat) (n l : Nat) : nw_up w n l n = l := by simp [nw_up]
theorem nw_up_n {w : Nat → Nat} {n l j : Nat} (h : j ≠ n) : nw_up w n l j = w j := by simp [nw_up, h]
theorem nw_rn_up (pr : Nat → Nat → Int32) (s0 : Int32) (w : Nat → Nat) (n l : Nat) {k : Nat} (h : k ≤ n) : nw_rn pr s0 (nw_up w n l) k = nw_rn pr s0 w k := nw_rn_eq pr s0 k (fun j hj => nw_up_n (by omega))
-- ===== the system's arrays =====
def nw_op : List (Nat × Int32 × Int32) → Int32
  | [] => -1
  | q :: _ => nI q.1
def nw_CI (pr : Nat → Nat → Int32) (s0 : Int32) (w : Nat → Nat) (n : Nat) (aw ay aa ao : Nat → Int32) : Prop := (∀ k, k < n → aw k = nI (w k)) ∧ ∀ k, k ≤ n → ay k = (nw_rn pr s0 w k).1 ∧ aa k = (nw_rn pr s0 w k).2.1 ∧ ao k = nw_op (nw_rn pr s0 w k).2.2
theorem nw_CI_0 {pr : Nat → Nat → Int32} {s0 : Int32} {w : Nat → Nat} {aw ay aa ao : Nat → Int32} : nw_CI pr s0 w 0 aw (upd ay 0 17043521) (upd aa 0 s0) (upd ao 0 (-1)) := by
  refine ⟨fun k hk => by omega, fun k hk => ?_⟩
  have e : k = 0 := by omega
  subst e
  exact ⟨pk_us, pk_us, pk_us⟩
theorem nw_CI_le {pr : Nat → Nat → Int32} {s0 : Int32} {w : Nat → Nat} {n m : Nat} {aw ay aa ao : Nat → Int32} (h : nw_CI pr s0 w n aw ay aa ao) (hm : m ≤ n) : nw_CI pr s0 w m aw ay aa ao := ⟨fun k hk => h.1 k (by omega), fun k hk => h.2 k (by omega)⟩
theorem nw_CI_eq {pr : Nat → Nat → Int32} {s0 : Int32} {w w' : Nat → Nat} {n : Nat} {aw ay aa ao : Nat → Int32} (h : nw_CI pr s0 w n aw ay aa ao) (hw : ∀ j, j < n → w j = w' j) : nw_CI pr s0 w' n aw ay aa ao :=
  ⟨fun k hk => by rw [← hw k hk]; exact h.1 k hk, fun k hk => by rw [← nw_rn_eq pr s0 k (fun j hj => hw j (by omega))]; exact h.2 k hk⟩
/-- one letter more, by its three values -/
theorem nw_CI_s {pr : Nat → Nat → Int32} {s0 : Int32} {w : Nat → Nat} {n l : Nat} {aw ay aa ao : Nat → Int32} (h : nw_CI pr s0 w n aw ay aa ao) {vy va vo : Int32} (hr : vy = (nw_rn pr s0 (nw_up w n l) (n + 1)).1) (ha : va = (nw_rn pr s0 (nw_up w n l) (n + 1)).2.1) (ho : vo = nw_op (nw_rn pr s0 (nw_up w n l) (n + 1)).2.2) : nw_CI pr s0 (nw_up w n l) (n + 1) (upd aw n (nI l)) (upd ay (n + 1) vy) (upd aa (n + 1) va) (upd ao (n + 1) vo) := by
  refine ⟨fun k hk => ?_, fun k hk => ?_⟩
  · by_cases e : k = n
    · rw [e, pk_us, nw_up_s]
    · rw [pk_un e, nw_up_n e]
      exact h.1 k (by omega)
  · by_cases e : k = n + 1
    · subst e
      rw [pk_us, pk_us, pk_us]
      exact ⟨hr, ha, ho⟩
    · rw [pk_un e, pk_un e, pk_un e, nw_rn_up pr s0 w n l (by omega)]
      exact h.2 k (by omega)
/-- where the last waiting letter stands -/
theorem nw_CI_o {pr : Nat → Nat → Int32} {s0 : Int32} {w : Nat → Nat} {n : Nat} {aw ay aa ao : Nat → Int32} (h : nw_CI pr s0 w n aw ay aa ao) (hn : n < 2 ^ 31) : (ao n < 0 ∧ (nw_rn pr s0 w n).2.2 = [] ∧ ao n = -1) ∨ (¬ ao n < 0 ∧ ∃ p, p < n ∧ w p < 2 ∧ ao n = nI p ∧ (nw_rn pr s0 w n).2.2 = (p, (nw_rn pr s0 w p).1, (nw_rn pr s0 w p).2.1) :: (nw_rn pr s0 w p).2.2) := by
  have e := (h.2 n (Nat.le_refl n)).2.2
  cases hs : (nw_rn pr s0 w n).2.2 with
  | nil =>
    rw [hs] at e
    exact Or.inl ⟨by rw [e]; decide, rfl, e⟩
  | cons q t =>
    rw [hs] at e
    obtain ⟨g1, g2, g3⟩ := nw_rn_top pr s0 w n n (Nat.le_refl n) q t hs
    refine Or.inr ⟨by rw [e]; exact nI_pos (by omega), q.1, g1, g2, e, ?_⟩
    rw [g3]
-- ===== what the public methods answer =====
def nw_nx (pr : Nat → Nat → Int32) (s0 : Int32) (w : Nat → Nat) (n : Nat) : Nat → Int32
  | 0 => 0
  | l + 1 => nw_nx pr s0 w n l ||| (if (nw_rn pr s0 (nw_up w n l) (n + 1)).2.1 = 0 then 0 else (1 : Int32) <<< (nI l &&& 31))
theorem nw_nx_z {pr : Nat → Nat → Int32} {s0 : Int32} {w : Nat → Nat} {n l : Nat} (h : (nw_rn pr s0 (nw_up w n l) (n + 1)).2.1 = 0) : (nw_nx pr s0 w n l ||| 0) = nw_nx pr s0 w n (l + 1) := by
  show _ = (nw_nx pr s0 w n l ||| (if (nw_rn pr s0 (nw_up w n l) (n + 1)).2.1 = 0 then 0 else (1 : Int32) <<< (nI l &&& 31)))
  rw [if_pos h]
theorem nw_nx_n {pr : Nat → Nat → Int32} {s0 : Int32} {w : Nat → Nat} {n l : Nat} (h : ¬ (nw_rn pr s0 (nw_up w n l) (n + 1)).2.1 = 0) : (nw_nx pr s0 w n l ||| (1 : Int32) <<< (nI l &&& 31)) = nw_nx pr s0 w n (l + 1) := by
  show _ = (nw_nx pr s0 w n l ||| (if (nw_rn pr s0 (nw_up w n l) (n + 1)).2.1 = 0 then 0 else (1 : Int32) <<< (nI l &&& 31)))
  rw [if_neg h]
theorem nw_or0 (x : Int32) : (x ||| 0) = x := by
  apply b_ext
  intro i _
  rw [b_or, b_0, Bool.or_false]
theorem nw_nx_z2 {pr : Nat → Nat → Int32} {s0 : Int32} {w : Nat → Nat} {n l : Nat} (h : (nw_rn pr s0 (nw_up w n l) (n + 1)).2.1 = 0) : nw_nx pr s0 w n l = nw_nx pr s0 w n (l + 1) := by
  rw [← nw_nx_z h, nw_or0]
/-- the word with closing letters 2 behind its n letters -/
def nw_w2 (w : Nat → Nat) (n : Nat) : Nat → Nat := fun k => if k < n then w k else 2
theorem nw_w2_lo {w : Nat → Nat} {n k : Nat} (h : k < n) : nw_w2 w n k = w k := by simp [nw_w2, h]
theorem nw_w2_hi {w : Nat → Nat} {n k : Nat} (h : n ≤ k) : nw_w2 w n k = 2 := by simp [nw_w2, Nat.not_lt.mpr h]
/-- close: the first number of letters 2 behind which the word is accepted, among the first so many -/
def nw_fd (pr : Nat → Nat → Int32) (s0 : Int32) (w : Nat → Nat) (n : Nat) (en : Int32) : Nat → Int32
  | 0 => -1
  | j + 1 => if nw_fd pr s0 w n en j < 0 then (if ((nw_rn pr s0 (nw_w2 w n) (n + j)).2.1 &&& en) = 0 then nw_fd pr s0 w n en j else nI j) else nw_fd pr s0 w n en j
section FD
variable {pr : Nat → Nat → Int32} {s0 : Int32} {w : Nat → Nat} {n : Nat} {en : Int32} {j : Nat}
theorem nw_fd_f (h : ¬ nw_fd pr s0 w n en j < 0) : nw_fd pr s0 w n en (j + 1) = nw_fd pr s0 w n en j := by
  rw [nw_fd, if_neg h]
theorem nw_fd_z (h : ((nw_rn pr s0 (nw_w2 w n) (n + j)).2.1 &&& en) = 0) : nw_fd pr s0 w n en (j + 1) = nw_fd pr s0 w n en j := by
  rw [nw_fd, if_pos h]
  split <;> rfl
theorem nw_fd_n (h0 : nw_fd pr s0 w n en j < 0) (h : ¬ ((nw_rn pr s0 (nw_w2 w n) (n + j)).2.1 &&& en) = 0) : nw_fd pr s0 w n en (j + 1) = nI j := by
  rw [nw_fd, if_pos h0, if_neg h]
theorem nw_fd_keep {x : Nat} (hx : x < 2 ^ 31) (h : nw_fd pr s0 w n en j = nI x) : ∀ d, nw_fd pr s0 w n en (j + d) = nI x := by
  intro d
  induction d with
  | zero => exact h
  | succ d ih =>
    rw [← Nat.add_assoc, nw_fd_f (by rw [ih]; exact nI_pos hx), ih]
end FD
end
section
/-! PURE 3: the reference: partners, what lies between, the walk over the word -/
/-- partners of the first n letters -/
def nw_PT (w : Nat → Nat) (n : Nat) (pt : Nat → Int32) : Prop := (∀ r p t, r < n → ¬ w r < 2 → w r < 4 → nw_sp w r = p :: t → pt r = nI p ∧ pt p = nI r) ∧ (∀ r, r < n → ¬ w r < 2 → w r < 4 → nw_sp w r = [] → pt r = -1) ∧ (∀ p, p ∈ nw_sp w n → pt p = -1)
/-- the loop of match at letter i: the waiting letters lie in wt, from the first to the last -/
def nw_MT (w : Nat → Nat) (i : Nat) (wt pt : Nat → Int32) : Prop := (∀ j p, (nw_sp w i).reverse[j]? = some p → wt j = nI p) ∧ nw_PT w i pt
theorem nw_MT_0 (w : Nat → Nat) (wt pt : Nat → Int32) : nw_MT w 0 wt pt := ⟨fun j p h => by simp [nw_sp] at h, fun r p t h => by omega, fun r h => by omega, fun p h => by simp [nw_sp] at h⟩
section MTS
variable {w : Nat → Nat} {i : Nat} {wt pt : Nat → Int32}
theorem nw_PT_fresh (h : nw_PT w i pt) : nw_PT w i (upd pt i (-1)) := by
  obtain ⟨h1, h2, h3⟩ := h
  refine ⟨fun r p t g1 g2 g3 g4 => ?_, fun r g1 g2 g3 g4 => ?_, fun p g => ?_⟩
  · have g5 := (nw_sp_top g4).1
    rw [pk_un (by omega), pk_un (by omega)]
    exact h1 r p t g1 g2 g3 g4
  · rw [pk_un (by omega)]
    exact h2 r g1 g2 g3 g4
  · have g5 := nw_sp_lt g
    rw [pk_un (by omega)]
    exact h3 p g
/-- an opening letter -/
theorem nw_MT_o (h : nw_MT w i wt pt) (ho : w i < 2) : nw_MT w (i + 1) (upd wt (nw_sp w i).length (nI i)) (upd pt i (-1)) := by
  obtain ⟨g0, hp⟩ := h
  obtain ⟨h1, h2, h3⟩ := nw_PT_fresh hp
  refine ⟨fun j p g => ?_, fun r p t g1 g2 g3 g4 => ?_, fun r g1 g2 g3 g4 => ?_, fun p g => ?_⟩
  · rw [nw_sp_o ho, List.reverse_cons] at g
    by_cases e : j = (nw_sp w i).length
    · subst e
      rw [List.getElem?_append_right (by rw [List.length_reverse]; omega), List.length_reverse, Nat.sub_self] at g
      injection g with g
      rw [pk_us, ← g]
    · rw [pk_un e]
      have hl : j < (nw_sp w i).reverse.length := by
        have := (List.getElem?_eq_some_iff.mp g).1
        rw [List.length_append, List.length_reverse] at this
        rw [List.length_reverse]
        simp at this
        omega
      rw [List.getElem?_append_left hl] at g
      exact g0 j p g
  · have e : r ≠ i := fun e => g2 (by rw [e]; exact ho)
    exact h1 r p t (by omega) g2 g3 g4
  · have e : r ≠ i := fun e => g2 (by rw [e]; exact ho)
    exact h2 r (by omega) g2 g3 g4
  · rw [nw_sp_o ho] at g
    rcases List.mem_cons.mp g with e | e
    · rw [e, pk_us]
    · exact h3 p e
/-- a closing letter that closes one -/
theorem nw_MT_c (h : nw_MT w i wt pt) (hc : ¬ w i < 2) (hc2 : w i < 4) {p : Nat} {t : List Nat} (hs : nw_sp w i = p :: t) : wt t.length = nI p ∧ nw_MT w (i + 1) wt (upd (upd (upd pt i (-1)) i (nI p)) p (nI i)) := by
  obtain ⟨g0, hp⟩ := h
  obtain ⟨h1, h2, h3⟩ := hp
  obtain ⟨s1, s2, s3⟩ := nw_sp_top hs
  have hpi : p ≠ i := by omega
  refine ⟨g0 t.length p ?_, fun j x g => ?_, fun r x u g1 g2 g3 g4 => ?_, fun r g1 g2 g3 g4 => ?_, fun x g => ?_⟩
  · rw [hs, List.reverse_cons, List.getElem?_append_right (by rw [List.length_reverse]; omega), List.length_reverse, Nat.sub_self]
    rfl
  · refine g0 j x ?_
    rw [nw_sp_c hc hc2, hs] at g
    have g : t.reverse[j]? = some x := g
    rw [hs, List.reverse_cons, List.getElem?_append_left (List.getElem?_eq_some_iff.mp g).1]
    exact g
  · by_cases e : r = i
    · subst e
      rw [hs] at g4
      injection g4 with e1 e2
      subst e1
      rw [pk_un (by omega), pk_us, pk_us]
      exact ⟨rfl, rfl⟩
    · have x1 := (nw_sp_top g4).1
      have xn : x ≠ p := by
        intro e2
        subst e2
        exact nw_sp_gone g4 g2 g3 (show r < i by omega) (by rw [hs]; exact List.mem_cons_self)
      have rn : r ≠ p := fun e2 => g2 (by rw [e2]; exact s2)
      rw [pk_un rn, pk_un e, pk_un e, pk_un xn, pk_un (by omega), pk_un (by omega)]
      exact h1 r x u (by omega) g2 g3 g4
  · by_cases e : r = i
    · subst e
      rw [hs] at g4
      cases g4
    · have rn : r ≠ p := fun e2 => g2 (by rw [e2]; exact s2)
      rw [pk_un rn, pk_un e, pk_un e]
      exact h2 r (by omega) g2 g3 g4
  · rw [nw_sp_c hc hc2, hs] at g
    have g : x ∈ t := g
    have x1 : x < p := by rw [← s3] at g; exact nw_sp_lt g
    rw [pk_un (by omega), pk_un (by omega), pk_un (by omega)]
    exact h3 x (by rw [hs]; exact List.mem_cons_of_mem _ g)
/-- a closing letter that closes none -/
theorem nw_MT_n (h : nw_MT w i wt pt) (hc : ¬ w i < 2) (hc2 : w i < 4) (hs : nw_sp w i = []) : nw_MT w (i + 1) wt (upd pt i (-1)) := by
  obtain ⟨g0, hp⟩ := h
  obtain ⟨h1, h2, h3⟩ := nw_PT_fresh hp
  refine ⟨fun j x g => ?_, fun r x u g1 g2 g3 g4 => ?_, fun r g1 g2 g3 g4 => ?_, fun x g => ?_⟩
  · rw [nw_sp_c hc hc2, hs] at g
    simp at g
  · by_cases e : r = i
    · subst e
      rw [hs] at g4
      cases g4
    · exact h1 r x u (by omega) g2 g3 g4
  · by_cases e : r = i
    · subst e
      rw [pk_us]
    · exact h2 r (by omega) g2 g3 g4
  · rw [nw_sp_c hc hc2, hs] at g
    cases g
/-- a plain letter -/
theorem nw_MT_p (h : nw_MT w i wt pt) (hc : ¬ w i < 4) : nw_MT w (i + 1) wt (upd pt i (-1)) := by
  obtain ⟨g0, hp⟩ := h
  obtain ⟨h1, h2, h3⟩ := nw_PT_fresh hp
  refine ⟨fun j x g => ?_, fun r x u g1 g2 g3 g4 => ?_, fun r g1 g2 g3 g4 => ?_, fun x g => ?_⟩
  · rw [nw_sp_p hc] at g
    exact g0 j x g
  · have e : r ≠ i := fun e => hc (by rw [← e]; exact g3)
    exact h1 r x u (by omega) g2 g3 g4
  · have e : r ≠ i := fun e => hc (by rw [← e]; exact g3)
    exact h2 r (by omega) g2 g3 g4
  · rw [nw_sp_p hc] at g
    exact h3 x g
end MTS
/-- what the closing letters below i lead from and to -/
def nw_LD (pr : Nat → Nat → Int32) (s0 : Int32) (w : Nat → Nat) (i : Nat) (ld : Nat → Int32) : Prop := ∀ r p t, r < i → ¬ w r < 2 → w r < 4 → nw_sp w r = p :: t → ld r = nw_cl pr (w p) (nw_rn pr s0 w r).1 (w r) 3
theorem nw_LD_0 (pr : Nat → Nat → Int32) (s0 : Int32) (w : Nat → Nat) (ld : Nat → Int32) : nw_LD pr s0 w 0 ld := fun r p t h => by omega
section LDS
variable {pr : Nat → Nat → Int32} {s0 : Int32} {w : Nat → Nat} {i : Nat} {ld : Nat → Int32}
theorem nw_LD_c (h : nw_LD pr s0 w i ld) {p : Nat} {t : List Nat} (hs : nw_sp w i = p :: t) {v : Int32} (hv : v = nw_cl pr (w p) (nw_rn pr s0 w i).1 (w i) 3) : nw_LD pr s0 w (i + 1) (upd ld i v) := by
  intro r x u g1 g2 g3 g4
  by_cases e : r = i
  · subst e
    rw [hs] at g4
    injection g4 with e1 e2
    subst e1
    rw [pk_us, hv]
  · rw [pk_un e]
    exact h r x u (by omega) g2 g3 g4
theorem nw_LD_n (h : nw_LD pr s0 w i ld) (hs : w i < 2 ∨ ¬ w i < 4 ∨ nw_sp w i = []) : nw_LD pr s0 w (i + 1) ld := by
  intro r x u g1 g2 g3 g4
  by_cases e : r = i
  · subst e
    rcases hs with hs | hs | hs
    · exact absurd hs g2
    · exact absurd g3 hs
    · rw [hs] at g4; cases g4
  · exact h r x u (by omega) g2 g3 g4
/-- a matched closing letter: one letter more, from the values ahead of its opening letter -/
theorem nw_rn_m {p r : Nat} {t : List Nat} (hs : nw_sp w r = p :: t) (h1 : ¬ w r < 2) (h2 : w r < 4) : nw_rn pr s0 w (r + 1) = (nw_jn (nw_rn pr s0 w p).1 (nw_cl pr (w p) (nw_rn pr s0 w r).1 (w r) 3) 5, nw_ld (nw_rn pr s0 w p).2.1 (nw_cl pr (w p) (nw_rn pr s0 w r).1 (w r) 3) 5, (nw_rn pr s0 w p).2.2) := by
  rw [nw_rn_c1 h1 h2 (nw_rn_cons hs)]
/-- inside a pair (f, t): no letter closes it earlier -/
theorem nw_in_c {f t q : Nat} {u : List Nat} (hq : nw_sp w q = f :: u) (ht : nw_sp w t = f :: u) (h : q < t) (h1 : ¬ w q < 2) (h2 : w q < 4) : False :=
  nw_sp_gone hq h1 h2 h (by rw [ht]; exact List.mem_cons_self)
/-- inside a pair: an opening letter is closed inside it -/
theorem nw_in_o {t q : Nat} (hq : nw_sp w q = nw_sp w t) (h : q < t) (h1 : w q < 2) : ∃ r, q < r ∧ r < t ∧ nw_sp w r = q :: nw_sp w q ∧ ¬ w r < 2 ∧ w r < 4 := by
  refine nw_sp_pop h1 h ?_
  intro hm
  rw [← hq] at hm
  have := nw_sp_lt hm
  omega
/-- at the top level of n letters: every letter that waits at p waits at n -/
def nw_TL (w : Nat → Nat) (n p : Nat) : Prop := ∀ x, x ∈ nw_sp w p → x ∈ nw_sp w n
theorem nw_TL_c {n p : Nat} (h : nw_TL w n p) (hp : p < n) (h1 : ¬ w p < 2) (h2 : w p < 4) : nw_sp w p = [] := by
  cases hs : nw_sp w p with
  | nil => rfl
  | cons x t => exact absurd (h x (by rw [hs]; exact List.mem_cons_self)) (nw_sp_gone hs h1 h2 hp)
theorem nw_TL_cs {n p : Nat} (h : nw_TL w n p) (hp : p < n) (h1 : ¬ w p < 2) (h2 : w p < 4) : nw_TL w n (p + 1) := by
  intro x hx
  rw [nw_sp_c h1 h2, nw_TL_c h hp h1 h2] at hx
  cases hx
theorem nw_TL_ps {n p : Nat} (h : nw_TL w n p) (h2 : ¬ w p < 4) : nw_TL w n (p + 1) := by
  intro x hx
  rw [nw_sp_p h2] at hx
  exact h x hx
theorem nw_TL_os {n p : Nat} (h : nw_TL w n p) (h1 : w p < 2) (hm : p ∈ nw_sp w n) : nw_TL w n (p + 1) := by
  intro x hx
  rw [nw_sp_o h1] at hx
  rcases List.mem_cons.mp hx with e | e
  · rw [e]; exact hm
  · exact h x e
theorem nw_TL_ms {n p r : Nat} (h : nw_TL w n p) (hs : nw_sp w r = p :: nw_sp w p) (h1 : ¬ w r < 2) (h2 : w r < 4) : nw_TL w n (r + 1) := by
  intro x hx
  rw [nw_sp_c h1 h2, hs] at hx
  exact h x hx
/-- an opening letter's partner tells whether it waits -/
theorem nw_PT_o {n p : Nat} {pt : Nat → Int32} (h : nw_PT w n pt) (hn : n < 2 ^ 31) (hp : p < n) (h1 : w p < 2) : (pt p < 0 ∧ p ∈ nw_sp w n) ∨ (¬ pt p < 0 ∧ ∃ r, p < r ∧ r < n ∧ pt p = nI r ∧ nw_sp w r = p :: nw_sp w p ∧ ¬ w r < 2 ∧ w r < 4) := by
  by_cases hm : p ∈ nw_sp w n
  · exact Or.inl ⟨by rw [h.2.2 p hm]; decide, hm⟩
  · obtain ⟨r, r1, r2, r3, r4, r5⟩ := nw_sp_pop h1 hp hm
    have e := (h.1 r p _ r2 r4 r5 r3).2
    exact Or.inr ⟨by rw [e]; exact nI_pos (by omega), r, r1, r2, e, r3, r4, r5⟩
/-- a closing letter's partner -/
theorem nw_PT_c {n r : Nat} {pt : Nat → Int32} (h : nw_PT w n pt) (hn : n < 2 ^ 31) (hr : r < n) (h1 : ¬ w r < 2) (h2 : w r < 4) : (pt r < 0 ∧ nw_sp w r = []) ∨ (¬ pt r < 0 ∧ ∃ p, p < r ∧ w p < 2 ∧ pt r = nI p ∧ nw_sp w r = p :: nw_sp w p) := by
  cases hs : nw_sp w r with
  | nil => exact Or.inl ⟨by rw [h.2.1 r hr h1 h2 hs]; decide, rfl⟩
  | cons p t =>
    obtain ⟨g1, g2, g3⟩ := nw_sp_top hs
    have e := (h.1 r p t hr h1 h2 hs).1
    exact Or.inr ⟨by rw [e]; exact nI_pos (by omega), p, g1, g2, e, by rw [g3]⟩
end LDS
end
section
/-! ROWS for the walks: numbers nI j as array places, loops, the two worlds -/
section NWR
variable {p : Program} {l : Launch} {e : Env} {R : Room} {s : State} {m : MethodId} {args : Array Value} {below : List Frame} {meth : Method} {c : Code} {H : Heap} {locs : List Loc} {cells slots : Nat} {Q : State → Prop}
variable {cc : ByteArray} {pc : Nat} {ls : Array Slot} {rest : List Value} {D : va_G} {cl : List vw_C} {A : Nat → Prop} {a : Nat} {tys : List (ClassId × FieldType)} {ws : va_W} {H0 : Heap}
theorem nw_as {x y : Int32} (h : x = y) (k : W p l e R s m args below meth c H locs cells slots Q (F0 m pc ls (.int y :: rest))) : W p l e R s m args below meth c H locs cells slots Q (F0 m pc ls (.int x :: rest)) := h ▸ k
theorem nw_iald (hexec : p.tables.exec = Jvm.exec) (hb : c.code = cc) (hK : va_K D cl tys s) (hP : va_P D cl ws H) (q0 t0 : Nat) {cA : ClassId} {n : Nat} {f : Nat → Int32} (ha : ws[q0]? = some (a, .inl (cA, n, .inl f))) (ht : tys[t0]? = some (cA, .int)) {j : Nat} (hj : j < n) (hn : n < 2 ^ 31) (hdg : decode cc pc = .ok (.iaload, 1))
    (kk : W p l e R s m args below meth c H locs cells slots Q (F0 m (pc + 1) ls (.int (f j) :: rest))) : W p l e R s m args below meth c H locs cells slots Q (F0 m pc ls (.int (nI j) :: .ref a :: rest)) := by
  refine va_iald hexec hb hK hP q0 t0 ha ht (vp_in_nI hj hn) hdg ?_
  rw [nI_clamp (Nat.lt_trans hj hn)]
  exact kk
theorem nw_zald (hexec : p.tables.exec = Jvm.exec) (hb : c.code = cc) (hK : va_K D cl tys s) (hP : va_P D cl ws H) (q0 t0 : Nat) {cA : ClassId} {n : Nat} {f : Nat → Int32} (ha : ws[q0]? = some (a, .inl (cA, n, .inl f))) (ht : tys[t0]? = some (cA, .boolean)) {j : Nat} (hj : j < n) (hn : n < 2 ^ 31) (hdg : decode cc pc = .ok (.baload, 1))
    (kk : W p l e R s m args below meth c H locs cells slots Q (F0 m (pc + 1) ls (.int (f j) :: rest))) : W p l e R s m args below meth c H locs cells slots Q (F0 m pc ls (.int (nI j) :: .ref a :: rest)) := by
  refine va_zald hexec hb hK hP q0 t0 ha ht (vp_in_nI hj hn) hdg ?_
  rw [nI_clamp (Nat.lt_trans hj hn)]
  exact kk
theorem nw_iast (hexec : p.tables.exec = Jvm.exec) (hb : c.code = cc) (hK : va_K D cl tys s) (hP : va_P D cl ws H) (hD : va_D A ws) (hS : va_S A H0 H locs) (q0 t0 : Nat) {cA : ClassId} {n : Nat} {f : Nat → Int32} (ha : ws[q0]? = some (a, .inl (cA, n, .inl f))) (ht : tys[t0]? = some (cA, .int)) {j : Nat} {x : Int32} (hj : j < n) (hn : n < 2 ^ 31) (hdg : decode cc pc = .ok (.iastore, 1))
    (kk : ∀ (H1 : Heap) (locs1 : List Loc), va_P D cl (ws.set q0 (a, .inl (cA, n, .inl (upd f j x)))) H1 → va_D A (ws.set q0 (a, .inl (cA, n, .inl (upd f j x)))) → va_S A H0 H1 locs1 → W p l e R s m args below meth c H1 locs1 cells slots Q (F0 m (pc + 1) ls rest)) : W p l e R s m args below meth c H locs cells slots Q (F0 m pc ls (.int x :: .int (nI j) :: .ref a :: rest)) := by
  refine va_iast hexec hb hK hP hD hS q0 t0 ha ht (vp_in_nI hj hn) hdg ?_
  rw [nI_clamp (Nat.lt_trans hj hn)]
  exact kk
theorem nw_zast (hexec : p.tables.exec = Jvm.exec) (hb : c.code = cc) (hK : va_K D cl tys s) (hP : va_P D cl ws H) (hD : va_D A ws) (hS : va_S A H0 H locs) (q0 t0 : Nat) {cA : ClassId} {n : Nat} {f : Nat → Int32} (ha : ws[q0]? = some (a, .inl (cA, n, .inl f))) (ht : tys[t0]? = some (cA, .boolean)) {j : Nat} {x : Int32} (hj : j < n) (hn : n < 2 ^ 31) (hdg : decode cc pc = .ok (.bastore, 1))
    (kk : ∀ (H1 : Heap) (locs1 : List Loc), va_P D cl (ws.set q0 (a, .inl (cA, n, .inl (upd f j (vp_nar .boolean x))))) H1 → va_D A (ws.set q0 (a, .inl (cA, n, .inl (upd f j (vp_nar .boolean x))))) → va_S A H0 H1 locs1 → W p l e R s m args below meth c H1 locs1 cells slots Q (F0 m (pc + 1) ls rest)) : W p l e R s m args below meth c H locs cells slots Q (F0 m pc ls (.int x :: .int (nI j) :: .ref a :: rest)) := by
  refine va_zast hexec hb hK hP hD hS q0 t0 ha ht (vp_in_nI hj hn) hdg ?_
  rw [nI_clamp (Nat.lt_trans hj hn)]
  exact kk
end NWR
theorem nw_inc (i : Nat) : nI i + Int32.ofInt 1 = nI (i + 1) := nI_1 i
theorem nw_dec (i : Nat) : nI (i + 1) + Int32.ofInt (-1) = nI i := pk_m1 i
/-- a loop that leaves the heap alone: I i ls at its head -/
theorem nw_loop0 {G : Array Slot → Prop} (I : Nat → Array Slot → Prop) (N : Nat) {ls : Array Slot} (h0 : I 0 ls) (hs : ∀ (i : Nat) (ls : Array Slot), i < N → I i ls → (∀ ls', I (i + 1) ls' → G ls') → G ls) (he : ∀ ls, I N ls → G ls) : G ls := by
  have key : ∀ (n i : Nat) (ls : Array Slot), i + n = N → I i ls → G ls := by
    intro n
    induction n with
    | zero =>
      intro i ls h hI
      have e : i = N := by omega
      rw [e] at hI
      exact he ls hI
    | succ n ih =>
      intro i ls h hI
      exact hs i ls (by omega) hI (fun ls' h' => ih (i + 1) ls' (by omega) h')
  exact key N 0 ls (by omega) h0
/-- a loop that goes on by leaps: the measure falls -/
theorem nw_leap0 {G : Array Slot → Prop} (I : Nat → Array Slot → Prop) (N : Nat) {ls : Array Slot} {i0 : Nat} (h0 : I i0 ls) (hle : i0 ≤ N) (hs : ∀ (i : Nat) (ls : Array Slot), i < N → I i ls → (∀ j ls', i < j → j ≤ N → I j ls' → G ls') → G ls) (he : ∀ ls, I N ls → G ls) : G ls := by
  have key : ∀ (n i : Nat) (ls : Array Slot), N ≤ i + n → i ≤ N → I i ls → G ls := by
    intro n
    induction n with
    | zero =>
      intro i ls h h2 hI
      have e : i = N := by omega
      rw [e] at hI
      exact he ls hI
    | succ n ih =>
      intro i ls h h2 hI
      rcases Nat.lt_or_ge i N with g | g
      · exact hs i ls g hI (fun j ls' h1 h3 h' => ih j ls' (by omega) h3 h')
      · have e : i = N := by omega
        rw [e] at hI
        exact he ls hI
  exact key N i0 ls (by omega) hle h0
/-- a loop that changes the heap -/
theorem nw_loopH0 {G : Heap → List Loc → Array Slot → Prop} (I : Nat → Heap → List Loc → Array Slot → Prop) (N : Nat) {H : Heap} {locs : List Loc} {ls : Array Slot} (h0 : I 0 H locs ls) (hs : ∀ (i : Nat) (H : Heap) (locs : List Loc) (ls : Array Slot), i < N → I i H locs ls → (∀ H' locs' ls', I (i + 1) H' locs' ls' → G H' locs' ls') → G H locs ls) (he : ∀ H locs ls, I N H locs ls → G H locs ls) : G H locs ls := by
  have key : ∀ (n i : Nat) (H : Heap) (locs : List Loc) (ls : Array Slot), i + n = N → I i H locs ls → G H locs ls := by
    intro n
    induction n with
    | zero =>
      intro i H locs ls h hI
      have e : i = N := by omega
      rw [e] at hI
      exact he H locs ls hI
    | succ n ih =>
      intro i H locs ls h hI
      exact hs i H locs ls (by omega) hI (fun H' locs' ls' h' => ih (i + 1) H' locs' ls' (by omega) h')
  exact key N 0 H locs ls (by omega) h0
section NWL
variable {p : Program} {l : Launch} {e : Env} {R : Room} {s : State} {m : MethodId} {args : Array Value} {below : List Frame} {meth : Method} {c : Code} {H : Heap} {locs : List Loc} {cells slots : Nat} {Q : State → Prop} {ls : Array Slot} {rest : List Value}
theorem nw_loop (pc : Nat) (I : Nat → Array Slot → Prop) (N : Nat) (h0 : I 0 ls) (hs : ∀ (i : Nat) (ls : Array Slot), i < N → I i ls → (∀ ls', I (i + 1) ls' → W p l e R s m args below meth c H locs cells slots Q (F0 m pc ls' rest)) → W p l e R s m args below meth c H locs cells slots Q (F0 m pc ls rest)) (he : ∀ ls, I N ls → W p l e R s m args below meth c H locs cells slots Q (F0 m pc ls rest)) : W p l e R s m args below meth c H locs cells slots Q (F0 m pc ls rest) :=
  nw_loop0 (G := fun ls => W p l e R s m args below meth c H locs cells slots Q (F0 m pc ls rest)) I N h0 hs he
theorem nw_leap (pc : Nat) (I : Nat → Array Slot → Prop) (N : Nat) {i0 : Nat} (h0 : I i0 ls) (hle : i0 ≤ N) (hs : ∀ (i : Nat) (ls : Array Slot), i < N → I i ls → (∀ j ls', i < j → j ≤ N → I j ls' → W p l e R s m args below meth c H locs cells slots Q (F0 m pc ls' rest)) → W p l e R s m args below meth c H locs cells slots Q (F0 m pc ls rest)) (he : ∀ ls, I N ls → W p l e R s m args below meth c H locs cells slots Q (F0 m pc ls rest)) : W p l e R s m args below meth c H locs cells slots Q (F0 m pc ls rest) :=
  nw_leap0 (G := fun ls => W p l e R s m args below meth c H locs cells slots Q (F0 m pc ls rest)) I N h0 hle hs he
theorem nw_loopH (pc : Nat) (I : Nat → Heap → List Loc → Array Slot → Prop) (N : Nat) (h0 : I 0 H locs ls) (hs : ∀ (i : Nat) (H : Heap) (locs : List Loc) (ls : Array Slot), i < N → I i H locs ls → (∀ H' locs' ls', I (i + 1) H' locs' ls' → W p l e R s m args below meth c H' locs' cells slots Q (F0 m pc ls' rest)) → W p l e R s m args below meth c H locs cells slots Q (F0 m pc ls rest)) (he : ∀ H locs ls, I N H locs ls → W p l e R s m args below meth c H locs cells slots Q (F0 m pc ls rest)) : W p l e R s m args below meth c H locs cells slots Q (F0 m pc ls rest) :=
  nw_loopH0 (G := fun H locs ls => W p l e R s m args below meth c H locs cells slots Q (F0 m pc ls rest)) I N h0 hs he
end NWL
abbrev vwCl : List vw_C := [(RX0, TX0, 10), (RX1, TX1, 8)]
abbrev nw_F : Type := Nat → Int32
/-- the system's cells: its object (addresses ad), its six arrays (array names ca) -/
abbrev nw_xW (ad : Nat → Nat) (ca : Nat → ClassId) (S P : nw_F) (st en kn ln : Int32) (aw ay aa ao : nw_F) : va_W := [(ad 0, .inr (0, [.ref (ad 1), .ref (ad 2), .int st, .int en, .int kn, .int ln, .ref (ad 3), .ref (ad 4), .ref (ad 5), .ref (ad 6)])), (ad 1, .inl (ca 1, 400, .inl S)), (ad 2, .inl (ca 2, 50, .inl P)), (ad 3, .inl (ca 3, 21, .inl aw)), (ad 4, .inl (ca 4, 22, .inl ay)), (ad 5, .inl (ca 5, 22, .inl aa)), (ad 6, .inl (ca 6, 22, .inl ao))]
abbrev nw_xT (ca : Nat → ClassId) : List (ClassId × FieldType) := [(ca 1, .boolean), (ca 2, .boolean), (ca 3, .int), (ca 4, .int), (ca 5, .int), (ca 6, .int)]
/-- the reference's cells -/
abbrev nw_yW (ad : Nat → Nat) (ca : Nat → ClassId) (M sa ea : nw_F) (ln : Int32) (aw pt ld wt : nw_F) : va_W := [(ad 0, .inr (1, [.ref (ad 1), .ref (ad 2), .ref (ad 3), .int ln, .ref (ad 4), .ref (ad 5), .ref (ad 6), .ref (ad 7)])), (ad 1, .inl (ca 1, 600, .inl M)), (ad 2, .inl (ca 2, 5, .inl sa)), (ad 3, .inl (ca 3, 5, .inl ea)), (ad 4, .inl (ca 4, 20, .inl aw)), (ad 5, .inl (ca 5, 20, .inl pt)), (ad 6, .inl (ca 6, 20, .inl ld)), (ad 7, .inl (ca 7, 20, .inl wt))]
abbrev nw_yT (ca : Nat → ClassId) : List (ClassId × FieldType) := [(ca 1, .boolean), (ca 2, .boolean), (ca 3, .boolean), (ca 4, .int), (ca 5, .int), (ca 6, .int), (ca 7, .int)]
/-- the world at a contract's start, and behind it -/
def nw_XB (dC : Nat → ClassId) (dI : Nat → Nat → Nat) (A : Nat → Prop) (W0 : va_W) (T0 : List (ClassId × FieldType)) (t : State) : Prop := va_P (dC, dI) vwCl W0 t.heap ∧ va_K (dC, dI) vwCl T0 t ∧ va_D A W0
theorem nw_blind {dC : Nat → ClassId} {dI : Nat → Nat → Nat} {A : Nat → Prop} {W0 : va_W} {T0 : List (ClassId × FieldType)} {U : State} {g : JFrame} {mk : MethodId} {a : Array Value} (h : nw_XB dC dI A W0 T0 U) : nw_XB dC dI A W0 T0 (U.calling g mk a) := ⟨h.1, va_K.moved (u := U) (U := U.calling g mk a) (Vm.Alike.refl U.vm) h.2.1, h.2.2⟩
def nw_XR (dC : Nat → ClassId) (dI : Nat → Nat → Nat) (W0 : va_W) (T0 : List (ClassId × FieldType)) (t : State) : Prop := va_P (dC, dI) vwCl W0 t.heap ∧ va_K (dC, dI) vwCl T0 t
theorem nw_blindR {dC : Nat → ClassId} {dI : Nat → Nat → Nat} {W0 : va_W} {T0 : List (ClassId × FieldType)} {U : State} {g : JFrame} {mk : MethodId} {a : Array Value} (h : nw_XR dC dI W0 T0 U) : nw_XR dC dI W0 T0 (U.calling g mk a) := ⟨h.1, va_K.moved (u := U) (U := U.calling g mk a) (Vm.Alike.refl U.vm) h.2⟩
end
section
/-! WALKS 1: the static methods: pure numbers -/
set_option maxHeartbeats 4000000 in
set_option maxRecDepth 100000 in
/-- lead(states, steps) -/
theorem metX0_lead (l : Launch) (a0 b0 : Int32) : Met l yX0_lead (ws_ yX0_lead cX0_lead 4 (some .int)) ({ frames := 0, cells := 0, slots := 0, locals := 0 }) (va_Pc [.int (a0), .int (b0)] (fun _ => True)) (vp_Si (fun r => r = nw_ld a0 b0 5)) 0 0 (fun _ => False) := by
  refine Met.ofW (cc := cX0_lead) (maxL := 4) (ret := (some .int)) (by decide) rfl ?_
  intro p e s m args below meth c s₁ B hml hv
  obtain ⟨rfl, -⟩ := hv
  have hx := B.exec
  have hb := B.bytes
  have hr := B.returns
  have hts := atoms_spec (ws := ws_ yX0_lead cX0_lead 4 (some .int)) B.pre
  have hts : ∀ w ∈ lw_all, w.before _ s = true := fun w h => hts w (List.mem_cons_of_mem _ h)
  have hown : s.vm.findClass RX0 = some m.cls := findClass_of_methodNamed B.named
  have hlocks := B.notSynchronized
  have hl := lv_entry ([.int (a0), .int (b0)]) (n := 4) (Nat.le_of_ble_eq_true rfl)
  rw [lg_entry_eq]
  generalize (lg_sl ([.int (a0), .int (b0)]) ++ List.replicate (4 - (lg_sl ([.int (a0), .int (b0)])).length) Slot.unset).toArray = ls at hl ⊢
  have hl : lv_has ls 4 [(0, .int (a0)), (1, .int (b0))] := hl
  refine lv_iconst (v := (nI (0))) hx hb dX0_lead_0 (by decide) ?_
  refine lv_istore_n (lv' := [(2, .int (nI (0))), (0, .int (a0)), (1, .int (b0))]) hx hb dX0_lead_1 rfl hl (by decide) rfl (fun ls hl => ?_)
  refine lv_iconst (v := (nI (0))) hx hb dX0_lead_2 (by decide) ?_
  refine lv_istore_n (lv' := [(3, .int (nI (0))), (2, .int (nI (0))), (0, .int (a0)), (1, .int (b0))]) hx hb dX0_lead_3 rfl hl (by decide) rfl (fun ls hl => ?_)
  refine nw_loop 4 (fun i ls => lv_has ls 4 [(0, .int (a0)), (1, .int (b0)), (2, .int (nw_ld a0 b0 (i))), (3, .int (nI (i)))]) 5 (lv_sub hl [2, 3, 1, 0] rfl) (fun i ls hi hl ih => ?_) (fun ls hl => ?_)
  · refine lv_iload_n hx hb dX0_lead_4 rfl (lv_at hl 3 rfl) ?_
    refine lv_iconst (v := (nI (5))) hx hb dX0_lead_5 (by decide) ?_
    refine lv_icmp_ge (tgt := 38) hx hb dX0_lead_6 (by decide) (fun h => absurd h (nI_ge hi (by decide))) (fun _ => ?_)
    refine lv_iload_n hx hb dX0_lead_9 rfl (lv_at hl 2 rfl) ?_
    refine lv_iload_n hx hb dX0_lead_10 rfl (lv_at hl 0 rfl) ?_
    refine lv_iload_n hx hb dX0_lead_11 rfl (lv_at hl 3 rfl) ?_
    refine lv_iushr (v := nw_u (a0) (nI (i))) hx hb dX0_lead_12 rfl ?_
    refine lv_iconst (v := ((1 : Int32))) hx hb dX0_lead_13 (by decide) ?_
    refine lv_iand hx hb dX0_lead_14 ?_
    refine lv_if_eq (tgt := 29) hx hb dX0_lead_15 (by decide) (fun hc => ?_) (fun hc => ?_)
    · refine lv_iconst (v := ((0 : Int32))) hx hb dX0_lead_29 (by decide) ?_
      refine lv_ior hx hb dX0_lead_30 ?_
      refine nw_as (y := (nw_ld a0 b0 (i + 1))) (nw_ld_z hc) ?_
      refine lv_istore_n (lv' := [(2, .int (nw_ld a0 b0 (i + 1))), (0, .int (a0)), (1, .int (b0)), (3, .int (nI (i)))]) hx hb dX0_lead_31 rfl hl (by decide) rfl (fun ls hl => ?_)
      refine lv_iinc (v := (nI (i + 1))) (lv' := [(3, .int (nI (i + 1))), (2, .int (nw_ld a0 b0 (i + 1))), (0, .int (a0)), (1, .int (b0))]) hx hb dX0_lead_32 hl (k := 3) rfl (nw_inc (i)) (by decide) rfl (fun ls hl => ?_)
      refine lv_goto (tgt := 4) hx hb dX0_lead_35 (by decide) ?_
      exact ih _ (lv_sub hl [2, 3, 1, 0] rfl)
    · refine lv_iload_n hx hb dX0_lead_18 rfl (lv_at hl 1 rfl) ?_
      refine lv_iconst (v := (nI (5))) hx hb dX0_lead_19 (by decide) ?_
      refine lv_iload_n hx hb dX0_lead_20 rfl (lv_at hl 3 rfl) ?_
      refine lv_imul hx hb dX0_lead_21 ?_
      refine nw_as (y := (nI (5 * i))) (pk_mul (5) (i)) ?_
      refine lv_iushr (v := nw_u (b0) (nI (5 * i))) hx hb dX0_lead_22 rfl ?_
      refine lv_bipush (v := ((31 : Int32))) hx hb dX0_lead_23 (by decide) ?_
      refine lv_iand hx hb dX0_lead_25 ?_
      refine lv_goto (tgt := 30) hx hb dX0_lead_26 (by decide) ?_
      refine lv_ior hx hb dX0_lead_30 ?_
      refine nw_as (y := (nw_ld a0 b0 (i + 1))) (nw_ld_n hc) ?_
      refine lv_istore_n (lv' := [(2, .int (nw_ld a0 b0 (i + 1))), (0, .int (a0)), (1, .int (b0)), (3, .int (nI (i)))]) hx hb dX0_lead_31 rfl hl (by decide) rfl (fun ls hl => ?_)
      refine lv_iinc (v := (nI (i + 1))) (lv' := [(3, .int (nI (i + 1))), (2, .int (nw_ld a0 b0 (i + 1))), (0, .int (a0)), (1, .int (b0))]) hx hb dX0_lead_32 hl (k := 3) rfl (nw_inc (i)) (by decide) rfl (fun ls hl => ?_)
      refine lv_goto (tgt := 4) hx hb dX0_lead_35 (by decide) ?_
      exact ih _ (lv_sub hl [2, 3, 1, 0] rfl)
  · refine lv_iload_n hx hb dX0_lead_4 rfl (lv_at hl 3 rfl) ?_
    refine lv_iconst (v := (nI (5))) hx hb dX0_lead_5 (by decide) ?_
    refine lv_icmp_ge (tgt := 38) hx hb dX0_lead_6 (by decide) (fun _ => ?_) (fun h => absurd (nI_le (Nat.le_refl 5) (by decide)) h)
    refine lv_iload_n hx hb dX0_lead_38 rfl (lv_at hl 2 rfl) ?_
    exact W.iret hx hb hr (fun t ht hW => ⟨_, rfl, rfl, ht⟩) (fun q h => by cases h) dX0_lead_39
set_option maxHeartbeats 4000000 in
set_option maxRecDepth 100000 in
/-- join(a, b) -/
theorem metX0_join (l : Launch) (a0 b0 : Int32) : Met l yX0_join (ws_ yX0_join cX0_join 5 (some .int)) ({ frames := 1, cells := 0, slots := 0, locals := 23 }) (va_Pc [.int (a0), .int (b0)] (fun _ => True)) (vp_Si (fun r => r = nw_jn a0 b0 5)) 0 0 (fun _ => False) := by
  refine Met.ofW (cc := cX0_join) (maxL := 5) (ret := (some .int)) (by decide) rfl ?_
  intro p e s m args below meth c s₁ B hml hv
  obtain ⟨rfl, -⟩ := hv
  have hx := B.exec
  have hb := B.bytes
  have hr := B.returns
  have hts := atoms_spec (ws := ws_ yX0_join cX0_join 5 (some .int)) B.pre
  have hts : ∀ w ∈ lw_all, w.before _ s = true := fun w h => hts w (List.mem_cons_of_mem _ h)
  have hown : s.vm.findClass RX0 = some m.cls := findClass_of_methodNamed B.named
  have hlocks := B.notSynchronized
  have hl := lv_entry ([.int (a0), .int (b0)]) (n := 5) (Nat.le_of_ble_eq_true rfl)
  rw [lg_entry_eq]
  generalize (lg_sl ([.int (a0), .int (b0)]) ++ List.replicate (5 - (lg_sl ([.int (a0), .int (b0)])).length) Slot.unset).toArray = ls at hl ⊢
  have hl : lv_has ls 5 [(0, .int (a0)), (1, .int (b0))] := hl
  refine lv_iconst (v := (nI (0))) hx hb dX0_join_0 (by decide) ?_
  refine lv_istore_n (lv' := [(2, .int (nI (0))), (0, .int (a0)), (1, .int (b0))]) hx hb dX0_join_1 rfl hl (by decide) rfl (fun ls hl => ?_)
  refine lv_iconst (v := (nI (0))) hx hb dX0_join_2 (by decide) ?_
  refine lv_istore_n (lv' := [(3, .int (nI (0))), (2, .int (nI (0))), (0, .int (a0)), (1, .int (b0))]) hx hb dX0_join_3 rfl hl (by decide) rfl (fun ls hl => ?_)
  refine nw_loop 4 (fun i ls => lv_has ls 5 [(0, .int (a0)), (1, .int (b0)), (2, .int (nw_jn a0 b0 (i))), (3, .int (nI (i)))]) 5 (lv_sub hl [2, 3, 1, 0] rfl) (fun i ls hi hl ih => ?_) (fun ls hl => ?_)
  · refine lv_iload_n hx hb dX0_join_4 rfl (lv_at hl 3 rfl) ?_
    refine lv_iconst (v := (nI (5))) hx hb dX0_join_5 (by decide) ?_
    refine lv_icmp_ge (tgt := 38) hx hb dX0_join_6 (by decide) (fun h => absurd h (nI_ge hi (by decide))) (fun _ => ?_)
    refine lv_iload_n hx hb dX0_join_9 rfl (lv_at hl 0 rfl) ?_
    refine lv_iconst (v := (nI (5))) hx hb dX0_join_10 (by decide) ?_
    refine lv_iload_n hx hb dX0_join_11 rfl (lv_at hl 3 rfl) ?_
    refine lv_imul hx hb dX0_join_12 ?_
    refine nw_as (y := (nI (5 * i))) (pk_mul (5) (i)) ?_
    refine lv_iushr (v := nw_u (a0) (nI (5 * i))) hx hb dX0_join_13 rfl ?_
    refine lv_bipush (v := ((31 : Int32))) hx hb dX0_join_14 (by decide) ?_
    refine lv_iand hx hb dX0_join_16 ?_
    refine lv_istore (lv' := [(4, .int ((nw_u (a0) (nI (5 * i))) &&& ((31 : Int32)))), (0, .int (a0)), (1, .int (b0)), (2, .int (nw_jn a0 b0 (i))), (3, .int (nI (i)))]) hx hb dX0_join_17 hl (by decide) rfl (fun ls hl => ?_)
    refine lv_iload_n hx hb dX0_join_19 rfl (lv_at hl 3 rfl) ?_
    refine lv_iload hx hb dX0_join_20 (lv_at hl 0 rfl) ?_
    refine lv_iload_n hx hb dX0_join_22 rfl (lv_at hl 2 rfl) ?_
    refine vp_callSi (va_Run.run (va_runS (As := [.int ((nw_u (a0) (nI (5 * i))) &&& ((31 : Int32))), .int (b0)]) (rest := [.int (nw_jn a0 b0 (i))]) ⟨hx, hb, hml, hown, hts⟩ (metX0_lead l ((nw_u (a0) (nI (5 * i))) &&& ((31 : Int32))) (b0)) (va_cwS 2 hts (lw_S q88 q89 q12 q90) rfl rfl rfl (by decide +kernel) ⟨Nat.le_of_ble_eq_true rfl, Nat.le_of_ble_eq_true rfl⟩) ⟨fun a U g mk q => q, fun U hU hW => ⟨rfl, trivial⟩⟩ rfl rfl hl.1 rfl (lv_room (Nat.le_of_ble_eq_true rfl)) dX0_join_23 ⟨Nat.zero_le _, Nat.zero_le _⟩)) (fun r_ hr_ => ?_)
    refine nw_as (y := (nw_ld ((nw_u (a0) (nI (5 * i))) &&& ((31 : Int32))) (b0) 5)) (hr_) ?_
    refine lv_iconst (v := (nI (5))) hx hb dX0_join_26 (by decide) ?_
    refine lv_iload_n hx hb dX0_join_27 rfl (lv_at hl 4 rfl) ?_
    refine lv_imul hx hb dX0_join_28 ?_
    refine nw_as (y := (nI (5 * i))) (pk_mul (5) (i)) ?_
    refine lv_ishl hx hb dX0_join_29 ?_
    refine lv_ior hx hb dX0_join_30 ?_
    refine nw_as (y := (nw_jn a0 b0 (i + 1))) (nw_jn_s a0 b0 i) ?_
    refine lv_istore_n (lv' := [(2, .int (nw_jn a0 b0 (i + 1))), (4, .int ((nw_u (a0) (nI (5 * i))) &&& ((31 : Int32)))), (0, .int (a0)), (1, .int (b0)), (3, .int (nI (i)))]) hx hb dX0_join_31 rfl hl (by decide) rfl (fun ls hl => ?_)
    refine lv_iinc (v := (nI (i + 1))) (lv' := [(3, .int (nI (i + 1))), (2, .int (nw_jn a0 b0 (i + 1))), (4, .int ((nw_u (a0) (nI (5 * i))) &&& ((31 : Int32)))), (0, .int (a0)), (1, .int (b0))]) hx hb dX0_join_32 hl (k := 4) rfl (nw_inc (i)) (by decide) rfl (fun ls hl => ?_)
    refine lv_goto (tgt := 4) hx hb dX0_join_35 (by decide) ?_
    exact ih _ (lv_sub hl [3, 4, 1, 0] rfl)
  · refine lv_iload_n hx hb dX0_join_4 rfl (lv_at hl 3 rfl) ?_
    refine lv_iconst (v := (nI (5))) hx hb dX0_join_5 (by decide) ?_
    refine lv_icmp_ge (tgt := 38) hx hb dX0_join_6 (by decide) (fun _ => ?_) (fun h => absurd (nI_le (Nat.le_refl 5) (by decide)) h)
    refine lv_iload_n hx hb dX0_join_38 rfl (lv_at hl 2 rfl) ?_
    exact W.iret hx hb hr (fun t ht hW => ⟨_, rfl, rfl, ht⟩) (fun q h => by cases h) dX0_join_39
set_option maxHeartbeats 4000000 in
set_option maxRecDepth 100000 in
/-- ones(set) -/
theorem metX0_ones (l : Launch) (a0 : Int32) : Met l yX0_ones (ws_ yX0_ones cX0_ones 3 (some .int)) ({ frames := 0, cells := 0, slots := 0, locals := 0 }) (va_Pc [.int (a0)] (fun _ => True)) (vp_Si (fun r => r = nw_on a0 5)) 0 0 (fun _ => False) := by
  refine Met.ofW (cc := cX0_ones) (maxL := 3) (ret := (some .int)) (by decide) rfl ?_
  intro p e s m args below meth c s₁ B hml hv
  obtain ⟨rfl, -⟩ := hv
  have hx := B.exec
  have hb := B.bytes
  have hr := B.returns
  have hts := atoms_spec (ws := ws_ yX0_ones cX0_ones 3 (some .int)) B.pre
  have hts : ∀ w ∈ lw_all, w.before _ s = true := fun w h => hts w (List.mem_cons_of_mem _ h)
  have hown : s.vm.findClass RX0 = some m.cls := findClass_of_methodNamed B.named
  have hlocks := B.notSynchronized
  have hl := lv_entry ([.int (a0)]) (n := 3) (Nat.le_of_ble_eq_true rfl)
  rw [lg_entry_eq]
  generalize (lg_sl ([.int (a0)]) ++ List.replicate (3 - (lg_sl ([.int (a0)])).length) Slot.unset).toArray = ls at hl ⊢
  have hl : lv_has ls 3 [(0, .int (a0))] := hl
  refine lv_iconst (v := (nI (0))) hx hb dX0_ones_0 (by decide) ?_
  refine lv_istore_n (lv' := [(1, .int (nI (0))), (0, .int (a0))]) hx hb dX0_ones_1 rfl hl (by decide) rfl (fun ls hl => ?_)
  refine lv_iconst (v := (nI (0))) hx hb dX0_ones_2 (by decide) ?_
  refine lv_istore_n (lv' := [(2, .int (nI (0))), (1, .int (nI (0))), (0, .int (a0))]) hx hb dX0_ones_3 rfl hl (by decide) rfl (fun ls hl => ?_)
  refine nw_loop 4 (fun i ls => lv_has ls 3 [(0, .int (a0)), (1, .int (nw_on a0 (i))), (2, .int (nI (i)))]) 5 (lv_sub hl [2, 1, 0] rfl) (fun i ls hi hl ih => ?_) (fun ls hl => ?_)
  · refine lv_iload_n hx hb dX0_ones_4 rfl (lv_at hl 2 rfl) ?_
    refine lv_iconst (v := (nI (5))) hx hb dX0_ones_5 (by decide) ?_
    refine lv_icmp_ge (tgt := 23) hx hb dX0_ones_6 (by decide) (fun h => absurd h (nI_ge hi (by decide))) (fun _ => ?_)
    refine lv_iload_n hx hb dX0_ones_9 rfl (lv_at hl 1 rfl) ?_
    refine lv_iload_n hx hb dX0_ones_10 rfl (lv_at hl 0 rfl) ?_
    refine lv_iload_n hx hb dX0_ones_11 rfl (lv_at hl 2 rfl) ?_
    refine lv_iushr (v := nw_u (a0) (nI (i))) hx hb dX0_ones_12 rfl ?_
    refine lv_iconst (v := ((1 : Int32))) hx hb dX0_ones_13 (by decide) ?_
    refine lv_iand hx hb dX0_ones_14 ?_
    refine lv_iadd hx hb dX0_ones_15 ?_
    refine nw_as (y := (nw_on a0 (i + 1))) (nw_on_s a0 i) ?_
    refine lv_istore_n (lv' := [(1, .int (nw_on a0 (i + 1))), (0, .int (a0)), (2, .int (nI (i)))]) hx hb dX0_ones_16 rfl hl (by decide) rfl (fun ls hl => ?_)
    refine lv_iinc (v := (nI (i + 1))) (lv' := [(2, .int (nI (i + 1))), (1, .int (nw_on a0 (i + 1))), (0, .int (a0))]) hx hb dX0_ones_17 hl (k := 2) rfl (nw_inc (i)) (by decide) rfl (fun ls hl => ?_)
    refine lv_goto (tgt := 4) hx hb dX0_ones_20 (by decide) ?_
    exact ih _ (lv_sub hl [2, 1, 0] rfl)
  · refine lv_iload_n hx hb dX0_ones_4 rfl (lv_at hl 2 rfl) ?_
    refine lv_iconst (v := (nI (5))) hx hb dX0_ones_5 (by decide) ?_
    refine lv_icmp_ge (tgt := 23) hx hb dX0_ones_6 (by decide) (fun _ => ?_) (fun h => absurd (nI_le (Nat.le_refl 5) (by decide)) h)
    refine lv_iload_n hx hb dX0_ones_23 rfl (lv_at hl 1 rfl) ?_
    exact W.iret hx hb hr (fun t ht hW => ⟨_, rfl, rfl, ht⟩) (fun q h => by cases h) dX0_ones_24
set_option maxHeartbeats 4000000 in
set_option maxRecDepth 100000 in
/-- same() -/
theorem metX0_same (l : Launch)  : Met l yX0_same (ws_ yX0_same cX0_same 2 (some .int)) ({ frames := 0, cells := 0, slots := 0, locals := 0 }) (va_Pc [] (fun _ => True)) (vp_Si (fun r => r = 17043521)) 0 0 (fun _ => False) := by
  refine Met.ofW (cc := cX0_same) (maxL := 2) (ret := (some .int)) (by decide) rfl ?_
  intro p e s m args below meth c s₁ B hml hv
  obtain ⟨rfl, -⟩ := hv
  have hx := B.exec
  have hb := B.bytes
  have hr := B.returns
  have hts := atoms_spec (ws := ws_ yX0_same cX0_same 2 (some .int)) B.pre
  have hts : ∀ w ∈ lw_all, w.before _ s = true := fun w h => hts w (List.mem_cons_of_mem _ h)
  have hown : s.vm.findClass RX0 = some m.cls := findClass_of_methodNamed B.named
  have hlocks := B.notSynchronized
  have hl := lv_entry ([]) (n := 2) (Nat.le_of_ble_eq_true rfl)
  rw [lg_entry_eq]
  generalize (lg_sl ([]) ++ List.replicate (2 - (lg_sl ([])).length) Slot.unset).toArray = ls at hl ⊢
  have hl : lv_has ls 2 [] := hl
  refine lv_iconst (v := (nI (0))) hx hb dX0_same_0 (by decide) ?_
  refine lv_istore_n (lv' := [(0, .int (nI (0)))]) hx hb dX0_same_1 rfl hl (by decide) rfl (fun ls hl => ?_)
  refine lv_iconst (v := (nI (0))) hx hb dX0_same_2 (by decide) ?_
  refine lv_istore_n (lv' := [(1, .int (nI (0))), (0, .int (nI (0)))]) hx hb dX0_same_3 rfl hl (by decide) rfl (fun ls hl => ?_)
  refine nw_loop 4 (fun i ls => lv_has ls 2 [(0, .int (nw_sa (i))), (1, .int (nI (i)))]) 5 (lv_sub hl [1, 0] rfl) (fun i ls hi hl ih => ?_) (fun ls hl => ?_)
  · refine lv_iload_n hx hb dX0_same_4 rfl (lv_at hl 1 rfl) ?_
    refine lv_iconst (v := (nI (5))) hx hb dX0_same_5 (by decide) ?_
    refine lv_icmp_ge (tgt := 24) hx hb dX0_same_6 (by decide) (fun h => absurd h (nI_ge hi (by decide))) (fun _ => ?_)
    refine lv_iload_n hx hb dX0_same_9 rfl (lv_at hl 0 rfl) ?_
    refine lv_iconst (v := ((1 : Int32))) hx hb dX0_same_10 (by decide) ?_
    refine lv_bipush (v := (nI (6))) hx hb dX0_same_11 (by decide) ?_
    refine lv_iload_n hx hb dX0_same_13 rfl (lv_at hl 1 rfl) ?_
    refine lv_imul hx hb dX0_same_14 ?_
    refine nw_as (y := (nI (6 * i))) (pk_mul (6) (i)) ?_
    refine lv_ishl hx hb dX0_same_15 ?_
    refine lv_ior hx hb dX0_same_16 ?_
    refine nw_as (y := (nw_sa (i + 1))) (nw_sa_s i) ?_
    refine lv_istore_n (lv' := [(0, .int (nw_sa (i + 1))), (1, .int (nI (i)))]) hx hb dX0_same_17 rfl hl (by decide) rfl (fun ls hl => ?_)
    refine lv_iinc (v := (nI (i + 1))) (lv' := [(1, .int (nI (i + 1))), (0, .int (nw_sa (i + 1)))]) hx hb dX0_same_18 hl (k := 1) rfl (nw_inc (i)) (by decide) rfl (fun ls hl => ?_)
    refine lv_goto (tgt := 4) hx hb dX0_same_21 (by decide) ?_
    exact ih _ (lv_sub hl [1, 0] rfl)
  · refine lv_iload_n hx hb dX0_same_4 rfl (lv_at hl 1 rfl) ?_
    refine lv_iconst (v := (nI (5))) hx hb dX0_same_5 (by decide) ?_
    refine lv_icmp_ge (tgt := 24) hx hb dX0_same_6 (by decide) (fun _ => ?_) (fun h => absurd (nI_le (Nat.le_refl 5) (by decide)) h)
    refine lv_iload_n hx hb dX0_same_24 rfl (lv_at hl 0 rfl) ?_
    exact W.iret hx hb hr (fun t ht hW => ⟨_, rfl, nw_sa5, ht⟩) (fun q h => by cases h) dX0_same_25
set_option maxHeartbeats 4000000 in
set_option maxRecDepth 100000 in
/-- isState(q) -/
theorem metX0_isState (l : Launch) (a0 : Int32) : Met l yX0_isState (ws_ yX0_isState cX0_isState 1 (some .boolean)) ({ frames := 0, cells := 0, slots := 0, locals := 0 }) (va_Pc [.int (a0)] (fun _ => True)) (vp_Si (fun r => r = if 0 ≤ a0 ∧ a0 ≤ 4 then 1 else 0)) 0 0 (fun _ => False) := by
  refine Met.ofW (cc := cX0_isState) (maxL := 1) (ret := (some .boolean)) (by decide) rfl ?_
  intro p e s m args below meth c s₁ B hml hv
  obtain ⟨rfl, -⟩ := hv
  have hx := B.exec
  have hb := B.bytes
  have hr := B.returns
  have hts := atoms_spec (ws := ws_ yX0_isState cX0_isState 1 (some .boolean)) B.pre
  have hts : ∀ w ∈ lw_all, w.before _ s = true := fun w h => hts w (List.mem_cons_of_mem _ h)
  have hown : s.vm.findClass RX0 = some m.cls := findClass_of_methodNamed B.named
  have hlocks := B.notSynchronized
  have hl := lv_entry ([.int (a0)]) (n := 1) (Nat.le_of_ble_eq_true rfl)
  rw [lg_entry_eq]
  generalize (lg_sl ([.int (a0)]) ++ List.replicate (1 - (lg_sl ([.int (a0)])).length) Slot.unset).toArray = ls at hl ⊢
  have hl : lv_has ls 1 [(0, .int (a0))] := hl
  refine lv_iload_n hx hb dX0_isState_0 rfl (lv_at hl 0 rfl) ?_
  refine lv_if_lt (tgt := 13) hx hb dX0_isState_1 (by decide) (fun h1 => ?_) (fun h1 => ?_)
  · refine lv_iconst (v := ((0 : Int32))) hx hb dX0_isState_13 (by decide) ?_
    exact W.zret (v := ((0 : Int32))) hx hb hr rfl (fun t ht hW => ⟨_, rfl, (if_neg (fun h => absurd h1 (Int32.not_lt.mpr h.1))).symm, ht⟩) (fun q h => by cases h) dX0_isState_14
  · refine lv_iload_n hx hb dX0_isState_4 rfl (lv_at hl 0 rfl) ?_
    refine lv_iconst (v := ((4 : Int32))) hx hb dX0_isState_5 (by decide) ?_
    refine lv_icmp_gt (tgt := 13) hx hb dX0_isState_6 (by decide) (fun h2 => ?_) (fun h2 => ?_)
    · refine lv_iconst (v := ((0 : Int32))) hx hb dX0_isState_13 (by decide) ?_
      exact W.zret (v := ((0 : Int32))) hx hb hr rfl (fun t ht hW => ⟨_, rfl, (if_neg (fun h => absurd h2 (Int32.not_lt.mpr h.2))).symm, ht⟩) (fun q h => by cases h) dX0_isState_14
    · refine lv_iconst (v := ((1 : Int32))) hx hb dX0_isState_9 (by decide) ?_
      refine lv_goto (tgt := 14) hx hb dX0_isState_10 (by decide) ?_
      exact W.zret (v := ((1 : Int32))) hx hb hr rfl (fun t ht hW => ⟨_, rfl, (if_pos ⟨Int32.not_lt.mp h1, Int32.not_lt.mp h2⟩).symm, ht⟩) (fun q h => by cases h) dX0_isState_14
set_option maxHeartbeats 4000000 in
set_option maxRecDepth 100000 in
/-- bad(q) -/
theorem metX1_bad (l : Launch) (a0 : Int32) : Met l yX1_bad (ws_ yX1_bad cX1_bad 1 (some .boolean)) ({ frames := 0, cells := 0, slots := 0, locals := 0 }) (va_Pc [.int (a0)] (fun _ => True)) (vp_Si (fun r => r = if 0 ≤ a0 ∧ a0 ≤ 4 then 0 else 1)) 0 0 (fun _ => False) := by
  refine Met.ofW (cc := cX1_bad) (maxL := 1) (ret := (some .boolean)) (by decide) rfl ?_
  intro p e s m args below meth c s₁ B hml hv
  obtain ⟨rfl, -⟩ := hv
  have hx := B.exec
  have hb := B.bytes
  have hr := B.returns
  have hts := atoms_spec (ws := ws_ yX1_bad cX1_bad 1 (some .boolean)) B.pre
  have hts : ∀ w ∈ lw_all, w.before _ s = true := fun w h => hts w (List.mem_cons_of_mem _ h)
  have hown : s.vm.findClass RX1 = some m.cls := findClass_of_methodNamed B.named
  have hlocks := B.notSynchronized
  have hl := lv_entry ([.int (a0)]) (n := 1) (Nat.le_of_ble_eq_true rfl)
  rw [lg_entry_eq]
  generalize (lg_sl ([.int (a0)]) ++ List.replicate (1 - (lg_sl ([.int (a0)])).length) Slot.unset).toArray = ls at hl ⊢
  have hl : lv_has ls 1 [(0, .int (a0))] := hl
  refine lv_iload_n hx hb dX1_bad_0 rfl (lv_at hl 0 rfl) ?_
  refine lv_if_lt (tgt := 9) hx hb dX1_bad_1 (by decide) (fun h1 => ?_) (fun h1 => ?_)
  · refine lv_iconst (v := ((1 : Int32))) hx hb dX1_bad_9 (by decide) ?_
    refine lv_goto (tgt := 14) hx hb dX1_bad_10 (by decide) ?_
    exact W.zret (v := ((1 : Int32))) hx hb hr rfl (fun t ht hW => ⟨_, rfl, (if_neg (fun h => absurd h1 (Int32.not_lt.mpr h.1))).symm, ht⟩) (fun q h => by cases h) dX1_bad_14
  · refine lv_iload_n hx hb dX1_bad_4 rfl (lv_at hl 0 rfl) ?_
    refine lv_iconst (v := ((4 : Int32))) hx hb dX1_bad_5 (by decide) ?_
    refine lv_icmp_le (tgt := 13) hx hb dX1_bad_6 (by decide) (fun h2 => ?_) (fun h2 => ?_)
    · refine lv_iconst (v := ((0 : Int32))) hx hb dX1_bad_13 (by decide) ?_
      exact W.zret (v := ((0 : Int32))) hx hb hr rfl (fun t ht hW => ⟨_, rfl, (if_pos ⟨Int32.not_lt.mp h1, h2⟩).symm, ht⟩) (fun q h => by cases h) dX1_bad_14
    · refine lv_iconst (v := ((1 : Int32))) hx hb dX1_bad_9 (by decide) ?_
      refine lv_goto (tgt := 14) hx hb dX1_bad_10 (by decide) ?_
      exact W.zret (v := ((1 : Int32))) hx hb hr rfl (fun t ht hW => ⟨_, rfl, (if_neg (fun h => h2 h.2)).symm, ht⟩) (fun q h => by cases h) dX1_bad_14
set_option maxHeartbeats 4000000 in
set_option maxRecDepth 100000 in
/-- image(states, step) -/
theorem metX1_image (l : Launch) (a0 b0 : Int32) : Met l yX1_image (ws_ yX1_image cX1_image 4 (some .int)) ({ frames := 0, cells := 0, slots := 0, locals := 0 }) (va_Pc [.int (a0), .int (b0)] (fun _ => True)) (vp_Si (fun r => r = nw_ld a0 b0 5)) 0 0 (fun _ => False) := by
  refine Met.ofW (cc := cX1_image) (maxL := 4) (ret := (some .int)) (by decide) rfl ?_
  intro p e s m args below meth c s₁ B hml hv
  obtain ⟨rfl, -⟩ := hv
  have hx := B.exec
  have hb := B.bytes
  have hr := B.returns
  have hts := atoms_spec (ws := ws_ yX1_image cX1_image 4 (some .int)) B.pre
  have hts : ∀ w ∈ lw_all, w.before _ s = true := fun w h => hts w (List.mem_cons_of_mem _ h)
  have hown : s.vm.findClass RX1 = some m.cls := findClass_of_methodNamed B.named
  have hlocks := B.notSynchronized
  have hl := lv_entry ([.int (a0), .int (b0)]) (n := 4) (Nat.le_of_ble_eq_true rfl)
  rw [lg_entry_eq]
  generalize (lg_sl ([.int (a0), .int (b0)]) ++ List.replicate (4 - (lg_sl ([.int (a0), .int (b0)])).length) Slot.unset).toArray = ls at hl ⊢
  have hl : lv_has ls 4 [(0, .int (a0)), (1, .int (b0))] := hl
  refine lv_iconst (v := (nI (0))) hx hb dX1_image_0 (by decide) ?_
  refine lv_istore_n (lv' := [(2, .int (nI (0))), (0, .int (a0)), (1, .int (b0))]) hx hb dX1_image_1 rfl hl (by decide) rfl (fun ls hl => ?_)
  refine lv_iconst (v := (nI (0))) hx hb dX1_image_2 (by decide) ?_
  refine lv_istore_n (lv' := [(3, .int (nI (0))), (2, .int (nI (0))), (0, .int (a0)), (1, .int (b0))]) hx hb dX1_image_3 rfl hl (by decide) rfl (fun ls hl => ?_)
  refine nw_loop 4 (fun i ls => lv_has ls 4 [(0, .int (a0)), (1, .int (b0)), (2, .int (nw_im a0 b0 (i))), (3, .int (nI (i)))]) 25 (lv_sub hl [2, 3, 1, 0] rfl) (fun i ls hi hl ih => ?_) (fun ls hl => ?_)
  · refine lv_iload_n hx hb dX1_image_4 rfl (lv_at hl 3 rfl) ?_
    refine lv_bipush (v := (nI (25))) hx hb dX1_image_5 (by decide) ?_
    refine lv_icmp_ge (tgt := 44) hx hb dX1_image_7 (by decide) (fun h => absurd h (nI_ge hi (by decide))) (fun _ => ?_)
    refine lv_iload_n hx hb dX1_image_10 rfl (lv_at hl 0 rfl) ?_
    refine lv_iload_n hx hb dX1_image_11 rfl (lv_at hl 3 rfl) ?_
    refine lv_iconst (v := (nI (5))) hx hb dX1_image_12 (by decide) ?_
    refine lv_idiv hx hb dX1_image_13 (by decide) ?_
    refine nw_as (y := (nI (i / 5))) (pk_div (a := i) (d := 5) (by omega) (by omega) (by omega)) ?_
    refine lv_ishr hx hb dX1_image_14 ?_
    refine lv_iconst (v := ((1 : Int32))) hx hb dX1_image_15 (by decide) ?_
    refine lv_iand hx hb dX1_image_16 ?_
    refine lv_iconst (v := ((1 : Int32))) hx hb dX1_image_17 (by decide) ?_
    refine lv_icmp_ne (tgt := 38) hx hb dX1_image_18 (by decide) (fun h1 => ?_) (fun h1 => ?_)
    · rw [nw_im_n1 h1] at hl
      -- next
      refine lv_iinc (v := (nI (i + 1))) (lv' := [(3, .int (nI (i + 1))), (0, .int (a0)), (1, .int (b0)), (2, .int (nw_im a0 b0 (i + 1)))]) hx hb dX1_image_38 hl (k := 3) rfl (nw_inc (i)) (by decide) rfl (fun ls hl => ?_)
      refine lv_goto (tgt := 4) hx hb dX1_image_41 (by decide) ?_
      exact ih _ (lv_sub hl [1, 2, 3, 0] rfl)
    · refine lv_iload_n hx hb dX1_image_21 rfl (lv_at hl 1 rfl) ?_
      refine lv_iload_n hx hb dX1_image_22 rfl (lv_at hl 3 rfl) ?_
      refine lv_ishr hx hb dX1_image_23 ?_
      refine lv_iconst (v := ((1 : Int32))) hx hb dX1_image_24 (by decide) ?_
      refine lv_iand hx hb dX1_image_25 ?_
      refine lv_iconst (v := ((1 : Int32))) hx hb dX1_image_26 (by decide) ?_
      refine lv_icmp_ne (tgt := 38) hx hb dX1_image_27 (by decide) (fun h2 => ?_) (fun h2 => ?_)
      · rw [nw_im_n2 h2] at hl
        -- next
        refine lv_iinc (v := (nI (i + 1))) (lv' := [(3, .int (nI (i + 1))), (0, .int (a0)), (1, .int (b0)), (2, .int (nw_im a0 b0 (i + 1)))]) hx hb dX1_image_38 hl (k := 3) rfl (nw_inc (i)) (by decide) rfl (fun ls hl => ?_)
        refine lv_goto (tgt := 4) hx hb dX1_image_41 (by decide) ?_
        exact ih _ (lv_sub hl [1, 2, 3, 0] rfl)
      · refine lv_iload_n hx hb dX1_image_30 rfl (lv_at hl 2 rfl) ?_
        refine lv_iconst (v := ((1 : Int32))) hx hb dX1_image_31 (by decide) ?_
        refine lv_iload_n hx hb dX1_image_32 rfl (lv_at hl 3 rfl) ?_
        refine lv_iconst (v := (nI (5))) hx hb dX1_image_33 (by decide) ?_
        refine lv_irem hx hb dX1_image_34 (by decide) ?_
        refine nw_as (y := (nI (i % 5))) (pk_rem (a := i) (d := 5) (by omega) (by omega) (by omega)) ?_
        refine lv_ishl hx hb dX1_image_35 ?_
        refine lv_ior hx hb dX1_image_36 ?_
        refine nw_as (y := (nw_im a0 b0 (i + 1))) (nw_im_y h1 h2) ?_
        refine lv_istore_n (lv' := [(2, .int (nw_im a0 b0 (i + 1))), (0, .int (a0)), (1, .int (b0)), (3, .int (nI (i)))]) hx hb dX1_image_37 rfl hl (by decide) rfl (fun ls hl => ?_)
        refine lv_iinc (v := (nI (i + 1))) (lv' := [(3, .int (nI (i + 1))), (2, .int (nw_im a0 b0 (i + 1))), (0, .int (a0)), (1, .int (b0))]) hx hb dX1_image_38 hl (k := 3) rfl (nw_inc (i)) (by decide) rfl (fun ls hl => ?_)
        refine lv_goto (tgt := 4) hx hb dX1_image_41 (by decide) ?_
        exact ih _ (lv_sub hl [2, 3, 1, 0] rfl)
  · refine lv_iload_n hx hb dX1_image_4 rfl (lv_at hl 3 rfl) ?_
    refine lv_bipush (v := (nI (25))) hx hb dX1_image_5 (by decide) ?_
    refine lv_icmp_ge (tgt := 44) hx hb dX1_image_7 (by decide) (fun _ => ?_) (fun h => absurd (nI_le (Nat.le_refl 25) (by decide)) h)
    refine lv_iload_n hx hb dX1_image_44 rfl (lv_at hl 2 rfl) ?_
    exact W.iret hx hb hr (fun t ht hW => ⟨_, rfl, nw_im_ld a0 b0, ht⟩) (fun q h => by cases h) dX1_image_45
set_option maxHeartbeats 4000000 in
set_option maxRecDepth 100000 in
/-- then(first, second) -/
theorem metX1_then (l : Launch) (a0 b0 : Int32) : Met l yX1_then (ws_ yX1_then cX1_then 7 (some .int)) ({ frames := 0, cells := 0, slots := 0, locals := 0 }) (va_Pc [.int (a0), .int (b0)] (fun _ => True)) (vp_Si (fun r => r = nw_jn a0 b0 5)) 0 0 (fun _ => False) := by
  refine Met.ofW (cc := cX1_then) (maxL := 7) (ret := (some .int)) (by decide) rfl ?_
  intro p e s m args below meth c s₁ B hml hv
  obtain ⟨rfl, -⟩ := hv
  have hx := B.exec
  have hb := B.bytes
  have hr := B.returns
  have hts := atoms_spec (ws := ws_ yX1_then cX1_then 7 (some .int)) B.pre
  have hts : ∀ w ∈ lw_all, w.before _ s = true := fun w h => hts w (List.mem_cons_of_mem _ h)
  have hown : s.vm.findClass RX1 = some m.cls := findClass_of_methodNamed B.named
  have hlocks := B.notSynchronized
  have hl := lv_entry ([.int (a0), .int (b0)]) (n := 7) (Nat.le_of_ble_eq_true rfl)
  rw [lg_entry_eq]
  generalize (lg_sl ([.int (a0), .int (b0)]) ++ List.replicate (7 - (lg_sl ([.int (a0), .int (b0)])).length) Slot.unset).toArray = ls at hl ⊢
  have hl : lv_has ls 7 [(0, .int (a0)), (1, .int (b0))] := hl
  refine lv_iconst (v := (nI (0))) hx hb dX1_then_0 (by decide) ?_
  refine lv_istore_n (lv' := [(2, .int (nI (0))), (0, .int (a0)), (1, .int (b0))]) hx hb dX1_then_1 rfl hl (by decide) rfl (fun ls hl => ?_)
  refine lv_iconst (v := (nI (0))) hx hb dX1_then_2 (by decide) ?_
  refine lv_istore_n (lv' := [(3, .int (nI (0))), (2, .int (nI (0))), (0, .int (a0)), (1, .int (b0))]) hx hb dX1_then_3 rfl hl (by decide) rfl (fun ls hl => ?_)
  refine nw_loop 4 (fun i ls => lv_has ls 7 [(0, .int (a0)), (1, .int (b0)), (2, .int (nw_th a0 b0 (i))), (3, .int (nI (i)))]) 125 (lv_sub hl [2, 3, 1, 0] rfl) (fun i ls hi hl ih => ?_) (fun ls hl => ?_)
  · refine lv_iload_n hx hb dX1_then_4 rfl (lv_at hl 3 rfl) ?_
    refine lv_bipush (v := (nI (125))) hx hb dX1_then_5 (by decide) ?_
    refine lv_icmp_ge (tgt := 76) hx hb dX1_then_7 (by decide) (fun h => absurd h (nI_ge hi (by decide))) (fun _ => ?_)
    refine lv_iload_n hx hb dX1_then_10 rfl (lv_at hl 3 rfl) ?_
    refine lv_bipush (v := (nI (25))) hx hb dX1_then_11 (by decide) ?_
    refine lv_idiv hx hb dX1_then_13 (by decide) ?_
    refine nw_as (y := (nI (i / 25))) (pk_div (a := i) (d := 25) (by omega) (by omega) (by omega)) ?_
    refine lv_istore (lv' := [(4, .int (nI (i / 25))), (0, .int (a0)), (1, .int (b0)), (2, .int (nw_th a0 b0 (i))), (3, .int (nI (i)))]) hx hb dX1_then_14 hl (by decide) rfl (fun ls hl => ?_)
    refine lv_iload_n hx hb dX1_then_16 rfl (lv_at hl 4 rfl) ?_
    refine lv_iconst (v := (nI (5))) hx hb dX1_then_17 (by decide) ?_
    refine lv_idiv hx hb dX1_then_18 (by decide) ?_
    refine nw_as (y := (nI (i / 5))) (pk_div (a := i) (d := 5) (by omega) (by omega) (by omega)) ?_
    refine lv_iconst (v := (nI (5))) hx hb dX1_then_19 (by decide) ?_
    refine lv_irem hx hb dX1_then_20 (by decide) ?_
    refine nw_as (y := (nI ((i / 5) % 5))) (pk_rem (a := i / 5) (d := 5) (by omega) (by omega) (by omega)) ?_
    refine lv_istore (lv' := [(5, .int (nI ((i / 5) % 5))), (4, .int (nI (i / 25))), (0, .int (a0)), (1, .int (b0)), (2, .int (nw_th a0 b0 (i))), (3, .int (nI (i)))]) hx hb dX1_then_21 hl (by decide) rfl (fun ls hl => ?_)
    refine lv_iload_n hx hb dX1_then_23 rfl (lv_at hl 5 rfl) ?_
    refine lv_iconst (v := (nI (5))) hx hb dX1_then_24 (by decide) ?_
    refine lv_irem hx hb dX1_then_25 (by decide) ?_
    refine nw_as (y := (nI (i % 5))) (pk_rem (a := i) (d := 5) (by omega) (by omega) (by omega)) ?_
    refine lv_istore (lv' := [(6, .int (nI (i % 5))), (5, .int (nI ((i / 5) % 5))), (4, .int (nI (i / 25))), (0, .int (a0)), (1, .int (b0)), (2, .int (nw_th a0 b0 (i))), (3, .int (nI (i)))]) hx hb dX1_then_26 hl (by decide) rfl (fun ls hl => ?_)
    refine lv_iload_n hx hb dX1_then_28 rfl (lv_at hl 3 rfl) ?_
    refine lv_iconst (v := (nI (5))) hx hb dX1_then_29 (by decide) ?_
    refine lv_iload hx hb dX1_then_30 (lv_at hl 2 rfl) ?_
    refine lv_imul hx hb dX1_then_32 ?_
    refine nw_as (y := (nI (5 * (i / 25)))) (pk_mul (5) (i / 25)) ?_
    refine lv_iload hx hb dX1_then_33 (lv_at hl 1 rfl) ?_
    refine lv_iadd hx hb dX1_then_35 ?_
    refine nw_as (y := (nI ((5 * (i / 25)) + ((i / 5) % 5)))) (nI_add (5 * (i / 25)) ((i / 5) % 5)) ?_
    refine lv_ishr hx hb dX1_then_36 ?_
    refine lv_iconst (v := ((1 : Int32))) hx hb dX1_then_37 (by decide) ?_
    refine lv_iand hx hb dX1_then_38 ?_
    refine lv_iconst (v := ((1 : Int32))) hx hb dX1_then_39 (by decide) ?_
    refine lv_icmp_ne (tgt := 70) hx hb dX1_then_40 (by decide) (fun h1 => ?_) (fun h1 => ?_)
    · rw [nw_th_n1 h1] at hl
      -- next
      refine lv_iinc (v := (nI (i + 1))) (lv' := [(3, .int (nI (i + 1))), (6, .int (nI (i % 5))), (5, .int (nI ((i / 5) % 5))), (4, .int (nI (i / 25))), (0, .int (a0)), (1, .int (b0)), (2, .int (nw_th a0 b0 (i + 1)))]) hx hb dX1_then_70 hl (k := 6) rfl (nw_inc (i)) (by decide) rfl (fun ls hl => ?_)
      refine lv_goto (tgt := 4) hx hb dX1_then_73 (by decide) ?_
      exact ih _ (lv_sub hl [4, 5, 6, 0] rfl)
    · refine lv_iload_n hx hb dX1_then_43 rfl (lv_at hl 4 rfl) ?_
      refine lv_iconst (v := (nI (5))) hx hb dX1_then_44 (by decide) ?_
      refine lv_iload hx hb dX1_then_45 (lv_at hl 1 rfl) ?_
      refine lv_imul hx hb dX1_then_47 ?_
      refine nw_as (y := (nI (5 * ((i / 5) % 5)))) (pk_mul (5) ((i / 5) % 5)) ?_
      refine lv_iload hx hb dX1_then_48 (lv_at hl 0 rfl) ?_
      refine lv_iadd hx hb dX1_then_50 ?_
      refine nw_as (y := (nI ((5 * ((i / 5) % 5)) + (i % 5)))) (nI_add (5 * ((i / 5) % 5)) (i % 5)) ?_
      refine lv_ishr hx hb dX1_then_51 ?_
      refine lv_iconst (v := ((1 : Int32))) hx hb dX1_then_52 (by decide) ?_
      refine lv_iand hx hb dX1_then_53 ?_
      refine lv_iconst (v := ((1 : Int32))) hx hb dX1_then_54 (by decide) ?_
      refine lv_icmp_ne (tgt := 70) hx hb dX1_then_55 (by decide) (fun h2 => ?_) (fun h2 => ?_)
      · rw [nw_th_n2 h2] at hl
        -- next
        refine lv_iinc (v := (nI (i + 1))) (lv' := [(3, .int (nI (i + 1))), (6, .int (nI (i % 5))), (5, .int (nI ((i / 5) % 5))), (4, .int (nI (i / 25))), (0, .int (a0)), (1, .int (b0)), (2, .int (nw_th a0 b0 (i + 1)))]) hx hb dX1_then_70 hl (k := 6) rfl (nw_inc (i)) (by decide) rfl (fun ls hl => ?_)
        refine lv_goto (tgt := 4) hx hb dX1_then_73 (by decide) ?_
        exact ih _ (lv_sub hl [4, 5, 6, 0] rfl)
      · refine lv_iload_n hx hb dX1_then_58 rfl (lv_at hl 5 rfl) ?_
        refine lv_iconst (v := ((1 : Int32))) hx hb dX1_then_59 (by decide) ?_
        refine lv_iconst (v := (nI (5))) hx hb dX1_then_60 (by decide) ?_
        refine lv_iload hx hb dX1_then_61 (lv_at hl 2 rfl) ?_
        refine lv_imul hx hb dX1_then_63 ?_
        refine nw_as (y := (nI (5 * (i / 25)))) (pk_mul (5) (i / 25)) ?_
        refine lv_iload hx hb dX1_then_64 (lv_at hl 0 rfl) ?_
        refine lv_iadd hx hb dX1_then_66 ?_
        refine nw_as (y := (nI ((5 * (i / 25)) + (i % 5)))) (nI_add (5 * (i / 25)) (i % 5)) ?_
        refine lv_ishl hx hb dX1_then_67 ?_
        refine lv_ior hx hb dX1_then_68 ?_
        refine nw_as (y := (nw_th a0 b0 (i + 1))) (nw_th_y h1 h2) ?_
        refine lv_istore_n (lv' := [(2, .int (nw_th a0 b0 (i + 1))), (6, .int (nI (i % 5))), (5, .int (nI ((i / 5) % 5))), (4, .int (nI (i / 25))), (0, .int (a0)), (1, .int (b0)), (3, .int (nI (i)))]) hx hb dX1_then_69 rfl hl (by decide) rfl (fun ls hl => ?_)
        refine lv_iinc (v := (nI (i + 1))) (lv' := [(3, .int (nI (i + 1))), (2, .int (nw_th a0 b0 (i + 1))), (6, .int (nI (i % 5))), (5, .int (nI ((i / 5) % 5))), (4, .int (nI (i / 25))), (0, .int (a0)), (1, .int (b0))]) hx hb dX1_then_70 hl (k := 6) rfl (nw_inc (i)) (by decide) rfl (fun ls hl => ?_)
        refine lv_goto (tgt := 4) hx hb dX1_then_73 (by decide) ?_
        exact ih _ (lv_sub hl [5, 6, 1, 0] rfl)
  · refine lv_iload_n hx hb dX1_then_4 rfl (lv_at hl 3 rfl) ?_
    refine lv_bipush (v := (nI (125))) hx hb dX1_then_5 (by decide) ?_
    refine lv_icmp_ge (tgt := 76) hx hb dX1_then_7 (by decide) (fun _ => ?_) (fun h => absurd (nI_le (Nat.le_refl 125) (by decide)) h)
    refine lv_iload_n hx hb dX1_then_76 rfl (lv_at hl 2 rfl) ?_
    exact W.iret hx hb hr (fun t ht hW => ⟨_, rfl, nw_th_jn a0 b0, ht⟩) (fun q h => by cases h) dX1_then_77
end
section
/-! WALKS 2: methods that read alone (the heap stays as it is) -/
set_option maxHeartbeats 4000000 in
set_option maxRecDepth 100000 in
/-- plainSteps(letter) -/
theorem metX0_plainSteps (l : Launch) (dC : Nat → ClassId) (dI : Nat → Nat → Nat) (ad : Nat → Nat) (ca : Nat → ClassId) (S P : nw_F) (st en kn ln : Int32) (aw ay aa ao : nw_F) (k : Nat) (hk : 4 ≤ k) (hk2 : k < 6) : Met l yX0_plainSteps (ws_ yX0_plainSteps cX0_plainSteps 4 (some .int)) ({ frames := 0, cells := 0, slots := 0, locals := 0 }) (va_Pc [.ref (ad 0), .int (nI (k))] (nw_XR dC dI (nw_xW ad ca (S) (P) (st) (en) (kn) (ln) (aw) (ay) (aa) (ao)) (nw_xT ca))) (vp_Si (fun r => r = nw_pl P (25 * (k - 4)) 25)) 0 0 (fun _ => False) := by
  refine Met.ofW (cc := cX0_plainSteps) (maxL := 4) (ret := (some .int)) (by decide) rfl ?_
  intro p e s m args below meth c s₁ B hml hv
  obtain ⟨rfl, hP, hK⟩ := hv
  have hx := B.exec
  have hb := B.bytes
  have hr := B.returns
  have hts := atoms_spec (ws := ws_ yX0_plainSteps cX0_plainSteps 4 (some .int)) B.pre
  have hts : ∀ w ∈ lw_all, w.before _ s = true := fun w h => hts w (List.mem_cons_of_mem _ h)
  have hown : s.vm.findClass RX0 = some m.cls := findClass_of_methodNamed B.named
  have hlocks := B.notSynchronized
  have hl := lv_entry ([.ref (ad 0), .int (nI (k))]) (n := 4) (Nat.le_of_ble_eq_true rfl)
  rw [lg_entry_eq]
  generalize (lg_sl ([.ref (ad 0), .int (nI (k))]) ++ List.replicate (4 - (lg_sl ([.ref (ad 0), .int (nI (k))])).length) Slot.unset).toArray = ls at hl ⊢
  have hl : lv_has ls 4 [(0, .ref (ad 0)), (1, .int (nI (k)))] := hl
  refine lv_iconst (v := (nI (0))) hx hb dX0_plainSteps_0 (by decide) ?_
  refine lv_istore_n (lv' := [(2, .int (nI (0))), (0, .ref (ad 0)), (1, .int (nI (k)))]) hx hb dX0_plainSteps_1 rfl hl (by decide) rfl (fun ls hl => ?_)
  refine lv_iconst (v := (nI (0))) hx hb dX0_plainSteps_2 (by decide) ?_
  refine lv_istore_n (lv' := [(3, .int (nI (0))), (2, .int (nI (0))), (0, .ref (ad 0)), (1, .int (nI (k)))]) hx hb dX0_plainSteps_3 rfl hl (by decide) rfl (fun ls hl => ?_)
  refine nw_loop 4 (fun i ls => lv_has ls 4 [(0, .ref (ad 0)), (1, .int (nI (k))), (2, .int (nw_pl P (25 * (k - 4)) (i))), (3, .int (nI (i)))]) 25 (lv_sub hl [2, 3, 1, 0] rfl) (fun i ls hi hl ih => ?_) (fun ls hl => ?_)
  · refine lv_iload_n hx hb dX0_plainSteps_4 rfl (lv_at hl 3 rfl) ?_
    refine lv_bipush (v := (nI (25))) hx hb dX0_plainSteps_5 (by decide) ?_
    refine lv_icmp_ge (tgt := 42) hx hb dX0_plainSteps_7 (by decide) (fun h => absurd h (nI_ge hi (by decide))) (fun _ => ?_)
    refine lv_iload_n hx hb dX0_plainSteps_10 rfl (lv_at hl 2 rfl) ?_
    refine lv_aload_n hx hb dX0_plainSteps_11 rfl (lv_at hl 0 rfl) ?_
    refine va_get (D := (dC, dI)) (ci := 0) (v := .ref (ad 2)) (C := RX0) (T := TX0) (N := 10) hx hb hts in_X0 hown hK hP 0 rfl rfl 1 (by decide) (hts _ q23) (fun _ h9 => h9) rfl dX0_plainSteps_12 ?_
    refine lv_bipush (v := (nI (25))) hx hb dX0_plainSteps_15 (by decide) ?_
    refine lv_iload_n hx hb dX0_plainSteps_17 rfl (lv_at hl 1 rfl) ?_
    refine lv_iconst (v := (nI (4))) hx hb dX0_plainSteps_18 (by decide) ?_
    refine lv_isub hx hb dX0_plainSteps_19 ?_
    refine nw_as (y := (nI (k - 4))) (pk_sub (a := k) (b := 4) (by omega)) ?_
    refine lv_imul hx hb dX0_plainSteps_20 ?_
    refine nw_as (y := (nI (25 * (k - 4)))) (pk_mul (25) (k - 4)) ?_
    refine lv_iload_n hx hb dX0_plainSteps_21 rfl (lv_at hl 3 rfl) ?_
    refine lv_iadd hx hb dX0_plainSteps_22 ?_
    refine nw_as (y := (nI ((25 * (k - 4)) + i))) (nI_add (25 * (k - 4)) (i)) ?_
    refine nw_zald hx hb hK hP 2 1 rfl rfl (j := (25 * (k - 4)) + i) (by omega) (by decide) dX0_plainSteps_23 ?_
    refine lv_if_eq (tgt := 33) hx hb dX0_plainSteps_24 (by decide) (fun hc => ?_) (fun hc => ?_)
    · refine lv_iconst (v := ((0 : Int32))) hx hb dX0_plainSteps_33 (by decide) ?_
      refine lv_ior hx hb dX0_plainSteps_34 ?_
      refine nw_as (y := (nw_pl P (25 * (k - 4)) (i + 1))) (nw_pl_z hc) ?_
      refine lv_istore_n (lv' := [(2, .int (nw_pl P (25 * (k - 4)) (i + 1))), (0, .ref (ad 0)), (1, .int (nI (k))), (3, .int (nI (i)))]) hx hb dX0_plainSteps_35 rfl hl (by decide) rfl (fun ls hl => ?_)
      refine lv_iinc (v := (nI (i + 1))) (lv' := [(3, .int (nI (i + 1))), (2, .int (nw_pl P (25 * (k - 4)) (i + 1))), (0, .ref (ad 0)), (1, .int (nI (k)))]) hx hb dX0_plainSteps_36 hl (k := 3) rfl (nw_inc (i)) (by decide) rfl (fun ls hl => ?_)
      refine lv_goto (tgt := 4) hx hb dX0_plainSteps_39 (by decide) ?_
      exact ih _ (lv_sub hl [2, 3, 1, 0] rfl)
    · refine lv_iconst (v := ((1 : Int32))) hx hb dX0_plainSteps_27 (by decide) ?_
      refine lv_iload_n hx hb dX0_plainSteps_28 rfl (lv_at hl 3 rfl) ?_
      refine lv_ishl hx hb dX0_plainSteps_29 ?_
      refine lv_goto (tgt := 34) hx hb dX0_plainSteps_30 (by decide) ?_
      refine lv_ior hx hb dX0_plainSteps_34 ?_
      refine nw_as (y := (nw_pl P (25 * (k - 4)) (i + 1))) (nw_pl_n hc) ?_
      refine lv_istore_n (lv' := [(2, .int (nw_pl P (25 * (k - 4)) (i + 1))), (0, .ref (ad 0)), (1, .int (nI (k))), (3, .int (nI (i)))]) hx hb dX0_plainSteps_35 rfl hl (by decide) rfl (fun ls hl => ?_)
      refine lv_iinc (v := (nI (i + 1))) (lv' := [(3, .int (nI (i + 1))), (2, .int (nw_pl P (25 * (k - 4)) (i + 1))), (0, .ref (ad 0)), (1, .int (nI (k)))]) hx hb dX0_plainSteps_36 hl (k := 3) rfl (nw_inc (i)) (by decide) rfl (fun ls hl => ?_)
      refine lv_goto (tgt := 4) hx hb dX0_plainSteps_39 (by decide) ?_
      exact ih _ (lv_sub hl [2, 3, 1, 0] rfl)
  · refine lv_iload_n hx hb dX0_plainSteps_4 rfl (lv_at hl 3 rfl) ?_
    refine lv_bipush (v := (nI (25))) hx hb dX0_plainSteps_5 (by decide) ?_
    refine lv_icmp_ge (tgt := 42) hx hb dX0_plainSteps_7 (by decide) (fun _ => ?_) (fun h => absurd (nI_le (Nat.le_refl 25) (by decide)) h)
    refine lv_iload_n hx hb dX0_plainSteps_42 rfl (lv_at hl 2 rfl) ?_
    exact W.iret hx hb hr (fun t ht hW => ⟨_, rfl, rfl, ht⟩) (fun q h => by cases h) dX0_plainSteps_43
set_option maxHeartbeats 4000000 in
set_option maxRecDepth 100000 in
/-- stackSteps(letter, marks) -/
theorem metX0_stackSteps (l : Launch) (dC : Nat → ClassId) (dI : Nat → Nat → Nat) (ad : Nat → Nat) (ca : Nat → ClassId) (S P : nw_F) (st en kn ln : Int32) (aw ay aa ao : nw_F) (k : Nat) (hk : k < 4) (mk : Int32) : Met l yX0_stackSteps (ws_ yX0_stackSteps cX0_stackSteps 6 (some .int)) ({ frames := 0, cells := 0, slots := 0, locals := 0 }) (va_Pc [.ref (ad 0), .int (nI (k)), .int (mk)] (nw_XR dC dI (nw_xW ad ca (S) (P) (st) (en) (kn) (ln) (aw) (ay) (aa) (ao)) (nw_xT ca))) (vp_Si (fun r => r = nw_sk S k mk 25)) 0 0 (fun _ => False) := by
  refine Met.ofW (cc := cX0_stackSteps) (maxL := 6) (ret := (some .int)) (by decide) rfl ?_
  intro p e s m args below meth c s₁ B hml hv
  obtain ⟨rfl, hP, hK⟩ := hv
  have hx := B.exec
  have hb := B.bytes
  have hr := B.returns
  have hts := atoms_spec (ws := ws_ yX0_stackSteps cX0_stackSteps 6 (some .int)) B.pre
  have hts : ∀ w ∈ lw_all, w.before _ s = true := fun w h => hts w (List.mem_cons_of_mem _ h)
  have hown : s.vm.findClass RX0 = some m.cls := findClass_of_methodNamed B.named
  have hlocks := B.notSynchronized
  have hl := lv_entry ([.ref (ad 0), .int (nI (k)), .int (mk)]) (n := 6) (Nat.le_of_ble_eq_true rfl)
  rw [lg_entry_eq]
  generalize (lg_sl ([.ref (ad 0), .int (nI (k)), .int (mk)]) ++ List.replicate (6 - (lg_sl ([.ref (ad 0), .int (nI (k)), .int (mk)])).length) Slot.unset).toArray = ls at hl ⊢
  have hl : lv_has ls 6 [(0, .ref (ad 0)), (1, .int (nI (k))), (2, .int (mk))] := hl
  refine lv_iconst (v := (nI (0))) hx hb dX0_stackSteps_0 (by decide) ?_
  refine lv_istore_n (lv' := [(3, .int (nI (0))), (0, .ref (ad 0)), (1, .int (nI (k))), (2, .int (mk))]) hx hb dX0_stackSteps_1 rfl hl (by decide) rfl (fun ls hl => ?_)
  refine lv_iconst (v := (nI (0))) hx hb dX0_stackSteps_2 (by decide) ?_
  refine lv_istore (lv' := [(4, .int (nI (0))), (3, .int (nI (0))), (0, .ref (ad 0)), (1, .int (nI (k))), (2, .int (mk))]) hx hb dX0_stackSteps_3 hl (by decide) rfl (fun ls hl => ?_)
  refine nw_loop 5 (fun i ls => lv_has ls 6 [(0, .ref (ad 0)), (1, .int (nI (k))), (2, .int (mk)), (3, .int (nw_sk S k mk (i))), (4, .int (nI (i)))]) 25 (lv_sub hl [2, 3, 4, 1, 0] rfl) (fun i ls hi hl ih => ?_) (fun ls hl => ?_)
  · refine lv_iload hx hb dX0_stackSteps_5 (lv_at hl 4 rfl) ?_
    refine lv_bipush (v := (nI (25))) hx hb dX0_stackSteps_7 (by decide) ?_
    refine lv_icmp_ge (tgt := 73) hx hb dX0_stackSteps_9 (by decide) (fun h => absurd h (nI_ge hi (by decide))) (fun _ => ?_)
    refine lv_iconst (v := (nI (0))) hx hb dX0_stackSteps_12 (by decide) ?_
    refine lv_istore (lv' := [(5, .int (nI (0))), (0, .ref (ad 0)), (1, .int (nI (k))), (2, .int (mk)), (3, .int (nw_sk S k mk (i))), (4, .int (nI (i)))]) hx hb dX0_stackSteps_13 hl (by decide) rfl (fun ls hl => ?_)
    refine nw_loop 15 (fun j ls => lv_has ls 6 [(0, .ref (ad 0)), (1, .int (nI (k))), (2, .int (mk)), (3, .int (nw_si S k mk i (nw_sk S k mk i) (j))), (4, .int (nI (i))), (5, .int (nI (j)))]) 4 (lv_sub hl [1, 2, 3, 4, 5, 0] rfl) (fun j ls hj hl jh => ?_) (fun ls hl => ?_)
    · refine lv_iload hx hb dX0_stackSteps_15 (lv_at hl 5 rfl) ?_
      refine lv_iconst (v := (nI (4))) hx hb dX0_stackSteps_17 (by decide) ?_
      refine lv_icmp_ge (tgt := 67) hx hb dX0_stackSteps_18 (by decide) (fun h => absurd h (nI_ge hj (by decide))) (fun _ => ?_)
      refine lv_iload_n hx hb dX0_stackSteps_21 rfl (lv_at hl 3 rfl) ?_
      refine lv_iload_n hx hb dX0_stackSteps_22 rfl (lv_at hl 2 rfl) ?_
      refine lv_iload hx hb dX0_stackSteps_23 (lv_at hl 5 rfl) ?_
      refine lv_iushr (v := nw_u (mk) (nI (j))) hx hb dX0_stackSteps_25 rfl ?_
      refine lv_iconst (v := ((1 : Int32))) hx hb dX0_stackSteps_26 (by decide) ?_
      refine lv_iand hx hb dX0_stackSteps_27 ?_
      refine lv_if_eq (tgt := 58) hx hb dX0_stackSteps_28 (by decide) (fun h1 => ?_) (fun h1 => ?_)
      · refine lv_iconst (v := ((0 : Int32))) hx hb dX0_stackSteps_58 (by decide) ?_
        refine lv_ior hx hb dX0_stackSteps_59 ?_
        refine nw_as (y := (nw_si S k mk i (nw_sk S k mk i) (j + 1))) (nw_si_z1 h1) ?_
        refine lv_istore_n (lv' := [(3, .int (nw_si S k mk i (nw_sk S k mk i) (j + 1))), (0, .ref (ad 0)), (1, .int (nI (k))), (2, .int (mk)), (4, .int (nI (i))), (5, .int (nI (j)))]) hx hb dX0_stackSteps_60 rfl hl (by decide) rfl (fun ls hl => ?_)
        refine lv_iinc (v := (nI (j + 1))) (lv' := [(5, .int (nI (j + 1))), (3, .int (nw_si S k mk i (nw_sk S k mk i) (j + 1))), (0, .ref (ad 0)), (1, .int (nI (k))), (2, .int (mk)), (4, .int (nI (i)))]) hx hb dX0_stackSteps_61 hl (k := 5) rfl (nw_inc (j)) (by decide) rfl (fun ls hl => ?_)
        refine lv_goto (tgt := 15) hx hb dX0_stackSteps_64 (by decide) ?_
        exact jh _ (lv_sub hl [2, 3, 4, 1, 5, 0] rfl)
      · refine lv_aload_n hx hb dX0_stackSteps_31 rfl (lv_at hl 0 rfl) ?_
        refine va_get (D := (dC, dI)) (ci := 0) (v := .ref (ad 1)) (C := RX0) (T := TX0) (N := 10) hx hb hts in_X0 hown hK hP 0 rfl rfl 0 (by decide) (hts _ q22) (fun _ h9 => h9) rfl dX0_stackSteps_32 ?_
        refine lv_bipush (v := (nI (100))) hx hb dX0_stackSteps_35 (by decide) ?_
        refine lv_iload_n hx hb dX0_stackSteps_37 rfl (lv_at hl 1 rfl) ?_
        refine lv_imul hx hb dX0_stackSteps_38 ?_
        refine nw_as (y := (nI (100 * k))) (pk_mul (100) (k)) ?_
        refine lv_iconst (v := (nI (4))) hx hb dX0_stackSteps_39 (by decide) ?_
        refine lv_iload hx hb dX0_stackSteps_40 (lv_at hl 4 rfl) ?_
        refine lv_imul hx hb dX0_stackSteps_42 ?_
        refine nw_as (y := (nI (4 * i))) (pk_mul (4) (i)) ?_
        refine lv_iadd hx hb dX0_stackSteps_43 ?_
        refine nw_as (y := (nI ((100 * k) + (4 * i)))) (nI_add (100 * k) (4 * i)) ?_
        refine lv_iload hx hb dX0_stackSteps_44 (lv_at hl 5 rfl) ?_
        refine lv_iadd hx hb dX0_stackSteps_46 ?_
        refine nw_as (y := (nI (((100 * k) + (4 * i)) + j))) (nI_add ((100 * k) + (4 * i)) (j)) ?_
        refine nw_zald hx hb hK hP 1 0 rfl rfl (j := ((100 * k) + (4 * i)) + j) (by omega) (by decide) dX0_stackSteps_47 ?_
        refine lv_if_eq (tgt := 58) hx hb dX0_stackSteps_48 (by decide) (fun h2 => ?_) (fun h2 => ?_)
        · refine lv_iconst (v := ((0 : Int32))) hx hb dX0_stackSteps_58 (by decide) ?_
          refine lv_ior hx hb dX0_stackSteps_59 ?_
          refine nw_as (y := (nw_si S k mk i (nw_sk S k mk i) (j + 1))) (nw_si_z2 h2) ?_
          refine lv_istore_n (lv' := [(3, .int (nw_si S k mk i (nw_sk S k mk i) (j + 1))), (0, .ref (ad 0)), (1, .int (nI (k))), (2, .int (mk)), (4, .int (nI (i))), (5, .int (nI (j)))]) hx hb dX0_stackSteps_60 rfl hl (by decide) rfl (fun ls hl => ?_)
          refine lv_iinc (v := (nI (j + 1))) (lv' := [(5, .int (nI (j + 1))), (3, .int (nw_si S k mk i (nw_sk S k mk i) (j + 1))), (0, .ref (ad 0)), (1, .int (nI (k))), (2, .int (mk)), (4, .int (nI (i)))]) hx hb dX0_stackSteps_61 hl (k := 5) rfl (nw_inc (j)) (by decide) rfl (fun ls hl => ?_)
          refine lv_goto (tgt := 15) hx hb dX0_stackSteps_64 (by decide) ?_
          exact jh _ (lv_sub hl [2, 3, 4, 1, 5, 0] rfl)
        · refine lv_iconst (v := ((1 : Int32))) hx hb dX0_stackSteps_51 (by decide) ?_
          refine lv_iload hx hb dX0_stackSteps_52 (lv_at hl 4 rfl) ?_
          refine lv_ishl hx hb dX0_stackSteps_54 ?_
          refine lv_goto (tgt := 59) hx hb dX0_stackSteps_55 (by decide) ?_
          refine lv_ior hx hb dX0_stackSteps_59 ?_
          refine nw_as (y := (nw_si S k mk i (nw_sk S k mk i) (j + 1))) (nw_si_n h1 h2) ?_
          refine lv_istore_n (lv' := [(3, .int (nw_si S k mk i (nw_sk S k mk i) (j + 1))), (0, .ref (ad 0)), (1, .int (nI (k))), (2, .int (mk)), (4, .int (nI (i))), (5, .int (nI (j)))]) hx hb dX0_stackSteps_60 rfl hl (by decide) rfl (fun ls hl => ?_)
          refine lv_iinc (v := (nI (j + 1))) (lv' := [(5, .int (nI (j + 1))), (3, .int (nw_si S k mk i (nw_sk S k mk i) (j + 1))), (0, .ref (ad 0)), (1, .int (nI (k))), (2, .int (mk)), (4, .int (nI (i)))]) hx hb dX0_stackSteps_61 hl (k := 5) rfl (nw_inc (j)) (by decide) rfl (fun ls hl => ?_)
          refine lv_goto (tgt := 15) hx hb dX0_stackSteps_64 (by decide) ?_
          exact jh _ (lv_sub hl [2, 3, 4, 1, 5, 0] rfl)
    · refine lv_iload hx hb dX0_stackSteps_15 (lv_at hl 5 rfl) ?_
      refine lv_iconst (v := (nI (4))) hx hb dX0_stackSteps_17 (by decide) ?_
      refine lv_icmp_ge (tgt := 67) hx hb dX0_stackSteps_18 (by decide) (fun _ => ?_) (fun h => absurd (nI_le (Nat.le_refl 4) (by decide)) h)
      refine lv_iinc (v := (nI (i + 1))) (lv' := [(4, .int (nI (i + 1))), (0, .ref (ad 0)), (1, .int (nI (k))), (2, .int (mk)), (3, .int (nw_si S k mk i (nw_sk S k mk i) (4))), (5, .int (nI (4)))]) hx hb dX0_stackSteps_67 hl (k := 4) rfl (nw_inc (i)) (by decide) rfl (fun ls hl => ?_)
      refine lv_goto (tgt := 5) hx hb dX0_stackSteps_70 (by decide) ?_
      exact ih _ (lv_sub hl [1, 2, 3, 4, 0] rfl)
  · refine lv_iload hx hb dX0_stackSteps_5 (lv_at hl 4 rfl) ?_
    refine lv_bipush (v := (nI (25))) hx hb dX0_stackSteps_7 (by decide) ?_
    refine lv_icmp_ge (tgt := 73) hx hb dX0_stackSteps_9 (by decide) (fun _ => ?_) (fun h => absurd (nI_le (Nat.le_refl 25) (by decide)) h)
    refine lv_iload_n hx hb dX0_stackSteps_73 rfl (lv_at hl 3 rfl) ?_
    exact W.iret hx hb hr (fun t ht hW => ⟨_, rfl, rfl, ht⟩) (fun q h => by cases h) dX0_stackSteps_74
set_option maxHeartbeats 4000000 in
set_option maxRecDepth 100000 in
/-- closedSteps(opening, between, closing) -/
theorem metX0_closedSteps (l : Launch) (dC : Nat → ClassId) (dI : Nat → Nat → Nat) (ad : Nat → Nat) (ca : Nat → ClassId) (S P : nw_F) (st en kn ln : Int32) (aw ay aa ao : nw_F) (pr : Nat → Nat → Int32) (hT : nw_TC S P pr) (k1 : Nat) (hk1 : k1 < 4) (y0 : Int32) (k2 : Nat) (hk2 : k2 < 4) : Met l yX0_closedSteps (ws_ yX0_closedSteps cX0_closedSteps 9 (some .int)) ({ frames := 2, cells := 0, slots := 0, locals := 47 }) (va_Pc [.ref (ad 0), .int (nI (k1)), .int (y0), .int (nI (k2))] (nw_XR dC dI (nw_xW ad ca (S) (P) (st) (en) (kn) (ln) (aw) (ay) (aa) (ao)) (nw_xT ca))) (vp_Si (fun r => r = nw_cl pr k1 y0 k2 3)) 0 0 (fun _ => False) := by
  refine Met.ofW (cc := cX0_closedSteps) (maxL := 9) (ret := (some .int)) (by decide) rfl ?_
  intro p e s m args below meth c s₁ B hml hv
  obtain ⟨rfl, hP, hK⟩ := hv
  have hx := B.exec
  have hb := B.bytes
  have hr := B.returns
  have hts := atoms_spec (ws := ws_ yX0_closedSteps cX0_closedSteps 9 (some .int)) B.pre
  have hts : ∀ w ∈ lw_all, w.before _ s = true := fun w h => hts w (List.mem_cons_of_mem _ h)
  have hown : s.vm.findClass RX0 = some m.cls := findClass_of_methodNamed B.named
  have hlocks := B.notSynchronized
  have hl := lv_entry ([.ref (ad 0), .int (nI (k1)), .int (y0), .int (nI (k2))]) (n := 9) (Nat.le_of_ble_eq_true rfl)
  rw [lg_entry_eq]
  generalize (lg_sl ([.ref (ad 0), .int (nI (k1)), .int (y0), .int (nI (k2))]) ++ List.replicate (9 - (lg_sl ([.ref (ad 0), .int (nI (k1)), .int (y0), .int (nI (k2))])).length) Slot.unset).toArray = ls at hl ⊢
  have hl : lv_has ls 9 [(0, .ref (ad 0)), (1, .int (nI (k1))), (2, .int (y0)), (3, .int (nI (k2)))] := hl
  refine lv_iconst (v := (nI (0))) hx hb dX0_closedSteps_0 (by decide) ?_
  refine lv_istore (lv' := [(4, .int (nI (0))), (0, .ref (ad 0)), (1, .int (nI (k1))), (2, .int (y0)), (3, .int (nI (k2)))]) hx hb dX0_closedSteps_1 hl (by decide) rfl (fun ls hl => ?_)
  refine lv_iconst (v := (nI (0))) hx hb dX0_closedSteps_3 (by decide) ?_
  refine lv_istore (lv' := [(5, .int (nI (0))), (4, .int (nI (0))), (0, .ref (ad 0)), (1, .int (nI (k1))), (2, .int (y0)), (3, .int (nI (k2)))]) hx hb dX0_closedSteps_4 hl (by decide) rfl (fun ls hl => ?_)
  refine nw_loop 6 (fun i ls => lv_has ls 9 [(0, .ref (ad 0)), (1, .int (nI (k1))), (2, .int (y0)), (3, .int (nI (k2))), (4, .int (nw_cl pr k1 y0 k2 (i))), (5, .int (nI (i)))]) 3 (lv_sub hl [2, 3, 4, 5, 1, 0] rfl) (fun i ls hi hl ih => ?_) (fun ls hl => ?_)
  · refine lv_iload hx hb dX0_closedSteps_6 (lv_at hl 5 rfl) ?_
    refine lv_iconst (v := (nI (3))) hx hb dX0_closedSteps_8 (by decide) ?_
    refine lv_icmp_ge (tgt := 60) hx hb dX0_closedSteps_9 (by decide) (fun h => absurd h (nI_ge hi (by decide))) (fun _ => ?_)
    refine lv_aload_n hx hb dX0_closedSteps_12 rfl (lv_at hl 0 rfl) ?_
    refine lv_iload_n hx hb dX0_closedSteps_13 rfl (lv_at hl 1 rfl) ?_
    refine lv_iconst (v := ((1 : Int32))) hx hb dX0_closedSteps_14 (by decide) ?_
    refine lv_iload hx hb dX0_closedSteps_15 (lv_at hl 5 rfl) ?_
    refine lv_ishl hx hb dX0_closedSteps_17 ?_
    refine vp_callSi (va_Run.run (va_runV (As := [.int (nI (k1)), .int (((1 : Int32)) <<< ((nI (i)) &&& 31))]) (rest := []) ⟨hx, hb, hml, hown, hts⟩ (metX0_stackSteps l dC dI ad ca S P st en kn ln aw ay aa ao k1 hk1 (((1 : Int32)) <<< ((nI (i)) &&& 31))) (cwV 2 hts (lw_V q91 q93 qs3 q12 q94) rfl rfl rfl (by decide +kernel) ⟨Nat.le_of_ble_eq_true rfl, Nat.le_of_ble_eq_true rfl⟩) ⟨fun a U g mk q => ⟨q.1, nw_blindR q.2⟩, va_recv hK hP (ci := 0) (q0 := 0) rfl rfl, fun U hU hW => ⟨rfl, by rw [hU]; exact hP, va_K.moved hW.alike hK⟩⟩ rfl rfl hl.1 rfl (lv_room (Nat.le_of_ble_eq_true rfl)) dX0_closedSteps_18 ⟨Nat.zero_le _, Nat.zero_le _⟩)) (fun r_ hr_ => ?_)
    refine nw_as (y := (pr k1 i)) (hr_.trans (hT.2.2.2 k1 i hk1 hi)) ?_
    refine lv_istore (lv' := [(6, .int (pr k1 i)), (0, .ref (ad 0)), (1, .int (nI (k1))), (2, .int (y0)), (3, .int (nI (k2))), (4, .int (nw_cl pr k1 y0 k2 (i))), (5, .int (nI (i)))]) hx hb dX0_closedSteps_21 hl (by decide) rfl (fun ls hl => ?_)
    refine lv_aload_n hx hb dX0_closedSteps_23 rfl (lv_at hl 1 rfl) ?_
    refine lv_iload_n hx hb dX0_closedSteps_24 rfl (lv_at hl 4 rfl) ?_
    refine lv_iconst (v := ((1 : Int32))) hx hb dX0_closedSteps_25 (by decide) ?_
    refine lv_iload hx hb dX0_closedSteps_26 (lv_at hl 6 rfl) ?_
    refine lv_ishl hx hb dX0_closedSteps_28 ?_
    refine vp_callSi (va_Run.run (va_runV (As := [.int (nI (k2)), .int (((1 : Int32)) <<< ((nI (i)) &&& 31))]) (rest := []) ⟨hx, hb, hml, hown, hts⟩ (metX0_stackSteps l dC dI ad ca S P st en kn ln aw ay aa ao k2 hk2 (((1 : Int32)) <<< ((nI (i)) &&& 31))) (cwV 2 hts (lw_V q91 q93 qs3 q12 q94) rfl rfl rfl (by decide +kernel) ⟨Nat.le_of_ble_eq_true rfl, Nat.le_of_ble_eq_true rfl⟩) ⟨fun a U g mk q => ⟨q.1, nw_blindR q.2⟩, va_recv hK hP (ci := 0) (q0 := 0) rfl rfl, fun U hU hW => ⟨rfl, by rw [hU]; exact hP, va_K.moved hW.alike hK⟩⟩ rfl rfl hl.1 rfl (lv_room (Nat.le_of_ble_eq_true rfl)) dX0_closedSteps_29 ⟨Nat.zero_le _, Nat.zero_le _⟩)) (fun r_ hr_ => ?_)
    refine nw_as (y := (pr k2 i)) (hr_.trans (hT.2.2.2 k2 i hk2 hi)) ?_
    refine lv_istore (lv' := [(7, .int (pr k2 i)), (6, .int (pr k1 i)), (0, .ref (ad 0)), (1, .int (nI (k1))), (2, .int (y0)), (3, .int (nI (k2))), (4, .int (nw_cl pr k1 y0 k2 (i))), (5, .int (nI (i)))]) hx hb dX0_closedSteps_32 hl (by decide) rfl (fun ls hl => ?_)
    refine lv_iload hx hb dX0_closedSteps_34 (lv_at hl 1 rfl) ?_
    refine lv_iload_n hx hb dX0_closedSteps_36 rfl (lv_at hl 4 rfl) ?_
    refine vp_callSi (va_Run.run (va_runS (As := [.int (pr k1 i), .int (y0)]) (rest := []) ⟨hx, hb, hml, hown, hts⟩ (metX0_join l (pr k1 i) (y0)) (va_cwS 2 hts (lw_S q85 q86 q12 q87) rfl rfl rfl (by decide +kernel) ⟨Nat.le_of_ble_eq_true rfl, Nat.le_of_ble_eq_true rfl⟩) ⟨fun a U g mk q => q, fun U hU hW => ⟨rfl, trivial⟩⟩ rfl rfl hl.1 rfl (lv_room (Nat.le_of_ble_eq_true rfl)) dX0_closedSteps_37 ⟨Nat.zero_le _, Nat.zero_le _⟩)) (fun r_ hr_ => ?_)
    refine nw_as (y := (nw_jn (pr k1 i) (y0) 5)) (hr_) ?_
    refine lv_istore (lv' := [(8, .int (nw_jn (pr k1 i) (y0) 5)), (7, .int (pr k2 i)), (6, .int (pr k1 i)), (0, .ref (ad 0)), (1, .int (nI (k1))), (2, .int (y0)), (3, .int (nI (k2))), (4, .int (nw_cl pr k1 y0 k2 (i))), (5, .int (nI (i)))]) hx hb dX0_closedSteps_40 hl (by decide) rfl (fun ls hl => ?_)
    refine lv_iload hx hb dX0_closedSteps_42 (lv_at hl 7 rfl) ?_
    refine lv_iload hx hb dX0_closedSteps_44 (lv_at hl 0 rfl) ?_
    refine lv_iload hx hb dX0_closedSteps_46 (lv_at hl 1 rfl) ?_
    refine vp_callSi (va_Run.run (va_runS (As := [.int (nw_jn (pr k1 i) (y0) 5), .int (pr k2 i)]) (rest := [.int (nw_cl pr k1 y0 k2 (i))]) ⟨hx, hb, hml, hown, hts⟩ (metX0_join l (nw_jn (pr k1 i) (y0) 5) (pr k2 i)) (va_cwS 2 hts (lw_S q85 q86 q12 q87) rfl rfl rfl (by decide +kernel) ⟨Nat.le_of_ble_eq_true rfl, Nat.le_of_ble_eq_true rfl⟩) ⟨fun a U g mk q => q, fun U hU hW => ⟨rfl, trivial⟩⟩ rfl rfl hl.1 rfl (lv_room (Nat.le_of_ble_eq_true rfl)) dX0_closedSteps_48 ⟨Nat.zero_le _, Nat.zero_le _⟩)) (fun r_ hr_ => ?_)
    refine nw_as (y := (nw_jn (nw_jn (pr k1 i) (y0) 5) (pr k2 i) 5)) (hr_) ?_
    refine lv_ior hx hb dX0_closedSteps_51 ?_
    refine nw_as (y := (nw_cl pr k1 y0 k2 (i + 1))) (nw_cl_s pr k1 y0 k2 i) ?_
    refine lv_istore (lv' := [(4, .int (nw_cl pr k1 y0 k2 (i + 1))), (8, .int (nw_jn (pr k1 i) (y0) 5)), (7, .int (pr k2 i)), (6, .int (pr k1 i)), (0, .ref (ad 0)), (1, .int (nI (k1))), (2, .int (y0)), (3, .int (nI (k2))), (5, .int (nI (i)))]) hx hb dX0_closedSteps_52 hl (by decide) rfl (fun ls hl => ?_)
    refine lv_iinc (v := (nI (i + 1))) (lv' := [(5, .int (nI (i + 1))), (4, .int (nw_cl pr k1 y0 k2 (i + 1))), (8, .int (nw_jn (pr k1 i) (y0) 5)), (7, .int (pr k2 i)), (6, .int (pr k1 i)), (0, .ref (ad 0)), (1, .int (nI (k1))), (2, .int (y0)), (3, .int (nI (k2)))]) hx hb dX0_closedSteps_54 hl (k := 8) rfl (nw_inc (i)) (by decide) rfl (fun ls hl => ?_)
    refine lv_goto (tgt := 6) hx hb dX0_closedSteps_57 (by decide) ?_
    exact ih _ (lv_sub hl [5, 6, 7, 8, 1, 0] rfl)
  · refine lv_iload hx hb dX0_closedSteps_6 (lv_at hl 5 rfl) ?_
    refine lv_iconst (v := (nI (3))) hx hb dX0_closedSteps_8 (by decide) ?_
    refine lv_icmp_ge (tgt := 60) hx hb dX0_closedSteps_9 (by decide) (fun _ => ?_) (fun h => absurd (nI_le (Nat.le_refl 3) (by decide)) h)
    refine lv_iload hx hb dX0_closedSteps_60 (lv_at hl 4 rfl) ?_
    exact W.iret hx hb hr (fun t ht hW => ⟨_, rfl, rfl, ht⟩) (fun q h => by cases h) dX0_closedSteps_62
set_option maxHeartbeats 4000000 in
set_option maxRecDepth 100000 in
/-- pairs(letter, mark) -/
theorem metX1_pairs (l : Launch) (dC : Nat → ClassId) (dI : Nat → Nat → Nat) (ad : Nat → Nat) (ca : Nat → ClassId) (M sa ea : nw_F) (ln : Int32) (aw pt ld wt : nw_F) (k : Nat) (hk : k < 6) (mk : Nat) (hm : mk < 4) : Met l yX1_pairs (ws_ yX1_pairs cX1_pairs 5 (some .int)) ({ frames := 0, cells := 0, slots := 0, locals := 0 }) (va_Pc [.ref (ad 0), .int (nI (k)), .int (nI (mk))] (nw_XR dC dI (nw_yW ad ca (M) (sa) (ea) (ln) (aw) (pt) (ld) (wt)) (nw_yT ca))) (vp_Si (fun r => r = nw_pp M k mk)) 0 0 (fun _ => False) := by
  refine Met.ofW (cc := cX1_pairs) (maxL := 5) (ret := (some .int)) (by decide) rfl ?_
  intro p e s m args below meth c s₁ B hml hv
  obtain ⟨rfl, hP, hK⟩ := hv
  have hx := B.exec
  have hb := B.bytes
  have hr := B.returns
  have hts := atoms_spec (ws := ws_ yX1_pairs cX1_pairs 5 (some .int)) B.pre
  have hts : ∀ w ∈ lw_all, w.before _ s = true := fun w h => hts w (List.mem_cons_of_mem _ h)
  have hown : s.vm.findClass RX1 = some m.cls := findClass_of_methodNamed B.named
  have hlocks := B.notSynchronized
  have hl := lv_entry ([.ref (ad 0), .int (nI (k)), .int (nI (mk))]) (n := 5) (Nat.le_of_ble_eq_true rfl)
  rw [lg_entry_eq]
  generalize (lg_sl ([.ref (ad 0), .int (nI (k)), .int (nI (mk))]) ++ List.replicate (5 - (lg_sl ([.ref (ad 0), .int (nI (k)), .int (nI (mk))])).length) Slot.unset).toArray = ls at hl ⊢
  have hl : lv_has ls 5 [(0, .ref (ad 0)), (1, .int (nI (k))), (2, .int (nI (mk)))] := hl
  refine lv_iconst (v := (nI (0))) hx hb dX1_pairs_0 (by decide) ?_
  refine lv_istore_n (lv' := [(3, .int (nI (0))), (0, .ref (ad 0)), (1, .int (nI (k))), (2, .int (nI (mk)))]) hx hb dX1_pairs_1 rfl hl (by decide) rfl (fun ls hl => ?_)
  refine lv_iconst (v := (nI (0))) hx hb dX1_pairs_2 (by decide) ?_
  refine lv_istore (lv' := [(4, .int (nI (0))), (3, .int (nI (0))), (0, .ref (ad 0)), (1, .int (nI (k))), (2, .int (nI (mk)))]) hx hb dX1_pairs_3 hl (by decide) rfl (fun ls hl => ?_)
  refine nw_loop 5 (fun i ls => lv_has ls 5 [(0, .ref (ad 0)), (1, .int (nI (k))), (2, .int (nI (mk))), (3, .int (nw_pr M k mk (i))), (4, .int (nI (i)))]) 25 (lv_sub hl [2, 3, 4, 1, 0] rfl) (fun i ls hi hl ih => ?_) (fun ls hl => ?_)
  · refine lv_iload hx hb dX1_pairs_5 (lv_at hl 4 rfl) ?_
    refine lv_bipush (v := (nI (25))) hx hb dX1_pairs_7 (by decide) ?_
    refine lv_icmp_ge (tgt := 54) hx hb dX1_pairs_9 (by decide) (fun h => absurd h (nI_ge hi (by decide))) (fun _ => ?_)
    refine lv_aload_n hx hb dX1_pairs_12 rfl (lv_at hl 0 rfl) ?_
    refine va_get (D := (dC, dI)) (ci := 1) (v := .ref (ad 1)) (C := RX1) (T := TX1) (N := 8) hx hb hts in_X1 hown hK hP 0 rfl rfl 0 (by decide) (hts _ q136) (fun _ h9 => h9) rfl dX1_pairs_13 ?_
    refine lv_bipush (v := (nI (120))) hx hb dX1_pairs_16 (by decide) ?_
    refine lv_iload hx hb dX1_pairs_18 (lv_at hl 4 rfl) ?_
    refine lv_iconst (v := (nI (5))) hx hb dX1_pairs_20 (by decide) ?_
    refine lv_idiv hx hb dX1_pairs_21 (by decide) ?_
    refine nw_as (y := (nI (i / 5))) (pk_div (a := i) (d := 5) (by omega) (by omega) (by omega)) ?_
    refine lv_imul hx hb dX1_pairs_22 ?_
    refine nw_as (y := (nI (120 * (i / 5)))) (pk_mul (120) (i / 5)) ?_
    refine lv_bipush (v := (nI (20))) hx hb dX1_pairs_23 (by decide) ?_
    refine lv_iload_n hx hb dX1_pairs_25 rfl (lv_at hl 1 rfl) ?_
    refine lv_imul hx hb dX1_pairs_26 ?_
    refine nw_as (y := (nI (20 * k))) (pk_mul (20) (k)) ?_
    refine lv_iadd hx hb dX1_pairs_27 ?_
    refine nw_as (y := (nI ((120 * (i / 5)) + (20 * k)))) (nI_add (120 * (i / 5)) (20 * k)) ?_
    refine lv_iconst (v := (nI (4))) hx hb dX1_pairs_28 (by decide) ?_
    refine lv_iload hx hb dX1_pairs_29 (lv_at hl 4 rfl) ?_
    refine lv_iconst (v := (nI (5))) hx hb dX1_pairs_31 (by decide) ?_
    refine lv_irem hx hb dX1_pairs_32 (by decide) ?_
    refine nw_as (y := (nI (i % 5))) (pk_rem (a := i) (d := 5) (by omega) (by omega) (by omega)) ?_
    refine lv_imul hx hb dX1_pairs_33 ?_
    refine nw_as (y := (nI (4 * (i % 5)))) (pk_mul (4) (i % 5)) ?_
    refine lv_iadd hx hb dX1_pairs_34 ?_
    refine nw_as (y := (nI (((120 * (i / 5)) + (20 * k)) + (4 * (i % 5))))) (nI_add ((120 * (i / 5)) + (20 * k)) (4 * (i % 5))) ?_
    refine lv_iload_n hx hb dX1_pairs_35 rfl (lv_at hl 2 rfl) ?_
    refine lv_iadd hx hb dX1_pairs_36 ?_
    refine nw_as (y := (nI ((((120 * (i / 5)) + (20 * k)) + (4 * (i % 5))) + mk))) (nI_add (((120 * (i / 5)) + (20 * k)) + (4 * (i % 5))) (mk)) ?_
    refine nw_zald hx hb hK hP 1 0 rfl rfl (j := (((120 * (i / 5)) + (20 * k)) + (4 * (i % 5))) + mk) (by omega) (by decide) dX1_pairs_37 ?_
    refine lv_if_eq (tgt := 48) hx hb dX1_pairs_38 (by decide) (fun hc => ?_) (fun hc => ?_)
    · rw [nw_pr_z hc] at hl
      -- next
      refine lv_iinc (v := (nI (i + 1))) (lv' := [(4, .int (nI (i + 1))), (0, .ref (ad 0)), (1, .int (nI (k))), (2, .int (nI (mk))), (3, .int (nw_pr M k mk (i + 1)))]) hx hb dX1_pairs_48 hl (k := 4) rfl (nw_inc (i)) (by decide) rfl (fun ls hl => ?_)
      refine lv_goto (tgt := 5) hx hb dX1_pairs_51 (by decide) ?_
      exact ih _ (lv_sub hl [1, 2, 3, 4, 0] rfl)
    · refine lv_iload_n hx hb dX1_pairs_41 rfl (lv_at hl 3 rfl) ?_
      refine lv_iconst (v := ((1 : Int32))) hx hb dX1_pairs_42 (by decide) ?_
      refine lv_iload hx hb dX1_pairs_43 (lv_at hl 4 rfl) ?_
      refine lv_ishl hx hb dX1_pairs_45 ?_
      refine lv_ior hx hb dX1_pairs_46 ?_
      refine nw_as (y := (nw_pr M k mk (i + 1))) (nw_pr_n hc) ?_
      refine lv_istore_n (lv' := [(3, .int (nw_pr M k mk (i + 1))), (0, .ref (ad 0)), (1, .int (nI (k))), (2, .int (nI (mk))), (4, .int (nI (i)))]) hx hb dX1_pairs_47 rfl hl (by decide) rfl (fun ls hl => ?_)
      refine lv_iinc (v := (nI (i + 1))) (lv' := [(4, .int (nI (i + 1))), (3, .int (nw_pr M k mk (i + 1))), (0, .ref (ad 0)), (1, .int (nI (k))), (2, .int (nI (mk)))]) hx hb dX1_pairs_48 hl (k := 4) rfl (nw_inc (i)) (by decide) rfl (fun ls hl => ?_)
      refine lv_goto (tgt := 5) hx hb dX1_pairs_51 (by decide) ?_
      exact ih _ (lv_sub hl [2, 3, 4, 1, 0] rfl)
  · refine lv_iload hx hb dX1_pairs_5 (lv_at hl 4 rfl) ?_
    refine lv_bipush (v := (nI (25))) hx hb dX1_pairs_7 (by decide) ?_
    refine lv_icmp_ge (tgt := 54) hx hb dX1_pairs_9 (by decide) (fun _ => ?_) (fun h => absurd (nI_le (Nat.le_refl 25) (by decide)) h)
    refine lv_iload_n hx hb dX1_pairs_54 rfl (lv_at hl 3 rfl) ?_
    exact W.iret hx hb hr (fun t ht hW => ⟨_, rfl, rfl, ht⟩) (fun q h => by cases h) dX1_pairs_55
set_option maxHeartbeats 4000000 in
set_option maxRecDepth 100000 in
/-- endsOf() -/
theorem metX1_endsOf (l : Launch) (dC : Nat → ClassId) (dI : Nat → Nat → Nat) (ad : Nat → Nat) (ca : Nat → ClassId) (M sa ea : nw_F) (ln : Int32) (aw pt ld wt : nw_F)  : Met l yX1_endsOf (ws_ yX1_endsOf cX1_endsOf 3 (some .int)) ({ frames := 0, cells := 0, slots := 0, locals := 0 }) (va_Pc [.ref (ad 0)] (nw_XR dC dI (nw_yW ad ca (M) (sa) (ea) (ln) (aw) (pt) (ld) (wt)) (nw_yT ca))) (vp_Si (fun r => r = nw_pl ea 0 5)) 0 0 (fun _ => False) := by
  refine Met.ofW (cc := cX1_endsOf) (maxL := 3) (ret := (some .int)) (by decide) rfl ?_
  intro p e s m args below meth c s₁ B hml hv
  obtain ⟨rfl, hP, hK⟩ := hv
  have hx := B.exec
  have hb := B.bytes
  have hr := B.returns
  have hts := atoms_spec (ws := ws_ yX1_endsOf cX1_endsOf 3 (some .int)) B.pre
  have hts : ∀ w ∈ lw_all, w.before _ s = true := fun w h => hts w (List.mem_cons_of_mem _ h)
  have hown : s.vm.findClass RX1 = some m.cls := findClass_of_methodNamed B.named
  have hlocks := B.notSynchronized
  have hl := lv_entry ([.ref (ad 0)]) (n := 3) (Nat.le_of_ble_eq_true rfl)
  rw [lg_entry_eq]
  generalize (lg_sl ([.ref (ad 0)]) ++ List.replicate (3 - (lg_sl ([.ref (ad 0)])).length) Slot.unset).toArray = ls at hl ⊢
  have hl : lv_has ls 3 [(0, .ref (ad 0))] := hl
  refine lv_iconst (v := (nI (0))) hx hb dX1_endsOf_0 (by decide) ?_
  refine lv_istore_n (lv' := [(1, .int (nI (0))), (0, .ref (ad 0))]) hx hb dX1_endsOf_1 rfl hl (by decide) rfl (fun ls hl => ?_)
  refine lv_iconst (v := (nI (0))) hx hb dX1_endsOf_2 (by decide) ?_
  refine lv_istore_n (lv' := [(2, .int (nI (0))), (1, .int (nI (0))), (0, .ref (ad 0))]) hx hb dX1_endsOf_3 rfl hl (by decide) rfl (fun ls hl => ?_)
  refine nw_loop 4 (fun i ls => lv_has ls 3 [(0, .ref (ad 0)), (1, .int (nw_pl ea 0 (i))), (2, .int (nI (i)))]) 5 (lv_sub hl [2, 1, 0] rfl) (fun i ls hi hl ih => ?_) (fun ls hl => ?_)
  · refine lv_iload_n hx hb dX1_endsOf_4 rfl (lv_at hl 2 rfl) ?_
    refine lv_iconst (v := (nI (5))) hx hb dX1_endsOf_5 (by decide) ?_
    refine lv_icmp_ge (tgt := 34) hx hb dX1_endsOf_6 (by decide) (fun h => absurd h (nI_ge hi (by decide))) (fun _ => ?_)
    refine lv_iload_n hx hb dX1_endsOf_9 rfl (lv_at hl 1 rfl) ?_
    refine lv_aload_n hx hb dX1_endsOf_10 rfl (lv_at hl 0 rfl) ?_
    refine va_get (D := (dC, dI)) (ci := 1) (v := .ref (ad 3)) (C := RX1) (T := TX1) (N := 8) hx hb hts in_X1 hown hK hP 0 rfl rfl 2 (by decide) (hts _ q138) (fun _ h9 => h9) rfl dX1_endsOf_11 ?_
    refine lv_iload_n hx hb dX1_endsOf_14 rfl (lv_at hl 2 rfl) ?_
    refine nw_zald hx hb hK hP 3 2 rfl rfl (j := i) (by omega) (by decide) dX1_endsOf_15 ?_
    refine lv_if_eq (tgt := 25) hx hb dX1_endsOf_16 (by decide) (fun hc => ?_) (fun hc => ?_)
    · refine lv_iconst (v := ((0 : Int32))) hx hb dX1_endsOf_25 (by decide) ?_
      refine lv_ior hx hb dX1_endsOf_26 ?_
      refine nw_as (y := (nw_pl ea 0 (i + 1))) (nw_pl_z (by rw [Nat.zero_add]; exact hc)) ?_
      refine lv_istore_n (lv' := [(1, .int (nw_pl ea 0 (i + 1))), (0, .ref (ad 0)), (2, .int (nI (i)))]) hx hb dX1_endsOf_27 rfl hl (by decide) rfl (fun ls hl => ?_)
      refine lv_iinc (v := (nI (i + 1))) (lv' := [(2, .int (nI (i + 1))), (1, .int (nw_pl ea 0 (i + 1))), (0, .ref (ad 0))]) hx hb dX1_endsOf_28 hl (k := 2) rfl (nw_inc (i)) (by decide) rfl (fun ls hl => ?_)
      refine lv_goto (tgt := 4) hx hb dX1_endsOf_31 (by decide) ?_
      exact ih _ (lv_sub hl [2, 1, 0] rfl)
    · refine lv_iconst (v := ((1 : Int32))) hx hb dX1_endsOf_19 (by decide) ?_
      refine lv_iload_n hx hb dX1_endsOf_20 rfl (lv_at hl 2 rfl) ?_
      refine lv_ishl hx hb dX1_endsOf_21 ?_
      refine lv_goto (tgt := 26) hx hb dX1_endsOf_22 (by decide) ?_
      refine lv_ior hx hb dX1_endsOf_26 ?_
      refine nw_as (y := (nw_pl ea 0 (i + 1))) (nw_pl_n (by rw [Nat.zero_add]; exact hc)) ?_
      refine lv_istore_n (lv' := [(1, .int (nw_pl ea 0 (i + 1))), (0, .ref (ad 0)), (2, .int (nI (i)))]) hx hb dX1_endsOf_27 rfl hl (by decide) rfl (fun ls hl => ?_)
      refine lv_iinc (v := (nI (i + 1))) (lv' := [(2, .int (nI (i + 1))), (1, .int (nw_pl ea 0 (i + 1))), (0, .ref (ad 0))]) hx hb dX1_endsOf_28 hl (k := 2) rfl (nw_inc (i)) (by decide) rfl (fun ls hl => ?_)
      refine lv_goto (tgt := 4) hx hb dX1_endsOf_31 (by decide) ?_
      exact ih _ (lv_sub hl [2, 1, 0] rfl)
  · refine lv_iload_n hx hb dX1_endsOf_4 rfl (lv_at hl 2 rfl) ?_
    refine lv_iconst (v := (nI (5))) hx hb dX1_endsOf_5 (by decide) ?_
    refine lv_icmp_ge (tgt := 34) hx hb dX1_endsOf_6 (by decide) (fun _ => ?_) (fun h => absurd (nI_le (Nat.le_refl 5) (by decide)) h)
    refine lv_iload_n hx hb dX1_endsOf_34 rfl (lv_at hl 1 rfl) ?_
    exact W.iret hx hb hr (fun t ht hW => ⟨_, rfl, rfl, ht⟩) (fun q h => by cases h) dX1_endsOf_35
end
section
/-! WALKS 3: the reference: between, piece -/
set_option maxHeartbeats 4000000 in
set_option maxRecDepth 100000 in
/-- between(from, to) -/
theorem metX1_between (l : Launch) (dC : Nat → ClassId) (dI : Nat → Nat → Nat) (ad : Nat → Nat) (ca : Nat → ClassId) (M sa ea : nw_F) (ln : Int32) (aw pt ld wt : nw_F) (s0 : Int32) (w : Nat → Nat) (n : Nat) (hn : n ≤ 20) (hw : ∀ k, k < n → aw k = nI (w k)) (h6 : ∀ k, k < n → w k < 6) (hpt : nw_PT w n pt) (f t : Nat) (ht : t < n) (hs : nw_sp w t = f :: nw_sp w f) (hld : nw_LD (nw_pp M) s0 w t ld) : Met l yX1_between (ws_ yX1_between cX1_between 6 (some .int)) ({ frames := 1, cells := 0, slots := 0, locals := 26 }) (va_Pc [.ref (ad 0), .int (nI (f)), .int (nI (t))] (nw_XR dC dI (nw_yW ad ca (M) (sa) (ea) (ln) (aw) (pt) (ld) (wt)) (nw_yT ca))) (vp_Si (fun r => r = (nw_rn (nw_pp M) s0 w t).1)) 0 0 (fun _ => False) := by
  refine Met.ofW (cc := cX1_between) (maxL := 6) (ret := (some .int)) (by decide) rfl ?_
  intro p e s m args below meth c s₁ B hml hv
  obtain ⟨rfl, hP, hK⟩ := hv
  have hx := B.exec
  have hb := B.bytes
  have hr := B.returns
  have hts := atoms_spec (ws := ws_ yX1_between cX1_between 6 (some .int)) B.pre
  have hts : ∀ w ∈ lw_all, w.before _ s = true := fun w h => hts w (List.mem_cons_of_mem _ h)
  have hown : s.vm.findClass RX1 = some m.cls := findClass_of_methodNamed B.named
  have hlocks := B.notSynchronized
  have hl := lv_entry ([.ref (ad 0), .int (nI (f)), .int (nI (t))]) (n := 6) (Nat.le_of_ble_eq_true rfl)
  rw [lg_entry_eq]
  generalize (lg_sl ([.ref (ad 0), .int (nI (f)), .int (nI (t))]) ++ List.replicate (6 - (lg_sl ([.ref (ad 0), .int (nI (f)), .int (nI (t))])).length) Slot.unset).toArray = ls at hl ⊢
  have hl : lv_has ls 6 [(0, .ref (ad 0)), (1, .int (nI (f))), (2, .int (nI (t)))] := hl
  obtain ⟨hft, hf2, -⟩ := nw_sp_top hs
  refine lv_ldc (v := 17043521) hx hb hown (hts _ q192) dX1_between_0 ?_
  refine lv_istore_n (lv' := [(3, .int (17043521)), (0, .ref (ad 0)), (1, .int (nI (f))), (2, .int (nI (t)))]) hx hb dX1_between_2 rfl hl (by decide) rfl (fun ls hl => ?_)
  refine lv_iload_n hx hb dX1_between_3 rfl (lv_at hl 2 rfl) ?_
  refine lv_iconst (v := (nI (1))) hx hb dX1_between_4 (by decide) ?_
  refine lv_iadd hx hb dX1_between_5 ?_
  refine nw_as (y := (nI (f + 1))) (nI_add (f) (1)) ?_
  refine lv_istore (lv' := [(4, .int (nI (f + 1))), (3, .int (17043521)), (0, .ref (ad 0)), (1, .int (nI (f))), (2, .int (nI (t)))]) hx hb dX1_between_6 hl (by decide) rfl (fun ls hl => ?_)
  refine nw_leap 8 (fun i ls => (f < i ∧ nw_sp w i = f :: nw_sp w f) ∧ lv_has ls 6 [(0, .ref (ad 0)), (1, .int (nI (f))), (2, .int (nI (t))), (3, .int ((nw_rn (nw_pp M) s0 w (i)).1)), (4, .int (nI (i)))]) (t) (i0 := f + 1) (⟨⟨by omega, nw_sp_o hf2⟩, by rw [nw_rn_o hf2]; exact lv_sub hl [2, 3, 4, 1, 0] rfl⟩) (by omega) (fun i ls hi hI ih => ?_) (fun ls hI => ?_)
  · obtain ⟨hX, hl⟩ := hI
    have h6i := h6 i (by omega)
    refine lv_iload hx hb dX1_between_8 (lv_at hl 4 rfl) ?_
    refine lv_iload_n hx hb dX1_between_10 rfl (lv_at hl 2 rfl) ?_
    refine lv_icmp_ge (tgt := 87) hx hb dX1_between_11 (by decide) (fun h => absurd h (nI_ge hi (by omega))) (fun _ => ?_)
    refine lv_aload_n hx hb dX1_between_14 rfl (lv_at hl 0 rfl) ?_
    refine va_get (D := (dC, dI)) (ci := 1) (v := .ref (ad 4)) (C := RX1) (T := TX1) (N := 8) hx hb hts in_X1 hown hK hP 0 rfl rfl 4 (by decide) (hts _ q140) (fun _ h9 => h9) rfl dX1_between_15 ?_
    refine lv_iload hx hb dX1_between_18 (lv_at hl 4 rfl) ?_
    refine nw_iald hx hb hK hP 4 3 rfl rfl (j := i) (by omega) (by decide) dX1_between_20 ?_
    refine nw_as (y := (nI (w i))) (hw i (by omega)) ?_
    refine lv_iconst (v := (nI (4))) hx hb dX1_between_21 (by decide) ?_
    refine lv_icmp_lt (tgt := 40) hx hb dX1_between_22 (by decide) (fun hc => ?_) (fun hc => ?_)
    · have h4 : w i < 4 := (nI_ltI (by omega) (by decide)).mp hc
      have h2 : w i < 2 := Nat.lt_of_not_le (fun h => nw_in_c hX.2 hs hi (by omega) h4)
      obtain ⟨r, r1, r2, r3, r4, r5⟩ := nw_in_o (hX.2.trans hs.symm) hi h2
      have hpr : pt i = nI r := (hpt.1 r i _ (by omega) r4 r5 r3).2
      refine lv_aload_n hx hb dX1_between_40 rfl (lv_at hl 0 rfl) ?_
      refine va_get (D := (dC, dI)) (ci := 1) (v := .ref (ad 6)) (C := RX1) (T := TX1) (N := 8) hx hb hts in_X1 hown hK hP 0 rfl rfl 6 (by decide) (hts _ q142) (fun _ h9 => h9) rfl dX1_between_41 ?_
      refine lv_aload_n hx hb dX1_between_44 rfl (lv_at hl 0 rfl) ?_
      refine va_get (D := (dC, dI)) (ci := 1) (v := .ref (ad 5)) (C := RX1) (T := TX1) (N := 8) hx hb hts in_X1 hown hK hP 0 rfl rfl 5 (by decide) (hts _ q141) (fun _ h9 => h9) rfl dX1_between_45 ?_
      refine lv_iload hx hb dX1_between_48 (lv_at hl 4 rfl) ?_
      refine nw_iald hx hb hK hP 5 4 rfl rfl (j := i) (by omega) (by decide) dX1_between_50 ?_
      refine nw_as (y := (nI (r))) (hpr) ?_
      refine nw_iald hx hb hK hP 6 5 rfl rfl (j := r) (by omega) (by decide) dX1_between_51 ?_
      refine nw_as (y := (nw_cl (nw_pp M) (w i) (nw_rn (nw_pp M) s0 w r).1 (w r) 3)) (hld r i _ r2 r4 r5 r3) ?_
      refine lv_istore (lv' := [(5, .int (nw_cl (nw_pp M) (w i) (nw_rn (nw_pp M) s0 w r).1 (w r) 3)), (0, .ref (ad 0)), (1, .int (nI (f))), (2, .int (nI (t))), (3, .int ((nw_rn (nw_pp M) s0 w (i)).1)), (4, .int (nI (i)))]) hx hb dX1_between_52 hl (by decide) rfl (fun ls hl => ?_)
      refine lv_iload_n hx hb dX1_between_54 rfl (lv_at hl 4 rfl) ?_
      refine lv_iload hx hb dX1_between_55 (lv_at hl 0 rfl) ?_
      refine vp_callSi (va_Run.run (va_runS (As := [.int ((nw_rn (nw_pp M) s0 w (i)).1), .int (nw_cl (nw_pp M) (w i) (nw_rn (nw_pp M) s0 w r).1 (w r) 3)]) (rest := []) ⟨hx, hb, hml, hown, hts⟩ (metX1_then l ((nw_rn (nw_pp M) s0 w (i)).1) (nw_cl (nw_pp M) (w i) (nw_rn (nw_pp M) s0 w r).1 (w r) 3)) (va_cwS 2 hts (lw_S q197 q198 q13 q199) rfl rfl rfl (by decide +kernel) ⟨Nat.le_of_ble_eq_true rfl, Nat.le_of_ble_eq_true rfl⟩) ⟨fun a U g mk q => q, fun U hU hW => ⟨rfl, trivial⟩⟩ rfl rfl hl.1 rfl (lv_room (Nat.le_of_ble_eq_true rfl)) dX1_between_57 ⟨Nat.zero_le _, Nat.zero_le _⟩)) (fun r_ hr_ => ?_)
      refine nw_as (y := (nw_jn ((nw_rn (nw_pp M) s0 w (i)).1) (nw_cl (nw_pp M) (w i) (nw_rn (nw_pp M) s0 w r).1 (w r) 3) 5)) (hr_) ?_
      refine nw_as (y := ((nw_rn (nw_pp M) s0 w (r + 1)).1)) (by rw [nw_rn_m r3 r4 r5]) ?_
      refine lv_istore_n (lv' := [(3, .int ((nw_rn (nw_pp M) s0 w (r + 1)).1)), (5, .int (nw_cl (nw_pp M) (w i) (nw_rn (nw_pp M) s0 w r).1 (w r) 3)), (0, .ref (ad 0)), (1, .int (nI (f))), (2, .int (nI (t))), (4, .int (nI (i)))]) hx hb dX1_between_60 rfl hl (by decide) rfl (fun ls hl => ?_)
      refine lv_aload_n hx hb dX1_between_61 rfl (lv_at hl 2 rfl) ?_
      refine va_get (D := (dC, dI)) (ci := 1) (v := .ref (ad 4)) (C := RX1) (T := TX1) (N := 8) hx hb hts in_X1 hown hK hP 0 rfl rfl 4 (by decide) (hts _ q140) (fun _ h9 => h9) rfl dX1_between_62 ?_
      refine lv_iload hx hb dX1_between_65 (lv_at hl 5 rfl) ?_
      refine nw_iald hx hb hK hP 4 3 rfl rfl (j := i) (by omega) (by decide) dX1_between_67 ?_
      refine nw_as (y := (nI (w i))) (hw i (by omega)) ?_
      refine lv_iconst (v := (nI (1))) hx hb dX1_between_68 (by decide) ?_
      refine lv_icmp_gt (tgt := 81) hx hb dX1_between_69 (by decide) (fun h => absurd h (nI_nlt (by omega) (by decide))) (fun _ => ?_)
      refine lv_aload_n hx hb dX1_between_72 rfl (lv_at hl 2 rfl) ?_
      refine va_get (D := (dC, dI)) (ci := 1) (v := .ref (ad 5)) (C := RX1) (T := TX1) (N := 8) hx hb hts in_X1 hown hK hP 0 rfl rfl 5 (by decide) (hts _ q141) (fun _ h9 => h9) rfl dX1_between_73 ?_
      refine lv_iload hx hb dX1_between_76 (lv_at hl 5 rfl) ?_
      refine nw_iald hx hb hK hP 5 4 rfl rfl (j := i) (by omega) (by decide) dX1_between_78 ?_
      refine nw_as (y := (nI (r))) (hpr) ?_
      refine lv_istore (lv' := [(4, .int (nI (r))), (3, .int ((nw_rn (nw_pp M) s0 w (r + 1)).1)), (5, .int (nw_cl (nw_pp M) (w i) (nw_rn (nw_pp M) s0 w r).1 (w r) 3)), (0, .ref (ad 0)), (1, .int (nI (f))), (2, .int (nI (t)))]) hx hb dX1_between_79 hl (by decide) rfl (fun ls hl => ?_)
      refine lv_iinc (v := (nI (r + 1))) (lv' := [(4, .int (nI (r + 1))), (3, .int ((nw_rn (nw_pp M) s0 w (r + 1)).1)), (5, .int (nw_cl (nw_pp M) (w i) (nw_rn (nw_pp M) s0 w r).1 (w r) 3)), (0, .ref (ad 0)), (1, .int (nI (f))), (2, .int (nI (t)))]) hx hb dX1_between_81 hl (k := 0) rfl (nw_inc (r)) (by decide) rfl (fun ls hl => ?_)
      refine lv_goto (tgt := 8) hx hb dX1_between_84 (by decide) ?_
      exact ih (r + 1) _ (by omega) (by omega) ⟨⟨by omega, by rw [nw_sp_c r4 r5, r3]; exact hX.2⟩, lv_sub hl [3, 4, 5, 1, 0] rfl⟩
    · have h4 : ¬ w i < 4 := fun h => hc ((nI_ltI (by omega) (by decide)).mpr h)
      refine lv_aload_n hx hb dX1_between_25 rfl (lv_at hl 0 rfl) ?_
      refine lv_aload_n hx hb dX1_between_26 rfl (lv_at hl 0 rfl) ?_
      refine va_get (D := (dC, dI)) (ci := 1) (v := .ref (ad 4)) (C := RX1) (T := TX1) (N := 8) hx hb hts in_X1 hown hK hP 0 rfl rfl 4 (by decide) (hts _ q140) (fun _ h9 => h9) rfl dX1_between_27 ?_
      refine lv_iload hx hb dX1_between_30 (lv_at hl 4 rfl) ?_
      refine nw_iald hx hb hK hP 4 3 rfl rfl (j := i) (by omega) (by decide) dX1_between_32 ?_
      refine nw_as (y := (nI (w i))) (hw i (by omega)) ?_
      refine lv_iconst (v := (nI (0))) hx hb dX1_between_33 (by decide) ?_
      refine vp_callSi (va_Run.run (va_runV (As := [.int (nI (w i)), .int (nI (0))]) (rest := []) ⟨hx, hb, hml, hown, hts⟩ (metX1_pairs l dC dI ad ca M sa ea ln aw pt ld wt (w i) (h6i) (0) (by decide)) (cwV 2 hts (lw_V q193 q195 qs9 q13 q196) rfl rfl rfl (by decide +kernel) ⟨Nat.le_of_ble_eq_true rfl, Nat.le_of_ble_eq_true rfl⟩) ⟨fun a U g mk q => ⟨q.1, nw_blindR q.2⟩, va_recv hK hP (ci := 1) (q0 := 0) rfl rfl, fun U hU hW => ⟨rfl, by rw [hU]; exact hP, va_K.moved hW.alike hK⟩⟩ rfl rfl hl.1 rfl (lv_room (Nat.le_of_ble_eq_true rfl)) dX1_between_34 ⟨Nat.zero_le _, Nat.zero_le _⟩)) (fun r_ hr_ => ?_)
      refine nw_as (y := (nw_pp M (w i) (0))) (hr_) ?_
      refine lv_goto (tgt := 52) hx hb dX1_between_37 (by decide) ?_
      refine lv_istore (lv' := [(5, .int (nw_pp M (w i) (0))), (0, .ref (ad 0)), (1, .int (nI (f))), (2, .int (nI (t))), (3, .int ((nw_rn (nw_pp M) s0 w (i)).1)), (4, .int (nI (i)))]) hx hb dX1_between_52 hl (by decide) rfl (fun ls hl => ?_)
      refine lv_iload_n hx hb dX1_between_54 rfl (lv_at hl 4 rfl) ?_
      refine lv_iload hx hb dX1_between_55 (lv_at hl 0 rfl) ?_
      refine vp_callSi (va_Run.run (va_runS (As := [.int ((nw_rn (nw_pp M) s0 w (i)).1), .int (nw_pp M (w i) (0))]) (rest := []) ⟨hx, hb, hml, hown, hts⟩ (metX1_then l ((nw_rn (nw_pp M) s0 w (i)).1) (nw_pp M (w i) (0))) (va_cwS 2 hts (lw_S q197 q198 q13 q199) rfl rfl rfl (by decide +kernel) ⟨Nat.le_of_ble_eq_true rfl, Nat.le_of_ble_eq_true rfl⟩) ⟨fun a U g mk q => q, fun U hU hW => ⟨rfl, trivial⟩⟩ rfl rfl hl.1 rfl (lv_room (Nat.le_of_ble_eq_true rfl)) dX1_between_57 ⟨Nat.zero_le _, Nat.zero_le _⟩)) (fun r_ hr_ => ?_)
      refine nw_as (y := (nw_jn ((nw_rn (nw_pp M) s0 w (i)).1) (nw_pp M (w i) (0)) 5)) (hr_) ?_
      refine nw_as (y := ((nw_rn (nw_pp M) s0 w (i + 1)).1)) (by rw [nw_rn_p h4]) ?_
      refine lv_istore_n (lv' := [(3, .int ((nw_rn (nw_pp M) s0 w (i + 1)).1)), (5, .int (nw_pp M (w i) (0))), (0, .ref (ad 0)), (1, .int (nI (f))), (2, .int (nI (t))), (4, .int (nI (i)))]) hx hb dX1_between_60 rfl hl (by decide) rfl (fun ls hl => ?_)
      refine lv_aload_n hx hb dX1_between_61 rfl (lv_at hl 2 rfl) ?_
      refine va_get (D := (dC, dI)) (ci := 1) (v := .ref (ad 4)) (C := RX1) (T := TX1) (N := 8) hx hb hts in_X1 hown hK hP 0 rfl rfl 4 (by decide) (hts _ q140) (fun _ h9 => h9) rfl dX1_between_62 ?_
      refine lv_iload hx hb dX1_between_65 (lv_at hl 5 rfl) ?_
      refine nw_iald hx hb hK hP 4 3 rfl rfl (j := i) (by omega) (by decide) dX1_between_67 ?_
      refine nw_as (y := (nI (w i))) (hw i (by omega)) ?_
      refine lv_iconst (v := (nI (1))) hx hb dX1_between_68 (by decide) ?_
      refine lv_icmp_gt (tgt := 81) hx hb dX1_between_69 (by decide) (fun _ => ?_) (fun h => absurd (nI_lt (by omega) (by omega)) h)
      refine lv_iinc (v := (nI (i + 1))) (lv' := [(4, .int (nI (i + 1))), (3, .int ((nw_rn (nw_pp M) s0 w (i + 1)).1)), (5, .int (nw_pp M (w i) (0))), (0, .ref (ad 0)), (1, .int (nI (f))), (2, .int (nI (t)))]) hx hb dX1_between_81 hl (k := 5) rfl (nw_inc (i)) (by decide) rfl (fun ls hl => ?_)
      refine lv_goto (tgt := 8) hx hb dX1_between_84 (by decide) ?_
      exact ih (i + 1) _ (by omega) (by omega) ⟨⟨by omega, by rw [nw_sp_p h4]; exact hX.2⟩, lv_sub hl [3, 4, 5, 1, 0] rfl⟩
  · obtain ⟨hX, hl⟩ := hI
    refine lv_iload hx hb dX1_between_8 (lv_at hl 4 rfl) ?_
    refine lv_iload_n hx hb dX1_between_10 rfl (lv_at hl 2 rfl) ?_
    refine lv_icmp_ge (tgt := 87) hx hb dX1_between_11 (by decide) (fun _ => ?_) (fun h => absurd (nI_le (Nat.le_refl t) (by omega)) h)
    refine lv_iload_n hx hb dX1_between_87 rfl (lv_at hl 3 rfl) ?_
    exact W.iret hx hb hr (fun t ht hW => ⟨_, rfl, rfl, ht⟩) (fun q h => by cases h) dX1_between_88
set_option maxHeartbeats 4000000 in
set_option maxRecDepth 100000 in
/-- piece(from, to) -/
theorem metX1_piece (l : Launch) (dC : Nat → ClassId) (dI : Nat → Nat → Nat) (ad : Nat → Nat) (ca : Nat → ClassId) (M sa ea : nw_F) (ln : Int32) (aw pt ld wt : nw_F) (s0 : Int32) (w : Nat → Nat) (n : Nat) (hn : n ≤ 20) (hw : ∀ k, k < n → aw k = nI (w k)) (h6 : ∀ k, k < n → w k < 6) (hpt : nw_PT w n pt) (f t : Nat) (ht : t < n) (hs : nw_sp w t = f :: nw_sp w f) (hld : nw_LD (nw_pp M) s0 w t ld) : Met l yX1_piece (ws_ yX1_piece cX1_piece 9 (some .int)) ({ frames := 2, cells := 0, slots := 0, locals := 51 }) (va_Pc [.ref (ad 0), .int (nI (f)), .int (nI (t))] (nw_XR dC dI (nw_yW ad ca (M) (sa) (ea) (ln) (aw) (pt) (ld) (wt)) (nw_yT ca))) (vp_Si (fun r => r = nw_cl (nw_pp M) (w f) (nw_rn (nw_pp M) s0 w t).1 (w t) 3)) 0 0 (fun _ => False) := by
  refine Met.ofW (cc := cX1_piece) (maxL := 9) (ret := (some .int)) (by decide) rfl ?_
  intro p e s m args below meth c s₁ B hml hv
  obtain ⟨rfl, hP, hK⟩ := hv
  have hx := B.exec
  have hb := B.bytes
  have hr := B.returns
  have hts := atoms_spec (ws := ws_ yX1_piece cX1_piece 9 (some .int)) B.pre
  have hts : ∀ w ∈ lw_all, w.before _ s = true := fun w h => hts w (List.mem_cons_of_mem _ h)
  have hown : s.vm.findClass RX1 = some m.cls := findClass_of_methodNamed B.named
  have hlocks := B.notSynchronized
  have hl := lv_entry ([.ref (ad 0), .int (nI (f)), .int (nI (t))]) (n := 9) (Nat.le_of_ble_eq_true rfl)
  rw [lg_entry_eq]
  generalize (lg_sl ([.ref (ad 0), .int (nI (f)), .int (nI (t))]) ++ List.replicate (9 - (lg_sl ([.ref (ad 0), .int (nI (f)), .int (nI (t))])).length) Slot.unset).toArray = ls at hl ⊢
  have hl : lv_has ls 9 [(0, .ref (ad 0)), (1, .int (nI (f))), (2, .int (nI (t)))] := hl
  obtain ⟨hft, hf2, -⟩ := nw_sp_top hs
  refine lv_aload_n hx hb dX1_piece_0 rfl (lv_at hl 0 rfl) ?_
  refine lv_iload_n hx hb dX1_piece_1 rfl (lv_at hl 1 rfl) ?_
  refine lv_iload_n hx hb dX1_piece_2 rfl (lv_at hl 2 rfl) ?_
  refine vp_callSi (va_Run.run (va_runV (As := [.int (nI (f)), .int (nI (t))]) (rest := []) ⟨hx, hb, hml, hown, hts⟩ (metX1_between l dC dI ad ca M sa ea ln aw pt ld wt s0 w n hn hw h6 hpt f t ht hs hld) (cwV 2 hts (lw_V q188 q190 qs8 q13 q191) rfl rfl rfl (by decide +kernel) ⟨Nat.le_of_ble_eq_true rfl, Nat.le_of_ble_eq_true rfl⟩) ⟨fun a U g mk q => ⟨q.1, nw_blindR q.2⟩, va_recv hK hP (ci := 1) (q0 := 0) rfl rfl, fun U hU hW => ⟨rfl, by rw [hU]; exact hP, va_K.moved hW.alike hK⟩⟩ rfl rfl hl.1 rfl (lv_room (Nat.le_of_ble_eq_true rfl)) dX1_piece_3 ⟨Nat.zero_le _, Nat.zero_le _⟩)) (fun r_ hr_ => ?_)
  refine nw_as (y := ((nw_rn (nw_pp M) s0 w t).1)) (hr_) ?_
  refine lv_istore_n (lv' := [(3, .int ((nw_rn (nw_pp M) s0 w t).1)), (0, .ref (ad 0)), (1, .int (nI (f))), (2, .int (nI (t)))]) hx hb dX1_piece_6 rfl hl (by decide) rfl (fun ls hl => ?_)
  refine lv_iconst (v := (nI (0))) hx hb dX1_piece_7 (by decide) ?_
  refine lv_istore (lv' := [(4, .int (nI (0))), (3, .int ((nw_rn (nw_pp M) s0 w t).1)), (0, .ref (ad 0)), (1, .int (nI (f))), (2, .int (nI (t)))]) hx hb dX1_piece_8 hl (by decide) rfl (fun ls hl => ?_)
  refine lv_iconst (v := (nI (0))) hx hb dX1_piece_10 (by decide) ?_
  refine lv_istore (lv' := [(5, .int (nI (0))), (4, .int (nI (0))), (3, .int ((nw_rn (nw_pp M) s0 w t).1)), (0, .ref (ad 0)), (1, .int (nI (f))), (2, .int (nI (t)))]) hx hb dX1_piece_11 hl (by decide) rfl (fun ls hl => ?_)
  refine nw_loop 13 (fun i ls => lv_has ls 9 [(0, .ref (ad 0)), (1, .int (nI (f))), (2, .int (nI (t))), (3, .int ((nw_rn (nw_pp M) s0 w t).1)), (4, .int (nw_cl (nw_pp M) (w f) (nw_rn (nw_pp M) s0 w t).1 (w t) (i))), (5, .int (nI (i)))]) 3 (lv_sub hl [3, 4, 5, 2, 1, 0] rfl) (fun i ls hi hl ih => ?_) (fun ls hl => ?_)
  · refine lv_iload hx hb dX1_piece_13 (lv_at hl 5 rfl) ?_
    refine lv_iconst (v := (nI (3))) hx hb dX1_piece_15 (by decide) ?_
    refine lv_icmp_ge (tgt := 73) hx hb dX1_piece_16 (by decide) (fun h => absurd h (nI_ge hi (by decide))) (fun _ => ?_)
    refine lv_aload_n hx hb dX1_piece_19 rfl (lv_at hl 0 rfl) ?_
    refine lv_aload_n hx hb dX1_piece_20 rfl (lv_at hl 0 rfl) ?_
    refine va_get (D := (dC, dI)) (ci := 1) (v := .ref (ad 4)) (C := RX1) (T := TX1) (N := 8) hx hb hts in_X1 hown hK hP 0 rfl rfl 4 (by decide) (hts _ q140) (fun _ h9 => h9) rfl dX1_piece_21 ?_
    refine lv_iload_n hx hb dX1_piece_24 rfl (lv_at hl 1 rfl) ?_
    refine nw_iald hx hb hK hP 4 3 rfl rfl (j := f) (by omega) (by decide) dX1_piece_25 ?_
    refine nw_as (y := (nI (w f))) (hw f (by omega)) ?_
    refine lv_iload hx hb dX1_piece_26 (lv_at hl 5 rfl) ?_
    refine vp_callSi (va_Run.run (va_runV (As := [.int (nI (w f)), .int (nI (i))]) (rest := []) ⟨hx, hb, hml, hown, hts⟩ (metX1_pairs l dC dI ad ca M sa ea ln aw pt ld wt (w f) (h6 f (by omega)) (i) (by omega)) (cwV 2 hts (lw_V q193 q195 qs9 q13 q196) rfl rfl rfl (by decide +kernel) ⟨Nat.le_of_ble_eq_true rfl, Nat.le_of_ble_eq_true rfl⟩) ⟨fun a U g mk q => ⟨q.1, nw_blindR q.2⟩, va_recv hK hP (ci := 1) (q0 := 0) rfl rfl, fun U hU hW => ⟨rfl, by rw [hU]; exact hP, va_K.moved hW.alike hK⟩⟩ rfl rfl hl.1 rfl (lv_room (Nat.le_of_ble_eq_true rfl)) dX1_piece_28 ⟨Nat.zero_le _, Nat.zero_le _⟩)) (fun r_ hr_ => ?_)
    refine nw_as (y := (nw_pp M (w f) (i))) (hr_) ?_
    refine lv_istore (lv' := [(6, .int (nw_pp M (w f) (i))), (0, .ref (ad 0)), (1, .int (nI (f))), (2, .int (nI (t))), (3, .int ((nw_rn (nw_pp M) s0 w t).1)), (4, .int (nw_cl (nw_pp M) (w f) (nw_rn (nw_pp M) s0 w t).1 (w t) (i))), (5, .int (nI (i)))]) hx hb dX1_piece_31 hl (by decide) rfl (fun ls hl => ?_)
    refine lv_aload_n hx hb dX1_piece_33 rfl (lv_at hl 1 rfl) ?_
    refine lv_aload_n hx hb dX1_piece_34 rfl (lv_at hl 1 rfl) ?_
    refine va_get (D := (dC, dI)) (ci := 1) (v := .ref (ad 4)) (C := RX1) (T := TX1) (N := 8) hx hb hts in_X1 hown hK hP 0 rfl rfl 4 (by decide) (hts _ q140) (fun _ h9 => h9) rfl dX1_piece_35 ?_
    refine lv_iload_n hx hb dX1_piece_38 rfl (lv_at hl 3 rfl) ?_
    refine nw_iald hx hb hK hP 4 3 rfl rfl (j := t) (by omega) (by decide) dX1_piece_39 ?_
    refine nw_as (y := (nI (w t))) (hw t (by omega)) ?_
    refine lv_iload hx hb dX1_piece_40 (lv_at hl 6 rfl) ?_
    refine vp_callSi (va_Run.run (va_runV (As := [.int (nI (w t)), .int (nI (i))]) (rest := []) ⟨hx, hb, hml, hown, hts⟩ (metX1_pairs l dC dI ad ca M sa ea ln aw pt ld wt (w t) (h6 t (by omega)) (i) (by omega)) (cwV 2 hts (lw_V q193 q195 qs9 q13 q196) rfl rfl rfl (by decide +kernel) ⟨Nat.le_of_ble_eq_true rfl, Nat.le_of_ble_eq_true rfl⟩) ⟨fun a U g mk q => ⟨q.1, nw_blindR q.2⟩, va_recv hK hP (ci := 1) (q0 := 0) rfl rfl, fun U hU hW => ⟨rfl, by rw [hU]; exact hP, va_K.moved hW.alike hK⟩⟩ rfl rfl hl.1 rfl (lv_room (Nat.le_of_ble_eq_true rfl)) dX1_piece_42 ⟨Nat.zero_le _, Nat.zero_le _⟩)) (fun r_ hr_ => ?_)
    refine nw_as (y := (nw_pp M (w t) (i))) (hr_) ?_
    refine lv_istore (lv' := [(7, .int (nw_pp M (w t) (i))), (6, .int (nw_pp M (w f) (i))), (0, .ref (ad 0)), (1, .int (nI (f))), (2, .int (nI (t))), (3, .int ((nw_rn (nw_pp M) s0 w t).1)), (4, .int (nw_cl (nw_pp M) (w f) (nw_rn (nw_pp M) s0 w t).1 (w t) (i))), (5, .int (nI (i)))]) hx hb dX1_piece_45 hl (by decide) rfl (fun ls hl => ?_)
    refine lv_iload hx hb dX1_piece_47 (lv_at hl 1 rfl) ?_
    refine lv_iload_n hx hb dX1_piece_49 rfl (lv_at hl 5 rfl) ?_
    refine vp_callSi (va_Run.run (va_runS (As := [.int (nw_pp M (w f) (i)), .int ((nw_rn (nw_pp M) s0 w t).1)]) (rest := []) ⟨hx, hb, hml, hown, hts⟩ (metX1_then l (nw_pp M (w f) (i)) ((nw_rn (nw_pp M) s0 w t).1)) (va_cwS 2 hts (lw_S q197 q198 q13 q199) rfl rfl rfl (by decide +kernel) ⟨Nat.le_of_ble_eq_true rfl, Nat.le_of_ble_eq_true rfl⟩) ⟨fun a U g mk q => q, fun U hU hW => ⟨rfl, trivial⟩⟩ rfl rfl hl.1 rfl (lv_room (Nat.le_of_ble_eq_true rfl)) dX1_piece_50 ⟨Nat.zero_le _, Nat.zero_le _⟩)) (fun r_ hr_ => ?_)
    refine nw_as (y := (nw_jn (nw_pp M (w f) (i)) ((nw_rn (nw_pp M) s0 w t).1) 5)) (hr_) ?_
    refine lv_istore (lv' := [(8, .int (nw_jn (nw_pp M (w f) (i)) ((nw_rn (nw_pp M) s0 w t).1) 5)), (7, .int (nw_pp M (w t) (i))), (6, .int (nw_pp M (w f) (i))), (0, .ref (ad 0)), (1, .int (nI (f))), (2, .int (nI (t))), (3, .int ((nw_rn (nw_pp M) s0 w t).1)), (4, .int (nw_cl (nw_pp M) (w f) (nw_rn (nw_pp M) s0 w t).1 (w t) (i))), (5, .int (nI (i)))]) hx hb dX1_piece_53 hl (by decide) rfl (fun ls hl => ?_)
    refine lv_iload hx hb dX1_piece_55 (lv_at hl 7 rfl) ?_
    refine lv_iload hx hb dX1_piece_57 (lv_at hl 0 rfl) ?_
    refine lv_iload hx hb dX1_piece_59 (lv_at hl 1 rfl) ?_
    refine vp_callSi (va_Run.run (va_runS (As := [.int (nw_jn (nw_pp M (w f) (i)) ((nw_rn (nw_pp M) s0 w t).1) 5), .int (nw_pp M (w t) (i))]) (rest := [.int (nw_cl (nw_pp M) (w f) (nw_rn (nw_pp M) s0 w t).1 (w t) (i))]) ⟨hx, hb, hml, hown, hts⟩ (metX1_then l (nw_jn (nw_pp M (w f) (i)) ((nw_rn (nw_pp M) s0 w t).1) 5) (nw_pp M (w t) (i))) (va_cwS 2 hts (lw_S q197 q198 q13 q199) rfl rfl rfl (by decide +kernel) ⟨Nat.le_of_ble_eq_true rfl, Nat.le_of_ble_eq_true rfl⟩) ⟨fun a U g mk q => q, fun U hU hW => ⟨rfl, trivial⟩⟩ rfl rfl hl.1 rfl (lv_room (Nat.le_of_ble_eq_true rfl)) dX1_piece_61 ⟨Nat.zero_le _, Nat.zero_le _⟩)) (fun r_ hr_ => ?_)
    refine nw_as (y := (nw_jn (nw_jn (nw_pp M (w f) (i)) ((nw_rn (nw_pp M) s0 w t).1) 5) (nw_pp M (w t) (i)) 5)) (hr_) ?_
    refine lv_ior hx hb dX1_piece_64 ?_
    refine nw_as (y := (nw_cl (nw_pp M) (w f) (nw_rn (nw_pp M) s0 w t).1 (w t) (i + 1))) (nw_cl_s _ _ _ _ _) ?_
    refine lv_istore (lv' := [(4, .int (nw_cl (nw_pp M) (w f) (nw_rn (nw_pp M) s0 w t).1 (w t) (i + 1))), (8, .int (nw_jn (nw_pp M (w f) (i)) ((nw_rn (nw_pp M) s0 w t).1) 5)), (7, .int (nw_pp M (w t) (i))), (6, .int (nw_pp M (w f) (i))), (0, .ref (ad 0)), (1, .int (nI (f))), (2, .int (nI (t))), (3, .int ((nw_rn (nw_pp M) s0 w t).1)), (5, .int (nI (i)))]) hx hb dX1_piece_65 hl (by decide) rfl (fun ls hl => ?_)
    refine lv_iinc (v := (nI (i + 1))) (lv' := [(5, .int (nI (i + 1))), (4, .int (nw_cl (nw_pp M) (w f) (nw_rn (nw_pp M) s0 w t).1 (w t) (i + 1))), (8, .int (nw_jn (nw_pp M (w f) (i)) ((nw_rn (nw_pp M) s0 w t).1) 5)), (7, .int (nw_pp M (w t) (i))), (6, .int (nw_pp M (w f) (i))), (0, .ref (ad 0)), (1, .int (nI (f))), (2, .int (nI (t))), (3, .int ((nw_rn (nw_pp M) s0 w t).1))]) hx hb dX1_piece_67 hl (k := 8) rfl (nw_inc (i)) (by decide) rfl (fun ls hl => ?_)
    refine lv_goto (tgt := 13) hx hb dX1_piece_70 (by decide) ?_
    exact ih _ (lv_sub hl [5, 6, 7, 8, 1, 0] rfl)
  · refine lv_iload hx hb dX1_piece_13 (lv_at hl 5 rfl) ?_
    refine lv_iconst (v := (nI (3))) hx hb dX1_piece_15 (by decide) ?_
    refine lv_icmp_ge (tgt := 73) hx hb dX1_piece_16 (by decide) (fun _ => ?_) (fun h => absurd (nI_le (Nat.le_refl 3) (by decide)) h)
    refine lv_iload hx hb dX1_piece_73 (lv_at hl 4 rfl) ?_
    exact W.iret hx hb hr (fun t ht hW => ⟨_, rfl, rfl, ht⟩) (fun q h => by cases h) dX1_piece_75
end
section
/-! PURE 4: one letter more, by its kind -/
section AD
variable {pr : Nat → Nat → Int32} {s0 : Int32} {w : Nat → Nat} {n k : Nat} {aw ay aa ao : Nat → Int32}
theorem nw_ad_o (h : k < 2) (hC : nw_CI pr s0 w n aw ay aa ao) : nw_CI pr s0 (nw_up w n k) (n + 1) (upd aw n (nI k)) (upd ay (n + 1) 17043521) (upd aa (n + 1) (nw_ld (nw_rn pr s0 w n).2.1 (nw_o3 pr k) 5)) (upd ao (n + 1) (nI n)) := by
  have e := nw_rn_o (pr := pr) (s0 := s0) (w := nw_up w n k) (k := n) (by rw [nw_up_s]; exact h)
  rw [nw_up_s, nw_rn_up pr s0 w n k (Nat.le_refl n)] at e
  refine nw_CI_s hC ?_ ?_ ?_ <;> rw [e]
  rfl
theorem nw_ad_p (h : ¬ k < 4) (hC : nw_CI pr s0 w n aw ay aa ao) : nw_CI pr s0 (nw_up w n k) (n + 1) (upd aw n (nI k)) (upd ay (n + 1) (nw_jn (nw_rn pr s0 w n).1 (pr k 0) 5)) (upd aa (n + 1) (nw_ld (nw_rn pr s0 w n).2.1 (pr k 0) 5)) (upd ao (n + 1) (ao n)) := by
  have e := nw_rn_p (pr := pr) (s0 := s0) (w := nw_up w n k) (k := n) (by rw [nw_up_s]; exact h)
  rw [nw_up_s, nw_rn_up pr s0 w n k (Nat.le_refl n)] at e
  refine nw_CI_s hC ?_ ?_ ?_ <;> rw [e]
  exact (hC.2 n (Nat.le_refl n)).2.2
theorem nw_ad_c0 (h1 : ¬ k < 2) (h2 : k < 4) (hs : (nw_rn pr s0 w n).2.2 = []) (hC : nw_CI pr s0 w n aw ay aa ao) : nw_CI pr s0 (nw_up w n k) (n + 1) (upd aw n (nI k)) (upd ay (n + 1) (nw_jn (nw_rn pr s0 w n).1 (pr k 3) 5)) (upd aa (n + 1) (nw_ld (nw_rn pr s0 w n).2.1 (pr k 3) 5)) (upd ao (n + 1) (-1)) := by
  have e := nw_rn_c0 (pr := pr) (s0 := s0) (w := nw_up w n k) (k := n) (by rw [nw_up_s]; exact h1) (by rw [nw_up_s]; exact h2) (by rw [nw_rn_up pr s0 w n k (Nat.le_refl n)]; exact hs)
  rw [nw_up_s, nw_rn_up pr s0 w n k (Nat.le_refl n)] at e
  refine nw_CI_s hC ?_ ?_ ?_ <;> rw [e]
  rfl
theorem nw_ad_c1 (h1 : ¬ k < 2) (h2 : k < 4) {p : Nat} (hp : p < n) (hs : (nw_rn pr s0 w n).2.2 = (p, (nw_rn pr s0 w p).1, (nw_rn pr s0 w p).2.1) :: (nw_rn pr s0 w p).2.2) (hC : nw_CI pr s0 w n aw ay aa ao) : nw_CI pr s0 (nw_up w n k) (n + 1) (upd aw n (nI k)) (upd ay (n + 1) (nw_jn (nw_rn pr s0 w p).1 (nw_cl pr (w p) (nw_rn pr s0 w n).1 k 3) 5)) (upd aa (n + 1) (nw_ld (nw_rn pr s0 w p).2.1 (nw_cl pr (w p) (nw_rn pr s0 w n).1 k 3) 5)) (upd ao (n + 1) (ao p)) := by
  have e := nw_rn_c1 (pr := pr) (s0 := s0) (w := nw_up w n k) (k := n) (by rw [nw_up_s]; exact h1) (by rw [nw_up_s]; exact h2) (by rw [nw_rn_up pr s0 w n k (Nat.le_refl n)]; exact hs)
  rw [nw_up_s, nw_rn_up pr s0 w n k (Nat.le_refl n)] at e
  have e2 : nw_up w n k p = w p := nw_up_n (by omega)
  refine nw_CI_s hC ?_ ?_ ?_ <;> rw [e]
  · show _ = nw_jn _ (nw_cl pr (nw_up w n k p) _ k 3) 5
    rw [e2]
  · show _ = nw_ld _ (nw_cl pr (nw_up w n k p) _ k 3) 5
    rw [e2]
  · exact (hC.2 p (by omega)).2.2
end AD
end
section
/-! WALKS 4: add -/
set_option maxHeartbeats 4000000 in
set_option maxRecDepth 100000 in
/-- add(letter): one letter more -/
theorem metX0_add (l : Launch) (dC : Nat → ClassId) (dI : Nat → Nat → Nat) (ad : Nat → Nat) (ca : Nat → ClassId) (S P : nw_F) (st en kn : Int32) (aw ay aa ao : nw_F) (pr : Nat → Nat → Int32) (hT : nw_TC S P pr) (w : Nat → Nat) (n : Nat) (hn : n ≤ 20) (h6 : ∀ k, k < n → w k < 6) (hC : nw_CI pr st w n aw ay aa ao) (k : Nat) (hk : k < 6) (sz : Nat) : Met l yX0_add (ws_ yX0_add cX0_add 5 none) ({ frames := 3, cells := 0, slots := 0, locals := 75 }) (va_Pc [.ref (ad 0), .int (nI (k))] (fun U => U.heap.size = sz ∧ nw_XB dC dI (fun _ => True) (nw_xW ad ca (S) (P) (st) (en) (kn) (nI (n)) (aw) (ay) (aa) (ao)) (nw_xT ca) U)) (va_Qv (fun u : nw_F × nw_F × nw_F × nw_F => u.1 = upd aw n (nI k) ∧ nw_CI pr st (nw_up w n k) (n + 1) u.1 u.2.1 u.2.2.1 u.2.2.2) (fun (u : nw_F × nw_F × nw_F × nw_F) t => nw_XB dC dI (va_A (nw_xW ad ca (S) (P) (st) (en) (kn) (nI (n)) (aw) (ay) (aa) (ao)) sz) (nw_xW ad ca (S) (P) (st) (en) (kn) (nI (n + 1)) (u.1) (u.2.1) (u.2.2.1) (u.2.2.2)) (nw_xT ca) t) (va_A (nw_xW ad ca (S) (P) (st) (en) (kn) (nI (n)) (aw) (ay) (aa) (ao)) sz)) 0 0 (va_A (nw_xW ad ca (S) (P) (st) (en) (kn) (nI (n)) (aw) (ay) (aa) (ao)) sz) := by
  refine Met.ofW (cc := cX0_add) (maxL := 5) (ret := none) (by decide) rfl ?_
  intro p e s m args below meth c s₁ B hml hv
  obtain ⟨rfl, hsz, hP, hK, hD0⟩ := hv
  have hx := B.exec
  have hb := B.bytes
  have hr := B.returns
  have hts := atoms_spec (ws := ws_ yX0_add cX0_add 5 none) B.pre
  have hts : ∀ w ∈ lw_all, w.before _ s = true := fun w h => hts w (List.mem_cons_of_mem _ h)
  have hown : s.vm.findClass RX0 = some m.cls := findClass_of_methodNamed B.named
  have hlocks := B.notSynchronized
  subst hsz
  have hD := hD0.self (sz := s.heap.size)
  generalize hAe : va_A (nw_xW ad ca (S) (P) (st) (en) (kn) (nI (n)) (aw) (ay) (aa) (ao)) s.heap.size = A at hD ⊢
  have hA : ∀ q : Nat, s.heap.size ≤ q → A q := fun q h => by rw [← hAe]; exact Or.inr h
  have hS : va_S A s.heap s.heap [] := va_S.rf
  have hP : va_P (dC, dI) vwCl (nw_xW ad ca (S) (P) (st) (en) (kn) (nI (n)) (aw) (ay) (aa) (ao)) s.heap := hP
  have hl := lv_entry ([.ref (ad 0), .int (nI (k))]) (n := 5) (Nat.le_of_ble_eq_true rfl)
  rw [lg_entry_eq]
  generalize (lg_sl ([.ref (ad 0), .int (nI (k))]) ++ List.replicate (5 - (lg_sl ([.ref (ad 0), .int (nI (k))])).length) Slot.unset).toArray = ls at hl ⊢
  have hl : lv_has ls 5 [(0, .ref (ad 0)), (1, .int (nI (k)))] := hl
  have c1 := (hC.2 n (Nat.le_refl n)).1
  have c2 := (hC.2 n (Nat.le_refl n)).2.1
  refine lv_aload_n hx hb dX0_add_0 rfl (lv_at hl 0 rfl) ?_
  refine va_get (D := (dC, dI)) (ci := 0) (v := .int (nI (n))) (C := RX0) (T := TX0) (N := 10) hx hb hts in_X0 hown hK hP 0 rfl rfl 5 (by decide) (hts _ q27) (fun _ h9 => h9) rfl dX0_add_1 ?_
  refine lv_istore_n (lv' := [(2, .int (nI (n))), (0, .ref (ad 0)), (1, .int (nI (k)))]) hx hb dX0_add_4 rfl hl (by decide) rfl (fun ls hl => ?_)
  refine lv_aload_n hx hb dX0_add_5 rfl (lv_at hl 1 rfl) ?_
  refine va_get (D := (dC, dI)) (ci := 0) (v := .ref (ad 3)) (C := RX0) (T := TX0) (N := 10) hx hb hts in_X0 hown hK hP 0 rfl rfl 6 (by decide) (hts _ q28) (fun _ h9 => h9) rfl dX0_add_6 ?_
  refine lv_iload_n hx hb dX0_add_9 rfl (lv_at hl 0 rfl) ?_
  refine lv_iload_n hx hb dX0_add_10 rfl (lv_at hl 2 rfl) ?_
  refine nw_iast hx hb hK hP hD hS 3 2 rfl rfl (j := n) (by omega) (by decide) dX0_add_11 (fun H locs hP hD hS => ?_)
  have hP : va_P (dC, dI) vwCl (nw_xW ad ca (S) (P) (st) (en) (kn) (nI (n)) (upd (aw) (n) (nI (k))) (ay) (aa) (ao)) H := hP
  have hD : va_D A (nw_xW ad ca (S) (P) (st) (en) (kn) (nI (n)) (upd (aw) (n) (nI (k))) (ay) (aa) (ao)) := hD
  refine lv_aload_n hx hb dX0_add_12 rfl (lv_at hl 1 rfl) ?_
  refine lv_dup hx hb dX0_add_13 rfl ?_
  refine va_get (D := (dC, dI)) (ci := 0) (v := .int (nI (n))) (C := RX0) (T := TX0) (N := 10) hx hb hts in_X0 hown hK hP 0 rfl rfl 5 (by decide) (hts _ q27) (fun _ h9 => h9) rfl dX0_add_14 ?_
  refine lv_iconst (v := (nI (1))) hx hb dX0_add_17 (by decide) ?_
  refine lv_iadd hx hb dX0_add_18 ?_
  refine nw_as (y := (nI (n + 1))) (nI_add (n) (1)) ?_
  refine va_put (D := (dC, dI)) (ci := 0) (v := .int (nI (n + 1))) (ty := .int) (C := RX0) (T := TX0) (N := 10) hx hb hts in_X0 tyX0 tyX0_ok nmX0 hown hK hP hD hS 0 rfl rfl 5 (by decide) (hts _ q27) (fun _ h9 => h9) rfl (by decide +kernel) rfl rfl (Nat.le_of_ble_eq_true rfl) dX0_add_19 (fun H locs hP hD hS => ?_)
  have hP : va_P (dC, dI) vwCl (nw_xW ad ca (S) (P) (st) (en) (kn) (nI (n + 1)) (upd (aw) (n) (nI (k))) (ay) (aa) (ao)) H := hP
  have hD : va_D A (nw_xW ad ca (S) (P) (st) (en) (kn) (nI (n + 1)) (upd (aw) (n) (nI (k))) (ay) (aa) (ao)) := hD
  refine lv_iload_n hx hb dX0_add_22 rfl (lv_at hl 2 rfl) ?_
  refine lv_iconst (v := (nI (4))) hx hb dX0_add_23 (by decide) ?_
  refine lv_icmp_lt (tgt := 86) hx hb dX0_add_24 (by decide) (fun h4 => ?_) (fun h4 => ?_)
  · have h4 : k < 4 := (nI_ltI (by omega) (by decide)).mp h4
    refine lv_iload_n hx hb dX0_add_86 rfl (lv_at hl 2 rfl) ?_
    refine lv_iconst (v := (nI (2))) hx hb dX0_add_87 (by decide) ?_
    refine lv_icmp_ge (tgt := 140) hx hb dX0_add_88 (by decide) (fun h2 => ?_) (fun h2 => ?_)
    · have h2 : ¬ k < 2 := fun h => absurd h2 (nI_ge h (by decide))
      refine lv_aload_n hx hb dX0_add_140 rfl (lv_at hl 1 rfl) ?_
      refine va_get (D := (dC, dI)) (ci := 0) (v := .ref (ad 6)) (C := RX0) (T := TX0) (N := 10) hx hb hts in_X0 hown hK hP 0 rfl rfl 9 (by decide) (hts _ q31) (fun _ h9 => h9) rfl dX0_add_141 ?_
      refine lv_iload_n hx hb dX0_add_144 rfl (lv_at hl 0 rfl) ?_
      refine nw_iald hx hb hK hP 6 5 rfl rfl (j := n) (by omega) (by decide) dX0_add_145 ?_
      refine lv_if_ge (tgt := 205) hx hb dX0_add_146 (by decide) (fun ho => ?_) (fun ho => ?_)
      · obtain ⟨ho1, -⟩ | ⟨-, q, hq, hq2, ho2, hs⟩ := nw_CI_o hC (by omega)
        · exact absurd ho (Int32.not_le.mpr ho1)
        refine lv_aload_n hx hb dX0_add_205 rfl (lv_at hl 1 rfl) ?_
        refine va_get (D := (dC, dI)) (ci := 0) (v := .ref (ad 6)) (C := RX0) (T := TX0) (N := 10) hx hb hts in_X0 hown hK hP 0 rfl rfl 9 (by decide) (hts _ q31) (fun _ h9 => h9) rfl dX0_add_206 ?_
        refine lv_iload_n hx hb dX0_add_209 rfl (lv_at hl 0 rfl) ?_
        refine nw_iald hx hb hK hP 6 5 rfl rfl (j := n) (by omega) (by decide) dX0_add_210 ?_
        refine nw_as (y := (nI (q))) (ho2) ?_
        refine lv_istore_n (lv' := [(3, .int (nI (q))), (2, .int (nI (n))), (0, .ref (ad 0)), (1, .int (nI (k)))]) hx hb dX0_add_211 rfl hl (by decide) rfl (fun ls hl => ?_)
        refine lv_aload_n hx hb dX0_add_212 rfl (lv_at hl 2 rfl) ?_
        refine lv_aload_n hx hb dX0_add_213 rfl (lv_at hl 2 rfl) ?_
        refine va_get (D := (dC, dI)) (ci := 0) (v := .ref (ad 3)) (C := RX0) (T := TX0) (N := 10) hx hb hts in_X0 hown hK hP 0 rfl rfl 6 (by decide) (hts _ q28) (fun _ h9 => h9) rfl dX0_add_214 ?_
        refine lv_iload_n hx hb dX0_add_217 rfl (lv_at hl 0 rfl) ?_
        refine nw_iald hx hb hK hP 3 2 rfl rfl (j := q) (by omega) (by decide) dX0_add_218 ?_
        refine nw_as (y := (nI (w q))) ((pk_un (by omega)).trans (hC.1 q hq)) ?_
        refine lv_aload_n hx hb dX0_add_219 rfl (lv_at hl 2 rfl) ?_
        refine va_get (D := (dC, dI)) (ci := 0) (v := .ref (ad 4)) (C := RX0) (T := TX0) (N := 10) hx hb hts in_X0 hown hK hP 0 rfl rfl 7 (by decide) (hts _ q29) (fun _ h9 => h9) rfl dX0_add_220 ?_
        refine lv_iload_n hx hb dX0_add_223 rfl (lv_at hl 1 rfl) ?_
        refine nw_iald hx hb hK hP 4 3 rfl rfl (j := n) (by omega) (by decide) dX0_add_224 ?_
        refine nw_as (y := ((nw_rn pr st w n).1)) (c1) ?_
        refine lv_iload_n hx hb dX0_add_225 rfl (lv_at hl 3 rfl) ?_
        refine vp_callSi (va_Run.run (va_runV (As := [.int (nI (w q)), .int ((nw_rn pr st w n).1), .int (nI (k))]) (rest := []) ⟨hx, hb, hml, hown, hts⟩ (metX0_closedSteps l dC dI ad ca (S) (P) (st) (en) (kn) (nI (n + 1)) (upd (aw) (n) (nI (k))) (ay) (aa) (ao) pr hT (w q) (by omega) (nw_rn pr st w n).1 k (by omega)) (cwV 3 hts (lw_V q95 q97 qs4 q12 q98) rfl rfl rfl (by decide +kernel) ⟨Nat.le_of_ble_eq_true rfl, Nat.le_of_ble_eq_true rfl⟩) ⟨fun a U g mk q => ⟨q.1, nw_blindR q.2⟩, va_recv hK hP (ci := 0) (q0 := 0) rfl rfl, fun U hU hW => ⟨rfl, by rw [hU]; exact hP, va_K.moved hW.alike hK⟩⟩ rfl rfl hl.1 rfl (lv_room (Nat.le_of_ble_eq_true rfl)) dX0_add_226 ⟨Nat.zero_le _, Nat.zero_le _⟩)) (fun r_ hr_ => ?_)
        refine nw_as (y := (nw_cl pr (w q) (nw_rn pr st w n).1 k 3)) (hr_) ?_
        refine lv_istore (lv' := [(4, .int (nw_cl pr (w q) (nw_rn pr st w n).1 k 3)), (3, .int (nI (q))), (2, .int (nI (n))), (0, .ref (ad 0)), (1, .int (nI (k)))]) hx hb dX0_add_229 hl (by decide) rfl (fun ls hl => ?_)
        refine lv_aload_n hx hb dX0_add_231 rfl (lv_at hl 3 rfl) ?_
        refine va_get (D := (dC, dI)) (ci := 0) (v := .ref (ad 4)) (C := RX0) (T := TX0) (N := 10) hx hb hts in_X0 hown hK hP 0 rfl rfl 7 (by decide) (hts _ q29) (fun _ h9 => h9) rfl dX0_add_232 ?_
        refine lv_iload_n hx hb dX0_add_235 rfl (lv_at hl 2 rfl) ?_
        refine lv_iconst (v := (nI (1))) hx hb dX0_add_236 (by decide) ?_
        refine lv_iadd hx hb dX0_add_237 ?_
        refine nw_as (y := (nI (n + 1))) (nI_add (n) (1)) ?_
        refine lv_aload_n hx hb dX0_add_238 rfl (lv_at hl 3 rfl) ?_
        refine va_get (D := (dC, dI)) (ci := 0) (v := .ref (ad 4)) (C := RX0) (T := TX0) (N := 10) hx hb hts in_X0 hown hK hP 0 rfl rfl 7 (by decide) (hts _ q29) (fun _ h9 => h9) rfl dX0_add_239 ?_
        refine lv_iload_n hx hb dX0_add_242 rfl (lv_at hl 1 rfl) ?_
        refine nw_iald hx hb hK hP 4 3 rfl rfl (j := q) (by omega) (by decide) dX0_add_243 ?_
        refine nw_as (y := ((nw_rn pr st w q).1)) ((hC.2 q (by omega)).1) ?_
        refine lv_iload hx hb dX0_add_244 (lv_at hl 0 rfl) ?_
        refine vp_callSi (va_Run.run (va_runS (As := [.int ((nw_rn pr st w q).1), .int (nw_cl pr (w q) (nw_rn pr st w n).1 k 3)]) (rest := [.int (nI (n + 1)), .ref (ad 4)]) ⟨hx, hb, hml, hown, hts⟩ (metX0_join l ((nw_rn pr st w q).1) (nw_cl pr (w q) (nw_rn pr st w n).1 k 3)) (va_cwS 2 hts (lw_S q85 q86 q12 q87) rfl rfl rfl (by decide +kernel) ⟨Nat.le_of_ble_eq_true rfl, Nat.le_of_ble_eq_true rfl⟩) ⟨fun a U g mk q => q, fun U hU hW => ⟨rfl, trivial⟩⟩ rfl rfl hl.1 rfl (lv_room (Nat.le_of_ble_eq_true rfl)) dX0_add_246 ⟨Nat.zero_le _, Nat.zero_le _⟩)) (fun r_ hr_ => ?_)
        refine nw_as (y := (nw_jn ((nw_rn pr st w q).1) (nw_cl pr (w q) (nw_rn pr st w n).1 k 3) 5)) (hr_) ?_
        refine nw_iast hx hb hK hP hD hS 4 3 rfl rfl (j := n + 1) (by omega) (by decide) dX0_add_249 (fun H locs hP hD hS => ?_)
        have hP : va_P (dC, dI) vwCl (nw_xW ad ca (S) (P) (st) (en) (kn) (nI (n + 1)) (upd (aw) (n) (nI (k))) (upd (ay) (n + 1) (nw_jn ((nw_rn pr st w q).1) (nw_cl pr (w q) (nw_rn pr st w n).1 k 3) 5)) (aa) (ao)) H := hP
        have hD : va_D A (nw_xW ad ca (S) (P) (st) (en) (kn) (nI (n + 1)) (upd (aw) (n) (nI (k))) (upd (ay) (n + 1) (nw_jn ((nw_rn pr st w q).1) (nw_cl pr (w q) (nw_rn pr st w n).1 k 3) 5)) (aa) (ao)) := hD
        refine lv_aload_n hx hb dX0_add_250 rfl (lv_at hl 3 rfl) ?_
        refine va_get (D := (dC, dI)) (ci := 0) (v := .ref (ad 5)) (C := RX0) (T := TX0) (N := 10) hx hb hts in_X0 hown hK hP 0 rfl rfl 8 (by decide) (hts _ q30) (fun _ h9 => h9) rfl dX0_add_251 ?_
        refine lv_iload_n hx hb dX0_add_254 rfl (lv_at hl 2 rfl) ?_
        refine lv_iconst (v := (nI (1))) hx hb dX0_add_255 (by decide) ?_
        refine lv_iadd hx hb dX0_add_256 ?_
        refine nw_as (y := (nI (n + 1))) (nI_add (n) (1)) ?_
        refine lv_aload_n hx hb dX0_add_257 rfl (lv_at hl 3 rfl) ?_
        refine va_get (D := (dC, dI)) (ci := 0) (v := .ref (ad 5)) (C := RX0) (T := TX0) (N := 10) hx hb hts in_X0 hown hK hP 0 rfl rfl 8 (by decide) (hts _ q30) (fun _ h9 => h9) rfl dX0_add_258 ?_
        refine lv_iload_n hx hb dX0_add_261 rfl (lv_at hl 1 rfl) ?_
        refine nw_iald hx hb hK hP 5 4 rfl rfl (j := q) (by omega) (by decide) dX0_add_262 ?_
        refine nw_as (y := ((nw_rn pr st w q).2.1)) ((hC.2 q (by omega)).2.1) ?_
        refine lv_iload hx hb dX0_add_263 (lv_at hl 0 rfl) ?_
        refine vp_callSi (va_Run.run (va_runS (As := [.int ((nw_rn pr st w q).2.1), .int (nw_cl pr (w q) (nw_rn pr st w n).1 k 3)]) (rest := [.int (nI (n + 1)), .ref (ad 5)]) ⟨hx, hb, hml, hown, hts⟩ (metX0_lead l ((nw_rn pr st w q).2.1) (nw_cl pr (w q) (nw_rn pr st w n).1 k 3)) (va_cwS 2 hts (lw_S q88 q89 q12 q90) rfl rfl rfl (by decide +kernel) ⟨Nat.le_of_ble_eq_true rfl, Nat.le_of_ble_eq_true rfl⟩) ⟨fun a U g mk q => q, fun U hU hW => ⟨rfl, trivial⟩⟩ rfl rfl hl.1 rfl (lv_room (Nat.le_of_ble_eq_true rfl)) dX0_add_265 ⟨Nat.zero_le _, Nat.zero_le _⟩)) (fun r_ hr_ => ?_)
        refine nw_as (y := (nw_ld ((nw_rn pr st w q).2.1) (nw_cl pr (w q) (nw_rn pr st w n).1 k 3) 5)) (hr_) ?_
        refine nw_iast hx hb hK hP hD hS 5 4 rfl rfl (j := n + 1) (by omega) (by decide) dX0_add_268 (fun H locs hP hD hS => ?_)
        have hP : va_P (dC, dI) vwCl (nw_xW ad ca (S) (P) (st) (en) (kn) (nI (n + 1)) (upd (aw) (n) (nI (k))) (upd (ay) (n + 1) (nw_jn ((nw_rn pr st w q).1) (nw_cl pr (w q) (nw_rn pr st w n).1 k 3) 5)) (upd (aa) (n + 1) (nw_ld ((nw_rn pr st w q).2.1) (nw_cl pr (w q) (nw_rn pr st w n).1 k 3) 5)) (ao)) H := hP
        have hD : va_D A (nw_xW ad ca (S) (P) (st) (en) (kn) (nI (n + 1)) (upd (aw) (n) (nI (k))) (upd (ay) (n + 1) (nw_jn ((nw_rn pr st w q).1) (nw_cl pr (w q) (nw_rn pr st w n).1 k 3) 5)) (upd (aa) (n + 1) (nw_ld ((nw_rn pr st w q).2.1) (nw_cl pr (w q) (nw_rn pr st w n).1 k 3) 5)) (ao)) := hD
        refine lv_aload_n hx hb dX0_add_269 rfl (lv_at hl 3 rfl) ?_
        refine va_get (D := (dC, dI)) (ci := 0) (v := .ref (ad 6)) (C := RX0) (T := TX0) (N := 10) hx hb hts in_X0 hown hK hP 0 rfl rfl 9 (by decide) (hts _ q31) (fun _ h9 => h9) rfl dX0_add_270 ?_
        refine lv_iload_n hx hb dX0_add_273 rfl (lv_at hl 2 rfl) ?_
        refine lv_iconst (v := (nI (1))) hx hb dX0_add_274 (by decide) ?_
        refine lv_iadd hx hb dX0_add_275 ?_
        refine nw_as (y := (nI (n + 1))) (nI_add (n) (1)) ?_
        refine lv_aload_n hx hb dX0_add_276 rfl (lv_at hl 3 rfl) ?_
        refine va_get (D := (dC, dI)) (ci := 0) (v := .ref (ad 6)) (C := RX0) (T := TX0) (N := 10) hx hb hts in_X0 hown hK hP 0 rfl rfl 9 (by decide) (hts _ q31) (fun _ h9 => h9) rfl dX0_add_277 ?_
        refine lv_iload_n hx hb dX0_add_280 rfl (lv_at hl 1 rfl) ?_
        refine nw_iald hx hb hK hP 6 5 rfl rfl (j := q) (by omega) (by decide) dX0_add_281 ?_
        refine nw_iast hx hb hK hP hD hS 6 5 rfl rfl (j := n + 1) (by omega) (by decide) dX0_add_282 (fun H locs hP hD hS => ?_)
        have hP : va_P (dC, dI) vwCl (nw_xW ad ca (S) (P) (st) (en) (kn) (nI (n + 1)) (upd (aw) (n) (nI (k))) (upd (ay) (n + 1) (nw_jn ((nw_rn pr st w q).1) (nw_cl pr (w q) (nw_rn pr st w n).1 k 3) 5)) (upd (aa) (n + 1) (nw_ld ((nw_rn pr st w q).2.1) (nw_cl pr (w q) (nw_rn pr st w n).1 k 3) 5)) (upd (ao) (n + 1) (ao (q)))) H := hP
        have hD : va_D A (nw_xW ad ca (S) (P) (st) (en) (kn) (nI (n + 1)) (upd (aw) (n) (nI (k))) (upd (ay) (n + 1) (nw_jn ((nw_rn pr st w q).1) (nw_cl pr (w q) (nw_rn pr st w n).1 k 3) 5)) (upd (aa) (n + 1) (nw_ld ((nw_rn pr st w q).2.1) (nw_cl pr (w q) (nw_rn pr st w n).1 k 3) 5)) (upd (ao) (n + 1) (ao (q)))) := hD
        exact W.vret hx hb hr (fun t ht hW => ⟨⟨(upd (aw) (n) (nI (k)), upd (ay) (n + 1) (nw_jn ((nw_rn pr st w q).1) (nw_cl pr (w q) (nw_rn pr st w n).1 k 3) 5), upd (aa) (n + 1) (nw_ld ((nw_rn pr st w q).2.1) (nw_cl pr (w q) (nw_rn pr st w n).1 k 3) 5), upd (ao) (n + 1) (ao (q))), rfl, ⟨rfl, nw_ad_c1 h2 h4 hq hs hC⟩, ⟨by rw [ht]; exact hP, va_K.moved hW.alike hK, hD⟩⟩, hS.F ht⟩) hS.2.2 dX0_add_283
      · obtain ⟨-, hs, -⟩ | ⟨ho1, -⟩ := nw_CI_o hC (by omega)
        rotate_left
        · exact absurd (Int32.not_lt.mp ho1) ho
        refine lv_aload_n hx hb dX0_add_149 rfl (lv_at hl 1 rfl) ?_
        refine lv_iload_n hx hb dX0_add_150 rfl (lv_at hl 2 rfl) ?_
        refine lv_bipush (v := (nI (8))) hx hb dX0_add_151 (by decide) ?_
        refine vp_callSi (va_Run.run (va_runV (As := [.int (nI (k)), .int (nI (8))]) (rest := []) ⟨hx, hb, hml, hown, hts⟩ (metX0_stackSteps l dC dI ad ca (S) (P) (st) (en) (kn) (nI (n + 1)) (upd (aw) (n) (nI (k))) (ay) (aa) (ao) k (by omega) (nI (8))) (cwV 2 hts (lw_V q91 q93 qs3 q12 q94) rfl rfl rfl (by decide +kernel) ⟨Nat.le_of_ble_eq_true rfl, Nat.le_of_ble_eq_true rfl⟩) ⟨fun a U g mk q => ⟨q.1, nw_blindR q.2⟩, va_recv hK hP (ci := 0) (q0 := 0) rfl rfl, fun U hU hW => ⟨rfl, by rw [hU]; exact hP, va_K.moved hW.alike hK⟩⟩ rfl rfl hl.1 rfl (lv_room (Nat.le_of_ble_eq_true rfl)) dX0_add_153 ⟨Nat.zero_le _, Nat.zero_le _⟩)) (fun r_ hr_ => ?_)
        refine nw_as (y := (pr k 3)) (hr_.trans (hT.2.2.1 k h4)) ?_
        refine lv_istore_n (lv' := [(3, .int (pr k 3)), (2, .int (nI (n))), (0, .ref (ad 0)), (1, .int (nI (k)))]) hx hb dX0_add_156 rfl hl (by decide) rfl (fun ls hl => ?_)
        refine lv_aload_n hx hb dX0_add_157 rfl (lv_at hl 2 rfl) ?_
        refine va_get (D := (dC, dI)) (ci := 0) (v := .ref (ad 4)) (C := RX0) (T := TX0) (N := 10) hx hb hts in_X0 hown hK hP 0 rfl rfl 7 (by decide) (hts _ q29) (fun _ h9 => h9) rfl dX0_add_158 ?_
        refine lv_iload_n hx hb dX0_add_161 rfl (lv_at hl 1 rfl) ?_
        refine lv_iconst (v := (nI (1))) hx hb dX0_add_162 (by decide) ?_
        refine lv_iadd hx hb dX0_add_163 ?_
        refine nw_as (y := (nI (n + 1))) (nI_add (n) (1)) ?_
        refine lv_aload_n hx hb dX0_add_164 rfl (lv_at hl 2 rfl) ?_
        refine va_get (D := (dC, dI)) (ci := 0) (v := .ref (ad 4)) (C := RX0) (T := TX0) (N := 10) hx hb hts in_X0 hown hK hP 0 rfl rfl 7 (by decide) (hts _ q29) (fun _ h9 => h9) rfl dX0_add_165 ?_
        refine lv_iload_n hx hb dX0_add_168 rfl (lv_at hl 1 rfl) ?_
        refine nw_iald hx hb hK hP 4 3 rfl rfl (j := n) (by omega) (by decide) dX0_add_169 ?_
        refine nw_as (y := ((nw_rn pr st w n).1)) (c1) ?_
        refine lv_iload_n hx hb dX0_add_170 rfl (lv_at hl 0 rfl) ?_
        refine vp_callSi (va_Run.run (va_runS (As := [.int ((nw_rn pr st w n).1), .int (pr k 3)]) (rest := [.int (nI (n + 1)), .ref (ad 4)]) ⟨hx, hb, hml, hown, hts⟩ (metX0_join l ((nw_rn pr st w n).1) (pr k 3)) (va_cwS 2 hts (lw_S q85 q86 q12 q87) rfl rfl rfl (by decide +kernel) ⟨Nat.le_of_ble_eq_true rfl, Nat.le_of_ble_eq_true rfl⟩) ⟨fun a U g mk q => q, fun U hU hW => ⟨rfl, trivial⟩⟩ rfl rfl hl.1 rfl (lv_room (Nat.le_of_ble_eq_true rfl)) dX0_add_171 ⟨Nat.zero_le _, Nat.zero_le _⟩)) (fun r_ hr_ => ?_)
        refine nw_as (y := (nw_jn ((nw_rn pr st w n).1) (pr k 3) 5)) (hr_) ?_
        refine nw_iast hx hb hK hP hD hS 4 3 rfl rfl (j := n + 1) (by omega) (by decide) dX0_add_174 (fun H locs hP hD hS => ?_)
        have hP : va_P (dC, dI) vwCl (nw_xW ad ca (S) (P) (st) (en) (kn) (nI (n + 1)) (upd (aw) (n) (nI (k))) (upd (ay) (n + 1) (nw_jn ((nw_rn pr st w n).1) (pr k 3) 5)) (aa) (ao)) H := hP
        have hD : va_D A (nw_xW ad ca (S) (P) (st) (en) (kn) (nI (n + 1)) (upd (aw) (n) (nI (k))) (upd (ay) (n + 1) (nw_jn ((nw_rn pr st w n).1) (pr k 3) 5)) (aa) (ao)) := hD
        refine lv_aload_n hx hb dX0_add_175 rfl (lv_at hl 2 rfl) ?_
        refine va_get (D := (dC, dI)) (ci := 0) (v := .ref (ad 5)) (C := RX0) (T := TX0) (N := 10) hx hb hts in_X0 hown hK hP 0 rfl rfl 8 (by decide) (hts _ q30) (fun _ h9 => h9) rfl dX0_add_176 ?_
        refine lv_iload_n hx hb dX0_add_179 rfl (lv_at hl 1 rfl) ?_
        refine lv_iconst (v := (nI (1))) hx hb dX0_add_180 (by decide) ?_
        refine lv_iadd hx hb dX0_add_181 ?_
        refine nw_as (y := (nI (n + 1))) (nI_add (n) (1)) ?_
        refine lv_aload_n hx hb dX0_add_182 rfl (lv_at hl 2 rfl) ?_
        refine va_get (D := (dC, dI)) (ci := 0) (v := .ref (ad 5)) (C := RX0) (T := TX0) (N := 10) hx hb hts in_X0 hown hK hP 0 rfl rfl 8 (by decide) (hts _ q30) (fun _ h9 => h9) rfl dX0_add_183 ?_
        refine lv_iload_n hx hb dX0_add_186 rfl (lv_at hl 1 rfl) ?_
        refine nw_iald hx hb hK hP 5 4 rfl rfl (j := n) (by omega) (by decide) dX0_add_187 ?_
        refine nw_as (y := ((nw_rn pr st w n).2.1)) (c2) ?_
        refine lv_iload_n hx hb dX0_add_188 rfl (lv_at hl 0 rfl) ?_
        refine vp_callSi (va_Run.run (va_runS (As := [.int ((nw_rn pr st w n).2.1), .int (pr k 3)]) (rest := [.int (nI (n + 1)), .ref (ad 5)]) ⟨hx, hb, hml, hown, hts⟩ (metX0_lead l ((nw_rn pr st w n).2.1) (pr k 3)) (va_cwS 2 hts (lw_S q88 q89 q12 q90) rfl rfl rfl (by decide +kernel) ⟨Nat.le_of_ble_eq_true rfl, Nat.le_of_ble_eq_true rfl⟩) ⟨fun a U g mk q => q, fun U hU hW => ⟨rfl, trivial⟩⟩ rfl rfl hl.1 rfl (lv_room (Nat.le_of_ble_eq_true rfl)) dX0_add_189 ⟨Nat.zero_le _, Nat.zero_le _⟩)) (fun r_ hr_ => ?_)
        refine nw_as (y := (nw_ld ((nw_rn pr st w n).2.1) (pr k 3) 5)) (hr_) ?_
        refine nw_iast hx hb hK hP hD hS 5 4 rfl rfl (j := n + 1) (by omega) (by decide) dX0_add_192 (fun H locs hP hD hS => ?_)
        have hP : va_P (dC, dI) vwCl (nw_xW ad ca (S) (P) (st) (en) (kn) (nI (n + 1)) (upd (aw) (n) (nI (k))) (upd (ay) (n + 1) (nw_jn ((nw_rn pr st w n).1) (pr k 3) 5)) (upd (aa) (n + 1) (nw_ld ((nw_rn pr st w n).2.1) (pr k 3) 5)) (ao)) H := hP
        have hD : va_D A (nw_xW ad ca (S) (P) (st) (en) (kn) (nI (n + 1)) (upd (aw) (n) (nI (k))) (upd (ay) (n + 1) (nw_jn ((nw_rn pr st w n).1) (pr k 3) 5)) (upd (aa) (n + 1) (nw_ld ((nw_rn pr st w n).2.1) (pr k 3) 5)) (ao)) := hD
        refine lv_aload_n hx hb dX0_add_193 rfl (lv_at hl 2 rfl) ?_
        refine va_get (D := (dC, dI)) (ci := 0) (v := .ref (ad 6)) (C := RX0) (T := TX0) (N := 10) hx hb hts in_X0 hown hK hP 0 rfl rfl 9 (by decide) (hts _ q31) (fun _ h9 => h9) rfl dX0_add_194 ?_
        refine lv_iload_n hx hb dX0_add_197 rfl (lv_at hl 1 rfl) ?_
        refine lv_iconst (v := (nI (1))) hx hb dX0_add_198 (by decide) ?_
        refine lv_iadd hx hb dX0_add_199 ?_
        refine nw_as (y := (nI (n + 1))) (nI_add (n) (1)) ?_
        refine lv_iconst (v := (-1)) hx hb dX0_add_200 (by decide) ?_
        refine nw_iast hx hb hK hP hD hS 6 5 rfl rfl (j := n + 1) (by omega) (by decide) dX0_add_201 (fun H locs hP hD hS => ?_)
        have hP : va_P (dC, dI) vwCl (nw_xW ad ca (S) (P) (st) (en) (kn) (nI (n + 1)) (upd (aw) (n) (nI (k))) (upd (ay) (n + 1) (nw_jn ((nw_rn pr st w n).1) (pr k 3) 5)) (upd (aa) (n + 1) (nw_ld ((nw_rn pr st w n).2.1) (pr k 3) 5)) (upd (ao) (n + 1) (-1))) H := hP
        have hD : va_D A (nw_xW ad ca (S) (P) (st) (en) (kn) (nI (n + 1)) (upd (aw) (n) (nI (k))) (upd (ay) (n + 1) (nw_jn ((nw_rn pr st w n).1) (pr k 3) 5)) (upd (aa) (n + 1) (nw_ld ((nw_rn pr st w n).2.1) (pr k 3) 5)) (upd (ao) (n + 1) (-1))) := hD
        refine lv_goto (tgt := 283) hx hb dX0_add_202 (by decide) ?_
        exact W.vret hx hb hr (fun t ht hW => ⟨⟨(upd (aw) (n) (nI (k)), upd (ay) (n + 1) (nw_jn ((nw_rn pr st w n).1) (pr k 3) 5), upd (aa) (n + 1) (nw_ld ((nw_rn pr st w n).2.1) (pr k 3) 5), upd (ao) (n + 1) (-1)), rfl, ⟨rfl, nw_ad_c0 h2 h4 hs hC⟩, ⟨by rw [ht]; exact hP, va_K.moved hW.alike hK, hD⟩⟩, hS.F ht⟩) hS.2.2 dX0_add_283
    · have h2 : k < 2 := Nat.lt_of_not_le (fun h => h2 (nI_le h (by omega)))
      refine lv_aload_n hx hb dX0_add_91 rfl (lv_at hl 1 rfl) ?_
      refine lv_iload_n hx hb dX0_add_92 rfl (lv_at hl 2 rfl) ?_
      refine lv_bipush (v := (nI (7))) hx hb dX0_add_93 (by decide) ?_
      refine vp_callSi (va_Run.run (va_runV (As := [.int (nI (k)), .int (nI (7))]) (rest := []) ⟨hx, hb, hml, hown, hts⟩ (metX0_stackSteps l dC dI ad ca (S) (P) (st) (en) (kn) (nI (n + 1)) (upd (aw) (n) (nI (k))) (ay) (aa) (ao) k (by omega) (nI (7))) (cwV 2 hts (lw_V q91 q93 qs3 q12 q94) rfl rfl rfl (by decide +kernel) ⟨Nat.le_of_ble_eq_true rfl, Nat.le_of_ble_eq_true rfl⟩) ⟨fun a U g mk q => ⟨q.1, nw_blindR q.2⟩, va_recv hK hP (ci := 0) (q0 := 0) rfl rfl, fun U hU hW => ⟨rfl, by rw [hU]; exact hP, va_K.moved hW.alike hK⟩⟩ rfl rfl hl.1 rfl (lv_room (Nat.le_of_ble_eq_true rfl)) dX0_add_95 ⟨Nat.zero_le _, Nat.zero_le _⟩)) (fun r_ hr_ => ?_)
      refine nw_as (y := (nw_o3 pr k)) (hr_.trans (hT.2.1 k h2)) ?_
      refine lv_istore_n (lv' := [(3, .int (nw_o3 pr k)), (2, .int (nI (n))), (0, .ref (ad 0)), (1, .int (nI (k)))]) hx hb dX0_add_98 rfl hl (by decide) rfl (fun ls hl => ?_)
      refine lv_aload_n hx hb dX0_add_99 rfl (lv_at hl 2 rfl) ?_
      refine va_get (D := (dC, dI)) (ci := 0) (v := .ref (ad 4)) (C := RX0) (T := TX0) (N := 10) hx hb hts in_X0 hown hK hP 0 rfl rfl 7 (by decide) (hts _ q29) (fun _ h9 => h9) rfl dX0_add_100 ?_
      refine lv_iload_n hx hb dX0_add_103 rfl (lv_at hl 1 rfl) ?_
      refine lv_iconst (v := (nI (1))) hx hb dX0_add_104 (by decide) ?_
      refine lv_iadd hx hb dX0_add_105 ?_
      refine nw_as (y := (nI (n + 1))) (nI_add (n) (1)) ?_
      refine vp_callSi (va_Run.run (va_runS (As := []) (rest := [.int (nI (n + 1)), .ref (ad 4)]) ⟨hx, hb, hml, hown, hts⟩ (metX0_same l) (va_cwS 0 hts (lw_S q74 q75 q12 q76) rfl rfl rfl (by decide +kernel) ⟨Nat.le_of_ble_eq_true rfl, Nat.le_of_ble_eq_true rfl⟩) ⟨fun a U g mk q => q, fun U hU hW => ⟨rfl, trivial⟩⟩ rfl rfl hl.1 rfl (lv_room (Nat.le_of_ble_eq_true rfl)) dX0_add_106 ⟨Nat.zero_le _, Nat.zero_le _⟩)) (fun r_ hr_ => ?_)
      refine nw_as (y := ((17043521 : Int32))) (hr_) ?_
      refine nw_iast hx hb hK hP hD hS 4 3 rfl rfl (j := n + 1) (by omega) (by decide) dX0_add_109 (fun H locs hP hD hS => ?_)
      have hP : va_P (dC, dI) vwCl (nw_xW ad ca (S) (P) (st) (en) (kn) (nI (n + 1)) (upd (aw) (n) (nI (k))) (upd (ay) (n + 1) ((17043521 : Int32))) (aa) (ao)) H := hP
      have hD : va_D A (nw_xW ad ca (S) (P) (st) (en) (kn) (nI (n + 1)) (upd (aw) (n) (nI (k))) (upd (ay) (n + 1) ((17043521 : Int32))) (aa) (ao)) := hD
      refine lv_aload_n hx hb dX0_add_110 rfl (lv_at hl 2 rfl) ?_
      refine va_get (D := (dC, dI)) (ci := 0) (v := .ref (ad 5)) (C := RX0) (T := TX0) (N := 10) hx hb hts in_X0 hown hK hP 0 rfl rfl 8 (by decide) (hts _ q30) (fun _ h9 => h9) rfl dX0_add_111 ?_
      refine lv_iload_n hx hb dX0_add_114 rfl (lv_at hl 1 rfl) ?_
      refine lv_iconst (v := (nI (1))) hx hb dX0_add_115 (by decide) ?_
      refine lv_iadd hx hb dX0_add_116 ?_
      refine nw_as (y := (nI (n + 1))) (nI_add (n) (1)) ?_
      refine lv_aload_n hx hb dX0_add_117 rfl (lv_at hl 2 rfl) ?_
      refine va_get (D := (dC, dI)) (ci := 0) (v := .ref (ad 5)) (C := RX0) (T := TX0) (N := 10) hx hb hts in_X0 hown hK hP 0 rfl rfl 8 (by decide) (hts _ q30) (fun _ h9 => h9) rfl dX0_add_118 ?_
      refine lv_iload_n hx hb dX0_add_121 rfl (lv_at hl 1 rfl) ?_
      refine nw_iald hx hb hK hP 5 4 rfl rfl (j := n) (by omega) (by decide) dX0_add_122 ?_
      refine nw_as (y := ((nw_rn pr st w n).2.1)) (c2) ?_
      refine lv_iload_n hx hb dX0_add_123 rfl (lv_at hl 0 rfl) ?_
      refine vp_callSi (va_Run.run (va_runS (As := [.int ((nw_rn pr st w n).2.1), .int (nw_o3 pr k)]) (rest := [.int (nI (n + 1)), .ref (ad 5)]) ⟨hx, hb, hml, hown, hts⟩ (metX0_lead l ((nw_rn pr st w n).2.1) (nw_o3 pr k)) (va_cwS 2 hts (lw_S q88 q89 q12 q90) rfl rfl rfl (by decide +kernel) ⟨Nat.le_of_ble_eq_true rfl, Nat.le_of_ble_eq_true rfl⟩) ⟨fun a U g mk q => q, fun U hU hW => ⟨rfl, trivial⟩⟩ rfl rfl hl.1 rfl (lv_room (Nat.le_of_ble_eq_true rfl)) dX0_add_124 ⟨Nat.zero_le _, Nat.zero_le _⟩)) (fun r_ hr_ => ?_)
      refine nw_as (y := (nw_ld ((nw_rn pr st w n).2.1) (nw_o3 pr k) 5)) (hr_) ?_
      refine nw_iast hx hb hK hP hD hS 5 4 rfl rfl (j := n + 1) (by omega) (by decide) dX0_add_127 (fun H locs hP hD hS => ?_)
      have hP : va_P (dC, dI) vwCl (nw_xW ad ca (S) (P) (st) (en) (kn) (nI (n + 1)) (upd (aw) (n) (nI (k))) (upd (ay) (n + 1) ((17043521 : Int32))) (upd (aa) (n + 1) (nw_ld ((nw_rn pr st w n).2.1) (nw_o3 pr k) 5)) (ao)) H := hP
      have hD : va_D A (nw_xW ad ca (S) (P) (st) (en) (kn) (nI (n + 1)) (upd (aw) (n) (nI (k))) (upd (ay) (n + 1) ((17043521 : Int32))) (upd (aa) (n + 1) (nw_ld ((nw_rn pr st w n).2.1) (nw_o3 pr k) 5)) (ao)) := hD
      refine lv_aload_n hx hb dX0_add_128 rfl (lv_at hl 2 rfl) ?_
      refine va_get (D := (dC, dI)) (ci := 0) (v := .ref (ad 6)) (C := RX0) (T := TX0) (N := 10) hx hb hts in_X0 hown hK hP 0 rfl rfl 9 (by decide) (hts _ q31) (fun _ h9 => h9) rfl dX0_add_129 ?_
      refine lv_iload_n hx hb dX0_add_132 rfl (lv_at hl 1 rfl) ?_
      refine lv_iconst (v := (nI (1))) hx hb dX0_add_133 (by decide) ?_
      refine lv_iadd hx hb dX0_add_134 ?_
      refine nw_as (y := (nI (n + 1))) (nI_add (n) (1)) ?_
      refine lv_iload_n hx hb dX0_add_135 rfl (lv_at hl 1 rfl) ?_
      refine nw_iast hx hb hK hP hD hS 6 5 rfl rfl (j := n + 1) (by omega) (by decide) dX0_add_136 (fun H locs hP hD hS => ?_)
      have hP : va_P (dC, dI) vwCl (nw_xW ad ca (S) (P) (st) (en) (kn) (nI (n + 1)) (upd (aw) (n) (nI (k))) (upd (ay) (n + 1) ((17043521 : Int32))) (upd (aa) (n + 1) (nw_ld ((nw_rn pr st w n).2.1) (nw_o3 pr k) 5)) (upd (ao) (n + 1) (nI (n)))) H := hP
      have hD : va_D A (nw_xW ad ca (S) (P) (st) (en) (kn) (nI (n + 1)) (upd (aw) (n) (nI (k))) (upd (ay) (n + 1) ((17043521 : Int32))) (upd (aa) (n + 1) (nw_ld ((nw_rn pr st w n).2.1) (nw_o3 pr k) 5)) (upd (ao) (n + 1) (nI (n)))) := hD
      refine lv_goto (tgt := 283) hx hb dX0_add_137 (by decide) ?_
      exact W.vret hx hb hr (fun t ht hW => ⟨⟨(upd (aw) (n) (nI (k)), upd (ay) (n + 1) ((17043521 : Int32)), upd (aa) (n + 1) (nw_ld ((nw_rn pr st w n).2.1) (nw_o3 pr k) 5), upd (ao) (n + 1) (nI (n))), rfl, ⟨rfl, nw_ad_o h2 hC⟩, ⟨by rw [ht]; exact hP, va_K.moved hW.alike hK, hD⟩⟩, hS.F ht⟩) hS.2.2 dX0_add_283
  · have h4 : ¬ k < 4 := fun h => h4 (nI_lt h (by decide))
    refine lv_aload_n hx hb dX0_add_27 rfl (lv_at hl 1 rfl) ?_
    refine lv_iload_n hx hb dX0_add_28 rfl (lv_at hl 2 rfl) ?_
    refine vp_callSi (va_Run.run (va_runV (As := [.int (nI (k))]) (rest := []) ⟨hx, hb, hml, hown, hts⟩ (metX0_plainSteps l dC dI ad ca (S) (P) (st) (en) (kn) (nI (n + 1)) (upd (aw) (n) (nI (k))) (ay) (aa) (ao) k (by omega) hk) (cwV 1 hts (lw_V q81 q83 qs2 q12 q84) rfl rfl rfl (by decide +kernel) ⟨Nat.le_of_ble_eq_true rfl, Nat.le_of_ble_eq_true rfl⟩) ⟨fun a U g mk q => ⟨q.1, nw_blindR q.2⟩, va_recv hK hP (ci := 0) (q0 := 0) rfl rfl, fun U hU hW => ⟨rfl, by rw [hU]; exact hP, va_K.moved hW.alike hK⟩⟩ rfl rfl hl.1 rfl (lv_room (Nat.le_of_ble_eq_true rfl)) dX0_add_29 ⟨Nat.zero_le _, Nat.zero_le _⟩)) (fun r_ hr_ => ?_)
    refine nw_as (y := (pr k 0)) (hr_.trans (hT.1 k (by omega) hk)) ?_
    refine lv_istore_n (lv' := [(3, .int (pr k 0)), (2, .int (nI (n))), (0, .ref (ad 0)), (1, .int (nI (k)))]) hx hb dX0_add_32 rfl hl (by decide) rfl (fun ls hl => ?_)
    refine lv_aload_n hx hb dX0_add_33 rfl (lv_at hl 2 rfl) ?_
    refine va_get (D := (dC, dI)) (ci := 0) (v := .ref (ad 4)) (C := RX0) (T := TX0) (N := 10) hx hb hts in_X0 hown hK hP 0 rfl rfl 7 (by decide) (hts _ q29) (fun _ h9 => h9) rfl dX0_add_34 ?_
    refine lv_iload_n hx hb dX0_add_37 rfl (lv_at hl 1 rfl) ?_
    refine lv_iconst (v := (nI (1))) hx hb dX0_add_38 (by decide) ?_
    refine lv_iadd hx hb dX0_add_39 ?_
    refine nw_as (y := (nI (n + 1))) (nI_add (n) (1)) ?_
    refine lv_aload_n hx hb dX0_add_40 rfl (lv_at hl 2 rfl) ?_
    refine va_get (D := (dC, dI)) (ci := 0) (v := .ref (ad 4)) (C := RX0) (T := TX0) (N := 10) hx hb hts in_X0 hown hK hP 0 rfl rfl 7 (by decide) (hts _ q29) (fun _ h9 => h9) rfl dX0_add_41 ?_
    refine lv_iload_n hx hb dX0_add_44 rfl (lv_at hl 1 rfl) ?_
    refine nw_iald hx hb hK hP 4 3 rfl rfl (j := n) (by omega) (by decide) dX0_add_45 ?_
    refine nw_as (y := ((nw_rn pr st w n).1)) (c1) ?_
    refine lv_iload_n hx hb dX0_add_46 rfl (lv_at hl 0 rfl) ?_
    refine vp_callSi (va_Run.run (va_runS (As := [.int ((nw_rn pr st w n).1), .int (pr k 0)]) (rest := [.int (nI (n + 1)), .ref (ad 4)]) ⟨hx, hb, hml, hown, hts⟩ (metX0_join l ((nw_rn pr st w n).1) (pr k 0)) (va_cwS 2 hts (lw_S q85 q86 q12 q87) rfl rfl rfl (by decide +kernel) ⟨Nat.le_of_ble_eq_true rfl, Nat.le_of_ble_eq_true rfl⟩) ⟨fun a U g mk q => q, fun U hU hW => ⟨rfl, trivial⟩⟩ rfl rfl hl.1 rfl (lv_room (Nat.le_of_ble_eq_true rfl)) dX0_add_47 ⟨Nat.zero_le _, Nat.zero_le _⟩)) (fun r_ hr_ => ?_)
    refine nw_as (y := (nw_jn ((nw_rn pr st w n).1) (pr k 0) 5)) (hr_) ?_
    refine nw_iast hx hb hK hP hD hS 4 3 rfl rfl (j := n + 1) (by omega) (by decide) dX0_add_50 (fun H locs hP hD hS => ?_)
    have hP : va_P (dC, dI) vwCl (nw_xW ad ca (S) (P) (st) (en) (kn) (nI (n + 1)) (upd (aw) (n) (nI (k))) (upd (ay) (n + 1) (nw_jn ((nw_rn pr st w n).1) (pr k 0) 5)) (aa) (ao)) H := hP
    have hD : va_D A (nw_xW ad ca (S) (P) (st) (en) (kn) (nI (n + 1)) (upd (aw) (n) (nI (k))) (upd (ay) (n + 1) (nw_jn ((nw_rn pr st w n).1) (pr k 0) 5)) (aa) (ao)) := hD
    refine lv_aload_n hx hb dX0_add_51 rfl (lv_at hl 2 rfl) ?_
    refine va_get (D := (dC, dI)) (ci := 0) (v := .ref (ad 5)) (C := RX0) (T := TX0) (N := 10) hx hb hts in_X0 hown hK hP 0 rfl rfl 8 (by decide) (hts _ q30) (fun _ h9 => h9) rfl dX0_add_52 ?_
    refine lv_iload_n hx hb dX0_add_55 rfl (lv_at hl 1 rfl) ?_
    refine lv_iconst (v := (nI (1))) hx hb dX0_add_56 (by decide) ?_
    refine lv_iadd hx hb dX0_add_57 ?_
    refine nw_as (y := (nI (n + 1))) (nI_add (n) (1)) ?_
    refine lv_aload_n hx hb dX0_add_58 rfl (lv_at hl 2 rfl) ?_
    refine va_get (D := (dC, dI)) (ci := 0) (v := .ref (ad 5)) (C := RX0) (T := TX0) (N := 10) hx hb hts in_X0 hown hK hP 0 rfl rfl 8 (by decide) (hts _ q30) (fun _ h9 => h9) rfl dX0_add_59 ?_
    refine lv_iload_n hx hb dX0_add_62 rfl (lv_at hl 1 rfl) ?_
    refine nw_iald hx hb hK hP 5 4 rfl rfl (j := n) (by omega) (by decide) dX0_add_63 ?_
    refine nw_as (y := ((nw_rn pr st w n).2.1)) (c2) ?_
    refine lv_iload_n hx hb dX0_add_64 rfl (lv_at hl 0 rfl) ?_
    refine vp_callSi (va_Run.run (va_runS (As := [.int ((nw_rn pr st w n).2.1), .int (pr k 0)]) (rest := [.int (nI (n + 1)), .ref (ad 5)]) ⟨hx, hb, hml, hown, hts⟩ (metX0_lead l ((nw_rn pr st w n).2.1) (pr k 0)) (va_cwS 2 hts (lw_S q88 q89 q12 q90) rfl rfl rfl (by decide +kernel) ⟨Nat.le_of_ble_eq_true rfl, Nat.le_of_ble_eq_true rfl⟩) ⟨fun a U g mk q => q, fun U hU hW => ⟨rfl, trivial⟩⟩ rfl rfl hl.1 rfl (lv_room (Nat.le_of_ble_eq_true rfl)) dX0_add_65 ⟨Nat.zero_le _, Nat.zero_le _⟩)) (fun r_ hr_ => ?_)
    refine nw_as (y := (nw_ld ((nw_rn pr st w n).2.1) (pr k 0) 5)) (hr_) ?_
    refine nw_iast hx hb hK hP hD hS 5 4 rfl rfl (j := n + 1) (by omega) (by decide) dX0_add_68 (fun H locs hP hD hS => ?_)
    have hP : va_P (dC, dI) vwCl (nw_xW ad ca (S) (P) (st) (en) (kn) (nI (n + 1)) (upd (aw) (n) (nI (k))) (upd (ay) (n + 1) (nw_jn ((nw_rn pr st w n).1) (pr k 0) 5)) (upd (aa) (n + 1) (nw_ld ((nw_rn pr st w n).2.1) (pr k 0) 5)) (ao)) H := hP
    have hD : va_D A (nw_xW ad ca (S) (P) (st) (en) (kn) (nI (n + 1)) (upd (aw) (n) (nI (k))) (upd (ay) (n + 1) (nw_jn ((nw_rn pr st w n).1) (pr k 0) 5)) (upd (aa) (n + 1) (nw_ld ((nw_rn pr st w n).2.1) (pr k 0) 5)) (ao)) := hD
    refine lv_aload_n hx hb dX0_add_69 rfl (lv_at hl 2 rfl) ?_
    refine va_get (D := (dC, dI)) (ci := 0) (v := .ref (ad 6)) (C := RX0) (T := TX0) (N := 10) hx hb hts in_X0 hown hK hP 0 rfl rfl 9 (by decide) (hts _ q31) (fun _ h9 => h9) rfl dX0_add_70 ?_
    refine lv_iload_n hx hb dX0_add_73 rfl (lv_at hl 1 rfl) ?_
    refine lv_iconst (v := (nI (1))) hx hb dX0_add_74 (by decide) ?_
    refine lv_iadd hx hb dX0_add_75 ?_
    refine nw_as (y := (nI (n + 1))) (nI_add (n) (1)) ?_
    refine lv_aload_n hx hb dX0_add_76 rfl (lv_at hl 2 rfl) ?_
    refine va_get (D := (dC, dI)) (ci := 0) (v := .ref (ad 6)) (C := RX0) (T := TX0) (N := 10) hx hb hts in_X0 hown hK hP 0 rfl rfl 9 (by decide) (hts _ q31) (fun _ h9 => h9) rfl dX0_add_77 ?_
    refine lv_iload_n hx hb dX0_add_80 rfl (lv_at hl 1 rfl) ?_
    refine nw_iald hx hb hK hP 6 5 rfl rfl (j := n) (by omega) (by decide) dX0_add_81 ?_
    refine nw_iast hx hb hK hP hD hS 6 5 rfl rfl (j := n + 1) (by omega) (by decide) dX0_add_82 (fun H locs hP hD hS => ?_)
    have hP : va_P (dC, dI) vwCl (nw_xW ad ca (S) (P) (st) (en) (kn) (nI (n + 1)) (upd (aw) (n) (nI (k))) (upd (ay) (n + 1) (nw_jn ((nw_rn pr st w n).1) (pr k 0) 5)) (upd (aa) (n + 1) (nw_ld ((nw_rn pr st w n).2.1) (pr k 0) 5)) (upd (ao) (n + 1) (ao (n)))) H := hP
    have hD : va_D A (nw_xW ad ca (S) (P) (st) (en) (kn) (nI (n + 1)) (upd (aw) (n) (nI (k))) (upd (ay) (n + 1) (nw_jn ((nw_rn pr st w n).1) (pr k 0) 5)) (upd (aa) (n + 1) (nw_ld ((nw_rn pr st w n).2.1) (pr k 0) 5)) (upd (ao) (n + 1) (ao (n)))) := hD
    refine lv_goto (tgt := 283) hx hb dX0_add_83 (by decide) ?_
    exact W.vret hx hb hr (fun t ht hW => ⟨⟨(upd (aw) (n) (nI (k)), upd (ay) (n + 1) (nw_jn ((nw_rn pr st w n).1) (pr k 0) 5), upd (aa) (n + 1) (nw_ld ((nw_rn pr st w n).2.1) (pr k 0) 5), upd (ao) (n + 1) (ao (n))), rfl, ⟨rfl, nw_ad_p h4 hC⟩, ⟨by rw [ht]; exact hP, va_K.moved hW.alike hK, hD⟩⟩, hS.F ht⟩) hS.2.2 dX0_add_283
end
section
/-! PURE 5: small rows for the system's public methods -/
theorem nw_up_id (w : Nat → Nat) (n : Nat) : nw_up w n (w n) = w := by
  funext j
  by_cases h : j = n
  · rw [h, nw_up_s]
  · exact nw_up_n h
theorem nw_upw {w : Nat → Nat} {n i : Nat} {f : Nat → Int32} (h : ∀ k, k < n → f k = nI (w k)) : ∀ k, k < n → upd f i (nI (w i)) k = nI (w k) := by
  intro k hk
  by_cases e : k = i
  · rw [e, pk_us]
  · rw [pk_un e]
    exact h k hk
/-- down the chain of waiting letters -/
theorem nw_dr (pr : Nat → Nat → Int32) (s0 : Int32) (w : Nat → Nat) : ∀ (i k : Nat), i < (nw_rn pr s0 w k).2.2.length → ∃ q, q < k ∧ nw_op ((nw_rn pr s0 w k).2.2.drop i) = nI q ∧ nw_op (nw_rn pr s0 w q).2.2 = nw_op ((nw_rn pr s0 w k).2.2.drop (i + 1)) := by
  intro i
  induction i with
  | zero =>
    intro k h
    cases hs : (nw_rn pr s0 w k).2.2 with
    | nil => rw [hs] at h; exact absurd h (Nat.lt_irrefl 0)
    | cons q t =>
      obtain ⟨g1, g2, g3⟩ := nw_rn_top pr s0 w k k (Nat.le_refl k) q t hs
      refine ⟨q.1, g1, rfl, ?_⟩
      rw [g3]
      rfl
  | succ i ih =>
    intro k h
    cases hs : (nw_rn pr s0 w k).2.2 with
    | nil => rw [hs] at h; exact absurd h (Nat.not_lt_zero _)
    | cons q t =>
      obtain ⟨g1, g2, g3⟩ := nw_rn_top pr s0 w k k (Nat.le_refl k) q t hs
      rw [hs, List.length_cons] at h
      have e : (nw_rn pr s0 w q.1).2.2 = t := by rw [g3]
      obtain ⟨x, x1, x2, x3⟩ := ih q.1 (by rw [e]; omega)
      rw [e] at x2 x3
      exact ⟨x, by omega, x2, x3⟩
theorem nw_op_end (L : List (Nat × Int32 × Int32)) : nw_op (L.drop L.length) = -1 := by
  rw [List.drop_length]
  rfl
theorem nw_is1 {a r : Int32} (h : r = if 0 ≤ a ∧ a ≤ 4 then 1 else 0) (g : ¬ r = 0) : 0 ≤ a ∧ a ≤ 4 := by
  by_cases c : 0 ≤ a ∧ a ≤ 4
  · exact c
  · rw [if_neg c] at h
    exact absurd h g
theorem nw_is0 {a r : Int32} (h : r = if 0 ≤ a ∧ a ≤ 4 then 1 else 0) (g : r = 0) : ¬ (0 ≤ a ∧ a ≤ 4) := by
  intro c
  rw [if_pos c, g] at h
  exact absurd h (by decide)
theorem nw_bd1 {a r : Int32} (h : r = if 0 ≤ a ∧ a ≤ 4 then 0 else 1) (g : ¬ r = 0) : ¬ (0 ≤ a ∧ a ≤ 4) := by
  intro c
  rw [if_pos c] at h
  exact g h
theorem nw_bd0 {a r : Int32} (h : r = if 0 ≤ a ∧ a ≤ 4 then 0 else 1) (g : r = 0) : 0 ≤ a ∧ a ≤ 4 := by
  by_cases c : 0 ≤ a ∧ a ≤ 4
  · exact c
  · rw [if_neg c, g] at h
    exact absurd h (by decide)
theorem nw_st5 {q : Nat} (h : q < 5) : 0 ≤ nI q ∧ nI q ≤ 4 := ⟨nI_pos' (by omega), nI_le (a := q) (b := 4) (by omega) (by decide)⟩
/-- move's arguments are good -/
def nw_mok (q k r x : Int32) : Prop := (0 ≤ q ∧ q ≤ 4) ∧ (0 ≤ r ∧ r ≤ 4) ∧ (0 ≤ k ∧ k ≤ 5) ∧ (k < 4 → 0 ≤ x ∧ x ≤ (if k < 2 then 2 else 3))
theorem nw_10 : ¬ (1 : Int32) = 0 := by decide
end
section
/-! WALKS 5: readAll -/
set_option maxHeartbeats 4000000 in
set_option maxRecDepth 100000 in
/-- readAll(): the arrays hold the run of the word -/
theorem metX0_readAll (l : Launch) (dC : Nat → ClassId) (dI : Nat → Nat → Nat) (ad : Nat → Nat) (ca : Nat → ClassId) (S P : nw_F) (st en kn : Int32) (aw ay aa ao : nw_F) (pr : Nat → Nat → Int32) (hT : nw_TC S P pr) (w : Nat → Nat) (n : Nat) (hn : n ≤ 16) (h6 : ∀ k, k < n → w k < 6) (hw : ∀ k, k < n → aw k = nI (w k)) (hC : ¬ kn = 0 → nw_CI pr st w n aw ay aa ao) (sz : Nat) : Met l yX0_readAll (ws_ yX0_readAll cX0_readAll 3 none) ({ frames := 4, cells := 0, slots := 0, locals := 99 }) (va_Pc [.ref (ad 0)] (fun U => U.heap.size = sz ∧ nw_XB dC dI (fun _ => True) (nw_xW ad ca (S) (P) (st) (en) (kn) (nI (n)) (aw) (ay) (aa) (ao)) (nw_xT ca) U)) (va_Qv (fun u : Int32 × nw_F × nw_F × nw_F × nw_F => ¬ u.1 = 0 ∧ nw_CI pr st w n u.2.1 u.2.2.1 u.2.2.2.1 u.2.2.2.2) (fun (u : Int32 × nw_F × nw_F × nw_F × nw_F) t => nw_XB dC dI (va_A (nw_xW ad ca (S) (P) (st) (en) (kn) (nI (n)) (aw) (ay) (aa) (ao)) sz) (nw_xW ad ca (S) (P) (st) (en) (u.1) (nI (n)) (u.2.1) (u.2.2.1) (u.2.2.2.1) (u.2.2.2.2)) (nw_xT ca) t) (va_A (nw_xW ad ca (S) (P) (st) (en) (kn) (nI (n)) (aw) (ay) (aa) (ao)) sz)) 0 0 (va_A (nw_xW ad ca (S) (P) (st) (en) (kn) (nI (n)) (aw) (ay) (aa) (ao)) sz) := by
  refine Met.ofW (cc := cX0_readAll) (maxL := 3) (ret := none) (by decide) rfl ?_
  intro p e s m args below meth c s₁ B hml hv
  obtain ⟨rfl, hsz, hP, hK, hD0⟩ := hv
  have hx := B.exec
  have hb := B.bytes
  have hr := B.returns
  have hts := atoms_spec (ws := ws_ yX0_readAll cX0_readAll 3 none) B.pre
  have hts : ∀ w ∈ lw_all, w.before _ s = true := fun w h => hts w (List.mem_cons_of_mem _ h)
  have hown : s.vm.findClass RX0 = some m.cls := findClass_of_methodNamed B.named
  have hlocks := B.notSynchronized
  subst hsz
  have hD := hD0.self (sz := s.heap.size)
  generalize hAe : va_A (nw_xW ad ca (S) (P) (st) (en) (kn) (nI (n)) (aw) (ay) (aa) (ao)) s.heap.size = A at hD ⊢
  have hA : ∀ q : Nat, s.heap.size ≤ q → A q := fun q h => by rw [← hAe]; exact Or.inr h
  have hS : va_S A s.heap s.heap [] := va_S.rf
  have hP : va_P (dC, dI) vwCl (nw_xW ad ca (S) (P) (st) (en) (kn) (nI (n)) (aw) (ay) (aa) (ao)) s.heap := hP
  have hl := lv_entry ([.ref (ad 0)]) (n := 3) (Nat.le_of_ble_eq_true rfl)
  rw [lg_entry_eq]
  generalize (lg_sl ([.ref (ad 0)]) ++ List.replicate (3 - (lg_sl ([.ref (ad 0)])).length) Slot.unset).toArray = ls at hl ⊢
  have hl : lv_has ls 3 [(0, .ref (ad 0))] := hl
  refine lv_aload_n hx hb dX0_readAll_0 rfl (lv_at hl 0 rfl) ?_
  refine va_get (D := (dC, dI)) (ci := 0) (v := .int (kn)) (C := RX0) (T := TX0) (N := 10) hx hb hts in_X0 hown hK hP 0 rfl rfl 4 (by decide) (hts _ q26) (fun _ h9 => h9) rfl dX0_readAll_1 ?_
  refine lv_if_eq (tgt := 8) hx hb dX0_readAll_4 (by decide) (fun hz => ?_) (fun hz => ?_)
  · refine lv_aload_n hx hb dX0_readAll_8 rfl (lv_at hl 0 rfl) ?_
    refine lv_iconst (v := ((1 : Int32))) hx hb dX0_readAll_9 (by decide) ?_
    refine va_put (D := (dC, dI)) (ci := 0) (v := .int ((1 : Int32))) (ty := .boolean) (C := RX0) (T := TX0) (N := 10) hx hb hts in_X0 tyX0 tyX0_ok nmX0 hown hK hP hD hS 0 rfl rfl 4 (by decide) (hts _ q26) (fun _ h9 => h9) rfl (by decide +kernel) rfl rfl (Nat.le_of_ble_eq_true rfl) dX0_readAll_10 (fun H locs hP hD hS => ?_)
    have hP : va_P (dC, dI) vwCl (nw_xW ad ca (S) (P) (st) (en) ((1 : Int32)) (nI (n)) (aw) (ay) (aa) (ao)) H := hP
    have hD : va_D A (nw_xW ad ca (S) (P) (st) (en) ((1 : Int32)) (nI (n)) (aw) (ay) (aa) (ao)) := hD
    refine lv_aload_n hx hb dX0_readAll_13 rfl (lv_at hl 0 rfl) ?_
    refine va_get (D := (dC, dI)) (ci := 0) (v := .int (nI (n))) (C := RX0) (T := TX0) (N := 10) hx hb hts in_X0 hown hK hP 0 rfl rfl 5 (by decide) (hts _ q27) (fun _ h9 => h9) rfl dX0_readAll_14 ?_
    refine lv_istore_n (lv' := [(1, .int (nI (n))), (0, .ref (ad 0))]) hx hb dX0_readAll_17 rfl hl (by decide) rfl (fun ls hl => ?_)
    refine lv_aload_n hx hb dX0_readAll_18 rfl (lv_at hl 1 rfl) ?_
    refine lv_iconst (v := (nI (0))) hx hb dX0_readAll_19 (by decide) ?_
    refine va_put (D := (dC, dI)) (ci := 0) (v := .int (nI (0))) (ty := .int) (C := RX0) (T := TX0) (N := 10) hx hb hts in_X0 tyX0 tyX0_ok nmX0 hown hK hP hD hS 0 rfl rfl 5 (by decide) (hts _ q27) (fun _ h9 => h9) rfl (by decide +kernel) rfl rfl (Nat.le_of_ble_eq_true rfl) dX0_readAll_20 (fun H locs hP hD hS => ?_)
    have hP : va_P (dC, dI) vwCl (nw_xW ad ca (S) (P) (st) (en) ((1 : Int32)) (nI (0)) (aw) (ay) (aa) (ao)) H := hP
    have hD : va_D A (nw_xW ad ca (S) (P) (st) (en) ((1 : Int32)) (nI (0)) (aw) (ay) (aa) (ao)) := hD
    refine lv_aload_n hx hb dX0_readAll_23 rfl (lv_at hl 1 rfl) ?_
    refine va_get (D := (dC, dI)) (ci := 0) (v := .ref (ad 4)) (C := RX0) (T := TX0) (N := 10) hx hb hts in_X0 hown hK hP 0 rfl rfl 7 (by decide) (hts _ q29) (fun _ h9 => h9) rfl dX0_readAll_24 ?_
    refine lv_iconst (v := (nI (0))) hx hb dX0_readAll_27 (by decide) ?_
    refine vp_callSi (va_Run.run (va_runS (As := []) (rest := [.int (nI (0)), .ref (ad 4)]) ⟨hx, hb, hml, hown, hts⟩ (metX0_same l) (va_cwS 0 hts (lw_S q74 q75 q12 q76) rfl rfl rfl (by decide +kernel) ⟨Nat.le_of_ble_eq_true rfl, Nat.le_of_ble_eq_true rfl⟩) ⟨fun a U g mk q => q, fun U hU hW => ⟨rfl, trivial⟩⟩ rfl rfl hl.1 rfl (lv_room (Nat.le_of_ble_eq_true rfl)) dX0_readAll_28 ⟨Nat.zero_le _, Nat.zero_le _⟩)) (fun r_ hr_ => ?_)
    refine nw_as (y := ((17043521 : Int32))) (hr_) ?_
    refine nw_iast hx hb hK hP hD hS 4 3 rfl rfl (j := 0) (by omega) (by decide) dX0_readAll_31 (fun H locs hP hD hS => ?_)
    have hP : va_P (dC, dI) vwCl (nw_xW ad ca (S) (P) (st) (en) ((1 : Int32)) (nI (0)) (aw) (upd (ay) (0) ((17043521 : Int32))) (aa) (ao)) H := hP
    have hD : va_D A (nw_xW ad ca (S) (P) (st) (en) ((1 : Int32)) (nI (0)) (aw) (upd (ay) (0) ((17043521 : Int32))) (aa) (ao)) := hD
    refine lv_aload_n hx hb dX0_readAll_32 rfl (lv_at hl 1 rfl) ?_
    refine va_get (D := (dC, dI)) (ci := 0) (v := .ref (ad 5)) (C := RX0) (T := TX0) (N := 10) hx hb hts in_X0 hown hK hP 0 rfl rfl 8 (by decide) (hts _ q30) (fun _ h9 => h9) rfl dX0_readAll_33 ?_
    refine lv_iconst (v := (nI (0))) hx hb dX0_readAll_36 (by decide) ?_
    refine lv_aload_n hx hb dX0_readAll_37 rfl (lv_at hl 1 rfl) ?_
    refine va_get (D := (dC, dI)) (ci := 0) (v := .int (st)) (C := RX0) (T := TX0) (N := 10) hx hb hts in_X0 hown hK hP 0 rfl rfl 2 (by decide) (hts _ q24) (fun _ h9 => h9) rfl dX0_readAll_38 ?_
    refine nw_iast hx hb hK hP hD hS 5 4 rfl rfl (j := 0) (by omega) (by decide) dX0_readAll_41 (fun H locs hP hD hS => ?_)
    have hP : va_P (dC, dI) vwCl (nw_xW ad ca (S) (P) (st) (en) ((1 : Int32)) (nI (0)) (aw) (upd (ay) (0) ((17043521 : Int32))) (upd (aa) (0) (st)) (ao)) H := hP
    have hD : va_D A (nw_xW ad ca (S) (P) (st) (en) ((1 : Int32)) (nI (0)) (aw) (upd (ay) (0) ((17043521 : Int32))) (upd (aa) (0) (st)) (ao)) := hD
    refine lv_aload_n hx hb dX0_readAll_42 rfl (lv_at hl 1 rfl) ?_
    refine va_get (D := (dC, dI)) (ci := 0) (v := .ref (ad 6)) (C := RX0) (T := TX0) (N := 10) hx hb hts in_X0 hown hK hP 0 rfl rfl 9 (by decide) (hts _ q31) (fun _ h9 => h9) rfl dX0_readAll_43 ?_
    refine lv_iconst (v := (nI (0))) hx hb dX0_readAll_46 (by decide) ?_
    refine lv_iconst (v := (-1)) hx hb dX0_readAll_47 (by decide) ?_
    refine nw_iast hx hb hK hP hD hS 6 5 rfl rfl (j := 0) (by omega) (by decide) dX0_readAll_48 (fun H locs hP hD hS => ?_)
    have hP : va_P (dC, dI) vwCl (nw_xW ad ca (S) (P) (st) (en) ((1 : Int32)) (nI (0)) (aw) (upd (ay) (0) ((17043521 : Int32))) (upd (aa) (0) (st)) (upd (ao) (0) (-1))) H := hP
    have hD : va_D A (nw_xW ad ca (S) (P) (st) (en) ((1 : Int32)) (nI (0)) (aw) (upd (ay) (0) ((17043521 : Int32))) (upd (aa) (0) (st)) (upd (ao) (0) (-1))) := hD
    refine lv_iconst (v := (nI (0))) hx hb dX0_readAll_49 (by decide) ?_
    refine lv_istore_n (lv' := [(2, .int (nI (0))), (1, .int (nI (n))), (0, .ref (ad 0))]) hx hb dX0_readAll_50 rfl hl (by decide) rfl (fun ls hl => ?_)
    refine nw_loopH 51 (fun i H locs ls => ∃ (b1 b2 b3 b4 : nw_F), va_P (dC, dI) vwCl (nw_xW ad ca (S) (P) (st) (en) ((1 : Int32)) (nI (i)) (b1) (b2) (b3) (b4)) H ∧ va_D A (nw_xW ad ca (S) (P) (st) (en) ((1 : Int32)) (nI (i)) (b1) (b2) (b3) (b4)) ∧ va_S A s.heap H locs ∧ (nw_CI pr st w (i) b1 b2 b3 b4 ∧ ∀ k, k < n → b1 k = nI (w k)) ∧ lv_has ls 3 [(0, .ref (ad 0)), (1, .int (nI (n))), (2, .int (nI (i)))]) (n) ⟨aw, upd ay 0 17043521, upd aa 0 st, upd ao 0 (-1), hP, hD, hS, ⟨nw_CI_0, hw⟩, lv_sub hl [2, 1, 0] rfl⟩ (fun i H locs ls hi hI ih => ?_) (fun H locs ls hI => ?_)
    · obtain ⟨b1, b2, b3, b4, hP, hD, hS, hX, hl⟩ := hI
      refine lv_iload_n hx hb dX0_readAll_51 rfl (lv_at hl 2 rfl) ?_
      refine lv_iload_n hx hb dX0_readAll_52 rfl (lv_at hl 1 rfl) ?_
      refine lv_icmp_ge (tgt := 72) hx hb dX0_readAll_53 (by decide) (fun h => absurd h (nI_ge hi (by omega))) (fun _ => ?_)
      refine lv_aload_n hx hb dX0_readAll_56 rfl (lv_at hl 0 rfl) ?_
      refine lv_aload_n hx hb dX0_readAll_57 rfl (lv_at hl 0 rfl) ?_
      refine va_get (D := (dC, dI)) (ci := 0) (v := .ref (ad 3)) (C := RX0) (T := TX0) (N := 10) hx hb hts in_X0 hown hK hP 0 rfl rfl 6 (by decide) (hts _ q28) (fun _ h9 => h9) rfl dX0_readAll_58 ?_
      refine lv_iload_n hx hb dX0_readAll_61 rfl (lv_at hl 2 rfl) ?_
      refine nw_iald hx hb hK hP 3 2 rfl rfl (j := i) (by omega) (by decide) dX0_readAll_62 ?_
      refine nw_as (y := (nI (w i))) (hX.2 i hi) ?_
      have hFc := va_free (wc := nw_xW ad ca (S) (P) (st) (en) ((1 : Int32)) (nI (i)) (b1) (b2) (b3) (b4)) hD hS hA [0, 1, 2, 3, 4, 5, 6] rfl
      refine va_callv (va_runV (As := [.int (nI (w i))]) (rest := []) ⟨hx, hb, hml, hown, hts⟩ (metX0_add l dC dI ad ca S P st en 1 b1 b2 b3 b4 pr hT w i (by omega) (fun k h => h6 k (by omega)) hX.1 (w i) (h6 i hi) H.size) (cwV 1 hts (lw_V q77 q79 qs1 q12 q80) rfl rfl rfl (by decide +kernel) ⟨Nat.le_of_ble_eq_true rfl, Nat.le_of_ble_eq_true rfl⟩) ⟨fun a U g mk q => ⟨q.1, q.2.1, nw_blind q.2.2⟩, va_recv hK hP (ci := 0) (q0 := 0) rfl rfl, fun U hU hW => ⟨rfl, by rw [hU], by rw [hU]; exact hP, va_K.moved hW.alike hK, hD.weaken (fun _ _ _ _ => trivial)⟩⟩ rfl rfl hl.1 rfl (lv_room (Nat.le_of_ble_eq_true rfl)) dX0_readAll_63 ⟨Nat.zero_le _, Nat.zero_le _⟩) hS (fun q _ h => hFc q h) hFc (fun u t_ H locs ht_ hvm_ hq hB_ _ _ hS => ?_)
      obtain ⟨u1, u2, u3, u4⟩ := u
      obtain ⟨hP, -, hD⟩ := hB_
      rw [ht_] at hP
      have hD := hD.weaken (fun k q _ h => hFc q.1 h)
      have hP : va_P (dC, dI) vwCl (nw_xW ad ca (S) (P) (st) (en) ((1 : Int32)) (nI (i + 1)) (u1) (u2) (u3) (u4)) H := hP
      have hD : va_D A (nw_xW ad ca (S) (P) (st) (en) ((1 : Int32)) (nI (i + 1)) (u1) (u2) (u3) (u4)) := hD
      have hq : u1 = upd b1 i (nI (w i)) ∧ nw_CI pr st (nw_up w i (w i)) (i + 1) u1 u2 u3 u4 := hq
      refine lv_iinc (v := (nI (i + 1))) (lv' := [(2, .int (nI (i + 1))), (0, .ref (ad 0)), (1, .int (nI (n)))]) hx hb dX0_readAll_66 hl (k := 2) rfl (nw_inc (i)) (by decide) rfl (fun ls hl => ?_)
      refine lv_goto (tgt := 51) hx hb dX0_readAll_69 (by decide) ?_
      exact ih _ _ _ ⟨u1, u2, u3, u4, hP, hD, hS, ⟨nw_up_id w i ▸ hq.2, by rw [hq.1]; exact nw_upw hX.2⟩, lv_sub hl [1, 2, 0] rfl⟩
    · obtain ⟨b1, b2, b3, b4, hP, hD, hS, hX, hl⟩ := hI
      refine lv_iload_n hx hb dX0_readAll_51 rfl (lv_at hl 2 rfl) ?_
      refine lv_iload_n hx hb dX0_readAll_52 rfl (lv_at hl 1 rfl) ?_
      refine lv_icmp_ge (tgt := 72) hx hb dX0_readAll_53 (by decide) (fun _ => ?_) (fun h => absurd (nI_le (Nat.le_refl n) (by omega)) h)
      exact W.vret hx hb hr (fun t ht hW => ⟨⟨(1, b1, b2, b3, b4), rfl, ⟨nw_10, hX.1⟩, ⟨by rw [ht]; exact hP, va_K.moved hW.alike hK, hD⟩⟩, hS.F ht⟩) hS.2.2 dX0_readAll_72
    -- done
  · exact W.vret hx hb hr (fun t ht hW => ⟨⟨(kn, aw, ay, aa, ao), rfl, ⟨hz, hC hz⟩, ⟨by rw [ht]; exact hP, va_K.moved hW.alike hK, hD⟩⟩, hS.F ht⟩) hS.2.2 dX0_readAll_7
end
section
/-! WALKS 6: the system: what the law calls -/
set_option maxHeartbeats 4000000 in
set_option maxRecDepth 100000 in
/-- live() -/
theorem metX0_live (l : Launch) (dC : Nat → ClassId) (dI : Nat → Nat → Nat) (ad : Nat → Nat) (ca : Nat → ClassId) (S P : nw_F) (st en kn : Int32) (aw ay aa ao : nw_F) (pr : Nat → Nat → Int32) (hT : nw_TC S P pr) (w : Nat → Nat) (n : Nat) (hn : n ≤ 16) (h6 : ∀ k, k < n → w k < 6) (hw : ∀ k, k < n → aw k = nI (w k)) (hC : ¬ kn = 0 → nw_CI pr st w n aw ay aa ao) (sz : Nat) : Met l yX0_live (ws_ yX0_live cX0_live 1 (some .int)) ({ frames := 5, cells := 0, slots := 0, locals := 121 }) (va_Pc [.ref (ad 0)] (fun U => U.heap.size = sz ∧ nw_XB dC dI (fun _ => True) (nw_xW ad ca (S) (P) (st) (en) (kn) (nI (n)) (aw) (ay) (aa) (ao)) (nw_xT ca) U)) (va_Qi (fun (x : Int32) (u : Int32 × nw_F × nw_F × nw_F × nw_F) => x = (nw_rn pr st w n).2.1 ∧ ¬ u.1 = 0 ∧ nw_CI pr st w n u.2.1 u.2.2.1 u.2.2.2.1 u.2.2.2.2) (fun (u : Int32 × nw_F × nw_F × nw_F × nw_F) t => nw_XB dC dI (va_A (nw_xW ad ca (S) (P) (st) (en) (kn) (nI (n)) (aw) (ay) (aa) (ao)) sz) (nw_xW ad ca (S) (P) (st) (en) (u.1) (nI (n)) (u.2.1) (u.2.2.1) (u.2.2.2.1) (u.2.2.2.2)) (nw_xT ca) t) (va_A (nw_xW ad ca (S) (P) (st) (en) (kn) (nI (n)) (aw) (ay) (aa) (ao)) sz)) 0 0 (va_A (nw_xW ad ca (S) (P) (st) (en) (kn) (nI (n)) (aw) (ay) (aa) (ao)) sz) := by
  refine Met.ofW (cc := cX0_live) (maxL := 1) (ret := (some .int)) (by decide) rfl ?_
  intro p e s m args below meth c s₁ B hml hv
  obtain ⟨rfl, hsz, hP, hK, hD0⟩ := hv
  have hx := B.exec
  have hb := B.bytes
  have hr := B.returns
  have hts := atoms_spec (ws := ws_ yX0_live cX0_live 1 (some .int)) B.pre
  have hts : ∀ w ∈ lw_all, w.before _ s = true := fun w h => hts w (List.mem_cons_of_mem _ h)
  have hown : s.vm.findClass RX0 = some m.cls := findClass_of_methodNamed B.named
  have hlocks := B.notSynchronized
  subst hsz
  have hD := hD0.self (sz := s.heap.size)
  generalize hAe : va_A (nw_xW ad ca (S) (P) (st) (en) (kn) (nI (n)) (aw) (ay) (aa) (ao)) s.heap.size = A at hD ⊢
  have hA : ∀ q : Nat, s.heap.size ≤ q → A q := fun q h => by rw [← hAe]; exact Or.inr h
  have hS : va_S A s.heap s.heap [] := va_S.rf
  have hP : va_P (dC, dI) vwCl (nw_xW ad ca (S) (P) (st) (en) (kn) (nI (n)) (aw) (ay) (aa) (ao)) s.heap := hP
  have hl := lv_entry ([.ref (ad 0)]) (n := 1) (Nat.le_of_ble_eq_true rfl)
  rw [lg_entry_eq]
  generalize (lg_sl ([.ref (ad 0)]) ++ List.replicate (1 - (lg_sl ([.ref (ad 0)])).length) Slot.unset).toArray = ls at hl ⊢
  have hl : lv_has ls 1 [(0, .ref (ad 0))] := hl
  refine lv_aload_n hx hb dX0_live_0 rfl (lv_at hl 0 rfl) ?_
  have hFc := va_free (wc := nw_xW ad ca (S) (P) (st) (en) (kn) (nI (n)) (aw) (ay) (aa) (ao)) hD hS hA [0, 1, 2, 3, 4, 5, 6] rfl
  refine va_callv (va_runV (As := []) (rest := []) ⟨hx, hb, hml, hown, hts⟩ (metX0_readAll l dC dI ad ca S P st en kn aw ay aa ao pr hT w n hn h6 hw hC s.heap.size) (cwV 0 hts (lw_V q70 q72 qs0 q12 q73) rfl rfl rfl (by decide +kernel) ⟨Nat.le_of_ble_eq_true rfl, Nat.le_of_ble_eq_true rfl⟩) ⟨fun a U g mk q => ⟨q.1, q.2.1, nw_blind q.2.2⟩, va_recv hK hP (ci := 0) (q0 := 0) rfl rfl, fun U hU hW => ⟨rfl, by rw [hU], by rw [hU]; exact hP, va_K.moved hW.alike hK, hD.weaken (fun _ _ _ _ => trivial)⟩⟩ rfl rfl hl.1 rfl (lv_room (Nat.le_of_ble_eq_true rfl)) dX0_live_1 ⟨Nat.zero_le _, Nat.zero_le _⟩) hS (fun q _ h => hFc q h) hFc (fun u t_ H locs ht_ hvm_ hq hB_ _ _ hS => ?_)
  obtain ⟨kn1, aw1, ay1, aa1, ao1⟩ := u
  obtain ⟨hP, -, hD⟩ := hB_
  rw [ht_] at hP
  have hD := hD.weaken (fun k q _ h => hFc q.1 h)
  have hP : va_P (dC, dI) vwCl (nw_xW ad ca (S) (P) (st) (en) (kn1) (nI (n)) (aw1) (ay1) (aa1) (ao1)) H := hP
  have hD : va_D A (nw_xW ad ca (S) (P) (st) (en) (kn1) (nI (n)) (aw1) (ay1) (aa1) (ao1)) := hD
  have hq : ¬ kn1 = 0 ∧ nw_CI pr st w n aw1 ay1 aa1 ao1 := hq
  refine lv_aload_n hx hb dX0_live_4 rfl (lv_at hl 0 rfl) ?_
  refine va_get (D := (dC, dI)) (ci := 0) (v := .ref (ad 5)) (C := RX0) (T := TX0) (N := 10) hx hb hts in_X0 hown hK hP 0 rfl rfl 8 (by decide) (hts _ q30) (fun _ h9 => h9) rfl dX0_live_5 ?_
  refine lv_aload_n hx hb dX0_live_8 rfl (lv_at hl 0 rfl) ?_
  refine va_get (D := (dC, dI)) (ci := 0) (v := .int (nI (n))) (C := RX0) (T := TX0) (N := 10) hx hb hts in_X0 hown hK hP 0 rfl rfl 5 (by decide) (hts _ q27) (fun _ h9 => h9) rfl dX0_live_9 ?_
  refine nw_iald hx hb hK hP 5 4 rfl rfl (j := n) (by omega) (by decide) dX0_live_12 ?_
  refine nw_as (y := ((nw_rn pr st w n).2.1)) ((hq.2.2 n (Nat.le_refl n)).2.1) ?_
  exact W.iret (v := ((nw_rn pr st w n).2.1)) hx hb hr (fun t ht hW => ⟨⟨_, (kn1, aw1, ay1, aa1, ao1), rfl, ⟨rfl, hq⟩, ⟨by rw [ht]; exact hP, va_K.moved hW.alike hK, hD⟩⟩, hS.F ht⟩) hS.2.2 dX0_live_13
set_option maxHeartbeats 4000000 in
set_option maxRecDepth 100000 in
/-- accepted() -/
theorem metX0_accepted (l : Launch) (dC : Nat → ClassId) (dI : Nat → Nat → Nat) (ad : Nat → Nat) (ca : Nat → ClassId) (S P : nw_F) (st en kn : Int32) (aw ay aa ao : nw_F) (pr : Nat → Nat → Int32) (hT : nw_TC S P pr) (w : Nat → Nat) (n : Nat) (hn : n ≤ 16) (h6 : ∀ k, k < n → w k < 6) (hw : ∀ k, k < n → aw k = nI (w k)) (hC : ¬ kn = 0 → nw_CI pr st w n aw ay aa ao) (sz : Nat) : Met l yX0_accepted (ws_ yX0_accepted cX0_accepted 1 (some .int)) ({ frames := 5, cells := 0, slots := 0, locals := 121 }) (va_Pc [.ref (ad 0)] (fun U => U.heap.size = sz ∧ nw_XB dC dI (fun _ => True) (nw_xW ad ca (S) (P) (st) (en) (kn) (nI (n)) (aw) (ay) (aa) (ao)) (nw_xT ca) U)) (va_Qi (fun (x : Int32) (u : Int32 × nw_F × nw_F × nw_F × nw_F) => x = (if ((nw_rn pr st w n).2.1 &&& en) = 0 then 0 else 1) ∧ ¬ u.1 = 0 ∧ nw_CI pr st w n u.2.1 u.2.2.1 u.2.2.2.1 u.2.2.2.2) (fun (u : Int32 × nw_F × nw_F × nw_F × nw_F) t => nw_XB dC dI (va_A (nw_xW ad ca (S) (P) (st) (en) (kn) (nI (n)) (aw) (ay) (aa) (ao)) sz) (nw_xW ad ca (S) (P) (st) (en) (u.1) (nI (n)) (u.2.1) (u.2.2.1) (u.2.2.2.1) (u.2.2.2.2)) (nw_xT ca) t) (va_A (nw_xW ad ca (S) (P) (st) (en) (kn) (nI (n)) (aw) (ay) (aa) (ao)) sz)) 0 0 (va_A (nw_xW ad ca (S) (P) (st) (en) (kn) (nI (n)) (aw) (ay) (aa) (ao)) sz) := by
  refine Met.ofW (cc := cX0_accepted) (maxL := 1) (ret := (some .int)) (by decide) rfl ?_
  intro p e s m args below meth c s₁ B hml hv
  obtain ⟨rfl, hsz, hP, hK, hD0⟩ := hv
  have hx := B.exec
  have hb := B.bytes
  have hr := B.returns
  have hts := atoms_spec (ws := ws_ yX0_accepted cX0_accepted 1 (some .int)) B.pre
  have hts : ∀ w ∈ lw_all, w.before _ s = true := fun w h => hts w (List.mem_cons_of_mem _ h)
  have hown : s.vm.findClass RX0 = some m.cls := findClass_of_methodNamed B.named
  have hlocks := B.notSynchronized
  subst hsz
  have hD := hD0.self (sz := s.heap.size)
  generalize hAe : va_A (nw_xW ad ca (S) (P) (st) (en) (kn) (nI (n)) (aw) (ay) (aa) (ao)) s.heap.size = A at hD ⊢
  have hA : ∀ q : Nat, s.heap.size ≤ q → A q := fun q h => by rw [← hAe]; exact Or.inr h
  have hS : va_S A s.heap s.heap [] := va_S.rf
  have hP : va_P (dC, dI) vwCl (nw_xW ad ca (S) (P) (st) (en) (kn) (nI (n)) (aw) (ay) (aa) (ao)) s.heap := hP
  have hl := lv_entry ([.ref (ad 0)]) (n := 1) (Nat.le_of_ble_eq_true rfl)
  rw [lg_entry_eq]
  generalize (lg_sl ([.ref (ad 0)]) ++ List.replicate (1 - (lg_sl ([.ref (ad 0)])).length) Slot.unset).toArray = ls at hl ⊢
  have hl : lv_has ls 1 [(0, .ref (ad 0))] := hl
  refine lv_aload_n hx hb dX0_accepted_0 rfl (lv_at hl 0 rfl) ?_
  have hFc := va_free (wc := nw_xW ad ca (S) (P) (st) (en) (kn) (nI (n)) (aw) (ay) (aa) (ao)) hD hS hA [0, 1, 2, 3, 4, 5, 6] rfl
  refine va_callv (va_runV (As := []) (rest := []) ⟨hx, hb, hml, hown, hts⟩ (metX0_readAll l dC dI ad ca S P st en kn aw ay aa ao pr hT w n hn h6 hw hC s.heap.size) (cwV 0 hts (lw_V q70 q72 qs0 q12 q73) rfl rfl rfl (by decide +kernel) ⟨Nat.le_of_ble_eq_true rfl, Nat.le_of_ble_eq_true rfl⟩) ⟨fun a U g mk q => ⟨q.1, q.2.1, nw_blind q.2.2⟩, va_recv hK hP (ci := 0) (q0 := 0) rfl rfl, fun U hU hW => ⟨rfl, by rw [hU], by rw [hU]; exact hP, va_K.moved hW.alike hK, hD.weaken (fun _ _ _ _ => trivial)⟩⟩ rfl rfl hl.1 rfl (lv_room (Nat.le_of_ble_eq_true rfl)) dX0_accepted_1 ⟨Nat.zero_le _, Nat.zero_le _⟩) hS (fun q _ h => hFc q h) hFc (fun u t_ H locs ht_ hvm_ hq hB_ _ _ hS => ?_)
  obtain ⟨kn1, aw1, ay1, aa1, ao1⟩ := u
  obtain ⟨hP, -, hD⟩ := hB_
  rw [ht_] at hP
  have hD := hD.weaken (fun k q _ h => hFc q.1 h)
  have hP : va_P (dC, dI) vwCl (nw_xW ad ca (S) (P) (st) (en) (kn1) (nI (n)) (aw1) (ay1) (aa1) (ao1)) H := hP
  have hD : va_D A (nw_xW ad ca (S) (P) (st) (en) (kn1) (nI (n)) (aw1) (ay1) (aa1) (ao1)) := hD
  have hq : ¬ kn1 = 0 ∧ nw_CI pr st w n aw1 ay1 aa1 ao1 := hq
  refine lv_aload_n hx hb dX0_accepted_4 rfl (lv_at hl 0 rfl) ?_
  refine va_get (D := (dC, dI)) (ci := 0) (v := .ref (ad 5)) (C := RX0) (T := TX0) (N := 10) hx hb hts in_X0 hown hK hP 0 rfl rfl 8 (by decide) (hts _ q30) (fun _ h9 => h9) rfl dX0_accepted_5 ?_
  refine lv_aload_n hx hb dX0_accepted_8 rfl (lv_at hl 0 rfl) ?_
  refine va_get (D := (dC, dI)) (ci := 0) (v := .int (nI (n))) (C := RX0) (T := TX0) (N := 10) hx hb hts in_X0 hown hK hP 0 rfl rfl 5 (by decide) (hts _ q27) (fun _ h9 => h9) rfl dX0_accepted_9 ?_
  refine nw_iald hx hb hK hP 5 4 rfl rfl (j := n) (by omega) (by decide) dX0_accepted_12 ?_
  refine nw_as (y := ((nw_rn pr st w n).2.1)) ((hq.2.2 n (Nat.le_refl n)).2.1) ?_
  refine lv_aload_n hx hb dX0_accepted_13 rfl (lv_at hl 0 rfl) ?_
  refine va_get (D := (dC, dI)) (ci := 0) (v := .int (en)) (C := RX0) (T := TX0) (N := 10) hx hb hts in_X0 hown hK hP 0 rfl rfl 3 (by decide) (hts _ q25) (fun _ h9 => h9) rfl dX0_accepted_14 ?_
  refine lv_iand hx hb dX0_accepted_17 ?_
  refine lv_if_eq (tgt := 25) hx hb dX0_accepted_18 (by decide) (fun hz => ?_) (fun hz => ?_)
  · refine lv_iconst (v := ((0 : Int32))) hx hb dX0_accepted_25 (by decide) ?_
    exact W.iret (v := ((0 : Int32))) hx hb hr (fun t ht hW => ⟨⟨_, (kn1, aw1, ay1, aa1, ao1), rfl, ⟨(if_pos hz).symm, hq⟩, ⟨by rw [ht]; exact hP, va_K.moved hW.alike hK, hD⟩⟩, hS.F ht⟩) hS.2.2 dX0_accepted_26
  · refine lv_iconst (v := ((1 : Int32))) hx hb dX0_accepted_21 (by decide) ?_
    refine lv_goto (tgt := 26) hx hb dX0_accepted_22 (by decide) ?_
    exact W.iret (v := ((1 : Int32))) hx hb hr (fun t ht hW => ⟨⟨_, (kn1, aw1, ay1, aa1, ao1), rfl, ⟨(if_neg hz).symm, hq⟩, ⟨by rw [ht]; exact hP, va_K.moved hW.alike hK, hD⟩⟩, hS.F ht⟩) hS.2.2 dX0_accepted_26
set_option maxHeartbeats 4000000 in
set_option maxRecDepth 100000 in
/-- the number of waiting letters -/
theorem metX0_open (l : Launch) (dC : Nat → ClassId) (dI : Nat → Nat → Nat) (ad : Nat → Nat) (ca : Nat → ClassId) (S P : nw_F) (st en kn : Int32) (aw ay aa ao : nw_F) (pr : Nat → Nat → Int32) (hT : nw_TC S P pr) (w : Nat → Nat) (n : Nat) (hn : n ≤ 16) (h6 : ∀ k, k < n → w k < 6) (hw : ∀ k, k < n → aw k = nI (w k)) (hC : ¬ kn = 0 → nw_CI pr st w n aw ay aa ao) (sz : Nat) : Met l yX0_open (ws_ yX0_open cX0_open 4 (some .int)) ({ frames := 5, cells := 0, slots := 0, locals := 121 }) (va_Pc [.ref (ad 0)] (fun U => U.heap.size = sz ∧ nw_XB dC dI (fun _ => True) (nw_xW ad ca (S) (P) (st) (en) (kn) (nI (n)) (aw) (ay) (aa) (ao)) (nw_xT ca) U)) (va_Qi (fun (x : Int32) (u : Int32 × nw_F × nw_F × nw_F × nw_F) => x = nI (nw_rn pr st w n).2.2.length ∧ ¬ u.1 = 0 ∧ nw_CI pr st w n u.2.1 u.2.2.1 u.2.2.2.1 u.2.2.2.2) (fun (u : Int32 × nw_F × nw_F × nw_F × nw_F) t => nw_XB dC dI (va_A (nw_xW ad ca (S) (P) (st) (en) (kn) (nI (n)) (aw) (ay) (aa) (ao)) sz) (nw_xW ad ca (S) (P) (st) (en) (u.1) (nI (n)) (u.2.1) (u.2.2.1) (u.2.2.2.1) (u.2.2.2.2)) (nw_xT ca) t) (va_A (nw_xW ad ca (S) (P) (st) (en) (kn) (nI (n)) (aw) (ay) (aa) (ao)) sz)) 0 0 (va_A (nw_xW ad ca (S) (P) (st) (en) (kn) (nI (n)) (aw) (ay) (aa) (ao)) sz) := by
  refine Met.ofW (cc := cX0_open) (maxL := 4) (ret := (some .int)) (by decide) rfl ?_
  intro p e s m args below meth c s₁ B hml hv
  obtain ⟨rfl, hsz, hP, hK, hD0⟩ := hv
  have hx := B.exec
  have hb := B.bytes
  have hr := B.returns
  have hts := atoms_spec (ws := ws_ yX0_open cX0_open 4 (some .int)) B.pre
  have hts : ∀ w ∈ lw_all, w.before _ s = true := fun w h => hts w (List.mem_cons_of_mem _ h)
  have hown : s.vm.findClass RX0 = some m.cls := findClass_of_methodNamed B.named
  have hlocks := B.notSynchronized
  subst hsz
  have hD := hD0.self (sz := s.heap.size)
  generalize hAe : va_A (nw_xW ad ca (S) (P) (st) (en) (kn) (nI (n)) (aw) (ay) (aa) (ao)) s.heap.size = A at hD ⊢
  have hA : ∀ q : Nat, s.heap.size ≤ q → A q := fun q h => by rw [← hAe]; exact Or.inr h
  have hS : va_S A s.heap s.heap [] := va_S.rf
  have hP : va_P (dC, dI) vwCl (nw_xW ad ca (S) (P) (st) (en) (kn) (nI (n)) (aw) (ay) (aa) (ao)) s.heap := hP
  have hl := lv_entry ([.ref (ad 0)]) (n := 4) (Nat.le_of_ble_eq_true rfl)
  rw [lg_entry_eq]
  generalize (lg_sl ([.ref (ad 0)]) ++ List.replicate (4 - (lg_sl ([.ref (ad 0)])).length) Slot.unset).toArray = ls at hl ⊢
  have hl : lv_has ls 4 [(0, .ref (ad 0))] := hl
  refine lv_aload_n hx hb dX0_open_0 rfl (lv_at hl 0 rfl) ?_
  have hFc := va_free (wc := nw_xW ad ca (S) (P) (st) (en) (kn) (nI (n)) (aw) (ay) (aa) (ao)) hD hS hA [0, 1, 2, 3, 4, 5, 6] rfl
  refine va_callv (va_runV (As := []) (rest := []) ⟨hx, hb, hml, hown, hts⟩ (metX0_readAll l dC dI ad ca S P st en kn aw ay aa ao pr hT w n hn h6 hw hC s.heap.size) (cwV 0 hts (lw_V q70 q72 qs0 q12 q73) rfl rfl rfl (by decide +kernel) ⟨Nat.le_of_ble_eq_true rfl, Nat.le_of_ble_eq_true rfl⟩) ⟨fun a U g mk q => ⟨q.1, q.2.1, nw_blind q.2.2⟩, va_recv hK hP (ci := 0) (q0 := 0) rfl rfl, fun U hU hW => ⟨rfl, by rw [hU], by rw [hU]; exact hP, va_K.moved hW.alike hK, hD.weaken (fun _ _ _ _ => trivial)⟩⟩ rfl rfl hl.1 rfl (lv_room (Nat.le_of_ble_eq_true rfl)) dX0_open_1 ⟨Nat.zero_le _, Nat.zero_le _⟩) hS (fun q _ h => hFc q h) hFc (fun u t_ H locs ht_ hvm_ hq hB_ _ _ hS => ?_)
  obtain ⟨kn1, aw1, ay1, aa1, ao1⟩ := u
  obtain ⟨hP, -, hD⟩ := hB_
  rw [ht_] at hP
  have hD := hD.weaken (fun k q _ h => hFc q.1 h)
  have hP : va_P (dC, dI) vwCl (nw_xW ad ca (S) (P) (st) (en) (kn1) (nI (n)) (aw1) (ay1) (aa1) (ao1)) H := hP
  have hD : va_D A (nw_xW ad ca (S) (P) (st) (en) (kn1) (nI (n)) (aw1) (ay1) (aa1) (ao1)) := hD
  have hq : ¬ kn1 = 0 ∧ nw_CI pr st w n aw1 ay1 aa1 ao1 := hq
  refine lv_iconst (v := (nI (0))) hx hb dX0_open_4 (by decide) ?_
  refine lv_istore_n (lv' := [(1, .int (nI (0))), (0, .ref (ad 0))]) hx hb dX0_open_5 rfl hl (by decide) rfl (fun ls hl => ?_)
  refine lv_aload_n hx hb dX0_open_6 rfl (lv_at hl 1 rfl) ?_
  refine va_get (D := (dC, dI)) (ci := 0) (v := .ref (ad 6)) (C := RX0) (T := TX0) (N := 10) hx hb hts in_X0 hown hK hP 0 rfl rfl 9 (by decide) (hts _ q31) (fun _ h9 => h9) rfl dX0_open_7 ?_
  refine lv_aload_n hx hb dX0_open_10 rfl (lv_at hl 1 rfl) ?_
  refine va_get (D := (dC, dI)) (ci := 0) (v := .int (nI (n))) (C := RX0) (T := TX0) (N := 10) hx hb hts in_X0 hown hK hP 0 rfl rfl 5 (by decide) (hts _ q27) (fun _ h9 => h9) rfl dX0_open_11 ?_
  refine nw_iald hx hb hK hP 6 5 rfl rfl (j := n) (by omega) (by decide) dX0_open_14 ?_
  refine nw_as (y := (nw_op (nw_rn pr st w n).2.2)) ((hq.2.2 n (Nat.le_refl n)).2.2) ?_
  refine lv_istore_n (lv' := [(2, .int (nw_op (nw_rn pr st w n).2.2)), (1, .int (nI (0))), (0, .ref (ad 0))]) hx hb dX0_open_15 rfl hl (by decide) rfl (fun ls hl => ?_)
  refine lv_iconst (v := (nI (0))) hx hb dX0_open_16 (by decide) ?_
  refine lv_istore_n (lv' := [(3, .int (nI (0))), (2, .int (nw_op (nw_rn pr st w n).2.2)), (1, .int (nI (0))), (0, .ref (ad 0))]) hx hb dX0_open_17 rfl hl (by decide) rfl (fun ls hl => ?_)
  have hlen : (nw_rn pr st w n).2.2.length ≤ n := by rw [nw_rn_len]; exact nw_sp_len n
  refine nw_loop 18 (fun i ls => lv_has ls 4 [(0, .ref (ad 0)), (1, .int (nI (i))), (2, .int (nw_op ((nw_rn pr st w n).2.2.drop (i)))), (3, .int (nI (i)))]) (nw_rn pr st w n).2.2.length (lv_sub hl [3, 2, 1, 0] rfl) (fun i ls hi hl ih => ?_) (fun ls hl => ?_)
  · obtain ⟨q, q1, q2, q3⟩ := nw_dr pr st w i n hi
    refine lv_iload_n hx hb dX0_open_18 rfl (lv_at hl 3 rfl) ?_
    refine lv_bipush (v := (nI (16))) hx hb dX0_open_19 (by decide) ?_
    refine lv_icmp_ge (tgt := 44) hx hb dX0_open_21 (by decide) (fun h => absurd h (nI_ge (by omega) (by decide))) (fun _ => ?_)
    refine lv_iload_n hx hb dX0_open_24 rfl (lv_at hl 2 rfl) ?_
    refine lv_if_lt (tgt := 44) hx hb dX0_open_25 (by decide) (fun h => absurd h (by rw [q2]; exact nI_pos (by omega))) (fun _ => ?_)
    refine lv_iinc (v := (nI (i + 1))) (lv' := [(1, .int (nI (i + 1))), (0, .ref (ad 0)), (2, .int (nw_op ((nw_rn pr st w n).2.2.drop (i)))), (3, .int (nI (i)))]) hx hb dX0_open_28 hl (k := 1) rfl (nw_inc (i)) (by decide) rfl (fun ls hl => ?_)
    refine lv_aload_n hx hb dX0_open_31 rfl (lv_at hl 1 rfl) ?_
    refine va_get (D := (dC, dI)) (ci := 0) (v := .ref (ad 6)) (C := RX0) (T := TX0) (N := 10) hx hb hts in_X0 hown hK hP 0 rfl rfl 9 (by decide) (hts _ q31) (fun _ h9 => h9) rfl dX0_open_32 ?_
    refine lv_iload_n hx hb dX0_open_35 rfl (lv_at hl 2 rfl) ?_
    refine nw_as (y := (nI (q))) (q2) ?_
    refine nw_iald hx hb hK hP 6 5 rfl rfl (j := q) (by omega) (by decide) dX0_open_36 ?_
    refine nw_as (y := (nw_op ((nw_rn pr st w n).2.2.drop (i + 1)))) (((hq.2.2 q (by omega)).2.2).trans q3) ?_
    refine lv_istore_n (lv' := [(2, .int (nw_op ((nw_rn pr st w n).2.2.drop (i + 1)))), (1, .int (nI (i + 1))), (0, .ref (ad 0)), (3, .int (nI (i)))]) hx hb dX0_open_37 rfl hl (by decide) rfl (fun ls hl => ?_)
    refine lv_iinc (v := (nI (i + 1))) (lv' := [(3, .int (nI (i + 1))), (2, .int (nw_op ((nw_rn pr st w n).2.2.drop (i + 1)))), (1, .int (nI (i + 1))), (0, .ref (ad 0))]) hx hb dX0_open_38 hl (k := 3) rfl (nw_inc (i)) (by decide) rfl (fun ls hl => ?_)
    refine lv_goto (tgt := 18) hx hb dX0_open_41 (by decide) ?_
    exact ih _ (lv_sub hl [3, 2, 1, 0] rfl)
  · refine lv_iload_n hx hb dX0_open_18 rfl (lv_at hl 3 rfl) ?_
    refine lv_bipush (v := (nI (16))) hx hb dX0_open_19 (by decide) ?_
    refine lv_icmp_ge (tgt := 44) hx hb dX0_open_21 (by decide) (fun hz => ?_) (fun hz => ?_)
    · refine lv_iload_n hx hb dX0_open_44 rfl (lv_at hl 1 rfl) ?_
      exact W.iret (v := (nI ((nw_rn pr st w n).2.2.length))) hx hb hr (fun t ht hW => ⟨⟨_, (kn1, aw1, ay1, aa1, ao1), rfl, ⟨rfl, hq⟩, ⟨by rw [ht]; exact hP, va_K.moved hW.alike hK, hD⟩⟩, hS.F ht⟩) hS.2.2 dX0_open_45
    · refine lv_iload_n hx hb dX0_open_24 rfl (lv_at hl 2 rfl) ?_
      refine lv_if_lt (tgt := 44) hx hb dX0_open_25 (by decide) (fun _ => ?_) (fun h => absurd (by rw [nw_op_end]; decide) h)
      refine lv_iload_n hx hb dX0_open_44 rfl (lv_at hl 1 rfl) ?_
      exact W.iret (v := (nI ((nw_rn pr st w n).2.2.length))) hx hb hr (fun t ht hW => ⟨⟨_, (kn1, aw1, ay1, aa1, ao1), rfl, ⟨rfl, hq⟩, ⟨by rw [ht]; exact hP, va_K.moved hW.alike hK, hD⟩⟩, hS.F ht⟩) hS.2.2 dX0_open_45
set_option maxHeartbeats 4000000 in
set_option maxRecDepth 100000 in
/-- next(): the letters that leave a state live -/
theorem metX0_next (l : Launch) (dC : Nat → ClassId) (dI : Nat → Nat → Nat) (ad : Nat → Nat) (ca : Nat → ClassId) (S P : nw_F) (st en kn : Int32) (aw ay aa ao : nw_F) (pr : Nat → Nat → Int32) (hT : nw_TC S P pr) (w : Nat → Nat) (n : Nat) (hn : n ≤ 16) (h6 : ∀ k, k < n → w k < 6) (hw : ∀ k, k < n → aw k = nI (w k)) (hC : ¬ kn = 0 → nw_CI pr st w n aw ay aa ao) (sz : Nat) : Met l yX0_next (ws_ yX0_next cX0_next 3 (some .int)) ({ frames := 5, cells := 0, slots := 0, locals := 121 }) (va_Pc [.ref (ad 0)] (fun U => U.heap.size = sz ∧ nw_XB dC dI (fun _ => True) (nw_xW ad ca (S) (P) (st) (en) (kn) (nI (n)) (aw) (ay) (aa) (ao)) (nw_xT ca) U)) (va_Qi (fun (x : Int32) (u : Int32 × nw_F × nw_F × nw_F × nw_F) => x = nw_nx pr st w n 6 ∧ ¬ u.1 = 0 ∧ nw_CI pr st w n u.2.1 u.2.2.1 u.2.2.2.1 u.2.2.2.2) (fun (u : Int32 × nw_F × nw_F × nw_F × nw_F) t => nw_XB dC dI (va_A (nw_xW ad ca (S) (P) (st) (en) (kn) (nI (n)) (aw) (ay) (aa) (ao)) sz) (nw_xW ad ca (S) (P) (st) (en) (u.1) (nI (n)) (u.2.1) (u.2.2.1) (u.2.2.2.1) (u.2.2.2.2)) (nw_xT ca) t) (va_A (nw_xW ad ca (S) (P) (st) (en) (kn) (nI (n)) (aw) (ay) (aa) (ao)) sz)) 0 0 (va_A (nw_xW ad ca (S) (P) (st) (en) (kn) (nI (n)) (aw) (ay) (aa) (ao)) sz) := by
  refine Met.ofW (cc := cX0_next) (maxL := 3) (ret := (some .int)) (by decide) rfl ?_
  intro p e s m args below meth c s₁ B hml hv
  obtain ⟨rfl, hsz, hP, hK, hD0⟩ := hv
  have hx := B.exec
  have hb := B.bytes
  have hr := B.returns
  have hts := atoms_spec (ws := ws_ yX0_next cX0_next 3 (some .int)) B.pre
  have hts : ∀ w ∈ lw_all, w.before _ s = true := fun w h => hts w (List.mem_cons_of_mem _ h)
  have hown : s.vm.findClass RX0 = some m.cls := findClass_of_methodNamed B.named
  have hlocks := B.notSynchronized
  subst hsz
  have hD := hD0.self (sz := s.heap.size)
  generalize hAe : va_A (nw_xW ad ca (S) (P) (st) (en) (kn) (nI (n)) (aw) (ay) (aa) (ao)) s.heap.size = A at hD ⊢
  have hA : ∀ q : Nat, s.heap.size ≤ q → A q := fun q h => by rw [← hAe]; exact Or.inr h
  have hS : va_S A s.heap s.heap [] := va_S.rf
  have hP : va_P (dC, dI) vwCl (nw_xW ad ca (S) (P) (st) (en) (kn) (nI (n)) (aw) (ay) (aa) (ao)) s.heap := hP
  have hl := lv_entry ([.ref (ad 0)]) (n := 3) (Nat.le_of_ble_eq_true rfl)
  rw [lg_entry_eq]
  generalize (lg_sl ([.ref (ad 0)]) ++ List.replicate (3 - (lg_sl ([.ref (ad 0)])).length) Slot.unset).toArray = ls at hl ⊢
  have hl : lv_has ls 3 [(0, .ref (ad 0))] := hl
  refine lv_aload_n hx hb dX0_next_0 rfl (lv_at hl 0 rfl) ?_
  have hFc := va_free (wc := nw_xW ad ca (S) (P) (st) (en) (kn) (nI (n)) (aw) (ay) (aa) (ao)) hD hS hA [0, 1, 2, 3, 4, 5, 6] rfl
  refine va_callv (va_runV (As := []) (rest := []) ⟨hx, hb, hml, hown, hts⟩ (metX0_readAll l dC dI ad ca S P st en kn aw ay aa ao pr hT w n hn h6 hw hC s.heap.size) (cwV 0 hts (lw_V q70 q72 qs0 q12 q73) rfl rfl rfl (by decide +kernel) ⟨Nat.le_of_ble_eq_true rfl, Nat.le_of_ble_eq_true rfl⟩) ⟨fun a U g mk q => ⟨q.1, q.2.1, nw_blind q.2.2⟩, va_recv hK hP (ci := 0) (q0 := 0) rfl rfl, fun U hU hW => ⟨rfl, by rw [hU], by rw [hU]; exact hP, va_K.moved hW.alike hK, hD.weaken (fun _ _ _ _ => trivial)⟩⟩ rfl rfl hl.1 rfl (lv_room (Nat.le_of_ble_eq_true rfl)) dX0_next_1 ⟨Nat.zero_le _, Nat.zero_le _⟩) hS (fun q _ h => hFc q h) hFc (fun u t_ H locs ht_ hvm_ hq hB_ _ _ hS => ?_)
  obtain ⟨kn1, aw1, ay1, aa1, ao1⟩ := u
  obtain ⟨hP, -, hD⟩ := hB_
  rw [ht_] at hP
  have hD := hD.weaken (fun k q _ h => hFc q.1 h)
  have hP : va_P (dC, dI) vwCl (nw_xW ad ca (S) (P) (st) (en) (kn1) (nI (n)) (aw1) (ay1) (aa1) (ao1)) H := hP
  have hD : va_D A (nw_xW ad ca (S) (P) (st) (en) (kn1) (nI (n)) (aw1) (ay1) (aa1) (ao1)) := hD
  have hq : ¬ kn1 = 0 ∧ nw_CI pr st w n aw1 ay1 aa1 ao1 := hq
  refine lv_iconst (v := (nI (0))) hx hb dX0_next_4 (by decide) ?_
  refine lv_istore_n (lv' := [(1, .int (nI (0))), (0, .ref (ad 0))]) hx hb dX0_next_5 rfl hl (by decide) rfl (fun ls hl => ?_)
  refine lv_iconst (v := (nI (0))) hx hb dX0_next_6 (by decide) ?_
  refine lv_istore_n (lv' := [(2, .int (nI (0))), (1, .int (nI (0))), (0, .ref (ad 0))]) hx hb dX0_next_7 rfl hl (by decide) rfl (fun ls hl => ?_)
  refine nw_loopH 8 (fun i H locs ls => ∃ (b1 b2 b3 b4 : nw_F), va_P (dC, dI) vwCl (nw_xW ad ca (S) (P) (st) (en) (kn1) (nI (n)) (b1) (b2) (b3) (b4)) H ∧ va_D A (nw_xW ad ca (S) (P) (st) (en) (kn1) (nI (n)) (b1) (b2) (b3) (b4)) ∧ va_S A s.heap H locs ∧ (nw_CI pr st w n b1 b2 b3 b4) ∧ lv_has ls 3 [(0, .ref (ad 0)), (1, .int (nw_nx pr st w n (i))), (2, .int (nI (i)))]) (6) ⟨aw1, ay1, aa1, ao1, hP, hD, hS, hq.2, lv_sub hl [2, 1, 0] rfl⟩ (fun i H locs ls hi hI ih => ?_) (fun H locs ls hI => ?_)
  · obtain ⟨b1, b2, b3, b4, hP, hD, hS, hX, hl⟩ := hI
    refine lv_iload_n hx hb dX0_next_8 rfl (lv_at hl 2 rfl) ?_
    refine lv_bipush (v := (nI (6))) hx hb dX0_next_9 (by decide) ?_
    refine lv_icmp_ge (tgt := 57) hx hb dX0_next_11 (by decide) (fun h => absurd h (nI_ge hi (by decide))) (fun _ => ?_)
    refine lv_aload_n hx hb dX0_next_14 rfl (lv_at hl 0 rfl) ?_
    refine lv_iload_n hx hb dX0_next_15 rfl (lv_at hl 2 rfl) ?_
    have hFc := va_free (wc := nw_xW ad ca (S) (P) (st) (en) (kn1) (nI (n)) (b1) (b2) (b3) (b4)) hD hS hA [0, 1, 2, 3, 4, 5, 6] rfl
    refine va_callv (va_runV (As := [.int (nI (i))]) (rest := []) ⟨hx, hb, hml, hown, hts⟩ (metX0_add l dC dI ad ca S P st en kn1 b1 b2 b3 b4 pr hT w n (by omega) h6 hX i hi H.size) (cwV 1 hts (lw_V q77 q79 qs1 q12 q80) rfl rfl rfl (by decide +kernel) ⟨Nat.le_of_ble_eq_true rfl, Nat.le_of_ble_eq_true rfl⟩) ⟨fun a U g mk q => ⟨q.1, q.2.1, nw_blind q.2.2⟩, va_recv hK hP (ci := 0) (q0 := 0) rfl rfl, fun U hU hW => ⟨rfl, by rw [hU], by rw [hU]; exact hP, va_K.moved hW.alike hK, hD.weaken (fun _ _ _ _ => trivial)⟩⟩ rfl rfl hl.1 rfl (lv_room (Nat.le_of_ble_eq_true rfl)) dX0_next_16 ⟨Nat.zero_le _, Nat.zero_le _⟩) hS (fun q _ h => hFc q h) hFc (fun u t_ H locs ht_ hvm_ hc hB_ _ _ hS => ?_)
    obtain ⟨u1, u2, u3, u4⟩ := u
    obtain ⟨hP, -, hD⟩ := hB_
    rw [ht_] at hP
    have hD := hD.weaken (fun k q _ h => hFc q.1 h)
    have hP : va_P (dC, dI) vwCl (nw_xW ad ca (S) (P) (st) (en) (kn1) (nI (n + 1)) (u1) (u2) (u3) (u4)) H := hP
    have hD : va_D A (nw_xW ad ca (S) (P) (st) (en) (kn1) (nI (n + 1)) (u1) (u2) (u3) (u4)) := hD
    have hc : nw_CI pr st (nw_up w n i) (n + 1) u1 u2 u3 u4 := hc.2
    refine lv_iload_n hx hb dX0_next_19 rfl (lv_at hl 1 rfl) ?_
    refine lv_aload_n hx hb dX0_next_20 rfl (lv_at hl 0 rfl) ?_
    refine va_get (D := (dC, dI)) (ci := 0) (v := .ref (ad 5)) (C := RX0) (T := TX0) (N := 10) hx hb hts in_X0 hown hK hP 0 rfl rfl 8 (by decide) (hts _ q30) (fun _ h9 => h9) rfl dX0_next_21 ?_
    refine lv_aload_n hx hb dX0_next_24 rfl (lv_at hl 0 rfl) ?_
    refine va_get (D := (dC, dI)) (ci := 0) (v := .int (nI (n + 1))) (C := RX0) (T := TX0) (N := 10) hx hb hts in_X0 hown hK hP 0 rfl rfl 5 (by decide) (hts _ q27) (fun _ h9 => h9) rfl dX0_next_25 ?_
    refine nw_iald hx hb hK hP 5 4 rfl rfl (j := n + 1) (by omega) (by decide) dX0_next_28 ?_
    refine nw_as (y := ((nw_rn pr st (nw_up w n i) (n + 1)).2.1)) ((hc.2 (n + 1) (Nat.le_refl _)).2.1) ?_
    refine lv_if_eq (tgt := 38) hx hb dX0_next_29 (by decide) (fun hz => ?_) (fun hz => ?_)
    · refine lv_iconst (v := ((0 : Int32))) hx hb dX0_next_38 (by decide) ?_
      refine lv_ior hx hb dX0_next_39 ?_
      refine nw_as (y := (nw_nx pr st w n (i + 1))) (nw_nx_z hz) ?_
      refine lv_istore_n (lv' := [(1, .int (nw_nx pr st w n (i + 1))), (0, .ref (ad 0)), (2, .int (nI (i)))]) hx hb dX0_next_40 rfl hl (by decide) rfl (fun ls hl => ?_)
      refine lv_aload_n hx hb dX0_next_41 rfl (lv_at hl 1 rfl) ?_
      refine lv_dup hx hb dX0_next_42 rfl ?_
      refine va_get (D := (dC, dI)) (ci := 0) (v := .int (nI (n + 1))) (C := RX0) (T := TX0) (N := 10) hx hb hts in_X0 hown hK hP 0 rfl rfl 5 (by decide) (hts _ q27) (fun _ h9 => h9) rfl dX0_next_43 ?_
      refine lv_iconst (v := (nI (1))) hx hb dX0_next_46 (by decide) ?_
      refine lv_isub hx hb dX0_next_47 ?_
      refine nw_as (y := (nI ((n + 1) - 1))) (pk_sub (a := n + 1) (b := 1) (by omega)) ?_
      refine nw_as (y := (nI (n))) (rfl) ?_
      refine va_put (D := (dC, dI)) (ci := 0) (v := .int (nI (n))) (ty := .int) (C := RX0) (T := TX0) (N := 10) hx hb hts in_X0 tyX0 tyX0_ok nmX0 hown hK hP hD hS 0 rfl rfl 5 (by decide) (hts _ q27) (fun _ h9 => h9) rfl (by decide +kernel) rfl rfl (Nat.le_of_ble_eq_true rfl) dX0_next_48 (fun H locs hP hD hS => ?_)
      have hP : va_P (dC, dI) vwCl (nw_xW ad ca (S) (P) (st) (en) (kn1) (nI (n)) (u1) (u2) (u3) (u4)) H := hP
      have hD : va_D A (nw_xW ad ca (S) (P) (st) (en) (kn1) (nI (n)) (u1) (u2) (u3) (u4)) := hD
      refine lv_iinc (v := (nI (i + 1))) (lv' := [(2, .int (nI (i + 1))), (1, .int (nw_nx pr st w n (i + 1))), (0, .ref (ad 0))]) hx hb dX0_next_51 hl (k := 2) rfl (nw_inc (i)) (by decide) rfl (fun ls hl => ?_)
      refine lv_goto (tgt := 8) hx hb dX0_next_54 (by decide) ?_
      exact ih _ _ _ ⟨u1, u2, u3, u4, hP, hD, hS, nw_CI_eq (nw_CI_le hc (by omega)) (fun j hj => nw_up_n (by omega)), lv_sub hl [2, 1, 0] rfl⟩
    · refine lv_iconst (v := ((1 : Int32))) hx hb dX0_next_32 (by decide) ?_
      refine lv_iload_n hx hb dX0_next_33 rfl (lv_at hl 2 rfl) ?_
      refine lv_ishl hx hb dX0_next_34 ?_
      refine lv_goto (tgt := 39) hx hb dX0_next_35 (by decide) ?_
      refine lv_ior hx hb dX0_next_39 ?_
      refine nw_as (y := (nw_nx pr st w n (i + 1))) (nw_nx_n hz) ?_
      refine lv_istore_n (lv' := [(1, .int (nw_nx pr st w n (i + 1))), (0, .ref (ad 0)), (2, .int (nI (i)))]) hx hb dX0_next_40 rfl hl (by decide) rfl (fun ls hl => ?_)
      refine lv_aload_n hx hb dX0_next_41 rfl (lv_at hl 1 rfl) ?_
      refine lv_dup hx hb dX0_next_42 rfl ?_
      refine va_get (D := (dC, dI)) (ci := 0) (v := .int (nI (n + 1))) (C := RX0) (T := TX0) (N := 10) hx hb hts in_X0 hown hK hP 0 rfl rfl 5 (by decide) (hts _ q27) (fun _ h9 => h9) rfl dX0_next_43 ?_
      refine lv_iconst (v := (nI (1))) hx hb dX0_next_46 (by decide) ?_
      refine lv_isub hx hb dX0_next_47 ?_
      refine nw_as (y := (nI ((n + 1) - 1))) (pk_sub (a := n + 1) (b := 1) (by omega)) ?_
      refine nw_as (y := (nI (n))) (rfl) ?_
      refine va_put (D := (dC, dI)) (ci := 0) (v := .int (nI (n))) (ty := .int) (C := RX0) (T := TX0) (N := 10) hx hb hts in_X0 tyX0 tyX0_ok nmX0 hown hK hP hD hS 0 rfl rfl 5 (by decide) (hts _ q27) (fun _ h9 => h9) rfl (by decide +kernel) rfl rfl (Nat.le_of_ble_eq_true rfl) dX0_next_48 (fun H locs hP hD hS => ?_)
      have hP : va_P (dC, dI) vwCl (nw_xW ad ca (S) (P) (st) (en) (kn1) (nI (n)) (u1) (u2) (u3) (u4)) H := hP
      have hD : va_D A (nw_xW ad ca (S) (P) (st) (en) (kn1) (nI (n)) (u1) (u2) (u3) (u4)) := hD
      refine lv_iinc (v := (nI (i + 1))) (lv' := [(2, .int (nI (i + 1))), (1, .int (nw_nx pr st w n (i + 1))), (0, .ref (ad 0))]) hx hb dX0_next_51 hl (k := 2) rfl (nw_inc (i)) (by decide) rfl (fun ls hl => ?_)
      refine lv_goto (tgt := 8) hx hb dX0_next_54 (by decide) ?_
      exact ih _ _ _ ⟨u1, u2, u3, u4, hP, hD, hS, nw_CI_eq (nw_CI_le hc (by omega)) (fun j hj => nw_up_n (by omega)), lv_sub hl [2, 1, 0] rfl⟩
  · obtain ⟨b1, b2, b3, b4, hP, hD, hS, hX, hl⟩ := hI
    refine lv_iload_n hx hb dX0_next_8 rfl (lv_at hl 2 rfl) ?_
    refine lv_bipush (v := (nI (6))) hx hb dX0_next_9 (by decide) ?_
    refine lv_icmp_ge (tgt := 57) hx hb dX0_next_11 (by decide) (fun _ => ?_) (fun h => absurd (nI_le (Nat.le_refl 6) (by decide)) h)
    refine lv_iload_n hx hb dX0_next_57 rfl (lv_at hl 1 rfl) ?_
    exact W.iret (v := (nw_nx pr st w n (6))) hx hb hr (fun t ht hW => ⟨⟨_, (kn1, b1, b2, b3, b4), rfl, ⟨rfl, hq.1, hX⟩, ⟨by rw [ht]; exact hP, va_K.moved hW.alike hK, hD⟩⟩, hS.F ht⟩) hS.2.2 dX0_next_58
set_option maxHeartbeats 4000000 in
set_option maxRecDepth 100000 in
/-- close() -/
theorem metX0_close (l : Launch) (dC : Nat → ClassId) (dI : Nat → Nat → Nat) (ad : Nat → Nat) (ca : Nat → ClassId) (S P : nw_F) (st en kn : Int32) (aw ay aa ao : nw_F) (pr : Nat → Nat → Int32) (hT : nw_TC S P pr) (w : Nat → Nat) (n : Nat) (hn : n ≤ 16) (h6 : ∀ k, k < n → w k < 6) (hw : ∀ k, k < n → aw k = nI (w k)) (hC : ¬ kn = 0 → nw_CI pr st w n aw ay aa ao) (sz : Nat) : Met l yX0_close (ws_ yX0_close cX0_close 4 (some .int)) ({ frames := 5, cells := 0, slots := 0, locals := 121 }) (va_Pc [.ref (ad 0)] (fun U => U.heap.size = sz ∧ nw_XB dC dI (fun _ => True) (nw_xW ad ca (S) (P) (st) (en) (kn) (nI (n)) (aw) (ay) (aa) (ao)) (nw_xT ca) U)) (va_Qi (fun (x : Int32) (u : Int32 × nw_F × nw_F × nw_F × nw_F) => x = nw_fd pr st w n en 5 ∧ ¬ u.1 = 0 ∧ nw_CI pr st w n u.2.1 u.2.2.1 u.2.2.2.1 u.2.2.2.2) (fun (u : Int32 × nw_F × nw_F × nw_F × nw_F) t => nw_XB dC dI (va_A (nw_xW ad ca (S) (P) (st) (en) (kn) (nI (n)) (aw) (ay) (aa) (ao)) sz) (nw_xW ad ca (S) (P) (st) (en) (u.1) (nI (n)) (u.2.1) (u.2.2.1) (u.2.2.2.1) (u.2.2.2.2)) (nw_xT ca) t) (va_A (nw_xW ad ca (S) (P) (st) (en) (kn) (nI (n)) (aw) (ay) (aa) (ao)) sz)) 0 0 (va_A (nw_xW ad ca (S) (P) (st) (en) (kn) (nI (n)) (aw) (ay) (aa) (ao)) sz) := by
  refine Met.ofW (cc := cX0_close) (maxL := 4) (ret := (some .int)) (by decide) rfl ?_
  intro p e s m args below meth c s₁ B hml hv
  obtain ⟨rfl, hsz, hP, hK, hD0⟩ := hv
  have hx := B.exec
  have hb := B.bytes
  have hr := B.returns
  have hts := atoms_spec (ws := ws_ yX0_close cX0_close 4 (some .int)) B.pre
  have hts : ∀ w ∈ lw_all, w.before _ s = true := fun w h => hts w (List.mem_cons_of_mem _ h)
  have hown : s.vm.findClass RX0 = some m.cls := findClass_of_methodNamed B.named
  have hlocks := B.notSynchronized
  subst hsz
  have hD := hD0.self (sz := s.heap.size)
  generalize hAe : va_A (nw_xW ad ca (S) (P) (st) (en) (kn) (nI (n)) (aw) (ay) (aa) (ao)) s.heap.size = A at hD ⊢
  have hA : ∀ q : Nat, s.heap.size ≤ q → A q := fun q h => by rw [← hAe]; exact Or.inr h
  have hS : va_S A s.heap s.heap [] := va_S.rf
  have hP : va_P (dC, dI) vwCl (nw_xW ad ca (S) (P) (st) (en) (kn) (nI (n)) (aw) (ay) (aa) (ao)) s.heap := hP
  have hl := lv_entry ([.ref (ad 0)]) (n := 4) (Nat.le_of_ble_eq_true rfl)
  rw [lg_entry_eq]
  generalize (lg_sl ([.ref (ad 0)]) ++ List.replicate (4 - (lg_sl ([.ref (ad 0)])).length) Slot.unset).toArray = ls at hl ⊢
  have hl : lv_has ls 4 [(0, .ref (ad 0))] := hl
  refine lv_aload_n hx hb dX0_close_0 rfl (lv_at hl 0 rfl) ?_
  have hFc := va_free (wc := nw_xW ad ca (S) (P) (st) (en) (kn) (nI (n)) (aw) (ay) (aa) (ao)) hD hS hA [0, 1, 2, 3, 4, 5, 6] rfl
  refine va_callv (va_runV (As := []) (rest := []) ⟨hx, hb, hml, hown, hts⟩ (metX0_readAll l dC dI ad ca S P st en kn aw ay aa ao pr hT w n hn h6 hw hC s.heap.size) (cwV 0 hts (lw_V q70 q72 qs0 q12 q73) rfl rfl rfl (by decide +kernel) ⟨Nat.le_of_ble_eq_true rfl, Nat.le_of_ble_eq_true rfl⟩) ⟨fun a U g mk q => ⟨q.1, q.2.1, nw_blind q.2.2⟩, va_recv hK hP (ci := 0) (q0 := 0) rfl rfl, fun U hU hW => ⟨rfl, by rw [hU], by rw [hU]; exact hP, va_K.moved hW.alike hK, hD.weaken (fun _ _ _ _ => trivial)⟩⟩ rfl rfl hl.1 rfl (lv_room (Nat.le_of_ble_eq_true rfl)) dX0_close_1 ⟨Nat.zero_le _, Nat.zero_le _⟩) hS (fun q _ h => hFc q h) hFc (fun u t_ H locs ht_ hvm_ hq hB_ _ _ hS => ?_)
  obtain ⟨kn1, aw1, ay1, aa1, ao1⟩ := u
  obtain ⟨hP, -, hD⟩ := hB_
  rw [ht_] at hP
  have hD := hD.weaken (fun k q _ h => hFc q.1 h)
  have hP : va_P (dC, dI) vwCl (nw_xW ad ca (S) (P) (st) (en) (kn1) (nI (n)) (aw1) (ay1) (aa1) (ao1)) H := hP
  have hD : va_D A (nw_xW ad ca (S) (P) (st) (en) (kn1) (nI (n)) (aw1) (ay1) (aa1) (ao1)) := hD
  have hq : ¬ kn1 = 0 ∧ nw_CI pr st w n aw1 ay1 aa1 ao1 := hq
  refine lv_aload_n hx hb dX0_close_4 rfl (lv_at hl 0 rfl) ?_
  refine va_get (D := (dC, dI)) (ci := 0) (v := .int (nI (n))) (C := RX0) (T := TX0) (N := 10) hx hb hts in_X0 hown hK hP 0 rfl rfl 5 (by decide) (hts _ q27) (fun _ h9 => h9) rfl dX0_close_5 ?_
  refine lv_istore_n (lv' := [(1, .int (nI (n))), (0, .ref (ad 0))]) hx hb dX0_close_8 rfl hl (by decide) rfl (fun ls hl => ?_)
  refine lv_iconst (v := (-1)) hx hb dX0_close_9 (by decide) ?_
  refine lv_istore_n (lv' := [(2, .int (-1)), (1, .int (nI (n))), (0, .ref (ad 0))]) hx hb dX0_close_10 rfl hl (by decide) rfl (fun ls hl => ?_)
  refine lv_iconst (v := (nI (0))) hx hb dX0_close_11 (by decide) ?_
  refine lv_istore_n (lv' := [(3, .int (nI (0))), (2, .int (-1)), (1, .int (nI (n))), (0, .ref (ad 0))]) hx hb dX0_close_12 rfl hl (by decide) rfl (fun ls hl => ?_)
  have h62 : ∀ i, i ≤ 5 → ∀ k, k < n + i → nw_w2 w n k < 6 := fun i hi k hk => by
    rcases Nat.lt_or_ge k n with h | h
    · rw [nw_w2_lo h]; exact h6 k h
    · rw [nw_w2_hi h]; decide
  have hq2 : nw_CI pr st (nw_w2 w n) (n + 0) aw1 ay1 aa1 ao1 := nw_CI_eq hq.2 (fun j hj => (nw_w2_lo hj).symm)
  refine nw_loopH 13 (fun i H locs ls => ∃ (b1 b2 b3 b4 : nw_F), va_P (dC, dI) vwCl (nw_xW ad ca (S) (P) (st) (en) (kn1) (nI (n + i)) (b1) (b2) (b3) (b4)) H ∧ va_D A (nw_xW ad ca (S) (P) (st) (en) (kn1) (nI (n + i)) (b1) (b2) (b3) (b4)) ∧ va_S A s.heap H locs ∧ (nw_CI pr st (nw_w2 w n) (n + i) b1 b2 b3 b4) ∧ lv_has ls 4 [(0, .ref (ad 0)), (1, .int (nI (n))), (2, .int (nw_fd pr st w n en (i))), (3, .int (nI (i)))]) (5) ⟨aw1, ay1, aa1, ao1, hP, hD, hS, hq2, lv_sub hl [3, 2, 1, 0] rfl⟩ (fun i H locs ls hi hI ih => ?_) (fun H locs ls hI => ?_)
  · obtain ⟨b1, b2, b3, b4, hP, hD, hS, hX, hl⟩ := hI
    refine lv_iload_n hx hb dX0_close_13 rfl (lv_at hl 3 rfl) ?_
    refine lv_iconst (v := (nI (4))) hx hb dX0_close_14 (by decide) ?_
    refine lv_icmp_gt (tgt := 52) hx hb dX0_close_15 (by decide) (fun h => absurd h (nI_nlt (by omega) (by decide))) (fun _ => ?_)
    refine lv_iload_n hx hb dX0_close_18 rfl (lv_at hl 2 rfl) ?_
    refine lv_if_ge (tgt := 41) hx hb dX0_close_19 (by decide) (fun hf => ?_) (fun hf => ?_)
    · rw [← nw_fd_f (fun h => absurd hf (Int32.not_le.mpr h))] at hl
      -- next
      refine lv_aload_n hx hb dX0_close_41 rfl (lv_at hl 0 rfl) ?_
      refine lv_iconst (v := (nI (2))) hx hb dX0_close_42 (by decide) ?_
      have hFc := va_free (wc := nw_xW ad ca (S) (P) (st) (en) (kn1) (nI (n + i)) (b1) (b2) (b3) (b4)) hD hS hA [0, 1, 2, 3, 4, 5, 6] rfl
      refine va_callv (va_runV (As := [.int (nI (2))]) (rest := []) ⟨hx, hb, hml, hown, hts⟩ (metX0_add l dC dI ad ca S P st en kn1 b1 b2 b3 b4 pr hT (nw_w2 w n) (n + i) (by omega) (h62 i (by omega)) hX 2 (by decide) H.size) (cwV 1 hts (lw_V q77 q79 qs1 q12 q80) rfl rfl rfl (by decide +kernel) ⟨Nat.le_of_ble_eq_true rfl, Nat.le_of_ble_eq_true rfl⟩) ⟨fun a U g mk q => ⟨q.1, q.2.1, nw_blind q.2.2⟩, va_recv hK hP (ci := 0) (q0 := 0) rfl rfl, fun U hU hW => ⟨rfl, by rw [hU], by rw [hU]; exact hP, va_K.moved hW.alike hK, hD.weaken (fun _ _ _ _ => trivial)⟩⟩ rfl rfl hl.1 rfl (lv_room (Nat.le_of_ble_eq_true rfl)) dX0_close_43 ⟨Nat.zero_le _, Nat.zero_le _⟩) hS (fun q _ h => hFc q h) hFc (fun u t_ H locs ht_ hvm_ hc hB_ _ _ hS => ?_)
      obtain ⟨u1, u2, u3, u4⟩ := u
      obtain ⟨hP, -, hD⟩ := hB_
      rw [ht_] at hP
      have hD := hD.weaken (fun k q _ h => hFc q.1 h)
      have hP : va_P (dC, dI) vwCl (nw_xW ad ca (S) (P) (st) (en) (kn1) (nI (n + (i + 1))) (u1) (u2) (u3) (u4)) H := hP
      have hD : va_D A (nw_xW ad ca (S) (P) (st) (en) (kn1) (nI (n + (i + 1))) (u1) (u2) (u3) (u4)) := hD
      have hc : nw_CI pr st (nw_w2 w n) (n + (i + 1)) u1 u2 u3 u4 := nw_CI_eq hc.2 (fun j hj => by
        rcases Nat.lt_or_ge j (n + i) with h | h
        · exact nw_up_n (by omega)
        · rw [show j = n + i by omega, nw_up_s, nw_w2_hi (by omega)])
      refine lv_iinc (v := (nI (i + 1))) (lv' := [(3, .int (nI (i + 1))), (0, .ref (ad 0)), (1, .int (nI (n))), (2, .int (nw_fd pr st w n en (i + 1)))]) hx hb dX0_close_46 hl (k := 3) rfl (nw_inc (i)) (by decide) rfl (fun ls hl => ?_)
      refine lv_goto (tgt := 13) hx hb dX0_close_49 (by decide) ?_
      exact ih _ _ _ ⟨u1, u2, u3, u4, hP, hD, hS, hc, lv_sub hl [1, 2, 3, 0] rfl⟩
    · refine lv_aload_n hx hb dX0_close_22 rfl (lv_at hl 0 rfl) ?_
      refine va_get (D := (dC, dI)) (ci := 0) (v := .ref (ad 5)) (C := RX0) (T := TX0) (N := 10) hx hb hts in_X0 hown hK hP 0 rfl rfl 8 (by decide) (hts _ q30) (fun _ h9 => h9) rfl dX0_close_23 ?_
      refine lv_aload_n hx hb dX0_close_26 rfl (lv_at hl 0 rfl) ?_
      refine va_get (D := (dC, dI)) (ci := 0) (v := .int (nI (n + i))) (C := RX0) (T := TX0) (N := 10) hx hb hts in_X0 hown hK hP 0 rfl rfl 5 (by decide) (hts _ q27) (fun _ h9 => h9) rfl dX0_close_27 ?_
      refine nw_iald hx hb hK hP 5 4 rfl rfl (j := n + i) (by omega) (by decide) dX0_close_30 ?_
      refine nw_as (y := ((nw_rn pr st (nw_w2 w n) (n + i)).2.1)) ((hX.2 (n + i) (Nat.le_refl _)).2.1) ?_
      refine lv_aload_n hx hb dX0_close_31 rfl (lv_at hl 0 rfl) ?_
      refine va_get (D := (dC, dI)) (ci := 0) (v := .int (en)) (C := RX0) (T := TX0) (N := 10) hx hb hts in_X0 hown hK hP 0 rfl rfl 3 (by decide) (hts _ q25) (fun _ h9 => h9) rfl dX0_close_32 ?_
      refine lv_iand hx hb dX0_close_35 ?_
      refine lv_if_eq (tgt := 41) hx hb dX0_close_36 (by decide) (fun hz => ?_) (fun hz => ?_)
      · rw [← nw_fd_z hz] at hl
        -- next
        refine lv_aload_n hx hb dX0_close_41 rfl (lv_at hl 0 rfl) ?_
        refine lv_iconst (v := (nI (2))) hx hb dX0_close_42 (by decide) ?_
        have hFc := va_free (wc := nw_xW ad ca (S) (P) (st) (en) (kn1) (nI (n + i)) (b1) (b2) (b3) (b4)) hD hS hA [0, 1, 2, 3, 4, 5, 6] rfl
        refine va_callv (va_runV (As := [.int (nI (2))]) (rest := []) ⟨hx, hb, hml, hown, hts⟩ (metX0_add l dC dI ad ca S P st en kn1 b1 b2 b3 b4 pr hT (nw_w2 w n) (n + i) (by omega) (h62 i (by omega)) hX 2 (by decide) H.size) (cwV 1 hts (lw_V q77 q79 qs1 q12 q80) rfl rfl rfl (by decide +kernel) ⟨Nat.le_of_ble_eq_true rfl, Nat.le_of_ble_eq_true rfl⟩) ⟨fun a U g mk q => ⟨q.1, q.2.1, nw_blind q.2.2⟩, va_recv hK hP (ci := 0) (q0 := 0) rfl rfl, fun U hU hW => ⟨rfl, by rw [hU], by rw [hU]; exact hP, va_K.moved hW.alike hK, hD.weaken (fun _ _ _ _ => trivial)⟩⟩ rfl rfl hl.1 rfl (lv_room (Nat.le_of_ble_eq_true rfl)) dX0_close_43 ⟨Nat.zero_le _, Nat.zero_le _⟩) hS (fun q _ h => hFc q h) hFc (fun u t_ H locs ht_ hvm_ hc hB_ _ _ hS => ?_)
        obtain ⟨u1, u2, u3, u4⟩ := u
        obtain ⟨hP, -, hD⟩ := hB_
        rw [ht_] at hP
        have hD := hD.weaken (fun k q _ h => hFc q.1 h)
        have hP : va_P (dC, dI) vwCl (nw_xW ad ca (S) (P) (st) (en) (kn1) (nI (n + (i + 1))) (u1) (u2) (u3) (u4)) H := hP
        have hD : va_D A (nw_xW ad ca (S) (P) (st) (en) (kn1) (nI (n + (i + 1))) (u1) (u2) (u3) (u4)) := hD
        have hc : nw_CI pr st (nw_w2 w n) (n + (i + 1)) u1 u2 u3 u4 := nw_CI_eq hc.2 (fun j hj => by
          rcases Nat.lt_or_ge j (n + i) with h | h
          · exact nw_up_n (by omega)
          · rw [show j = n + i by omega, nw_up_s, nw_w2_hi (by omega)])
        refine lv_iinc (v := (nI (i + 1))) (lv' := [(3, .int (nI (i + 1))), (0, .ref (ad 0)), (1, .int (nI (n))), (2, .int (nw_fd pr st w n en (i + 1)))]) hx hb dX0_close_46 hl (k := 3) rfl (nw_inc (i)) (by decide) rfl (fun ls hl => ?_)
        refine lv_goto (tgt := 13) hx hb dX0_close_49 (by decide) ?_
        exact ih _ _ _ ⟨u1, u2, u3, u4, hP, hD, hS, hc, lv_sub hl [1, 2, 3, 0] rfl⟩
      · refine lv_iload_n hx hb dX0_close_39 rfl (lv_at hl 3 rfl) ?_
        refine nw_as (y := (nw_fd pr st w n en (i + 1))) ((nw_fd_n (Int32.not_le.mp hf) hz).symm) ?_
        refine lv_istore_n (lv' := [(2, .int (nw_fd pr st w n en (i + 1))), (0, .ref (ad 0)), (1, .int (nI (n))), (3, .int (nI (i)))]) hx hb dX0_close_40 rfl hl (by decide) rfl (fun ls hl => ?_)
        refine lv_aload_n hx hb dX0_close_41 rfl (lv_at hl 1 rfl) ?_
        refine lv_iconst (v := (nI (2))) hx hb dX0_close_42 (by decide) ?_
        have hFc := va_free (wc := nw_xW ad ca (S) (P) (st) (en) (kn1) (nI (n + i)) (b1) (b2) (b3) (b4)) hD hS hA [0, 1, 2, 3, 4, 5, 6] rfl
        refine va_callv (va_runV (As := [.int (nI (2))]) (rest := []) ⟨hx, hb, hml, hown, hts⟩ (metX0_add l dC dI ad ca S P st en kn1 b1 b2 b3 b4 pr hT (nw_w2 w n) (n + i) (by omega) (h62 i (by omega)) hX 2 (by decide) H.size) (cwV 1 hts (lw_V q77 q79 qs1 q12 q80) rfl rfl rfl (by decide +kernel) ⟨Nat.le_of_ble_eq_true rfl, Nat.le_of_ble_eq_true rfl⟩) ⟨fun a U g mk q => ⟨q.1, q.2.1, nw_blind q.2.2⟩, va_recv hK hP (ci := 0) (q0 := 0) rfl rfl, fun U hU hW => ⟨rfl, by rw [hU], by rw [hU]; exact hP, va_K.moved hW.alike hK, hD.weaken (fun _ _ _ _ => trivial)⟩⟩ rfl rfl hl.1 rfl (lv_room (Nat.le_of_ble_eq_true rfl)) dX0_close_43 ⟨Nat.zero_le _, Nat.zero_le _⟩) hS (fun q _ h => hFc q h) hFc (fun u t_ H locs ht_ hvm_ hc hB_ _ _ hS => ?_)
        obtain ⟨u1, u2, u3, u4⟩ := u
        obtain ⟨hP, -, hD⟩ := hB_
        rw [ht_] at hP
        have hD := hD.weaken (fun k q _ h => hFc q.1 h)
        have hP : va_P (dC, dI) vwCl (nw_xW ad ca (S) (P) (st) (en) (kn1) (nI (n + (i + 1))) (u1) (u2) (u3) (u4)) H := hP
        have hD : va_D A (nw_xW ad ca (S) (P) (st) (en) (kn1) (nI (n + (i + 1))) (u1) (u2) (u3) (u4)) := hD
        have hc : nw_CI pr st (nw_w2 w n) (n + (i + 1)) u1 u2 u3 u4 := nw_CI_eq hc.2 (fun j hj => by
          rcases Nat.lt_or_ge j (n + i) with h | h
          · exact nw_up_n (by omega)
          · rw [show j = n + i by omega, nw_up_s, nw_w2_hi (by omega)])
        refine lv_iinc (v := (nI (i + 1))) (lv' := [(3, .int (nI (i + 1))), (2, .int (nw_fd pr st w n en (i + 1))), (0, .ref (ad 0)), (1, .int (nI (n)))]) hx hb dX0_close_46 hl (k := 3) rfl (nw_inc (i)) (by decide) rfl (fun ls hl => ?_)
        refine lv_goto (tgt := 13) hx hb dX0_close_49 (by decide) ?_
        exact ih _ _ _ ⟨u1, u2, u3, u4, hP, hD, hS, hc, lv_sub hl [2, 3, 1, 0] rfl⟩
  · obtain ⟨b1, b2, b3, b4, hP, hD, hS, hX, hl⟩ := hI
    refine lv_iload_n hx hb dX0_close_13 rfl (lv_at hl 3 rfl) ?_
    refine lv_iconst (v := (nI (4))) hx hb dX0_close_14 (by decide) ?_
    refine lv_icmp_gt (tgt := 52) hx hb dX0_close_15 (by decide) (fun _ => ?_) (fun h => absurd (nI_lt (by decide) (by decide)) h)
    refine lv_aload_n hx hb dX0_close_52 rfl (lv_at hl 0 rfl) ?_
    refine lv_iload_n hx hb dX0_close_53 rfl (lv_at hl 1 rfl) ?_
    refine va_put (D := (dC, dI)) (ci := 0) (v := .int (nI (n))) (ty := .int) (C := RX0) (T := TX0) (N := 10) hx hb hts in_X0 tyX0 tyX0_ok nmX0 hown hK hP hD hS 0 rfl rfl 5 (by decide) (hts _ q27) (fun _ h9 => h9) rfl (by decide +kernel) rfl rfl (Nat.le_of_ble_eq_true rfl) dX0_close_54 (fun H locs hP hD hS => ?_)
    have hP : va_P (dC, dI) vwCl (nw_xW ad ca (S) (P) (st) (en) (kn1) (nI (n)) (b1) (b2) (b3) (b4)) H := hP
    have hD : va_D A (nw_xW ad ca (S) (P) (st) (en) (kn1) (nI (n)) (b1) (b2) (b3) (b4)) := hD
    refine lv_iload_n hx hb dX0_close_57 rfl (lv_at hl 2 rfl) ?_
    exact W.iret (v := (nw_fd pr st w n en (5))) hx hb hr (fun t ht hW => ⟨⟨_, (kn1, b1, b2, b3, b4), rfl, ⟨rfl, hq.1, nw_CI_eq (nw_CI_le hX (by omega)) (fun j hj => nw_w2_lo hj)⟩, ⟨by rw [ht]; exact hP, va_K.moved hW.alike hK, hD⟩⟩, hS.F ht⟩) hS.2.2 dX0_close_58
set_option maxHeartbeats 4000000 in
set_option maxRecDepth 100000 in
/-- read(letter): a letter that is read -/
theorem metX0_readG (l : Launch) (dC : Nat → ClassId) (dI : Nat → Nat → Nat) (ad : Nat → Nat) (ca : Nat → ClassId) (S P : nw_F) (st en kn : Int32) (aw ay aa ao : nw_F) (pr : Nat → Nat → Int32) (hT : nw_TC S P pr) (w : Nat → Nat) (n : Nat) (hn : n ≤ 16) (h6 : ∀ k, k < n → w k < 6) (hw : ∀ k, k < n → aw k = nI (w k)) (hC : ¬ kn = 0 → nw_CI pr st w n aw ay aa ao) (hn2 : n < 16) (k : Nat) (hk : k < 6) (sz : Nat) : Met l yX0_read (ws_ yX0_read cX0_read 2 (some .int)) ({ frames := 5, cells := 0, slots := 0, locals := 121 }) (va_Pc [.ref (ad 0), .int (nI (k))] (fun U => U.heap.size = sz ∧ nw_XB dC dI (fun _ => True) (nw_xW ad ca (S) (P) (st) (en) (kn) (nI (n)) (aw) (ay) (aa) (ao)) (nw_xT ca) U)) (va_Qi (fun (x : Int32) (u : Int32 × nw_F × nw_F × nw_F × nw_F) => x = nw_on (nw_rn pr st (nw_up w n k) (n + 1)).2.1 5 ∧ ¬ u.1 = 0 ∧ nw_CI pr st (nw_up w n k) (n + 1) u.2.1 u.2.2.1 u.2.2.2.1 u.2.2.2.2) (fun (u : Int32 × nw_F × nw_F × nw_F × nw_F) t => nw_XB dC dI (va_A (nw_xW ad ca (S) (P) (st) (en) (kn) (nI (n)) (aw) (ay) (aa) (ao)) sz) (nw_xW ad ca (S) (P) (st) (en) (u.1) (nI (n + 1)) (u.2.1) (u.2.2.1) (u.2.2.2.1) (u.2.2.2.2)) (nw_xT ca) t) (va_A (nw_xW ad ca (S) (P) (st) (en) (kn) (nI (n)) (aw) (ay) (aa) (ao)) sz)) 0 0 (va_A (nw_xW ad ca (S) (P) (st) (en) (kn) (nI (n)) (aw) (ay) (aa) (ao)) sz) := by
  refine Met.ofW (cc := cX0_read) (maxL := 2) (ret := (some .int)) (by decide) rfl ?_
  intro p e s m args below meth c s₁ B hml hv
  obtain ⟨rfl, hsz, hP, hK, hD0⟩ := hv
  have hx := B.exec
  have hb := B.bytes
  have hr := B.returns
  have hts := atoms_spec (ws := ws_ yX0_read cX0_read 2 (some .int)) B.pre
  have hts : ∀ w ∈ lw_all, w.before _ s = true := fun w h => hts w (List.mem_cons_of_mem _ h)
  have hown : s.vm.findClass RX0 = some m.cls := findClass_of_methodNamed B.named
  have hlocks := B.notSynchronized
  subst hsz
  have hD := hD0.self (sz := s.heap.size)
  generalize hAe : va_A (nw_xW ad ca (S) (P) (st) (en) (kn) (nI (n)) (aw) (ay) (aa) (ao)) s.heap.size = A at hD ⊢
  have hA : ∀ q : Nat, s.heap.size ≤ q → A q := fun q h => by rw [← hAe]; exact Or.inr h
  have hS : va_S A s.heap s.heap [] := va_S.rf
  have hP : va_P (dC, dI) vwCl (nw_xW ad ca (S) (P) (st) (en) (kn) (nI (n)) (aw) (ay) (aa) (ao)) s.heap := hP
  have hl := lv_entry ([.ref (ad 0), .int (nI (k))]) (n := 2) (Nat.le_of_ble_eq_true rfl)
  rw [lg_entry_eq]
  generalize (lg_sl ([.ref (ad 0), .int (nI (k))]) ++ List.replicate (2 - (lg_sl ([.ref (ad 0), .int (nI (k))])).length) Slot.unset).toArray = ls at hl ⊢
  have hl : lv_has ls 2 [(0, .ref (ad 0)), (1, .int (nI (k)))] := hl
  refine lv_iload_n hx hb dX0_read_0 rfl (lv_at hl 1 rfl) ?_
  refine lv_if_lt (tgt := 18) hx hb dX0_read_1 (by decide) (fun h => absurd h (nI_pos (by omega))) (fun _ => ?_)
  refine lv_iload_n hx hb dX0_read_4 rfl (lv_at hl 1 rfl) ?_
  refine lv_iconst (v := (nI (5))) hx hb dX0_read_5 (by decide) ?_
  refine lv_icmp_gt (tgt := 18) hx hb dX0_read_6 (by decide) (fun h => absurd h (nI_nlt (by omega) (by decide))) (fun _ => ?_)
  refine lv_aload_n hx hb dX0_read_9 rfl (lv_at hl 0 rfl) ?_
  refine va_get (D := (dC, dI)) (ci := 0) (v := .int (nI (n))) (C := RX0) (T := TX0) (N := 10) hx hb hts in_X0 hown hK hP 0 rfl rfl 5 (by decide) (hts _ q27) (fun _ h9 => h9) rfl dX0_read_10 ?_
  refine lv_bipush (v := (nI (16))) hx hb dX0_read_13 (by decide) ?_
  refine lv_icmp_lt (tgt := 20) hx hb dX0_read_15 (by decide) (fun _ => ?_) (fun h => absurd (nI_lt hn2 (by decide)) h)
  refine lv_aload_n hx hb dX0_read_20 rfl (lv_at hl 0 rfl) ?_
  have hFc := va_free (wc := nw_xW ad ca (S) (P) (st) (en) (kn) (nI (n)) (aw) (ay) (aa) (ao)) hD hS hA [0, 1, 2, 3, 4, 5, 6] rfl
  refine va_callv (va_runV (As := []) (rest := []) ⟨hx, hb, hml, hown, hts⟩ (metX0_readAll l dC dI ad ca S P st en kn aw ay aa ao pr hT w n hn h6 hw hC s.heap.size) (cwV 0 hts (lw_V q70 q72 qs0 q12 q73) rfl rfl rfl (by decide +kernel) ⟨Nat.le_of_ble_eq_true rfl, Nat.le_of_ble_eq_true rfl⟩) ⟨fun a U g mk q => ⟨q.1, q.2.1, nw_blind q.2.2⟩, va_recv hK hP (ci := 0) (q0 := 0) rfl rfl, fun U hU hW => ⟨rfl, by rw [hU], by rw [hU]; exact hP, va_K.moved hW.alike hK, hD.weaken (fun _ _ _ _ => trivial)⟩⟩ rfl rfl hl.1 rfl (lv_room (Nat.le_of_ble_eq_true rfl)) dX0_read_21 ⟨Nat.zero_le _, Nat.zero_le _⟩) hS (fun q _ h => hFc q h) hFc (fun u t_ H locs ht_ hvm_ hq hB_ _ _ hS => ?_)
  obtain ⟨kn1, aw1, ay1, aa1, ao1⟩ := u
  obtain ⟨hP, -, hD⟩ := hB_
  rw [ht_] at hP
  have hD := hD.weaken (fun k q _ h => hFc q.1 h)
  have hP : va_P (dC, dI) vwCl (nw_xW ad ca (S) (P) (st) (en) (kn1) (nI (n)) (aw1) (ay1) (aa1) (ao1)) H := hP
  have hD : va_D A (nw_xW ad ca (S) (P) (st) (en) (kn1) (nI (n)) (aw1) (ay1) (aa1) (ao1)) := hD
  have hq : ¬ kn1 = 0 ∧ nw_CI pr st w n aw1 ay1 aa1 ao1 := hq
  refine lv_aload_n hx hb dX0_read_24 rfl (lv_at hl 0 rfl) ?_
  refine lv_iload_n hx hb dX0_read_25 rfl (lv_at hl 1 rfl) ?_
  have hFc := va_free (wc := nw_xW ad ca (S) (P) (st) (en) (kn1) (nI (n)) (aw1) (ay1) (aa1) (ao1)) hD hS hA [0, 1, 2, 3, 4, 5, 6] rfl
  refine va_callv (va_runV (As := [.int (nI (k))]) (rest := []) ⟨hx, hb, hml, hown, hts⟩ (metX0_add l dC dI ad ca S P st en kn1 aw1 ay1 aa1 ao1 pr hT w n (by omega) h6 hq.2 k hk H.size) (cwV 1 hts (lw_V q77 q79 qs1 q12 q80) rfl rfl rfl (by decide +kernel) ⟨Nat.le_of_ble_eq_true rfl, Nat.le_of_ble_eq_true rfl⟩) ⟨fun a U g mk q => ⟨q.1, q.2.1, nw_blind q.2.2⟩, va_recv hK hP (ci := 0) (q0 := 0) rfl rfl, fun U hU hW => ⟨rfl, by rw [hU], by rw [hU]; exact hP, va_K.moved hW.alike hK, hD.weaken (fun _ _ _ _ => trivial)⟩⟩ rfl rfl hl.1 rfl (lv_room (Nat.le_of_ble_eq_true rfl)) dX0_read_26 ⟨Nat.zero_le _, Nat.zero_le _⟩) hS (fun q _ h => hFc q h) hFc (fun u t_ H locs ht_ hvm_ hc hB_ _ _ hS => ?_)
  obtain ⟨u1, u2, u3, u4⟩ := u
  obtain ⟨hP, -, hD⟩ := hB_
  rw [ht_] at hP
  have hD := hD.weaken (fun k q _ h => hFc q.1 h)
  have hP : va_P (dC, dI) vwCl (nw_xW ad ca (S) (P) (st) (en) (kn1) (nI (n + 1)) (u1) (u2) (u3) (u4)) H := hP
  have hD : va_D A (nw_xW ad ca (S) (P) (st) (en) (kn1) (nI (n + 1)) (u1) (u2) (u3) (u4)) := hD
  have hc : nw_CI pr st (nw_up w n k) (n + 1) u1 u2 u3 u4 := hc.2
  refine lv_aload_n hx hb dX0_read_29 rfl (lv_at hl 0 rfl) ?_
  refine va_get (D := (dC, dI)) (ci := 0) (v := .ref (ad 5)) (C := RX0) (T := TX0) (N := 10) hx hb hts in_X0 hown hK hP 0 rfl rfl 8 (by decide) (hts _ q30) (fun _ h9 => h9) rfl dX0_read_30 ?_
  refine lv_aload_n hx hb dX0_read_33 rfl (lv_at hl 0 rfl) ?_
  refine va_get (D := (dC, dI)) (ci := 0) (v := .int (nI (n + 1))) (C := RX0) (T := TX0) (N := 10) hx hb hts in_X0 hown hK hP 0 rfl rfl 5 (by decide) (hts _ q27) (fun _ h9 => h9) rfl dX0_read_34 ?_
  refine nw_iald hx hb hK hP 5 4 rfl rfl (j := n + 1) (by omega) (by decide) dX0_read_37 ?_
  refine nw_as (y := ((nw_rn pr st (nw_up w n k) (n + 1)).2.1)) ((hc.2 (n + 1) (Nat.le_refl _)).2.1) ?_
  refine vp_callSi (va_Run.run (va_runS (As := [.int ((nw_rn pr st (nw_up w n k) (n + 1)).2.1)]) (rest := []) ⟨hx, hb, hml, hown, hts⟩ (metX0_ones l ((nw_rn pr st (nw_up w n k) (n + 1)).2.1)) (va_cwS 1 hts (lw_S q99 q100 q12 q101) rfl rfl rfl (by decide +kernel) ⟨Nat.le_of_ble_eq_true rfl, Nat.le_of_ble_eq_true rfl⟩) ⟨fun a U g mk q => q, fun U hU hW => ⟨rfl, trivial⟩⟩ rfl rfl hl.1 rfl (lv_room (Nat.le_of_ble_eq_true rfl)) dX0_read_38 ⟨Nat.zero_le _, Nat.zero_le _⟩)) (fun r_ hr_ => ?_)
  refine nw_as (y := (nw_on ((nw_rn pr st (nw_up w n k) (n + 1)).2.1) 5)) (hr_) ?_
  exact W.iret (v := (nw_on ((nw_rn pr st (nw_up w n k) (n + 1)).2.1) 5)) hx hb hr (fun t ht hW => ⟨⟨_, (kn1, u1, u2, u3, u4), rfl, ⟨rfl, hq.1, hc⟩, ⟨by rw [ht]; exact hP, va_K.moved hW.alike hK, hD⟩⟩, hS.F ht⟩) hS.2.2 dX0_read_41
end
section
/-! WALKS 7: the system: read and move with bad arguments, back, erase, move, state -/
set_option maxHeartbeats 4000000 in
set_option maxRecDepth 100000 in
/-- read(letter): refused -/
theorem metX0_readB (l : Launch) (dC : Nat → ClassId) (dI : Nat → Nat → Nat) (ad : Nat → Nat) (ca : Nat → ClassId) (S P : nw_F) (st en kn : Int32) (n : Nat) (aw ay aa ao : nw_F) (hn : n ≤ 16) (x0 : Int32) (hbad : x0 < 0 ∨ 5 < x0 ∨ 16 ≤ n) : Met l yX0_read (ws_ yX0_read cX0_read 2 (some .int)) ({ frames := 5, cells := 0, slots := 0, locals := 121 }) (va_Pc [.ref (ad 0), .int (x0)] (nw_XR dC dI (nw_xW ad ca (S) (P) (st) (en) (kn) (nI (n)) (aw) (ay) (aa) (ao)) (nw_xT ca))) (vp_Si (fun r => r = -1)) 0 0 (fun _ => False) := by
  refine Met.ofW (cc := cX0_read) (maxL := 2) (ret := (some .int)) (by decide) rfl ?_
  intro p e s m args below meth c s₁ B hml hv
  obtain ⟨rfl, hP, hK⟩ := hv
  have hx := B.exec
  have hb := B.bytes
  have hr := B.returns
  have hts := atoms_spec (ws := ws_ yX0_read cX0_read 2 (some .int)) B.pre
  have hts : ∀ w ∈ lw_all, w.before _ s = true := fun w h => hts w (List.mem_cons_of_mem _ h)
  have hown : s.vm.findClass RX0 = some m.cls := findClass_of_methodNamed B.named
  have hlocks := B.notSynchronized
  have hl := lv_entry ([.ref (ad 0), .int (x0)]) (n := 2) (Nat.le_of_ble_eq_true rfl)
  rw [lg_entry_eq]
  generalize (lg_sl ([.ref (ad 0), .int (x0)]) ++ List.replicate (2 - (lg_sl ([.ref (ad 0), .int (x0)])).length) Slot.unset).toArray = ls at hl ⊢
  have hl : lv_has ls 2 [(0, .ref (ad 0)), (1, .int (x0))] := hl
  refine lv_iload_n hx hb dX0_read_0 rfl (lv_at hl 1 rfl) ?_
  refine lv_if_lt (tgt := 18) hx hb dX0_read_1 (by decide) (fun h1 => ?_) (fun h1 => ?_)
  · refine lv_iconst (v := (-1)) hx hb dX0_read_18 (by decide) ?_
    exact W.iret hx hb hr (fun t ht hW => ⟨_, rfl, rfl, ht⟩) (fun q h => by cases h) dX0_read_19
  · refine lv_iload_n hx hb dX0_read_4 rfl (lv_at hl 1 rfl) ?_
    refine lv_iconst (v := ((5 : Int32))) hx hb dX0_read_5 (by decide) ?_
    refine lv_icmp_gt (tgt := 18) hx hb dX0_read_6 (by decide) (fun h2 => ?_) (fun h2 => ?_)
    · refine lv_iconst (v := (-1)) hx hb dX0_read_18 (by decide) ?_
      exact W.iret hx hb hr (fun t ht hW => ⟨_, rfl, rfl, ht⟩) (fun q h => by cases h) dX0_read_19
    · refine lv_aload_n hx hb dX0_read_9 rfl (lv_at hl 0 rfl) ?_
      refine va_get (D := (dC, dI)) (ci := 0) (v := .int (nI (n))) (C := RX0) (T := TX0) (N := 10) hx hb hts in_X0 hown hK hP 0 rfl rfl 5 (by decide) (hts _ q27) (fun _ h9 => h9) rfl dX0_read_10 ?_
      refine lv_bipush (v := (nI (16))) hx hb dX0_read_13 (by decide) ?_
      refine lv_icmp_lt (tgt := 20) hx hb dX0_read_15 (by decide) (fun h => absurd h (nI_nlt (show 16 ≤ n by
          rcases hbad with h | h | h
          · exact absurd h h1
          · exact absurd h h2
          · exact h) (by omega))) (fun _ => ?_)
      refine lv_iconst (v := (-1)) hx hb dX0_read_18 (by decide) ?_
      exact W.iret hx hb hr (fun t ht hW => ⟨_, rfl, rfl, ht⟩) (fun q h => by cases h) dX0_read_19
set_option maxHeartbeats 4000000 in
set_option maxRecDepth 100000 in
/-- back() on the empty word -/
theorem metX0_back0 (l : Launch) (dC : Nat → ClassId) (dI : Nat → Nat → Nat) (ad : Nat → Nat) (ca : Nat → ClassId) (S P : nw_F) (st en kn : Int32) (aw ay aa ao : nw_F)  : Met l yX0_back (ws_ yX0_back cX0_back 1 (some .int)) ({ frames := 0, cells := 0, slots := 0, locals := 0 }) (va_Pc [.ref (ad 0)] (nw_XR dC dI (nw_xW ad ca (S) (P) (st) (en) (kn) (nI (0)) (aw) (ay) (aa) (ao)) (nw_xT ca))) (vp_Si (fun r => r = -1)) 0 0 (fun _ => False) := by
  refine Met.ofW (cc := cX0_back) (maxL := 1) (ret := (some .int)) (by decide) rfl ?_
  intro p e s m args below meth c s₁ B hml hv
  obtain ⟨rfl, hP, hK⟩ := hv
  have hx := B.exec
  have hb := B.bytes
  have hr := B.returns
  have hts := atoms_spec (ws := ws_ yX0_back cX0_back 1 (some .int)) B.pre
  have hts : ∀ w ∈ lw_all, w.before _ s = true := fun w h => hts w (List.mem_cons_of_mem _ h)
  have hown : s.vm.findClass RX0 = some m.cls := findClass_of_methodNamed B.named
  have hlocks := B.notSynchronized
  have hl := lv_entry ([.ref (ad 0)]) (n := 1) (Nat.le_of_ble_eq_true rfl)
  rw [lg_entry_eq]
  generalize (lg_sl ([.ref (ad 0)]) ++ List.replicate (1 - (lg_sl ([.ref (ad 0)])).length) Slot.unset).toArray = ls at hl ⊢
  have hl : lv_has ls 1 [(0, .ref (ad 0))] := hl
  refine lv_aload_n hx hb dX0_back_0 rfl (lv_at hl 0 rfl) ?_
  refine va_get (D := (dC, dI)) (ci := 0) (v := .int (nI (0))) (C := RX0) (T := TX0) (N := 10) hx hb hts in_X0 hown hK hP 0 rfl rfl 5 (by decide) (hts _ q27) (fun _ h9 => h9) rfl dX0_back_1 ?_
  refine lv_if_ne (tgt := 9) hx hb dX0_back_4 (by decide) (fun h => absurd (nI_0) h) (fun _ => ?_)
  refine lv_iconst (v := (-1)) hx hb dX0_back_7 (by decide) ?_
  exact W.iret hx hb hr (fun t ht hW => ⟨_, rfl, rfl, ht⟩) (fun q h => by cases h) dX0_back_8
set_option maxHeartbeats 4000000 in
set_option maxRecDepth 100000 in
/-- back(): the last letter goes -/
theorem metX0_back1 (l : Launch) (dC : Nat → ClassId) (dI : Nat → Nat → Nat) (ad : Nat → Nat) (ca : Nat → ClassId) (S P : nw_F) (st en kn : Int32) (aw ay aa ao : nw_F) (n : Nat) (hn : n < 16) (sz : Nat) : Met l yX0_back (ws_ yX0_back cX0_back 1 (some .int)) ({ frames := 0, cells := 0, slots := 0, locals := 0 }) (va_Pc [.ref (ad 0)] (fun U => U.heap.size = sz ∧ nw_XB dC dI (fun _ => True) (nw_xW ad ca (S) (P) (st) (en) (kn) (nI (n + 1)) (aw) (ay) (aa) (ao)) (nw_xT ca) U)) (va_Qi (fun (x : Int32) (_ : Unit) => x = aw n) (fun (u : Unit) t => nw_XB dC dI (va_A (nw_xW ad ca (S) (P) (st) (en) (kn) (nI (n + 1)) (aw) (ay) (aa) (ao)) sz) (nw_xW ad ca (S) (P) (st) (en) (kn) (nI (n)) (aw) (ay) (aa) (ao)) (nw_xT ca) t) (va_A (nw_xW ad ca (S) (P) (st) (en) (kn) (nI (n + 1)) (aw) (ay) (aa) (ao)) sz)) 0 0 (va_A (nw_xW ad ca (S) (P) (st) (en) (kn) (nI (n + 1)) (aw) (ay) (aa) (ao)) sz) := by
  refine Met.ofW (cc := cX0_back) (maxL := 1) (ret := (some .int)) (by decide) rfl ?_
  intro p e s m args below meth c s₁ B hml hv
  obtain ⟨rfl, hsz, hP, hK, hD0⟩ := hv
  have hx := B.exec
  have hb := B.bytes
  have hr := B.returns
  have hts := atoms_spec (ws := ws_ yX0_back cX0_back 1 (some .int)) B.pre
  have hts : ∀ w ∈ lw_all, w.before _ s = true := fun w h => hts w (List.mem_cons_of_mem _ h)
  have hown : s.vm.findClass RX0 = some m.cls := findClass_of_methodNamed B.named
  have hlocks := B.notSynchronized
  subst hsz
  have hD := hD0.self (sz := s.heap.size)
  generalize hAe : va_A (nw_xW ad ca (S) (P) (st) (en) (kn) (nI (n + 1)) (aw) (ay) (aa) (ao)) s.heap.size = A at hD ⊢
  have hA : ∀ q : Nat, s.heap.size ≤ q → A q := fun q h => by rw [← hAe]; exact Or.inr h
  have hS : va_S A s.heap s.heap [] := va_S.rf
  have hP : va_P (dC, dI) vwCl (nw_xW ad ca (S) (P) (st) (en) (kn) (nI (n + 1)) (aw) (ay) (aa) (ao)) s.heap := hP
  have hl := lv_entry ([.ref (ad 0)]) (n := 1) (Nat.le_of_ble_eq_true rfl)
  rw [lg_entry_eq]
  generalize (lg_sl ([.ref (ad 0)]) ++ List.replicate (1 - (lg_sl ([.ref (ad 0)])).length) Slot.unset).toArray = ls at hl ⊢
  have hl : lv_has ls 1 [(0, .ref (ad 0))] := hl
  refine lv_aload_n hx hb dX0_back_0 rfl (lv_at hl 0 rfl) ?_
  refine va_get (D := (dC, dI)) (ci := 0) (v := .int (nI (n + 1))) (C := RX0) (T := TX0) (N := 10) hx hb hts in_X0 hown hK hP 0 rfl rfl 5 (by decide) (hts _ q27) (fun _ h9 => h9) rfl dX0_back_1 ?_
  refine lv_if_ne (tgt := 9) hx hb dX0_back_4 (by decide) (fun _ => ?_) (fun h => absurd h (nI_ne0 (by omega) (by omega)))
  refine lv_aload_n hx hb dX0_back_9 rfl (lv_at hl 0 rfl) ?_
  refine lv_dup hx hb dX0_back_10 rfl ?_
  refine va_get (D := (dC, dI)) (ci := 0) (v := .int (nI (n + 1))) (C := RX0) (T := TX0) (N := 10) hx hb hts in_X0 hown hK hP 0 rfl rfl 5 (by decide) (hts _ q27) (fun _ h9 => h9) rfl dX0_back_11 ?_
  refine lv_iconst (v := (nI (1))) hx hb dX0_back_14 (by decide) ?_
  refine lv_isub hx hb dX0_back_15 ?_
  refine nw_as (y := (nI ((n + 1) - 1))) (pk_sub (a := n + 1) (b := 1) (by omega)) ?_
  refine nw_as (y := (nI (n))) (rfl) ?_
  refine va_put (D := (dC, dI)) (ci := 0) (v := .int (nI (n))) (ty := .int) (C := RX0) (T := TX0) (N := 10) hx hb hts in_X0 tyX0 tyX0_ok nmX0 hown hK hP hD hS 0 rfl rfl 5 (by decide) (hts _ q27) (fun _ h9 => h9) rfl (by decide +kernel) rfl rfl (Nat.le_of_ble_eq_true rfl) dX0_back_16 (fun H locs hP hD hS => ?_)
  have hP : va_P (dC, dI) vwCl (nw_xW ad ca (S) (P) (st) (en) (kn) (nI (n)) (aw) (ay) (aa) (ao)) H := hP
  have hD : va_D A (nw_xW ad ca (S) (P) (st) (en) (kn) (nI (n)) (aw) (ay) (aa) (ao)) := hD
  refine lv_aload_n hx hb dX0_back_19 rfl (lv_at hl 0 rfl) ?_
  refine va_get (D := (dC, dI)) (ci := 0) (v := .ref (ad 3)) (C := RX0) (T := TX0) (N := 10) hx hb hts in_X0 hown hK hP 0 rfl rfl 6 (by decide) (hts _ q28) (fun _ h9 => h9) rfl dX0_back_20 ?_
  refine lv_aload_n hx hb dX0_back_23 rfl (lv_at hl 0 rfl) ?_
  refine va_get (D := (dC, dI)) (ci := 0) (v := .int (nI (n))) (C := RX0) (T := TX0) (N := 10) hx hb hts in_X0 hown hK hP 0 rfl rfl 5 (by decide) (hts _ q27) (fun _ h9 => h9) rfl dX0_back_24 ?_
  refine nw_iald hx hb hK hP 3 2 rfl rfl (j := n) (by omega) (by decide) dX0_back_27 ?_
  exact W.iret (v := (aw (n))) hx hb hr (fun t ht hW => ⟨⟨_, (), rfl, rfl, ⟨by rw [ht]; exact hP, va_K.moved hW.alike hK, hD⟩⟩, hS.F ht⟩) hS.2.2 dX0_back_28
set_option maxHeartbeats 4000000 in
set_option maxRecDepth 100000 in
/-- erase() -/
theorem metX0_erase (l : Launch) (dC : Nat → ClassId) (dI : Nat → Nat → Nat) (ad : Nat → Nat) (ca : Nat → ClassId) (S P : nw_F) (st en kn : Int32) (aw ay aa ao : nw_F) (ln : Int32) (sz : Nat) : Met l yX0_erase (ws_ yX0_erase cX0_erase 1 none) ({ frames := 0, cells := 0, slots := 0, locals := 0 }) (va_Pc [.ref (ad 0)] (fun U => U.heap.size = sz ∧ nw_XB dC dI (fun _ => True) (nw_xW ad ca (S) (P) (st) (en) (kn) (ln) (aw) (ay) (aa) (ao)) (nw_xT ca) U)) (va_Qv (fun (_ : Unit) => True) (fun (u : Unit) t => nw_XB dC dI (va_A (nw_xW ad ca (S) (P) (st) (en) (kn) (ln) (aw) (ay) (aa) (ao)) sz) (nw_xW ad ca (S) (P) (st) (en) (kn) (nI (0)) (aw) (ay) (aa) (ao)) (nw_xT ca) t) (va_A (nw_xW ad ca (S) (P) (st) (en) (kn) (ln) (aw) (ay) (aa) (ao)) sz)) 0 0 (va_A (nw_xW ad ca (S) (P) (st) (en) (kn) (ln) (aw) (ay) (aa) (ao)) sz) := by
  refine Met.ofW (cc := cX0_erase) (maxL := 1) (ret := none) (by decide) rfl ?_
  intro p e s m args below meth c s₁ B hml hv
  obtain ⟨rfl, hsz, hP, hK, hD0⟩ := hv
  have hx := B.exec
  have hb := B.bytes
  have hr := B.returns
  have hts := atoms_spec (ws := ws_ yX0_erase cX0_erase 1 none) B.pre
  have hts : ∀ w ∈ lw_all, w.before _ s = true := fun w h => hts w (List.mem_cons_of_mem _ h)
  have hown : s.vm.findClass RX0 = some m.cls := findClass_of_methodNamed B.named
  have hlocks := B.notSynchronized
  subst hsz
  have hD := hD0.self (sz := s.heap.size)
  generalize hAe : va_A (nw_xW ad ca (S) (P) (st) (en) (kn) (ln) (aw) (ay) (aa) (ao)) s.heap.size = A at hD ⊢
  have hA : ∀ q : Nat, s.heap.size ≤ q → A q := fun q h => by rw [← hAe]; exact Or.inr h
  have hS : va_S A s.heap s.heap [] := va_S.rf
  have hP : va_P (dC, dI) vwCl (nw_xW ad ca (S) (P) (st) (en) (kn) (ln) (aw) (ay) (aa) (ao)) s.heap := hP
  have hl := lv_entry ([.ref (ad 0)]) (n := 1) (Nat.le_of_ble_eq_true rfl)
  rw [lg_entry_eq]
  generalize (lg_sl ([.ref (ad 0)]) ++ List.replicate (1 - (lg_sl ([.ref (ad 0)])).length) Slot.unset).toArray = ls at hl ⊢
  have hl : lv_has ls 1 [(0, .ref (ad 0))] := hl
  refine lv_aload_n hx hb dX0_erase_0 rfl (lv_at hl 0 rfl) ?_
  refine lv_iconst (v := (nI (0))) hx hb dX0_erase_1 (by decide) ?_
  refine va_put (D := (dC, dI)) (ci := 0) (v := .int (nI (0))) (ty := .int) (C := RX0) (T := TX0) (N := 10) hx hb hts in_X0 tyX0 tyX0_ok nmX0 hown hK hP hD hS 0 rfl rfl 5 (by decide) (hts _ q27) (fun _ h9 => h9) rfl (by decide +kernel) rfl rfl (Nat.le_of_ble_eq_true rfl) dX0_erase_2 (fun H locs hP hD hS => ?_)
  have hP : va_P (dC, dI) vwCl (nw_xW ad ca (S) (P) (st) (en) (kn) (nI (0)) (aw) (ay) (aa) (ao)) H := hP
  have hD : va_D A (nw_xW ad ca (S) (P) (st) (en) (kn) (nI (0)) (aw) (ay) (aa) (ao)) := hD
  exact W.vret hx hb hr (fun t ht hW => ⟨⟨(), rfl, trivial, ⟨by rw [ht]; exact hP, va_K.moved hW.alike hK, hD⟩⟩, hS.F ht⟩) hS.2.2 dX0_erase_5
set_option maxHeartbeats 4000000 in
set_option maxRecDepth 100000 in
/-- move: refused -/
theorem metX0_moveB (l : Launch) (dC : Nat → ClassId) (dI : Nat → Nat → Nat) (ad : Nat → Nat) (ca : Nat → ClassId) (S P : nw_F) (st en kn ln : Int32) (aw ay aa ao : nw_F) (q0 k0 r0 x0 o0 : Int32) (hbad : ¬ nw_mok q0 k0 r0 x0) : Met l yX0_move (ws_ yX0_move cX0_move 8 (some .int)) ({ frames := 1, cells := 0, slots := 0, locals := 20 }) (va_Pc [.ref (ad 0), .int (q0), .int (k0), .int (r0), .int (x0), .int (o0)] (nw_XR dC dI (nw_xW ad ca (S) (P) (st) (en) (kn) (ln) (aw) (ay) (aa) (ao)) (nw_xT ca))) (vp_Si (fun r => r = -1)) 0 0 (fun _ => False) := by
  refine Met.ofW (cc := cX0_move) (maxL := 8) (ret := (some .int)) (by decide) rfl ?_
  intro p e s m args below meth c s₁ B hml hv
  obtain ⟨rfl, hP, hK⟩ := hv
  have hx := B.exec
  have hb := B.bytes
  have hr := B.returns
  have hts := atoms_spec (ws := ws_ yX0_move cX0_move 8 (some .int)) B.pre
  have hts : ∀ w ∈ lw_all, w.before _ s = true := fun w h => hts w (List.mem_cons_of_mem _ h)
  have hown : s.vm.findClass RX0 = some m.cls := findClass_of_methodNamed B.named
  have hlocks := B.notSynchronized
  have hl := lv_entry ([.ref (ad 0), .int (q0), .int (k0), .int (r0), .int (x0), .int (o0)]) (n := 8) (Nat.le_of_ble_eq_true rfl)
  rw [lg_entry_eq]
  generalize (lg_sl ([.ref (ad 0), .int (q0), .int (k0), .int (r0), .int (x0), .int (o0)]) ++ List.replicate (8 - (lg_sl ([.ref (ad 0), .int (q0), .int (k0), .int (r0), .int (x0), .int (o0)])).length) Slot.unset).toArray = ls at hl ⊢
  have hl : lv_has ls 8 [(0, .ref (ad 0)), (1, .int (q0)), (2, .int (k0)), (3, .int (r0)), (4, .int (x0)), (5, .int (o0))] := hl
  refine lv_iload_n hx hb dX0_move_0 rfl (lv_at hl 1 rfl) ?_
  refine vp_callSi (va_Run.run (va_runS (As := [.int (q0)]) (rest := []) ⟨hx, hb, hml, hown, hts⟩ (metX0_isState l (q0)) (va_cwS 1 hts (lw_S q59 q60 q12 q61) rfl rfl rfl (by decide +kernel) ⟨Nat.le_of_ble_eq_true rfl, Nat.le_of_ble_eq_true rfl⟩) ⟨fun a U g mk q => q, fun U hU hW => ⟨rfl, trivial⟩⟩ rfl rfl hl.1 rfl (lv_room (Nat.le_of_ble_eq_true rfl)) dX0_move_1 ⟨Nat.zero_le _, Nat.zero_le _⟩)) (fun s1 hs1 => ?_)
  refine lv_if_eq (tgt := 48) hx hb dX0_move_4 (by decide) (fun g1 => ?_) (fun g1 => ?_)
  · refine lv_iconst (v := (-1)) hx hb dX0_move_48 (by decide) ?_
    exact W.iret hx hb hr (fun t ht hW => ⟨_, rfl, rfl, ht⟩) (fun q h => by cases h) dX0_move_49
  · refine lv_iload_n hx hb dX0_move_7 rfl (lv_at hl 3 rfl) ?_
    refine vp_callSi (va_Run.run (va_runS (As := [.int (r0)]) (rest := []) ⟨hx, hb, hml, hown, hts⟩ (metX0_isState l (r0)) (va_cwS 1 hts (lw_S q59 q60 q12 q61) rfl rfl rfl (by decide +kernel) ⟨Nat.le_of_ble_eq_true rfl, Nat.le_of_ble_eq_true rfl⟩) ⟨fun a U g mk q => q, fun U hU hW => ⟨rfl, trivial⟩⟩ rfl rfl hl.1 rfl (lv_room (Nat.le_of_ble_eq_true rfl)) dX0_move_8 ⟨Nat.zero_le _, Nat.zero_le _⟩)) (fun s2 hs2 => ?_)
    refine lv_if_eq (tgt := 48) hx hb dX0_move_11 (by decide) (fun g2 => ?_) (fun g2 => ?_)
    · refine lv_iconst (v := (-1)) hx hb dX0_move_48 (by decide) ?_
      exact W.iret hx hb hr (fun t ht hW => ⟨_, rfl, rfl, ht⟩) (fun q h => by cases h) dX0_move_49
    · refine lv_iload_n hx hb dX0_move_14 rfl (lv_at hl 2 rfl) ?_
      refine lv_if_lt (tgt := 48) hx hb dX0_move_15 (by decide) (fun g3 => ?_) (fun g3 => ?_)
      · refine lv_iconst (v := (-1)) hx hb dX0_move_48 (by decide) ?_
        exact W.iret hx hb hr (fun t ht hW => ⟨_, rfl, rfl, ht⟩) (fun q h => by cases h) dX0_move_49
      · refine lv_iload_n hx hb dX0_move_18 rfl (lv_at hl 2 rfl) ?_
        refine lv_iconst (v := ((5 : Int32))) hx hb dX0_move_19 (by decide) ?_
        refine lv_icmp_gt (tgt := 48) hx hb dX0_move_20 (by decide) (fun g4 => ?_) (fun g4 => ?_)
        · refine lv_iconst (v := (-1)) hx hb dX0_move_48 (by decide) ?_
          exact W.iret hx hb hr (fun t ht hW => ⟨_, rfl, rfl, ht⟩) (fun q h => by cases h) dX0_move_49
        · refine lv_iload_n hx hb dX0_move_23 rfl (lv_at hl 2 rfl) ?_
          refine lv_iconst (v := ((4 : Int32))) hx hb dX0_move_24 (by decide) ?_
          refine lv_icmp_ge (tgt := 50) hx hb dX0_move_25 (by decide) (fun g5 => ?_) (fun g5 => ?_)
          · exact absurd ⟨nw_is1 hs1 g1, nw_is1 hs2 g2, ⟨Int32.not_lt.mp g3, Int32.not_lt.mp g4⟩, fun h => absurd g5 (Int32.not_le.mpr h)⟩ hbad
          · refine lv_iload hx hb dX0_move_28 (lv_at hl 4 rfl) ?_
            refine lv_if_lt (tgt := 48) hx hb dX0_move_30 (by decide) (fun g6 => ?_) (fun g6 => ?_)
            · refine lv_iconst (v := (-1)) hx hb dX0_move_48 (by decide) ?_
              exact W.iret hx hb hr (fun t ht hW => ⟨_, rfl, rfl, ht⟩) (fun q h => by cases h) dX0_move_49
            · refine lv_iload hx hb dX0_move_33 (lv_at hl 4 rfl) ?_
              refine lv_iload_n hx hb dX0_move_35 rfl (lv_at hl 2 rfl) ?_
              refine lv_iconst (v := ((2 : Int32))) hx hb dX0_move_36 (by decide) ?_
              refine lv_icmp_ge (tgt := 44) hx hb dX0_move_37 (by decide) (fun g7 => ?_) (fun g7 => ?_)
              · refine lv_iconst (v := ((3 : Int32))) hx hb dX0_move_44 (by decide) ?_
                refine lv_icmp_le (tgt := 50) hx hb dX0_move_45 (by decide) (fun g8 => ?_) (fun g8 => ?_)
                · exact absurd ⟨nw_is1 hs1 g1, nw_is1 hs2 g2, ⟨Int32.not_lt.mp g3, Int32.not_lt.mp g4⟩, fun _ => ⟨Int32.not_lt.mp g6, by rw [if_neg (Int32.not_lt.mpr g7)]; exact g8⟩⟩ hbad
                · refine lv_iconst (v := (-1)) hx hb dX0_move_48 (by decide) ?_
                  exact W.iret hx hb hr (fun t ht hW => ⟨_, rfl, rfl, ht⟩) (fun q h => by cases h) dX0_move_49
              · refine lv_iconst (v := ((2 : Int32))) hx hb dX0_move_40 (by decide) ?_
                refine lv_goto (tgt := 45) hx hb dX0_move_41 (by decide) ?_
                refine lv_icmp_le (tgt := 50) hx hb dX0_move_45 (by decide) (fun g8 => ?_) (fun g8 => ?_)
                · exact absurd ⟨nw_is1 hs1 g1, nw_is1 hs2 g2, ⟨Int32.not_lt.mp g3, Int32.not_lt.mp g4⟩, fun _ => ⟨Int32.not_lt.mp g6, by rw [if_pos (Int32.not_le.mp g7)]; exact g8⟩⟩ hbad
                · refine lv_iconst (v := (-1)) hx hb dX0_move_48 (by decide) ?_
                  exact W.iret hx hb hr (fun t ht hW => ⟨_, rfl, rfl, ht⟩) (fun q h => by cases h) dX0_move_49
set_option maxHeartbeats 4000000 in
set_option maxRecDepth 100000 in
/-- move: a plain letter -/
theorem metX0_moveL (l : Launch) (dC : Nat → ClassId) (dI : Nat → Nat → Nat) (ad : Nat → Nat) (ca : Nat → ClassId) (S P : nw_F) (st en kn : Int32) (aw ay aa ao : nw_F) (n : Nat) (q k r : Nat) (hq : q < 5) (hk : 4 ≤ k) (hk2 : k < 6) (hr5 : r < 5) (x0 o0 : Int32) (sz : Nat) : Met l yX0_move (ws_ yX0_move cX0_move 8 (some .int)) ({ frames := 1, cells := 0, slots := 0, locals := 20 }) (va_Pc [.ref (ad 0), .int (nI (q)), .int (nI (k)), .int (nI (r)), .int (x0), .int (o0)] (fun U => U.heap.size = sz ∧ nw_XB dC dI (fun _ => True) (nw_xW ad ca (S) (P) (st) (en) (kn) (nI (n)) (aw) (ay) (aa) (ao)) (nw_xT ca) U)) (va_Qi (fun (x : Int32) (_ : Unit) => x = (if P (25 * (k - 4) + (5 * q + r)) = 0 then 0 else 1)) (fun (u : Unit) t => nw_XB dC dI (va_A (nw_xW ad ca (S) (P) (st) (en) (kn) (nI (n)) (aw) (ay) (aa) (ao)) sz) (nw_xW ad ca (S) (upd P (25 * (k - 4) + (5 * q + r)) (vp_nar .boolean o0)) (st) (en) ((0 : Int32)) (nI (n)) (aw) (ay) (aa) (ao)) (nw_xT ca) t) (va_A (nw_xW ad ca (S) (P) (st) (en) (kn) (nI (n)) (aw) (ay) (aa) (ao)) sz)) 0 0 (va_A (nw_xW ad ca (S) (P) (st) (en) (kn) (nI (n)) (aw) (ay) (aa) (ao)) sz) := by
  refine Met.ofW (cc := cX0_move) (maxL := 8) (ret := (some .int)) (by decide) rfl ?_
  intro p e s m args below meth c s₁ B hml hv
  obtain ⟨rfl, hsz, hP, hK, hD0⟩ := hv
  have hx := B.exec
  have hb := B.bytes
  have hr := B.returns
  have hts := atoms_spec (ws := ws_ yX0_move cX0_move 8 (some .int)) B.pre
  have hts : ∀ w ∈ lw_all, w.before _ s = true := fun w h => hts w (List.mem_cons_of_mem _ h)
  have hown : s.vm.findClass RX0 = some m.cls := findClass_of_methodNamed B.named
  have hlocks := B.notSynchronized
  subst hsz
  have hD := hD0.self (sz := s.heap.size)
  generalize hAe : va_A (nw_xW ad ca (S) (P) (st) (en) (kn) (nI (n)) (aw) (ay) (aa) (ao)) s.heap.size = A at hD ⊢
  have hA : ∀ q : Nat, s.heap.size ≤ q → A q := fun q h => by rw [← hAe]; exact Or.inr h
  have hS : va_S A s.heap s.heap [] := va_S.rf
  have hP : va_P (dC, dI) vwCl (nw_xW ad ca (S) (P) (st) (en) (kn) (nI (n)) (aw) (ay) (aa) (ao)) s.heap := hP
  have hl := lv_entry ([.ref (ad 0), .int (nI (q)), .int (nI (k)), .int (nI (r)), .int (x0), .int (o0)]) (n := 8) (Nat.le_of_ble_eq_true rfl)
  rw [lg_entry_eq]
  generalize (lg_sl ([.ref (ad 0), .int (nI (q)), .int (nI (k)), .int (nI (r)), .int (x0), .int (o0)]) ++ List.replicate (8 - (lg_sl ([.ref (ad 0), .int (nI (q)), .int (nI (k)), .int (nI (r)), .int (x0), .int (o0)])).length) Slot.unset).toArray = ls at hl ⊢
  have hl : lv_has ls 8 [(0, .ref (ad 0)), (1, .int (nI (q))), (2, .int (nI (k))), (3, .int (nI (r))), (4, .int (x0)), (5, .int (o0))] := hl
  refine lv_iload_n hx hb dX0_move_0 rfl (lv_at hl 1 rfl) ?_
  refine vp_callSi (va_Run.run (va_runS (As := [.int (nI (q))]) (rest := []) ⟨hx, hb, hml, hown, hts⟩ (metX0_isState l (nI (q))) (va_cwS 1 hts (lw_S q59 q60 q12 q61) rfl rfl rfl (by decide +kernel) ⟨Nat.le_of_ble_eq_true rfl, Nat.le_of_ble_eq_true rfl⟩) ⟨fun a U g mk q => q, fun U hU hW => ⟨rfl, trivial⟩⟩ rfl rfl hl.1 rfl (lv_room (Nat.le_of_ble_eq_true rfl)) dX0_move_1 ⟨Nat.zero_le _, Nat.zero_le _⟩)) (fun r_ hr_ => ?_)
  refine nw_as (y := ((1 : Int32))) (hr_.trans (if_pos (nw_st5 hq))) ?_
  refine lv_if_eq (tgt := 48) hx hb dX0_move_4 (by decide) (fun h => absurd h (nw_10)) (fun _ => ?_)
  refine lv_iload_n hx hb dX0_move_7 rfl (lv_at hl 3 rfl) ?_
  refine vp_callSi (va_Run.run (va_runS (As := [.int (nI (r))]) (rest := []) ⟨hx, hb, hml, hown, hts⟩ (metX0_isState l (nI (r))) (va_cwS 1 hts (lw_S q59 q60 q12 q61) rfl rfl rfl (by decide +kernel) ⟨Nat.le_of_ble_eq_true rfl, Nat.le_of_ble_eq_true rfl⟩) ⟨fun a U g mk q => q, fun U hU hW => ⟨rfl, trivial⟩⟩ rfl rfl hl.1 rfl (lv_room (Nat.le_of_ble_eq_true rfl)) dX0_move_8 ⟨Nat.zero_le _, Nat.zero_le _⟩)) (fun r_ hr_ => ?_)
  refine nw_as (y := ((1 : Int32))) (hr_.trans (if_pos (nw_st5 hr5))) ?_
  refine lv_if_eq (tgt := 48) hx hb dX0_move_11 (by decide) (fun h => absurd h (nw_10)) (fun _ => ?_)
  refine lv_iload_n hx hb dX0_move_14 rfl (lv_at hl 2 rfl) ?_
  refine lv_if_lt (tgt := 48) hx hb dX0_move_15 (by decide) (fun h => absurd h (nI_pos (by omega))) (fun _ => ?_)
  refine lv_iload_n hx hb dX0_move_18 rfl (lv_at hl 2 rfl) ?_
  refine lv_iconst (v := (nI (5))) hx hb dX0_move_19 (by decide) ?_
  refine lv_icmp_gt (tgt := 48) hx hb dX0_move_20 (by decide) (fun h => absurd h (nI_nlt (by omega) (by decide))) (fun _ => ?_)
  refine lv_iload_n hx hb dX0_move_23 rfl (lv_at hl 2 rfl) ?_
  refine lv_iconst (v := (nI (4))) hx hb dX0_move_24 (by decide) ?_
  refine lv_icmp_ge (tgt := 50) hx hb dX0_move_25 (by decide) (fun _ => ?_) (fun h => absurd (nI_le hk (by omega)) h)
  refine lv_aload_n hx hb dX0_move_50 rfl (lv_at hl 0 rfl) ?_
  refine lv_iconst (v := ((0 : Int32))) hx hb dX0_move_51 (by decide) ?_
  refine va_put (D := (dC, dI)) (ci := 0) (v := .int ((0 : Int32))) (ty := .boolean) (C := RX0) (T := TX0) (N := 10) hx hb hts in_X0 tyX0 tyX0_ok nmX0 hown hK hP hD hS 0 rfl rfl 4 (by decide) (hts _ q26) (fun _ h9 => h9) rfl (by decide +kernel) rfl rfl (Nat.le_of_ble_eq_true rfl) dX0_move_52 (fun H locs hP hD hS => ?_)
  have hP : va_P (dC, dI) vwCl (nw_xW ad ca (S) (P) (st) (en) ((0 : Int32)) (nI (n)) (aw) (ay) (aa) (ao)) H := hP
  have hD : va_D A (nw_xW ad ca (S) (P) (st) (en) ((0 : Int32)) (nI (n)) (aw) (ay) (aa) (ao)) := hD
  refine lv_iload_n hx hb dX0_move_55 rfl (lv_at hl 2 rfl) ?_
  refine lv_iconst (v := (nI (4))) hx hb dX0_move_56 (by decide) ?_
  refine lv_icmp_lt (tgt := 103) hx hb dX0_move_57 (by decide) (fun h => absurd h (nI_nlt hk (by omega))) (fun _ => ?_)
  refine lv_bipush (v := (nI (25))) hx hb dX0_move_60 (by decide) ?_
  refine lv_iload_n hx hb dX0_move_62 rfl (lv_at hl 2 rfl) ?_
  refine lv_iconst (v := (nI (4))) hx hb dX0_move_63 (by decide) ?_
  refine lv_isub hx hb dX0_move_64 ?_
  refine nw_as (y := (nI (k - 4))) (pk_sub (a := k) (b := 4) (by omega)) ?_
  refine lv_imul hx hb dX0_move_65 ?_
  refine nw_as (y := (nI (25 * (k - 4)))) (pk_mul (25) (k - 4)) ?_
  refine lv_iconst (v := (nI (5))) hx hb dX0_move_66 (by decide) ?_
  refine lv_iload_n hx hb dX0_move_67 rfl (lv_at hl 1 rfl) ?_
  refine lv_imul hx hb dX0_move_68 ?_
  refine nw_as (y := (nI (5 * q))) (pk_mul (5) (q)) ?_
  refine lv_iadd hx hb dX0_move_69 ?_
  refine nw_as (y := (nI ((25 * (k - 4)) + (5 * q)))) (nI_add (25 * (k - 4)) (5 * q)) ?_
  refine lv_iload_n hx hb dX0_move_70 rfl (lv_at hl 3 rfl) ?_
  refine lv_iadd hx hb dX0_move_71 ?_
  refine nw_as (y := (nI (((25 * (k - 4)) + (5 * q)) + r))) (nI_add ((25 * (k - 4)) + (5 * q)) (r)) ?_
  refine nw_as (y := (nI (25 * (k - 4) + (5 * q + r)))) (congrArg nI (Nat.add_assoc _ _ _)) ?_
  refine lv_istore (lv' := [(6, .int (nI (25 * (k - 4) + (5 * q + r)))), (0, .ref (ad 0)), (1, .int (nI (q))), (2, .int (nI (k))), (3, .int (nI (r))), (4, .int (x0)), (5, .int (o0))]) hx hb dX0_move_72 hl (by decide) rfl (fun ls hl => ?_)
  refine lv_aload_n hx hb dX0_move_74 rfl (lv_at hl 1 rfl) ?_
  refine va_get (D := (dC, dI)) (ci := 0) (v := .ref (ad 2)) (C := RX0) (T := TX0) (N := 10) hx hb hts in_X0 hown hK hP 0 rfl rfl 1 (by decide) (hts _ q23) (fun _ h9 => h9) rfl dX0_move_75 ?_
  refine lv_iload hx hb dX0_move_78 (lv_at hl 0 rfl) ?_
  refine nw_zald hx hb hK hP 2 1 rfl rfl (j := 25 * (k - 4) + (5 * q + r)) (by omega) (by decide) dX0_move_80 ?_
  refine lv_if_eq (tgt := 88) hx hb dX0_move_81 (by decide) (fun hz => ?_) (fun hz => ?_)
  · refine lv_iconst (v := ((0 : Int32))) hx hb dX0_move_88 (by decide) ?_
    refine lv_istore (lv' := [(7, .int ((0 : Int32))), (6, .int (nI (25 * (k - 4) + (5 * q + r)))), (0, .ref (ad 0)), (1, .int (nI (q))), (2, .int (nI (k))), (3, .int (nI (r))), (4, .int (x0)), (5, .int (o0))]) hx hb dX0_move_89 hl (by decide) rfl (fun ls hl => ?_)
    refine lv_aload_n hx hb dX0_move_91 rfl (lv_at hl 2 rfl) ?_
    refine va_get (D := (dC, dI)) (ci := 0) (v := .ref (ad 2)) (C := RX0) (T := TX0) (N := 10) hx hb hts in_X0 hown hK hP 0 rfl rfl 1 (by decide) (hts _ q23) (fun _ h9 => h9) rfl dX0_move_92 ?_
    refine lv_iload hx hb dX0_move_95 (lv_at hl 1 rfl) ?_
    refine lv_iload hx hb dX0_move_97 (lv_at hl 7 rfl) ?_
    refine nw_zast hx hb hK hP hD hS 2 1 rfl rfl (j := 25 * (k - 4) + (5 * q + r)) (by omega) (by decide) dX0_move_99 (fun H locs hP hD hS => ?_)
    have hP : va_P (dC, dI) vwCl (nw_xW ad ca (S) (upd (P) (25 * (k - 4) + (5 * q + r)) (vp_nar .boolean (o0))) (st) (en) ((0 : Int32)) (nI (n)) (aw) (ay) (aa) (ao)) H := hP
    have hD : va_D A (nw_xW ad ca (S) (upd (P) (25 * (k - 4) + (5 * q + r)) (vp_nar .boolean (o0))) (st) (en) ((0 : Int32)) (nI (n)) (aw) (ay) (aa) (ao)) := hD
    refine lv_iload hx hb dX0_move_100 (lv_at hl 0 rfl) ?_
    exact W.iret (v := ((0 : Int32))) hx hb hr (fun t ht hW => ⟨⟨_, (), rfl, (if_pos hz).symm, ⟨by rw [ht]; exact hP, va_K.moved hW.alike hK, hD⟩⟩, hS.F ht⟩) hS.2.2 dX0_move_102
  · refine lv_iconst (v := ((1 : Int32))) hx hb dX0_move_84 (by decide) ?_
    refine lv_goto (tgt := 89) hx hb dX0_move_85 (by decide) ?_
    refine lv_istore (lv' := [(7, .int ((1 : Int32))), (6, .int (nI (25 * (k - 4) + (5 * q + r)))), (0, .ref (ad 0)), (1, .int (nI (q))), (2, .int (nI (k))), (3, .int (nI (r))), (4, .int (x0)), (5, .int (o0))]) hx hb dX0_move_89 hl (by decide) rfl (fun ls hl => ?_)
    refine lv_aload_n hx hb dX0_move_91 rfl (lv_at hl 2 rfl) ?_
    refine va_get (D := (dC, dI)) (ci := 0) (v := .ref (ad 2)) (C := RX0) (T := TX0) (N := 10) hx hb hts in_X0 hown hK hP 0 rfl rfl 1 (by decide) (hts _ q23) (fun _ h9 => h9) rfl dX0_move_92 ?_
    refine lv_iload hx hb dX0_move_95 (lv_at hl 1 rfl) ?_
    refine lv_iload hx hb dX0_move_97 (lv_at hl 7 rfl) ?_
    refine nw_zast hx hb hK hP hD hS 2 1 rfl rfl (j := 25 * (k - 4) + (5 * q + r)) (by omega) (by decide) dX0_move_99 (fun H locs hP hD hS => ?_)
    have hP : va_P (dC, dI) vwCl (nw_xW ad ca (S) (upd (P) (25 * (k - 4) + (5 * q + r)) (vp_nar .boolean (o0))) (st) (en) ((0 : Int32)) (nI (n)) (aw) (ay) (aa) (ao)) H := hP
    have hD : va_D A (nw_xW ad ca (S) (upd (P) (25 * (k - 4) + (5 * q + r)) (vp_nar .boolean (o0))) (st) (en) ((0 : Int32)) (nI (n)) (aw) (ay) (aa) (ao)) := hD
    refine lv_iload hx hb dX0_move_100 (lv_at hl 0 rfl) ?_
    exact W.iret (v := ((1 : Int32))) hx hb hr (fun t ht hW => ⟨⟨_, (), rfl, (if_neg hz).symm, ⟨by rw [ht]; exact hP, va_K.moved hW.alike hK, hD⟩⟩, hS.F ht⟩) hS.2.2 dX0_move_102
set_option maxHeartbeats 4000000 in
set_option maxRecDepth 100000 in
/-- move: a letter with a mark -/
theorem metX0_moveS (l : Launch) (dC : Nat → ClassId) (dI : Nat → Nat → Nat) (ad : Nat → Nat) (ca : Nat → ClassId) (S P : nw_F) (st en kn : Int32) (aw ay aa ao : nw_F) (n : Nat) (q k r x : Nat) (hq : q < 5) (hk : k < 4) (hr5 : r < 5) (hx4 : x < 4) (hx3 : k < 2 → x < 3) (o0 : Int32) (sz : Nat) : Met l yX0_move (ws_ yX0_move cX0_move 8 (some .int)) ({ frames := 1, cells := 0, slots := 0, locals := 20 }) (va_Pc [.ref (ad 0), .int (nI (q)), .int (nI (k)), .int (nI (r)), .int (nI (x)), .int (o0)] (fun U => U.heap.size = sz ∧ nw_XB dC dI (fun _ => True) (nw_xW ad ca (S) (P) (st) (en) (kn) (nI (n)) (aw) (ay) (aa) (ao)) (nw_xT ca) U)) (va_Qi (fun (y : Int32) (_ : Unit) => y = (if S (100 * k + 4 * (5 * q + r) + x) = 0 then 0 else 1)) (fun (u : Unit) t => nw_XB dC dI (va_A (nw_xW ad ca (S) (P) (st) (en) (kn) (nI (n)) (aw) (ay) (aa) (ao)) sz) (nw_xW ad ca (upd S (100 * k + 4 * (5 * q + r) + x) (vp_nar .boolean o0)) (P) (st) (en) ((0 : Int32)) (nI (n)) (aw) (ay) (aa) (ao)) (nw_xT ca) t) (va_A (nw_xW ad ca (S) (P) (st) (en) (kn) (nI (n)) (aw) (ay) (aa) (ao)) sz)) 0 0 (va_A (nw_xW ad ca (S) (P) (st) (en) (kn) (nI (n)) (aw) (ay) (aa) (ao)) sz) := by
  refine Met.ofW (cc := cX0_move) (maxL := 8) (ret := (some .int)) (by decide) rfl ?_
  intro p e s m args below meth c s₁ B hml hv
  obtain ⟨rfl, hsz, hP, hK, hD0⟩ := hv
  have hx := B.exec
  have hb := B.bytes
  have hr := B.returns
  have hts := atoms_spec (ws := ws_ yX0_move cX0_move 8 (some .int)) B.pre
  have hts : ∀ w ∈ lw_all, w.before _ s = true := fun w h => hts w (List.mem_cons_of_mem _ h)
  have hown : s.vm.findClass RX0 = some m.cls := findClass_of_methodNamed B.named
  have hlocks := B.notSynchronized
  subst hsz
  have hD := hD0.self (sz := s.heap.size)
  generalize hAe : va_A (nw_xW ad ca (S) (P) (st) (en) (kn) (nI (n)) (aw) (ay) (aa) (ao)) s.heap.size = A at hD ⊢
  have hA : ∀ q : Nat, s.heap.size ≤ q → A q := fun q h => by rw [← hAe]; exact Or.inr h
  have hS : va_S A s.heap s.heap [] := va_S.rf
  have hP : va_P (dC, dI) vwCl (nw_xW ad ca (S) (P) (st) (en) (kn) (nI (n)) (aw) (ay) (aa) (ao)) s.heap := hP
  have hl := lv_entry ([.ref (ad 0), .int (nI (q)), .int (nI (k)), .int (nI (r)), .int (nI (x)), .int (o0)]) (n := 8) (Nat.le_of_ble_eq_true rfl)
  rw [lg_entry_eq]
  generalize (lg_sl ([.ref (ad 0), .int (nI (q)), .int (nI (k)), .int (nI (r)), .int (nI (x)), .int (o0)]) ++ List.replicate (8 - (lg_sl ([.ref (ad 0), .int (nI (q)), .int (nI (k)), .int (nI (r)), .int (nI (x)), .int (o0)])).length) Slot.unset).toArray = ls at hl ⊢
  have hl : lv_has ls 8 [(0, .ref (ad 0)), (1, .int (nI (q))), (2, .int (nI (k))), (3, .int (nI (r))), (4, .int (nI (x))), (5, .int (o0))] := hl
  refine lv_iload_n hx hb dX0_move_0 rfl (lv_at hl 1 rfl) ?_
  refine vp_callSi (va_Run.run (va_runS (As := [.int (nI (q))]) (rest := []) ⟨hx, hb, hml, hown, hts⟩ (metX0_isState l (nI (q))) (va_cwS 1 hts (lw_S q59 q60 q12 q61) rfl rfl rfl (by decide +kernel) ⟨Nat.le_of_ble_eq_true rfl, Nat.le_of_ble_eq_true rfl⟩) ⟨fun a U g mk q => q, fun U hU hW => ⟨rfl, trivial⟩⟩ rfl rfl hl.1 rfl (lv_room (Nat.le_of_ble_eq_true rfl)) dX0_move_1 ⟨Nat.zero_le _, Nat.zero_le _⟩)) (fun r_ hr_ => ?_)
  refine nw_as (y := ((1 : Int32))) (hr_.trans (if_pos (nw_st5 hq))) ?_
  refine lv_if_eq (tgt := 48) hx hb dX0_move_4 (by decide) (fun h => absurd h (nw_10)) (fun _ => ?_)
  refine lv_iload_n hx hb dX0_move_7 rfl (lv_at hl 3 rfl) ?_
  refine vp_callSi (va_Run.run (va_runS (As := [.int (nI (r))]) (rest := []) ⟨hx, hb, hml, hown, hts⟩ (metX0_isState l (nI (r))) (va_cwS 1 hts (lw_S q59 q60 q12 q61) rfl rfl rfl (by decide +kernel) ⟨Nat.le_of_ble_eq_true rfl, Nat.le_of_ble_eq_true rfl⟩) ⟨fun a U g mk q => q, fun U hU hW => ⟨rfl, trivial⟩⟩ rfl rfl hl.1 rfl (lv_room (Nat.le_of_ble_eq_true rfl)) dX0_move_8 ⟨Nat.zero_le _, Nat.zero_le _⟩)) (fun r_ hr_ => ?_)
  refine nw_as (y := ((1 : Int32))) (hr_.trans (if_pos (nw_st5 hr5))) ?_
  refine lv_if_eq (tgt := 48) hx hb dX0_move_11 (by decide) (fun h => absurd h (nw_10)) (fun _ => ?_)
  refine lv_iload_n hx hb dX0_move_14 rfl (lv_at hl 2 rfl) ?_
  refine lv_if_lt (tgt := 48) hx hb dX0_move_15 (by decide) (fun h => absurd h (nI_pos (by omega))) (fun _ => ?_)
  refine lv_iload_n hx hb dX0_move_18 rfl (lv_at hl 2 rfl) ?_
  refine lv_iconst (v := (nI (5))) hx hb dX0_move_19 (by decide) ?_
  refine lv_icmp_gt (tgt := 48) hx hb dX0_move_20 (by decide) (fun h => absurd h (nI_nlt (by omega) (by decide))) (fun _ => ?_)
  refine lv_iload_n hx hb dX0_move_23 rfl (lv_at hl 2 rfl) ?_
  refine lv_iconst (v := (nI (4))) hx hb dX0_move_24 (by decide) ?_
  refine lv_icmp_ge (tgt := 50) hx hb dX0_move_25 (by decide) (fun h => absurd h (nI_ge hk (by decide))) (fun _ => ?_)
  refine lv_iload hx hb dX0_move_28 (lv_at hl 4 rfl) ?_
  refine lv_if_lt (tgt := 48) hx hb dX0_move_30 (by decide) (fun h => absurd h (nI_pos (by omega))) (fun _ => ?_)
  refine lv_iload hx hb dX0_move_33 (lv_at hl 4 rfl) ?_
  refine lv_iload_n hx hb dX0_move_35 rfl (lv_at hl 2 rfl) ?_
  refine lv_iconst (v := (nI (2))) hx hb dX0_move_36 (by decide) ?_
  refine lv_icmp_ge (tgt := 44) hx hb dX0_move_37 (by decide) (fun h2 => ?_) (fun h2 => ?_)
  · refine lv_iconst (v := (nI (3))) hx hb dX0_move_44 (by decide) ?_
    refine lv_icmp_le (tgt := 50) hx hb dX0_move_45 (by decide) (fun _ => ?_) (fun h => absurd (nI_le (by omega) (by decide)) h)
    refine lv_aload_n hx hb dX0_move_50 rfl (lv_at hl 0 rfl) ?_
    refine lv_iconst (v := ((0 : Int32))) hx hb dX0_move_51 (by decide) ?_
    refine va_put (D := (dC, dI)) (ci := 0) (v := .int ((0 : Int32))) (ty := .boolean) (C := RX0) (T := TX0) (N := 10) hx hb hts in_X0 tyX0 tyX0_ok nmX0 hown hK hP hD hS 0 rfl rfl 4 (by decide) (hts _ q26) (fun _ h9 => h9) rfl (by decide +kernel) rfl rfl (Nat.le_of_ble_eq_true rfl) dX0_move_52 (fun H locs hP hD hS => ?_)
    have hP : va_P (dC, dI) vwCl (nw_xW ad ca (S) (P) (st) (en) ((0 : Int32)) (nI (n)) (aw) (ay) (aa) (ao)) H := hP
    have hD : va_D A (nw_xW ad ca (S) (P) (st) (en) ((0 : Int32)) (nI (n)) (aw) (ay) (aa) (ao)) := hD
    refine lv_iload_n hx hb dX0_move_55 rfl (lv_at hl 2 rfl) ?_
    refine lv_iconst (v := (nI (4))) hx hb dX0_move_56 (by decide) ?_
    refine lv_icmp_lt (tgt := 103) hx hb dX0_move_57 (by decide) (fun _ => ?_) (fun h => absurd (nI_lt hk (by decide)) h)
    refine lv_bipush (v := (nI (100))) hx hb dX0_move_103 (by decide) ?_
    refine lv_iload_n hx hb dX0_move_105 rfl (lv_at hl 2 rfl) ?_
    refine lv_imul hx hb dX0_move_106 ?_
    refine nw_as (y := (nI (100 * k))) (pk_mul (100) (k)) ?_
    refine lv_iconst (v := (nI (4))) hx hb dX0_move_107 (by decide) ?_
    refine lv_iconst (v := (nI (5))) hx hb dX0_move_108 (by decide) ?_
    refine lv_iload_n hx hb dX0_move_109 rfl (lv_at hl 1 rfl) ?_
    refine lv_imul hx hb dX0_move_110 ?_
    refine nw_as (y := (nI (5 * q))) (pk_mul (5) (q)) ?_
    refine lv_iload_n hx hb dX0_move_111 rfl (lv_at hl 3 rfl) ?_
    refine lv_iadd hx hb dX0_move_112 ?_
    refine nw_as (y := (nI ((5 * q) + r))) (nI_add (5 * q) (r)) ?_
    refine lv_imul hx hb dX0_move_113 ?_
    refine nw_as (y := (nI (4 * ((5 * q) + r)))) (pk_mul (4) ((5 * q) + r)) ?_
    refine lv_iadd hx hb dX0_move_114 ?_
    refine nw_as (y := (nI ((100 * k) + (4 * ((5 * q) + r))))) (nI_add (100 * k) (4 * ((5 * q) + r))) ?_
    refine lv_iload hx hb dX0_move_115 (lv_at hl 4 rfl) ?_
    refine lv_iadd hx hb dX0_move_117 ?_
    refine nw_as (y := (nI (((100 * k) + (4 * ((5 * q) + r))) + x))) (nI_add ((100 * k) + (4 * ((5 * q) + r))) (x)) ?_
    refine lv_istore (lv' := [(6, .int (nI (((100 * k) + (4 * ((5 * q) + r))) + x))), (0, .ref (ad 0)), (1, .int (nI (q))), (2, .int (nI (k))), (3, .int (nI (r))), (4, .int (nI (x))), (5, .int (o0))]) hx hb dX0_move_118 hl (by decide) rfl (fun ls hl => ?_)
    refine lv_aload_n hx hb dX0_move_120 rfl (lv_at hl 1 rfl) ?_
    refine va_get (D := (dC, dI)) (ci := 0) (v := .ref (ad 1)) (C := RX0) (T := TX0) (N := 10) hx hb hts in_X0 hown hK hP 0 rfl rfl 0 (by decide) (hts _ q22) (fun _ h9 => h9) rfl dX0_move_121 ?_
    refine lv_iload hx hb dX0_move_124 (lv_at hl 0 rfl) ?_
    refine nw_zald hx hb hK hP 1 0 rfl rfl (j := ((100 * k) + (4 * ((5 * q) + r))) + x) (by omega) (by decide) dX0_move_126 ?_
    refine lv_if_eq (tgt := 134) hx hb dX0_move_127 (by decide) (fun hz => ?_) (fun hz => ?_)
    · refine lv_iconst (v := ((0 : Int32))) hx hb dX0_move_134 (by decide) ?_
      refine lv_istore (lv' := [(7, .int ((0 : Int32))), (6, .int (nI (((100 * k) + (4 * ((5 * q) + r))) + x))), (0, .ref (ad 0)), (1, .int (nI (q))), (2, .int (nI (k))), (3, .int (nI (r))), (4, .int (nI (x))), (5, .int (o0))]) hx hb dX0_move_135 hl (by decide) rfl (fun ls hl => ?_)
      refine lv_aload_n hx hb dX0_move_137 rfl (lv_at hl 2 rfl) ?_
      refine va_get (D := (dC, dI)) (ci := 0) (v := .ref (ad 1)) (C := RX0) (T := TX0) (N := 10) hx hb hts in_X0 hown hK hP 0 rfl rfl 0 (by decide) (hts _ q22) (fun _ h9 => h9) rfl dX0_move_138 ?_
      refine lv_iload hx hb dX0_move_141 (lv_at hl 1 rfl) ?_
      refine lv_iload hx hb dX0_move_143 (lv_at hl 7 rfl) ?_
      refine nw_zast hx hb hK hP hD hS 1 0 rfl rfl (j := ((100 * k) + (4 * ((5 * q) + r))) + x) (by omega) (by decide) dX0_move_145 (fun H locs hP hD hS => ?_)
      have hP : va_P (dC, dI) vwCl (nw_xW ad ca (upd (S) (((100 * k) + (4 * ((5 * q) + r))) + x) (vp_nar .boolean (o0))) (P) (st) (en) ((0 : Int32)) (nI (n)) (aw) (ay) (aa) (ao)) H := hP
      have hD : va_D A (nw_xW ad ca (upd (S) (((100 * k) + (4 * ((5 * q) + r))) + x) (vp_nar .boolean (o0))) (P) (st) (en) ((0 : Int32)) (nI (n)) (aw) (ay) (aa) (ao)) := hD
      refine lv_iload hx hb dX0_move_146 (lv_at hl 0 rfl) ?_
      exact W.iret (v := ((0 : Int32))) hx hb hr (fun t ht hW => ⟨⟨_, (), rfl, (if_pos hz).symm, ⟨by rw [ht]; exact hP, va_K.moved hW.alike hK, hD⟩⟩, hS.F ht⟩) hS.2.2 dX0_move_148
    · refine lv_iconst (v := ((1 : Int32))) hx hb dX0_move_130 (by decide) ?_
      refine lv_goto (tgt := 135) hx hb dX0_move_131 (by decide) ?_
      refine lv_istore (lv' := [(7, .int ((1 : Int32))), (6, .int (nI (((100 * k) + (4 * ((5 * q) + r))) + x))), (0, .ref (ad 0)), (1, .int (nI (q))), (2, .int (nI (k))), (3, .int (nI (r))), (4, .int (nI (x))), (5, .int (o0))]) hx hb dX0_move_135 hl (by decide) rfl (fun ls hl => ?_)
      refine lv_aload_n hx hb dX0_move_137 rfl (lv_at hl 2 rfl) ?_
      refine va_get (D := (dC, dI)) (ci := 0) (v := .ref (ad 1)) (C := RX0) (T := TX0) (N := 10) hx hb hts in_X0 hown hK hP 0 rfl rfl 0 (by decide) (hts _ q22) (fun _ h9 => h9) rfl dX0_move_138 ?_
      refine lv_iload hx hb dX0_move_141 (lv_at hl 1 rfl) ?_
      refine lv_iload hx hb dX0_move_143 (lv_at hl 7 rfl) ?_
      refine nw_zast hx hb hK hP hD hS 1 0 rfl rfl (j := ((100 * k) + (4 * ((5 * q) + r))) + x) (by omega) (by decide) dX0_move_145 (fun H locs hP hD hS => ?_)
      have hP : va_P (dC, dI) vwCl (nw_xW ad ca (upd (S) (((100 * k) + (4 * ((5 * q) + r))) + x) (vp_nar .boolean (o0))) (P) (st) (en) ((0 : Int32)) (nI (n)) (aw) (ay) (aa) (ao)) H := hP
      have hD : va_D A (nw_xW ad ca (upd (S) (((100 * k) + (4 * ((5 * q) + r))) + x) (vp_nar .boolean (o0))) (P) (st) (en) ((0 : Int32)) (nI (n)) (aw) (ay) (aa) (ao)) := hD
      refine lv_iload hx hb dX0_move_146 (lv_at hl 0 rfl) ?_
      exact W.iret (v := ((1 : Int32))) hx hb hr (fun t ht hW => ⟨⟨_, (), rfl, (if_neg hz).symm, ⟨by rw [ht]; exact hP, va_K.moved hW.alike hK, hD⟩⟩, hS.F ht⟩) hS.2.2 dX0_move_148
  · refine lv_iconst (v := (nI (2))) hx hb dX0_move_40 (by decide) ?_
    refine lv_goto (tgt := 45) hx hb dX0_move_41 (by decide) ?_
    refine lv_icmp_le (tgt := 50) hx hb dX0_move_45 (by decide) (fun _ => ?_) (fun h => absurd (nI_le (show x ≤ 2 from Nat.le_of_lt_succ (hx3 (Nat.lt_of_not_le (fun h => h2 (nI_le h (by omega)))))) (by decide)) h)
    refine lv_aload_n hx hb dX0_move_50 rfl (lv_at hl 0 rfl) ?_
    refine lv_iconst (v := ((0 : Int32))) hx hb dX0_move_51 (by decide) ?_
    refine va_put (D := (dC, dI)) (ci := 0) (v := .int ((0 : Int32))) (ty := .boolean) (C := RX0) (T := TX0) (N := 10) hx hb hts in_X0 tyX0 tyX0_ok nmX0 hown hK hP hD hS 0 rfl rfl 4 (by decide) (hts _ q26) (fun _ h9 => h9) rfl (by decide +kernel) rfl rfl (Nat.le_of_ble_eq_true rfl) dX0_move_52 (fun H locs hP hD hS => ?_)
    have hP : va_P (dC, dI) vwCl (nw_xW ad ca (S) (P) (st) (en) ((0 : Int32)) (nI (n)) (aw) (ay) (aa) (ao)) H := hP
    have hD : va_D A (nw_xW ad ca (S) (P) (st) (en) ((0 : Int32)) (nI (n)) (aw) (ay) (aa) (ao)) := hD
    refine lv_iload_n hx hb dX0_move_55 rfl (lv_at hl 2 rfl) ?_
    refine lv_iconst (v := (nI (4))) hx hb dX0_move_56 (by decide) ?_
    refine lv_icmp_lt (tgt := 103) hx hb dX0_move_57 (by decide) (fun _ => ?_) (fun h => absurd (nI_lt hk (by decide)) h)
    refine lv_bipush (v := (nI (100))) hx hb dX0_move_103 (by decide) ?_
    refine lv_iload_n hx hb dX0_move_105 rfl (lv_at hl 2 rfl) ?_
    refine lv_imul hx hb dX0_move_106 ?_
    refine nw_as (y := (nI (100 * k))) (pk_mul (100) (k)) ?_
    refine lv_iconst (v := (nI (4))) hx hb dX0_move_107 (by decide) ?_
    refine lv_iconst (v := (nI (5))) hx hb dX0_move_108 (by decide) ?_
    refine lv_iload_n hx hb dX0_move_109 rfl (lv_at hl 1 rfl) ?_
    refine lv_imul hx hb dX0_move_110 ?_
    refine nw_as (y := (nI (5 * q))) (pk_mul (5) (q)) ?_
    refine lv_iload_n hx hb dX0_move_111 rfl (lv_at hl 3 rfl) ?_
    refine lv_iadd hx hb dX0_move_112 ?_
    refine nw_as (y := (nI ((5 * q) + r))) (nI_add (5 * q) (r)) ?_
    refine lv_imul hx hb dX0_move_113 ?_
    refine nw_as (y := (nI (4 * ((5 * q) + r)))) (pk_mul (4) ((5 * q) + r)) ?_
    refine lv_iadd hx hb dX0_move_114 ?_
    refine nw_as (y := (nI ((100 * k) + (4 * ((5 * q) + r))))) (nI_add (100 * k) (4 * ((5 * q) + r))) ?_
    refine lv_iload hx hb dX0_move_115 (lv_at hl 4 rfl) ?_
    refine lv_iadd hx hb dX0_move_117 ?_
    refine nw_as (y := (nI (((100 * k) + (4 * ((5 * q) + r))) + x))) (nI_add ((100 * k) + (4 * ((5 * q) + r))) (x)) ?_
    refine lv_istore (lv' := [(6, .int (nI (((100 * k) + (4 * ((5 * q) + r))) + x))), (0, .ref (ad 0)), (1, .int (nI (q))), (2, .int (nI (k))), (3, .int (nI (r))), (4, .int (nI (x))), (5, .int (o0))]) hx hb dX0_move_118 hl (by decide) rfl (fun ls hl => ?_)
    refine lv_aload_n hx hb dX0_move_120 rfl (lv_at hl 1 rfl) ?_
    refine va_get (D := (dC, dI)) (ci := 0) (v := .ref (ad 1)) (C := RX0) (T := TX0) (N := 10) hx hb hts in_X0 hown hK hP 0 rfl rfl 0 (by decide) (hts _ q22) (fun _ h9 => h9) rfl dX0_move_121 ?_
    refine lv_iload hx hb dX0_move_124 (lv_at hl 0 rfl) ?_
    refine nw_zald hx hb hK hP 1 0 rfl rfl (j := ((100 * k) + (4 * ((5 * q) + r))) + x) (by omega) (by decide) dX0_move_126 ?_
    refine lv_if_eq (tgt := 134) hx hb dX0_move_127 (by decide) (fun hz => ?_) (fun hz => ?_)
    · refine lv_iconst (v := ((0 : Int32))) hx hb dX0_move_134 (by decide) ?_
      refine lv_istore (lv' := [(7, .int ((0 : Int32))), (6, .int (nI (((100 * k) + (4 * ((5 * q) + r))) + x))), (0, .ref (ad 0)), (1, .int (nI (q))), (2, .int (nI (k))), (3, .int (nI (r))), (4, .int (nI (x))), (5, .int (o0))]) hx hb dX0_move_135 hl (by decide) rfl (fun ls hl => ?_)
      refine lv_aload_n hx hb dX0_move_137 rfl (lv_at hl 2 rfl) ?_
      refine va_get (D := (dC, dI)) (ci := 0) (v := .ref (ad 1)) (C := RX0) (T := TX0) (N := 10) hx hb hts in_X0 hown hK hP 0 rfl rfl 0 (by decide) (hts _ q22) (fun _ h9 => h9) rfl dX0_move_138 ?_
      refine lv_iload hx hb dX0_move_141 (lv_at hl 1 rfl) ?_
      refine lv_iload hx hb dX0_move_143 (lv_at hl 7 rfl) ?_
      refine nw_zast hx hb hK hP hD hS 1 0 rfl rfl (j := ((100 * k) + (4 * ((5 * q) + r))) + x) (by omega) (by decide) dX0_move_145 (fun H locs hP hD hS => ?_)
      have hP : va_P (dC, dI) vwCl (nw_xW ad ca (upd (S) (((100 * k) + (4 * ((5 * q) + r))) + x) (vp_nar .boolean (o0))) (P) (st) (en) ((0 : Int32)) (nI (n)) (aw) (ay) (aa) (ao)) H := hP
      have hD : va_D A (nw_xW ad ca (upd (S) (((100 * k) + (4 * ((5 * q) + r))) + x) (vp_nar .boolean (o0))) (P) (st) (en) ((0 : Int32)) (nI (n)) (aw) (ay) (aa) (ao)) := hD
      refine lv_iload hx hb dX0_move_146 (lv_at hl 0 rfl) ?_
      exact W.iret (v := ((0 : Int32))) hx hb hr (fun t ht hW => ⟨⟨_, (), rfl, (if_pos hz).symm, ⟨by rw [ht]; exact hP, va_K.moved hW.alike hK, hD⟩⟩, hS.F ht⟩) hS.2.2 dX0_move_148
    · refine lv_iconst (v := ((1 : Int32))) hx hb dX0_move_130 (by decide) ?_
      refine lv_goto (tgt := 135) hx hb dX0_move_131 (by decide) ?_
      refine lv_istore (lv' := [(7, .int ((1 : Int32))), (6, .int (nI (((100 * k) + (4 * ((5 * q) + r))) + x))), (0, .ref (ad 0)), (1, .int (nI (q))), (2, .int (nI (k))), (3, .int (nI (r))), (4, .int (nI (x))), (5, .int (o0))]) hx hb dX0_move_135 hl (by decide) rfl (fun ls hl => ?_)
      refine lv_aload_n hx hb dX0_move_137 rfl (lv_at hl 2 rfl) ?_
      refine va_get (D := (dC, dI)) (ci := 0) (v := .ref (ad 1)) (C := RX0) (T := TX0) (N := 10) hx hb hts in_X0 hown hK hP 0 rfl rfl 0 (by decide) (hts _ q22) (fun _ h9 => h9) rfl dX0_move_138 ?_
      refine lv_iload hx hb dX0_move_141 (lv_at hl 1 rfl) ?_
      refine lv_iload hx hb dX0_move_143 (lv_at hl 7 rfl) ?_
      refine nw_zast hx hb hK hP hD hS 1 0 rfl rfl (j := ((100 * k) + (4 * ((5 * q) + r))) + x) (by omega) (by decide) dX0_move_145 (fun H locs hP hD hS => ?_)
      have hP : va_P (dC, dI) vwCl (nw_xW ad ca (upd (S) (((100 * k) + (4 * ((5 * q) + r))) + x) (vp_nar .boolean (o0))) (P) (st) (en) ((0 : Int32)) (nI (n)) (aw) (ay) (aa) (ao)) H := hP
      have hD : va_D A (nw_xW ad ca (upd (S) (((100 * k) + (4 * ((5 * q) + r))) + x) (vp_nar .boolean (o0))) (P) (st) (en) ((0 : Int32)) (nI (n)) (aw) (ay) (aa) (ao)) := hD
      refine lv_iload hx hb dX0_move_146 (lv_at hl 0 rfl) ?_
      exact W.iret (v := ((1 : Int32))) hx hb hr (fun t ht hW => ⟨⟨_, (), rfl, (if_neg hz).symm, ⟨by rw [ht]; exact hP, va_K.moved hW.alike hK, hD⟩⟩, hS.F ht⟩) hS.2.2 dX0_move_148
set_option maxHeartbeats 4000000 in
set_option maxRecDepth 100000 in
/-- state: refused -/
theorem metX0_stateB (l : Launch) (dC : Nat → ClassId) (dI : Nat → Nat → Nat) (ad : Nat → Nat) (ca : Nat → ClassId) (S P : nw_F) (st en kn ln : Int32) (aw ay aa ao : nw_F) (q0 a0 b0 : Int32) (hbad : ¬ (0 ≤ q0 ∧ q0 ≤ 4)) : Met l yX0_state (ws_ yX0_state cX0_state 4 (some .int)) ({ frames := 1, cells := 0, slots := 0, locals := 20 }) (va_Pc [.ref (ad 0), .int (q0), .int (a0), .int (b0)] (nw_XR dC dI (nw_xW ad ca (S) (P) (st) (en) (kn) (ln) (aw) (ay) (aa) (ao)) (nw_xT ca))) (vp_Si (fun r => r = -1)) 0 0 (fun _ => False) := by
  refine Met.ofW (cc := cX0_state) (maxL := 4) (ret := (some .int)) (by decide) rfl ?_
  intro p e s m args below meth c s₁ B hml hv
  obtain ⟨rfl, hP, hK⟩ := hv
  have hx := B.exec
  have hb := B.bytes
  have hr := B.returns
  have hts := atoms_spec (ws := ws_ yX0_state cX0_state 4 (some .int)) B.pre
  have hts : ∀ w ∈ lw_all, w.before _ s = true := fun w h => hts w (List.mem_cons_of_mem _ h)
  have hown : s.vm.findClass RX0 = some m.cls := findClass_of_methodNamed B.named
  have hlocks := B.notSynchronized
  have hl := lv_entry ([.ref (ad 0), .int (q0), .int (a0), .int (b0)]) (n := 4) (Nat.le_of_ble_eq_true rfl)
  rw [lg_entry_eq]
  generalize (lg_sl ([.ref (ad 0), .int (q0), .int (a0), .int (b0)]) ++ List.replicate (4 - (lg_sl ([.ref (ad 0), .int (q0), .int (a0), .int (b0)])).length) Slot.unset).toArray = ls at hl ⊢
  have hl : lv_has ls 4 [(0, .ref (ad 0)), (1, .int (q0)), (2, .int (a0)), (3, .int (b0))] := hl
  refine lv_iload_n hx hb dX0_state_0 rfl (lv_at hl 1 rfl) ?_
  refine vp_callSi (va_Run.run (va_runS (As := [.int (q0)]) (rest := []) ⟨hx, hb, hml, hown, hts⟩ (metX0_isState l (q0)) (va_cwS 1 hts (lw_S q59 q60 q12 q61) rfl rfl rfl (by decide +kernel) ⟨Nat.le_of_ble_eq_true rfl, Nat.le_of_ble_eq_true rfl⟩) ⟨fun a U g mk q => q, fun U hU hW => ⟨rfl, trivial⟩⟩ rfl rfl hl.1 rfl (lv_room (Nat.le_of_ble_eq_true rfl)) dX0_state_1 ⟨Nat.zero_le _, Nat.zero_le _⟩)) (fun s1 hs1 => ?_)
  refine lv_if_ne (tgt := 9) hx hb dX0_state_4 (by decide) (fun h => absurd (hs1.trans (if_neg hbad)) h) (fun _ => ?_)
  refine lv_iconst (v := (-1)) hx hb dX0_state_7 (by decide) ?_
  exact W.iret hx hb hr (fun t ht hW => ⟨_, rfl, rfl, ht⟩) (fun q h => by cases h) dX0_state_8
set_option maxHeartbeats 4000000 in
set_option maxRecDepth 100000 in
/-- state: a state comes to the starts and the ends, or goes -/
theorem metX0_stateG (l : Launch) (dC : Nat → ClassId) (dI : Nat → Nat → Nat) (ad : Nat → Nat) (ca : Nat → ClassId) (S P : nw_F) (st en kn : Int32) (aw ay aa ao : nw_F) (n : Nat) (q : Nat) (hq : q < 5) (a0 b0 : Int32) (sz : Nat) : Met l yX0_state (ws_ yX0_state cX0_state 4 (some .int)) ({ frames := 1, cells := 0, slots := 0, locals := 20 }) (va_Pc [.ref (ad 0), .int (nI (q)), .int (a0), .int (b0)] (fun U => U.heap.size = sz ∧ nw_XB dC dI (fun _ => True) (nw_xW ad ca (S) (P) (st) (en) (kn) (nI (n)) (aw) (ay) (aa) (ao)) (nw_xT ca) U)) (va_Qi (fun (x : Int32) (_ : Unit) => x = 0) (fun (u : Unit) t => nw_XB dC dI (va_A (nw_xW ad ca (S) (P) (st) (en) (kn) (nI (n)) (aw) (ay) (aa) (ao)) sz) (nw_xW ad ca (S) (P) (if a0 = 0 then (st &&& ((1 : Int32) <<< (nI q &&& 31) ^^^ (-1))) else (st ||| (1 : Int32) <<< (nI q &&& 31))) (if b0 = 0 then (en &&& ((1 : Int32) <<< (nI q &&& 31) ^^^ (-1))) else (en ||| (1 : Int32) <<< (nI q &&& 31))) ((0 : Int32)) (nI (n)) (aw) (ay) (aa) (ao)) (nw_xT ca) t) (va_A (nw_xW ad ca (S) (P) (st) (en) (kn) (nI (n)) (aw) (ay) (aa) (ao)) sz)) 0 0 (va_A (nw_xW ad ca (S) (P) (st) (en) (kn) (nI (n)) (aw) (ay) (aa) (ao)) sz) := by
  refine Met.ofW (cc := cX0_state) (maxL := 4) (ret := (some .int)) (by decide) rfl ?_
  intro p e s m args below meth c s₁ B hml hv
  obtain ⟨rfl, hsz, hP, hK, hD0⟩ := hv
  have hx := B.exec
  have hb := B.bytes
  have hr := B.returns
  have hts := atoms_spec (ws := ws_ yX0_state cX0_state 4 (some .int)) B.pre
  have hts : ∀ w ∈ lw_all, w.before _ s = true := fun w h => hts w (List.mem_cons_of_mem _ h)
  have hown : s.vm.findClass RX0 = some m.cls := findClass_of_methodNamed B.named
  have hlocks := B.notSynchronized
  subst hsz
  have hD := hD0.self (sz := s.heap.size)
  generalize hAe : va_A (nw_xW ad ca (S) (P) (st) (en) (kn) (nI (n)) (aw) (ay) (aa) (ao)) s.heap.size = A at hD ⊢
  have hA : ∀ q : Nat, s.heap.size ≤ q → A q := fun q h => by rw [← hAe]; exact Or.inr h
  have hS : va_S A s.heap s.heap [] := va_S.rf
  have hP : va_P (dC, dI) vwCl (nw_xW ad ca (S) (P) (st) (en) (kn) (nI (n)) (aw) (ay) (aa) (ao)) s.heap := hP
  have hl := lv_entry ([.ref (ad 0), .int (nI (q)), .int (a0), .int (b0)]) (n := 4) (Nat.le_of_ble_eq_true rfl)
  rw [lg_entry_eq]
  generalize (lg_sl ([.ref (ad 0), .int (nI (q)), .int (a0), .int (b0)]) ++ List.replicate (4 - (lg_sl ([.ref (ad 0), .int (nI (q)), .int (a0), .int (b0)])).length) Slot.unset).toArray = ls at hl ⊢
  have hl : lv_has ls 4 [(0, .ref (ad 0)), (1, .int (nI (q))), (2, .int (a0)), (3, .int (b0))] := hl
  refine lv_iload_n hx hb dX0_state_0 rfl (lv_at hl 1 rfl) ?_
  refine vp_callSi (va_Run.run (va_runS (As := [.int (nI (q))]) (rest := []) ⟨hx, hb, hml, hown, hts⟩ (metX0_isState l (nI (q))) (va_cwS 1 hts (lw_S q59 q60 q12 q61) rfl rfl rfl (by decide +kernel) ⟨Nat.le_of_ble_eq_true rfl, Nat.le_of_ble_eq_true rfl⟩) ⟨fun a U g mk q => q, fun U hU hW => ⟨rfl, trivial⟩⟩ rfl rfl hl.1 rfl (lv_room (Nat.le_of_ble_eq_true rfl)) dX0_state_1 ⟨Nat.zero_le _, Nat.zero_le _⟩)) (fun r_ hr_ => ?_)
  refine nw_as (y := ((1 : Int32))) (hr_.trans (if_pos (nw_st5 hq))) ?_
  refine lv_if_ne (tgt := 9) hx hb dX0_state_4 (by decide) (fun _ => ?_) (fun h => absurd h (nw_10))
  refine lv_aload_n hx hb dX0_state_9 rfl (lv_at hl 0 rfl) ?_
  refine lv_iconst (v := ((0 : Int32))) hx hb dX0_state_10 (by decide) ?_
  refine va_put (D := (dC, dI)) (ci := 0) (v := .int ((0 : Int32))) (ty := .boolean) (C := RX0) (T := TX0) (N := 10) hx hb hts in_X0 tyX0 tyX0_ok nmX0 hown hK hP hD hS 0 rfl rfl 4 (by decide) (hts _ q26) (fun _ h9 => h9) rfl (by decide +kernel) rfl rfl (Nat.le_of_ble_eq_true rfl) dX0_state_11 (fun H locs hP hD hS => ?_)
  have hP : va_P (dC, dI) vwCl (nw_xW ad ca (S) (P) (st) (en) ((0 : Int32)) (nI (n)) (aw) (ay) (aa) (ao)) H := hP
  have hD : va_D A (nw_xW ad ca (S) (P) (st) (en) ((0 : Int32)) (nI (n)) (aw) (ay) (aa) (ao)) := hD
  refine lv_aload_n hx hb dX0_state_14 rfl (lv_at hl 0 rfl) ?_
  refine lv_iload_n hx hb dX0_state_15 rfl (lv_at hl 2 rfl) ?_
  refine lv_if_eq (tgt := 30) hx hb dX0_state_16 (by decide) (fun h1 => ?_) (fun h1 => ?_)
  · refine lv_aload_n hx hb dX0_state_30 rfl (lv_at hl 0 rfl) ?_
    refine va_get (D := (dC, dI)) (ci := 0) (v := .int (st)) (C := RX0) (T := TX0) (N := 10) hx hb hts in_X0 hown hK hP 0 rfl rfl 2 (by decide) (hts _ q24) (fun _ h9 => h9) rfl dX0_state_31 ?_
    refine lv_iconst (v := ((1 : Int32))) hx hb dX0_state_34 (by decide) ?_
    refine lv_iload_n hx hb dX0_state_35 rfl (lv_at hl 1 rfl) ?_
    refine lv_ishl hx hb dX0_state_36 ?_
    refine lv_iconst (v := ((-1 : Int32))) hx hb dX0_state_37 (by decide) ?_
    refine lv_ixor hx hb dX0_state_38 ?_
    refine lv_iand hx hb dX0_state_39 ?_
    refine nw_as (y := (if a0 = 0 then (st &&& ((1 : Int32) <<< (nI q &&& 31) ^^^ (-1))) else (st ||| (1 : Int32) <<< (nI q &&& 31)))) ((if_pos h1).symm) ?_
    refine va_put (D := (dC, dI)) (ci := 0) (v := .int (if a0 = 0 then (st &&& ((1 : Int32) <<< (nI q &&& 31) ^^^ (-1))) else (st ||| (1 : Int32) <<< (nI q &&& 31)))) (ty := .int) (C := RX0) (T := TX0) (N := 10) hx hb hts in_X0 tyX0 tyX0_ok nmX0 hown hK hP hD hS 0 rfl rfl 2 (by decide) (hts _ q24) (fun _ h9 => h9) rfl (by decide +kernel) rfl rfl (Nat.le_of_ble_eq_true rfl) dX0_state_40 (fun H locs hP hD hS => ?_)
    have hP : va_P (dC, dI) vwCl (nw_xW ad ca (S) (P) (if a0 = 0 then (st &&& ((1 : Int32) <<< (nI q &&& 31) ^^^ (-1))) else (st ||| (1 : Int32) <<< (nI q &&& 31))) (en) ((0 : Int32)) (nI (n)) (aw) (ay) (aa) (ao)) H := hP
    have hD : va_D A (nw_xW ad ca (S) (P) (if a0 = 0 then (st &&& ((1 : Int32) <<< (nI q &&& 31) ^^^ (-1))) else (st ||| (1 : Int32) <<< (nI q &&& 31))) (en) ((0 : Int32)) (nI (n)) (aw) (ay) (aa) (ao)) := hD
    refine lv_aload_n hx hb dX0_state_43 rfl (lv_at hl 0 rfl) ?_
    refine lv_iload_n hx hb dX0_state_44 rfl (lv_at hl 3 rfl) ?_
    refine lv_if_eq (tgt := 59) hx hb dX0_state_45 (by decide) (fun h2 => ?_) (fun h2 => ?_)
    · refine lv_aload_n hx hb dX0_state_59 rfl (lv_at hl 0 rfl) ?_
      refine va_get (D := (dC, dI)) (ci := 0) (v := .int (en)) (C := RX0) (T := TX0) (N := 10) hx hb hts in_X0 hown hK hP 0 rfl rfl 3 (by decide) (hts _ q25) (fun _ h9 => h9) rfl dX0_state_60 ?_
      refine lv_iconst (v := ((1 : Int32))) hx hb dX0_state_63 (by decide) ?_
      refine lv_iload_n hx hb dX0_state_64 rfl (lv_at hl 1 rfl) ?_
      refine lv_ishl hx hb dX0_state_65 ?_
      refine lv_iconst (v := ((-1 : Int32))) hx hb dX0_state_66 (by decide) ?_
      refine lv_ixor hx hb dX0_state_67 ?_
      refine lv_iand hx hb dX0_state_68 ?_
      refine nw_as (y := (if b0 = 0 then (en &&& ((1 : Int32) <<< (nI q &&& 31) ^^^ (-1))) else (en ||| (1 : Int32) <<< (nI q &&& 31)))) ((if_pos h2).symm) ?_
      refine va_put (D := (dC, dI)) (ci := 0) (v := .int (if b0 = 0 then (en &&& ((1 : Int32) <<< (nI q &&& 31) ^^^ (-1))) else (en ||| (1 : Int32) <<< (nI q &&& 31)))) (ty := .int) (C := RX0) (T := TX0) (N := 10) hx hb hts in_X0 tyX0 tyX0_ok nmX0 hown hK hP hD hS 0 rfl rfl 3 (by decide) (hts _ q25) (fun _ h9 => h9) rfl (by decide +kernel) rfl rfl (Nat.le_of_ble_eq_true rfl) dX0_state_69 (fun H locs hP hD hS => ?_)
      have hP : va_P (dC, dI) vwCl (nw_xW ad ca (S) (P) (if a0 = 0 then (st &&& ((1 : Int32) <<< (nI q &&& 31) ^^^ (-1))) else (st ||| (1 : Int32) <<< (nI q &&& 31))) (if b0 = 0 then (en &&& ((1 : Int32) <<< (nI q &&& 31) ^^^ (-1))) else (en ||| (1 : Int32) <<< (nI q &&& 31))) ((0 : Int32)) (nI (n)) (aw) (ay) (aa) (ao)) H := hP
      have hD : va_D A (nw_xW ad ca (S) (P) (if a0 = 0 then (st &&& ((1 : Int32) <<< (nI q &&& 31) ^^^ (-1))) else (st ||| (1 : Int32) <<< (nI q &&& 31))) (if b0 = 0 then (en &&& ((1 : Int32) <<< (nI q &&& 31) ^^^ (-1))) else (en ||| (1 : Int32) <<< (nI q &&& 31))) ((0 : Int32)) (nI (n)) (aw) (ay) (aa) (ao)) := hD
      refine lv_iconst (v := ((0 : Int32))) hx hb dX0_state_72 (by decide) ?_
      exact W.iret (v := ((0 : Int32))) hx hb hr (fun t ht hW => ⟨⟨_, (), rfl, rfl, ⟨by rw [ht]; exact hP, va_K.moved hW.alike hK, hD⟩⟩, hS.F ht⟩) hS.2.2 dX0_state_73
    · refine lv_aload_n hx hb dX0_state_48 rfl (lv_at hl 0 rfl) ?_
      refine va_get (D := (dC, dI)) (ci := 0) (v := .int (en)) (C := RX0) (T := TX0) (N := 10) hx hb hts in_X0 hown hK hP 0 rfl rfl 3 (by decide) (hts _ q25) (fun _ h9 => h9) rfl dX0_state_49 ?_
      refine lv_iconst (v := ((1 : Int32))) hx hb dX0_state_52 (by decide) ?_
      refine lv_iload_n hx hb dX0_state_53 rfl (lv_at hl 1 rfl) ?_
      refine lv_ishl hx hb dX0_state_54 ?_
      refine lv_ior hx hb dX0_state_55 ?_
      refine lv_goto (tgt := 69) hx hb dX0_state_56 (by decide) ?_
      refine nw_as (y := (if b0 = 0 then (en &&& ((1 : Int32) <<< (nI q &&& 31) ^^^ (-1))) else (en ||| (1 : Int32) <<< (nI q &&& 31)))) ((if_neg h2).symm) ?_
      refine va_put (D := (dC, dI)) (ci := 0) (v := .int (if b0 = 0 then (en &&& ((1 : Int32) <<< (nI q &&& 31) ^^^ (-1))) else (en ||| (1 : Int32) <<< (nI q &&& 31)))) (ty := .int) (C := RX0) (T := TX0) (N := 10) hx hb hts in_X0 tyX0 tyX0_ok nmX0 hown hK hP hD hS 0 rfl rfl 3 (by decide) (hts _ q25) (fun _ h9 => h9) rfl (by decide +kernel) rfl rfl (Nat.le_of_ble_eq_true rfl) dX0_state_69 (fun H locs hP hD hS => ?_)
      have hP : va_P (dC, dI) vwCl (nw_xW ad ca (S) (P) (if a0 = 0 then (st &&& ((1 : Int32) <<< (nI q &&& 31) ^^^ (-1))) else (st ||| (1 : Int32) <<< (nI q &&& 31))) (if b0 = 0 then (en &&& ((1 : Int32) <<< (nI q &&& 31) ^^^ (-1))) else (en ||| (1 : Int32) <<< (nI q &&& 31))) ((0 : Int32)) (nI (n)) (aw) (ay) (aa) (ao)) H := hP
      have hD : va_D A (nw_xW ad ca (S) (P) (if a0 = 0 then (st &&& ((1 : Int32) <<< (nI q &&& 31) ^^^ (-1))) else (st ||| (1 : Int32) <<< (nI q &&& 31))) (if b0 = 0 then (en &&& ((1 : Int32) <<< (nI q &&& 31) ^^^ (-1))) else (en ||| (1 : Int32) <<< (nI q &&& 31))) ((0 : Int32)) (nI (n)) (aw) (ay) (aa) (ao)) := hD
      refine lv_iconst (v := ((0 : Int32))) hx hb dX0_state_72 (by decide) ?_
      exact W.iret (v := ((0 : Int32))) hx hb hr (fun t ht hW => ⟨⟨_, (), rfl, rfl, ⟨by rw [ht]; exact hP, va_K.moved hW.alike hK, hD⟩⟩, hS.F ht⟩) hS.2.2 dX0_state_73
  · refine lv_aload_n hx hb dX0_state_19 rfl (lv_at hl 0 rfl) ?_
    refine va_get (D := (dC, dI)) (ci := 0) (v := .int (st)) (C := RX0) (T := TX0) (N := 10) hx hb hts in_X0 hown hK hP 0 rfl rfl 2 (by decide) (hts _ q24) (fun _ h9 => h9) rfl dX0_state_20 ?_
    refine lv_iconst (v := ((1 : Int32))) hx hb dX0_state_23 (by decide) ?_
    refine lv_iload_n hx hb dX0_state_24 rfl (lv_at hl 1 rfl) ?_
    refine lv_ishl hx hb dX0_state_25 ?_
    refine lv_ior hx hb dX0_state_26 ?_
    refine lv_goto (tgt := 40) hx hb dX0_state_27 (by decide) ?_
    refine nw_as (y := (if a0 = 0 then (st &&& ((1 : Int32) <<< (nI q &&& 31) ^^^ (-1))) else (st ||| (1 : Int32) <<< (nI q &&& 31)))) ((if_neg h1).symm) ?_
    refine va_put (D := (dC, dI)) (ci := 0) (v := .int (if a0 = 0 then (st &&& ((1 : Int32) <<< (nI q &&& 31) ^^^ (-1))) else (st ||| (1 : Int32) <<< (nI q &&& 31)))) (ty := .int) (C := RX0) (T := TX0) (N := 10) hx hb hts in_X0 tyX0 tyX0_ok nmX0 hown hK hP hD hS 0 rfl rfl 2 (by decide) (hts _ q24) (fun _ h9 => h9) rfl (by decide +kernel) rfl rfl (Nat.le_of_ble_eq_true rfl) dX0_state_40 (fun H locs hP hD hS => ?_)
    have hP : va_P (dC, dI) vwCl (nw_xW ad ca (S) (P) (if a0 = 0 then (st &&& ((1 : Int32) <<< (nI q &&& 31) ^^^ (-1))) else (st ||| (1 : Int32) <<< (nI q &&& 31))) (en) ((0 : Int32)) (nI (n)) (aw) (ay) (aa) (ao)) H := hP
    have hD : va_D A (nw_xW ad ca (S) (P) (if a0 = 0 then (st &&& ((1 : Int32) <<< (nI q &&& 31) ^^^ (-1))) else (st ||| (1 : Int32) <<< (nI q &&& 31))) (en) ((0 : Int32)) (nI (n)) (aw) (ay) (aa) (ao)) := hD
    refine lv_aload_n hx hb dX0_state_43 rfl (lv_at hl 0 rfl) ?_
    refine lv_iload_n hx hb dX0_state_44 rfl (lv_at hl 3 rfl) ?_
    refine lv_if_eq (tgt := 59) hx hb dX0_state_45 (by decide) (fun h2 => ?_) (fun h2 => ?_)
    · refine lv_aload_n hx hb dX0_state_59 rfl (lv_at hl 0 rfl) ?_
      refine va_get (D := (dC, dI)) (ci := 0) (v := .int (en)) (C := RX0) (T := TX0) (N := 10) hx hb hts in_X0 hown hK hP 0 rfl rfl 3 (by decide) (hts _ q25) (fun _ h9 => h9) rfl dX0_state_60 ?_
      refine lv_iconst (v := ((1 : Int32))) hx hb dX0_state_63 (by decide) ?_
      refine lv_iload_n hx hb dX0_state_64 rfl (lv_at hl 1 rfl) ?_
      refine lv_ishl hx hb dX0_state_65 ?_
      refine lv_iconst (v := ((-1 : Int32))) hx hb dX0_state_66 (by decide) ?_
      refine lv_ixor hx hb dX0_state_67 ?_
      refine lv_iand hx hb dX0_state_68 ?_
      refine nw_as (y := (if b0 = 0 then (en &&& ((1 : Int32) <<< (nI q &&& 31) ^^^ (-1))) else (en ||| (1 : Int32) <<< (nI q &&& 31)))) ((if_pos h2).symm) ?_
      refine va_put (D := (dC, dI)) (ci := 0) (v := .int (if b0 = 0 then (en &&& ((1 : Int32) <<< (nI q &&& 31) ^^^ (-1))) else (en ||| (1 : Int32) <<< (nI q &&& 31)))) (ty := .int) (C := RX0) (T := TX0) (N := 10) hx hb hts in_X0 tyX0 tyX0_ok nmX0 hown hK hP hD hS 0 rfl rfl 3 (by decide) (hts _ q25) (fun _ h9 => h9) rfl (by decide +kernel) rfl rfl (Nat.le_of_ble_eq_true rfl) dX0_state_69 (fun H locs hP hD hS => ?_)
      have hP : va_P (dC, dI) vwCl (nw_xW ad ca (S) (P) (if a0 = 0 then (st &&& ((1 : Int32) <<< (nI q &&& 31) ^^^ (-1))) else (st ||| (1 : Int32) <<< (nI q &&& 31))) (if b0 = 0 then (en &&& ((1 : Int32) <<< (nI q &&& 31) ^^^ (-1))) else (en ||| (1 : Int32) <<< (nI q &&& 31))) ((0 : Int32)) (nI (n)) (aw) (ay) (aa) (ao)) H := hP
      have hD : va_D A (nw_xW ad ca (S) (P) (if a0 = 0 then (st &&& ((1 : Int32) <<< (nI q &&& 31) ^^^ (-1))) else (st ||| (1 : Int32) <<< (nI q &&& 31))) (if b0 = 0 then (en &&& ((1 : Int32) <<< (nI q &&& 31) ^^^ (-1))) else (en ||| (1 : Int32) <<< (nI q &&& 31))) ((0 : Int32)) (nI (n)) (aw) (ay) (aa) (ao)) := hD
      refine lv_iconst (v := ((0 : Int32))) hx hb dX0_state_72 (by decide) ?_
      exact W.iret (v := ((0 : Int32))) hx hb hr (fun t ht hW => ⟨⟨_, (), rfl, rfl, ⟨by rw [ht]; exact hP, va_K.moved hW.alike hK, hD⟩⟩, hS.F ht⟩) hS.2.2 dX0_state_73
    · refine lv_aload_n hx hb dX0_state_48 rfl (lv_at hl 0 rfl) ?_
      refine va_get (D := (dC, dI)) (ci := 0) (v := .int (en)) (C := RX0) (T := TX0) (N := 10) hx hb hts in_X0 hown hK hP 0 rfl rfl 3 (by decide) (hts _ q25) (fun _ h9 => h9) rfl dX0_state_49 ?_
      refine lv_iconst (v := ((1 : Int32))) hx hb dX0_state_52 (by decide) ?_
      refine lv_iload_n hx hb dX0_state_53 rfl (lv_at hl 1 rfl) ?_
      refine lv_ishl hx hb dX0_state_54 ?_
      refine lv_ior hx hb dX0_state_55 ?_
      refine lv_goto (tgt := 69) hx hb dX0_state_56 (by decide) ?_
      refine nw_as (y := (if b0 = 0 then (en &&& ((1 : Int32) <<< (nI q &&& 31) ^^^ (-1))) else (en ||| (1 : Int32) <<< (nI q &&& 31)))) ((if_neg h2).symm) ?_
      refine va_put (D := (dC, dI)) (ci := 0) (v := .int (if b0 = 0 then (en &&& ((1 : Int32) <<< (nI q &&& 31) ^^^ (-1))) else (en ||| (1 : Int32) <<< (nI q &&& 31)))) (ty := .int) (C := RX0) (T := TX0) (N := 10) hx hb hts in_X0 tyX0 tyX0_ok nmX0 hown hK hP hD hS 0 rfl rfl 3 (by decide) (hts _ q25) (fun _ h9 => h9) rfl (by decide +kernel) rfl rfl (Nat.le_of_ble_eq_true rfl) dX0_state_69 (fun H locs hP hD hS => ?_)
      have hP : va_P (dC, dI) vwCl (nw_xW ad ca (S) (P) (if a0 = 0 then (st &&& ((1 : Int32) <<< (nI q &&& 31) ^^^ (-1))) else (st ||| (1 : Int32) <<< (nI q &&& 31))) (if b0 = 0 then (en &&& ((1 : Int32) <<< (nI q &&& 31) ^^^ (-1))) else (en ||| (1 : Int32) <<< (nI q &&& 31))) ((0 : Int32)) (nI (n)) (aw) (ay) (aa) (ao)) H := hP
      have hD : va_D A (nw_xW ad ca (S) (P) (if a0 = 0 then (st &&& ((1 : Int32) <<< (nI q &&& 31) ^^^ (-1))) else (st ||| (1 : Int32) <<< (nI q &&& 31))) (if b0 = 0 then (en &&& ((1 : Int32) <<< (nI q &&& 31) ^^^ (-1))) else (en ||| (1 : Int32) <<< (nI q &&& 31))) ((0 : Int32)) (nI (n)) (aw) (ay) (aa) (ao)) := hD
      refine lv_iconst (v := ((0 : Int32))) hx hb dX0_state_72 (by decide) ?_
      exact W.iret (v := ((0 : Int32))) hx hb hr (fun t ht hW => ⟨⟨_, (), rfl, rfl, ⟨by rw [ht]; exact hP, va_K.moved hW.alike hK, hD⟩⟩, hS.F ht⟩) hS.2.2 dX0_state_73
end
section
/-! PURE 6: small rows for the reference's methods -/
theorem nw_upk {w : Nat → Nat} {n k : Nat} {f : Nat → Int32} (h : ∀ j, j < n → f j = nI (w j)) : ∀ j, j < n + 1 → upd f n (nI k) j = nI (nw_up w n k j) := by
  intro j hj
  by_cases e : j = n
  · rw [e, pk_us, nw_up_s]
  · rw [pk_un e, nw_up_n e]
    exact h j (by omega)
theorem nw_up6 {w : Nat → Nat} {n k : Nat} (h : ∀ j, j < n → w j < 6) (hk : k < 6) : ∀ j, j < n + 1 → nw_up w n k j < 6 := by
  intro j hj
  by_cases e : j = n
  · rw [e, nw_up_s]; exact hk
  · rw [nw_up_n e]; exact h j (by omega)
theorem nw_w26 {w : Nat → Nat} {n : Nat} (h : ∀ j, j < n → w j < 6) (i : Nat) : ∀ j, j < n + i → nw_w2 w n j < 6 := by
  intro j _
  rcases Nat.lt_or_ge j n with g | g
  · rw [nw_w2_lo g]; exact h j g
  · rw [nw_w2_hi g]; decide
theorem nw_fd_found {pr : Nat → Nat → Int32} {s0 : Int32} {w : Nat → Nat} {n : Nat} {en : Int32} {j : Nat} (hj : j < 5) (h0 : nw_fd pr s0 w n en j = -1) (h : ¬ ((nw_rn pr s0 (nw_w2 w n) (n + j)).2.1 &&& en) = 0) : nI j = nw_fd pr s0 w n en 5 := by
  have h1 := nw_fd_n (by rw [h0]; decide) h
  have h2 := nw_fd_keep (x := j) (by omega) h1 (5 - (j + 1))
  rw [show j + 1 + (5 - (j + 1)) = 5 by omega] at h2
  exact h2.symm
end
section
/-! WALKS 8: the reference: match -/
set_option maxHeartbeats 4000000 in
set_option maxRecDepth 100000 in
/-- match(n): the partners of the first n letters -/
theorem metX1_match (l : Launch) (dC : Nat → ClassId) (dI : Nat → Nat → Nat) (ad : Nat → Nat) (ca : Nat → ClassId) (M sa ea : nw_F) (ln : Int32) (aw pt ld wt : nw_F) (w : Nat → Nat) (n : Nat) (hn : n ≤ 20) (hw : ∀ k, k < n → aw k = nI (w k)) (h6 : ∀ k, k < n → w k < 6) (sz : Nat) : Met l yX1_match (ws_ yX1_match cX1_match 4 (some .int)) ({ frames := 0, cells := 0, slots := 0, locals := 0 }) (va_Pc [.ref (ad 0), .int (nI (n))] (fun U => U.heap.size = sz ∧ nw_XB dC dI (fun _ => True) (nw_yW ad ca (M) (sa) (ea) (ln) (aw) (pt) (ld) (wt)) (nw_yT ca) U)) (va_Qi (fun (x : Int32) (u : nw_F × nw_F) => x = nI (nw_sp w n).length ∧ nw_PT w n u.1) (fun (u : nw_F × nw_F) t => nw_XB dC dI (va_A (nw_yW ad ca (M) (sa) (ea) (ln) (aw) (pt) (ld) (wt)) sz) (nw_yW ad ca (M) (sa) (ea) (ln) (aw) (u.1) (ld) (u.2)) (nw_yT ca) t) (va_A (nw_yW ad ca (M) (sa) (ea) (ln) (aw) (pt) (ld) (wt)) sz)) 0 0 (va_A (nw_yW ad ca (M) (sa) (ea) (ln) (aw) (pt) (ld) (wt)) sz) := by
  refine Met.ofW (cc := cX1_match) (maxL := 4) (ret := (some .int)) (by decide) rfl ?_
  intro p e s m args below meth c s₁ B hml hv
  obtain ⟨rfl, hsz, hP, hK, hD0⟩ := hv
  have hx := B.exec
  have hb := B.bytes
  have hr := B.returns
  have hts := atoms_spec (ws := ws_ yX1_match cX1_match 4 (some .int)) B.pre
  have hts : ∀ w ∈ lw_all, w.before _ s = true := fun w h => hts w (List.mem_cons_of_mem _ h)
  have hown : s.vm.findClass RX1 = some m.cls := findClass_of_methodNamed B.named
  have hlocks := B.notSynchronized
  subst hsz
  have hD := hD0.self (sz := s.heap.size)
  generalize hAe : va_A (nw_yW ad ca (M) (sa) (ea) (ln) (aw) (pt) (ld) (wt)) s.heap.size = A at hD ⊢
  have hA : ∀ q : Nat, s.heap.size ≤ q → A q := fun q h => by rw [← hAe]; exact Or.inr h
  have hS : va_S A s.heap s.heap [] := va_S.rf
  have hP : va_P (dC, dI) vwCl (nw_yW ad ca (M) (sa) (ea) (ln) (aw) (pt) (ld) (wt)) s.heap := hP
  have hl := lv_entry ([.ref (ad 0), .int (nI (n))]) (n := 4) (Nat.le_of_ble_eq_true rfl)
  rw [lg_entry_eq]
  generalize (lg_sl ([.ref (ad 0), .int (nI (n))]) ++ List.replicate (4 - (lg_sl ([.ref (ad 0), .int (nI (n))])).length) Slot.unset).toArray = ls at hl ⊢
  have hl : lv_has ls 4 [(0, .ref (ad 0)), (1, .int (nI (n)))] := hl
  refine lv_iconst (v := (nI (0))) hx hb dX1_match_0 (by decide) ?_
  refine lv_istore_n (lv' := [(2, .int (nI (0))), (0, .ref (ad 0)), (1, .int (nI (n)))]) hx hb dX1_match_1 rfl hl (by decide) rfl (fun ls hl => ?_)
  refine lv_iconst (v := (nI (0))) hx hb dX1_match_2 (by decide) ?_
  refine lv_istore_n (lv' := [(3, .int (nI (0))), (2, .int (nI (0))), (0, .ref (ad 0)), (1, .int (nI (n)))]) hx hb dX1_match_3 rfl hl (by decide) rfl (fun ls hl => ?_)
  obtain ⟨H, eH⟩ : ∃ z, z = s.heap := ⟨_, rfl⟩
  have hS0 := hS
  rw [← eH] at hP ⊢
  have hS : va_S A s.heap H [] := by rw [eH]; exact hS0
  refine nw_loopH 4 (fun i H locs ls => ∃ (b1 b2 : nw_F), va_P (dC, dI) vwCl (nw_yW ad ca (M) (sa) (ea) (ln) (aw) (b1) (ld) (b2)) H ∧ va_D A (nw_yW ad ca (M) (sa) (ea) (ln) (aw) (b1) (ld) (b2)) ∧ va_S A s.heap H locs ∧ (nw_MT w (i) b2 b1) ∧ lv_has ls 4 [(0, .ref (ad 0)), (1, .int (nI (n))), (2, .int (nI ((nw_sp w (i)).length))), (3, .int (nI (i)))]) (n) ⟨pt, wt, hP, hD, hS, nw_MT_0 w wt pt, lv_sub hl [2, 3, 1, 0] rfl⟩ (fun i H locs ls hi hI ih => ?_) (fun H locs ls hI => ?_)
  · obtain ⟨b1, b2, hP, hD, hS, hX, hl⟩ := hI
    have hlen : (nw_sp w i).length ≤ i := nw_sp_len i
    have h6i := h6 i hi
    refine lv_iload_n hx hb dX1_match_4 rfl (lv_at hl 3 rfl) ?_
    refine lv_iload_n hx hb dX1_match_5 rfl (lv_at hl 1 rfl) ?_
    refine lv_icmp_ge (tgt := 86) hx hb dX1_match_6 (by decide) (fun h => absurd h (nI_ge hi (by omega))) (fun _ => ?_)
    refine lv_aload_n hx hb dX1_match_9 rfl (lv_at hl 0 rfl) ?_
    refine va_get (D := (dC, dI)) (ci := 1) (v := .ref (ad 5)) (C := RX1) (T := TX1) (N := 8) hx hb hts in_X1 hown hK hP 0 rfl rfl 5 (by decide) (hts _ q141) (fun _ h9 => h9) rfl dX1_match_10 ?_
    refine lv_iload_n hx hb dX1_match_13 rfl (lv_at hl 3 rfl) ?_
    refine lv_iconst (v := (-1)) hx hb dX1_match_14 (by decide) ?_
    refine nw_iast hx hb hK hP hD hS 5 4 rfl rfl (j := i) (by omega) (by decide) dX1_match_15 (fun H locs hP hD hS => ?_)
    have hP : va_P (dC, dI) vwCl (nw_yW ad ca (M) (sa) (ea) (ln) (aw) (upd (b1) (i) (-1)) (ld) (b2)) H := hP
    have hD : va_D A (nw_yW ad ca (M) (sa) (ea) (ln) (aw) (upd (b1) (i) (-1)) (ld) (b2)) := hD
    refine lv_aload_n hx hb dX1_match_16 rfl (lv_at hl 0 rfl) ?_
    refine va_get (D := (dC, dI)) (ci := 1) (v := .ref (ad 4)) (C := RX1) (T := TX1) (N := 8) hx hb hts in_X1 hown hK hP 0 rfl rfl 4 (by decide) (hts _ q140) (fun _ h9 => h9) rfl dX1_match_17 ?_
    refine lv_iload_n hx hb dX1_match_20 rfl (lv_at hl 3 rfl) ?_
    refine nw_iald hx hb hK hP 4 3 rfl rfl (j := i) (by omega) (by decide) dX1_match_21 ?_
    refine nw_as (y := (nI (w i))) (hw i hi) ?_
    refine lv_iconst (v := (nI (1))) hx hb dX1_match_22 (by decide) ?_
    refine lv_icmp_gt (tgt := 39) hx hb dX1_match_23 (by decide) (fun hc => ?_) (fun hc => ?_)
    · have h2 : ¬ w i < 2 := fun h => absurd hc (nI_nlt (by omega) (by decide))
      refine lv_aload_n hx hb dX1_match_39 rfl (lv_at hl 0 rfl) ?_
      refine va_get (D := (dC, dI)) (ci := 1) (v := .ref (ad 4)) (C := RX1) (T := TX1) (N := 8) hx hb hts in_X1 hown hK hP 0 rfl rfl 4 (by decide) (hts _ q140) (fun _ h9 => h9) rfl dX1_match_40 ?_
      refine lv_iload_n hx hb dX1_match_43 rfl (lv_at hl 3 rfl) ?_
      refine nw_iald hx hb hK hP 4 3 rfl rfl (j := i) (by omega) (by decide) dX1_match_44 ?_
      refine nw_as (y := (nI (w i))) (hw i hi) ?_
      refine lv_iconst (v := (nI (3))) hx hb dX1_match_45 (by decide) ?_
      refine lv_icmp_gt (tgt := 80) hx hb dX1_match_46 (by decide) (fun hd => ?_) (fun hd => ?_)
      · have h4 : ¬ w i < 4 := fun h => absurd hd (nI_nlt (by omega) (by decide))
        refine lv_iinc (v := (nI (i + 1))) (lv' := [(3, .int (nI (i + 1))), (0, .ref (ad 0)), (1, .int (nI (n))), (2, .int (nI ((nw_sp w (i)).length)))]) hx hb dX1_match_80 hl (k := 3) rfl (nw_inc (i)) (by decide) rfl (fun ls hl => ?_)
        refine lv_goto (tgt := 4) hx hb dX1_match_83 (by decide) ?_
        rw [show (nw_sp w i).length = (nw_sp w (i + 1)).length by rw [nw_sp_p h4]] at hl
        exact ih _ _ _ ⟨upd (b1) (i) (-1), b2, hP, hD, hS, nw_MT_p hX h4, lv_sub hl [1, 2, 3, 0] rfl⟩
      · have h4 : w i < 4 := Nat.lt_of_not_le (fun h => hd (nI_lt (by omega) (by omega)))
        refine lv_iload_n hx hb dX1_match_49 rfl (lv_at hl 2 rfl) ?_
        refine lv_if_le (tgt := 80) hx hb dX1_match_50 (by decide) (fun he => ?_) (fun he => ?_)
        · have hs : nw_sp w i = [] := by
            rcases Nat.eq_zero_or_pos (nw_sp w i).length with h | h
            · exact List.eq_nil_of_length_eq_zero h
            · exact absurd he (nI_nle h (by omega))
          refine lv_iinc (v := (nI (i + 1))) (lv' := [(3, .int (nI (i + 1))), (0, .ref (ad 0)), (1, .int (nI (n))), (2, .int (nI ((nw_sp w (i)).length)))]) hx hb dX1_match_80 hl (k := 3) rfl (nw_inc (i)) (by decide) rfl (fun ls hl => ?_)
          refine lv_goto (tgt := 4) hx hb dX1_match_83 (by decide) ?_
          rw [show (nw_sp w i).length = (nw_sp w (i + 1)).length by rw [nw_sp_c h2 h4, hs]; rfl] at hl
          exact ih _ _ _ ⟨upd (b1) (i) (-1), b2, hP, hD, hS, nw_MT_n hX h2 h4 hs, lv_sub hl [1, 2, 3, 0] rfl⟩
        · obtain ⟨q, t, hs⟩ : ∃ q t, nw_sp w i = q :: t := by
            cases hs : nw_sp w i with
            | nil => exact absurd (by rw [hs]; decide) he
            | cons q t => exact ⟨q, t, rfl⟩
          have hq := (nw_sp_top hs).1
          have htl : t.length < 20 := by
            rw [hs, List.length_cons] at hlen
            omega
          -- pop
          refine lv_iinc (v := (nI (t.length))) (lv' := [(2, .int (nI (t.length))), (0, .ref (ad 0)), (1, .int (nI (n))), (3, .int (nI (i)))]) hx hb dX1_match_53 hl (k := 2) rfl (by rw [hs]; exact nw_dec t.length) (by decide) rfl (fun ls hl => ?_)
          refine lv_aload_n hx hb dX1_match_56 rfl (lv_at hl 1 rfl) ?_
          refine va_get (D := (dC, dI)) (ci := 1) (v := .ref (ad 5)) (C := RX1) (T := TX1) (N := 8) hx hb hts in_X1 hown hK hP 0 rfl rfl 5 (by decide) (hts _ q141) (fun _ h9 => h9) rfl dX1_match_57 ?_
          refine lv_iload_n hx hb dX1_match_60 rfl (lv_at hl 3 rfl) ?_
          refine lv_aload_n hx hb dX1_match_61 rfl (lv_at hl 1 rfl) ?_
          refine va_get (D := (dC, dI)) (ci := 1) (v := .ref (ad 7)) (C := RX1) (T := TX1) (N := 8) hx hb hts in_X1 hown hK hP 0 rfl rfl 7 (by decide) (hts _ q143) (fun _ h9 => h9) rfl dX1_match_62 ?_
          refine lv_iload_n hx hb dX1_match_65 rfl (lv_at hl 0 rfl) ?_
          refine nw_iald hx hb hK hP 7 6 rfl rfl (j := t.length) (by omega) (by decide) dX1_match_66 ?_
          refine nw_as (y := (nI (q))) ((nw_MT_c hX h2 h4 hs).1) ?_
          refine nw_iast hx hb hK hP hD hS 5 4 rfl rfl (j := i) (by omega) (by decide) dX1_match_67 (fun H locs hP hD hS => ?_)
          have hP : va_P (dC, dI) vwCl (nw_yW ad ca (M) (sa) (ea) (ln) (aw) (upd (upd (b1) (i) (-1)) (i) (nI (q))) (ld) (b2)) H := hP
          have hD : va_D A (nw_yW ad ca (M) (sa) (ea) (ln) (aw) (upd (upd (b1) (i) (-1)) (i) (nI (q))) (ld) (b2)) := hD
          refine lv_aload_n hx hb dX1_match_68 rfl (lv_at hl 1 rfl) ?_
          refine va_get (D := (dC, dI)) (ci := 1) (v := .ref (ad 5)) (C := RX1) (T := TX1) (N := 8) hx hb hts in_X1 hown hK hP 0 rfl rfl 5 (by decide) (hts _ q141) (fun _ h9 => h9) rfl dX1_match_69 ?_
          refine lv_aload_n hx hb dX1_match_72 rfl (lv_at hl 1 rfl) ?_
          refine va_get (D := (dC, dI)) (ci := 1) (v := .ref (ad 7)) (C := RX1) (T := TX1) (N := 8) hx hb hts in_X1 hown hK hP 0 rfl rfl 7 (by decide) (hts _ q143) (fun _ h9 => h9) rfl dX1_match_73 ?_
          refine lv_iload_n hx hb dX1_match_76 rfl (lv_at hl 0 rfl) ?_
          refine nw_iald hx hb hK hP 7 6 rfl rfl (j := t.length) (by omega) (by decide) dX1_match_77 ?_
          refine nw_as (y := (nI (q))) ((nw_MT_c hX h2 h4 hs).1) ?_
          refine lv_iload_n hx hb dX1_match_78 rfl (lv_at hl 3 rfl) ?_
          refine nw_iast hx hb hK hP hD hS 5 4 rfl rfl (j := q) (by omega) (by decide) dX1_match_79 (fun H locs hP hD hS => ?_)
          have hP : va_P (dC, dI) vwCl (nw_yW ad ca (M) (sa) (ea) (ln) (aw) (upd (upd (upd (b1) (i) (-1)) (i) (nI (q))) (q) (nI (i))) (ld) (b2)) H := hP
          have hD : va_D A (nw_yW ad ca (M) (sa) (ea) (ln) (aw) (upd (upd (upd (b1) (i) (-1)) (i) (nI (q))) (q) (nI (i))) (ld) (b2)) := hD
          refine lv_iinc (v := (nI (i + 1))) (lv' := [(3, .int (nI (i + 1))), (2, .int (nI (t.length))), (0, .ref (ad 0)), (1, .int (nI (n)))]) hx hb dX1_match_80 hl (k := 3) rfl (nw_inc (i)) (by decide) rfl (fun ls hl => ?_)
          refine lv_goto (tgt := 4) hx hb dX1_match_83 (by decide) ?_
          rw [show t.length = (nw_sp w (i + 1)).length by rw [nw_sp_c h2 h4, hs]; rfl] at hl
          exact ih _ _ _ ⟨upd (upd (upd (b1) (i) (-1)) (i) (nI (q))) (q) (nI (i)), b2, hP, hD, hS, (nw_MT_c hX h2 h4 hs).2, lv_sub hl [2, 3, 1, 0] rfl⟩
    · have h2 : w i < 2 := Nat.lt_of_not_le (fun h => hc (nI_lt (by omega) (by omega)))
      refine lv_aload_n hx hb dX1_match_26 rfl (lv_at hl 0 rfl) ?_
      refine va_get (D := (dC, dI)) (ci := 1) (v := .ref (ad 7)) (C := RX1) (T := TX1) (N := 8) hx hb hts in_X1 hown hK hP 0 rfl rfl 7 (by decide) (hts _ q143) (fun _ h9 => h9) rfl dX1_match_27 ?_
      refine lv_iload_n hx hb dX1_match_30 rfl (lv_at hl 2 rfl) ?_
      refine lv_iload_n hx hb dX1_match_31 rfl (lv_at hl 3 rfl) ?_
      refine nw_iast hx hb hK hP hD hS 7 6 rfl rfl (j := (nw_sp w (i)).length) (by omega) (by decide) dX1_match_32 (fun H locs hP hD hS => ?_)
      have hP : va_P (dC, dI) vwCl (nw_yW ad ca (M) (sa) (ea) (ln) (aw) (upd (b1) (i) (-1)) (ld) (upd (b2) ((nw_sp w (i)).length) (nI (i)))) H := hP
      have hD : va_D A (nw_yW ad ca (M) (sa) (ea) (ln) (aw) (upd (b1) (i) (-1)) (ld) (upd (b2) ((nw_sp w (i)).length) (nI (i)))) := hD
      refine lv_iinc (v := (nI ((nw_sp w (i)).length + 1))) (lv' := [(2, .int (nI ((nw_sp w (i)).length + 1))), (0, .ref (ad 0)), (1, .int (nI (n))), (3, .int (nI (i)))]) hx hb dX1_match_33 hl (k := 2) rfl (nw_inc ((nw_sp w (i)).length)) (by decide) rfl (fun ls hl => ?_)
      refine lv_goto (tgt := 80) hx hb dX1_match_36 (by decide) ?_
      refine lv_iinc (v := (nI (i + 1))) (lv' := [(3, .int (nI (i + 1))), (2, .int (nI ((nw_sp w (i)).length + 1))), (0, .ref (ad 0)), (1, .int (nI (n)))]) hx hb dX1_match_80 hl (k := 3) rfl (nw_inc (i)) (by decide) rfl (fun ls hl => ?_)
      refine lv_goto (tgt := 4) hx hb dX1_match_83 (by decide) ?_
      rw [show (nw_sp w i).length + 1 = (nw_sp w (i + 1)).length by rw [nw_sp_o h2]; rfl] at hl
      exact ih _ _ _ ⟨upd (b1) (i) (-1), upd (b2) ((nw_sp w (i)).length) (nI (i)), hP, hD, hS, nw_MT_o hX h2, lv_sub hl [2, 3, 1, 0] rfl⟩
  · obtain ⟨b1, b2, hP, hD, hS, hX, hl⟩ := hI
    refine lv_iload_n hx hb dX1_match_4 rfl (lv_at hl 3 rfl) ?_
    refine lv_iload_n hx hb dX1_match_5 rfl (lv_at hl 1 rfl) ?_
    refine lv_icmp_ge (tgt := 86) hx hb dX1_match_6 (by decide) (fun _ => ?_) (fun h => absurd (nI_le (Nat.le_refl n) (by omega)) h)
    refine lv_iload_n hx hb dX1_match_86 rfl (lv_at hl 2 rfl) ?_
    exact W.iret (v := (nI ((nw_sp w (n)).length))) hx hb hr (fun t ht hW => ⟨⟨_, (b1, b2), rfl, ⟨rfl, hX.2⟩, ⟨by rw [ht]; exact hP, va_K.moved hW.alike hK, hD⟩⟩, hS.F ht⟩) hS.2.2 dX1_match_87
end
section
/-! WALKS 9: the reference: liveAfter -/
set_option maxHeartbeats 4000000 in
set_option maxRecDepth 100000 in
/-- liveAfter(n) -/
theorem metX1_liveAfter (l : Launch) (dC : Nat → ClassId) (dI : Nat → Nat → Nat) (ad : Nat → Nat) (ca : Nat → ClassId) (M sa ea : nw_F) (ln : Int32) (aw pt ld wt : nw_F) (w : Nat → Nat) (n : Nat) (hn : n ≤ 20) (hw : ∀ k, k < n → aw k = nI (w k)) (h6 : ∀ k, k < n → w k < 6) (sz : Nat) : Met l yX1_liveAfter (ws_ yX1_liveAfter cX1_liveAfter 6 (some .int)) ({ frames := 3, cells := 0, slots := 0, locals := 79 }) (va_Pc [.ref (ad 0), .int (nI (n))] (fun U => U.heap.size = sz ∧ nw_XB dC dI (fun _ => True) (nw_yW ad ca (M) (sa) (ea) (ln) (aw) (pt) (ld) (wt)) (nw_yT ca) U)) (va_Qi (fun (x : Int32) (u : nw_F × nw_F × nw_F) => x = (nw_rn (nw_pp M) (nw_pl sa 0 5) w n).2.1) (fun (u : nw_F × nw_F × nw_F) t => nw_XB dC dI (va_A (nw_yW ad ca (M) (sa) (ea) (ln) (aw) (pt) (ld) (wt)) sz) (nw_yW ad ca (M) (sa) (ea) (ln) (aw) (u.1) (u.2.1) (u.2.2)) (nw_yT ca) t) (va_A (nw_yW ad ca (M) (sa) (ea) (ln) (aw) (pt) (ld) (wt)) sz)) 0 0 (va_A (nw_yW ad ca (M) (sa) (ea) (ln) (aw) (pt) (ld) (wt)) sz) := by
  refine Met.ofW (cc := cX1_liveAfter) (maxL := 6) (ret := (some .int)) (by decide) rfl ?_
  intro p e s m args below meth c s₁ B hml hv
  obtain ⟨rfl, hsz, hP, hK, hD0⟩ := hv
  have hx := B.exec
  have hb := B.bytes
  have hr := B.returns
  have hts := atoms_spec (ws := ws_ yX1_liveAfter cX1_liveAfter 6 (some .int)) B.pre
  have hts : ∀ w ∈ lw_all, w.before _ s = true := fun w h => hts w (List.mem_cons_of_mem _ h)
  have hown : s.vm.findClass RX1 = some m.cls := findClass_of_methodNamed B.named
  have hlocks := B.notSynchronized
  subst hsz
  have hD := hD0.self (sz := s.heap.size)
  generalize hAe : va_A (nw_yW ad ca (M) (sa) (ea) (ln) (aw) (pt) (ld) (wt)) s.heap.size = A at hD ⊢
  have hA : ∀ q : Nat, s.heap.size ≤ q → A q := fun q h => by rw [← hAe]; exact Or.inr h
  have hS : va_S A s.heap s.heap [] := va_S.rf
  have hP : va_P (dC, dI) vwCl (nw_yW ad ca (M) (sa) (ea) (ln) (aw) (pt) (ld) (wt)) s.heap := hP
  have hl := lv_entry ([.ref (ad 0), .int (nI (n))]) (n := 6) (Nat.le_of_ble_eq_true rfl)
  rw [lg_entry_eq]
  generalize (lg_sl ([.ref (ad 0), .int (nI (n))]) ++ List.replicate (6 - (lg_sl ([.ref (ad 0), .int (nI (n))])).length) Slot.unset).toArray = ls at hl ⊢
  have hl : lv_has ls 6 [(0, .ref (ad 0)), (1, .int (nI (n)))] := hl
  refine lv_aload_n hx hb dX1_liveAfter_0 rfl (lv_at hl 0 rfl) ?_
  refine lv_iload_n hx hb dX1_liveAfter_1 rfl (lv_at hl 1 rfl) ?_
  have hFc := va_free (wc := nw_yW ad ca (M) (sa) (ea) (ln) (aw) (pt) (ld) (wt)) hD hS hA [0, 1, 2, 3, 4, 5, 6, 7] rfl
  refine va_calli (va_runV (As := [.int (nI (n))]) (rest := []) ⟨hx, hb, hml, hown, hts⟩ (metX1_match l dC dI ad ca (M) (sa) (ea) (ln) (aw) (pt) (ld) (wt) w n hn hw h6 s.heap.size) (cwV 1 hts (lw_V q180 q182 qs6 q13 q183) rfl rfl rfl (by decide +kernel) ⟨Nat.le_of_ble_eq_true rfl, Nat.le_of_ble_eq_true rfl⟩) ⟨fun a U g mk q => ⟨q.1, q.2.1, nw_blind q.2.2⟩, va_recv hK hP (ci := 1) (q0 := 0) rfl rfl, fun U hU hW => ⟨rfl, by rw [hU], by rw [hU]; exact hP, va_K.moved hW.alike hK, hD.weaken (fun _ _ _ _ => trivial)⟩⟩ rfl rfl hl.1 rfl (lv_room (Nat.le_of_ble_eq_true rfl)) dX1_liveAfter_2 ⟨Nat.zero_le _, Nat.zero_le _⟩) hS (fun q _ h => hFc q h) hFc (fun c0 u t_ H locs ht_ hvm_ hq hB_ _ _ hS => ?_)
  obtain ⟨p1, t1⟩ := u
  obtain ⟨hP, -, hD⟩ := hB_
  rw [ht_] at hP
  have hD := hD.weaken (fun k q _ h => hFc q.1 h)
  have hP : va_P (dC, dI) vwCl (nw_yW ad ca (M) (sa) (ea) (ln) (aw) (p1) (ld) (t1)) H := hP
  have hD : va_D A (nw_yW ad ca (M) (sa) (ea) (ln) (aw) (p1) (ld) (t1)) := hD
  have hq : nw_PT w n p1 := hq.2
  refine lv_pop hx hb dX1_liveAfter_5 rfl ?_
  refine lv_iconst (v := (nI (0))) hx hb dX1_liveAfter_6 (by decide) ?_
  refine lv_istore_n (lv' := [(2, .int (nI (0))), (0, .ref (ad 0)), (1, .int (nI (n)))]) hx hb dX1_liveAfter_7 rfl hl (by decide) rfl (fun ls hl => ?_)
  refine lv_iconst (v := (nI (0))) hx hb dX1_liveAfter_8 (by decide) ?_
  refine lv_istore_n (lv' := [(3, .int (nI (0))), (2, .int (nI (0))), (0, .ref (ad 0)), (1, .int (nI (n)))]) hx hb dX1_liveAfter_9 rfl hl (by decide) rfl (fun ls hl => ?_)
  refine nw_loop 10 (fun i ls => lv_has ls 6 [(0, .ref (ad 0)), (1, .int (nI (n))), (2, .int (nw_pl sa 0 (i))), (3, .int (nI (i)))]) 5 (lv_sub hl [2, 3, 1, 0] rfl) (fun i ls hi hl ih => ?_) (fun ls hl => ?_)
  · refine lv_iload_n hx hb dX1_liveAfter_10 rfl (lv_at hl 3 rfl) ?_
    refine lv_iconst (v := (nI (5))) hx hb dX1_liveAfter_11 (by decide) ?_
    refine lv_icmp_ge (tgt := 40) hx hb dX1_liveAfter_12 (by decide) (fun h => absurd h (nI_ge hi (by decide))) (fun _ => ?_)
    refine lv_iload_n hx hb dX1_liveAfter_15 rfl (lv_at hl 2 rfl) ?_
    refine lv_aload_n hx hb dX1_liveAfter_16 rfl (lv_at hl 0 rfl) ?_
    refine va_get (D := (dC, dI)) (ci := 1) (v := .ref (ad 2)) (C := RX1) (T := TX1) (N := 8) hx hb hts in_X1 hown hK hP 0 rfl rfl 1 (by decide) (hts _ q137) (fun _ h9 => h9) rfl dX1_liveAfter_17 ?_
    refine lv_iload_n hx hb dX1_liveAfter_20 rfl (lv_at hl 3 rfl) ?_
    refine nw_zald hx hb hK hP 2 1 rfl rfl (j := i) (by omega) (by decide) dX1_liveAfter_21 ?_
    refine lv_if_eq (tgt := 31) hx hb dX1_liveAfter_22 (by decide) (fun hc => ?_) (fun hc => ?_)
    · refine lv_iconst (v := ((0 : Int32))) hx hb dX1_liveAfter_31 (by decide) ?_
      refine lv_ior hx hb dX1_liveAfter_32 ?_
      refine nw_as (y := (nw_pl sa 0 (i + 1))) (nw_pl_z (by rw [Nat.zero_add]; exact hc)) ?_
      refine lv_istore_n (lv' := [(2, .int (nw_pl sa 0 (i + 1))), (0, .ref (ad 0)), (1, .int (nI (n))), (3, .int (nI (i)))]) hx hb dX1_liveAfter_33 rfl hl (by decide) rfl (fun ls hl => ?_)
      refine lv_iinc (v := (nI (i + 1))) (lv' := [(3, .int (nI (i + 1))), (2, .int (nw_pl sa 0 (i + 1))), (0, .ref (ad 0)), (1, .int (nI (n)))]) hx hb dX1_liveAfter_34 hl (k := 3) rfl (nw_inc (i)) (by decide) rfl (fun ls hl => ?_)
      refine lv_goto (tgt := 10) hx hb dX1_liveAfter_37 (by decide) ?_
      exact ih _ (lv_sub hl [2, 3, 1, 0] rfl)
    · refine lv_iconst (v := ((1 : Int32))) hx hb dX1_liveAfter_25 (by decide) ?_
      refine lv_iload_n hx hb dX1_liveAfter_26 rfl (lv_at hl 3 rfl) ?_
      refine lv_ishl hx hb dX1_liveAfter_27 ?_
      refine lv_goto (tgt := 32) hx hb dX1_liveAfter_28 (by decide) ?_
      refine lv_ior hx hb dX1_liveAfter_32 ?_
      refine nw_as (y := (nw_pl sa 0 (i + 1))) (nw_pl_n (by rw [Nat.zero_add]; exact hc)) ?_
      refine lv_istore_n (lv' := [(2, .int (nw_pl sa 0 (i + 1))), (0, .ref (ad 0)), (1, .int (nI (n))), (3, .int (nI (i)))]) hx hb dX1_liveAfter_33 rfl hl (by decide) rfl (fun ls hl => ?_)
      refine lv_iinc (v := (nI (i + 1))) (lv' := [(3, .int (nI (i + 1))), (2, .int (nw_pl sa 0 (i + 1))), (0, .ref (ad 0)), (1, .int (nI (n)))]) hx hb dX1_liveAfter_34 hl (k := 3) rfl (nw_inc (i)) (by decide) rfl (fun ls hl => ?_)
      refine lv_goto (tgt := 10) hx hb dX1_liveAfter_37 (by decide) ?_
      exact ih _ (lv_sub hl [2, 3, 1, 0] rfl)
  · refine lv_iload_n hx hb dX1_liveAfter_10 rfl (lv_at hl 3 rfl) ?_
    refine lv_iconst (v := (nI (5))) hx hb dX1_liveAfter_11 (by decide) ?_
    refine lv_icmp_ge (tgt := 40) hx hb dX1_liveAfter_12 (by decide) (fun _ => ?_) (fun h => absurd (nI_le (Nat.le_refl 5) (by decide)) h)
    refine lv_iconst (v := (nI (0))) hx hb dX1_liveAfter_40 (by decide) ?_
    refine lv_istore_n (lv' := [(3, .int (nI (0))), (0, .ref (ad 0)), (1, .int (nI (n))), (2, .int (nw_pl sa 0 (5)))]) hx hb dX1_liveAfter_41 rfl hl (by decide) rfl (fun ls hl => ?_)
    refine nw_loopH 42 (fun i H locs ls => ∃ (b1 : nw_F), va_P (dC, dI) vwCl (nw_yW ad ca (M) (sa) (ea) (ln) (aw) (p1) (b1) (t1)) H ∧ va_D A (nw_yW ad ca (M) (sa) (ea) (ln) (aw) (p1) (b1) (t1)) ∧ va_S A s.heap H locs ∧ (nw_LD (nw_pp M) (nw_pl sa 0 5) w (i) b1) ∧ lv_has ls 6 [(0, .ref (ad 0)), (1, .int (nI (n))), (2, .int (nw_pl sa 0 5)), (3, .int (nI (i)))]) (n) ⟨ld, hP, hD, hS, nw_LD_0 _ _ _ _, lv_sub hl [1, 2, 3, 0] rfl⟩ (fun i H locs ls hi hI ih => ?_) (fun H locs ls hI => ?_)
    · obtain ⟨b1, hP, hD, hS, hX, hl⟩ := hI
      have h6i := h6 i hi
      refine lv_iload_n hx hb dX1_liveAfter_42 rfl (lv_at hl 3 rfl) ?_
      refine lv_iload_n hx hb dX1_liveAfter_43 rfl (lv_at hl 1 rfl) ?_
      refine lv_icmp_ge (tgt := 99) hx hb dX1_liveAfter_44 (by decide) (fun h => absurd h (nI_ge hi (by omega))) (fun _ => ?_)
      refine lv_aload_n hx hb dX1_liveAfter_47 rfl (lv_at hl 0 rfl) ?_
      refine va_get (D := (dC, dI)) (ci := 1) (v := .ref (ad 4)) (C := RX1) (T := TX1) (N := 8) hx hb hts in_X1 hown hK hP 0 rfl rfl 4 (by decide) (hts _ q140) (fun _ h9 => h9) rfl dX1_liveAfter_48 ?_
      refine lv_iload_n hx hb dX1_liveAfter_51 rfl (lv_at hl 3 rfl) ?_
      refine nw_iald hx hb hK hP 4 3 rfl rfl (j := i) (by omega) (by decide) dX1_liveAfter_52 ?_
      refine nw_as (y := (nI (w i))) (hw i hi) ?_
      refine lv_iconst (v := (nI (2))) hx hb dX1_liveAfter_53 (by decide) ?_
      refine lv_icmp_eq (tgt := 67) hx hb dX1_liveAfter_54 (by decide) (fun e2 => ?_) (fun e2 => ?_)
      · have e2 := (nI_eq (by omega) (by decide)).mp e2
        have h2 : ¬ w i < 2 := by omega
        have h4 : w i < 4 := by omega
        refine lv_aload_n hx hb dX1_liveAfter_67 rfl (lv_at hl 0 rfl) ?_
        refine va_get (D := (dC, dI)) (ci := 1) (v := .ref (ad 5)) (C := RX1) (T := TX1) (N := 8) hx hb hts in_X1 hown hK hP 0 rfl rfl 5 (by decide) (hts _ q141) (fun _ h9 => h9) rfl dX1_liveAfter_68 ?_
        refine lv_iload_n hx hb dX1_liveAfter_71 rfl (lv_at hl 3 rfl) ?_
        refine nw_iald hx hb hK hP 5 4 rfl rfl (j := i) (by omega) (by decide) dX1_liveAfter_72 ?_
        refine lv_if_lt (tgt := 93) hx hb dX1_liveAfter_73 (by decide) (fun hp => ?_) (fun hp => ?_)
        · obtain ⟨-, hs⟩ | ⟨hs, -⟩ := nw_PT_c hq (by omega) hi h2 h4
          rotate_left
          · exact absurd hp hs
          refine lv_iinc (v := (nI (i + 1))) (lv' := [(3, .int (nI (i + 1))), (0, .ref (ad 0)), (1, .int (nI (n))), (2, .int (nw_pl sa 0 5))]) hx hb dX1_liveAfter_93 hl (k := 3) rfl (nw_inc (i)) (by decide) rfl (fun ls hl => ?_)
          refine lv_goto (tgt := 42) hx hb dX1_liveAfter_96 (by decide) ?_
          exact ih _ _ _ ⟨b1, hP, hD, hS, nw_LD_n hX (Or.inr (Or.inr hs)), lv_sub hl [1, 2, 3, 0] rfl⟩
        · obtain ⟨hs, -⟩ | ⟨-, q, hq1, hq2, hq3, hs⟩ := nw_PT_c hq (by omega) hi h2 h4
          · exact absurd hs hp
          refine lv_aload_n hx hb dX1_liveAfter_76 rfl (lv_at hl 0 rfl) ?_
          refine va_get (D := (dC, dI)) (ci := 1) (v := .ref (ad 6)) (C := RX1) (T := TX1) (N := 8) hx hb hts in_X1 hown hK hP 0 rfl rfl 6 (by decide) (hts _ q142) (fun _ h9 => h9) rfl dX1_liveAfter_77 ?_
          refine lv_iload_n hx hb dX1_liveAfter_80 rfl (lv_at hl 3 rfl) ?_
          refine lv_aload_n hx hb dX1_liveAfter_81 rfl (lv_at hl 0 rfl) ?_
          refine lv_aload_n hx hb dX1_liveAfter_82 rfl (lv_at hl 0 rfl) ?_
          refine va_get (D := (dC, dI)) (ci := 1) (v := .ref (ad 5)) (C := RX1) (T := TX1) (N := 8) hx hb hts in_X1 hown hK hP 0 rfl rfl 5 (by decide) (hts _ q141) (fun _ h9 => h9) rfl dX1_liveAfter_83 ?_
          refine lv_iload_n hx hb dX1_liveAfter_86 rfl (lv_at hl 3 rfl) ?_
          refine nw_iald hx hb hK hP 5 4 rfl rfl (j := i) (by omega) (by decide) dX1_liveAfter_87 ?_
          refine nw_as (y := (nI (q))) (hq3) ?_
          refine lv_iload_n hx hb dX1_liveAfter_88 rfl (lv_at hl 3 rfl) ?_
          refine vp_callSi (va_Run.run (va_runV (As := [.int (nI (q)), .int (nI (i))]) (rest := [.int (nI (i)), .ref (ad 6)]) ⟨hx, hb, hml, hown, hts⟩ (metX1_piece l dC dI ad ca (M) (sa) (ea) (ln) (aw) (p1) (b1) (t1) (nw_pl sa 0 5) w n hn hw h6 hq q i hi hs hX) (cwV 2 hts (lw_V q184 q186 qs7 q13 q187) rfl rfl rfl (by decide +kernel) ⟨Nat.le_of_ble_eq_true rfl, Nat.le_of_ble_eq_true rfl⟩) ⟨fun a U g mk q => ⟨q.1, nw_blindR q.2⟩, va_recv hK hP (ci := 1) (q0 := 0) rfl rfl, fun U hU hW => ⟨rfl, by rw [hU]; exact hP, va_K.moved hW.alike hK⟩⟩ rfl rfl hl.1 rfl (lv_room (Nat.le_of_ble_eq_true rfl)) dX1_liveAfter_89 ⟨Nat.zero_le _, Nat.zero_le _⟩)) (fun r_ hr_ => ?_)
          refine nw_as (y := (nw_cl (nw_pp M) (w q) (nw_rn (nw_pp M) (nw_pl sa 0 5) w (i)).1 (w i) 3)) (hr_) ?_
          refine nw_iast hx hb hK hP hD hS 6 5 rfl rfl (j := i) (by omega) (by decide) dX1_liveAfter_92 (fun H locs hP hD hS => ?_)
          have hP : va_P (dC, dI) vwCl (nw_yW ad ca (M) (sa) (ea) (ln) (aw) (p1) (upd (b1) (i) (nw_cl (nw_pp M) (w q) (nw_rn (nw_pp M) (nw_pl sa 0 5) w (i)).1 (w i) 3)) (t1)) H := hP
          have hD : va_D A (nw_yW ad ca (M) (sa) (ea) (ln) (aw) (p1) (upd (b1) (i) (nw_cl (nw_pp M) (w q) (nw_rn (nw_pp M) (nw_pl sa 0 5) w (i)).1 (w i) 3)) (t1)) := hD
          refine lv_iinc (v := (nI (i + 1))) (lv' := [(3, .int (nI (i + 1))), (0, .ref (ad 0)), (1, .int (nI (n))), (2, .int (nw_pl sa 0 5))]) hx hb dX1_liveAfter_93 hl (k := 3) rfl (nw_inc (i)) (by decide) rfl (fun ls hl => ?_)
          refine lv_goto (tgt := 42) hx hb dX1_liveAfter_96 (by decide) ?_
          exact ih _ _ _ ⟨upd (b1) (i) (nw_cl (nw_pp M) (w q) (nw_rn (nw_pp M) (nw_pl sa 0 5) w (i)).1 (w i) 3), hP, hD, hS, nw_LD_c hX hs rfl, lv_sub hl [1, 2, 3, 0] rfl⟩
      · refine lv_aload_n hx hb dX1_liveAfter_57 rfl (lv_at hl 0 rfl) ?_
        refine va_get (D := (dC, dI)) (ci := 1) (v := .ref (ad 4)) (C := RX1) (T := TX1) (N := 8) hx hb hts in_X1 hown hK hP 0 rfl rfl 4 (by decide) (hts _ q140) (fun _ h9 => h9) rfl dX1_liveAfter_58 ?_
        refine lv_iload_n hx hb dX1_liveAfter_61 rfl (lv_at hl 3 rfl) ?_
        refine nw_iald hx hb hK hP 4 3 rfl rfl (j := i) (by omega) (by decide) dX1_liveAfter_62 ?_
        refine nw_as (y := (nI (w i))) (hw i hi) ?_
        refine lv_iconst (v := (nI (3))) hx hb dX1_liveAfter_63 (by decide) ?_
        refine lv_icmp_ne (tgt := 93) hx hb dX1_liveAfter_64 (by decide) (fun e3 => ?_) (fun e3 => ?_)
        · have hno : w i < 2 ∨ ¬ w i < 4 := by
            have e2 : ¬ w i = 2 := fun h => e2 (by rw [h])
            have e3 : ¬ w i = 3 := fun h => e3 (by rw [h])
            omega
          refine lv_iinc (v := (nI (i + 1))) (lv' := [(3, .int (nI (i + 1))), (0, .ref (ad 0)), (1, .int (nI (n))), (2, .int (nw_pl sa 0 5))]) hx hb dX1_liveAfter_93 hl (k := 3) rfl (nw_inc (i)) (by decide) rfl (fun ls hl => ?_)
          refine lv_goto (tgt := 42) hx hb dX1_liveAfter_96 (by decide) ?_
          exact ih _ _ _ ⟨b1, hP, hD, hS, nw_LD_n hX (hno.elim Or.inl (fun h => Or.inr (Or.inl h))), lv_sub hl [1, 2, 3, 0] rfl⟩
        · have e3 := (nI_eq (by omega) (by decide)).mp e3
          have h2 : ¬ w i < 2 := by omega
          have h4 : w i < 4 := by omega
          refine lv_aload_n hx hb dX1_liveAfter_67 rfl (lv_at hl 0 rfl) ?_
          refine va_get (D := (dC, dI)) (ci := 1) (v := .ref (ad 5)) (C := RX1) (T := TX1) (N := 8) hx hb hts in_X1 hown hK hP 0 rfl rfl 5 (by decide) (hts _ q141) (fun _ h9 => h9) rfl dX1_liveAfter_68 ?_
          refine lv_iload_n hx hb dX1_liveAfter_71 rfl (lv_at hl 3 rfl) ?_
          refine nw_iald hx hb hK hP 5 4 rfl rfl (j := i) (by omega) (by decide) dX1_liveAfter_72 ?_
          refine lv_if_lt (tgt := 93) hx hb dX1_liveAfter_73 (by decide) (fun hp => ?_) (fun hp => ?_)
          · obtain ⟨-, hs⟩ | ⟨hs, -⟩ := nw_PT_c hq (by omega) hi h2 h4
            rotate_left
            · exact absurd hp hs
            refine lv_iinc (v := (nI (i + 1))) (lv' := [(3, .int (nI (i + 1))), (0, .ref (ad 0)), (1, .int (nI (n))), (2, .int (nw_pl sa 0 5))]) hx hb dX1_liveAfter_93 hl (k := 3) rfl (nw_inc (i)) (by decide) rfl (fun ls hl => ?_)
            refine lv_goto (tgt := 42) hx hb dX1_liveAfter_96 (by decide) ?_
            exact ih _ _ _ ⟨b1, hP, hD, hS, nw_LD_n hX (Or.inr (Or.inr hs)), lv_sub hl [1, 2, 3, 0] rfl⟩
          · obtain ⟨hs, -⟩ | ⟨-, q, hq1, hq2, hq3, hs⟩ := nw_PT_c hq (by omega) hi h2 h4
            · exact absurd hs hp
            refine lv_aload_n hx hb dX1_liveAfter_76 rfl (lv_at hl 0 rfl) ?_
            refine va_get (D := (dC, dI)) (ci := 1) (v := .ref (ad 6)) (C := RX1) (T := TX1) (N := 8) hx hb hts in_X1 hown hK hP 0 rfl rfl 6 (by decide) (hts _ q142) (fun _ h9 => h9) rfl dX1_liveAfter_77 ?_
            refine lv_iload_n hx hb dX1_liveAfter_80 rfl (lv_at hl 3 rfl) ?_
            refine lv_aload_n hx hb dX1_liveAfter_81 rfl (lv_at hl 0 rfl) ?_
            refine lv_aload_n hx hb dX1_liveAfter_82 rfl (lv_at hl 0 rfl) ?_
            refine va_get (D := (dC, dI)) (ci := 1) (v := .ref (ad 5)) (C := RX1) (T := TX1) (N := 8) hx hb hts in_X1 hown hK hP 0 rfl rfl 5 (by decide) (hts _ q141) (fun _ h9 => h9) rfl dX1_liveAfter_83 ?_
            refine lv_iload_n hx hb dX1_liveAfter_86 rfl (lv_at hl 3 rfl) ?_
            refine nw_iald hx hb hK hP 5 4 rfl rfl (j := i) (by omega) (by decide) dX1_liveAfter_87 ?_
            refine nw_as (y := (nI (q))) (hq3) ?_
            refine lv_iload_n hx hb dX1_liveAfter_88 rfl (lv_at hl 3 rfl) ?_
            refine vp_callSi (va_Run.run (va_runV (As := [.int (nI (q)), .int (nI (i))]) (rest := [.int (nI (i)), .ref (ad 6)]) ⟨hx, hb, hml, hown, hts⟩ (metX1_piece l dC dI ad ca (M) (sa) (ea) (ln) (aw) (p1) (b1) (t1) (nw_pl sa 0 5) w n hn hw h6 hq q i hi hs hX) (cwV 2 hts (lw_V q184 q186 qs7 q13 q187) rfl rfl rfl (by decide +kernel) ⟨Nat.le_of_ble_eq_true rfl, Nat.le_of_ble_eq_true rfl⟩) ⟨fun a U g mk q => ⟨q.1, nw_blindR q.2⟩, va_recv hK hP (ci := 1) (q0 := 0) rfl rfl, fun U hU hW => ⟨rfl, by rw [hU]; exact hP, va_K.moved hW.alike hK⟩⟩ rfl rfl hl.1 rfl (lv_room (Nat.le_of_ble_eq_true rfl)) dX1_liveAfter_89 ⟨Nat.zero_le _, Nat.zero_le _⟩)) (fun r_ hr_ => ?_)
            refine nw_as (y := (nw_cl (nw_pp M) (w q) (nw_rn (nw_pp M) (nw_pl sa 0 5) w (i)).1 (w i) 3)) (hr_) ?_
            refine nw_iast hx hb hK hP hD hS 6 5 rfl rfl (j := i) (by omega) (by decide) dX1_liveAfter_92 (fun H locs hP hD hS => ?_)
            have hP : va_P (dC, dI) vwCl (nw_yW ad ca (M) (sa) (ea) (ln) (aw) (p1) (upd (b1) (i) (nw_cl (nw_pp M) (w q) (nw_rn (nw_pp M) (nw_pl sa 0 5) w (i)).1 (w i) 3)) (t1)) H := hP
            have hD : va_D A (nw_yW ad ca (M) (sa) (ea) (ln) (aw) (p1) (upd (b1) (i) (nw_cl (nw_pp M) (w q) (nw_rn (nw_pp M) (nw_pl sa 0 5) w (i)).1 (w i) 3)) (t1)) := hD
            refine lv_iinc (v := (nI (i + 1))) (lv' := [(3, .int (nI (i + 1))), (0, .ref (ad 0)), (1, .int (nI (n))), (2, .int (nw_pl sa 0 5))]) hx hb dX1_liveAfter_93 hl (k := 3) rfl (nw_inc (i)) (by decide) rfl (fun ls hl => ?_)
            refine lv_goto (tgt := 42) hx hb dX1_liveAfter_96 (by decide) ?_
            exact ih _ _ _ ⟨upd (b1) (i) (nw_cl (nw_pp M) (w q) (nw_rn (nw_pp M) (nw_pl sa 0 5) w (i)).1 (w i) 3), hP, hD, hS, nw_LD_c hX hs rfl, lv_sub hl [1, 2, 3, 0] rfl⟩
    · obtain ⟨b1, hP, hD, hS, hX, hl⟩ := hI
      refine lv_iload_n hx hb dX1_liveAfter_42 rfl (lv_at hl 3 rfl) ?_
      refine lv_iload_n hx hb dX1_liveAfter_43 rfl (lv_at hl 1 rfl) ?_
      refine lv_icmp_ge (tgt := 99) hx hb dX1_liveAfter_44 (by decide) (fun _ => ?_) (fun h => absurd (nI_le (Nat.le_refl n) (by omega)) h)
      refine lv_iconst (v := (nI (0))) hx hb dX1_liveAfter_99 (by decide) ?_
      refine lv_istore_n (lv' := [(3, .int (nI (0))), (0, .ref (ad 0)), (1, .int (nI (n))), (2, .int (nw_pl sa 0 5))]) hx hb dX1_liveAfter_100 rfl hl (by decide) rfl (fun ls hl => ?_)
      have hLD := hX
      refine nw_leap 101 (fun i ls => (nw_TL w n (i)) ∧ lv_has ls 6 [(0, .ref (ad 0)), (1, .int (nI (n))), (2, .int ((nw_rn (nw_pp M) (nw_pl sa 0 5) w (i)).2.1)), (3, .int (nI (i)))]) (n) (i0 := 0) (⟨fun x h => absurd h List.not_mem_nil, lv_sub hl [1, 2, 3, 0] rfl⟩) (Nat.zero_le n) (fun i ls hi hI ih => ?_) (fun ls hI => ?_)
      · obtain ⟨hX, hl⟩ := hI
        have h6i := h6 i hi
        refine lv_iload_n hx hb dX1_liveAfter_101 rfl (lv_at hl 3 rfl) ?_
        refine lv_iload_n hx hb dX1_liveAfter_102 rfl (lv_at hl 1 rfl) ?_
        refine lv_icmp_ge (tgt := 213) hx hb dX1_liveAfter_103 (by decide) (fun h => absurd h (nI_ge hi (by omega))) (fun _ => ?_)
        refine lv_aload_n hx hb dX1_liveAfter_106 rfl (lv_at hl 0 rfl) ?_
        refine va_get (D := (dC, dI)) (ci := 1) (v := .ref (ad 4)) (C := RX1) (T := TX1) (N := 8) hx hb hts in_X1 hown hK hP 0 rfl rfl 4 (by decide) (hts _ q140) (fun _ h9 => h9) rfl dX1_liveAfter_107 ?_
        refine lv_iload_n hx hb dX1_liveAfter_110 rfl (lv_at hl 3 rfl) ?_
        refine nw_iald hx hb hK hP 4 3 rfl rfl (j := i) (by omega) (by decide) dX1_liveAfter_111 ?_
        refine nw_as (y := (nI (w i))) (hw i hi) ?_
        refine lv_istore (lv' := [(4, .int (nI (w i))), (0, .ref (ad 0)), (1, .int (nI (n))), (2, .int ((nw_rn (nw_pp M) (nw_pl sa 0 5) w (i)).2.1)), (3, .int (nI (i)))]) hx hb dX1_liveAfter_112 hl (by decide) rfl (fun ls hl => ?_)
        refine lv_iload hx hb dX1_liveAfter_114 (lv_at hl 0 rfl) ?_
        refine lv_iconst (v := (nI (4))) hx hb dX1_liveAfter_116 (by decide) ?_
        refine lv_icmp_lt (tgt := 130) hx hb dX1_liveAfter_117 (by decide) (fun hc => ?_) (fun hc => ?_)
        · have h4 : w i < 4 := (nI_ltI (by omega) (by decide)).mp hc
          refine lv_aload_n hx hb dX1_liveAfter_130 rfl (lv_at hl 1 rfl) ?_
          refine lv_iload hx hb dX1_liveAfter_131 (lv_at hl 0 rfl) ?_
          refine lv_iconst (v := (nI (3))) hx hb dX1_liveAfter_133 (by decide) ?_
          refine vp_callSi (va_Run.run (va_runV (As := [.int (nI (w i)), .int (nI (3))]) (rest := []) ⟨hx, hb, hml, hown, hts⟩ (metX1_pairs l dC dI ad ca (M) (sa) (ea) (ln) (aw) (p1) (b1) (t1) (w i) (h6i) (3) (by decide)) (cwV 2 hts (lw_V q193 q195 qs9 q13 q196) rfl rfl rfl (by decide +kernel) ⟨Nat.le_of_ble_eq_true rfl, Nat.le_of_ble_eq_true rfl⟩) ⟨fun a U g mk q => ⟨q.1, nw_blindR q.2⟩, va_recv hK hP (ci := 1) (q0 := 0) rfl rfl, fun U hU hW => ⟨rfl, by rw [hU]; exact hP, va_K.moved hW.alike hK⟩⟩ rfl rfl hl.1 rfl (lv_room (Nat.le_of_ble_eq_true rfl)) dX1_liveAfter_134 ⟨Nat.zero_le _, Nat.zero_le _⟩)) (fun r_ hr_ => ?_)
          refine nw_as (y := (nw_pp M (w i) (3))) (hr_) ?_
          refine lv_istore (lv' := [(5, .int (nw_pp M (w i) (3))), (4, .int (nI (w i))), (0, .ref (ad 0)), (1, .int (nI (n))), (2, .int ((nw_rn (nw_pp M) (nw_pl sa 0 5) w (i)).2.1)), (3, .int (nI (i)))]) hx hb dX1_liveAfter_137 hl (by decide) rfl (fun ls hl => ?_)
          refine lv_iload hx hb dX1_liveAfter_139 (lv_at hl 1 rfl) ?_
          refine lv_iconst (v := (nI (1))) hx hb dX1_liveAfter_141 (by decide) ?_
          refine lv_icmp_gt (tgt := 170) hx hb dX1_liveAfter_142 (by decide) (fun hd => ?_) (fun hd => ?_)
          · have h2 : ¬ w i < 2 := fun h => absurd hd (nI_nlt (by omega) (by decide))
            refine lv_iload hx hb dX1_liveAfter_170 (lv_at hl 1 rfl) ?_
            refine lv_iconst (v := (nI (1))) hx hb dX1_liveAfter_172 (by decide) ?_
            refine lv_icmp_gt (tgt := 200) hx hb dX1_liveAfter_173 (by decide) (fun _ => ?_) (fun h => absurd (nI_lt (by omega) (by omega)) h)
            refine lv_iload_n hx hb dX1_liveAfter_200 rfl (lv_at hl 4 rfl) ?_
            refine lv_iload hx hb dX1_liveAfter_201 (lv_at hl 0 rfl) ?_
            refine vp_callSi (va_Run.run (va_runS (As := [.int ((nw_rn (nw_pp M) (nw_pl sa 0 5) w (i)).2.1), .int (nw_pp M (w i) (3))]) (rest := []) ⟨hx, hb, hml, hown, hts⟩ (metX1_image l ((nw_rn (nw_pp M) (nw_pl sa 0 5) w (i)).2.1) (nw_pp M (w i) (3))) (va_cwS 2 hts (lw_S q200 q201 q13 q202) rfl rfl rfl (by decide +kernel) ⟨Nat.le_of_ble_eq_true rfl, Nat.le_of_ble_eq_true rfl⟩) ⟨fun a U g mk q => q, fun U hU hW => ⟨rfl, trivial⟩⟩ rfl rfl hl.1 rfl (lv_room (Nat.le_of_ble_eq_true rfl)) dX1_liveAfter_203 ⟨Nat.zero_le _, Nat.zero_le _⟩)) (fun r_ hr_ => ?_)
            refine nw_as (y := (nw_ld ((nw_rn (nw_pp M) (nw_pl sa 0 5) w (i)).2.1) (nw_pp M (w i) (3)) 5)) (hr_) ?_
            refine nw_as (y := ((nw_rn (nw_pp M) (nw_pl sa 0 5) w (i + 1)).2.1)) (by rw [nw_rn_c0 h2 h4 (nw_rn_nil (nw_TL_c hX hi h2 h4))]) ?_
            refine lv_istore_n (lv' := [(2, .int ((nw_rn (nw_pp M) (nw_pl sa 0 5) w (i + 1)).2.1)), (5, .int (nw_pp M (w i) (3))), (4, .int (nI (w i))), (0, .ref (ad 0)), (1, .int (nI (n))), (3, .int (nI (i)))]) hx hb dX1_liveAfter_206 rfl hl (by decide) rfl (fun ls hl => ?_)
            refine lv_iinc (v := (nI (i + 1))) (lv' := [(3, .int (nI (i + 1))), (2, .int ((nw_rn (nw_pp M) (nw_pl sa 0 5) w (i + 1)).2.1)), (5, .int (nw_pp M (w i) (3))), (4, .int (nI (w i))), (0, .ref (ad 0)), (1, .int (nI (n)))]) hx hb dX1_liveAfter_207 hl (k := 5) rfl (nw_inc (i)) (by decide) rfl (fun ls hl => ?_)
            refine lv_goto (tgt := 101) hx hb dX1_liveAfter_210 (by decide) ?_
            exact ih (i + 1) _ (by omega) (by omega) ⟨nw_TL_cs hX hi h2 h4, lv_sub hl [4, 5, 1, 0] rfl⟩
          · have h2 : w i < 2 := Nat.lt_of_not_le (fun h => hd (nI_lt (by omega) (by omega)))
            refine lv_aload_n hx hb dX1_liveAfter_145 rfl (lv_at hl 2 rfl) ?_
            refine lv_iload hx hb dX1_liveAfter_146 (lv_at hl 1 rfl) ?_
            refine lv_iconst (v := (nI (0))) hx hb dX1_liveAfter_148 (by decide) ?_
            refine vp_callSi (va_Run.run (va_runV (As := [.int (nI (w i)), .int (nI (0))]) (rest := []) ⟨hx, hb, hml, hown, hts⟩ (metX1_pairs l dC dI ad ca (M) (sa) (ea) (ln) (aw) (p1) (b1) (t1) (w i) (h6i) (0) (by decide)) (cwV 2 hts (lw_V q193 q195 qs9 q13 q196) rfl rfl rfl (by decide +kernel) ⟨Nat.le_of_ble_eq_true rfl, Nat.le_of_ble_eq_true rfl⟩) ⟨fun a U g mk q => ⟨q.1, nw_blindR q.2⟩, va_recv hK hP (ci := 1) (q0 := 0) rfl rfl, fun U hU hW => ⟨rfl, by rw [hU]; exact hP, va_K.moved hW.alike hK⟩⟩ rfl rfl hl.1 rfl (lv_room (Nat.le_of_ble_eq_true rfl)) dX1_liveAfter_149 ⟨Nat.zero_le _, Nat.zero_le _⟩)) (fun r_ hr_ => ?_)
            refine nw_as (y := (nw_pp M (w i) (0))) (hr_) ?_
            refine lv_aload_n hx hb dX1_liveAfter_152 rfl (lv_at hl 2 rfl) ?_
            refine lv_iload hx hb dX1_liveAfter_153 (lv_at hl 1 rfl) ?_
            refine lv_iconst (v := (nI (1))) hx hb dX1_liveAfter_155 (by decide) ?_
            refine vp_callSi (va_Run.run (va_runV (As := [.int (nI (w i)), .int (nI (1))]) (rest := [.int (nw_pp M (w i) (0))]) ⟨hx, hb, hml, hown, hts⟩ (metX1_pairs l dC dI ad ca (M) (sa) (ea) (ln) (aw) (p1) (b1) (t1) (w i) (h6i) (1) (by decide)) (cwV 2 hts (lw_V q193 q195 qs9 q13 q196) rfl rfl rfl (by decide +kernel) ⟨Nat.le_of_ble_eq_true rfl, Nat.le_of_ble_eq_true rfl⟩) ⟨fun a U g mk q => ⟨q.1, nw_blindR q.2⟩, va_recv hK hP (ci := 1) (q0 := 0) rfl rfl, fun U hU hW => ⟨rfl, by rw [hU]; exact hP, va_K.moved hW.alike hK⟩⟩ rfl rfl hl.1 rfl (lv_room (Nat.le_of_ble_eq_true rfl)) dX1_liveAfter_156 ⟨Nat.zero_le _, Nat.zero_le _⟩)) (fun r_ hr_ => ?_)
            refine nw_as (y := (nw_pp M (w i) (1))) (hr_) ?_
            refine lv_ior hx hb dX1_liveAfter_159 ?_
            refine lv_aload_n hx hb dX1_liveAfter_160 rfl (lv_at hl 2 rfl) ?_
            refine lv_iload hx hb dX1_liveAfter_161 (lv_at hl 1 rfl) ?_
            refine lv_iconst (v := (nI (2))) hx hb dX1_liveAfter_163 (by decide) ?_
            refine vp_callSi (va_Run.run (va_runV (As := [.int (nI (w i)), .int (nI (2))]) (rest := [.int ((nw_pp M (w i) (0)) ||| (nw_pp M (w i) (1)))]) ⟨hx, hb, hml, hown, hts⟩ (metX1_pairs l dC dI ad ca (M) (sa) (ea) (ln) (aw) (p1) (b1) (t1) (w i) (h6i) (2) (by decide)) (cwV 2 hts (lw_V q193 q195 qs9 q13 q196) rfl rfl rfl (by decide +kernel) ⟨Nat.le_of_ble_eq_true rfl, Nat.le_of_ble_eq_true rfl⟩) ⟨fun a U g mk q => ⟨q.1, nw_blindR q.2⟩, va_recv hK hP (ci := 1) (q0 := 0) rfl rfl, fun U hU hW => ⟨rfl, by rw [hU]; exact hP, va_K.moved hW.alike hK⟩⟩ rfl rfl hl.1 rfl (lv_room (Nat.le_of_ble_eq_true rfl)) dX1_liveAfter_164 ⟨Nat.zero_le _, Nat.zero_le _⟩)) (fun r_ hr_ => ?_)
            refine nw_as (y := (nw_pp M (w i) (2))) (hr_) ?_
            refine lv_ior hx hb dX1_liveAfter_167 ?_
            refine nw_as (y := (nw_o3 (nw_pp M) (w i))) (rfl) ?_
            refine lv_istore (lv' := [(5, .int (nw_o3 (nw_pp M) (w i))), (4, .int (nI (w i))), (0, .ref (ad 0)), (1, .int (nI (n))), (2, .int ((nw_rn (nw_pp M) (nw_pl sa 0 5) w (i)).2.1)), (3, .int (nI (i)))]) hx hb dX1_liveAfter_168 hl (by decide) rfl (fun ls hl => ?_)
            refine lv_iload hx hb dX1_liveAfter_170 (lv_at hl 1 rfl) ?_
            refine lv_iconst (v := (nI (1))) hx hb dX1_liveAfter_172 (by decide) ?_
            refine lv_icmp_gt (tgt := 200) hx hb dX1_liveAfter_173 (by decide) (fun h => absurd h (nI_nlt (by omega) (by decide))) (fun _ => ?_)
            refine lv_aload_n hx hb dX1_liveAfter_176 rfl (lv_at hl 2 rfl) ?_
            refine va_get (D := (dC, dI)) (ci := 1) (v := .ref (ad 5)) (C := RX1) (T := TX1) (N := 8) hx hb hts in_X1 hown hK hP 0 rfl rfl 5 (by decide) (hts _ q141) (fun _ h9 => h9) rfl dX1_liveAfter_177 ?_
            refine lv_iload_n hx hb dX1_liveAfter_180 rfl (lv_at hl 5 rfl) ?_
            refine nw_iald hx hb hK hP 5 4 rfl rfl (j := i) (by omega) (by decide) dX1_liveAfter_181 ?_
            refine lv_if_lt (tgt := 200) hx hb dX1_liveAfter_182 (by decide) (fun hp => ?_) (fun hp => ?_)
            · obtain ⟨-, hm⟩ | ⟨hm, -⟩ := nw_PT_o hq (by omega) hi h2
              rotate_left
              · exact absurd hp hm
              refine lv_iload_n hx hb dX1_liveAfter_200 rfl (lv_at hl 4 rfl) ?_
              refine lv_iload hx hb dX1_liveAfter_201 (lv_at hl 0 rfl) ?_
              refine vp_callSi (va_Run.run (va_runS (As := [.int ((nw_rn (nw_pp M) (nw_pl sa 0 5) w (i)).2.1), .int (nw_o3 (nw_pp M) (w i))]) (rest := []) ⟨hx, hb, hml, hown, hts⟩ (metX1_image l ((nw_rn (nw_pp M) (nw_pl sa 0 5) w (i)).2.1) (nw_o3 (nw_pp M) (w i))) (va_cwS 2 hts (lw_S q200 q201 q13 q202) rfl rfl rfl (by decide +kernel) ⟨Nat.le_of_ble_eq_true rfl, Nat.le_of_ble_eq_true rfl⟩) ⟨fun a U g mk q => q, fun U hU hW => ⟨rfl, trivial⟩⟩ rfl rfl hl.1 rfl (lv_room (Nat.le_of_ble_eq_true rfl)) dX1_liveAfter_203 ⟨Nat.zero_le _, Nat.zero_le _⟩)) (fun r_ hr_ => ?_)
              refine nw_as (y := (nw_ld ((nw_rn (nw_pp M) (nw_pl sa 0 5) w (i)).2.1) (nw_o3 (nw_pp M) (w i)) 5)) (hr_) ?_
              refine nw_as (y := ((nw_rn (nw_pp M) (nw_pl sa 0 5) w (i + 1)).2.1)) (by rw [nw_rn_o h2]) ?_
              refine lv_istore_n (lv' := [(2, .int ((nw_rn (nw_pp M) (nw_pl sa 0 5) w (i + 1)).2.1)), (5, .int (nw_o3 (nw_pp M) (w i))), (4, .int (nI (w i))), (0, .ref (ad 0)), (1, .int (nI (n))), (3, .int (nI (i)))]) hx hb dX1_liveAfter_206 rfl hl (by decide) rfl (fun ls hl => ?_)
              refine lv_iinc (v := (nI (i + 1))) (lv' := [(3, .int (nI (i + 1))), (2, .int ((nw_rn (nw_pp M) (nw_pl sa 0 5) w (i + 1)).2.1)), (5, .int (nw_o3 (nw_pp M) (w i))), (4, .int (nI (w i))), (0, .ref (ad 0)), (1, .int (nI (n)))]) hx hb dX1_liveAfter_207 hl (k := 5) rfl (nw_inc (i)) (by decide) rfl (fun ls hl => ?_)
              refine lv_goto (tgt := 101) hx hb dX1_liveAfter_210 (by decide) ?_
              exact ih (i + 1) _ (by omega) (by omega) ⟨nw_TL_os hX h2 hm, lv_sub hl [4, 5, 1, 0] rfl⟩
            · obtain ⟨hm, -⟩ | ⟨-, r, r1, r2, r0, r3, r4, r5⟩ := nw_PT_o hq (by omega) hi h2
              · exact absurd hm hp
              refine lv_aload_n hx hb dX1_liveAfter_185 rfl (lv_at hl 2 rfl) ?_
              refine va_get (D := (dC, dI)) (ci := 1) (v := .ref (ad 5)) (C := RX1) (T := TX1) (N := 8) hx hb hts in_X1 hown hK hP 0 rfl rfl 5 (by decide) (hts _ q141) (fun _ h9 => h9) rfl dX1_liveAfter_186 ?_
              refine lv_iload_n hx hb dX1_liveAfter_189 rfl (lv_at hl 5 rfl) ?_
              refine nw_iald hx hb hK hP 5 4 rfl rfl (j := i) (by omega) (by decide) dX1_liveAfter_190 ?_
              refine nw_as (y := (nI (r))) (r0) ?_
              refine lv_istore_n (lv' := [(3, .int (nI (r))), (5, .int (nw_o3 (nw_pp M) (w i))), (4, .int (nI (w i))), (0, .ref (ad 0)), (1, .int (nI (n))), (2, .int ((nw_rn (nw_pp M) (nw_pl sa 0 5) w (i)).2.1))]) hx hb dX1_liveAfter_191 rfl hl (by decide) rfl (fun ls hl => ?_)
              refine lv_aload_n hx hb dX1_liveAfter_192 rfl (lv_at hl 3 rfl) ?_
              refine va_get (D := (dC, dI)) (ci := 1) (v := .ref (ad 6)) (C := RX1) (T := TX1) (N := 8) hx hb hts in_X1 hown hK hP 0 rfl rfl 6 (by decide) (hts _ q142) (fun _ h9 => h9) rfl dX1_liveAfter_193 ?_
              refine lv_iload_n hx hb dX1_liveAfter_196 rfl (lv_at hl 0 rfl) ?_
              refine nw_iald hx hb hK hP 6 5 rfl rfl (j := r) (by omega) (by decide) dX1_liveAfter_197 ?_
              refine nw_as (y := (nw_cl (nw_pp M) (w i) (nw_rn (nw_pp M) (nw_pl sa 0 5) w (r)).1 (w r) 3)) (hLD r i _ r2 r4 r5 r3) ?_
              refine lv_istore (lv' := [(5, .int (nw_cl (nw_pp M) (w i) (nw_rn (nw_pp M) (nw_pl sa 0 5) w (r)).1 (w r) 3)), (3, .int (nI (r))), (4, .int (nI (w i))), (0, .ref (ad 0)), (1, .int (nI (n))), (2, .int ((nw_rn (nw_pp M) (nw_pl sa 0 5) w (i)).2.1))]) hx hb dX1_liveAfter_198 hl (by decide) rfl (fun ls hl => ?_)
              refine lv_iload_n hx hb dX1_liveAfter_200 rfl (lv_at hl 5 rfl) ?_
              refine lv_iload hx hb dX1_liveAfter_201 (lv_at hl 0 rfl) ?_
              refine vp_callSi (va_Run.run (va_runS (As := [.int ((nw_rn (nw_pp M) (nw_pl sa 0 5) w (i)).2.1), .int (nw_cl (nw_pp M) (w i) (nw_rn (nw_pp M) (nw_pl sa 0 5) w (r)).1 (w r) 3)]) (rest := []) ⟨hx, hb, hml, hown, hts⟩ (metX1_image l ((nw_rn (nw_pp M) (nw_pl sa 0 5) w (i)).2.1) (nw_cl (nw_pp M) (w i) (nw_rn (nw_pp M) (nw_pl sa 0 5) w (r)).1 (w r) 3)) (va_cwS 2 hts (lw_S q200 q201 q13 q202) rfl rfl rfl (by decide +kernel) ⟨Nat.le_of_ble_eq_true rfl, Nat.le_of_ble_eq_true rfl⟩) ⟨fun a U g mk q => q, fun U hU hW => ⟨rfl, trivial⟩⟩ rfl rfl hl.1 rfl (lv_room (Nat.le_of_ble_eq_true rfl)) dX1_liveAfter_203 ⟨Nat.zero_le _, Nat.zero_le _⟩)) (fun r_ hr_ => ?_)
              refine nw_as (y := (nw_ld ((nw_rn (nw_pp M) (nw_pl sa 0 5) w (i)).2.1) (nw_cl (nw_pp M) (w i) (nw_rn (nw_pp M) (nw_pl sa 0 5) w (r)).1 (w r) 3) 5)) (hr_) ?_
              refine nw_as (y := ((nw_rn (nw_pp M) (nw_pl sa 0 5) w (r + 1)).2.1)) (by rw [nw_rn_m r3 r4 r5]) ?_
              refine lv_istore_n (lv' := [(2, .int ((nw_rn (nw_pp M) (nw_pl sa 0 5) w (r + 1)).2.1)), (5, .int (nw_cl (nw_pp M) (w i) (nw_rn (nw_pp M) (nw_pl sa 0 5) w (r)).1 (w r) 3)), (3, .int (nI (r))), (4, .int (nI (w i))), (0, .ref (ad 0)), (1, .int (nI (n)))]) hx hb dX1_liveAfter_206 rfl hl (by decide) rfl (fun ls hl => ?_)
              refine lv_iinc (v := (nI (r + 1))) (lv' := [(3, .int (nI (r + 1))), (2, .int ((nw_rn (nw_pp M) (nw_pl sa 0 5) w (r + 1)).2.1)), (5, .int (nw_cl (nw_pp M) (w i) (nw_rn (nw_pp M) (nw_pl sa 0 5) w (r)).1 (w r) 3)), (4, .int (nI (w i))), (0, .ref (ad 0)), (1, .int (nI (n)))]) hx hb dX1_liveAfter_207 hl (k := 2) rfl (nw_inc (r)) (by decide) rfl (fun ls hl => ?_)
              refine lv_goto (tgt := 101) hx hb dX1_liveAfter_210 (by decide) ?_
              exact ih (r + 1) _ (by omega) (by omega) ⟨nw_TL_ms hX r3 r4 r5, lv_sub hl [4, 5, 1, 0] rfl⟩
        · have h4 : ¬ w i < 4 := fun h => hc ((nI_ltI (by omega) (by decide)).mpr h)
          refine lv_aload_n hx hb dX1_liveAfter_120 rfl (lv_at hl 1 rfl) ?_
          refine lv_iload hx hb dX1_liveAfter_121 (lv_at hl 0 rfl) ?_
          refine lv_iconst (v := (nI (0))) hx hb dX1_liveAfter_123 (by decide) ?_
          refine vp_callSi (va_Run.run (va_runV (As := [.int (nI (w i)), .int (nI (0))]) (rest := []) ⟨hx, hb, hml, hown, hts⟩ (metX1_pairs l dC dI ad ca (M) (sa) (ea) (ln) (aw) (p1) (b1) (t1) (w i) (h6i) (0) (by decide)) (cwV 2 hts (lw_V q193 q195 qs9 q13 q196) rfl rfl rfl (by decide +kernel) ⟨Nat.le_of_ble_eq_true rfl, Nat.le_of_ble_eq_true rfl⟩) ⟨fun a U g mk q => ⟨q.1, nw_blindR q.2⟩, va_recv hK hP (ci := 1) (q0 := 0) rfl rfl, fun U hU hW => ⟨rfl, by rw [hU]; exact hP, va_K.moved hW.alike hK⟩⟩ rfl rfl hl.1 rfl (lv_room (Nat.le_of_ble_eq_true rfl)) dX1_liveAfter_124 ⟨Nat.zero_le _, Nat.zero_le _⟩)) (fun r_ hr_ => ?_)
          refine nw_as (y := (nw_pp M (w i) (0))) (hr_) ?_
          refine lv_goto (tgt := 137) hx hb dX1_liveAfter_127 (by decide) ?_
          refine lv_istore (lv' := [(5, .int (nw_pp M (w i) (0))), (4, .int (nI (w i))), (0, .ref (ad 0)), (1, .int (nI (n))), (2, .int ((nw_rn (nw_pp M) (nw_pl sa 0 5) w (i)).2.1)), (3, .int (nI (i)))]) hx hb dX1_liveAfter_137 hl (by decide) rfl (fun ls hl => ?_)
          refine lv_iload hx hb dX1_liveAfter_139 (lv_at hl 1 rfl) ?_
          refine lv_iconst (v := (nI (1))) hx hb dX1_liveAfter_141 (by decide) ?_
          refine lv_icmp_gt (tgt := 170) hx hb dX1_liveAfter_142 (by decide) (fun _ => ?_) (fun h => absurd (nI_lt (by omega) (by omega)) h)
          refine lv_iload hx hb dX1_liveAfter_170 (lv_at hl 1 rfl) ?_
          refine lv_iconst (v := (nI (1))) hx hb dX1_liveAfter_172 (by decide) ?_
          refine lv_icmp_gt (tgt := 200) hx hb dX1_liveAfter_173 (by decide) (fun _ => ?_) (fun h => absurd (nI_lt (by omega) (by omega)) h)
          refine lv_iload_n hx hb dX1_liveAfter_200 rfl (lv_at hl 4 rfl) ?_
          refine lv_iload hx hb dX1_liveAfter_201 (lv_at hl 0 rfl) ?_
          refine vp_callSi (va_Run.run (va_runS (As := [.int ((nw_rn (nw_pp M) (nw_pl sa 0 5) w (i)).2.1), .int (nw_pp M (w i) (0))]) (rest := []) ⟨hx, hb, hml, hown, hts⟩ (metX1_image l ((nw_rn (nw_pp M) (nw_pl sa 0 5) w (i)).2.1) (nw_pp M (w i) (0))) (va_cwS 2 hts (lw_S q200 q201 q13 q202) rfl rfl rfl (by decide +kernel) ⟨Nat.le_of_ble_eq_true rfl, Nat.le_of_ble_eq_true rfl⟩) ⟨fun a U g mk q => q, fun U hU hW => ⟨rfl, trivial⟩⟩ rfl rfl hl.1 rfl (lv_room (Nat.le_of_ble_eq_true rfl)) dX1_liveAfter_203 ⟨Nat.zero_le _, Nat.zero_le _⟩)) (fun r_ hr_ => ?_)
          refine nw_as (y := (nw_ld ((nw_rn (nw_pp M) (nw_pl sa 0 5) w (i)).2.1) (nw_pp M (w i) (0)) 5)) (hr_) ?_
          refine nw_as (y := ((nw_rn (nw_pp M) (nw_pl sa 0 5) w (i + 1)).2.1)) (by rw [nw_rn_p h4]) ?_
          refine lv_istore_n (lv' := [(2, .int ((nw_rn (nw_pp M) (nw_pl sa 0 5) w (i + 1)).2.1)), (5, .int (nw_pp M (w i) (0))), (4, .int (nI (w i))), (0, .ref (ad 0)), (1, .int (nI (n))), (3, .int (nI (i)))]) hx hb dX1_liveAfter_206 rfl hl (by decide) rfl (fun ls hl => ?_)
          refine lv_iinc (v := (nI (i + 1))) (lv' := [(3, .int (nI (i + 1))), (2, .int ((nw_rn (nw_pp M) (nw_pl sa 0 5) w (i + 1)).2.1)), (5, .int (nw_pp M (w i) (0))), (4, .int (nI (w i))), (0, .ref (ad 0)), (1, .int (nI (n)))]) hx hb dX1_liveAfter_207 hl (k := 5) rfl (nw_inc (i)) (by decide) rfl (fun ls hl => ?_)
          refine lv_goto (tgt := 101) hx hb dX1_liveAfter_210 (by decide) ?_
          exact ih (i + 1) _ (by omega) (by omega) ⟨nw_TL_ps hX h4, lv_sub hl [4, 5, 1, 0] rfl⟩
      · obtain ⟨hX, hl⟩ := hI
        refine lv_iload_n hx hb dX1_liveAfter_101 rfl (lv_at hl 3 rfl) ?_
        refine lv_iload_n hx hb dX1_liveAfter_102 rfl (lv_at hl 1 rfl) ?_
        refine lv_icmp_ge (tgt := 213) hx hb dX1_liveAfter_103 (by decide) (fun _ => ?_) (fun h => absurd (nI_le (Nat.le_refl n) (by omega)) h)
        refine lv_iload_n hx hb dX1_liveAfter_213 rfl (lv_at hl 2 rfl) ?_
        exact W.iret (v := ((nw_rn (nw_pp M) (nw_pl sa 0 5) w (n)).2.1)) hx hb hr (fun t ht hW => ⟨⟨_, (p1, b1, t1), rfl, rfl, ⟨by rw [ht]; exact hP, va_K.moved hW.alike hK, hD⟩⟩, hS.F ht⟩) hS.2.2 dX1_liveAfter_214
end
section
/-! WALKS 10: the reference: what the law calls -/
set_option maxHeartbeats 4000000 in
set_option maxRecDepth 100000 in
/-- live() -/
theorem metX1_live (l : Launch) (dC : Nat → ClassId) (dI : Nat → Nat → Nat) (ad : Nat → Nat) (ca : Nat → ClassId) (M sa ea : nw_F) (aw pt ld wt : nw_F) (w : Nat → Nat) (n : Nat) (hn : n ≤ 16) (hw : ∀ k, k < n → aw k = nI (w k)) (h6 : ∀ k, k < n → w k < 6) (sz : Nat) : Met l yX1_live (ws_ yX1_live cX1_live 1 (some .int)) ({ frames := 4, cells := 0, slots := 0, locals := 104 }) (va_Pc [.ref (ad 0)] (fun U => U.heap.size = sz ∧ nw_XB dC dI (fun _ => True) (nw_yW ad ca (M) (sa) (ea) (nI (n)) (aw) (pt) (ld) (wt)) (nw_yT ca) U)) (va_Qi (fun (x : Int32) (u : nw_F × nw_F × nw_F) => x = (nw_rn (nw_pp M) (nw_pl sa 0 5) w n).2.1) (fun (u : nw_F × nw_F × nw_F) t => nw_XB dC dI (va_A (nw_yW ad ca (M) (sa) (ea) (nI (n)) (aw) (pt) (ld) (wt)) sz) (nw_yW ad ca (M) (sa) (ea) (nI (n)) (aw) (u.1) (u.2.1) (u.2.2)) (nw_yT ca) t) (va_A (nw_yW ad ca (M) (sa) (ea) (nI (n)) (aw) (pt) (ld) (wt)) sz)) 0 0 (va_A (nw_yW ad ca (M) (sa) (ea) (nI (n)) (aw) (pt) (ld) (wt)) sz) := by
  refine Met.ofW (cc := cX1_live) (maxL := 1) (ret := (some .int)) (by decide) rfl ?_
  intro p e s m args below meth c s₁ B hml hv
  obtain ⟨rfl, hsz, hP, hK, hD0⟩ := hv
  have hx := B.exec
  have hb := B.bytes
  have hr := B.returns
  have hts := atoms_spec (ws := ws_ yX1_live cX1_live 1 (some .int)) B.pre
  have hts : ∀ w ∈ lw_all, w.before _ s = true := fun w h => hts w (List.mem_cons_of_mem _ h)
  have hown : s.vm.findClass RX1 = some m.cls := findClass_of_methodNamed B.named
  have hlocks := B.notSynchronized
  subst hsz
  have hD := hD0.self (sz := s.heap.size)
  generalize hAe : va_A (nw_yW ad ca (M) (sa) (ea) (nI (n)) (aw) (pt) (ld) (wt)) s.heap.size = A at hD ⊢
  have hA : ∀ q : Nat, s.heap.size ≤ q → A q := fun q h => by rw [← hAe]; exact Or.inr h
  have hS : va_S A s.heap s.heap [] := va_S.rf
  have hP : va_P (dC, dI) vwCl (nw_yW ad ca (M) (sa) (ea) (nI (n)) (aw) (pt) (ld) (wt)) s.heap := hP
  have hl := lv_entry ([.ref (ad 0)]) (n := 1) (Nat.le_of_ble_eq_true rfl)
  rw [lg_entry_eq]
  generalize (lg_sl ([.ref (ad 0)]) ++ List.replicate (1 - (lg_sl ([.ref (ad 0)])).length) Slot.unset).toArray = ls at hl ⊢
  have hl : lv_has ls 1 [(0, .ref (ad 0))] := hl
  refine lv_aload_n hx hb dX1_live_0 rfl (lv_at hl 0 rfl) ?_
  refine lv_aload_n hx hb dX1_live_1 rfl (lv_at hl 0 rfl) ?_
  refine va_get (D := (dC, dI)) (ci := 1) (v := .int (nI (n))) (C := RX1) (T := TX1) (N := 8) hx hb hts in_X1 hown hK hP 0 rfl rfl 3 (by decide) (hts _ q139) (fun _ h9 => h9) rfl dX1_live_2 ?_
  have hFc := va_free (wc := nw_yW ad ca (M) (sa) (ea) (nI (n)) (aw) (pt) (ld) (wt)) hD hS hA [0, 1, 2, 3, 4, 5, 6, 7] rfl
  refine va_calli (va_runV (As := [.int (nI (n))]) (rest := []) ⟨hx, hb, hml, hown, hts⟩ (metX1_liveAfter l dC dI ad ca (M) (sa) (ea) (nI (n)) (aw) (pt) (ld) (wt) w n (by omega) hw h6 s.heap.size) (cwV 1 hts (lw_V q176 q178 qs5 q13 q179) rfl rfl rfl (by decide +kernel) ⟨Nat.le_of_ble_eq_true rfl, Nat.le_of_ble_eq_true rfl⟩) ⟨fun a U g mk q => ⟨q.1, q.2.1, nw_blind q.2.2⟩, va_recv hK hP (ci := 1) (q0 := 0) rfl rfl, fun U hU hW => ⟨rfl, by rw [hU], by rw [hU]; exact hP, va_K.moved hW.alike hK, hD.weaken (fun _ _ _ _ => trivial)⟩⟩ rfl rfl hl.1 rfl (lv_room (Nat.le_of_ble_eq_true rfl)) dX1_live_5 ⟨Nat.zero_le _, Nat.zero_le _⟩) hS (fun q _ h => hFc q h) hFc (fun c0 u t_ H locs ht_ hvm_ hq hB_ _ _ hS => ?_)
  obtain ⟨p1, d1, t1⟩ := u
  obtain ⟨hP, -, hD⟩ := hB_
  rw [ht_] at hP
  have hD := hD.weaken (fun k q _ h => hFc q.1 h)
  have hP : va_P (dC, dI) vwCl (nw_yW ad ca (M) (sa) (ea) (nI (n)) (aw) (p1) (d1) (t1)) H := hP
  have hD : va_D A (nw_yW ad ca (M) (sa) (ea) (nI (n)) (aw) (p1) (d1) (t1)) := hD
  refine nw_as (y := ((nw_rn (nw_pp M) (nw_pl sa 0 5) w n).2.1)) (hq) ?_
  exact W.iret (v := ((nw_rn (nw_pp M) (nw_pl sa 0 5) w n).2.1)) hx hb hr (fun t ht hW => ⟨⟨_, (p1, d1, t1), rfl, rfl, ⟨by rw [ht]; exact hP, va_K.moved hW.alike hK, hD⟩⟩, hS.F ht⟩) hS.2.2 dX1_live_8
set_option maxHeartbeats 4000000 in
set_option maxRecDepth 100000 in
/-- accepted() -/
theorem metX1_accepted (l : Launch) (dC : Nat → ClassId) (dI : Nat → Nat → Nat) (ad : Nat → Nat) (ca : Nat → ClassId) (M sa ea : nw_F) (aw pt ld wt : nw_F) (w : Nat → Nat) (n : Nat) (hn : n ≤ 16) (hw : ∀ k, k < n → aw k = nI (w k)) (h6 : ∀ k, k < n → w k < 6) (sz : Nat) : Met l yX1_accepted (ws_ yX1_accepted cX1_accepted 1 (some .int)) ({ frames := 5, cells := 0, slots := 0, locals := 124 }) (va_Pc [.ref (ad 0)] (fun U => U.heap.size = sz ∧ nw_XB dC dI (fun _ => True) (nw_yW ad ca (M) (sa) (ea) (nI (n)) (aw) (pt) (ld) (wt)) (nw_yT ca) U)) (va_Qi (fun (x : Int32) (u : nw_F × nw_F × nw_F) => x = (if ((nw_rn (nw_pp M) (nw_pl sa 0 5) w n).2.1 &&& nw_pl ea 0 5) = 0 then 0 else 1)) (fun (u : nw_F × nw_F × nw_F) t => nw_XB dC dI (va_A (nw_yW ad ca (M) (sa) (ea) (nI (n)) (aw) (pt) (ld) (wt)) sz) (nw_yW ad ca (M) (sa) (ea) (nI (n)) (aw) (u.1) (u.2.1) (u.2.2)) (nw_yT ca) t) (va_A (nw_yW ad ca (M) (sa) (ea) (nI (n)) (aw) (pt) (ld) (wt)) sz)) 0 0 (va_A (nw_yW ad ca (M) (sa) (ea) (nI (n)) (aw) (pt) (ld) (wt)) sz) := by
  refine Met.ofW (cc := cX1_accepted) (maxL := 1) (ret := (some .int)) (by decide) rfl ?_
  intro p e s m args below meth c s₁ B hml hv
  obtain ⟨rfl, hsz, hP, hK, hD0⟩ := hv
  have hx := B.exec
  have hb := B.bytes
  have hr := B.returns
  have hts := atoms_spec (ws := ws_ yX1_accepted cX1_accepted 1 (some .int)) B.pre
  have hts : ∀ w ∈ lw_all, w.before _ s = true := fun w h => hts w (List.mem_cons_of_mem _ h)
  have hown : s.vm.findClass RX1 = some m.cls := findClass_of_methodNamed B.named
  have hlocks := B.notSynchronized
  subst hsz
  have hD := hD0.self (sz := s.heap.size)
  generalize hAe : va_A (nw_yW ad ca (M) (sa) (ea) (nI (n)) (aw) (pt) (ld) (wt)) s.heap.size = A at hD ⊢
  have hA : ∀ q : Nat, s.heap.size ≤ q → A q := fun q h => by rw [← hAe]; exact Or.inr h
  have hS : va_S A s.heap s.heap [] := va_S.rf
  have hP : va_P (dC, dI) vwCl (nw_yW ad ca (M) (sa) (ea) (nI (n)) (aw) (pt) (ld) (wt)) s.heap := hP
  have hl := lv_entry ([.ref (ad 0)]) (n := 1) (Nat.le_of_ble_eq_true rfl)
  rw [lg_entry_eq]
  generalize (lg_sl ([.ref (ad 0)]) ++ List.replicate (1 - (lg_sl ([.ref (ad 0)])).length) Slot.unset).toArray = ls at hl ⊢
  have hl : lv_has ls 1 [(0, .ref (ad 0))] := hl
  refine lv_aload_n hx hb dX1_accepted_0 rfl (lv_at hl 0 rfl) ?_
  have hFc := va_free (wc := nw_yW ad ca (M) (sa) (ea) (nI (n)) (aw) (pt) (ld) (wt)) hD hS hA [0, 1, 2, 3, 4, 5, 6, 7] rfl
  refine va_calli (va_runV (As := []) (rest := []) ⟨hx, hb, hml, hown, hts⟩ (metX1_live l dC dI ad ca M sa ea aw pt ld wt w n hn hw h6 s.heap.size) (cwV 0 hts (lw_V q219 q212 q213 q13 q214) rfl rfl rfl (by decide +kernel) ⟨Nat.le_of_ble_eq_true rfl, Nat.le_of_ble_eq_true rfl⟩) ⟨fun a U g mk q => ⟨q.1, q.2.1, nw_blind q.2.2⟩, va_recv hK hP (ci := 1) (q0 := 0) rfl rfl, fun U hU hW => ⟨rfl, by rw [hU], by rw [hU]; exact hP, va_K.moved hW.alike hK, hD.weaken (fun _ _ _ _ => trivial)⟩⟩ rfl rfl hl.1 rfl (lv_room (Nat.le_of_ble_eq_true rfl)) dX1_accepted_1 ⟨Nat.zero_le _, Nat.zero_le _⟩) hS (fun q _ h => hFc q h) hFc (fun c0 u t_ H locs ht_ hvm_ hq hB_ _ _ hS => ?_)
  obtain ⟨p1, d1, t1⟩ := u
  obtain ⟨hP, -, hD⟩ := hB_
  rw [ht_] at hP
  have hD := hD.weaken (fun k q _ h => hFc q.1 h)
  have hP : va_P (dC, dI) vwCl (nw_yW ad ca (M) (sa) (ea) (nI (n)) (aw) (p1) (d1) (t1)) H := hP
  have hD : va_D A (nw_yW ad ca (M) (sa) (ea) (nI (n)) (aw) (p1) (d1) (t1)) := hD
  refine nw_as (y := ((nw_rn (nw_pp M) (nw_pl sa 0 5) w n).2.1)) (hq) ?_
  refine lv_aload_n hx hb dX1_accepted_4 rfl (lv_at hl 0 rfl) ?_
  refine vp_callSi (va_Run.run (va_runV (As := []) (rest := [.int ((nw_rn (nw_pp M) (nw_pl sa 0 5) w n).2.1)]) ⟨hx, hb, hml, hown, hts⟩ (metX1_endsOf l dC dI ad ca (M) (sa) (ea) (nI (n)) (aw) (p1) (d1) (t1)) (cwV 0 hts (lw_V q220 q222 qs10 q13 q223) rfl rfl rfl (by decide +kernel) ⟨Nat.le_of_ble_eq_true rfl, Nat.le_of_ble_eq_true rfl⟩) ⟨fun a U g mk q => ⟨q.1, nw_blindR q.2⟩, va_recv hK hP (ci := 1) (q0 := 0) rfl rfl, fun U hU hW => ⟨rfl, by rw [hU]; exact hP, va_K.moved hW.alike hK⟩⟩ rfl rfl hl.1 rfl (lv_room (Nat.le_of_ble_eq_true rfl)) dX1_accepted_5 ⟨Nat.zero_le _, Nat.zero_le _⟩)) (fun r_ hr_ => ?_)
  refine nw_as (y := (nw_pl ea 0 5)) (hr_) ?_
  refine lv_iand hx hb dX1_accepted_8 ?_
  refine lv_if_eq (tgt := 16) hx hb dX1_accepted_9 (by decide) (fun hz => ?_) (fun hz => ?_)
  · refine lv_iconst (v := ((0 : Int32))) hx hb dX1_accepted_16 (by decide) ?_
    exact W.iret (v := ((0 : Int32))) hx hb hr (fun t ht hW => ⟨⟨_, (p1, d1, t1), rfl, (if_pos hz).symm, ⟨by rw [ht]; exact hP, va_K.moved hW.alike hK, hD⟩⟩, hS.F ht⟩) hS.2.2 dX1_accepted_17
  · refine lv_iconst (v := ((1 : Int32))) hx hb dX1_accepted_12 (by decide) ?_
    refine lv_goto (tgt := 17) hx hb dX1_accepted_13 (by decide) ?_
    exact W.iret (v := ((1 : Int32))) hx hb hr (fun t ht hW => ⟨⟨_, (p1, d1, t1), rfl, (if_neg hz).symm, ⟨by rw [ht]; exact hP, va_K.moved hW.alike hK, hD⟩⟩, hS.F ht⟩) hS.2.2 dX1_accepted_17
set_option maxHeartbeats 4000000 in
set_option maxRecDepth 100000 in
/-- the number of waiting letters -/
theorem metX1_open (l : Launch) (dC : Nat → ClassId) (dI : Nat → Nat → Nat) (ad : Nat → Nat) (ca : Nat → ClassId) (M sa ea : nw_F) (aw pt ld wt : nw_F) (w : Nat → Nat) (n : Nat) (hn : n ≤ 16) (hw : ∀ k, k < n → aw k = nI (w k)) (h6 : ∀ k, k < n → w k < 6) (sz : Nat) : Met l yX1_open (ws_ yX1_open cX1_open 1 (some .int)) ({ frames := 1, cells := 0, slots := 0, locals := 23 }) (va_Pc [.ref (ad 0)] (fun U => U.heap.size = sz ∧ nw_XB dC dI (fun _ => True) (nw_yW ad ca (M) (sa) (ea) (nI (n)) (aw) (pt) (ld) (wt)) (nw_yT ca) U)) (va_Qi (fun (x : Int32) (u : nw_F × nw_F × nw_F) => x = nI (nw_sp w n).length) (fun (u : nw_F × nw_F × nw_F) t => nw_XB dC dI (va_A (nw_yW ad ca (M) (sa) (ea) (nI (n)) (aw) (pt) (ld) (wt)) sz) (nw_yW ad ca (M) (sa) (ea) (nI (n)) (aw) (u.1) (u.2.1) (u.2.2)) (nw_yT ca) t) (va_A (nw_yW ad ca (M) (sa) (ea) (nI (n)) (aw) (pt) (ld) (wt)) sz)) 0 0 (va_A (nw_yW ad ca (M) (sa) (ea) (nI (n)) (aw) (pt) (ld) (wt)) sz) := by
  refine Met.ofW (cc := cX1_open) (maxL := 1) (ret := (some .int)) (by decide) rfl ?_
  intro p e s m args below meth c s₁ B hml hv
  obtain ⟨rfl, hsz, hP, hK, hD0⟩ := hv
  have hx := B.exec
  have hb := B.bytes
  have hr := B.returns
  have hts := atoms_spec (ws := ws_ yX1_open cX1_open 1 (some .int)) B.pre
  have hts : ∀ w ∈ lw_all, w.before _ s = true := fun w h => hts w (List.mem_cons_of_mem _ h)
  have hown : s.vm.findClass RX1 = some m.cls := findClass_of_methodNamed B.named
  have hlocks := B.notSynchronized
  subst hsz
  have hD := hD0.self (sz := s.heap.size)
  generalize hAe : va_A (nw_yW ad ca (M) (sa) (ea) (nI (n)) (aw) (pt) (ld) (wt)) s.heap.size = A at hD ⊢
  have hA : ∀ q : Nat, s.heap.size ≤ q → A q := fun q h => by rw [← hAe]; exact Or.inr h
  have hS : va_S A s.heap s.heap [] := va_S.rf
  have hP : va_P (dC, dI) vwCl (nw_yW ad ca (M) (sa) (ea) (nI (n)) (aw) (pt) (ld) (wt)) s.heap := hP
  have hl := lv_entry ([.ref (ad 0)]) (n := 1) (Nat.le_of_ble_eq_true rfl)
  rw [lg_entry_eq]
  generalize (lg_sl ([.ref (ad 0)]) ++ List.replicate (1 - (lg_sl ([.ref (ad 0)])).length) Slot.unset).toArray = ls at hl ⊢
  have hl : lv_has ls 1 [(0, .ref (ad 0))] := hl
  refine lv_aload_n hx hb dX1_open_0 rfl (lv_at hl 0 rfl) ?_
  refine lv_aload_n hx hb dX1_open_1 rfl (lv_at hl 0 rfl) ?_
  refine va_get (D := (dC, dI)) (ci := 1) (v := .int (nI (n))) (C := RX1) (T := TX1) (N := 8) hx hb hts in_X1 hown hK hP 0 rfl rfl 3 (by decide) (hts _ q139) (fun _ h9 => h9) rfl dX1_open_2 ?_
  have hFc := va_free (wc := nw_yW ad ca (M) (sa) (ea) (nI (n)) (aw) (pt) (ld) (wt)) hD hS hA [0, 1, 2, 3, 4, 5, 6, 7] rfl
  refine va_calli (va_runV (As := [.int (nI (n))]) (rest := []) ⟨hx, hb, hml, hown, hts⟩ (metX1_match l dC dI ad ca (M) (sa) (ea) (nI (n)) (aw) (pt) (ld) (wt) w n (by omega) hw h6 s.heap.size) (cwV 1 hts (lw_V q180 q182 qs6 q13 q183) rfl rfl rfl (by decide +kernel) ⟨Nat.le_of_ble_eq_true rfl, Nat.le_of_ble_eq_true rfl⟩) ⟨fun a U g mk q => ⟨q.1, q.2.1, nw_blind q.2.2⟩, va_recv hK hP (ci := 1) (q0 := 0) rfl rfl, fun U hU hW => ⟨rfl, by rw [hU], by rw [hU]; exact hP, va_K.moved hW.alike hK, hD.weaken (fun _ _ _ _ => trivial)⟩⟩ rfl rfl hl.1 rfl (lv_room (Nat.le_of_ble_eq_true rfl)) dX1_open_5 ⟨Nat.zero_le _, Nat.zero_le _⟩) hS (fun q _ h => hFc q h) hFc (fun c0 u t_ H locs ht_ hvm_ hq hB_ _ _ hS => ?_)
  obtain ⟨p1, t1⟩ := u
  obtain ⟨hP, -, hD⟩ := hB_
  rw [ht_] at hP
  have hD := hD.weaken (fun k q _ h => hFc q.1 h)
  have hP : va_P (dC, dI) vwCl (nw_yW ad ca (M) (sa) (ea) (nI (n)) (aw) (p1) (ld) (t1)) H := hP
  have hD : va_D A (nw_yW ad ca (M) (sa) (ea) (nI (n)) (aw) (p1) (ld) (t1)) := hD
  refine nw_as (y := (nI (nw_sp w n).length)) (hq.1) ?_
  exact W.iret (v := (nI (nw_sp w n).length)) hx hb hr (fun t ht hW => ⟨⟨_, (p1, ld, t1), rfl, rfl, ⟨by rw [ht]; exact hP, va_K.moved hW.alike hK, hD⟩⟩, hS.F ht⟩) hS.2.2 dX1_open_8
set_option maxHeartbeats 4000000 in
set_option maxRecDepth 100000 in
/-- next() -/
theorem metX1_next (l : Launch) (dC : Nat → ClassId) (dI : Nat → Nat → Nat) (ad : Nat → Nat) (ca : Nat → ClassId) (M sa ea : nw_F) (aw pt ld wt : nw_F) (w : Nat → Nat) (n : Nat) (hn : n ≤ 16) (hw : ∀ k, k < n → aw k = nI (w k)) (h6 : ∀ k, k < n → w k < 6) (sz : Nat) : Met l yX1_next (ws_ yX1_next cX1_next 3 (some .int)) ({ frames := 4, cells := 0, slots := 0, locals := 104 }) (va_Pc [.ref (ad 0)] (fun U => U.heap.size = sz ∧ nw_XB dC dI (fun _ => True) (nw_yW ad ca (M) (sa) (ea) (nI (n)) (aw) (pt) (ld) (wt)) (nw_yT ca) U)) (va_Qi (fun (x : Int32) (u : nw_F × nw_F × nw_F × nw_F) => x = nw_nx (nw_pp M) (nw_pl sa 0 5) w n 6 ∧ ∀ k, k < n → u.1 k = nI (w k)) (fun (u : nw_F × nw_F × nw_F × nw_F) t => nw_XB dC dI (va_A (nw_yW ad ca (M) (sa) (ea) (nI (n)) (aw) (pt) (ld) (wt)) sz) (nw_yW ad ca (M) (sa) (ea) (nI (n)) (u.1) (u.2.1) (u.2.2.1) (u.2.2.2)) (nw_yT ca) t) (va_A (nw_yW ad ca (M) (sa) (ea) (nI (n)) (aw) (pt) (ld) (wt)) sz)) 0 0 (va_A (nw_yW ad ca (M) (sa) (ea) (nI (n)) (aw) (pt) (ld) (wt)) sz) := by
  refine Met.ofW (cc := cX1_next) (maxL := 3) (ret := (some .int)) (by decide) rfl ?_
  intro p e s m args below meth c s₁ B hml hv
  obtain ⟨rfl, hsz, hP, hK, hD0⟩ := hv
  have hx := B.exec
  have hb := B.bytes
  have hr := B.returns
  have hts := atoms_spec (ws := ws_ yX1_next cX1_next 3 (some .int)) B.pre
  have hts : ∀ w ∈ lw_all, w.before _ s = true := fun w h => hts w (List.mem_cons_of_mem _ h)
  have hown : s.vm.findClass RX1 = some m.cls := findClass_of_methodNamed B.named
  have hlocks := B.notSynchronized
  subst hsz
  have hD := hD0.self (sz := s.heap.size)
  generalize hAe : va_A (nw_yW ad ca (M) (sa) (ea) (nI (n)) (aw) (pt) (ld) (wt)) s.heap.size = A at hD ⊢
  have hA : ∀ q : Nat, s.heap.size ≤ q → A q := fun q h => by rw [← hAe]; exact Or.inr h
  have hS : va_S A s.heap s.heap [] := va_S.rf
  have hP : va_P (dC, dI) vwCl (nw_yW ad ca (M) (sa) (ea) (nI (n)) (aw) (pt) (ld) (wt)) s.heap := hP
  have hl := lv_entry ([.ref (ad 0)]) (n := 3) (Nat.le_of_ble_eq_true rfl)
  rw [lg_entry_eq]
  generalize (lg_sl ([.ref (ad 0)]) ++ List.replicate (3 - (lg_sl ([.ref (ad 0)])).length) Slot.unset).toArray = ls at hl ⊢
  have hl : lv_has ls 3 [(0, .ref (ad 0))] := hl
  refine lv_iconst (v := (nI (0))) hx hb dX1_next_0 (by decide) ?_
  refine lv_istore_n (lv' := [(1, .int (nI (0))), (0, .ref (ad 0))]) hx hb dX1_next_1 rfl hl (by decide) rfl (fun ls hl => ?_)
  refine lv_iconst (v := (nI (0))) hx hb dX1_next_2 (by decide) ?_
  refine lv_istore_n (lv' := [(2, .int (nI (0))), (1, .int (nI (0))), (0, .ref (ad 0))]) hx hb dX1_next_3 rfl hl (by decide) rfl (fun ls hl => ?_)
  obtain ⟨H, eH⟩ : ∃ z, z = s.heap := ⟨_, rfl⟩
  have hS0 := hS
  rw [← eH] at hP ⊢
  have hS : va_S A s.heap H [] := by rw [eH]; exact hS0
  refine nw_loopH 4 (fun i H locs ls => ∃ (b1 b2 b3 b4 : nw_F), va_P (dC, dI) vwCl (nw_yW ad ca (M) (sa) (ea) (nI (n)) (b1) (b2) (b3) (b4)) H ∧ va_D A (nw_yW ad ca (M) (sa) (ea) (nI (n)) (b1) (b2) (b3) (b4)) ∧ va_S A s.heap H locs ∧ (∀ k, k < n → b1 k = nI (w k)) ∧ lv_has ls 3 [(0, .ref (ad 0)), (1, .int (nw_nx (nw_pp M) (nw_pl sa 0 5) w n (i))), (2, .int (nI (i)))]) (6) ⟨aw, pt, ld, wt, hP, hD, hS, hw, lv_sub hl [2, 1, 0] rfl⟩ (fun i H locs ls hi hI ih => ?_) (fun H locs ls hI => ?_)
  · obtain ⟨b1, b2, b3, b4, hP, hD, hS, hX, hl⟩ := hI
    refine lv_iload_n hx hb dX1_next_4 rfl (lv_at hl 2 rfl) ?_
    refine lv_bipush (v := (nI (6))) hx hb dX1_next_5 (by decide) ?_
    refine lv_icmp_ge (tgt := 45) hx hb dX1_next_7 (by decide) (fun h => absurd h (nI_ge hi (by decide))) (fun _ => ?_)
    refine lv_aload_n hx hb dX1_next_10 rfl (lv_at hl 0 rfl) ?_
    refine va_get (D := (dC, dI)) (ci := 1) (v := .ref (ad 4)) (C := RX1) (T := TX1) (N := 8) hx hb hts in_X1 hown hK hP 0 rfl rfl 4 (by decide) (hts _ q140) (fun _ h9 => h9) rfl dX1_next_11 ?_
    refine lv_aload_n hx hb dX1_next_14 rfl (lv_at hl 0 rfl) ?_
    refine va_get (D := (dC, dI)) (ci := 1) (v := .int (nI (n))) (C := RX1) (T := TX1) (N := 8) hx hb hts in_X1 hown hK hP 0 rfl rfl 3 (by decide) (hts _ q139) (fun _ h9 => h9) rfl dX1_next_15 ?_
    refine lv_iload_n hx hb dX1_next_18 rfl (lv_at hl 2 rfl) ?_
    refine nw_iast hx hb hK hP hD hS 4 3 rfl rfl (j := n) (by omega) (by decide) dX1_next_19 (fun H locs hP hD hS => ?_)
    have hP : va_P (dC, dI) vwCl (nw_yW ad ca (M) (sa) (ea) (nI (n)) (upd (b1) (n) (nI (i))) (b2) (b3) (b4)) H := hP
    have hD : va_D A (nw_yW ad ca (M) (sa) (ea) (nI (n)) (upd (b1) (n) (nI (i))) (b2) (b3) (b4)) := hD
    refine lv_aload_n hx hb dX1_next_20 rfl (lv_at hl 0 rfl) ?_
    refine lv_aload_n hx hb dX1_next_21 rfl (lv_at hl 0 rfl) ?_
    refine va_get (D := (dC, dI)) (ci := 1) (v := .int (nI (n))) (C := RX1) (T := TX1) (N := 8) hx hb hts in_X1 hown hK hP 0 rfl rfl 3 (by decide) (hts _ q139) (fun _ h9 => h9) rfl dX1_next_22 ?_
    refine lv_iconst (v := (nI (1))) hx hb dX1_next_25 (by decide) ?_
    refine lv_iadd hx hb dX1_next_26 ?_
    refine nw_as (y := (nI (n + 1))) (nI_add (n) (1)) ?_
    have hFc := va_free (wc := nw_yW ad ca (M) (sa) (ea) (nI (n)) (upd (b1) (n) (nI (i))) (b2) (b3) (b4)) hD hS hA [0, 1, 2, 3, 4, 5, 6, 7] rfl
    refine va_calli (va_runV (As := [.int (nI (n + 1))]) (rest := []) ⟨hx, hb, hml, hown, hts⟩ (metX1_liveAfter l dC dI ad ca (M) (sa) (ea) (nI (n)) (upd (b1) (n) (nI (i))) (b2) (b3) (b4) (nw_up w n i) (n + 1) (by omega) (nw_upk hX) (nw_up6 h6 hi) H.size) (cwV 1 hts (lw_V q176 q178 qs5 q13 q179) rfl rfl rfl (by decide +kernel) ⟨Nat.le_of_ble_eq_true rfl, Nat.le_of_ble_eq_true rfl⟩) ⟨fun a U g mk q => ⟨q.1, q.2.1, nw_blind q.2.2⟩, va_recv hK hP (ci := 1) (q0 := 0) rfl rfl, fun U hU hW => ⟨rfl, by rw [hU], by rw [hU]; exact hP, va_K.moved hW.alike hK, hD.weaken (fun _ _ _ _ => trivial)⟩⟩ rfl rfl hl.1 rfl (lv_room (Nat.le_of_ble_eq_true rfl)) dX1_next_27 ⟨Nat.zero_le _, Nat.zero_le _⟩) hS (fun q _ h => hFc q h) hFc (fun c0 u t_ H locs ht_ hvm_ hq hB_ _ _ hS => ?_)
    obtain ⟨p1, d1, t1⟩ := u
    obtain ⟨hP, -, hD⟩ := hB_
    rw [ht_] at hP
    have hD := hD.weaken (fun k q _ h => hFc q.1 h)
    have hP : va_P (dC, dI) vwCl (nw_yW ad ca (M) (sa) (ea) (nI (n)) (upd (b1) (n) (nI (i))) (p1) (d1) (t1)) H := hP
    have hD : va_D A (nw_yW ad ca (M) (sa) (ea) (nI (n)) (upd (b1) (n) (nI (i))) (p1) (d1) (t1)) := hD
    refine nw_as (y := ((nw_rn (nw_pp M) (nw_pl sa 0 5) (nw_up w n i) (n + 1)).2.1)) (hq) ?_
    refine lv_if_eq (tgt := 39) hx hb dX1_next_30 (by decide) (fun hz => ?_) (fun hz => ?_)
    · rw [nw_nx_z2 hz] at hl
      -- next
      refine lv_iinc (v := (nI (i + 1))) (lv' := [(2, .int (nI (i + 1))), (0, .ref (ad 0)), (1, .int (nw_nx (nw_pp M) (nw_pl sa 0 5) w n (i + 1)))]) hx hb dX1_next_39 hl (k := 2) rfl (nw_inc (i)) (by decide) rfl (fun ls hl => ?_)
      refine lv_goto (tgt := 4) hx hb dX1_next_42 (by decide) ?_
      exact ih _ _ _ ⟨upd (b1) (n) (nI (i)), p1, d1, t1, hP, hD, hS, (fun k hk => (pk_un (by omega)).trans (hX k hk)), lv_sub hl [1, 2, 0] rfl⟩
    · refine lv_iload_n hx hb dX1_next_33 rfl (lv_at hl 1 rfl) ?_
      refine lv_iconst (v := ((1 : Int32))) hx hb dX1_next_34 (by decide) ?_
      refine lv_iload_n hx hb dX1_next_35 rfl (lv_at hl 2 rfl) ?_
      refine lv_ishl hx hb dX1_next_36 ?_
      refine lv_ior hx hb dX1_next_37 ?_
      refine nw_as (y := (nw_nx (nw_pp M) (nw_pl sa 0 5) w n (i + 1))) (nw_nx_n hz) ?_
      refine lv_istore_n (lv' := [(1, .int (nw_nx (nw_pp M) (nw_pl sa 0 5) w n (i + 1))), (0, .ref (ad 0)), (2, .int (nI (i)))]) hx hb dX1_next_38 rfl hl (by decide) rfl (fun ls hl => ?_)
      refine lv_iinc (v := (nI (i + 1))) (lv' := [(2, .int (nI (i + 1))), (1, .int (nw_nx (nw_pp M) (nw_pl sa 0 5) w n (i + 1))), (0, .ref (ad 0))]) hx hb dX1_next_39 hl (k := 2) rfl (nw_inc (i)) (by decide) rfl (fun ls hl => ?_)
      refine lv_goto (tgt := 4) hx hb dX1_next_42 (by decide) ?_
      exact ih _ _ _ ⟨upd (b1) (n) (nI (i)), p1, d1, t1, hP, hD, hS, (fun k hk => (pk_un (by omega)).trans (hX k hk)), lv_sub hl [2, 1, 0] rfl⟩
  · obtain ⟨b1, b2, b3, b4, hP, hD, hS, hX, hl⟩ := hI
    refine lv_iload_n hx hb dX1_next_4 rfl (lv_at hl 2 rfl) ?_
    refine lv_bipush (v := (nI (6))) hx hb dX1_next_5 (by decide) ?_
    refine lv_icmp_ge (tgt := 45) hx hb dX1_next_7 (by decide) (fun _ => ?_) (fun h => absurd (nI_le (Nat.le_refl 6) (by decide)) h)
    refine lv_iload_n hx hb dX1_next_45 rfl (lv_at hl 1 rfl) ?_
    exact W.iret (v := (nw_nx (nw_pp M) (nw_pl sa 0 5) w n (6))) hx hb hr (fun t ht hW => ⟨⟨_, (b1, b2, b3, b4), rfl, ⟨rfl, hX⟩, ⟨by rw [ht]; exact hP, va_K.moved hW.alike hK, hD⟩⟩, hS.F ht⟩) hS.2.2 dX1_next_46
set_option maxHeartbeats 4000000 in
set_option maxRecDepth 100000 in
/-- close() -/
theorem metX1_close (l : Launch) (dC : Nat → ClassId) (dI : Nat → Nat → Nat) (ad : Nat → Nat) (ca : Nat → ClassId) (M sa ea : nw_F) (aw pt ld wt : nw_F) (w : Nat → Nat) (n : Nat) (hn : n ≤ 16) (hw : ∀ k, k < n → aw k = nI (w k)) (h6 : ∀ k, k < n → w k < 6) (sz : Nat) : Met l yX1_close (ws_ yX1_close cX1_close 2 (some .int)) ({ frames := 4, cells := 0, slots := 0, locals := 104 }) (va_Pc [.ref (ad 0)] (fun U => U.heap.size = sz ∧ nw_XB dC dI (fun _ => True) (nw_yW ad ca (M) (sa) (ea) (nI (n)) (aw) (pt) (ld) (wt)) (nw_yT ca) U)) (va_Qi (fun (x : Int32) (u : nw_F × nw_F × nw_F × nw_F) => x = nw_fd (nw_pp M) (nw_pl sa 0 5) w n (nw_pl ea 0 5) 5 ∧ ∀ k, k < n → u.1 k = nI (w k)) (fun (u : nw_F × nw_F × nw_F × nw_F) t => nw_XB dC dI (va_A (nw_yW ad ca (M) (sa) (ea) (nI (n)) (aw) (pt) (ld) (wt)) sz) (nw_yW ad ca (M) (sa) (ea) (nI (n)) (u.1) (u.2.1) (u.2.2.1) (u.2.2.2)) (nw_yT ca) t) (va_A (nw_yW ad ca (M) (sa) (ea) (nI (n)) (aw) (pt) (ld) (wt)) sz)) 0 0 (va_A (nw_yW ad ca (M) (sa) (ea) (nI (n)) (aw) (pt) (ld) (wt)) sz) := by
  refine Met.ofW (cc := cX1_close) (maxL := 2) (ret := (some .int)) (by decide) rfl ?_
  intro p e s m args below meth c s₁ B hml hv
  obtain ⟨rfl, hsz, hP, hK, hD0⟩ := hv
  have hx := B.exec
  have hb := B.bytes
  have hr := B.returns
  have hts := atoms_spec (ws := ws_ yX1_close cX1_close 2 (some .int)) B.pre
  have hts : ∀ w ∈ lw_all, w.before _ s = true := fun w h => hts w (List.mem_cons_of_mem _ h)
  have hown : s.vm.findClass RX1 = some m.cls := findClass_of_methodNamed B.named
  have hlocks := B.notSynchronized
  subst hsz
  have hD := hD0.self (sz := s.heap.size)
  generalize hAe : va_A (nw_yW ad ca (M) (sa) (ea) (nI (n)) (aw) (pt) (ld) (wt)) s.heap.size = A at hD ⊢
  have hA : ∀ q : Nat, s.heap.size ≤ q → A q := fun q h => by rw [← hAe]; exact Or.inr h
  have hS : va_S A s.heap s.heap [] := va_S.rf
  have hP : va_P (dC, dI) vwCl (nw_yW ad ca (M) (sa) (ea) (nI (n)) (aw) (pt) (ld) (wt)) s.heap := hP
  have hl := lv_entry ([.ref (ad 0)]) (n := 2) (Nat.le_of_ble_eq_true rfl)
  rw [lg_entry_eq]
  generalize (lg_sl ([.ref (ad 0)]) ++ List.replicate (2 - (lg_sl ([.ref (ad 0)])).length) Slot.unset).toArray = ls at hl ⊢
  have hl : lv_has ls 2 [(0, .ref (ad 0))] := hl
  refine lv_iconst (v := (nI (0))) hx hb dX1_close_0 (by decide) ?_
  refine lv_istore_n (lv' := [(1, .int (nI (0))), (0, .ref (ad 0))]) hx hb dX1_close_1 rfl hl (by decide) rfl (fun ls hl => ?_)
  obtain ⟨H, eH⟩ : ∃ z, z = s.heap := ⟨_, rfl⟩
  have hS0 := hS
  rw [← eH] at hP ⊢
  have hS : va_S A s.heap H [] := by rw [eH]; exact hS0
  refine nw_loopH 2 (fun i H locs ls => ∃ (b1 b2 b3 b4 : nw_F), va_P (dC, dI) vwCl (nw_yW ad ca (M) (sa) (ea) (nI (n)) (b1) (b2) (b3) (b4)) H ∧ va_D A (nw_yW ad ca (M) (sa) (ea) (nI (n)) (b1) (b2) (b3) (b4)) ∧ va_S A s.heap H locs ∧ (nw_fd (nw_pp M) (nw_pl sa 0 5) w n (nw_pl ea 0 5) (i) = -1 ∧ ∀ k, k < n + (i) → k < n + 4 → b1 k = nI (nw_w2 w n k)) ∧ lv_has ls 2 [(0, .ref (ad 0)), (1, .int (nI (i)))]) (5) ⟨aw, pt, ld, wt, hP, hD, hS, ⟨rfl, fun k h1 _ => (hw k (by omega)).trans (by rw [nw_w2_lo (by omega)])⟩, lv_sub hl [1, 0] rfl⟩ (fun i H locs ls hi hI ih => ?_) (fun H locs ls hI => ?_)
  · obtain ⟨b1, b2, b3, b4, hP, hD, hS, hX, hl⟩ := hI
    refine lv_iload_n hx hb dX1_close_2 rfl (lv_at hl 1 rfl) ?_
    refine lv_iconst (v := (nI (4))) hx hb dX1_close_3 (by decide) ?_
    refine lv_icmp_gt (tgt := 50) hx hb dX1_close_4 (by decide) (fun h => absurd h (nI_nlt (by omega) (by decide))) (fun _ => ?_)
    refine lv_aload_n hx hb dX1_close_7 rfl (lv_at hl 0 rfl) ?_
    refine lv_aload_n hx hb dX1_close_8 rfl (lv_at hl 0 rfl) ?_
    refine va_get (D := (dC, dI)) (ci := 1) (v := .int (nI (n))) (C := RX1) (T := TX1) (N := 8) hx hb hts in_X1 hown hK hP 0 rfl rfl 3 (by decide) (hts _ q139) (fun _ h9 => h9) rfl dX1_close_9 ?_
    refine lv_iload_n hx hb dX1_close_12 rfl (lv_at hl 1 rfl) ?_
    refine lv_iadd hx hb dX1_close_13 ?_
    refine nw_as (y := (nI (n + i))) (nI_add (n) (i)) ?_
    have hFc := va_free (wc := nw_yW ad ca (M) (sa) (ea) (nI (n)) (b1) (b2) (b3) (b4)) hD hS hA [0, 1, 2, 3, 4, 5, 6, 7] rfl
    refine va_calli (va_runV (As := [.int (nI (n + i))]) (rest := []) ⟨hx, hb, hml, hown, hts⟩ (metX1_liveAfter l dC dI ad ca (M) (sa) (ea) (nI (n)) (b1) (b2) (b3) (b4) (nw_w2 w n) (n + i) (by omega) (fun k hk => hX.2 k hk (by omega)) (nw_w26 h6 i) H.size) (cwV 1 hts (lw_V q176 q178 qs5 q13 q179) rfl rfl rfl (by decide +kernel) ⟨Nat.le_of_ble_eq_true rfl, Nat.le_of_ble_eq_true rfl⟩) ⟨fun a U g mk q => ⟨q.1, q.2.1, nw_blind q.2.2⟩, va_recv hK hP (ci := 1) (q0 := 0) rfl rfl, fun U hU hW => ⟨rfl, by rw [hU], by rw [hU]; exact hP, va_K.moved hW.alike hK, hD.weaken (fun _ _ _ _ => trivial)⟩⟩ rfl rfl hl.1 rfl (lv_room (Nat.le_of_ble_eq_true rfl)) dX1_close_14 ⟨Nat.zero_le _, Nat.zero_le _⟩) hS (fun q _ h => hFc q h) hFc (fun c0 u t_ H locs ht_ hvm_ hq hB_ _ _ hS => ?_)
    obtain ⟨p1, d1, t1⟩ := u
    obtain ⟨hP, -, hD⟩ := hB_
    rw [ht_] at hP
    have hD := hD.weaken (fun k q _ h => hFc q.1 h)
    have hP : va_P (dC, dI) vwCl (nw_yW ad ca (M) (sa) (ea) (nI (n)) (b1) (p1) (d1) (t1)) H := hP
    have hD : va_D A (nw_yW ad ca (M) (sa) (ea) (nI (n)) (b1) (p1) (d1) (t1)) := hD
    refine nw_as (y := ((nw_rn (nw_pp M) (nw_pl sa 0 5) (nw_w2 w n) (n + i)).2.1)) (hq) ?_
    refine lv_aload_n hx hb dX1_close_17 rfl (lv_at hl 0 rfl) ?_
    refine vp_callSi (va_Run.run (va_runV (As := []) (rest := [.int ((nw_rn (nw_pp M) (nw_pl sa 0 5) (nw_w2 w n) (n + i)).2.1)]) ⟨hx, hb, hml, hown, hts⟩ (metX1_endsOf l dC dI ad ca (M) (sa) (ea) (nI (n)) (b1) (p1) (d1) (t1)) (cwV 0 hts (lw_V q220 q222 qs10 q13 q223) rfl rfl rfl (by decide +kernel) ⟨Nat.le_of_ble_eq_true rfl, Nat.le_of_ble_eq_true rfl⟩) ⟨fun a U g mk q => ⟨q.1, nw_blindR q.2⟩, va_recv hK hP (ci := 1) (q0 := 0) rfl rfl, fun U hU hW => ⟨rfl, by rw [hU]; exact hP, va_K.moved hW.alike hK⟩⟩ rfl rfl hl.1 rfl (lv_room (Nat.le_of_ble_eq_true rfl)) dX1_close_18 ⟨Nat.zero_le _, Nat.zero_le _⟩)) (fun r_ hr_ => ?_)
    refine nw_as (y := (nw_pl ea 0 5)) (hr_) ?_
    refine lv_iand hx hb dX1_close_21 ?_
    refine lv_if_eq (tgt := 27) hx hb dX1_close_22 (by decide) (fun hz => ?_) (fun hz => ?_)
    · refine lv_iload_n hx hb dX1_close_27 rfl (lv_at hl 1 rfl) ?_
      refine lv_iconst (v := (nI (4))) hx hb dX1_close_28 (by decide) ?_
      refine lv_icmp_ge (tgt := 44) hx hb dX1_close_29 (by decide) (fun h4 => ?_) (fun h4 => ?_)
      · have h4 : 4 ≤ i := (nI_leI (by decide) (by omega)).mp h4
        refine lv_iinc (v := (nI (i + 1))) (lv' := [(1, .int (nI (i + 1))), (0, .ref (ad 0))]) hx hb dX1_close_44 hl (k := 1) rfl (nw_inc (i)) (by decide) rfl (fun ls hl => ?_)
        refine lv_goto (tgt := 2) hx hb dX1_close_47 (by decide) ?_
        exact ih _ _ _ ⟨b1, p1, d1, t1, hP, hD, hS, ⟨(nw_fd_z hz).trans hX.1, fun k h1 h2 => hX.2 k (by omega) h2⟩, lv_sub hl [1, 0] rfl⟩
      · have h4 : i < 4 := Nat.lt_of_not_le (fun h => h4 (nI_le h (by omega)))
        refine lv_aload_n hx hb dX1_close_32 rfl (lv_at hl 0 rfl) ?_
        refine va_get (D := (dC, dI)) (ci := 1) (v := .ref (ad 4)) (C := RX1) (T := TX1) (N := 8) hx hb hts in_X1 hown hK hP 0 rfl rfl 4 (by decide) (hts _ q140) (fun _ h9 => h9) rfl dX1_close_33 ?_
        refine lv_aload_n hx hb dX1_close_36 rfl (lv_at hl 0 rfl) ?_
        refine va_get (D := (dC, dI)) (ci := 1) (v := .int (nI (n))) (C := RX1) (T := TX1) (N := 8) hx hb hts in_X1 hown hK hP 0 rfl rfl 3 (by decide) (hts _ q139) (fun _ h9 => h9) rfl dX1_close_37 ?_
        refine lv_iload_n hx hb dX1_close_40 rfl (lv_at hl 1 rfl) ?_
        refine lv_iadd hx hb dX1_close_41 ?_
        refine nw_as (y := (nI (n + i))) (nI_add (n) (i)) ?_
        refine lv_iconst (v := (nI (2))) hx hb dX1_close_42 (by decide) ?_
        refine nw_iast hx hb hK hP hD hS 4 3 rfl rfl (j := n + i) (by omega) (by decide) dX1_close_43 (fun H locs hP hD hS => ?_)
        have hP : va_P (dC, dI) vwCl (nw_yW ad ca (M) (sa) (ea) (nI (n)) (upd (b1) (n + i) (nI (2))) (p1) (d1) (t1)) H := hP
        have hD : va_D A (nw_yW ad ca (M) (sa) (ea) (nI (n)) (upd (b1) (n + i) (nI (2))) (p1) (d1) (t1)) := hD
        refine lv_iinc (v := (nI (i + 1))) (lv' := [(1, .int (nI (i + 1))), (0, .ref (ad 0))]) hx hb dX1_close_44 hl (k := 1) rfl (nw_inc (i)) (by decide) rfl (fun ls hl => ?_)
        refine lv_goto (tgt := 2) hx hb dX1_close_47 (by decide) ?_
        exact ih _ _ _ ⟨upd (b1) (n + i) (nI (2)), p1, d1, t1, hP, hD, hS, ⟨(nw_fd_z hz).trans hX.1, fun k h1 h2 => by
            by_cases e : k = n + i
            · rw [e, pk_us, nw_w2_hi (by omega)]
            · rw [pk_un e]; exact hX.2 k (by omega) h2⟩, lv_sub hl [1, 0] rfl⟩
    · refine lv_iload_n hx hb dX1_close_25 rfl (lv_at hl 1 rfl) ?_
      exact W.iret (v := (nI (i))) hx hb hr (fun t ht hW => ⟨⟨_, (b1, p1, d1, t1), rfl, ⟨nw_fd_found hi hX.1 hz, (fun k hk => (hX.2 k (by omega) (by omega)).trans (by rw [nw_w2_lo hk]))⟩, ⟨by rw [ht]; exact hP, va_K.moved hW.alike hK, hD⟩⟩, hS.F ht⟩) hS.2.2 dX1_close_26
  · obtain ⟨b1, b2, b3, b4, hP, hD, hS, hX, hl⟩ := hI
    refine lv_iload_n hx hb dX1_close_2 rfl (lv_at hl 1 rfl) ?_
    refine lv_iconst (v := (nI (4))) hx hb dX1_close_3 (by decide) ?_
    refine lv_icmp_gt (tgt := 50) hx hb dX1_close_4 (by decide) (fun _ => ?_) (fun h => absurd (nI_lt (by decide) (by decide)) h)
    refine lv_iconst (v := (-1)) hx hb dX1_close_50 (by decide) ?_
    exact W.iret (v := (-1)) hx hb hr (fun t ht hW => ⟨⟨_, (b1, b2, b3, b4), rfl, ⟨hX.1.symm, (fun k hk => (hX.2 k (by omega) (by omega)).trans (by rw [nw_w2_lo hk]))⟩, ⟨by rw [ht]; exact hP, va_K.moved hW.alike hK, hD⟩⟩, hS.F ht⟩) hS.2.2 dX1_close_51
set_option maxHeartbeats 4000000 in
set_option maxRecDepth 100000 in
/-- read(letter): a letter that is read -/
theorem metX1_readG (l : Launch) (dC : Nat → ClassId) (dI : Nat → Nat → Nat) (ad : Nat → Nat) (ca : Nat → ClassId) (M sa ea : nw_F) (aw pt ld wt : nw_F) (w : Nat → Nat) (n : Nat) (hn : n ≤ 16) (hw : ∀ k, k < n → aw k = nI (w k)) (h6 : ∀ k, k < n → w k < 6) (hn2 : n < 16) (k : Nat) (hk : k < 6) (sz : Nat) : Met l yX1_read (ws_ yX1_read cX1_read 5 (some .int)) ({ frames := 4, cells := 0, slots := 0, locals := 104 }) (va_Pc [.ref (ad 0), .int (nI (k))] (fun U => U.heap.size = sz ∧ nw_XB dC dI (fun _ => True) (nw_yW ad ca (M) (sa) (ea) (nI (n)) (aw) (pt) (ld) (wt)) (nw_yT ca) U)) (va_Qi (fun (x : Int32) (u : nw_F × nw_F × nw_F) => x = nw_on (nw_rn (nw_pp M) (nw_pl sa 0 5) (nw_up w n k) (n + 1)).2.1 5) (fun (u : nw_F × nw_F × nw_F) t => nw_XB dC dI (va_A (nw_yW ad ca (M) (sa) (ea) (nI (n)) (aw) (pt) (ld) (wt)) sz) (nw_yW ad ca (M) (sa) (ea) (nI (n + 1)) (upd aw n (nI k)) (u.1) (u.2.1) (u.2.2)) (nw_yT ca) t) (va_A (nw_yW ad ca (M) (sa) (ea) (nI (n)) (aw) (pt) (ld) (wt)) sz)) 0 0 (va_A (nw_yW ad ca (M) (sa) (ea) (nI (n)) (aw) (pt) (ld) (wt)) sz) := by
  refine Met.ofW (cc := cX1_read) (maxL := 5) (ret := (some .int)) (by decide) rfl ?_
  intro p e s m args below meth c s₁ B hml hv
  obtain ⟨rfl, hsz, hP, hK, hD0⟩ := hv
  have hx := B.exec
  have hb := B.bytes
  have hr := B.returns
  have hts := atoms_spec (ws := ws_ yX1_read cX1_read 5 (some .int)) B.pre
  have hts : ∀ w ∈ lw_all, w.before _ s = true := fun w h => hts w (List.mem_cons_of_mem _ h)
  have hown : s.vm.findClass RX1 = some m.cls := findClass_of_methodNamed B.named
  have hlocks := B.notSynchronized
  subst hsz
  have hD := hD0.self (sz := s.heap.size)
  generalize hAe : va_A (nw_yW ad ca (M) (sa) (ea) (nI (n)) (aw) (pt) (ld) (wt)) s.heap.size = A at hD ⊢
  have hA : ∀ q : Nat, s.heap.size ≤ q → A q := fun q h => by rw [← hAe]; exact Or.inr h
  have hS : va_S A s.heap s.heap [] := va_S.rf
  have hP : va_P (dC, dI) vwCl (nw_yW ad ca (M) (sa) (ea) (nI (n)) (aw) (pt) (ld) (wt)) s.heap := hP
  have hl := lv_entry ([.ref (ad 0), .int (nI (k))]) (n := 5) (Nat.le_of_ble_eq_true rfl)
  rw [lg_entry_eq]
  generalize (lg_sl ([.ref (ad 0), .int (nI (k))]) ++ List.replicate (5 - (lg_sl ([.ref (ad 0), .int (nI (k))])).length) Slot.unset).toArray = ls at hl ⊢
  have hl : lv_has ls 5 [(0, .ref (ad 0)), (1, .int (nI (k)))] := hl
  refine lv_iload_n hx hb dX1_read_0 rfl (lv_at hl 1 rfl) ?_
  refine lv_if_lt (tgt := 18) hx hb dX1_read_1 (by decide) (fun h => absurd h (nI_pos (by omega))) (fun _ => ?_)
  refine lv_iload_n hx hb dX1_read_4 rfl (lv_at hl 1 rfl) ?_
  refine lv_iconst (v := (nI (5))) hx hb dX1_read_5 (by decide) ?_
  refine lv_icmp_gt (tgt := 18) hx hb dX1_read_6 (by decide) (fun h => absurd h (nI_nlt (by omega) (by decide))) (fun _ => ?_)
  refine lv_aload_n hx hb dX1_read_9 rfl (lv_at hl 0 rfl) ?_
  refine va_get (D := (dC, dI)) (ci := 1) (v := .int (nI (n))) (C := RX1) (T := TX1) (N := 8) hx hb hts in_X1 hown hK hP 0 rfl rfl 3 (by decide) (hts _ q139) (fun _ h9 => h9) rfl dX1_read_10 ?_
  refine lv_bipush (v := (nI (16))) hx hb dX1_read_13 (by decide) ?_
  refine lv_icmp_ne (tgt := 20) hx hb dX1_read_15 (by decide) (fun _ => ?_) (fun h => absurd h (fun h => absurd ((nI_eq (by omega) (by decide)).mp h) (by omega)))
  refine lv_aload_n hx hb dX1_read_20 rfl (lv_at hl 0 rfl) ?_
  refine va_get (D := (dC, dI)) (ci := 1) (v := .ref (ad 4)) (C := RX1) (T := TX1) (N := 8) hx hb hts in_X1 hown hK hP 0 rfl rfl 4 (by decide) (hts _ q140) (fun _ h9 => h9) rfl dX1_read_21 ?_
  refine lv_aload_n hx hb dX1_read_24 rfl (lv_at hl 0 rfl) ?_
  refine va_get (D := (dC, dI)) (ci := 1) (v := .int (nI (n))) (C := RX1) (T := TX1) (N := 8) hx hb hts in_X1 hown hK hP 0 rfl rfl 3 (by decide) (hts _ q139) (fun _ h9 => h9) rfl dX1_read_25 ?_
  refine lv_iload_n hx hb dX1_read_28 rfl (lv_at hl 1 rfl) ?_
  refine nw_iast hx hb hK hP hD hS 4 3 rfl rfl (j := n) (by omega) (by decide) dX1_read_29 (fun H locs hP hD hS => ?_)
  have hP : va_P (dC, dI) vwCl (nw_yW ad ca (M) (sa) (ea) (nI (n)) (upd (aw) (n) (nI (k))) (pt) (ld) (wt)) H := hP
  have hD : va_D A (nw_yW ad ca (M) (sa) (ea) (nI (n)) (upd (aw) (n) (nI (k))) (pt) (ld) (wt)) := hD
  refine lv_aload_n hx hb dX1_read_30 rfl (lv_at hl 0 rfl) ?_
  refine lv_dup hx hb dX1_read_31 rfl ?_
  refine va_get (D := (dC, dI)) (ci := 1) (v := .int (nI (n))) (C := RX1) (T := TX1) (N := 8) hx hb hts in_X1 hown hK hP 0 rfl rfl 3 (by decide) (hts _ q139) (fun _ h9 => h9) rfl dX1_read_32 ?_
  refine lv_iconst (v := (nI (1))) hx hb dX1_read_35 (by decide) ?_
  refine lv_iadd hx hb dX1_read_36 ?_
  refine nw_as (y := (nI (n + 1))) (nI_add (n) (1)) ?_
  refine va_put (D := (dC, dI)) (ci := 1) (v := .int (nI (n + 1))) (ty := .int) (C := RX1) (T := TX1) (N := 8) hx hb hts in_X1 tyX1 tyX1_ok nmX1 hown hK hP hD hS 0 rfl rfl 3 (by decide) (hts _ q139) (fun _ h9 => h9) rfl (by decide +kernel) rfl rfl (Nat.le_of_ble_eq_true rfl) dX1_read_37 (fun H locs hP hD hS => ?_)
  have hP : va_P (dC, dI) vwCl (nw_yW ad ca (M) (sa) (ea) (nI (n + 1)) (upd (aw) (n) (nI (k))) (pt) (ld) (wt)) H := hP
  have hD : va_D A (nw_yW ad ca (M) (sa) (ea) (nI (n + 1)) (upd (aw) (n) (nI (k))) (pt) (ld) (wt)) := hD
  refine lv_aload_n hx hb dX1_read_40 rfl (lv_at hl 0 rfl) ?_
  refine lv_aload_n hx hb dX1_read_41 rfl (lv_at hl 0 rfl) ?_
  refine va_get (D := (dC, dI)) (ci := 1) (v := .int (nI (n + 1))) (C := RX1) (T := TX1) (N := 8) hx hb hts in_X1 hown hK hP 0 rfl rfl 3 (by decide) (hts _ q139) (fun _ h9 => h9) rfl dX1_read_42 ?_
  have hFc := va_free (wc := nw_yW ad ca (M) (sa) (ea) (nI (n + 1)) (upd (aw) (n) (nI (k))) (pt) (ld) (wt)) hD hS hA [0, 1, 2, 3, 4, 5, 6, 7] rfl
  refine va_calli (va_runV (As := [.int (nI (n + 1))]) (rest := []) ⟨hx, hb, hml, hown, hts⟩ (metX1_liveAfter l dC dI ad ca (M) (sa) (ea) (nI (n + 1)) (upd (aw) (n) (nI (k))) (pt) (ld) (wt) (nw_up w n k) (n + 1) (by omega) (nw_upk hw) (nw_up6 h6 hk) H.size) (cwV 1 hts (lw_V q176 q178 qs5 q13 q179) rfl rfl rfl (by decide +kernel) ⟨Nat.le_of_ble_eq_true rfl, Nat.le_of_ble_eq_true rfl⟩) ⟨fun a U g mk q => ⟨q.1, q.2.1, nw_blind q.2.2⟩, va_recv hK hP (ci := 1) (q0 := 0) rfl rfl, fun U hU hW => ⟨rfl, by rw [hU], by rw [hU]; exact hP, va_K.moved hW.alike hK, hD.weaken (fun _ _ _ _ => trivial)⟩⟩ rfl rfl hl.1 rfl (lv_room (Nat.le_of_ble_eq_true rfl)) dX1_read_45 ⟨Nat.zero_le _, Nat.zero_le _⟩) hS (fun q _ h => hFc q h) hFc (fun c0 u t_ H locs ht_ hvm_ hq hB_ _ _ hS => ?_)
  obtain ⟨p1, d1, t1⟩ := u
  obtain ⟨hP, -, hD⟩ := hB_
  rw [ht_] at hP
  have hD := hD.weaken (fun k q _ h => hFc q.1 h)
  have hP : va_P (dC, dI) vwCl (nw_yW ad ca (M) (sa) (ea) (nI (n + 1)) (upd (aw) (n) (nI (k))) (p1) (d1) (t1)) H := hP
  have hD : va_D A (nw_yW ad ca (M) (sa) (ea) (nI (n + 1)) (upd (aw) (n) (nI (k))) (p1) (d1) (t1)) := hD
  refine nw_as (y := ((nw_rn (nw_pp M) (nw_pl sa 0 5) (nw_up w n k) (n + 1)).2.1)) (hq) ?_
  refine lv_istore_n (lv' := [(2, .int ((nw_rn (nw_pp M) (nw_pl sa 0 5) (nw_up w n k) (n + 1)).2.1)), (0, .ref (ad 0)), (1, .int (nI (k)))]) hx hb dX1_read_48 rfl hl (by decide) rfl (fun ls hl => ?_)
  refine lv_iconst (v := (nI (0))) hx hb dX1_read_49 (by decide) ?_
  refine lv_istore_n (lv' := [(3, .int (nI (0))), (2, .int ((nw_rn (nw_pp M) (nw_pl sa 0 5) (nw_up w n k) (n + 1)).2.1)), (0, .ref (ad 0)), (1, .int (nI (k)))]) hx hb dX1_read_50 rfl hl (by decide) rfl (fun ls hl => ?_)
  refine lv_iconst (v := (nI (0))) hx hb dX1_read_51 (by decide) ?_
  refine lv_istore (lv' := [(4, .int (nI (0))), (3, .int (nI (0))), (2, .int ((nw_rn (nw_pp M) (nw_pl sa 0 5) (nw_up w n k) (n + 1)).2.1)), (0, .ref (ad 0)), (1, .int (nI (k)))]) hx hb dX1_read_52 hl (by decide) rfl (fun ls hl => ?_)
  refine nw_loop 54 (fun i ls => lv_has ls 5 [(0, .ref (ad 0)), (2, .int ((nw_rn (nw_pp M) (nw_pl sa 0 5) (nw_up w n k) (n + 1)).2.1)), (3, .int (nw_on (nw_rn (nw_pp M) (nw_pl sa 0 5) (nw_up w n k) (n + 1)).2.1 (i))), (4, .int (nI (i)))]) 5 (lv_sub hl [3, 2, 1, 0] rfl) (fun i ls hi hl ih => ?_) (fun ls hl => ?_)
  · refine lv_iload hx hb dX1_read_54 (lv_at hl 3 rfl) ?_
    refine lv_iconst (v := (nI (5))) hx hb dX1_read_56 (by decide) ?_
    refine lv_icmp_ge (tgt := 75) hx hb dX1_read_57 (by decide) (fun h => absurd h (nI_ge hi (by decide))) (fun _ => ?_)
    refine lv_iload_n hx hb dX1_read_60 rfl (lv_at hl 2 rfl) ?_
    refine lv_iload_n hx hb dX1_read_61 rfl (lv_at hl 1 rfl) ?_
    refine lv_iload hx hb dX1_read_62 (lv_at hl 3 rfl) ?_
    refine lv_ishr hx hb dX1_read_64 ?_
    refine lv_iconst (v := ((1 : Int32))) hx hb dX1_read_65 (by decide) ?_
    refine lv_iand hx hb dX1_read_66 ?_
    refine lv_iadd hx hb dX1_read_67 ?_
    refine nw_as (y := (nw_on (nw_rn (nw_pp M) (nw_pl sa 0 5) (nw_up w n k) (n + 1)).2.1 (i + 1))) (nw_on_s2 _ i (by omega)) ?_
    refine lv_istore_n (lv' := [(3, .int (nw_on (nw_rn (nw_pp M) (nw_pl sa 0 5) (nw_up w n k) (n + 1)).2.1 (i + 1))), (0, .ref (ad 0)), (2, .int ((nw_rn (nw_pp M) (nw_pl sa 0 5) (nw_up w n k) (n + 1)).2.1)), (4, .int (nI (i)))]) hx hb dX1_read_68 rfl hl (by decide) rfl (fun ls hl => ?_)
    refine lv_iinc (v := (nI (i + 1))) (lv' := [(4, .int (nI (i + 1))), (3, .int (nw_on (nw_rn (nw_pp M) (nw_pl sa 0 5) (nw_up w n k) (n + 1)).2.1 (i + 1))), (0, .ref (ad 0)), (2, .int ((nw_rn (nw_pp M) (nw_pl sa 0 5) (nw_up w n k) (n + 1)).2.1))]) hx hb dX1_read_69 hl (k := 3) rfl (nw_inc (i)) (by decide) rfl (fun ls hl => ?_)
    refine lv_goto (tgt := 54) hx hb dX1_read_72 (by decide) ?_
    exact ih _ (lv_sub hl [2, 3, 1, 0] rfl)
  · refine lv_iload hx hb dX1_read_54 (lv_at hl 3 rfl) ?_
    refine lv_iconst (v := (nI (5))) hx hb dX1_read_56 (by decide) ?_
    refine lv_icmp_ge (tgt := 75) hx hb dX1_read_57 (by decide) (fun _ => ?_) (fun h => absurd (nI_le (Nat.le_refl 5) (by decide)) h)
    refine lv_iload_n hx hb dX1_read_75 rfl (lv_at hl 2 rfl) ?_
    exact W.iret (v := (nw_on (nw_rn (nw_pp M) (nw_pl sa 0 5) (nw_up w n k) (n + 1)).2.1 (5))) hx hb hr (fun t ht hW => ⟨⟨_, (p1, d1, t1), rfl, rfl, ⟨by rw [ht]; exact hP, va_K.moved hW.alike hK, hD⟩⟩, hS.F ht⟩) hS.2.2 dX1_read_76
set_option maxHeartbeats 4000000 in
set_option maxRecDepth 100000 in
/-- read(letter): refused -/
theorem metX1_readB (l : Launch) (dC : Nat → ClassId) (dI : Nat → Nat → Nat) (ad : Nat → Nat) (ca : Nat → ClassId) (M sa ea : nw_F) (n : Nat) (aw pt ld wt : nw_F) (hn : n ≤ 16) (x0 : Int32) (hbad : x0 < 0 ∨ 5 < x0 ∨ 16 ≤ n) : Met l yX1_read (ws_ yX1_read cX1_read 5 (some .int)) ({ frames := 4, cells := 0, slots := 0, locals := 104 }) (va_Pc [.ref (ad 0), .int (x0)] (nw_XR dC dI (nw_yW ad ca (M) (sa) (ea) (nI (n)) (aw) (pt) (ld) (wt)) (nw_yT ca))) (vp_Si (fun r => r = -1)) 0 0 (fun _ => False) := by
  refine Met.ofW (cc := cX1_read) (maxL := 5) (ret := (some .int)) (by decide) rfl ?_
  intro p e s m args below meth c s₁ B hml hv
  obtain ⟨rfl, hP, hK⟩ := hv
  have hx := B.exec
  have hb := B.bytes
  have hr := B.returns
  have hts := atoms_spec (ws := ws_ yX1_read cX1_read 5 (some .int)) B.pre
  have hts : ∀ w ∈ lw_all, w.before _ s = true := fun w h => hts w (List.mem_cons_of_mem _ h)
  have hown : s.vm.findClass RX1 = some m.cls := findClass_of_methodNamed B.named
  have hlocks := B.notSynchronized
  have hl := lv_entry ([.ref (ad 0), .int (x0)]) (n := 5) (Nat.le_of_ble_eq_true rfl)
  rw [lg_entry_eq]
  generalize (lg_sl ([.ref (ad 0), .int (x0)]) ++ List.replicate (5 - (lg_sl ([.ref (ad 0), .int (x0)])).length) Slot.unset).toArray = ls at hl ⊢
  have hl : lv_has ls 5 [(0, .ref (ad 0)), (1, .int (x0))] := hl
  refine lv_iload_n hx hb dX1_read_0 rfl (lv_at hl 1 rfl) ?_
  refine lv_if_lt (tgt := 18) hx hb dX1_read_1 (by decide) (fun h1 => ?_) (fun h1 => ?_)
  · refine lv_iconst (v := (-1)) hx hb dX1_read_18 (by decide) ?_
    exact W.iret hx hb hr (fun t ht hW => ⟨_, rfl, rfl, ht⟩) (fun q h => by cases h) dX1_read_19
  · refine lv_iload_n hx hb dX1_read_4 rfl (lv_at hl 1 rfl) ?_
    refine lv_iconst (v := ((5 : Int32))) hx hb dX1_read_5 (by decide) ?_
    refine lv_icmp_gt (tgt := 18) hx hb dX1_read_6 (by decide) (fun h2 => ?_) (fun h2 => ?_)
    · refine lv_iconst (v := (-1)) hx hb dX1_read_18 (by decide) ?_
      exact W.iret hx hb hr (fun t ht hW => ⟨_, rfl, rfl, ht⟩) (fun q h => by cases h) dX1_read_19
    · refine lv_aload_n hx hb dX1_read_9 rfl (lv_at hl 0 rfl) ?_
      refine va_get (D := (dC, dI)) (ci := 1) (v := .int (nI (n))) (C := RX1) (T := TX1) (N := 8) hx hb hts in_X1 hown hK hP 0 rfl rfl 3 (by decide) (hts _ q139) (fun _ h9 => h9) rfl dX1_read_10 ?_
      refine lv_bipush (v := (nI (16))) hx hb dX1_read_13 (by decide) ?_
      refine lv_icmp_ne (tgt := 20) hx hb dX1_read_15 (by decide) (fun h => absurd (congrArg nI (show n = 16 by
          rcases hbad with h | h | h
          · exact absurd h h1
          · exact absurd h h2
          · omega)) h) (fun _ => ?_)
      refine lv_iconst (v := (-1)) hx hb dX1_read_18 (by decide) ?_
      exact W.iret hx hb hr (fun t ht hW => ⟨_, rfl, rfl, ht⟩) (fun q h => by cases h) dX1_read_19
set_option maxHeartbeats 4000000 in
set_option maxRecDepth 100000 in
/-- back() on the empty word -/
theorem metX1_back0 (l : Launch) (dC : Nat → ClassId) (dI : Nat → Nat → Nat) (ad : Nat → Nat) (ca : Nat → ClassId) (M sa ea : nw_F) (aw pt ld wt : nw_F)  : Met l yX1_back (ws_ yX1_back cX1_back 1 (some .int)) ({ frames := 0, cells := 0, slots := 0, locals := 0 }) (va_Pc [.ref (ad 0)] (nw_XR dC dI (nw_yW ad ca (M) (sa) (ea) (nI (0)) (aw) (pt) (ld) (wt)) (nw_yT ca))) (vp_Si (fun r => r = -1)) 0 0 (fun _ => False) := by
  refine Met.ofW (cc := cX1_back) (maxL := 1) (ret := (some .int)) (by decide) rfl ?_
  intro p e s m args below meth c s₁ B hml hv
  obtain ⟨rfl, hP, hK⟩ := hv
  have hx := B.exec
  have hb := B.bytes
  have hr := B.returns
  have hts := atoms_spec (ws := ws_ yX1_back cX1_back 1 (some .int)) B.pre
  have hts : ∀ w ∈ lw_all, w.before _ s = true := fun w h => hts w (List.mem_cons_of_mem _ h)
  have hown : s.vm.findClass RX1 = some m.cls := findClass_of_methodNamed B.named
  have hlocks := B.notSynchronized
  have hl := lv_entry ([.ref (ad 0)]) (n := 1) (Nat.le_of_ble_eq_true rfl)
  rw [lg_entry_eq]
  generalize (lg_sl ([.ref (ad 0)]) ++ List.replicate (1 - (lg_sl ([.ref (ad 0)])).length) Slot.unset).toArray = ls at hl ⊢
  have hl : lv_has ls 1 [(0, .ref (ad 0))] := hl
  refine lv_aload_n hx hb dX1_back_0 rfl (lv_at hl 0 rfl) ?_
  refine va_get (D := (dC, dI)) (ci := 1) (v := .int (nI (0))) (C := RX1) (T := TX1) (N := 8) hx hb hts in_X1 hown hK hP 0 rfl rfl 3 (by decide) (hts _ q139) (fun _ h9 => h9) rfl dX1_back_1 ?_
  refine lv_if_ne (tgt := 9) hx hb dX1_back_4 (by decide) (fun h => absurd (nI_0) h) (fun _ => ?_)
  refine lv_iconst (v := (-1)) hx hb dX1_back_7 (by decide) ?_
  exact W.iret hx hb hr (fun t ht hW => ⟨_, rfl, rfl, ht⟩) (fun q h => by cases h) dX1_back_8
set_option maxHeartbeats 4000000 in
set_option maxRecDepth 100000 in
/-- back(): the last letter goes -/
theorem metX1_back1 (l : Launch) (dC : Nat → ClassId) (dI : Nat → Nat → Nat) (ad : Nat → Nat) (ca : Nat → ClassId) (M sa ea : nw_F) (aw pt ld wt : nw_F) (n : Nat) (hn : n < 16) (sz : Nat) : Met l yX1_back (ws_ yX1_back cX1_back 1 (some .int)) ({ frames := 0, cells := 0, slots := 0, locals := 0 }) (va_Pc [.ref (ad 0)] (fun U => U.heap.size = sz ∧ nw_XB dC dI (fun _ => True) (nw_yW ad ca (M) (sa) (ea) (nI (n + 1)) (aw) (pt) (ld) (wt)) (nw_yT ca) U)) (va_Qi (fun (x : Int32) (_ : Unit) => x = aw n) (fun (u : Unit) t => nw_XB dC dI (va_A (nw_yW ad ca (M) (sa) (ea) (nI (n + 1)) (aw) (pt) (ld) (wt)) sz) (nw_yW ad ca (M) (sa) (ea) (nI (n)) (aw) (pt) (ld) (wt)) (nw_yT ca) t) (va_A (nw_yW ad ca (M) (sa) (ea) (nI (n + 1)) (aw) (pt) (ld) (wt)) sz)) 0 0 (va_A (nw_yW ad ca (M) (sa) (ea) (nI (n + 1)) (aw) (pt) (ld) (wt)) sz) := by
  refine Met.ofW (cc := cX1_back) (maxL := 1) (ret := (some .int)) (by decide) rfl ?_
  intro p e s m args below meth c s₁ B hml hv
  obtain ⟨rfl, hsz, hP, hK, hD0⟩ := hv
  have hx := B.exec
  have hb := B.bytes
  have hr := B.returns
  have hts := atoms_spec (ws := ws_ yX1_back cX1_back 1 (some .int)) B.pre
  have hts : ∀ w ∈ lw_all, w.before _ s = true := fun w h => hts w (List.mem_cons_of_mem _ h)
  have hown : s.vm.findClass RX1 = some m.cls := findClass_of_methodNamed B.named
  have hlocks := B.notSynchronized
  subst hsz
  have hD := hD0.self (sz := s.heap.size)
  generalize hAe : va_A (nw_yW ad ca (M) (sa) (ea) (nI (n + 1)) (aw) (pt) (ld) (wt)) s.heap.size = A at hD ⊢
  have hA : ∀ q : Nat, s.heap.size ≤ q → A q := fun q h => by rw [← hAe]; exact Or.inr h
  have hS : va_S A s.heap s.heap [] := va_S.rf
  have hP : va_P (dC, dI) vwCl (nw_yW ad ca (M) (sa) (ea) (nI (n + 1)) (aw) (pt) (ld) (wt)) s.heap := hP
  have hl := lv_entry ([.ref (ad 0)]) (n := 1) (Nat.le_of_ble_eq_true rfl)
  rw [lg_entry_eq]
  generalize (lg_sl ([.ref (ad 0)]) ++ List.replicate (1 - (lg_sl ([.ref (ad 0)])).length) Slot.unset).toArray = ls at hl ⊢
  have hl : lv_has ls 1 [(0, .ref (ad 0))] := hl
  refine lv_aload_n hx hb dX1_back_0 rfl (lv_at hl 0 rfl) ?_
  refine va_get (D := (dC, dI)) (ci := 1) (v := .int (nI (n + 1))) (C := RX1) (T := TX1) (N := 8) hx hb hts in_X1 hown hK hP 0 rfl rfl 3 (by decide) (hts _ q139) (fun _ h9 => h9) rfl dX1_back_1 ?_
  refine lv_if_ne (tgt := 9) hx hb dX1_back_4 (by decide) (fun _ => ?_) (fun h => absurd h (nI_ne0 (by omega) (by omega)))
  refine lv_aload_n hx hb dX1_back_9 rfl (lv_at hl 0 rfl) ?_
  refine lv_dup hx hb dX1_back_10 rfl ?_
  refine va_get (D := (dC, dI)) (ci := 1) (v := .int (nI (n + 1))) (C := RX1) (T := TX1) (N := 8) hx hb hts in_X1 hown hK hP 0 rfl rfl 3 (by decide) (hts _ q139) (fun _ h9 => h9) rfl dX1_back_11 ?_
  refine lv_iconst (v := (nI (1))) hx hb dX1_back_14 (by decide) ?_
  refine lv_isub hx hb dX1_back_15 ?_
  refine nw_as (y := (nI ((n + 1) - 1))) (pk_sub (a := n + 1) (b := 1) (by omega)) ?_
  refine nw_as (y := (nI (n))) (rfl) ?_
  refine va_put (D := (dC, dI)) (ci := 1) (v := .int (nI (n))) (ty := .int) (C := RX1) (T := TX1) (N := 8) hx hb hts in_X1 tyX1 tyX1_ok nmX1 hown hK hP hD hS 0 rfl rfl 3 (by decide) (hts _ q139) (fun _ h9 => h9) rfl (by decide +kernel) rfl rfl (Nat.le_of_ble_eq_true rfl) dX1_back_16 (fun H locs hP hD hS => ?_)
  have hP : va_P (dC, dI) vwCl (nw_yW ad ca (M) (sa) (ea) (nI (n)) (aw) (pt) (ld) (wt)) H := hP
  have hD : va_D A (nw_yW ad ca (M) (sa) (ea) (nI (n)) (aw) (pt) (ld) (wt)) := hD
  refine lv_aload_n hx hb dX1_back_19 rfl (lv_at hl 0 rfl) ?_
  refine va_get (D := (dC, dI)) (ci := 1) (v := .ref (ad 4)) (C := RX1) (T := TX1) (N := 8) hx hb hts in_X1 hown hK hP 0 rfl rfl 4 (by decide) (hts _ q140) (fun _ h9 => h9) rfl dX1_back_20 ?_
  refine lv_aload_n hx hb dX1_back_23 rfl (lv_at hl 0 rfl) ?_
  refine va_get (D := (dC, dI)) (ci := 1) (v := .int (nI (n))) (C := RX1) (T := TX1) (N := 8) hx hb hts in_X1 hown hK hP 0 rfl rfl 3 (by decide) (hts _ q139) (fun _ h9 => h9) rfl dX1_back_24 ?_
  refine nw_iald hx hb hK hP 4 3 rfl rfl (j := n) (by omega) (by decide) dX1_back_27 ?_
  exact W.iret (v := (aw (n))) hx hb hr (fun t ht hW => ⟨⟨_, (), rfl, rfl, ⟨by rw [ht]; exact hP, va_K.moved hW.alike hK, hD⟩⟩, hS.F ht⟩) hS.2.2 dX1_back_28
set_option maxHeartbeats 4000000 in
set_option maxRecDepth 100000 in
/-- erase() -/
theorem metX1_erase (l : Launch) (dC : Nat → ClassId) (dI : Nat → Nat → Nat) (ad : Nat → Nat) (ca : Nat → ClassId) (M sa ea : nw_F) (aw pt ld wt : nw_F) (ln : Int32) (sz : Nat) : Met l yX1_erase (ws_ yX1_erase cX1_erase 1 none) ({ frames := 0, cells := 0, slots := 0, locals := 0 }) (va_Pc [.ref (ad 0)] (fun U => U.heap.size = sz ∧ nw_XB dC dI (fun _ => True) (nw_yW ad ca (M) (sa) (ea) (ln) (aw) (pt) (ld) (wt)) (nw_yT ca) U)) (va_Qv (fun (_ : Unit) => True) (fun (u : Unit) t => nw_XB dC dI (va_A (nw_yW ad ca (M) (sa) (ea) (ln) (aw) (pt) (ld) (wt)) sz) (nw_yW ad ca (M) (sa) (ea) (nI (0)) (aw) (pt) (ld) (wt)) (nw_yT ca) t) (va_A (nw_yW ad ca (M) (sa) (ea) (ln) (aw) (pt) (ld) (wt)) sz)) 0 0 (va_A (nw_yW ad ca (M) (sa) (ea) (ln) (aw) (pt) (ld) (wt)) sz) := by
  refine Met.ofW (cc := cX1_erase) (maxL := 1) (ret := none) (by decide) rfl ?_
  intro p e s m args below meth c s₁ B hml hv
  obtain ⟨rfl, hsz, hP, hK, hD0⟩ := hv
  have hx := B.exec
  have hb := B.bytes
  have hr := B.returns
  have hts := atoms_spec (ws := ws_ yX1_erase cX1_erase 1 none) B.pre
  have hts : ∀ w ∈ lw_all, w.before _ s = true := fun w h => hts w (List.mem_cons_of_mem _ h)
  have hown : s.vm.findClass RX1 = some m.cls := findClass_of_methodNamed B.named
  have hlocks := B.notSynchronized
  subst hsz
  have hD := hD0.self (sz := s.heap.size)
  generalize hAe : va_A (nw_yW ad ca (M) (sa) (ea) (ln) (aw) (pt) (ld) (wt)) s.heap.size = A at hD ⊢
  have hA : ∀ q : Nat, s.heap.size ≤ q → A q := fun q h => by rw [← hAe]; exact Or.inr h
  have hS : va_S A s.heap s.heap [] := va_S.rf
  have hP : va_P (dC, dI) vwCl (nw_yW ad ca (M) (sa) (ea) (ln) (aw) (pt) (ld) (wt)) s.heap := hP
  have hl := lv_entry ([.ref (ad 0)]) (n := 1) (Nat.le_of_ble_eq_true rfl)
  rw [lg_entry_eq]
  generalize (lg_sl ([.ref (ad 0)]) ++ List.replicate (1 - (lg_sl ([.ref (ad 0)])).length) Slot.unset).toArray = ls at hl ⊢
  have hl : lv_has ls 1 [(0, .ref (ad 0))] := hl
  refine lv_aload_n hx hb dX1_erase_0 rfl (lv_at hl 0 rfl) ?_
  refine lv_iconst (v := (nI (0))) hx hb dX1_erase_1 (by decide) ?_
  refine va_put (D := (dC, dI)) (ci := 1) (v := .int (nI (0))) (ty := .int) (C := RX1) (T := TX1) (N := 8) hx hb hts in_X1 tyX1 tyX1_ok nmX1 hown hK hP hD hS 0 rfl rfl 3 (by decide) (hts _ q139) (fun _ h9 => h9) rfl (by decide +kernel) rfl rfl (Nat.le_of_ble_eq_true rfl) dX1_erase_2 (fun H locs hP hD hS => ?_)
  have hP : va_P (dC, dI) vwCl (nw_yW ad ca (M) (sa) (ea) (nI (0)) (aw) (pt) (ld) (wt)) H := hP
  have hD : va_D A (nw_yW ad ca (M) (sa) (ea) (nI (0)) (aw) (pt) (ld) (wt)) := hD
  exact W.vret hx hb hr (fun t ht hW => ⟨⟨(), rfl, trivial, ⟨by rw [ht]; exact hP, va_K.moved hW.alike hK, hD⟩⟩, hS.F ht⟩) hS.2.2 dX1_erase_5
set_option maxHeartbeats 4000000 in
set_option maxRecDepth 100000 in
/-- move: refused -/
theorem metX1_moveB (l : Launch) (dC : Nat → ClassId) (dI : Nat → Nat → Nat) (ad : Nat → Nat) (ca : Nat → ClassId) (M sa ea : nw_F) (ln : Int32) (aw pt ld wt : nw_F) (q0 k0 r0 x0 o0 : Int32) (hbad : ¬ nw_mok q0 k0 r0 x0) : Met l yX1_move (ws_ yX1_move cX1_move 8 (some .int)) ({ frames := 1, cells := 0, slots := 0, locals := 20 }) (va_Pc [.ref (ad 0), .int (q0), .int (k0), .int (r0), .int (x0), .int (o0)] (nw_XR dC dI (nw_yW ad ca (M) (sa) (ea) (ln) (aw) (pt) (ld) (wt)) (nw_yT ca))) (vp_Si (fun r => r = -1)) 0 0 (fun _ => False) := by
  refine Met.ofW (cc := cX1_move) (maxL := 8) (ret := (some .int)) (by decide) rfl ?_
  intro p e s m args below meth c s₁ B hml hv
  obtain ⟨rfl, hP, hK⟩ := hv
  have hx := B.exec
  have hb := B.bytes
  have hr := B.returns
  have hts := atoms_spec (ws := ws_ yX1_move cX1_move 8 (some .int)) B.pre
  have hts : ∀ w ∈ lw_all, w.before _ s = true := fun w h => hts w (List.mem_cons_of_mem _ h)
  have hown : s.vm.findClass RX1 = some m.cls := findClass_of_methodNamed B.named
  have hlocks := B.notSynchronized
  have hl := lv_entry ([.ref (ad 0), .int (q0), .int (k0), .int (r0), .int (x0), .int (o0)]) (n := 8) (Nat.le_of_ble_eq_true rfl)
  rw [lg_entry_eq]
  generalize (lg_sl ([.ref (ad 0), .int (q0), .int (k0), .int (r0), .int (x0), .int (o0)]) ++ List.replicate (8 - (lg_sl ([.ref (ad 0), .int (q0), .int (k0), .int (r0), .int (x0), .int (o0)])).length) Slot.unset).toArray = ls at hl ⊢
  have hl : lv_has ls 8 [(0, .ref (ad 0)), (1, .int (q0)), (2, .int (k0)), (3, .int (r0)), (4, .int (x0)), (5, .int (o0))] := hl
  refine lv_iload_n hx hb dX1_move_0 rfl (lv_at hl 1 rfl) ?_
  refine vp_callSi (va_Run.run (va_runS (As := [.int (q0)]) (rest := []) ⟨hx, hb, hml, hown, hts⟩ (metX1_bad l (q0)) (va_cwS 1 hts (lw_S q165 q166 q13 q167) rfl rfl rfl (by decide +kernel) ⟨Nat.le_of_ble_eq_true rfl, Nat.le_of_ble_eq_true rfl⟩) ⟨fun a U g mk q => q, fun U hU hW => ⟨rfl, trivial⟩⟩ rfl rfl hl.1 rfl (lv_room (Nat.le_of_ble_eq_true rfl)) dX1_move_1 ⟨Nat.zero_le _, Nat.zero_le _⟩)) (fun s1 hs1 => ?_)
  refine lv_if_ne (tgt := 23) hx hb dX1_move_4 (by decide) (fun g1 => ?_) (fun g1 => ?_)
  · refine lv_iconst (v := (-1)) hx hb dX1_move_23 (by decide) ?_
    exact W.iret hx hb hr (fun t ht hW => ⟨_, rfl, rfl, ht⟩) (fun q h => by cases h) dX1_move_24
  · refine lv_iload_n hx hb dX1_move_7 rfl (lv_at hl 3 rfl) ?_
    refine vp_callSi (va_Run.run (va_runS (As := [.int (r0)]) (rest := []) ⟨hx, hb, hml, hown, hts⟩ (metX1_bad l (r0)) (va_cwS 1 hts (lw_S q165 q166 q13 q167) rfl rfl rfl (by decide +kernel) ⟨Nat.le_of_ble_eq_true rfl, Nat.le_of_ble_eq_true rfl⟩) ⟨fun a U g mk q => q, fun U hU hW => ⟨rfl, trivial⟩⟩ rfl rfl hl.1 rfl (lv_room (Nat.le_of_ble_eq_true rfl)) dX1_move_8 ⟨Nat.zero_le _, Nat.zero_le _⟩)) (fun s2 hs2 => ?_)
    refine lv_if_ne (tgt := 23) hx hb dX1_move_11 (by decide) (fun g2 => ?_) (fun g2 => ?_)
    · refine lv_iconst (v := (-1)) hx hb dX1_move_23 (by decide) ?_
      exact W.iret hx hb hr (fun t ht hW => ⟨_, rfl, rfl, ht⟩) (fun q h => by cases h) dX1_move_24
    · refine lv_iload_n hx hb dX1_move_14 rfl (lv_at hl 2 rfl) ?_
      refine lv_if_lt (tgt := 23) hx hb dX1_move_15 (by decide) (fun g3 => ?_) (fun g3 => ?_)
      · refine lv_iconst (v := (-1)) hx hb dX1_move_23 (by decide) ?_
        exact W.iret hx hb hr (fun t ht hW => ⟨_, rfl, rfl, ht⟩) (fun q h => by cases h) dX1_move_24
      · refine lv_iload_n hx hb dX1_move_18 rfl (lv_at hl 2 rfl) ?_
        refine lv_iconst (v := ((5 : Int32))) hx hb dX1_move_19 (by decide) ?_
        refine lv_icmp_le (tgt := 25) hx hb dX1_move_20 (by decide) (fun g4 => ?_) (fun g4 => ?_)
        · refine lv_iload_n hx hb dX1_move_25 rfl (lv_at hl 2 rfl) ?_
          refine lv_iconst (v := ((4 : Int32))) hx hb dX1_move_26 (by decide) ?_
          refine lv_icmp_ge (tgt := 52) hx hb dX1_move_27 (by decide) (fun g5 => ?_) (fun g5 => ?_)
          · exact absurd ⟨nw_bd0 hs1 g1, nw_bd0 hs2 g2, ⟨Int32.not_lt.mp g3, g4⟩, fun h => absurd g5 (Int32.not_le.mpr h)⟩ hbad
          · refine lv_iload hx hb dX1_move_30 (lv_at hl 4 rfl) ?_
            refine lv_if_lt (tgt := 50) hx hb dX1_move_32 (by decide) (fun g6 => ?_) (fun g6 => ?_)
            · refine lv_iconst (v := (-1)) hx hb dX1_move_50 (by decide) ?_
              exact W.iret hx hb hr (fun t ht hW => ⟨_, rfl, rfl, ht⟩) (fun q h => by cases h) dX1_move_51
            · refine lv_iload hx hb dX1_move_35 (lv_at hl 4 rfl) ?_
              refine lv_iload_n hx hb dX1_move_37 rfl (lv_at hl 2 rfl) ?_
              refine lv_iconst (v := ((2 : Int32))) hx hb dX1_move_38 (by decide) ?_
              refine lv_icmp_ge (tgt := 46) hx hb dX1_move_39 (by decide) (fun g7 => ?_) (fun g7 => ?_)
              · refine lv_iconst (v := ((3 : Int32))) hx hb dX1_move_46 (by decide) ?_
                refine lv_icmp_le (tgt := 52) hx hb dX1_move_47 (by decide) (fun g8 => ?_) (fun g8 => ?_)
                · exact absurd ⟨nw_bd0 hs1 g1, nw_bd0 hs2 g2, ⟨Int32.not_lt.mp g3, g4⟩, fun _ => ⟨Int32.not_lt.mp g6, by rw [if_neg (Int32.not_lt.mpr g7)]; exact g8⟩⟩ hbad
                · refine lv_iconst (v := (-1)) hx hb dX1_move_50 (by decide) ?_
                  exact W.iret hx hb hr (fun t ht hW => ⟨_, rfl, rfl, ht⟩) (fun q h => by cases h) dX1_move_51
              · refine lv_iconst (v := ((2 : Int32))) hx hb dX1_move_42 (by decide) ?_
                refine lv_goto (tgt := 47) hx hb dX1_move_43 (by decide) ?_
                refine lv_icmp_le (tgt := 52) hx hb dX1_move_47 (by decide) (fun g8 => ?_) (fun g8 => ?_)
                · exact absurd ⟨nw_bd0 hs1 g1, nw_bd0 hs2 g2, ⟨Int32.not_lt.mp g3, g4⟩, fun _ => ⟨Int32.not_lt.mp g6, by rw [if_pos (Int32.not_le.mp g7)]; exact g8⟩⟩ hbad
                · refine lv_iconst (v := (-1)) hx hb dX1_move_50 (by decide) ?_
                  exact W.iret hx hb hr (fun t ht hW => ⟨_, rfl, rfl, ht⟩) (fun q h => by cases h) dX1_move_51
        · refine lv_iconst (v := (-1)) hx hb dX1_move_23 (by decide) ?_
          exact W.iret hx hb hr (fun t ht hW => ⟨_, rfl, rfl, ht⟩) (fun q h => by cases h) dX1_move_24
set_option maxHeartbeats 4000000 in
set_option maxRecDepth 100000 in
/-- move: a plain letter -/
theorem metX1_moveL (l : Launch) (dC : Nat → ClassId) (dI : Nat → Nat → Nat) (ad : Nat → Nat) (ca : Nat → ClassId) (M sa ea : nw_F) (aw pt ld wt : nw_F) (n : Nat) (q k r : Nat) (hq : q < 5) (hk : 4 ≤ k) (hk2 : k < 6) (hr5 : r < 5) (x0 o0 : Int32) (sz : Nat) : Met l yX1_move (ws_ yX1_move cX1_move 8 (some .int)) ({ frames := 1, cells := 0, slots := 0, locals := 20 }) (va_Pc [.ref (ad 0), .int (nI (q)), .int (nI (k)), .int (nI (r)), .int (x0), .int (o0)] (fun U => U.heap.size = sz ∧ nw_XB dC dI (fun _ => True) (nw_yW ad ca (M) (sa) (ea) (nI (n)) (aw) (pt) (ld) (wt)) (nw_yT ca) U)) (va_Qi (fun (x : Int32) (_ : Unit) => x = (if M (120 * q + 20 * k + 4 * r) = 0 then 0 else 1)) (fun (u : Unit) t => nw_XB dC dI (va_A (nw_yW ad ca (M) (sa) (ea) (nI (n)) (aw) (pt) (ld) (wt)) sz) (nw_yW ad ca (upd M (120 * q + 20 * k + 4 * r) (vp_nar .boolean o0)) (sa) (ea) (nI (n)) (aw) (pt) (ld) (wt)) (nw_yT ca) t) (va_A (nw_yW ad ca (M) (sa) (ea) (nI (n)) (aw) (pt) (ld) (wt)) sz)) 0 0 (va_A (nw_yW ad ca (M) (sa) (ea) (nI (n)) (aw) (pt) (ld) (wt)) sz) := by
  refine Met.ofW (cc := cX1_move) (maxL := 8) (ret := (some .int)) (by decide) rfl ?_
  intro p e s m args below meth c s₁ B hml hv
  obtain ⟨rfl, hsz, hP, hK, hD0⟩ := hv
  have hx := B.exec
  have hb := B.bytes
  have hr := B.returns
  have hts := atoms_spec (ws := ws_ yX1_move cX1_move 8 (some .int)) B.pre
  have hts : ∀ w ∈ lw_all, w.before _ s = true := fun w h => hts w (List.mem_cons_of_mem _ h)
  have hown : s.vm.findClass RX1 = some m.cls := findClass_of_methodNamed B.named
  have hlocks := B.notSynchronized
  subst hsz
  have hD := hD0.self (sz := s.heap.size)
  generalize hAe : va_A (nw_yW ad ca (M) (sa) (ea) (nI (n)) (aw) (pt) (ld) (wt)) s.heap.size = A at hD ⊢
  have hA : ∀ q : Nat, s.heap.size ≤ q → A q := fun q h => by rw [← hAe]; exact Or.inr h
  have hS : va_S A s.heap s.heap [] := va_S.rf
  have hP : va_P (dC, dI) vwCl (nw_yW ad ca (M) (sa) (ea) (nI (n)) (aw) (pt) (ld) (wt)) s.heap := hP
  have hl := lv_entry ([.ref (ad 0), .int (nI (q)), .int (nI (k)), .int (nI (r)), .int (x0), .int (o0)]) (n := 8) (Nat.le_of_ble_eq_true rfl)
  rw [lg_entry_eq]
  generalize (lg_sl ([.ref (ad 0), .int (nI (q)), .int (nI (k)), .int (nI (r)), .int (x0), .int (o0)]) ++ List.replicate (8 - (lg_sl ([.ref (ad 0), .int (nI (q)), .int (nI (k)), .int (nI (r)), .int (x0), .int (o0)])).length) Slot.unset).toArray = ls at hl ⊢
  have hl : lv_has ls 8 [(0, .ref (ad 0)), (1, .int (nI (q))), (2, .int (nI (k))), (3, .int (nI (r))), (4, .int (x0)), (5, .int (o0))] := hl
  refine lv_iload_n hx hb dX1_move_0 rfl (lv_at hl 1 rfl) ?_
  refine vp_callSi (va_Run.run (va_runS (As := [.int (nI (q))]) (rest := []) ⟨hx, hb, hml, hown, hts⟩ (metX1_bad l (nI (q))) (va_cwS 1 hts (lw_S q165 q166 q13 q167) rfl rfl rfl (by decide +kernel) ⟨Nat.le_of_ble_eq_true rfl, Nat.le_of_ble_eq_true rfl⟩) ⟨fun a U g mk q => q, fun U hU hW => ⟨rfl, trivial⟩⟩ rfl rfl hl.1 rfl (lv_room (Nat.le_of_ble_eq_true rfl)) dX1_move_1 ⟨Nat.zero_le _, Nat.zero_le _⟩)) (fun r_ hr_ => ?_)
  refine nw_as (y := ((0 : Int32))) (hr_.trans (if_pos (nw_st5 hq))) ?_
  refine lv_if_ne (tgt := 23) hx hb dX1_move_4 (by decide) (fun h => absurd (rfl) h) (fun _ => ?_)
  refine lv_iload_n hx hb dX1_move_7 rfl (lv_at hl 3 rfl) ?_
  refine vp_callSi (va_Run.run (va_runS (As := [.int (nI (r))]) (rest := []) ⟨hx, hb, hml, hown, hts⟩ (metX1_bad l (nI (r))) (va_cwS 1 hts (lw_S q165 q166 q13 q167) rfl rfl rfl (by decide +kernel) ⟨Nat.le_of_ble_eq_true rfl, Nat.le_of_ble_eq_true rfl⟩) ⟨fun a U g mk q => q, fun U hU hW => ⟨rfl, trivial⟩⟩ rfl rfl hl.1 rfl (lv_room (Nat.le_of_ble_eq_true rfl)) dX1_move_8 ⟨Nat.zero_le _, Nat.zero_le _⟩)) (fun r_ hr_ => ?_)
  refine nw_as (y := ((0 : Int32))) (hr_.trans (if_pos (nw_st5 hr5))) ?_
  refine lv_if_ne (tgt := 23) hx hb dX1_move_11 (by decide) (fun h => absurd (rfl) h) (fun _ => ?_)
  refine lv_iload_n hx hb dX1_move_14 rfl (lv_at hl 2 rfl) ?_
  refine lv_if_lt (tgt := 23) hx hb dX1_move_15 (by decide) (fun h => absurd h (nI_pos (by omega))) (fun _ => ?_)
  refine lv_iload_n hx hb dX1_move_18 rfl (lv_at hl 2 rfl) ?_
  refine lv_iconst (v := (nI (5))) hx hb dX1_move_19 (by decide) ?_
  refine lv_icmp_le (tgt := 25) hx hb dX1_move_20 (by decide) (fun _ => ?_) (fun h => absurd (nI_le (by omega) (by decide)) h)
  refine lv_iload_n hx hb dX1_move_25 rfl (lv_at hl 2 rfl) ?_
  refine lv_iconst (v := (nI (4))) hx hb dX1_move_26 (by decide) ?_
  refine lv_icmp_ge (tgt := 52) hx hb dX1_move_27 (by decide) (fun _ => ?_) (fun h => absurd (nI_le hk (by omega)) h)
  refine lv_bipush (v := (nI (120))) hx hb dX1_move_52 (by decide) ?_
  refine lv_iload_n hx hb dX1_move_54 rfl (lv_at hl 1 rfl) ?_
  refine lv_imul hx hb dX1_move_55 ?_
  refine nw_as (y := (nI (120 * q))) (pk_mul (120) (q)) ?_
  refine lv_bipush (v := (nI (20))) hx hb dX1_move_56 (by decide) ?_
  refine lv_iload_n hx hb dX1_move_58 rfl (lv_at hl 2 rfl) ?_
  refine lv_imul hx hb dX1_move_59 ?_
  refine nw_as (y := (nI (20 * k))) (pk_mul (20) (k)) ?_
  refine lv_iadd hx hb dX1_move_60 ?_
  refine nw_as (y := (nI ((120 * q) + (20 * k)))) (nI_add (120 * q) (20 * k)) ?_
  refine lv_iconst (v := (nI (4))) hx hb dX1_move_61 (by decide) ?_
  refine lv_iload_n hx hb dX1_move_62 rfl (lv_at hl 3 rfl) ?_
  refine lv_imul hx hb dX1_move_63 ?_
  refine nw_as (y := (nI (4 * r))) (pk_mul (4) (r)) ?_
  refine lv_iadd hx hb dX1_move_64 ?_
  refine nw_as (y := (nI (((120 * q) + (20 * k)) + (4 * r)))) (nI_add ((120 * q) + (20 * k)) (4 * r)) ?_
  refine lv_iload_n hx hb dX1_move_65 rfl (lv_at hl 2 rfl) ?_
  refine lv_iconst (v := (nI (4))) hx hb dX1_move_66 (by decide) ?_
  refine lv_icmp_ge (tgt := 75) hx hb dX1_move_67 (by decide) (fun _ => ?_) (fun h => absurd (nI_le hk (by omega)) h)
  refine lv_iconst (v := (nI (0))) hx hb dX1_move_75 (by decide) ?_
  refine lv_iadd hx hb dX1_move_76 ?_
  refine nw_as (y := (nI ((((120 * q) + (20 * k)) + (4 * r)) + 0))) (nI_add (((120 * q) + (20 * k)) + (4 * r)) (0)) ?_
  refine nw_as (y := (nI (120 * q + 20 * k + 4 * r))) (rfl) ?_
  refine lv_istore (lv' := [(6, .int (nI (120 * q + 20 * k + 4 * r))), (0, .ref (ad 0)), (1, .int (nI (q))), (2, .int (nI (k))), (3, .int (nI (r))), (4, .int (x0)), (5, .int (o0))]) hx hb dX1_move_77 hl (by decide) rfl (fun ls hl => ?_)
  refine lv_aload_n hx hb dX1_move_79 rfl (lv_at hl 1 rfl) ?_
  refine va_get (D := (dC, dI)) (ci := 1) (v := .ref (ad 1)) (C := RX1) (T := TX1) (N := 8) hx hb hts in_X1 hown hK hP 0 rfl rfl 0 (by decide) (hts _ q136) (fun _ h9 => h9) rfl dX1_move_80 ?_
  refine lv_iload hx hb dX1_move_83 (lv_at hl 0 rfl) ?_
  refine nw_zald hx hb hK hP 1 0 rfl rfl (j := 120 * q + 20 * k + 4 * r) (by omega) (by decide) dX1_move_85 ?_
  refine lv_istore (lv' := [(7, .int (M (120 * q + 20 * k + 4 * r))), (6, .int (nI (120 * q + 20 * k + 4 * r))), (0, .ref (ad 0)), (1, .int (nI (q))), (2, .int (nI (k))), (3, .int (nI (r))), (4, .int (x0)), (5, .int (o0))]) hx hb dX1_move_86 hl (by decide) rfl (fun ls hl => ?_)
  refine lv_aload_n hx hb dX1_move_88 rfl (lv_at hl 2 rfl) ?_
  refine va_get (D := (dC, dI)) (ci := 1) (v := .ref (ad 1)) (C := RX1) (T := TX1) (N := 8) hx hb hts in_X1 hown hK hP 0 rfl rfl 0 (by decide) (hts _ q136) (fun _ h9 => h9) rfl dX1_move_89 ?_
  refine lv_iload hx hb dX1_move_92 (lv_at hl 1 rfl) ?_
  refine lv_iload hx hb dX1_move_94 (lv_at hl 7 rfl) ?_
  refine nw_zast hx hb hK hP hD hS 1 0 rfl rfl (j := 120 * q + 20 * k + 4 * r) (by omega) (by decide) dX1_move_96 (fun H locs hP hD hS => ?_)
  have hP : va_P (dC, dI) vwCl (nw_yW ad ca (upd (M) (120 * q + 20 * k + 4 * r) (vp_nar .boolean (o0))) (sa) (ea) (nI (n)) (aw) (pt) (ld) (wt)) H := hP
  have hD : va_D A (nw_yW ad ca (upd (M) (120 * q + 20 * k + 4 * r) (vp_nar .boolean (o0))) (sa) (ea) (nI (n)) (aw) (pt) (ld) (wt)) := hD
  refine lv_iload hx hb dX1_move_97 (lv_at hl 0 rfl) ?_
  refine lv_if_eq (tgt := 106) hx hb dX1_move_99 (by decide) (fun hz => ?_) (fun hz => ?_)
  · refine lv_iconst (v := ((0 : Int32))) hx hb dX1_move_106 (by decide) ?_
    exact W.iret (v := ((0 : Int32))) hx hb hr (fun t ht hW => ⟨⟨_, (), rfl, (if_pos hz).symm, ⟨by rw [ht]; exact hP, va_K.moved hW.alike hK, hD⟩⟩, hS.F ht⟩) hS.2.2 dX1_move_107
  · refine lv_iconst (v := ((1 : Int32))) hx hb dX1_move_102 (by decide) ?_
    refine lv_goto (tgt := 107) hx hb dX1_move_103 (by decide) ?_
    exact W.iret (v := ((1 : Int32))) hx hb hr (fun t ht hW => ⟨⟨_, (), rfl, (if_neg hz).symm, ⟨by rw [ht]; exact hP, va_K.moved hW.alike hK, hD⟩⟩, hS.F ht⟩) hS.2.2 dX1_move_107
set_option maxHeartbeats 4000000 in
set_option maxRecDepth 100000 in
/-- move: a letter with a mark -/
theorem metX1_moveS (l : Launch) (dC : Nat → ClassId) (dI : Nat → Nat → Nat) (ad : Nat → Nat) (ca : Nat → ClassId) (M sa ea : nw_F) (aw pt ld wt : nw_F) (n : Nat) (q k r x : Nat) (hq : q < 5) (hk : k < 4) (hr5 : r < 5) (hx4 : x < 4) (hx3 : k < 2 → x < 3) (o0 : Int32) (sz : Nat) : Met l yX1_move (ws_ yX1_move cX1_move 8 (some .int)) ({ frames := 1, cells := 0, slots := 0, locals := 20 }) (va_Pc [.ref (ad 0), .int (nI (q)), .int (nI (k)), .int (nI (r)), .int (nI (x)), .int (o0)] (fun U => U.heap.size = sz ∧ nw_XB dC dI (fun _ => True) (nw_yW ad ca (M) (sa) (ea) (nI (n)) (aw) (pt) (ld) (wt)) (nw_yT ca) U)) (va_Qi (fun (y : Int32) (_ : Unit) => y = (if M (120 * q + 20 * k + 4 * r + x) = 0 then 0 else 1)) (fun (u : Unit) t => nw_XB dC dI (va_A (nw_yW ad ca (M) (sa) (ea) (nI (n)) (aw) (pt) (ld) (wt)) sz) (nw_yW ad ca (upd M (120 * q + 20 * k + 4 * r + x) (vp_nar .boolean o0)) (sa) (ea) (nI (n)) (aw) (pt) (ld) (wt)) (nw_yT ca) t) (va_A (nw_yW ad ca (M) (sa) (ea) (nI (n)) (aw) (pt) (ld) (wt)) sz)) 0 0 (va_A (nw_yW ad ca (M) (sa) (ea) (nI (n)) (aw) (pt) (ld) (wt)) sz) := by
  refine Met.ofW (cc := cX1_move) (maxL := 8) (ret := (some .int)) (by decide) rfl ?_
  intro p e s m args below meth c s₁ B hml hv
  obtain ⟨rfl, hsz, hP, hK, hD0⟩ := hv
  have hx := B.exec
  have hb := B.bytes
  have hr := B.returns
  have hts := atoms_spec (ws := ws_ yX1_move cX1_move 8 (some .int)) B.pre
  have hts : ∀ w ∈ lw_all, w.before _ s = true := fun w h => hts w (List.mem_cons_of_mem _ h)
  have hown : s.vm.findClass RX1 = some m.cls := findClass_of_methodNamed B.named
  have hlocks := B.notSynchronized
  subst hsz
  have hD := hD0.self (sz := s.heap.size)
  generalize hAe : va_A (nw_yW ad ca (M) (sa) (ea) (nI (n)) (aw) (pt) (ld) (wt)) s.heap.size = A at hD ⊢
  have hA : ∀ q : Nat, s.heap.size ≤ q → A q := fun q h => by rw [← hAe]; exact Or.inr h
  have hS : va_S A s.heap s.heap [] := va_S.rf
  have hP : va_P (dC, dI) vwCl (nw_yW ad ca (M) (sa) (ea) (nI (n)) (aw) (pt) (ld) (wt)) s.heap := hP
  have hl := lv_entry ([.ref (ad 0), .int (nI (q)), .int (nI (k)), .int (nI (r)), .int (nI (x)), .int (o0)]) (n := 8) (Nat.le_of_ble_eq_true rfl)
  rw [lg_entry_eq]
  generalize (lg_sl ([.ref (ad 0), .int (nI (q)), .int (nI (k)), .int (nI (r)), .int (nI (x)), .int (o0)]) ++ List.replicate (8 - (lg_sl ([.ref (ad 0), .int (nI (q)), .int (nI (k)), .int (nI (r)), .int (nI (x)), .int (o0)])).length) Slot.unset).toArray = ls at hl ⊢
  have hl : lv_has ls 8 [(0, .ref (ad 0)), (1, .int (nI (q))), (2, .int (nI (k))), (3, .int (nI (r))), (4, .int (nI (x))), (5, .int (o0))] := hl
  refine lv_iload_n hx hb dX1_move_0 rfl (lv_at hl 1 rfl) ?_
  refine vp_callSi (va_Run.run (va_runS (As := [.int (nI (q))]) (rest := []) ⟨hx, hb, hml, hown, hts⟩ (metX1_bad l (nI (q))) (va_cwS 1 hts (lw_S q165 q166 q13 q167) rfl rfl rfl (by decide +kernel) ⟨Nat.le_of_ble_eq_true rfl, Nat.le_of_ble_eq_true rfl⟩) ⟨fun a U g mk q => q, fun U hU hW => ⟨rfl, trivial⟩⟩ rfl rfl hl.1 rfl (lv_room (Nat.le_of_ble_eq_true rfl)) dX1_move_1 ⟨Nat.zero_le _, Nat.zero_le _⟩)) (fun r_ hr_ => ?_)
  refine nw_as (y := ((0 : Int32))) (hr_.trans (if_pos (nw_st5 hq))) ?_
  refine lv_if_ne (tgt := 23) hx hb dX1_move_4 (by decide) (fun h => absurd (rfl) h) (fun _ => ?_)
  refine lv_iload_n hx hb dX1_move_7 rfl (lv_at hl 3 rfl) ?_
  refine vp_callSi (va_Run.run (va_runS (As := [.int (nI (r))]) (rest := []) ⟨hx, hb, hml, hown, hts⟩ (metX1_bad l (nI (r))) (va_cwS 1 hts (lw_S q165 q166 q13 q167) rfl rfl rfl (by decide +kernel) ⟨Nat.le_of_ble_eq_true rfl, Nat.le_of_ble_eq_true rfl⟩) ⟨fun a U g mk q => q, fun U hU hW => ⟨rfl, trivial⟩⟩ rfl rfl hl.1 rfl (lv_room (Nat.le_of_ble_eq_true rfl)) dX1_move_8 ⟨Nat.zero_le _, Nat.zero_le _⟩)) (fun r_ hr_ => ?_)
  refine nw_as (y := ((0 : Int32))) (hr_.trans (if_pos (nw_st5 hr5))) ?_
  refine lv_if_ne (tgt := 23) hx hb dX1_move_11 (by decide) (fun h => absurd (rfl) h) (fun _ => ?_)
  refine lv_iload_n hx hb dX1_move_14 rfl (lv_at hl 2 rfl) ?_
  refine lv_if_lt (tgt := 23) hx hb dX1_move_15 (by decide) (fun h => absurd h (nI_pos (by omega))) (fun _ => ?_)
  refine lv_iload_n hx hb dX1_move_18 rfl (lv_at hl 2 rfl) ?_
  refine lv_iconst (v := (nI (5))) hx hb dX1_move_19 (by decide) ?_
  refine lv_icmp_le (tgt := 25) hx hb dX1_move_20 (by decide) (fun _ => ?_) (fun h => absurd (nI_le (by omega) (by decide)) h)
  refine lv_iload_n hx hb dX1_move_25 rfl (lv_at hl 2 rfl) ?_
  refine lv_iconst (v := (nI (4))) hx hb dX1_move_26 (by decide) ?_
  refine lv_icmp_ge (tgt := 52) hx hb dX1_move_27 (by decide) (fun h => absurd h (nI_ge hk (by decide))) (fun _ => ?_)
  refine lv_iload hx hb dX1_move_30 (lv_at hl 4 rfl) ?_
  refine lv_if_lt (tgt := 50) hx hb dX1_move_32 (by decide) (fun h => absurd h (nI_pos (by omega))) (fun _ => ?_)
  refine lv_iload hx hb dX1_move_35 (lv_at hl 4 rfl) ?_
  refine lv_iload_n hx hb dX1_move_37 rfl (lv_at hl 2 rfl) ?_
  refine lv_iconst (v := (nI (2))) hx hb dX1_move_38 (by decide) ?_
  refine lv_icmp_ge (tgt := 46) hx hb dX1_move_39 (by decide) (fun h2 => ?_) (fun h2 => ?_)
  · refine lv_iconst (v := (nI (3))) hx hb dX1_move_46 (by decide) ?_
    refine lv_icmp_le (tgt := 52) hx hb dX1_move_47 (by decide) (fun _ => ?_) (fun h => absurd (nI_le (by omega) (by decide)) h)
    refine lv_bipush (v := (nI (120))) hx hb dX1_move_52 (by decide) ?_
    refine lv_iload_n hx hb dX1_move_54 rfl (lv_at hl 1 rfl) ?_
    refine lv_imul hx hb dX1_move_55 ?_
    refine nw_as (y := (nI (120 * q))) (pk_mul (120) (q)) ?_
    refine lv_bipush (v := (nI (20))) hx hb dX1_move_56 (by decide) ?_
    refine lv_iload_n hx hb dX1_move_58 rfl (lv_at hl 2 rfl) ?_
    refine lv_imul hx hb dX1_move_59 ?_
    refine nw_as (y := (nI (20 * k))) (pk_mul (20) (k)) ?_
    refine lv_iadd hx hb dX1_move_60 ?_
    refine nw_as (y := (nI ((120 * q) + (20 * k)))) (nI_add (120 * q) (20 * k)) ?_
    refine lv_iconst (v := (nI (4))) hx hb dX1_move_61 (by decide) ?_
    refine lv_iload_n hx hb dX1_move_62 rfl (lv_at hl 3 rfl) ?_
    refine lv_imul hx hb dX1_move_63 ?_
    refine nw_as (y := (nI (4 * r))) (pk_mul (4) (r)) ?_
    refine lv_iadd hx hb dX1_move_64 ?_
    refine nw_as (y := (nI (((120 * q) + (20 * k)) + (4 * r)))) (nI_add ((120 * q) + (20 * k)) (4 * r)) ?_
    refine lv_iload_n hx hb dX1_move_65 rfl (lv_at hl 2 rfl) ?_
    refine lv_iconst (v := (nI (4))) hx hb dX1_move_66 (by decide) ?_
    refine lv_icmp_ge (tgt := 75) hx hb dX1_move_67 (by decide) (fun h => absurd h (nI_ge hk (by decide))) (fun _ => ?_)
    refine lv_iload hx hb dX1_move_70 (lv_at hl 4 rfl) ?_
    refine lv_goto (tgt := 76) hx hb dX1_move_72 (by decide) ?_
    refine lv_iadd hx hb dX1_move_76 ?_
    refine nw_as (y := (nI ((((120 * q) + (20 * k)) + (4 * r)) + x))) (nI_add (((120 * q) + (20 * k)) + (4 * r)) (x)) ?_
    refine lv_istore (lv' := [(6, .int (nI ((((120 * q) + (20 * k)) + (4 * r)) + x))), (0, .ref (ad 0)), (1, .int (nI (q))), (2, .int (nI (k))), (3, .int (nI (r))), (4, .int (nI (x))), (5, .int (o0))]) hx hb dX1_move_77 hl (by decide) rfl (fun ls hl => ?_)
    refine lv_aload_n hx hb dX1_move_79 rfl (lv_at hl 1 rfl) ?_
    refine va_get (D := (dC, dI)) (ci := 1) (v := .ref (ad 1)) (C := RX1) (T := TX1) (N := 8) hx hb hts in_X1 hown hK hP 0 rfl rfl 0 (by decide) (hts _ q136) (fun _ h9 => h9) rfl dX1_move_80 ?_
    refine lv_iload hx hb dX1_move_83 (lv_at hl 0 rfl) ?_
    refine nw_zald hx hb hK hP 1 0 rfl rfl (j := (((120 * q) + (20 * k)) + (4 * r)) + x) (by omega) (by decide) dX1_move_85 ?_
    refine lv_istore (lv' := [(7, .int (M ((((120 * q) + (20 * k)) + (4 * r)) + x))), (6, .int (nI ((((120 * q) + (20 * k)) + (4 * r)) + x))), (0, .ref (ad 0)), (1, .int (nI (q))), (2, .int (nI (k))), (3, .int (nI (r))), (4, .int (nI (x))), (5, .int (o0))]) hx hb dX1_move_86 hl (by decide) rfl (fun ls hl => ?_)
    refine lv_aload_n hx hb dX1_move_88 rfl (lv_at hl 2 rfl) ?_
    refine va_get (D := (dC, dI)) (ci := 1) (v := .ref (ad 1)) (C := RX1) (T := TX1) (N := 8) hx hb hts in_X1 hown hK hP 0 rfl rfl 0 (by decide) (hts _ q136) (fun _ h9 => h9) rfl dX1_move_89 ?_
    refine lv_iload hx hb dX1_move_92 (lv_at hl 1 rfl) ?_
    refine lv_iload hx hb dX1_move_94 (lv_at hl 7 rfl) ?_
    refine nw_zast hx hb hK hP hD hS 1 0 rfl rfl (j := (((120 * q) + (20 * k)) + (4 * r)) + x) (by omega) (by decide) dX1_move_96 (fun H locs hP hD hS => ?_)
    have hP : va_P (dC, dI) vwCl (nw_yW ad ca (upd (M) ((((120 * q) + (20 * k)) + (4 * r)) + x) (vp_nar .boolean (o0))) (sa) (ea) (nI (n)) (aw) (pt) (ld) (wt)) H := hP
    have hD : va_D A (nw_yW ad ca (upd (M) ((((120 * q) + (20 * k)) + (4 * r)) + x) (vp_nar .boolean (o0))) (sa) (ea) (nI (n)) (aw) (pt) (ld) (wt)) := hD
    refine lv_iload hx hb dX1_move_97 (lv_at hl 0 rfl) ?_
    refine lv_if_eq (tgt := 106) hx hb dX1_move_99 (by decide) (fun hz => ?_) (fun hz => ?_)
    · refine lv_iconst (v := ((0 : Int32))) hx hb dX1_move_106 (by decide) ?_
      exact W.iret (v := ((0 : Int32))) hx hb hr (fun t ht hW => ⟨⟨_, (), rfl, (if_pos hz).symm, ⟨by rw [ht]; exact hP, va_K.moved hW.alike hK, hD⟩⟩, hS.F ht⟩) hS.2.2 dX1_move_107
    · refine lv_iconst (v := ((1 : Int32))) hx hb dX1_move_102 (by decide) ?_
      refine lv_goto (tgt := 107) hx hb dX1_move_103 (by decide) ?_
      exact W.iret (v := ((1 : Int32))) hx hb hr (fun t ht hW => ⟨⟨_, (), rfl, (if_neg hz).symm, ⟨by rw [ht]; exact hP, va_K.moved hW.alike hK, hD⟩⟩, hS.F ht⟩) hS.2.2 dX1_move_107
  · refine lv_iconst (v := (nI (2))) hx hb dX1_move_42 (by decide) ?_
    refine lv_goto (tgt := 47) hx hb dX1_move_43 (by decide) ?_
    refine lv_icmp_le (tgt := 52) hx hb dX1_move_47 (by decide) (fun _ => ?_) (fun h => absurd (nI_le (show x ≤ 2 from Nat.le_of_lt_succ (hx3 (Nat.lt_of_not_le (fun h => h2 (nI_le h (by omega)))))) (by decide)) h)
    refine lv_bipush (v := (nI (120))) hx hb dX1_move_52 (by decide) ?_
    refine lv_iload_n hx hb dX1_move_54 rfl (lv_at hl 1 rfl) ?_
    refine lv_imul hx hb dX1_move_55 ?_
    refine nw_as (y := (nI (120 * q))) (pk_mul (120) (q)) ?_
    refine lv_bipush (v := (nI (20))) hx hb dX1_move_56 (by decide) ?_
    refine lv_iload_n hx hb dX1_move_58 rfl (lv_at hl 2 rfl) ?_
    refine lv_imul hx hb dX1_move_59 ?_
    refine nw_as (y := (nI (20 * k))) (pk_mul (20) (k)) ?_
    refine lv_iadd hx hb dX1_move_60 ?_
    refine nw_as (y := (nI ((120 * q) + (20 * k)))) (nI_add (120 * q) (20 * k)) ?_
    refine lv_iconst (v := (nI (4))) hx hb dX1_move_61 (by decide) ?_
    refine lv_iload_n hx hb dX1_move_62 rfl (lv_at hl 3 rfl) ?_
    refine lv_imul hx hb dX1_move_63 ?_
    refine nw_as (y := (nI (4 * r))) (pk_mul (4) (r)) ?_
    refine lv_iadd hx hb dX1_move_64 ?_
    refine nw_as (y := (nI (((120 * q) + (20 * k)) + (4 * r)))) (nI_add ((120 * q) + (20 * k)) (4 * r)) ?_
    refine lv_iload_n hx hb dX1_move_65 rfl (lv_at hl 2 rfl) ?_
    refine lv_iconst (v := (nI (4))) hx hb dX1_move_66 (by decide) ?_
    refine lv_icmp_ge (tgt := 75) hx hb dX1_move_67 (by decide) (fun h => absurd h (nI_ge hk (by decide))) (fun _ => ?_)
    refine lv_iload hx hb dX1_move_70 (lv_at hl 4 rfl) ?_
    refine lv_goto (tgt := 76) hx hb dX1_move_72 (by decide) ?_
    refine lv_iadd hx hb dX1_move_76 ?_
    refine nw_as (y := (nI ((((120 * q) + (20 * k)) + (4 * r)) + x))) (nI_add (((120 * q) + (20 * k)) + (4 * r)) (x)) ?_
    refine lv_istore (lv' := [(6, .int (nI ((((120 * q) + (20 * k)) + (4 * r)) + x))), (0, .ref (ad 0)), (1, .int (nI (q))), (2, .int (nI (k))), (3, .int (nI (r))), (4, .int (nI (x))), (5, .int (o0))]) hx hb dX1_move_77 hl (by decide) rfl (fun ls hl => ?_)
    refine lv_aload_n hx hb dX1_move_79 rfl (lv_at hl 1 rfl) ?_
    refine va_get (D := (dC, dI)) (ci := 1) (v := .ref (ad 1)) (C := RX1) (T := TX1) (N := 8) hx hb hts in_X1 hown hK hP 0 rfl rfl 0 (by decide) (hts _ q136) (fun _ h9 => h9) rfl dX1_move_80 ?_
    refine lv_iload hx hb dX1_move_83 (lv_at hl 0 rfl) ?_
    refine nw_zald hx hb hK hP 1 0 rfl rfl (j := (((120 * q) + (20 * k)) + (4 * r)) + x) (by omega) (by decide) dX1_move_85 ?_
    refine lv_istore (lv' := [(7, .int (M ((((120 * q) + (20 * k)) + (4 * r)) + x))), (6, .int (nI ((((120 * q) + (20 * k)) + (4 * r)) + x))), (0, .ref (ad 0)), (1, .int (nI (q))), (2, .int (nI (k))), (3, .int (nI (r))), (4, .int (nI (x))), (5, .int (o0))]) hx hb dX1_move_86 hl (by decide) rfl (fun ls hl => ?_)
    refine lv_aload_n hx hb dX1_move_88 rfl (lv_at hl 2 rfl) ?_
    refine va_get (D := (dC, dI)) (ci := 1) (v := .ref (ad 1)) (C := RX1) (T := TX1) (N := 8) hx hb hts in_X1 hown hK hP 0 rfl rfl 0 (by decide) (hts _ q136) (fun _ h9 => h9) rfl dX1_move_89 ?_
    refine lv_iload hx hb dX1_move_92 (lv_at hl 1 rfl) ?_
    refine lv_iload hx hb dX1_move_94 (lv_at hl 7 rfl) ?_
    refine nw_zast hx hb hK hP hD hS 1 0 rfl rfl (j := (((120 * q) + (20 * k)) + (4 * r)) + x) (by omega) (by decide) dX1_move_96 (fun H locs hP hD hS => ?_)
    have hP : va_P (dC, dI) vwCl (nw_yW ad ca (upd (M) ((((120 * q) + (20 * k)) + (4 * r)) + x) (vp_nar .boolean (o0))) (sa) (ea) (nI (n)) (aw) (pt) (ld) (wt)) H := hP
    have hD : va_D A (nw_yW ad ca (upd (M) ((((120 * q) + (20 * k)) + (4 * r)) + x) (vp_nar .boolean (o0))) (sa) (ea) (nI (n)) (aw) (pt) (ld) (wt)) := hD
    refine lv_iload hx hb dX1_move_97 (lv_at hl 0 rfl) ?_
    refine lv_if_eq (tgt := 106) hx hb dX1_move_99 (by decide) (fun hz => ?_) (fun hz => ?_)
    · refine lv_iconst (v := ((0 : Int32))) hx hb dX1_move_106 (by decide) ?_
      exact W.iret (v := ((0 : Int32))) hx hb hr (fun t ht hW => ⟨⟨_, (), rfl, (if_pos hz).symm, ⟨by rw [ht]; exact hP, va_K.moved hW.alike hK, hD⟩⟩, hS.F ht⟩) hS.2.2 dX1_move_107
    · refine lv_iconst (v := ((1 : Int32))) hx hb dX1_move_102 (by decide) ?_
      refine lv_goto (tgt := 107) hx hb dX1_move_103 (by decide) ?_
      exact W.iret (v := ((1 : Int32))) hx hb hr (fun t ht hW => ⟨⟨_, (), rfl, (if_neg hz).symm, ⟨by rw [ht]; exact hP, va_K.moved hW.alike hK, hD⟩⟩, hS.F ht⟩) hS.2.2 dX1_move_107
set_option maxHeartbeats 4000000 in
set_option maxRecDepth 100000 in
/-- state: refused -/
theorem metX1_stateB (l : Launch) (dC : Nat → ClassId) (dI : Nat → Nat → Nat) (ad : Nat → Nat) (ca : Nat → ClassId) (M sa ea : nw_F) (ln : Int32) (aw pt ld wt : nw_F) (q0 a0 b0 : Int32) (hbad : ¬ (0 ≤ q0 ∧ q0 ≤ 4)) : Met l yX1_state (ws_ yX1_state cX1_state 4 (some .int)) ({ frames := 1, cells := 0, slots := 0, locals := 20 }) (va_Pc [.ref (ad 0), .int (q0), .int (a0), .int (b0)] (nw_XR dC dI (nw_yW ad ca (M) (sa) (ea) (ln) (aw) (pt) (ld) (wt)) (nw_yT ca))) (vp_Si (fun r => r = -1)) 0 0 (fun _ => False) := by
  refine Met.ofW (cc := cX1_state) (maxL := 4) (ret := (some .int)) (by decide) rfl ?_
  intro p e s m args below meth c s₁ B hml hv
  obtain ⟨rfl, hP, hK⟩ := hv
  have hx := B.exec
  have hb := B.bytes
  have hr := B.returns
  have hts := atoms_spec (ws := ws_ yX1_state cX1_state 4 (some .int)) B.pre
  have hts : ∀ w ∈ lw_all, w.before _ s = true := fun w h => hts w (List.mem_cons_of_mem _ h)
  have hown : s.vm.findClass RX1 = some m.cls := findClass_of_methodNamed B.named
  have hlocks := B.notSynchronized
  have hl := lv_entry ([.ref (ad 0), .int (q0), .int (a0), .int (b0)]) (n := 4) (Nat.le_of_ble_eq_true rfl)
  rw [lg_entry_eq]
  generalize (lg_sl ([.ref (ad 0), .int (q0), .int (a0), .int (b0)]) ++ List.replicate (4 - (lg_sl ([.ref (ad 0), .int (q0), .int (a0), .int (b0)])).length) Slot.unset).toArray = ls at hl ⊢
  have hl : lv_has ls 4 [(0, .ref (ad 0)), (1, .int (q0)), (2, .int (a0)), (3, .int (b0))] := hl
  refine lv_iload_n hx hb dX1_state_0 rfl (lv_at hl 1 rfl) ?_
  refine vp_callSi (va_Run.run (va_runS (As := [.int (q0)]) (rest := []) ⟨hx, hb, hml, hown, hts⟩ (metX1_bad l (q0)) (va_cwS 1 hts (lw_S q165 q166 q13 q167) rfl rfl rfl (by decide +kernel) ⟨Nat.le_of_ble_eq_true rfl, Nat.le_of_ble_eq_true rfl⟩) ⟨fun a U g mk q => q, fun U hU hW => ⟨rfl, trivial⟩⟩ rfl rfl hl.1 rfl (lv_room (Nat.le_of_ble_eq_true rfl)) dX1_state_1 ⟨Nat.zero_le _, Nat.zero_le _⟩)) (fun s1 hs1 => ?_)
  refine lv_if_eq (tgt := 9) hx hb dX1_state_4 (by decide) (fun h => absurd h (fun h => absurd ((hs1.trans (if_neg hbad)).symm.trans h) nw_10)) (fun _ => ?_)
  refine lv_iconst (v := (-1)) hx hb dX1_state_7 (by decide) ?_
  exact W.iret hx hb hr (fun t ht hW => ⟨_, rfl, rfl, ht⟩) (fun q h => by cases h) dX1_state_8
set_option maxHeartbeats 4000000 in
set_option maxRecDepth 100000 in
/-- state -/
theorem metX1_stateG (l : Launch) (dC : Nat → ClassId) (dI : Nat → Nat → Nat) (ad : Nat → Nat) (ca : Nat → ClassId) (M sa ea : nw_F) (aw pt ld wt : nw_F) (n : Nat) (q : Nat) (hq : q < 5) (a0 b0 : Int32) (sz : Nat) : Met l yX1_state (ws_ yX1_state cX1_state 4 (some .int)) ({ frames := 1, cells := 0, slots := 0, locals := 20 }) (va_Pc [.ref (ad 0), .int (nI (q)), .int (a0), .int (b0)] (fun U => U.heap.size = sz ∧ nw_XB dC dI (fun _ => True) (nw_yW ad ca (M) (sa) (ea) (nI (n)) (aw) (pt) (ld) (wt)) (nw_yT ca) U)) (va_Qi (fun (x : Int32) (_ : Unit) => x = 0) (fun (u : Unit) t => nw_XB dC dI (va_A (nw_yW ad ca (M) (sa) (ea) (nI (n)) (aw) (pt) (ld) (wt)) sz) (nw_yW ad ca (M) (upd sa q (vp_nar .boolean a0)) (upd ea q (vp_nar .boolean b0)) (nI (n)) (aw) (pt) (ld) (wt)) (nw_yT ca) t) (va_A (nw_yW ad ca (M) (sa) (ea) (nI (n)) (aw) (pt) (ld) (wt)) sz)) 0 0 (va_A (nw_yW ad ca (M) (sa) (ea) (nI (n)) (aw) (pt) (ld) (wt)) sz) := by
  refine Met.ofW (cc := cX1_state) (maxL := 4) (ret := (some .int)) (by decide) rfl ?_
  intro p e s m args below meth c s₁ B hml hv
  obtain ⟨rfl, hsz, hP, hK, hD0⟩ := hv
  have hx := B.exec
  have hb := B.bytes
  have hr := B.returns
  have hts := atoms_spec (ws := ws_ yX1_state cX1_state 4 (some .int)) B.pre
  have hts : ∀ w ∈ lw_all, w.before _ s = true := fun w h => hts w (List.mem_cons_of_mem _ h)
  have hown : s.vm.findClass RX1 = some m.cls := findClass_of_methodNamed B.named
  have hlocks := B.notSynchronized
  subst hsz
  have hD := hD0.self (sz := s.heap.size)
  generalize hAe : va_A (nw_yW ad ca (M) (sa) (ea) (nI (n)) (aw) (pt) (ld) (wt)) s.heap.size = A at hD ⊢
  have hA : ∀ q : Nat, s.heap.size ≤ q → A q := fun q h => by rw [← hAe]; exact Or.inr h
  have hS : va_S A s.heap s.heap [] := va_S.rf
  have hP : va_P (dC, dI) vwCl (nw_yW ad ca (M) (sa) (ea) (nI (n)) (aw) (pt) (ld) (wt)) s.heap := hP
  have hl := lv_entry ([.ref (ad 0), .int (nI (q)), .int (a0), .int (b0)]) (n := 4) (Nat.le_of_ble_eq_true rfl)
  rw [lg_entry_eq]
  generalize (lg_sl ([.ref (ad 0), .int (nI (q)), .int (a0), .int (b0)]) ++ List.replicate (4 - (lg_sl ([.ref (ad 0), .int (nI (q)), .int (a0), .int (b0)])).length) Slot.unset).toArray = ls at hl ⊢
  have hl : lv_has ls 4 [(0, .ref (ad 0)), (1, .int (nI (q))), (2, .int (a0)), (3, .int (b0))] := hl
  refine lv_iload_n hx hb dX1_state_0 rfl (lv_at hl 1 rfl) ?_
  refine vp_callSi (va_Run.run (va_runS (As := [.int (nI (q))]) (rest := []) ⟨hx, hb, hml, hown, hts⟩ (metX1_bad l (nI (q))) (va_cwS 1 hts (lw_S q165 q166 q13 q167) rfl rfl rfl (by decide +kernel) ⟨Nat.le_of_ble_eq_true rfl, Nat.le_of_ble_eq_true rfl⟩) ⟨fun a U g mk q => q, fun U hU hW => ⟨rfl, trivial⟩⟩ rfl rfl hl.1 rfl (lv_room (Nat.le_of_ble_eq_true rfl)) dX1_state_1 ⟨Nat.zero_le _, Nat.zero_le _⟩)) (fun r_ hr_ => ?_)
  refine nw_as (y := ((0 : Int32))) (hr_.trans (if_pos (nw_st5 hq))) ?_
  refine lv_if_eq (tgt := 9) hx hb dX1_state_4 (by decide) (fun _ => ?_) (fun h => absurd (rfl) h)
  refine lv_aload_n hx hb dX1_state_9 rfl (lv_at hl 0 rfl) ?_
  refine va_get (D := (dC, dI)) (ci := 1) (v := .ref (ad 2)) (C := RX1) (T := TX1) (N := 8) hx hb hts in_X1 hown hK hP 0 rfl rfl 1 (by decide) (hts _ q137) (fun _ h9 => h9) rfl dX1_state_10 ?_
  refine lv_iload_n hx hb dX1_state_13 rfl (lv_at hl 1 rfl) ?_
  refine lv_iload_n hx hb dX1_state_14 rfl (lv_at hl 2 rfl) ?_
  refine nw_zast hx hb hK hP hD hS 2 1 rfl rfl (j := q) (by omega) (by decide) dX1_state_15 (fun H locs hP hD hS => ?_)
  have hP : va_P (dC, dI) vwCl (nw_yW ad ca (M) (upd (sa) (q) (vp_nar .boolean (a0))) (ea) (nI (n)) (aw) (pt) (ld) (wt)) H := hP
  have hD : va_D A (nw_yW ad ca (M) (upd (sa) (q) (vp_nar .boolean (a0))) (ea) (nI (n)) (aw) (pt) (ld) (wt)) := hD
  refine lv_aload_n hx hb dX1_state_16 rfl (lv_at hl 0 rfl) ?_
  refine va_get (D := (dC, dI)) (ci := 1) (v := .ref (ad 3)) (C := RX1) (T := TX1) (N := 8) hx hb hts in_X1 hown hK hP 0 rfl rfl 2 (by decide) (hts _ q138) (fun _ h9 => h9) rfl dX1_state_17 ?_
  refine lv_iload_n hx hb dX1_state_20 rfl (lv_at hl 1 rfl) ?_
  refine lv_iload_n hx hb dX1_state_21 rfl (lv_at hl 3 rfl) ?_
  refine nw_zast hx hb hK hP hD hS 3 2 rfl rfl (j := q) (by omega) (by decide) dX1_state_22 (fun H locs hP hD hS => ?_)
  have hP : va_P (dC, dI) vwCl (nw_yW ad ca (M) (upd (sa) (q) (vp_nar .boolean (a0))) (upd (ea) (q) (vp_nar .boolean (b0))) (nI (n)) (aw) (pt) (ld) (wt)) H := hP
  have hD : va_D A (nw_yW ad ca (M) (upd (sa) (q) (vp_nar .boolean (a0))) (upd (ea) (q) (vp_nar .boolean (b0))) (nI (n)) (aw) (pt) (ld) (wt)) := hD
  refine lv_iconst (v := ((0 : Int32))) hx hb dX1_state_23 (by decide) ?_
  exact W.iret (v := ((0 : Int32))) hx hb hr (fun t ht hW => ⟨⟨_, (), rfl, rfl, ⟨by rw [ht]; exact hP, va_K.moved hW.alike hK, hD⟩⟩, hS.F ht⟩) hS.2.2 dX1_state_24
end
section
/-! WALKS 11: the constructors -/
set_option maxHeartbeats 4000000 in
set_option maxRecDepth 100000 in
/-- the constructor: 6 arrays of zeros -/
theorem metX0_init (l : Launch) (dC : Nat → ClassId) (dI : Nat → Nat → Nat) (h0 : Nat) (sz : Nat) : Met l yX0_init (ws_ yX0_init cX0_init 1 none) ({ frames := 1, cells := 6, slots := 537, locals := 12 }) (va_Pc [.ref h0] (fun U => U.heap.size = sz ∧ nw_XB dC dI (fun _ => True) [(h0, .inr (0, [.null, .null, .int 0, .int 0, .int 0, .int 0, .null, .null, .null, .null]))] [] U)) (va_Qv (fun u : (Nat → Nat) × (Nat → ClassId) => u.1 0 = h0) (fun (u : (Nat → Nat) × (Nat → ClassId)) t => nw_XB dC dI (va_A [(h0, .inr (0, [.null, .null, .int 0, .int 0, .int 0, .int 0, .null, .null, .null, .null]))] sz) (nw_xW u.1 u.2 (fun _ => 0) (fun _ => 0) 0 0 0 (nI 0) (fun _ => 0) (fun _ => 0) (fun _ => 0) (fun _ => 0)) (nw_xT u.2) t) (va_A [(h0, .inr (0, [.null, .null, .int 0, .int 0, .int 0, .int 0, .null, .null, .null, .null]))] sz)) 6 537 (va_A [(h0, .inr (0, [.null, .null, .int 0, .int 0, .int 0, .int 0, .null, .null, .null, .null]))] sz) := by
  refine Met.ofW (cc := cX0_init) (maxL := 1) (ret := none) (by decide) rfl ?_
  intro p e s m args below meth c s₁ B hml hv
  obtain ⟨rfl, hsz, hP, hK, hD0⟩ := hv
  have hx := B.exec
  have hb := B.bytes
  have hr := B.returns
  have hts := atoms_spec (ws := ws_ yX0_init cX0_init 1 none) B.pre
  have hts : ∀ w ∈ lw_all, w.before _ s = true := fun w h => hts w (List.mem_cons_of_mem _ h)
  have hown : s.vm.findClass RX0 = some m.cls := findClass_of_methodNamed B.named
  have hlocks := B.notSynchronized
  have hin : meth.name = "<init>" := (name_of_methodNamed B.named B.method).1
  subst hsz
  have hD := hD0.self (sz := s.heap.size)
  generalize hAe : va_A [(h0, .inr (0, [.null, .null, .int 0, .int 0, .int 0, .int 0, .null, .null, .null, .null]))] s.heap.size = A at hD ⊢
  have hA : ∀ q : Nat, s.heap.size ≤ q → A q := fun q h => by rw [← hAe]; exact Or.inr h
  have hS : va_S A s.heap s.heap [] := va_S.rf
  have hP : va_P (dC, dI) vwCl [(h0, .inr (0, [.null, .null, .int 0, .int 0, .int 0, .int 0, .null, .null, .null, .null]))] s.heap := hP
  have hl := lv_entry ([.ref h0]) (n := 1) (Nat.le_of_ble_eq_true rfl)
  rw [lg_entry_eq]
  generalize (lg_sl ([.ref h0]) ++ List.replicate (1 - (lg_sl ([.ref h0])).length) Slot.unset).toArray = ls at hl ⊢
  have hl : lv_has ls 1 [(0, .ref h0)] := hl
  refine lv_aload_n hx hb dX0_init_0 rfl (lv_at hl 0 rfl) ?_
  refine W.objInit hx hb hown (hts _ q19) (hts _ q20) (hts _ q21) rfl (by rw [hml]; exact hl.1) rfl dX0_init_1 (Nat.le_of_ble_eq_true rfl) (Nat.le_of_ble_eq_true rfl) ?_
  refine W.eq (g2 := F0 m 4 ls []) rfl ?_
  refine lv_aload_n hx hb dX0_init_4 rfl (lv_at hl 0 rfl) ?_
  refine lv_sipush (v := (nI 400)) hx hb dX0_init_5 (by decide) ?_
  refine va_newa (atype := .boolean) (ty := .boolean) (a0 := (400, .inl (fun _ => 0))) (N' := 400) hx hb (hts _ q53) rfl hK hP hD hS hA (fun _ => rfl) (by decide) (by decide) (by decide) (Nat.le_of_ble_eq_true rfl) (Nat.le_of_ble_eq_true rfl) dX0_init_8 (fun q1 c1 H hK hP hD hS => ?_)
  have hK : va_K (dC, dI) vwCl [(c1, .boolean)] s := hK
  have hP : va_P (dC, dI) vwCl [(h0, .inr (0, [.null, .null, .int 0, .int 0, .int 0, .int 0, .null, .null, .null, .null])), (q1, .inl (c1, 400, .inl (fun _ => 0)))] H := hP
  have hD : va_D A [(h0, .inr (0, [.null, .null, .int 0, .int 0, .int 0, .int 0, .null, .null, .null, .null])), (q1, .inl (c1, 400, .inl (fun _ => 0)))] := hD
  refine W.widen (k := 1) (n := 400) (by decide) (by decide) ?_
  refine va_putF (D := (dC, dI)) (ci := 0) (v := .ref q1) (ty := .array .boolean) (C := RX0) (T := TX0) (N := 10) hx hb hts in_X0 tyX0 tyX0_ok nmX0 hown hK hP hD hS 0 rfl rfl 0 (by decide) (hts _ q22) (fun _ h9 => h9) rfl hin rfl (by decide +kernel) rfl rfl (Nat.le_of_ble_eq_true rfl) dX0_init_10 (fun H locs hP hD hS => ?_)
  have hP : va_P (dC, dI) vwCl [(h0, .inr (0, [.ref q1, .null, .int 0, .int 0, .int 0, .int 0, .null, .null, .null, .null])), (q1, .inl (c1, 400, .inl (fun _ => 0)))] H := hP
  have hD : va_D A [(h0, .inr (0, [.ref q1, .null, .int 0, .int 0, .int 0, .int 0, .null, .null, .null, .null])), (q1, .inl (c1, 400, .inl (fun _ => 0)))] := hD
  refine lv_aload_n hx hb dX0_init_13 rfl (lv_at hl 0 rfl) ?_
  refine lv_bipush (v := (nI 50)) hx hb dX0_init_14 (by decide) ?_
  refine va_newa (atype := .boolean) (ty := .boolean) (a0 := (50, .inl (fun _ => 0))) (N' := 50) hx hb (hts _ q53) rfl hK hP hD hS hA (fun _ => rfl) (by decide) (by decide) (by decide) (Nat.le_of_ble_eq_true rfl) (Nat.le_of_ble_eq_true rfl) dX0_init_16 (fun q2 c2 H hK hP hD hS => ?_)
  have hK : va_K (dC, dI) vwCl [(c1, .boolean), (c2, .boolean)] s := hK
  have hP : va_P (dC, dI) vwCl [(h0, .inr (0, [.ref q1, .null, .int 0, .int 0, .int 0, .int 0, .null, .null, .null, .null])), (q1, .inl (c1, 400, .inl (fun _ => 0))), (q2, .inl (c2, 50, .inl (fun _ => 0)))] H := hP
  have hD : va_D A [(h0, .inr (0, [.ref q1, .null, .int 0, .int 0, .int 0, .int 0, .null, .null, .null, .null])), (q1, .inl (c1, 400, .inl (fun _ => 0))), (q2, .inl (c2, 50, .inl (fun _ => 0)))] := hD
  refine W.widen (k := 2) (n := 450) (by decide) (by decide) ?_
  refine va_putF (D := (dC, dI)) (ci := 0) (v := .ref q2) (ty := .array .boolean) (C := RX0) (T := TX0) (N := 10) hx hb hts in_X0 tyX0 tyX0_ok nmX0 hown hK hP hD hS 0 rfl rfl 1 (by decide) (hts _ q23) (fun _ h9 => h9) rfl hin rfl (by decide +kernel) rfl rfl (Nat.le_of_ble_eq_true rfl) dX0_init_18 (fun H locs hP hD hS => ?_)
  have hP : va_P (dC, dI) vwCl [(h0, .inr (0, [.ref q1, .ref q2, .int 0, .int 0, .int 0, .int 0, .null, .null, .null, .null])), (q1, .inl (c1, 400, .inl (fun _ => 0))), (q2, .inl (c2, 50, .inl (fun _ => 0)))] H := hP
  have hD : va_D A [(h0, .inr (0, [.ref q1, .ref q2, .int 0, .int 0, .int 0, .int 0, .null, .null, .null, .null])), (q1, .inl (c1, 400, .inl (fun _ => 0))), (q2, .inl (c2, 50, .inl (fun _ => 0)))] := hD
  refine lv_aload_n hx hb dX0_init_21 rfl (lv_at hl 0 rfl) ?_
  refine lv_bipush (v := (nI 21)) hx hb dX0_init_22 (by decide) ?_
  refine va_newa (atype := .int) (ty := .int) (a0 := (21, .inl (fun _ => 0))) (N' := 21) hx hb (hts _ q54) rfl hK hP hD hS hA (fun _ => rfl) (by decide) (by decide) (by decide) (Nat.le_of_ble_eq_true rfl) (Nat.le_of_ble_eq_true rfl) dX0_init_24 (fun q3 c3 H hK hP hD hS => ?_)
  have hK : va_K (dC, dI) vwCl [(c1, .boolean), (c2, .boolean), (c3, .int)] s := hK
  have hP : va_P (dC, dI) vwCl [(h0, .inr (0, [.ref q1, .ref q2, .int 0, .int 0, .int 0, .int 0, .null, .null, .null, .null])), (q1, .inl (c1, 400, .inl (fun _ => 0))), (q2, .inl (c2, 50, .inl (fun _ => 0))), (q3, .inl (c3, 21, .inl (fun _ => 0)))] H := hP
  have hD : va_D A [(h0, .inr (0, [.ref q1, .ref q2, .int 0, .int 0, .int 0, .int 0, .null, .null, .null, .null])), (q1, .inl (c1, 400, .inl (fun _ => 0))), (q2, .inl (c2, 50, .inl (fun _ => 0))), (q3, .inl (c3, 21, .inl (fun _ => 0)))] := hD
  refine W.widen (k := 3) (n := 471) (by decide) (by decide) ?_
  refine va_putF (D := (dC, dI)) (ci := 0) (v := .ref q3) (ty := .array .int) (C := RX0) (T := TX0) (N := 10) hx hb hts in_X0 tyX0 tyX0_ok nmX0 hown hK hP hD hS 0 rfl rfl 6 (by decide) (hts _ q28) (fun _ h9 => h9) rfl hin rfl (by decide +kernel) rfl rfl (Nat.le_of_ble_eq_true rfl) dX0_init_26 (fun H locs hP hD hS => ?_)
  have hP : va_P (dC, dI) vwCl [(h0, .inr (0, [.ref q1, .ref q2, .int 0, .int 0, .int 0, .int 0, .ref q3, .null, .null, .null])), (q1, .inl (c1, 400, .inl (fun _ => 0))), (q2, .inl (c2, 50, .inl (fun _ => 0))), (q3, .inl (c3, 21, .inl (fun _ => 0)))] H := hP
  have hD : va_D A [(h0, .inr (0, [.ref q1, .ref q2, .int 0, .int 0, .int 0, .int 0, .ref q3, .null, .null, .null])), (q1, .inl (c1, 400, .inl (fun _ => 0))), (q2, .inl (c2, 50, .inl (fun _ => 0))), (q3, .inl (c3, 21, .inl (fun _ => 0)))] := hD
  refine lv_aload_n hx hb dX0_init_29 rfl (lv_at hl 0 rfl) ?_
  refine lv_bipush (v := (nI 22)) hx hb dX0_init_30 (by decide) ?_
  refine va_newa (atype := .int) (ty := .int) (a0 := (22, .inl (fun _ => 0))) (N' := 22) hx hb (hts _ q54) rfl hK hP hD hS hA (fun _ => rfl) (by decide) (by decide) (by decide) (Nat.le_of_ble_eq_true rfl) (Nat.le_of_ble_eq_true rfl) dX0_init_32 (fun q4 c4 H hK hP hD hS => ?_)
  have hK : va_K (dC, dI) vwCl [(c1, .boolean), (c2, .boolean), (c3, .int), (c4, .int)] s := hK
  have hP : va_P (dC, dI) vwCl [(h0, .inr (0, [.ref q1, .ref q2, .int 0, .int 0, .int 0, .int 0, .ref q3, .null, .null, .null])), (q1, .inl (c1, 400, .inl (fun _ => 0))), (q2, .inl (c2, 50, .inl (fun _ => 0))), (q3, .inl (c3, 21, .inl (fun _ => 0))), (q4, .inl (c4, 22, .inl (fun _ => 0)))] H := hP
  have hD : va_D A [(h0, .inr (0, [.ref q1, .ref q2, .int 0, .int 0, .int 0, .int 0, .ref q3, .null, .null, .null])), (q1, .inl (c1, 400, .inl (fun _ => 0))), (q2, .inl (c2, 50, .inl (fun _ => 0))), (q3, .inl (c3, 21, .inl (fun _ => 0))), (q4, .inl (c4, 22, .inl (fun _ => 0)))] := hD
  refine W.widen (k := 4) (n := 493) (by decide) (by decide) ?_
  refine va_putF (D := (dC, dI)) (ci := 0) (v := .ref q4) (ty := .array .int) (C := RX0) (T := TX0) (N := 10) hx hb hts in_X0 tyX0 tyX0_ok nmX0 hown hK hP hD hS 0 rfl rfl 7 (by decide) (hts _ q29) (fun _ h9 => h9) rfl hin rfl (by decide +kernel) rfl rfl (Nat.le_of_ble_eq_true rfl) dX0_init_34 (fun H locs hP hD hS => ?_)
  have hP : va_P (dC, dI) vwCl [(h0, .inr (0, [.ref q1, .ref q2, .int 0, .int 0, .int 0, .int 0, .ref q3, .ref q4, .null, .null])), (q1, .inl (c1, 400, .inl (fun _ => 0))), (q2, .inl (c2, 50, .inl (fun _ => 0))), (q3, .inl (c3, 21, .inl (fun _ => 0))), (q4, .inl (c4, 22, .inl (fun _ => 0)))] H := hP
  have hD : va_D A [(h0, .inr (0, [.ref q1, .ref q2, .int 0, .int 0, .int 0, .int 0, .ref q3, .ref q4, .null, .null])), (q1, .inl (c1, 400, .inl (fun _ => 0))), (q2, .inl (c2, 50, .inl (fun _ => 0))), (q3, .inl (c3, 21, .inl (fun _ => 0))), (q4, .inl (c4, 22, .inl (fun _ => 0)))] := hD
  refine lv_aload_n hx hb dX0_init_37 rfl (lv_at hl 0 rfl) ?_
  refine lv_bipush (v := (nI 22)) hx hb dX0_init_38 (by decide) ?_
  refine va_newa (atype := .int) (ty := .int) (a0 := (22, .inl (fun _ => 0))) (N' := 22) hx hb (hts _ q54) rfl hK hP hD hS hA (fun _ => rfl) (by decide) (by decide) (by decide) (Nat.le_of_ble_eq_true rfl) (Nat.le_of_ble_eq_true rfl) dX0_init_40 (fun q5 c5 H hK hP hD hS => ?_)
  have hK : va_K (dC, dI) vwCl [(c1, .boolean), (c2, .boolean), (c3, .int), (c4, .int), (c5, .int)] s := hK
  have hP : va_P (dC, dI) vwCl [(h0, .inr (0, [.ref q1, .ref q2, .int 0, .int 0, .int 0, .int 0, .ref q3, .ref q4, .null, .null])), (q1, .inl (c1, 400, .inl (fun _ => 0))), (q2, .inl (c2, 50, .inl (fun _ => 0))), (q3, .inl (c3, 21, .inl (fun _ => 0))), (q4, .inl (c4, 22, .inl (fun _ => 0))), (q5, .inl (c5, 22, .inl (fun _ => 0)))] H := hP
  have hD : va_D A [(h0, .inr (0, [.ref q1, .ref q2, .int 0, .int 0, .int 0, .int 0, .ref q3, .ref q4, .null, .null])), (q1, .inl (c1, 400, .inl (fun _ => 0))), (q2, .inl (c2, 50, .inl (fun _ => 0))), (q3, .inl (c3, 21, .inl (fun _ => 0))), (q4, .inl (c4, 22, .inl (fun _ => 0))), (q5, .inl (c5, 22, .inl (fun _ => 0)))] := hD
  refine W.widen (k := 5) (n := 515) (by decide) (by decide) ?_
  refine va_putF (D := (dC, dI)) (ci := 0) (v := .ref q5) (ty := .array .int) (C := RX0) (T := TX0) (N := 10) hx hb hts in_X0 tyX0 tyX0_ok nmX0 hown hK hP hD hS 0 rfl rfl 8 (by decide) (hts _ q30) (fun _ h9 => h9) rfl hin rfl (by decide +kernel) rfl rfl (Nat.le_of_ble_eq_true rfl) dX0_init_42 (fun H locs hP hD hS => ?_)
  have hP : va_P (dC, dI) vwCl [(h0, .inr (0, [.ref q1, .ref q2, .int 0, .int 0, .int 0, .int 0, .ref q3, .ref q4, .ref q5, .null])), (q1, .inl (c1, 400, .inl (fun _ => 0))), (q2, .inl (c2, 50, .inl (fun _ => 0))), (q3, .inl (c3, 21, .inl (fun _ => 0))), (q4, .inl (c4, 22, .inl (fun _ => 0))), (q5, .inl (c5, 22, .inl (fun _ => 0)))] H := hP
  have hD : va_D A [(h0, .inr (0, [.ref q1, .ref q2, .int 0, .int 0, .int 0, .int 0, .ref q3, .ref q4, .ref q5, .null])), (q1, .inl (c1, 400, .inl (fun _ => 0))), (q2, .inl (c2, 50, .inl (fun _ => 0))), (q3, .inl (c3, 21, .inl (fun _ => 0))), (q4, .inl (c4, 22, .inl (fun _ => 0))), (q5, .inl (c5, 22, .inl (fun _ => 0)))] := hD
  refine lv_aload_n hx hb dX0_init_45 rfl (lv_at hl 0 rfl) ?_
  refine lv_bipush (v := (nI 22)) hx hb dX0_init_46 (by decide) ?_
  refine va_newa (atype := .int) (ty := .int) (a0 := (22, .inl (fun _ => 0))) (N' := 22) hx hb (hts _ q54) rfl hK hP hD hS hA (fun _ => rfl) (by decide) (by decide) (by decide) (Nat.le_of_ble_eq_true rfl) (Nat.le_of_ble_eq_true rfl) dX0_init_48 (fun q6 c6 H hK hP hD hS => ?_)
  have hK : va_K (dC, dI) vwCl [(c1, .boolean), (c2, .boolean), (c3, .int), (c4, .int), (c5, .int), (c6, .int)] s := hK
  have hP : va_P (dC, dI) vwCl [(h0, .inr (0, [.ref q1, .ref q2, .int 0, .int 0, .int 0, .int 0, .ref q3, .ref q4, .ref q5, .null])), (q1, .inl (c1, 400, .inl (fun _ => 0))), (q2, .inl (c2, 50, .inl (fun _ => 0))), (q3, .inl (c3, 21, .inl (fun _ => 0))), (q4, .inl (c4, 22, .inl (fun _ => 0))), (q5, .inl (c5, 22, .inl (fun _ => 0))), (q6, .inl (c6, 22, .inl (fun _ => 0)))] H := hP
  have hD : va_D A [(h0, .inr (0, [.ref q1, .ref q2, .int 0, .int 0, .int 0, .int 0, .ref q3, .ref q4, .ref q5, .null])), (q1, .inl (c1, 400, .inl (fun _ => 0))), (q2, .inl (c2, 50, .inl (fun _ => 0))), (q3, .inl (c3, 21, .inl (fun _ => 0))), (q4, .inl (c4, 22, .inl (fun _ => 0))), (q5, .inl (c5, 22, .inl (fun _ => 0))), (q6, .inl (c6, 22, .inl (fun _ => 0)))] := hD
  refine W.widen (k := 6) (n := 537) (by decide) (by decide) ?_
  refine va_putF (D := (dC, dI)) (ci := 0) (v := .ref q6) (ty := .array .int) (C := RX0) (T := TX0) (N := 10) hx hb hts in_X0 tyX0 tyX0_ok nmX0 hown hK hP hD hS 0 rfl rfl 9 (by decide) (hts _ q31) (fun _ h9 => h9) rfl hin rfl (by decide +kernel) rfl rfl (Nat.le_of_ble_eq_true rfl) dX0_init_50 (fun H locs hP hD hS => ?_)
  have hP : va_P (dC, dI) vwCl [(h0, .inr (0, [.ref q1, .ref q2, .int 0, .int 0, .int 0, .int 0, .ref q3, .ref q4, .ref q5, .ref q6])), (q1, .inl (c1, 400, .inl (fun _ => 0))), (q2, .inl (c2, 50, .inl (fun _ => 0))), (q3, .inl (c3, 21, .inl (fun _ => 0))), (q4, .inl (c4, 22, .inl (fun _ => 0))), (q5, .inl (c5, 22, .inl (fun _ => 0))), (q6, .inl (c6, 22, .inl (fun _ => 0)))] H := hP
  have hD : va_D A [(h0, .inr (0, [.ref q1, .ref q2, .int 0, .int 0, .int 0, .int 0, .ref q3, .ref q4, .ref q5, .ref q6])), (q1, .inl (c1, 400, .inl (fun _ => 0))), (q2, .inl (c2, 50, .inl (fun _ => 0))), (q3, .inl (c3, 21, .inl (fun _ => 0))), (q4, .inl (c4, 22, .inl (fun _ => 0))), (q5, .inl (c5, 22, .inl (fun _ => 0))), (q6, .inl (c6, 22, .inl (fun _ => 0)))] := hD
  exact W.vret hx hb hr (fun t ht hW => ⟨⟨(fun k => [h0, q1, q2, q3, q4, q5, q6].getD k 0, fun k => [c1, c1, c2, c3, c4, c5, c6].getD k c1), rfl, rfl, ⟨by rw [ht]; exact hP, va_K.moved hW.alike hK, hD⟩⟩, hS.F ht⟩) hS.2.2 dX0_init_53
set_option maxHeartbeats 4000000 in
set_option maxRecDepth 100000 in
/-- the constructor: 7 arrays of zeros -/
theorem metX1_init (l : Launch) (dC : Nat → ClassId) (dI : Nat → Nat → Nat) (h0 : Nat) (sz : Nat) : Met l yX1_init (ws_ yX1_init cX1_init 1 none) ({ frames := 1, cells := 7, slots := 690, locals := 12 }) (va_Pc [.ref h0] (fun U => U.heap.size = sz ∧ nw_XB dC dI (fun _ => True) [(h0, .inr (1, [.null, .null, .null, .int 0, .null, .null, .null, .null]))] [] U)) (va_Qv (fun u : (Nat → Nat) × (Nat → ClassId) => u.1 0 = h0) (fun (u : (Nat → Nat) × (Nat → ClassId)) t => nw_XB dC dI (va_A [(h0, .inr (1, [.null, .null, .null, .int 0, .null, .null, .null, .null]))] sz) (nw_yW u.1 u.2 (fun _ => 0) (fun _ => 0) (fun _ => 0) (nI 0) (fun _ => 0) (fun _ => 0) (fun _ => 0) (fun _ => 0)) (nw_yT u.2) t) (va_A [(h0, .inr (1, [.null, .null, .null, .int 0, .null, .null, .null, .null]))] sz)) 7 690 (va_A [(h0, .inr (1, [.null, .null, .null, .int 0, .null, .null, .null, .null]))] sz) := by
  refine Met.ofW (cc := cX1_init) (maxL := 1) (ret := none) (by decide) rfl ?_
  intro p e s m args below meth c s₁ B hml hv
  obtain ⟨rfl, hsz, hP, hK, hD0⟩ := hv
  have hx := B.exec
  have hb := B.bytes
  have hr := B.returns
  have hts := atoms_spec (ws := ws_ yX1_init cX1_init 1 none) B.pre
  have hts : ∀ w ∈ lw_all, w.before _ s = true := fun w h => hts w (List.mem_cons_of_mem _ h)
  have hown : s.vm.findClass RX1 = some m.cls := findClass_of_methodNamed B.named
  have hlocks := B.notSynchronized
  have hin : meth.name = "<init>" := (name_of_methodNamed B.named B.method).1
  subst hsz
  have hD := hD0.self (sz := s.heap.size)
  generalize hAe : va_A [(h0, .inr (1, [.null, .null, .null, .int 0, .null, .null, .null, .null]))] s.heap.size = A at hD ⊢
  have hA : ∀ q : Nat, s.heap.size ≤ q → A q := fun q h => by rw [← hAe]; exact Or.inr h
  have hS : va_S A s.heap s.heap [] := va_S.rf
  have hP : va_P (dC, dI) vwCl [(h0, .inr (1, [.null, .null, .null, .int 0, .null, .null, .null, .null]))] s.heap := hP
  have hl := lv_entry ([.ref h0]) (n := 1) (Nat.le_of_ble_eq_true rfl)
  rw [lg_entry_eq]
  generalize (lg_sl ([.ref h0]) ++ List.replicate (1 - (lg_sl ([.ref h0])).length) Slot.unset).toArray = ls at hl ⊢
  have hl : lv_has ls 1 [(0, .ref h0)] := hl
  refine lv_aload_n hx hb dX1_init_0 rfl (lv_at hl 0 rfl) ?_
  refine W.objInit hx hb hown (hts _ q135) (hts _ q20) (hts _ q21) rfl (by rw [hml]; exact hl.1) rfl dX1_init_1 (Nat.le_of_ble_eq_true rfl) (Nat.le_of_ble_eq_true rfl) ?_
  refine W.eq (g2 := F0 m 4 ls []) rfl ?_
  refine lv_aload_n hx hb dX1_init_4 rfl (lv_at hl 0 rfl) ?_
  refine lv_sipush (v := (nI 600)) hx hb dX1_init_5 (by decide) ?_
  refine va_newa (atype := .boolean) (ty := .boolean) (a0 := (600, .inl (fun _ => 0))) (N' := 600) hx hb (hts _ q53) rfl hK hP hD hS hA (fun _ => rfl) (by decide) (by decide) (by decide) (Nat.le_of_ble_eq_true rfl) (Nat.le_of_ble_eq_true rfl) dX1_init_8 (fun q1 c1 H hK hP hD hS => ?_)
  have hK : va_K (dC, dI) vwCl [(c1, .boolean)] s := hK
  have hP : va_P (dC, dI) vwCl [(h0, .inr (1, [.null, .null, .null, .int 0, .null, .null, .null, .null])), (q1, .inl (c1, 600, .inl (fun _ => 0)))] H := hP
  have hD : va_D A [(h0, .inr (1, [.null, .null, .null, .int 0, .null, .null, .null, .null])), (q1, .inl (c1, 600, .inl (fun _ => 0)))] := hD
  refine W.widen (k := 1) (n := 600) (by decide) (by decide) ?_
  refine va_putF (D := (dC, dI)) (ci := 1) (v := .ref q1) (ty := .array .boolean) (C := RX1) (T := TX1) (N := 8) hx hb hts in_X1 tyX1 tyX1_ok nmX1 hown hK hP hD hS 0 rfl rfl 0 (by decide) (hts _ q136) (fun _ h9 => h9) rfl hin rfl (by decide +kernel) rfl rfl (Nat.le_of_ble_eq_true rfl) dX1_init_10 (fun H locs hP hD hS => ?_)
  have hP : va_P (dC, dI) vwCl [(h0, .inr (1, [.ref q1, .null, .null, .int 0, .null, .null, .null, .null])), (q1, .inl (c1, 600, .inl (fun _ => 0)))] H := hP
  have hD : va_D A [(h0, .inr (1, [.ref q1, .null, .null, .int 0, .null, .null, .null, .null])), (q1, .inl (c1, 600, .inl (fun _ => 0)))] := hD
  refine lv_aload_n hx hb dX1_init_13 rfl (lv_at hl 0 rfl) ?_
  refine lv_iconst (v := (nI 5)) hx hb dX1_init_14 (by decide) ?_
  refine va_newa (atype := .boolean) (ty := .boolean) (a0 := (5, .inl (fun _ => 0))) (N' := 5) hx hb (hts _ q53) rfl hK hP hD hS hA (fun _ => rfl) (by decide) (by decide) (by decide) (Nat.le_of_ble_eq_true rfl) (Nat.le_of_ble_eq_true rfl) dX1_init_15 (fun q2 c2 H hK hP hD hS => ?_)
  have hK : va_K (dC, dI) vwCl [(c1, .boolean), (c2, .boolean)] s := hK
  have hP : va_P (dC, dI) vwCl [(h0, .inr (1, [.ref q1, .null, .null, .int 0, .null, .null, .null, .null])), (q1, .inl (c1, 600, .inl (fun _ => 0))), (q2, .inl (c2, 5, .inl (fun _ => 0)))] H := hP
  have hD : va_D A [(h0, .inr (1, [.ref q1, .null, .null, .int 0, .null, .null, .null, .null])), (q1, .inl (c1, 600, .inl (fun _ => 0))), (q2, .inl (c2, 5, .inl (fun _ => 0)))] := hD
  refine W.widen (k := 2) (n := 605) (by decide) (by decide) ?_
  refine va_putF (D := (dC, dI)) (ci := 1) (v := .ref q2) (ty := .array .boolean) (C := RX1) (T := TX1) (N := 8) hx hb hts in_X1 tyX1 tyX1_ok nmX1 hown hK hP hD hS 0 rfl rfl 1 (by decide) (hts _ q137) (fun _ h9 => h9) rfl hin rfl (by decide +kernel) rfl rfl (Nat.le_of_ble_eq_true rfl) dX1_init_17 (fun H locs hP hD hS => ?_)
  have hP : va_P (dC, dI) vwCl [(h0, .inr (1, [.ref q1, .ref q2, .null, .int 0, .null, .null, .null, .null])), (q1, .inl (c1, 600, .inl (fun _ => 0))), (q2, .inl (c2, 5, .inl (fun _ => 0)))] H := hP
  have hD : va_D A [(h0, .inr (1, [.ref q1, .ref q2, .null, .int 0, .null, .null, .null, .null])), (q1, .inl (c1, 600, .inl (fun _ => 0))), (q2, .inl (c2, 5, .inl (fun _ => 0)))] := hD
  refine lv_aload_n hx hb dX1_init_20 rfl (lv_at hl 0 rfl) ?_
  refine lv_iconst (v := (nI 5)) hx hb dX1_init_21 (by decide) ?_
  refine va_newa (atype := .boolean) (ty := .boolean) (a0 := (5, .inl (fun _ => 0))) (N' := 5) hx hb (hts _ q53) rfl hK hP hD hS hA (fun _ => rfl) (by decide) (by decide) (by decide) (Nat.le_of_ble_eq_true rfl) (Nat.le_of_ble_eq_true rfl) dX1_init_22 (fun q3 c3 H hK hP hD hS => ?_)
  have hK : va_K (dC, dI) vwCl [(c1, .boolean), (c2, .boolean), (c3, .boolean)] s := hK
  have hP : va_P (dC, dI) vwCl [(h0, .inr (1, [.ref q1, .ref q2, .null, .int 0, .null, .null, .null, .null])), (q1, .inl (c1, 600, .inl (fun _ => 0))), (q2, .inl (c2, 5, .inl (fun _ => 0))), (q3, .inl (c3, 5, .inl (fun _ => 0)))] H := hP
  have hD : va_D A [(h0, .inr (1, [.ref q1, .ref q2, .null, .int 0, .null, .null, .null, .null])), (q1, .inl (c1, 600, .inl (fun _ => 0))), (q2, .inl (c2, 5, .inl (fun _ => 0))), (q3, .inl (c3, 5, .inl (fun _ => 0)))] := hD
  refine W.widen (k := 3) (n := 610) (by decide) (by decide) ?_
  refine va_putF (D := (dC, dI)) (ci := 1) (v := .ref q3) (ty := .array .boolean) (C := RX1) (T := TX1) (N := 8) hx hb hts in_X1 tyX1 tyX1_ok nmX1 hown hK hP hD hS 0 rfl rfl 2 (by decide) (hts _ q138) (fun _ h9 => h9) rfl hin rfl (by decide +kernel) rfl rfl (Nat.le_of_ble_eq_true rfl) dX1_init_24 (fun H locs hP hD hS => ?_)
  have hP : va_P (dC, dI) vwCl [(h0, .inr (1, [.ref q1, .ref q2, .ref q3, .int 0, .null, .null, .null, .null])), (q1, .inl (c1, 600, .inl (fun _ => 0))), (q2, .inl (c2, 5, .inl (fun _ => 0))), (q3, .inl (c3, 5, .inl (fun _ => 0)))] H := hP
  have hD : va_D A [(h0, .inr (1, [.ref q1, .ref q2, .ref q3, .int 0, .null, .null, .null, .null])), (q1, .inl (c1, 600, .inl (fun _ => 0))), (q2, .inl (c2, 5, .inl (fun _ => 0))), (q3, .inl (c3, 5, .inl (fun _ => 0)))] := hD
  refine lv_aload_n hx hb dX1_init_27 rfl (lv_at hl 0 rfl) ?_
  refine lv_bipush (v := (nI 20)) hx hb dX1_init_28 (by decide) ?_
  refine va_newa (atype := .int) (ty := .int) (a0 := (20, .inl (fun _ => 0))) (N' := 20) hx hb (hts _ q54) rfl hK hP hD hS hA (fun _ => rfl) (by decide) (by decide) (by decide) (Nat.le_of_ble_eq_true rfl) (Nat.le_of_ble_eq_true rfl) dX1_init_30 (fun q4 c4 H hK hP hD hS => ?_)
  have hK : va_K (dC, dI) vwCl [(c1, .boolean), (c2, .boolean), (c3, .boolean), (c4, .int)] s := hK
  have hP : va_P (dC, dI) vwCl [(h0, .inr (1, [.ref q1, .ref q2, .ref q3, .int 0, .null, .null, .null, .null])), (q1, .inl (c1, 600, .inl (fun _ => 0))), (q2, .inl (c2, 5, .inl (fun _ => 0))), (q3, .inl (c3, 5, .inl (fun _ => 0))), (q4, .inl (c4, 20, .inl (fun _ => 0)))] H := hP
  have hD : va_D A [(h0, .inr (1, [.ref q1, .ref q2, .ref q3, .int 0, .null, .null, .null, .null])), (q1, .inl (c1, 600, .inl (fun _ => 0))), (q2, .inl (c2, 5, .inl (fun _ => 0))), (q3, .inl (c3, 5, .inl (fun _ => 0))), (q4, .inl (c4, 20, .inl (fun _ => 0)))] := hD
  refine W.widen (k := 4) (n := 630) (by decide) (by decide) ?_
  refine va_putF (D := (dC, dI)) (ci := 1) (v := .ref q4) (ty := .array .int) (C := RX1) (T := TX1) (N := 8) hx hb hts in_X1 tyX1 tyX1_ok nmX1 hown hK hP hD hS 0 rfl rfl 4 (by decide) (hts _ q140) (fun _ h9 => h9) rfl hin rfl (by decide +kernel) rfl rfl (Nat.le_of_ble_eq_true rfl) dX1_init_32 (fun H locs hP hD hS => ?_)
  have hP : va_P (dC, dI) vwCl [(h0, .inr (1, [.ref q1, .ref q2, .ref q3, .int 0, .ref q4, .null, .null, .null])), (q1, .inl (c1, 600, .inl (fun _ => 0))), (q2, .inl (c2, 5, .inl (fun _ => 0))), (q3, .inl (c3, 5, .inl (fun _ => 0))), (q4, .inl (c4, 20, .inl (fun _ => 0)))] H := hP
  have hD : va_D A [(h0, .inr (1, [.ref q1, .ref q2, .ref q3, .int 0, .ref q4, .null, .null, .null])), (q1, .inl (c1, 600, .inl (fun _ => 0))), (q2, .inl (c2, 5, .inl (fun _ => 0))), (q3, .inl (c3, 5, .inl (fun _ => 0))), (q4, .inl (c4, 20, .inl (fun _ => 0)))] := hD
  refine lv_aload_n hx hb dX1_init_35 rfl (lv_at hl 0 rfl) ?_
  refine lv_bipush (v := (nI 20)) hx hb dX1_init_36 (by decide) ?_
  refine va_newa (atype := .int) (ty := .int) (a0 := (20, .inl (fun _ => 0))) (N' := 20) hx hb (hts _ q54) rfl hK hP hD hS hA (fun _ => rfl) (by decide) (by decide) (by decide) (Nat.le_of_ble_eq_true rfl) (Nat.le_of_ble_eq_true rfl) dX1_init_38 (fun q5 c5 H hK hP hD hS => ?_)
  have hK : va_K (dC, dI) vwCl [(c1, .boolean), (c2, .boolean), (c3, .boolean), (c4, .int), (c5, .int)] s := hK
  have hP : va_P (dC, dI) vwCl [(h0, .inr (1, [.ref q1, .ref q2, .ref q3, .int 0, .ref q4, .null, .null, .null])), (q1, .inl (c1, 600, .inl (fun _ => 0))), (q2, .inl (c2, 5, .inl (fun _ => 0))), (q3, .inl (c3, 5, .inl (fun _ => 0))), (q4, .inl (c4, 20, .inl (fun _ => 0))), (q5, .inl (c5, 20, .inl (fun _ => 0)))] H := hP
  have hD : va_D A [(h0, .inr (1, [.ref q1, .ref q2, .ref q3, .int 0, .ref q4, .null, .null, .null])), (q1, .inl (c1, 600, .inl (fun _ => 0))), (q2, .inl (c2, 5, .inl (fun _ => 0))), (q3, .inl (c3, 5, .inl (fun _ => 0))), (q4, .inl (c4, 20, .inl (fun _ => 0))), (q5, .inl (c5, 20, .inl (fun _ => 0)))] := hD
  refine W.widen (k := 5) (n := 650) (by decide) (by decide) ?_
  refine va_putF (D := (dC, dI)) (ci := 1) (v := .ref q5) (ty := .array .int) (C := RX1) (T := TX1) (N := 8) hx hb hts in_X1 tyX1 tyX1_ok nmX1 hown hK hP hD hS 0 rfl rfl 5 (by decide) (hts _ q141) (fun _ h9 => h9) rfl hin rfl (by decide +kernel) rfl rfl (Nat.le_of_ble_eq_true rfl) dX1_init_40 (fun H locs hP hD hS => ?_)
  have hP : va_P (dC, dI) vwCl [(h0, .inr (1, [.ref q1, .ref q2, .ref q3, .int 0, .ref q4, .ref q5, .null, .null])), (q1, .inl (c1, 600, .inl (fun _ => 0))), (q2, .inl (c2, 5, .inl (fun _ => 0))), (q3, .inl (c3, 5, .inl (fun _ => 0))), (q4, .inl (c4, 20, .inl (fun _ => 0))), (q5, .inl (c5, 20, .inl (fun _ => 0)))] H := hP
  have hD : va_D A [(h0, .inr (1, [.ref q1, .ref q2, .ref q3, .int 0, .ref q4, .ref q5, .null, .null])), (q1, .inl (c1, 600, .inl (fun _ => 0))), (q2, .inl (c2, 5, .inl (fun _ => 0))), (q3, .inl (c3, 5, .inl (fun _ => 0))), (q4, .inl (c4, 20, .inl (fun _ => 0))), (q5, .inl (c5, 20, .inl (fun _ => 0)))] := hD
  refine lv_aload_n hx hb dX1_init_43 rfl (lv_at hl 0 rfl) ?_
  refine lv_bipush (v := (nI 20)) hx hb dX1_init_44 (by decide) ?_
  refine va_newa (atype := .int) (ty := .int) (a0 := (20, .inl (fun _ => 0))) (N' := 20) hx hb (hts _ q54) rfl hK hP hD hS hA (fun _ => rfl) (by decide) (by decide) (by decide) (Nat.le_of_ble_eq_true rfl) (Nat.le_of_ble_eq_true rfl) dX1_init_46 (fun q6 c6 H hK hP hD hS => ?_)
  have hK : va_K (dC, dI) vwCl [(c1, .boolean), (c2, .boolean), (c3, .boolean), (c4, .int), (c5, .int), (c6, .int)] s := hK
  have hP : va_P (dC, dI) vwCl [(h0, .inr (1, [.ref q1, .ref q2, .ref q3, .int 0, .ref q4, .ref q5, .null, .null])), (q1, .inl (c1, 600, .inl (fun _ => 0))), (q2, .inl (c2, 5, .inl (fun _ => 0))), (q3, .inl (c3, 5, .inl (fun _ => 0))), (q4, .inl (c4, 20, .inl (fun _ => 0))), (q5, .inl (c5, 20, .inl (fun _ => 0))), (q6, .inl (c6, 20, .inl (fun _ => 0)))] H := hP
  have hD : va_D A [(h0, .inr (1, [.ref q1, .ref q2, .ref q3, .int 0, .ref q4, .ref q5, .null, .null])), (q1, .inl (c1, 600, .inl (fun _ => 0))), (q2, .inl (c2, 5, .inl (fun _ => 0))), (q3, .inl (c3, 5, .inl (fun _ => 0))), (q4, .inl (c4, 20, .inl (fun _ => 0))), (q5, .inl (c5, 20, .inl (fun _ => 0))), (q6, .inl (c6, 20, .inl (fun _ => 0)))] := hD
  refine W.widen (k := 6) (n := 670) (by decide) (by decide) ?_
  refine va_putF (D := (dC, dI)) (ci := 1) (v := .ref q6) (ty := .array .int) (C := RX1) (T := TX1) (N := 8) hx hb hts in_X1 tyX1 tyX1_ok nmX1 hown hK hP hD hS 0 rfl rfl 6 (by decide) (hts _ q142) (fun _ h9 => h9) rfl hin rfl (by decide +kernel) rfl rfl (Nat.le_of_ble_eq_true rfl) dX1_init_48 (fun H locs hP hD hS => ?_)
  have hP : va_P (dC, dI) vwCl [(h0, .inr (1, [.ref q1, .ref q2, .ref q3, .int 0, .ref q4, .ref q5, .ref q6, .null])), (q1, .inl (c1, 600, .inl (fun _ => 0))), (q2, .inl (c2, 5, .inl (fun _ => 0))), (q3, .inl (c3, 5, .inl (fun _ => 0))), (q4, .inl (c4, 20, .inl (fun _ => 0))), (q5, .inl (c5, 20, .inl (fun _ => 0))), (q6, .inl (c6, 20, .inl (fun _ => 0)))] H := hP
  have hD : va_D A [(h0, .inr (1, [.ref q1, .ref q2, .ref q3, .int 0, .ref q4, .ref q5, .ref q6, .null])), (q1, .inl (c1, 600, .inl (fun _ => 0))), (q2, .inl (c2, 5, .inl (fun _ => 0))), (q3, .inl (c3, 5, .inl (fun _ => 0))), (q4, .inl (c4, 20, .inl (fun _ => 0))), (q5, .inl (c5, 20, .inl (fun _ => 0))), (q6, .inl (c6, 20, .inl (fun _ => 0)))] := hD
  refine lv_aload_n hx hb dX1_init_51 rfl (lv_at hl 0 rfl) ?_
  refine lv_bipush (v := (nI 20)) hx hb dX1_init_52 (by decide) ?_
  refine va_newa (atype := .int) (ty := .int) (a0 := (20, .inl (fun _ => 0))) (N' := 20) hx hb (hts _ q54) rfl hK hP hD hS hA (fun _ => rfl) (by decide) (by decide) (by decide) (Nat.le_of_ble_eq_true rfl) (Nat.le_of_ble_eq_true rfl) dX1_init_54 (fun q7 c7 H hK hP hD hS => ?_)
  have hK : va_K (dC, dI) vwCl [(c1, .boolean), (c2, .boolean), (c3, .boolean), (c4, .int), (c5, .int), (c6, .int), (c7, .int)] s := hK
  have hP : va_P (dC, dI) vwCl [(h0, .inr (1, [.ref q1, .ref q2, .ref q3, .int 0, .ref q4, .ref q5, .ref q6, .null])), (q1, .inl (c1, 600, .inl (fun _ => 0))), (q2, .inl (c2, 5, .inl (fun _ => 0))), (q3, .inl (c3, 5, .inl (fun _ => 0))), (q4, .inl (c4, 20, .inl (fun _ => 0))), (q5, .inl (c5, 20, .inl (fun _ => 0))), (q6, .inl (c6, 20, .inl (fun _ => 0))), (q7, .inl (c7, 20, .inl (fun _ => 0)))] H := hP
  have hD : va_D A [(h0, .inr (1, [.ref q1, .ref q2, .ref q3, .int 0, .ref q4, .ref q5, .ref q6, .null])), (q1, .inl (c1, 600, .inl (fun _ => 0))), (q2, .inl (c2, 5, .inl (fun _ => 0))), (q3, .inl (c3, 5, .inl (fun _ => 0))), (q4, .inl (c4, 20, .inl (fun _ => 0))), (q5, .inl (c5, 20, .inl (fun _ => 0))), (q6, .inl (c6, 20, .inl (fun _ => 0))), (q7, .inl (c7, 20, .inl (fun _ => 0)))] := hD
  refine W.widen (k := 7) (n := 690) (by decide) (by decide) ?_
  refine va_putF (D := (dC, dI)) (ci := 1) (v := .ref q7) (ty := .array .int) (C := RX1) (T := TX1) (N := 8) hx hb hts in_X1 tyX1 tyX1_ok nmX1 hown hK hP hD hS 0 rfl rfl 7 (by decide) (hts _ q143) (fun _ h9 => h9) rfl hin rfl (by decide +kernel) rfl rfl (Nat.le_of_ble_eq_true rfl) dX1_init_56 (fun H locs hP hD hS => ?_)
  have hP : va_P (dC, dI) vwCl [(h0, .inr (1, [.ref q1, .ref q2, .ref q3, .int 0, .ref q4, .ref q5, .ref q6, .ref q7])), (q1, .inl (c1, 600, .inl (fun _ => 0))), (q2, .inl (c2, 5, .inl (fun _ => 0))), (q3, .inl (c3, 5, .inl (fun _ => 0))), (q4, .inl (c4, 20, .inl (fun _ => 0))), (q5, .inl (c5, 20, .inl (fun _ => 0))), (q6, .inl (c6, 20, .inl (fun _ => 0))), (q7, .inl (c7, 20, .inl (fun _ => 0)))] H := hP
  have hD : va_D A [(h0, .inr (1, [.ref q1, .ref q2, .ref q3, .int 0, .ref q4, .ref q5, .ref q6, .ref q7])), (q1, .inl (c1, 600, .inl (fun _ => 0))), (q2, .inl (c2, 5, .inl (fun _ => 0))), (q3, .inl (c3, 5, .inl (fun _ => 0))), (q4, .inl (c4, 20, .inl (fun _ => 0))), (q5, .inl (c5, 20, .inl (fun _ => 0))), (q6, .inl (c6, 20, .inl (fun _ => 0))), (q7, .inl (c7, 20, .inl (fun _ => 0)))] := hD
  exact W.vret hx hb hr (fun t ht hW => ⟨⟨(fun k => [h0, q1, q2, q3, q4, q5, q6, q7].getD k 0, fun k => [c1, c1, c2, c3, c4, c5, c6, c7].getD k c1), rfl, rfl, ⟨by rw [ht]; exact hP, va_K.moved hW.alike hK, hD⟩⟩, hS.F ht⟩) hS.2.2 dX1_init_59
end
section
/-! THE CLAIM OUT OF ONE WALK OF THE LAW'S BODY. Your part is whole_start (and what it stands on); all else here is the same for every law, but numbers. -/
def R_law : String := "NestedWordsLaw"
def lw_P (b : Addr) (xs : List Int32) (args : Array Value) (s : State) : Prop := args = #[.ref b] ∧ s.IntsAt b xs ∧ xs.length ≤ 384 ∧ (Jvm.Cond.and given_1 narrow_1).before args s = true
def lw_Q (_ : Array Value) (s : State) (o : Outcome) (t : State) : Prop := o = .returned (some (.int 1)) ∧ Framed s o t [] 600000 7290000
def lw_Z (below : List Frame) (a : Array Value) (s : State) : State → Prop := fun t => ∃ o, t.status = .running ∧ Ended t below o ∧ lw_Q a s o t
/-- the law's own end, with 1 on the stack, nothing written that was there before, its room as the claim has it -/
theorem lw_ret {p : Program} {l : Launch} {e : Env} {s : State} {m : MethodId} {below : List Frame} {meth : Method} {c : Code} {b : Nat} (hx : p.tables.exec = Jvm.exec) (hb : c.code = code) (hr : meth.sig.returnType = ret) (hlocks : meth.locks = false) {pc : Nat} {H : Heap} {ls : Array Slot} (hdg : decode code pc = .ok (.ireturn, 1)) : W p l e room_1 s m #[Value.ref b] below meth c H [] 600000 7290000 (lw_Z below #[Value.ref b] s) (F0 m pc ls [.int 1]) := by
  intro T hT X
  obtain ⟨fs, hret, hrun, hended, hW, hframe⟩ := X.leave (v := some (.int 1)) (hlocks := hlocks) (fun h => by rw [hr] at h; cases h)
  have hmeth' : T.vm.method? m = some meth := X.method'
  refine ⟨T.setFrames fs, ?_, .returned (some (.int 1)), hrun, hended, rfl, ⟨_, rfl⟩, hW, hframe⟩
  jvm_step X.here [X.here.top, hx, hb, hdg, hmeth', hr, ret, narrow_b1]
  (try refine ⟨rfl, ?_⟩); (try refine ⟨rfl, ?_⟩)
  first | (intro acts; rw [hret _ acts rfl rfl rfl]) | rw [hret _ _ rfl rfl rfl]
  exact Steps.refl _
/-- what holds at the law's entry: the machine, the code, the tables' words (any of lw_tbl by 'hts w (by decide +kernel)'), the script of L ints xs at the cell b, what the Statement gives of the start (any of its parts by flat_of_before) -/
def lw_At (p : Program) (s : State) (m : MethodId) (meth : Method) (c : Code) (b L : Nat) (xs : Nat → Int32) : Prop :=
  p.tables.exec = Jvm.exec ∧ c.code = code ∧ meth.sig.returnType = ret ∧ c.maxLocals = 4 ∧ s.vm.findClass R_law = some m.cls ∧ (∀ w ∈ lw_tbl, w.before #[Value.ref b] s = true) ∧ va_X b L xs s s.heap ∧ b < s.heap.size ∧ meth.locks = false ∧ (Jvm.Cond.and given_1 narrow_1).before #[Value.ref b] s = true

/-! PURE 7: the law's own rows -/
theorem nw_inc6 (a : Nat) : nI a + Int32.ofInt 6 = nI (a + 6) := nI_add a 6
theorem nw_gt {a L : Nat} (ha : a < 2 ^ 30) (hL : L < 2 ^ 30) : nI L - nI 6 < nI a ↔ L < a + 6 := by
  rw [Int32.lt_iff_toInt_lt, pk_sub_toInt hL (by decide), nI_toInt (by omega)]
  omega
section NWS
variable {p : Program} {l : Launch} {e : Env} {R : Room} {s : State} {m : MethodId} {args : Array Value} {below : List Frame} {meth : Method} {c : Code} {H : Heap} {locs : List Loc} {cells slots : Nat} {Q : State → Prop}
variable {cc : ByteArray} {pc : Nat} {ls : Array Slot} {rest : List Value} {A : Nat → Prop} {H0 : Heap}
theorem nw_sld (hexec : p.tables.exec = Jvm.exec) (hb : c.code = cc) {b L : Nat} {xs : Nat → Int32} (hX : va_X b L xs s H0) (hbl : b < H0.size) (hbA : ¬ A b) (hS : va_S A H0 H locs) {j : Nat} (hj : j < L) (hL : L < 2 ^ 31) (hdg : decode cc pc = .ok (.iaload, 1))
    (kk : W p l e R s m args below meth c H locs cells slots Q (F0 m (pc + 1) ls (.int (xs j) :: rest))) : W p l e R s m args below meth c H locs cells slots Q (F0 m pc ls (.int (nI j) :: .ref b :: rest)) := by
  refine va_sld hexec hb hX hbl hbA hS (vp_in_nI hj hL) hdg ?_
  rw [nI_clamp (Nat.lt_trans hj hL)]
  exact kk
end NWS
/-- what joins the system and the reference: the word w of n letters -/
def nw_J (w : Nat → Nat) (n : Nat) (S P : nw_F) (kn : Int32) (aw ay aa ao M sa bw : nw_F) : Prop := n ≤ 16 ∧ (∀ k, k < n → w k < 6) ∧ (∀ k, k < n → aw k = nI (w k)) ∧ (∀ k, k < n → bw k = nI (w k)) ∧ nw_TB S P M ∧ (¬ kn = 0 → nw_CI (nw_pp M) (nw_pl sa 0 5) w n aw ay aa ao)
theorem nw_stj (sa : nw_F) (q : Nat) (hq : q < 5) {a0 : Int32} (h : a0 = 0 ∨ a0 = 1) : (if a0 = 0 then (nw_pl sa 0 5 &&& ((1 : Int32) <<< (nI q &&& 31) ^^^ (-1))) else (nw_pl sa 0 5 ||| (1 : Int32) <<< (nI q &&& 31))) = nw_pl (upd sa q (vp_nar .boolean a0)) 0 5 := by
  rcases h with h | h
  · subst h
    rw [if_pos rfl, show vp_nar .boolean 0 = 0 from by decide +kernel]
    exact nw_pld sa q hq
  · subst h
    rw [if_neg nw_10, show vp_nar .boolean 1 = 1 from by decide +kernel]
    exact nw_plu sa q hq 1 nw_10
theorem nw_s5 {x : Int32} (h : 0 ≤ x ∧ x ≤ 4) : ∃ q, q < 5 ∧ x = nI q := by
  obtain ⟨j, h1, h2⟩ := nI_of2 (n := 4) (M := 4) rfl (Int32.not_lt.mpr h.1) h.2
  exact ⟨j, by omega, h2⟩
theorem nw_s6 {x : Int32} (h : 0 ≤ x ∧ x ≤ 5) : ∃ q, q < 6 ∧ x = nI q := by
  obtain ⟨j, h1, h2⟩ := nI_of2 (n := 5) (M := 5) rfl (Int32.not_lt.mpr h.1) h.2
  exact ⟨j, by omega, h2⟩
/-- move's good arguments as numbers -/
theorem nw_mok_of {q k r x : Int32} (h : nw_mok q k r x) : ∃ q' k' r', q' < 5 ∧ k' < 6 ∧ r' < 5 ∧ q = nI q' ∧ k = nI k' ∧ r = nI r' ∧ (k' < 4 → ∃ x', x' < 4 ∧ (k' < 2 → x' < 3) ∧ x = nI x') := by
  obtain ⟨h1, h2, h3, h4⟩ := h
  obtain ⟨q', g1, e1⟩ := nw_s5 h1
  obtain ⟨r', g2, e2⟩ := nw_s5 h2
  obtain ⟨k', g3, e3⟩ := nw_s6 h3
  refine ⟨q', k', r', g1, g3, g2, e1, e3, e2, fun hk => ?_⟩
  have h5 := h4 (by rw [e3]; exact nI_lt (a := k') (b := 4) hk (by decide))
  by_cases c : k < 2
  · rw [if_pos c] at h5
    obtain ⟨j, j1, j2⟩ := nI_of2 (n := 2) (M := 2) rfl (Int32.not_lt.mpr h5.1) h5.2
    exact ⟨j, by omega, fun _ => by omega, j2⟩
  · rw [if_neg c] at h5
    obtain ⟨j, j1, j2⟩ := nI_of2 (n := 3) (M := 3) rfl (Int32.not_lt.mpr h5.1) h5.2
    refine ⟨j, by omega, fun hk2 => ?_, j2⟩
    exact absurd (by rw [e3]; exact nI_lt (a := k') (b := 2) hk2 (by decide)) c
theorem nw_rdok {x : Int32} {n : Nat} (h : ¬ (x < 0 ∨ 5 < x ∨ 16 ≤ n)) : n < 16 ∧ ∃ k, k < 6 ∧ x = nI k := by
  have h1 : ¬ x < 0 := fun g => h (Or.inl g)
  have h2 : ¬ 5 < x := fun g => h (Or.inr (Or.inl g))
  have h3 : ¬ 16 ≤ n := fun g => h (Or.inr (Or.inr g))
  exact ⟨by omega, nw_s6 ⟨Int32.not_lt.mp h1, Int32.not_lt.mp h2⟩⟩
end
section
/-! WALKS 12: the law -/
set_option maxHeartbeats 4000000 in
set_option maxRecDepth 100000 in
/-- live -/
theorem nw_case5 {p : Program} {l : Launch} {e : Env} {s : State} {m : MethodId} {below : List Frame} {meth : Method} {c : Code} {b L : Nat} {xs : Nat → Int32} (hL : L ≤ 384) (C0 : lw_At p s m meth c b L xs) (dC : Nat → ClassId) (dI : Nat → Nat → Nat) (ux uy : Nat → Nat) (cx cy : Nat → ClassId) (hK : va_K (dC, dI) vwCl (nw_xT cx ++ nw_yT cy) s) (a : Nat) (ha : a + 6 ≤ L) (tail : ∀ (w : Nat → Nat) (n : Nat) (S P : nw_F) (kn : Int32) (aw ay aa ao M sa ea bw pt ld wt : nw_F), nw_J w n S P kn aw ay aa ao M sa bw → ∀ (H : Heap) (locs : List Loc), va_P (dC, dI) vwCl (nw_xW ux cx (S) (P) (nw_pl (sa) 0 5) (nw_pl (ea) 0 5) (kn) (nI ((n))) (aw) (ay) (aa) (ao) ++ nw_yW uy cy (M) (sa) (ea) (nI ((n))) (bw) (pt) (ld) (wt)) H → va_D (fun q : Nat => s.heap.size ≤ q) (nw_xW ux cx (S) (P) (nw_pl (sa) 0 5) (nw_pl (ea) 0 5) (kn) (nI ((n))) (aw) (ay) (aa) (ao) ++ nw_yW uy cy (M) (sa) (ea) (nI ((n))) (bw) (pt) (ld) (wt)) → va_S (fun q : Nat => s.heap.size ≤ q) s.heap H locs → ∀ (ls : Array Slot), lv_has ls 4 [(0, .ref (b)), (1, .ref (ux 0)), (2, .ref (uy 0)), (3, .int (nI (a)))] → W p l e room_1 s m #[Value.ref b] below meth c H locs 15 1245 (lw_Z below #[Value.ref b] s) (F0 m 354 ls [])) : ∀ (w : Nat → Nat) (n : Nat) (S P : nw_F) (kn : Int32) (aw ay aa ao M sa ea bw pt ld wt : nw_F), nw_J w n S P kn aw ay aa ao M sa bw → ∀ (H : Heap) (locs : List Loc), va_P (dC, dI) vwCl (nw_xW ux cx (S) (P) (nw_pl (sa) 0 5) (nw_pl (ea) 0 5) (kn) (nI ((n))) (aw) (ay) (aa) (ao) ++ nw_yW uy cy (M) (sa) (ea) (nI ((n))) (bw) (pt) (ld) (wt)) H → va_D (fun q : Nat => s.heap.size ≤ q) (nw_xW ux cx (S) (P) (nw_pl (sa) 0 5) (nw_pl (ea) 0 5) (kn) (nI ((n))) (aw) (ay) (aa) (ao) ++ nw_yW uy cy (M) (sa) (ea) (nI ((n))) (bw) (pt) (ld) (wt)) → va_S (fun q : Nat => s.heap.size ≤ q) s.heap H locs → ∀ (ls : Array Slot), lv_has ls 4 [(0, .ref (b)), (1, .ref (ux 0)), (2, .ref (uy 0)), (3, .int (nI (a)))] → W p l e room_1 s m #[Value.ref b] below meth c H locs 15 1245 (lw_Z below #[Value.ref b] s) (F0 m 289 ls []) := by
  obtain ⟨hx, hb, hr, hml, hown, hts0, hX, hbl, hlocks, hgv⟩ := C0
  have hts : ∀ w ∈ lw_all, w.before #[Value.ref b] s = true := fun w h => hts0 w (lw_all_tbl h)
  have hA : ∀ q : Nat, s.heap.size ≤ q → (fun q : Nat => s.heap.size ≤ q) q := fun _ h => h
  have hbA : ¬ (fun q : Nat => s.heap.size ≤ q) b := Nat.not_le.mpr hbl
  intro w n S P kn aw ay aa ao M sa ea bw pt ld wt hJ H locs hP hD hS ls hl
  obtain ⟨hn, h6, hw, hv, hTB, hC⟩ := hJ
  have hT := nw_TBC hTB
  refine lv_aload_n hx hb dL_law_289 rfl (lv_at hl 1 rfl) ?_
  have hPc := hP.sub (ws' := nw_xW ux cx (S) (P) (nw_pl sa 0 5) (nw_pl ea 0 5) (kn) (nI ((n))) (aw) (ay) (aa) (ao)) [0, 1, 2, 3, 4, 5, 6] rfl
  have hDc := hD.sub (ws' := nw_xW ux cx (S) (P) (nw_pl sa 0 5) (nw_pl ea 0 5) (kn) (nI ((n))) (aw) (ay) (aa) (ao)) [0, 1, 2, 3, 4, 5, 6] (by decide) rfl
  have hKc := hK.sub (tys' := nw_xT cx) [0, 1, 2, 3, 4, 5] rfl
  have hFc := va_free (wc := nw_xW ux cx (S) (P) (nw_pl sa 0 5) (nw_pl ea 0 5) (kn) (nI ((n))) (aw) (ay) (aa) (ao)) hD hS hA [0, 1, 2, 3, 4, 5, 6] rfl
  refine va_calli (va_runV (As := []) (rest := []) ⟨hx, hb, hml, hown, hts⟩ (metX0_live l dC dI ux cx S P (nw_pl sa 0 5) (nw_pl ea 0 5) kn aw ay aa ao (nw_pp M) hT w n hn h6 hw hC H.size) (cwV 0 hts (lw_V q110 q111 q112 q12 q113) rfl rfl rfl (by decide +kernel) ⟨Nat.le_of_ble_eq_true rfl, Nat.le_of_ble_eq_true rfl⟩) ⟨fun a U g mk q => ⟨q.1, q.2.1, nw_blind q.2.2⟩, va_recv hKc hPc (ci := 0) (q0 := 0) rfl rfl, fun U hU hW => ⟨rfl, by rw [hU], by rw [hU]; exact hPc, va_K.moved hW.alike hKc, hDc.weaken (fun _ _ _ _ => trivial)⟩⟩ rfl rfl hl.1 rfl (lv_room (Nat.le_of_ble_eq_true rfl)) dL_law_290 ⟨Nat.le_of_ble_eq_true rfl, Nat.le_of_ble_eq_true rfl⟩) hS (fun q _ h => hFc q h) hFc (fun rx u t_ H locs ht_ hvm_ h1 hB_ _ hk_ hS => ?_)
  obtain ⟨kn1, aw1, ay1, aa1, ao1⟩ := u
  obtain ⟨hP1, -, hD1⟩ := hB_
  rw [ht_] at hP1
  obtain ⟨hP, hD⟩ := va_join (wr := nw_yW uy cy (M) (sa) (ea) (nI ((n))) (bw) (pt) (ld) (wt)) (w1 := nw_xW ux cx (S) (P) (nw_pl sa 0 5) (nw_pl ea 0 5) (kn1) (nI ((n))) (aw1) (ay1) (aa1) (ao1)) hP hD [0, 1, 2, 3, 4, 5, 6] [7, 8, 9, 10, 11, 12, 13, 14] rfl rfl (by decide) (by decide) hk_ hFc hP1 hD1
  refine lv_aload_n hx hb dL_law_293 rfl (lv_at hl 2 rfl) ?_
  have hPc := hP.sub (ws' := nw_yW uy cy (M) (sa) (ea) (nI ((n))) (bw) (pt) (ld) (wt)) [0, 1, 2, 3, 4, 5, 6, 7] rfl
  have hDc := hD.sub (ws' := nw_yW uy cy (M) (sa) (ea) (nI ((n))) (bw) (pt) (ld) (wt)) [0, 1, 2, 3, 4, 5, 6, 7] (by decide) rfl
  have hKc := hK.sub (tys' := nw_yT cy) [6, 7, 8, 9, 10, 11, 12] rfl
  have hFc := va_free (wc := nw_yW uy cy (M) (sa) (ea) (nI ((n))) (bw) (pt) (ld) (wt)) hD hS hA [0, 1, 2, 3, 4, 5, 6, 7] rfl
  refine va_calli (va_runV (As := []) (rest := [.int (rx)]) ⟨hx, hb, hml, hown, hts⟩ (metX1_live l dC dI uy cy M sa ea bw pt ld wt w n hn hv h6 H.size) (cwV 0 hts (lw_V q211 q212 q213 q13 q214) rfl rfl rfl (by decide +kernel) ⟨Nat.le_of_ble_eq_true rfl, Nat.le_of_ble_eq_true rfl⟩) ⟨fun a U g mk q => ⟨q.1, q.2.1, nw_blind q.2.2⟩, va_recv hKc hPc (ci := 1) (q0 := 0) rfl rfl, fun U hU hW => ⟨rfl, by rw [hU], by rw [hU]; exact hPc, va_K.moved hW.alike hKc, hDc.weaken (fun _ _ _ _ => trivial)⟩⟩ rfl rfl hl.1 rfl (lv_room (Nat.le_of_ble_eq_true rfl)) dL_law_294 ⟨Nat.le_of_ble_eq_true rfl, Nat.le_of_ble_eq_true rfl⟩) hS (fun q _ h => hFc q h) hFc (fun ry u t_ H locs ht_ hvm_ h2 hB_ _ hk_ hS => ?_)
  obtain ⟨p1, d1, t1⟩ := u
  obtain ⟨hP1, -, hD1⟩ := hB_
  rw [ht_] at hP1
  obtain ⟨hP, hD⟩ := va_join (wr := nw_xW ux cx (S) (P) (nw_pl sa 0 5) (nw_pl ea 0 5) (kn1) (nI ((n))) (aw1) (ay1) (aa1) (ao1)) (w1 := nw_yW uy cy (M) (sa) (ea) (nI ((n))) (bw) (p1) (d1) (t1)) hP hD [0, 1, 2, 3, 4, 5, 6, 7] [8, 9, 10, 11, 12, 13, 14] rfl rfl (by decide) (by decide) hk_ hFc hP1 hD1
  refine lv_icmp_eq (tgt := 354) hx hb dL_law_297 (by decide) (fun _ => ?_) (fun h => absurd (h1.1.trans h2.symm) h)
  exact tail _ _ _ _ _ _ _ _ _ _ _ _ _ _ _ _ ⟨hn, h6, h1.2.2.1, hv, hTB, fun _ => h1.2.2⟩ H locs hP hD hS ls hl
set_option maxHeartbeats 4000000 in
set_option maxRecDepth 100000 in
/-- accepted -/
theorem nw_case6 {p : Program} {l : Launch} {e : Env} {s : State} {m : MethodId} {below : List Frame} {meth : Method} {c : Code} {b L : Nat} {xs : Nat → Int32} (hL : L ≤ 384) (C0 : lw_At p s m meth c b L xs) (dC : Nat → ClassId) (dI : Nat → Nat → Nat) (ux uy : Nat → Nat) (cx cy : Nat → ClassId) (hK : va_K (dC, dI) vwCl (nw_xT cx ++ nw_yT cy) s) (a : Nat) (ha : a + 6 ≤ L) (tail : ∀ (w : Nat → Nat) (n : Nat) (S P : nw_F) (kn : Int32) (aw ay aa ao M sa ea bw pt ld wt : nw_F), nw_J w n S P kn aw ay aa ao M sa bw → ∀ (H : Heap) (locs : List Loc), va_P (dC, dI) vwCl (nw_xW ux cx (S) (P) (nw_pl (sa) 0 5) (nw_pl (ea) 0 5) (kn) (nI ((n))) (aw) (ay) (aa) (ao) ++ nw_yW uy cy (M) (sa) (ea) (nI ((n))) (bw) (pt) (ld) (wt)) H → va_D (fun q : Nat => s.heap.size ≤ q) (nw_xW ux cx (S) (P) (nw_pl (sa) 0 5) (nw_pl (ea) 0 5) (kn) (nI ((n))) (aw) (ay) (aa) (ao) ++ nw_yW uy cy (M) (sa) (ea) (nI ((n))) (bw) (pt) (ld) (wt)) → va_S (fun q : Nat => s.heap.size ≤ q) s.heap H locs → ∀ (ls : Array Slot), lv_has ls 4 [(0, .ref (b)), (1, .ref (ux 0)), (2, .ref (uy 0)), (3, .int (nI (a)))] → W p l e room_1 s m #[Value.ref b] below meth c H locs 15 1245 (lw_Z below #[Value.ref b] s) (F0 m 354 ls [])) : ∀ (w : Nat → Nat) (n : Nat) (S P : nw_F) (kn : Int32) (aw ay aa ao M sa ea bw pt ld wt : nw_F), nw_J w n S P kn aw ay aa ao M sa bw → ∀ (H : Heap) (locs : List Loc), va_P (dC, dI) vwCl (nw_xW ux cx (S) (P) (nw_pl (sa) 0 5) (nw_pl (ea) 0 5) (kn) (nI ((n))) (aw) (ay) (aa) (ao) ++ nw_yW uy cy (M) (sa) (ea) (nI ((n))) (bw) (pt) (ld) (wt)) H → va_D (fun q : Nat => s.heap.size ≤ q) (nw_xW ux cx (S) (P) (nw_pl (sa) 0 5) (nw_pl (ea) 0 5) (kn) (nI ((n))) (aw) (ay) (aa) (ao) ++ nw_yW uy cy (M) (sa) (ea) (nI ((n))) (bw) (pt) (ld) (wt)) → va_S (fun q : Nat => s.heap.size ≤ q) s.heap H locs → ∀ (ls : Array Slot), lv_has ls 4 [(0, .ref (b)), (1, .ref (ux 0)), (2, .ref (uy 0)), (3, .int (nI (a)))] → W p l e room_1 s m #[Value.ref b] below meth c H locs 15 1245 (lw_Z below #[Value.ref b] s) (F0 m 302 ls []) := by
  obtain ⟨hx, hb, hr, hml, hown, hts0, hX, hbl, hlocks, hgv⟩ := C0
  have hts : ∀ w ∈ lw_all, w.before #[Value.ref b] s = true := fun w h => hts0 w (lw_all_tbl h)
  have hA : ∀ q : Nat, s.heap.size ≤ q → (fun q : Nat => s.heap.size ≤ q) q := fun _ h => h
  have hbA : ¬ (fun q : Nat => s.heap.size ≤ q) b := Nat.not_le.mpr hbl
  intro w n S P kn aw ay aa ao M sa ea bw pt ld wt hJ H locs hP hD hS ls hl
  obtain ⟨hn, h6, hw, hv, hTB, hC⟩ := hJ
  have hT := nw_TBC hTB
  refine lv_aload_n hx hb dL_law_302 rfl (lv_at hl 1 rfl) ?_
  have hPc := hP.sub (ws' := nw_xW ux cx (S) (P) (nw_pl sa 0 5) (nw_pl ea 0 5) (kn) (nI ((n))) (aw) (ay) (aa) (ao)) [0, 1, 2, 3, 4, 5, 6] rfl
  have hDc := hD.sub (ws' := nw_xW ux cx (S) (P) (nw_pl sa 0 5) (nw_pl ea 0 5) (kn) (nI ((n))) (aw) (ay) (aa) (ao)) [0, 1, 2, 3, 4, 5, 6] (by decide) rfl
  have hKc := hK.sub (tys' := nw_xT cx) [0, 1, 2, 3, 4, 5] rfl
  have hFc := va_free (wc := nw_xW ux cx (S) (P) (nw_pl sa 0 5) (nw_pl ea 0 5) (kn) (nI ((n))) (aw) (ay) (aa) (ao)) hD hS hA [0, 1, 2, 3, 4, 5, 6] rfl
  refine va_calli (va_runV (As := []) (rest := []) ⟨hx, hb, hml, hown, hts⟩ (metX0_accepted l dC dI ux cx S P (nw_pl sa 0 5) (nw_pl ea 0 5) kn aw ay aa ao (nw_pp M) hT w n hn h6 hw hC H.size) (cwV 0 hts (lw_V q114 q115 q116 q12 q117) rfl rfl rfl (by decide +kernel) ⟨Nat.le_of_ble_eq_true rfl, Nat.le_of_ble_eq_true rfl⟩) ⟨fun a U g mk q => ⟨q.1, q.2.1, nw_blind q.2.2⟩, va_recv hKc hPc (ci := 0) (q0 := 0) rfl rfl, fun U hU hW => ⟨rfl, by rw [hU], by rw [hU]; exact hPc, va_K.moved hW.alike hKc, hDc.weaken (fun _ _ _ _ => trivial)⟩⟩ rfl rfl hl.1 rfl (lv_room (Nat.le_of_ble_eq_true rfl)) dL_law_303 ⟨Nat.le_of_ble_eq_true rfl, Nat.le_of_ble_eq_true rfl⟩) hS (fun q _ h => hFc q h) hFc (fun rx u t_ H locs ht_ hvm_ h1 hB_ _ hk_ hS => ?_)
  obtain ⟨kn1, aw1, ay1, aa1, ao1⟩ := u
  obtain ⟨hP1, -, hD1⟩ := hB_
  rw [ht_] at hP1
  obtain ⟨hP, hD⟩ := va_join (wr := nw_yW uy cy (M) (sa) (ea) (nI ((n))) (bw) (pt) (ld) (wt)) (w1 := nw_xW ux cx (S) (P) (nw_pl sa 0 5) (nw_pl ea 0 5) (kn1) (nI ((n))) (aw1) (ay1) (aa1) (ao1)) hP hD [0, 1, 2, 3, 4, 5, 6] [7, 8, 9, 10, 11, 12, 13, 14] rfl rfl (by decide) (by decide) hk_ hFc hP1 hD1
  refine lv_aload_n hx hb dL_law_306 rfl (lv_at hl 2 rfl) ?_
  have hPc := hP.sub (ws' := nw_yW uy cy (M) (sa) (ea) (nI ((n))) (bw) (pt) (ld) (wt)) [0, 1, 2, 3, 4, 5, 6, 7] rfl
  have hDc := hD.sub (ws' := nw_yW uy cy (M) (sa) (ea) (nI ((n))) (bw) (pt) (ld) (wt)) [0, 1, 2, 3, 4, 5, 6, 7] (by decide) rfl
  have hKc := hK.sub (tys' := nw_yT cy) [6, 7, 8, 9, 10, 11, 12] rfl
  have hFc := va_free (wc := nw_yW uy cy (M) (sa) (ea) (nI ((n))) (bw) (pt) (ld) (wt)) hD hS hA [0, 1, 2, 3, 4, 5, 6, 7] rfl
  refine va_calli (va_runV (As := []) (rest := [.int (rx)]) ⟨hx, hb, hml, hown, hts⟩ (metX1_accepted l dC dI uy cy M sa ea bw pt ld wt w n hn hv h6 H.size) (cwV 0 hts (lw_V q215 q216 q217 q13 q218) rfl rfl rfl (by decide +kernel) ⟨Nat.le_of_ble_eq_true rfl, Nat.le_of_ble_eq_true rfl⟩) ⟨fun a U g mk q => ⟨q.1, q.2.1, nw_blind q.2.2⟩, va_recv hKc hPc (ci := 1) (q0 := 0) rfl rfl, fun U hU hW => ⟨rfl, by rw [hU], by rw [hU]; exact hPc, va_K.moved hW.alike hKc, hDc.weaken (fun _ _ _ _ => trivial)⟩⟩ rfl rfl hl.1 rfl (lv_room (Nat.le_of_ble_eq_true rfl)) dL_law_307 ⟨Nat.le_of_ble_eq_true rfl, Nat.le_of_ble_eq_true rfl⟩) hS (fun q _ h => hFc q h) hFc (fun ry u t_ H locs ht_ hvm_ h2 hB_ _ hk_ hS => ?_)
  obtain ⟨p1, d1, t1⟩ := u
  obtain ⟨hP1, -, hD1⟩ := hB_
  rw [ht_] at hP1
  obtain ⟨hP, hD⟩ := va_join (wr := nw_xW ux cx (S) (P) (nw_pl sa 0 5) (nw_pl ea 0 5) (kn1) (nI ((n))) (aw1) (ay1) (aa1) (ao1)) (w1 := nw_yW uy cy (M) (sa) (ea) (nI ((n))) (bw) (p1) (d1) (t1)) hP hD [0, 1, 2, 3, 4, 5, 6, 7] [8, 9, 10, 11, 12, 13, 14] rfl rfl (by decide) (by decide) hk_ hFc hP1 hD1
  refine lv_icmp_eq (tgt := 354) hx hb dL_law_310 (by decide) (fun _ => ?_) (fun h => absurd (h1.1.trans h2.symm) h)
  exact tail _ _ _ _ _ _ _ _ _ _ _ _ _ _ _ _ ⟨hn, h6, h1.2.2.1, hv, hTB, fun _ => h1.2.2⟩ H locs hP hD hS ls hl
set_option maxHeartbeats 4000000 in
set_option maxRecDepth 100000 in
/-- the number of waiting letters -/
theorem nw_case7 {p : Program} {l : Launch} {e : Env} {s : State} {m : MethodId} {below : List Frame} {meth : Method} {c : Code} {b L : Nat} {xs : Nat → Int32} (hL : L ≤ 384) (C0 : lw_At p s m meth c b L xs) (dC : Nat → ClassId) (dI : Nat → Nat → Nat) (ux uy : Nat → Nat) (cx cy : Nat → ClassId) (hK : va_K (dC, dI) vwCl (nw_xT cx ++ nw_yT cy) s) (a : Nat) (ha : a + 6 ≤ L) (tail : ∀ (w : Nat → Nat) (n : Nat) (S P : nw_F) (kn : Int32) (aw ay aa ao M sa ea bw pt ld wt : nw_F), nw_J w n S P kn aw ay aa ao M sa bw → ∀ (H : Heap) (locs : List Loc), va_P (dC, dI) vwCl (nw_xW ux cx (S) (P) (nw_pl (sa) 0 5) (nw_pl (ea) 0 5) (kn) (nI ((n))) (aw) (ay) (aa) (ao) ++ nw_yW uy cy (M) (sa) (ea) (nI ((n))) (bw) (pt) (ld) (wt)) H → va_D (fun q : Nat => s.heap.size ≤ q) (nw_xW ux cx (S) (P) (nw_pl (sa) 0 5) (nw_pl (ea) 0 5) (kn) (nI ((n))) (aw) (ay) (aa) (ao) ++ nw_yW uy cy (M) (sa) (ea) (nI ((n))) (bw) (pt) (ld) (wt)) → va_S (fun q : Nat => s.heap.size ≤ q) s.heap H locs → ∀ (ls : Array Slot), lv_has ls 4 [(0, .ref (b)), (1, .ref (ux 0)), (2, .ref (uy 0)), (3, .int (nI (a)))] → W p l e room_1 s m #[Value.ref b] below meth c H locs 15 1245 (lw_Z below #[Value.ref b] s) (F0 m 354 ls [])) : ∀ (w : Nat → Nat) (n : Nat) (S P : nw_F) (kn : Int32) (aw ay aa ao M sa ea bw pt ld wt : nw_F), nw_J w n S P kn aw ay aa ao M sa bw → ∀ (H : Heap) (locs : List Loc), va_P (dC, dI) vwCl (nw_xW ux cx (S) (P) (nw_pl (sa) 0 5) (nw_pl (ea) 0 5) (kn) (nI ((n))) (aw) (ay) (aa) (ao) ++ nw_yW uy cy (M) (sa) (ea) (nI ((n))) (bw) (pt) (ld) (wt)) H → va_D (fun q : Nat => s.heap.size ≤ q) (nw_xW ux cx (S) (P) (nw_pl (sa) 0 5) (nw_pl (ea) 0 5) (kn) (nI ((n))) (aw) (ay) (aa) (ao) ++ nw_yW uy cy (M) (sa) (ea) (nI ((n))) (bw) (pt) (ld) (wt)) → va_S (fun q : Nat => s.heap.size ≤ q) s.heap H locs → ∀ (ls : Array Slot), lv_has ls 4 [(0, .ref (b)), (1, .ref (ux 0)), (2, .ref (uy 0)), (3, .int (nI (a)))] → W p l e room_1 s m #[Value.ref b] below meth c H locs 15 1245 (lw_Z below #[Value.ref b] s) (F0 m 315 ls []) := by
  obtain ⟨hx, hb, hr, hml, hown, hts0, hX, hbl, hlocks, hgv⟩ := C0
  have hts : ∀ w ∈ lw_all, w.before #[Value.ref b] s = true := fun w h => hts0 w (lw_all_tbl h)
  have hA : ∀ q : Nat, s.heap.size ≤ q → (fun q : Nat => s.heap.size ≤ q) q := fun _ h => h
  have hbA : ¬ (fun q : Nat => s.heap.size ≤ q) b := Nat.not_le.mpr hbl
  intro w n S P kn aw ay aa ao M sa ea bw pt ld wt hJ H locs hP hD hS ls hl
  obtain ⟨hn, h6, hw, hv, hTB, hC⟩ := hJ
  have hT := nw_TBC hTB
  refine lv_aload_n hx hb dL_law_315 rfl (lv_at hl 1 rfl) ?_
  have hPc := hP.sub (ws' := nw_xW ux cx (S) (P) (nw_pl sa 0 5) (nw_pl ea 0 5) (kn) (nI ((n))) (aw) (ay) (aa) (ao)) [0, 1, 2, 3, 4, 5, 6] rfl
  have hDc := hD.sub (ws' := nw_xW ux cx (S) (P) (nw_pl sa 0 5) (nw_pl ea 0 5) (kn) (nI ((n))) (aw) (ay) (aa) (ao)) [0, 1, 2, 3, 4, 5, 6] (by decide) rfl
  have hKc := hK.sub (tys' := nw_xT cx) [0, 1, 2, 3, 4, 5] rfl
  have hFc := va_free (wc := nw_xW ux cx (S) (P) (nw_pl sa 0 5) (nw_pl ea 0 5) (kn) (nI ((n))) (aw) (ay) (aa) (ao)) hD hS hA [0, 1, 2, 3, 4, 5, 6] rfl
  refine va_calli (va_runV (As := []) (rest := []) ⟨hx, hb, hml, hown, hts⟩ (metX0_open l dC dI ux cx S P (nw_pl sa 0 5) (nw_pl ea 0 5) kn aw ay aa ao (nw_pp M) hT w n hn h6 hw hC H.size) (cwV 0 hts (lw_V q118 q119 q120 q12 q121) rfl rfl rfl (by decide +kernel) ⟨Nat.le_of_ble_eq_true rfl, Nat.le_of_ble_eq_true rfl⟩) ⟨fun a U g mk q => ⟨q.1, q.2.1, nw_blind q.2.2⟩, va_recv hKc hPc (ci := 0) (q0 := 0) rfl rfl, fun U hU hW => ⟨rfl, by rw [hU], by rw [hU]; exact hPc, va_K.moved hW.alike hKc, hDc.weaken (fun _ _ _ _ => trivial)⟩⟩ rfl rfl hl.1 rfl (lv_room (Nat.le_of_ble_eq_true rfl)) dL_law_316 ⟨Nat.le_of_ble_eq_true rfl, Nat.le_of_ble_eq_true rfl⟩) hS (fun q _ h => hFc q h) hFc (fun rx u t_ H locs ht_ hvm_ h1 hB_ _ hk_ hS => ?_)
  obtain ⟨kn1, aw1, ay1, aa1, ao1⟩ := u
  obtain ⟨hP1, -, hD1⟩ := hB_
  rw [ht_] at hP1
  obtain ⟨hP, hD⟩ := va_join (wr := nw_yW uy cy (M) (sa) (ea) (nI ((n))) (bw) (pt) (ld) (wt)) (w1 := nw_xW ux cx (S) (P) (nw_pl sa 0 5) (nw_pl ea 0 5) (kn1) (nI ((n))) (aw1) (ay1) (aa1) (ao1)) hP hD [0, 1, 2, 3, 4, 5, 6] [7, 8, 9, 10, 11, 12, 13, 14] rfl rfl (by decide) (by decide) hk_ hFc hP1 hD1
  refine lv_aload_n hx hb dL_law_319 rfl (lv_at hl 2 rfl) ?_
  have hPc := hP.sub (ws' := nw_yW uy cy (M) (sa) (ea) (nI ((n))) (bw) (pt) (ld) (wt)) [0, 1, 2, 3, 4, 5, 6, 7] rfl
  have hDc := hD.sub (ws' := nw_yW uy cy (M) (sa) (ea) (nI ((n))) (bw) (pt) (ld) (wt)) [0, 1, 2, 3, 4, 5, 6, 7] (by decide) rfl
  have hKc := hK.sub (tys' := nw_yT cy) [6, 7, 8, 9, 10, 11, 12] rfl
  have hFc := va_free (wc := nw_yW uy cy (M) (sa) (ea) (nI ((n))) (bw) (pt) (ld) (wt)) hD hS hA [0, 1, 2, 3, 4, 5, 6, 7] rfl
  refine va_calli (va_runV (As := []) (rest := [.int (rx)]) ⟨hx, hb, hml, hown, hts⟩ (metX1_open l dC dI uy cy M sa ea bw pt ld wt w n hn hv h6 H.size) (cwV 0 hts (lw_V q224 q225 q226 q13 q227) rfl rfl rfl (by decide +kernel) ⟨Nat.le_of_ble_eq_true rfl, Nat.le_of_ble_eq_true rfl⟩) ⟨fun a U g mk q => ⟨q.1, q.2.1, nw_blind q.2.2⟩, va_recv hKc hPc (ci := 1) (q0 := 0) rfl rfl, fun U hU hW => ⟨rfl, by rw [hU], by rw [hU]; exact hPc, va_K.moved hW.alike hKc, hDc.weaken (fun _ _ _ _ => trivial)⟩⟩ rfl rfl hl.1 rfl (lv_room (Nat.le_of_ble_eq_true rfl)) dL_law_320 ⟨Nat.le_of_ble_eq_true rfl, Nat.le_of_ble_eq_true rfl⟩) hS (fun q _ h => hFc q h) hFc (fun ry u t_ H locs ht_ hvm_ h2 hB_ _ hk_ hS => ?_)
  obtain ⟨p1, d1, t1⟩ := u
  obtain ⟨hP1, -, hD1⟩ := hB_
  rw [ht_] at hP1
  obtain ⟨hP, hD⟩ := va_join (wr := nw_xW ux cx (S) (P) (nw_pl sa 0 5) (nw_pl ea 0 5) (kn1) (nI ((n))) (aw1) (ay1) (aa1) (ao1)) (w1 := nw_yW uy cy (M) (sa) (ea) (nI ((n))) (bw) (p1) (d1) (t1)) hP hD [0, 1, 2, 3, 4, 5, 6, 7] [8, 9, 10, 11, 12, 13, 14] rfl rfl (by decide) (by decide) hk_ hFc hP1 hD1
  refine lv_icmp_eq (tgt := 354) hx hb dL_law_323 (by decide) (fun _ => ?_) (fun h => absurd (h1.1.trans ((congrArg nI (nw_rn_len _ _ w n)).trans h2.symm)) h)
  exact tail _ _ _ _ _ _ _ _ _ _ _ _ _ _ _ _ ⟨hn, h6, h1.2.2.1, hv, hTB, fun _ => h1.2.2⟩ H locs hP hD hS ls hl
set_option maxHeartbeats 4000000 in
set_option maxRecDepth 100000 in
/-- next -/
theorem nw_case8 {p : Program} {l : Launch} {e : Env} {s : State} {m : MethodId} {below : List Frame} {meth : Method} {c : Code} {b L : Nat} {xs : Nat → Int32} (hL : L ≤ 384) (C0 : lw_At p s m meth c b L xs) (dC : Nat → ClassId) (dI : Nat → Nat → Nat) (ux uy : Nat → Nat) (cx cy : Nat → ClassId) (hK : va_K (dC, dI) vwCl (nw_xT cx ++ nw_yT cy) s) (a : Nat) (ha : a + 6 ≤ L) (tail : ∀ (w : Nat → Nat) (n : Nat) (S P : nw_F) (kn : Int32) (aw ay aa ao M sa ea bw pt ld wt : nw_F), nw_J w n S P kn aw ay aa ao M sa bw → ∀ (H : Heap) (locs : List Loc), va_P (dC, dI) vwCl (nw_xW ux cx (S) (P) (nw_pl (sa) 0 5) (nw_pl (ea) 0 5) (kn) (nI ((n))) (aw) (ay) (aa) (ao) ++ nw_yW uy cy (M) (sa) (ea) (nI ((n))) (bw) (pt) (ld) (wt)) H → va_D (fun q : Nat => s.heap.size ≤ q) (nw_xW ux cx (S) (P) (nw_pl (sa) 0 5) (nw_pl (ea) 0 5) (kn) (nI ((n))) (aw) (ay) (aa) (ao) ++ nw_yW uy cy (M) (sa) (ea) (nI ((n))) (bw) (pt) (ld) (wt)) → va_S (fun q : Nat => s.heap.size ≤ q) s.heap H locs → ∀ (ls : Array Slot), lv_has ls 4 [(0, .ref (b)), (1, .ref (ux 0)), (2, .ref (uy 0)), (3, .int (nI (a)))] → W p l e room_1 s m #[Value.ref b] below meth c H locs 15 1245 (lw_Z below #[Value.ref b] s) (F0 m 354 ls [])) : ∀ (w : Nat → Nat) (n : Nat) (S P : nw_F) (kn : Int32) (aw ay aa ao M sa ea bw pt ld wt : nw_F), nw_J w n S P kn aw ay aa ao M sa bw → ∀ (H : Heap) (locs : List Loc), va_P (dC, dI) vwCl (nw_xW ux cx (S) (P) (nw_pl (sa) 0 5) (nw_pl (ea) 0 5) (kn) (nI ((n))) (aw) (ay) (aa) (ao) ++ nw_yW uy cy (M) (sa) (ea) (nI ((n))) (bw) (pt) (ld) (wt)) H → va_D (fun q : Nat => s.heap.size ≤ q) (nw_xW ux cx (S) (P) (nw_pl (sa) 0 5) (nw_pl (ea) 0 5) (kn) (nI ((n))) (aw) (ay) (aa) (ao) ++ nw_yW uy cy (M) (sa) (ea) (nI ((n))) (bw) (pt) (ld) (wt)) → va_S (fun q : Nat => s.heap.size ≤ q) s.heap H locs → ∀ (ls : Array Slot), lv_has ls 4 [(0, .ref (b)), (1, .ref (ux 0)), (2, .ref (uy 0)), (3, .int (nI (a)))] → W p l e room_1 s m #[Value.ref b] below meth c H locs 15 1245 (lw_Z below #[Value.ref b] s) (F0 m 328 ls []) := by
  obtain ⟨hx, hb, hr, hml, hown, hts0, hX, hbl, hlocks, hgv⟩ := C0
  have hts : ∀ w ∈ lw_all, w.before #[Value.ref b] s = true := fun w h => hts0 w (lw_all_tbl h)
  have hA : ∀ q : Nat, s.heap.size ≤ q → (fun q : Nat => s.heap.size ≤ q) q := fun _ h => h
  have hbA : ¬ (fun q : Nat => s.heap.size ≤ q) b := Nat.not_le.mpr hbl
  intro w n S P kn aw ay aa ao M sa ea bw pt ld wt hJ H locs hP hD hS ls hl
  obtain ⟨hn, h6, hw, hv, hTB, hC⟩ := hJ
  have hT := nw_TBC hTB
  refine lv_aload_n hx hb dL_law_328 rfl (lv_at hl 1 rfl) ?_
  have hPc := hP.sub (ws' := nw_xW ux cx (S) (P) (nw_pl sa 0 5) (nw_pl ea 0 5) (kn) (nI ((n))) (aw) (ay) (aa) (ao)) [0, 1, 2, 3, 4, 5, 6] rfl
  have hDc := hD.sub (ws' := nw_xW ux cx (S) (P) (nw_pl sa 0 5) (nw_pl ea 0 5) (kn) (nI ((n))) (aw) (ay) (aa) (ao)) [0, 1, 2, 3, 4, 5, 6] (by decide) rfl
  have hKc := hK.sub (tys' := nw_xT cx) [0, 1, 2, 3, 4, 5] rfl
  have hFc := va_free (wc := nw_xW ux cx (S) (P) (nw_pl sa 0 5) (nw_pl ea 0 5) (kn) (nI ((n))) (aw) (ay) (aa) (ao)) hD hS hA [0, 1, 2, 3, 4, 5, 6] rfl
  refine va_calli (va_runV (As := []) (rest := []) ⟨hx, hb, hml, hown, hts⟩ (metX0_next l dC dI ux cx S P (nw_pl sa 0 5) (nw_pl ea 0 5) kn aw ay aa ao (nw_pp M) hT w n hn h6 hw hC H.size) (cwV 0 hts (lw_V q122 q123 q124 q12 q125) rfl rfl rfl (by decide +kernel) ⟨Nat.le_of_ble_eq_true rfl, Nat.le_of_ble_eq_true rfl⟩) ⟨fun a U g mk q => ⟨q.1, q.2.1, nw_blind q.2.2⟩, va_recv hKc hPc (ci := 0) (q0 := 0) rfl rfl, fun U hU hW => ⟨rfl, by rw [hU], by rw [hU]; exact hPc, va_K.moved hW.alike hKc, hDc.weaken (fun _ _ _ _ => trivial)⟩⟩ rfl rfl hl.1 rfl (lv_room (Nat.le_of_ble_eq_true rfl)) dL_law_329 ⟨Nat.le_of_ble_eq_true rfl, Nat.le_of_ble_eq_true rfl⟩) hS (fun q _ h => hFc q h) hFc (fun rx u t_ H locs ht_ hvm_ h1 hB_ _ hk_ hS => ?_)
  obtain ⟨kn1, aw1, ay1, aa1, ao1⟩ := u
  obtain ⟨hP1, -, hD1⟩ := hB_
  rw [ht_] at hP1
  obtain ⟨hP, hD⟩ := va_join (wr := nw_yW uy cy (M) (sa) (ea) (nI ((n))) (bw) (pt) (ld) (wt)) (w1 := nw_xW ux cx (S) (P) (nw_pl sa 0 5) (nw_pl ea 0 5) (kn1) (nI ((n))) (aw1) (ay1) (aa1) (ao1)) hP hD [0, 1, 2, 3, 4, 5, 6] [7, 8, 9, 10, 11, 12, 13, 14] rfl rfl (by decide) (by decide) hk_ hFc hP1 hD1
  refine lv_aload_n hx hb dL_law_332 rfl (lv_at hl 2 rfl) ?_
  have hPc := hP.sub (ws' := nw_yW uy cy (M) (sa) (ea) (nI ((n))) (bw) (pt) (ld) (wt)) [0, 1, 2, 3, 4, 5, 6, 7] rfl
  have hDc := hD.sub (ws' := nw_yW uy cy (M) (sa) (ea) (nI ((n))) (bw) (pt) (ld) (wt)) [0, 1, 2, 3, 4, 5, 6, 7] (by decide) rfl
  have hKc := hK.sub (tys' := nw_yT cy) [6, 7, 8, 9, 10, 11, 12] rfl
  have hFc := va_free (wc := nw_yW uy cy (M) (sa) (ea) (nI ((n))) (bw) (pt) (ld) (wt)) hD hS hA [0, 1, 2, 3, 4, 5, 6, 7] rfl
  refine va_calli (va_runV (As := []) (rest := [.int (rx)]) ⟨hx, hb, hml, hown, hts⟩ (metX1_next l dC dI uy cy M sa ea bw pt ld wt w n hn hv h6 H.size) (cwV 0 hts (lw_V q228 q229 q230 q13 q231) rfl rfl rfl (by decide +kernel) ⟨Nat.le_of_ble_eq_true rfl, Nat.le_of_ble_eq_true rfl⟩) ⟨fun a U g mk q => ⟨q.1, q.2.1, nw_blind q.2.2⟩, va_recv hKc hPc (ci := 1) (q0 := 0) rfl rfl, fun U hU hW => ⟨rfl, by rw [hU], by rw [hU]; exact hPc, va_K.moved hW.alike hKc, hDc.weaken (fun _ _ _ _ => trivial)⟩⟩ rfl rfl hl.1 rfl (lv_room (Nat.le_of_ble_eq_true rfl)) dL_law_333 ⟨Nat.le_of_ble_eq_true rfl, Nat.le_of_ble_eq_true rfl⟩) hS (fun q _ h => hFc q h) hFc (fun ry u t_ H locs ht_ hvm_ h2 hB_ _ hk_ hS => ?_)
  obtain ⟨bw1, p1, d1, t1⟩ := u
  obtain ⟨hP1, -, hD1⟩ := hB_
  rw [ht_] at hP1
  obtain ⟨hP, hD⟩ := va_join (wr := nw_xW ux cx (S) (P) (nw_pl sa 0 5) (nw_pl ea 0 5) (kn1) (nI ((n))) (aw1) (ay1) (aa1) (ao1)) (w1 := nw_yW uy cy (M) (sa) (ea) (nI ((n))) (bw1) (p1) (d1) (t1)) hP hD [0, 1, 2, 3, 4, 5, 6, 7] [8, 9, 10, 11, 12, 13, 14] rfl rfl (by decide) (by decide) hk_ hFc hP1 hD1
  refine lv_icmp_eq (tgt := 354) hx hb dL_law_336 (by decide) (fun _ => ?_) (fun h => absurd (h1.1.trans h2.1.symm) h)
  exact tail _ _ _ _ _ _ _ _ _ _ _ _ _ _ _ _ ⟨hn, h6, h1.2.2.1, h2.2, hTB, fun _ => h1.2.2⟩ H locs hP hD hS ls hl
set_option maxHeartbeats 4000000 in
set_option maxRecDepth 100000 in
/-- close -/
theorem nw_case9 {p : Program} {l : Launch} {e : Env} {s : State} {m : MethodId} {below : List Frame} {meth : Method} {c : Code} {b L : Nat} {xs : Nat → Int32} (hL : L ≤ 384) (C0 : lw_At p s m meth c b L xs) (dC : Nat → ClassId) (dI : Nat → Nat → Nat) (ux uy : Nat → Nat) (cx cy : Nat → ClassId) (hK : va_K (dC, dI) vwCl (nw_xT cx ++ nw_yT cy) s) (a : Nat) (ha : a + 6 ≤ L) (tail : ∀ (w : Nat → Nat) (n : Nat) (S P : nw_F) (kn : Int32) (aw ay aa ao M sa ea bw pt ld wt : nw_F), nw_J w n S P kn aw ay aa ao M sa bw → ∀ (H : Heap) (locs : List Loc), va_P (dC, dI) vwCl (nw_xW ux cx (S) (P) (nw_pl (sa) 0 5) (nw_pl (ea) 0 5) (kn) (nI ((n))) (aw) (ay) (aa) (ao) ++ nw_yW uy cy (M) (sa) (ea) (nI ((n))) (bw) (pt) (ld) (wt)) H → va_D (fun q : Nat => s.heap.size ≤ q) (nw_xW ux cx (S) (P) (nw_pl (sa) 0 5) (nw_pl (ea) 0 5) (kn) (nI ((n))) (aw) (ay) (aa) (ao) ++ nw_yW uy cy (M) (sa) (ea) (nI ((n))) (bw) (pt) (ld) (wt)) → va_S (fun q : Nat => s.heap.size ≤ q) s.heap H locs → ∀ (ls : Array Slot), lv_has ls 4 [(0, .ref (b)), (1, .ref (ux 0)), (2, .ref (uy 0)), (3, .int (nI (a)))] → W p l e room_1 s m #[Value.ref b] below meth c H locs 15 1245 (lw_Z below #[Value.ref b] s) (F0 m 354 ls [])) : ∀ (w : Nat → Nat) (n : Nat) (S P : nw_F) (kn : Int32) (aw ay aa ao M sa ea bw pt ld wt : nw_F), nw_J w n S P kn aw ay aa ao M sa bw → ∀ (H : Heap) (locs : List Loc), va_P (dC, dI) vwCl (nw_xW ux cx (S) (P) (nw_pl (sa) 0 5) (nw_pl (ea) 0 5) (kn) (nI ((n))) (aw) (ay) (aa) (ao) ++ nw_yW uy cy (M) (sa) (ea) (nI ((n))) (bw) (pt) (ld) (wt)) H → va_D (fun q : Nat => s.heap.size ≤ q) (nw_xW ux cx (S) (P) (nw_pl (sa) 0 5) (nw_pl (ea) 0 5) (kn) (nI ((n))) (aw) (ay) (aa) (ao) ++ nw_yW uy cy (M) (sa) (ea) (nI ((n))) (bw) (pt) (ld) (wt)) → va_S (fun q : Nat => s.heap.size ≤ q) s.heap H locs → ∀ (ls : Array Slot), lv_has ls 4 [(0, .ref (b)), (1, .ref (ux 0)), (2, .ref (uy 0)), (3, .int (nI (a)))] → W p l e room_1 s m #[Value.ref b] below meth c H locs 15 1245 (lw_Z below #[Value.ref b] s) (F0 m 341 ls []) := by
  obtain ⟨hx, hb, hr, hml, hown, hts0, hX, hbl, hlocks, hgv⟩ := C0
  have hts : ∀ w ∈ lw_all, w.before #[Value.ref b] s = true := fun w h => hts0 w (lw_all_tbl h)
  have hA : ∀ q : Nat, s.heap.size ≤ q → (fun q : Nat => s.heap.size ≤ q) q := fun _ h => h
  have hbA : ¬ (fun q : Nat => s.heap.size ≤ q) b := Nat.not_le.mpr hbl
  intro w n S P kn aw ay aa ao M sa ea bw pt ld wt hJ H locs hP hD hS ls hl
  obtain ⟨hn, h6, hw, hv, hTB, hC⟩ := hJ
  have hT := nw_TBC hTB
  refine lv_aload_n hx hb dL_law_341 rfl (lv_at hl 1 rfl) ?_
  have hPc := hP.sub (ws' := nw_xW ux cx (S) (P) (nw_pl sa 0 5) (nw_pl ea 0 5) (kn) (nI ((n))) (aw) (ay) (aa) (ao)) [0, 1, 2, 3, 4, 5, 6] rfl
  have hDc := hD.sub (ws' := nw_xW ux cx (S) (P) (nw_pl sa 0 5) (nw_pl ea 0 5) (kn) (nI ((n))) (aw) (ay) (aa) (ao)) [0, 1, 2, 3, 4, 5, 6] (by decide) rfl
  have hKc := hK.sub (tys' := nw_xT cx) [0, 1, 2, 3, 4, 5] rfl
  have hFc := va_free (wc := nw_xW ux cx (S) (P) (nw_pl sa 0 5) (nw_pl ea 0 5) (kn) (nI ((n))) (aw) (ay) (aa) (ao)) hD hS hA [0, 1, 2, 3, 4, 5, 6] rfl
  refine va_calli (va_runV (As := []) (rest := []) ⟨hx, hb, hml, hown, hts⟩ (metX0_close l dC dI ux cx S P (nw_pl sa 0 5) (nw_pl ea 0 5) kn aw ay aa ao (nw_pp M) hT w n hn h6 hw hC H.size) (cwV 0 hts (lw_V q126 q127 q128 q12 q129) rfl rfl rfl (by decide +kernel) ⟨Nat.le_of_ble_eq_true rfl, Nat.le_of_ble_eq_true rfl⟩) ⟨fun a U g mk q => ⟨q.1, q.2.1, nw_blind q.2.2⟩, va_recv hKc hPc (ci := 0) (q0 := 0) rfl rfl, fun U hU hW => ⟨rfl, by rw [hU], by rw [hU]; exact hPc, va_K.moved hW.alike hKc, hDc.weaken (fun _ _ _ _ => trivial)⟩⟩ rfl rfl hl.1 rfl (lv_room (Nat.le_of_ble_eq_true rfl)) dL_law_342 ⟨Nat.le_of_ble_eq_true rfl, Nat.le_of_ble_eq_true rfl⟩) hS (fun q _ h => hFc q h) hFc (fun rx u t_ H locs ht_ hvm_ h1 hB_ _ hk_ hS => ?_)
  obtain ⟨kn1, aw1, ay1, aa1, ao1⟩ := u
  obtain ⟨hP1, -, hD1⟩ := hB_
  rw [ht_] at hP1
  obtain ⟨hP, hD⟩ := va_join (wr := nw_yW uy cy (M) (sa) (ea) (nI ((n))) (bw) (pt) (ld) (wt)) (w1 := nw_xW ux cx (S) (P) (nw_pl sa 0 5) (nw_pl ea 0 5) (kn1) (nI ((n))) (aw1) (ay1) (aa1) (ao1)) hP hD [0, 1, 2, 3, 4, 5, 6] [7, 8, 9, 10, 11, 12, 13, 14] rfl rfl (by decide) (by decide) hk_ hFc hP1 hD1
  refine lv_aload_n hx hb dL_law_345 rfl (lv_at hl 2 rfl) ?_
  have hPc := hP.sub (ws' := nw_yW uy cy (M) (sa) (ea) (nI ((n))) (bw) (pt) (ld) (wt)) [0, 1, 2, 3, 4, 5, 6, 7] rfl
  have hDc := hD.sub (ws' := nw_yW uy cy (M) (sa) (ea) (nI ((n))) (bw) (pt) (ld) (wt)) [0, 1, 2, 3, 4, 5, 6, 7] (by decide) rfl
  have hKc := hK.sub (tys' := nw_yT cy) [6, 7, 8, 9, 10, 11, 12] rfl
  have hFc := va_free (wc := nw_yW uy cy (M) (sa) (ea) (nI ((n))) (bw) (pt) (ld) (wt)) hD hS hA [0, 1, 2, 3, 4, 5, 6, 7] rfl
  refine va_calli (va_runV (As := []) (rest := [.int (rx)]) ⟨hx, hb, hml, hown, hts⟩ (metX1_close l dC dI uy cy M sa ea bw pt ld wt w n hn hv h6 H.size) (cwV 0 hts (lw_V q232 q233 q234 q13 q235) rfl rfl rfl (by decide +kernel) ⟨Nat.le_of_ble_eq_true rfl, Nat.le_of_ble_eq_true rfl⟩) ⟨fun a U g mk q => ⟨q.1, q.2.1, nw_blind q.2.2⟩, va_recv hKc hPc (ci := 1) (q0 := 0) rfl rfl, fun U hU hW => ⟨rfl, by rw [hU], by rw [hU]; exact hPc, va_K.moved hW.alike hKc, hDc.weaken (fun _ _ _ _ => trivial)⟩⟩ rfl rfl hl.1 rfl (lv_room (Nat.le_of_ble_eq_true rfl)) dL_law_346 ⟨Nat.le_of_ble_eq_true rfl, Nat.le_of_ble_eq_true rfl⟩) hS (fun q _ h => hFc q h) hFc (fun ry u t_ H locs ht_ hvm_ h2 hB_ _ hk_ hS => ?_)
  obtain ⟨bw1, p1, d1, t1⟩ := u
  obtain ⟨hP1, -, hD1⟩ := hB_
  rw [ht_] at hP1
  obtain ⟨hP, hD⟩ := va_join (wr := nw_xW ux cx (S) (P) (nw_pl sa 0 5) (nw_pl ea 0 5) (kn1) (nI ((n))) (aw1) (ay1) (aa1) (ao1)) (w1 := nw_yW uy cy (M) (sa) (ea) (nI ((n))) (bw1) (p1) (d1) (t1)) hP hD [0, 1, 2, 3, 4, 5, 6, 7] [8, 9, 10, 11, 12, 13, 14] rfl rfl (by decide) (by decide) hk_ hFc hP1 hD1
  refine lv_icmp_eq (tgt := 354) hx hb dL_law_349 (by decide) (fun _ => ?_) (fun h => absurd (h1.1.trans h2.1.symm) h)
  exact tail _ _ _ _ _ _ _ _ _ _ _ _ _ _ _ _ ⟨hn, h6, h1.2.2.1, h2.2, hTB, fun _ => h1.2.2⟩ H locs hP hD hS ls hl
set_option maxHeartbeats 4000000 in
set_option maxRecDepth 100000 in
/-- erase -/
theorem nw_case4 {p : Program} {l : Launch} {e : Env} {s : State} {m : MethodId} {below : List Frame} {meth : Method} {c : Code} {b L : Nat} {xs : Nat → Int32} (hL : L ≤ 384) (C0 : lw_At p s m meth c b L xs) (dC : Nat → ClassId) (dI : Nat → Nat → Nat) (ux uy : Nat → Nat) (cx cy : Nat → ClassId) (hK : va_K (dC, dI) vwCl (nw_xT cx ++ nw_yT cy) s) (a : Nat) (ha : a + 6 ≤ L) (tail : ∀ (w : Nat → Nat) (n : Nat) (S P : nw_F) (kn : Int32) (aw ay aa ao M sa ea bw pt ld wt : nw_F), nw_J w n S P kn aw ay aa ao M sa bw → ∀ (H : Heap) (locs : List Loc), va_P (dC, dI) vwCl (nw_xW ux cx (S) (P) (nw_pl (sa) 0 5) (nw_pl (ea) 0 5) (kn) (nI ((n))) (aw) (ay) (aa) (ao) ++ nw_yW uy cy (M) (sa) (ea) (nI ((n))) (bw) (pt) (ld) (wt)) H → va_D (fun q : Nat => s.heap.size ≤ q) (nw_xW ux cx (S) (P) (nw_pl (sa) 0 5) (nw_pl (ea) 0 5) (kn) (nI ((n))) (aw) (ay) (aa) (ao) ++ nw_yW uy cy (M) (sa) (ea) (nI ((n))) (bw) (pt) (ld) (wt)) → va_S (fun q : Nat => s.heap.size ≤ q) s.heap H locs → ∀ (ls : Array Slot), lv_has ls 4 [(0, .ref (b)), (1, .ref (ux 0)), (2, .ref (uy 0)), (3, .int (nI (a)))] → W p l e room_1 s m #[Value.ref b] below meth c H locs 15 1245 (lw_Z below #[Value.ref b] s) (F0 m 354 ls [])) : ∀ (w : Nat → Nat) (n : Nat) (S P : nw_F) (kn : Int32) (aw ay aa ao M sa ea bw pt ld wt : nw_F), nw_J w n S P kn aw ay aa ao M sa bw → ∀ (H : Heap) (locs : List Loc), va_P (dC, dI) vwCl (nw_xW ux cx (S) (P) (nw_pl (sa) 0 5) (nw_pl (ea) 0 5) (kn) (nI ((n))) (aw) (ay) (aa) (ao) ++ nw_yW uy cy (M) (sa) (ea) (nI ((n))) (bw) (pt) (ld) (wt)) H → va_D (fun q : Nat => s.heap.size ≤ q) (nw_xW ux cx (S) (P) (nw_pl (sa) 0 5) (nw_pl (ea) 0 5) (kn) (nI ((n))) (aw) (ay) (aa) (ao) ++ nw_yW uy cy (M) (sa) (ea) (nI ((n))) (bw) (pt) (ld) (wt)) → va_S (fun q : Nat => s.heap.size ≤ q) s.heap H locs → ∀ (ls : Array Slot), lv_has ls 4 [(0, .ref (b)), (1, .ref (ux 0)), (2, .ref (uy 0)), (3, .int (nI (a)))] → W p l e room_1 s m #[Value.ref b] below meth c H locs 15 1245 (lw_Z below #[Value.ref b] s) (F0 m 278 ls []) := by
  obtain ⟨hx, hb, hr, hml, hown, hts0, hX, hbl, hlocks, hgv⟩ := C0
  have hts : ∀ w ∈ lw_all, w.before #[Value.ref b] s = true := fun w h => hts0 w (lw_all_tbl h)
  have hA : ∀ q : Nat, s.heap.size ≤ q → (fun q : Nat => s.heap.size ≤ q) q := fun _ h => h
  have hbA : ¬ (fun q : Nat => s.heap.size ≤ q) b := Nat.not_le.mpr hbl
  intro w n S P kn aw ay aa ao M sa ea bw pt ld wt hJ H locs hP hD hS ls hl
  obtain ⟨hn, h6, hw, hv, hTB, hC⟩ := hJ
  have hT := nw_TBC hTB
  refine lv_aload_n hx hb dL_law_278 rfl (lv_at hl 1 rfl) ?_
  have hPc := hP.sub (ws' := nw_xW ux cx (S) (P) (nw_pl sa 0 5) (nw_pl ea 0 5) (kn) (nI ((n))) (aw) (ay) (aa) (ao)) [0, 1, 2, 3, 4, 5, 6] rfl
  have hDc := hD.sub (ws' := nw_xW ux cx (S) (P) (nw_pl sa 0 5) (nw_pl ea 0 5) (kn) (nI ((n))) (aw) (ay) (aa) (ao)) [0, 1, 2, 3, 4, 5, 6] (by decide) rfl
  have hKc := hK.sub (tys' := nw_xT cx) [0, 1, 2, 3, 4, 5] rfl
  have hFc := va_free (wc := nw_xW ux cx (S) (P) (nw_pl sa 0 5) (nw_pl ea 0 5) (kn) (nI ((n))) (aw) (ay) (aa) (ao)) hD hS hA [0, 1, 2, 3, 4, 5, 6] rfl
  refine va_callv (va_runV (As := []) (rest := []) ⟨hx, hb, hml, hown, hts⟩ (metX0_erase l dC dI ux cx S P (nw_pl sa 0 5) (nw_pl ea 0 5) kn aw ay aa ao (nI n) H.size) (cwV 0 hts (lw_V q106 q107 q108 q12 q109) rfl rfl rfl (by decide +kernel) ⟨Nat.le_of_ble_eq_true rfl, Nat.le_of_ble_eq_true rfl⟩) ⟨fun a U g mk q => ⟨q.1, q.2.1, nw_blind q.2.2⟩, va_recv hKc hPc (ci := 0) (q0 := 0) rfl rfl, fun U hU hW => ⟨rfl, by rw [hU], by rw [hU]; exact hPc, va_K.moved hW.alike hKc, hDc.weaken (fun _ _ _ _ => trivial)⟩⟩ rfl rfl hl.1 rfl (lv_room (Nat.le_of_ble_eq_true rfl)) dL_law_279 ⟨Nat.le_of_ble_eq_true rfl, Nat.le_of_ble_eq_true rfl⟩) hS (fun q _ h => hFc q h) hFc (fun u t_ H locs ht_ hvm_ _h1 hB_ _ hk_ hS => ?_)
  obtain ⟨hP1, -, hD1⟩ := hB_
  rw [ht_] at hP1
  obtain ⟨hP, hD⟩ := va_join (wr := nw_yW uy cy (M) (sa) (ea) (nI ((n))) (bw) (pt) (ld) (wt)) (w1 := nw_xW ux cx (S) (P) (nw_pl sa 0 5) (nw_pl ea 0 5) (kn) (nI ((0))) (aw) (ay) (aa) (ao)) hP hD [0, 1, 2, 3, 4, 5, 6] [7, 8, 9, 10, 11, 12, 13, 14] rfl rfl (by decide) (by decide) hk_ hFc hP1 hD1
  refine lv_aload_n hx hb dL_law_282 rfl (lv_at hl 2 rfl) ?_
  have hPc := hP.sub (ws' := nw_yW uy cy (M) (sa) (ea) (nI ((n))) (bw) (pt) (ld) (wt)) [0, 1, 2, 3, 4, 5, 6, 7] rfl
  have hDc := hD.sub (ws' := nw_yW uy cy (M) (sa) (ea) (nI ((n))) (bw) (pt) (ld) (wt)) [0, 1, 2, 3, 4, 5, 6, 7] (by decide) rfl
  have hKc := hK.sub (tys' := nw_yT cy) [6, 7, 8, 9, 10, 11, 12] rfl
  have hFc := va_free (wc := nw_yW uy cy (M) (sa) (ea) (nI ((n))) (bw) (pt) (ld) (wt)) hD hS hA [0, 1, 2, 3, 4, 5, 6, 7] rfl
  refine va_callv (va_runV (As := []) (rest := []) ⟨hx, hb, hml, hown, hts⟩ (metX1_erase l dC dI uy cy M sa ea bw pt ld wt (nI n) H.size) (cwV 0 hts (lw_V q207 q208 q209 q13 q210) rfl rfl rfl (by decide +kernel) ⟨Nat.le_of_ble_eq_true rfl, Nat.le_of_ble_eq_true rfl⟩) ⟨fun a U g mk q => ⟨q.1, q.2.1, nw_blind q.2.2⟩, va_recv hKc hPc (ci := 1) (q0 := 0) rfl rfl, fun U hU hW => ⟨rfl, by rw [hU], by rw [hU]; exact hPc, va_K.moved hW.alike hKc, hDc.weaken (fun _ _ _ _ => trivial)⟩⟩ rfl rfl hl.1 rfl (lv_room (Nat.le_of_ble_eq_true rfl)) dL_law_283 ⟨Nat.le_of_ble_eq_true rfl, Nat.le_of_ble_eq_true rfl⟩) hS (fun q _ h => hFc q h) hFc (fun u t_ H locs ht_ hvm_ _h2 hB_ _ hk_ hS => ?_)
  obtain ⟨hP1, -, hD1⟩ := hB_
  rw [ht_] at hP1
  obtain ⟨hP, hD⟩ := va_join (wr := nw_xW ux cx (S) (P) (nw_pl sa 0 5) (nw_pl ea 0 5) (kn) (nI ((0))) (aw) (ay) (aa) (ao)) (w1 := nw_yW uy cy (M) (sa) (ea) (nI ((0))) (bw) (pt) (ld) (wt)) hP hD [0, 1, 2, 3, 4, 5, 6, 7] [8, 9, 10, 11, 12, 13, 14] rfl rfl (by decide) (by decide) hk_ hFc hP1 hD1
  refine lv_goto (tgt := 354) hx hb dL_law_286 (by decide) ?_
  exact tail w 0 _ _ _ _ _ _ _ _ _ _ _ _ _ _ ⟨by omega, fun k h => absurd h (Nat.not_lt_zero k), fun k h => absurd h (Nat.not_lt_zero k), fun k h => absurd h (Nat.not_lt_zero k), hTB, fun h => nw_CI_le (hC h) (Nat.zero_le n)⟩ H locs hP hD hS ls hl
set_option maxHeartbeats 4000000 in
set_option maxRecDepth 100000 in
/-- back -/
theorem nw_case3 {p : Program} {l : Launch} {e : Env} {s : State} {m : MethodId} {below : List Frame} {meth : Method} {c : Code} {b L : Nat} {xs : Nat → Int32} (hL : L ≤ 384) (C0 : lw_At p s m meth c b L xs) (dC : Nat → ClassId) (dI : Nat → Nat → Nat) (ux uy : Nat → Nat) (cx cy : Nat → ClassId) (hK : va_K (dC, dI) vwCl (nw_xT cx ++ nw_yT cy) s) (a : Nat) (ha : a + 6 ≤ L) (tail : ∀ (w : Nat → Nat) (n : Nat) (S P : nw_F) (kn : Int32) (aw ay aa ao M sa ea bw pt ld wt : nw_F), nw_J w n S P kn aw ay aa ao M sa bw → ∀ (H : Heap) (locs : List Loc), va_P (dC, dI) vwCl (nw_xW ux cx (S) (P) (nw_pl (sa) 0 5) (nw_pl (ea) 0 5) (kn) (nI ((n))) (aw) (ay) (aa) (ao) ++ nw_yW uy cy (M) (sa) (ea) (nI ((n))) (bw) (pt) (ld) (wt)) H → va_D (fun q : Nat => s.heap.size ≤ q) (nw_xW ux cx (S) (P) (nw_pl (sa) 0 5) (nw_pl (ea) 0 5) (kn) (nI ((n))) (aw) (ay) (aa) (ao) ++ nw_yW uy cy (M) (sa) (ea) (nI ((n))) (bw) (pt) (ld) (wt)) → va_S (fun q : Nat => s.heap.size ≤ q) s.heap H locs → ∀ (ls : Array Slot), lv_has ls 4 [(0, .ref (b)), (1, .ref (ux 0)), (2, .ref (uy 0)), (3, .int (nI (a)))] → W p l e room_1 s m #[Value.ref b] below meth c H locs 15 1245 (lw_Z below #[Value.ref b] s) (F0 m 354 ls [])) : ∀ (w : Nat → Nat) (n : Nat) (S P : nw_F) (kn : Int32) (aw ay aa ao M sa ea bw pt ld wt : nw_F), nw_J w n S P kn aw ay aa ao M sa bw → ∀ (H : Heap) (locs : List Loc), va_P (dC, dI) vwCl (nw_xW ux cx (S) (P) (nw_pl (sa) 0 5) (nw_pl (ea) 0 5) (kn) (nI ((n))) (aw) (ay) (aa) (ao) ++ nw_yW uy cy (M) (sa) (ea) (nI ((n))) (bw) (pt) (ld) (wt)) H → va_D (fun q : Nat => s.heap.size ≤ q) (nw_xW ux cx (S) (P) (nw_pl (sa) 0 5) (nw_pl (ea) 0 5) (kn) (nI ((n))) (aw) (ay) (aa) (ao) ++ nw_yW uy cy (M) (sa) (ea) (nI ((n))) (bw) (pt) (ld) (wt)) → va_S (fun q : Nat => s.heap.size ≤ q) s.heap H locs → ∀ (ls : Array Slot), lv_has ls 4 [(0, .ref (b)), (1, .ref (ux 0)), (2, .ref (uy 0)), (3, .int (nI (a)))] → W p l e room_1 s m #[Value.ref b] below meth c H locs 15 1245 (lw_Z below #[Value.ref b] s) (F0 m 265 ls []) := by
  obtain ⟨hx, hb, hr, hml, hown, hts0, hX, hbl, hlocks, hgv⟩ := C0
  have hts : ∀ w ∈ lw_all, w.before #[Value.ref b] s = true := fun w h => hts0 w (lw_all_tbl h)
  have hA : ∀ q : Nat, s.heap.size ≤ q → (fun q : Nat => s.heap.size ≤ q) q := fun _ h => h
  have hbA : ¬ (fun q : Nat => s.heap.size ≤ q) b := Nat.not_le.mpr hbl
  intro w n S P kn aw ay aa ao M sa ea bw pt ld wt hJ H locs hP hD hS ls hl
  obtain ⟨hn, h6, hw, hv, hTB, hC⟩ := hJ
  have hT := nw_TBC hTB
  cases n with
  | zero =>
    refine lv_aload_n hx hb dL_law_265 rfl (lv_at hl 1 rfl) ?_
    have hPc := hP.sub (ws' := nw_xW ux cx (S) (P) (nw_pl sa 0 5) (nw_pl ea 0 5) (kn) (nI ((0))) (aw) (ay) (aa) (ao)) [0, 1, 2, 3, 4, 5, 6] rfl
    have hDc := hD.sub (ws' := nw_xW ux cx (S) (P) (nw_pl sa 0 5) (nw_pl ea 0 5) (kn) (nI ((0))) (aw) (ay) (aa) (ao)) [0, 1, 2, 3, 4, 5, 6] (by decide) rfl
    have hKc := hK.sub (tys' := nw_xT cx) [0, 1, 2, 3, 4, 5] rfl
    refine vp_callSi (va_Run.run (va_runV (As := []) (rest := []) ⟨hx, hb, hml, hown, hts⟩ (metX0_back0 l dC dI ux cx S P (nw_pl sa 0 5) (nw_pl ea 0 5) kn aw ay aa ao) (cwV 0 hts (lw_V q102 q103 q104 q12 q105) rfl rfl rfl (by decide +kernel) ⟨Nat.le_of_ble_eq_true rfl, Nat.le_of_ble_eq_true rfl⟩) ⟨fun a U g mk q => ⟨q.1, nw_blindR q.2⟩, va_recv hKc hPc (ci := 0) (q0 := 0) rfl rfl, fun U hU hW => ⟨rfl, by rw [hU]; exact hPc, va_K.moved hW.alike hKc⟩⟩ rfl rfl hl.1 rfl (lv_room (Nat.le_of_ble_eq_true rfl)) dL_law_266 ⟨Nat.le_of_ble_eq_true rfl, Nat.le_of_ble_eq_true rfl⟩)) (fun rx h1 => ?_)
    refine lv_aload_n hx hb dL_law_269 rfl (lv_at hl 2 rfl) ?_
    have hPc := hP.sub (ws' := nw_yW uy cy (M) (sa) (ea) (nI ((0))) (bw) (pt) (ld) (wt)) [7, 8, 9, 10, 11, 12, 13, 14] rfl
    have hDc := hD.sub (ws' := nw_yW uy cy (M) (sa) (ea) (nI ((0))) (bw) (pt) (ld) (wt)) [7, 8, 9, 10, 11, 12, 13, 14] (by decide) rfl
    have hKc := hK.sub (tys' := nw_yT cy) [6, 7, 8, 9, 10, 11, 12] rfl
    refine vp_callSi (va_Run.run (va_runV (As := []) (rest := [.int (rx)]) ⟨hx, hb, hml, hown, hts⟩ (metX1_back0 l dC dI uy cy M sa ea bw pt ld wt) (cwV 0 hts (lw_V q203 q204 q205 q13 q206) rfl rfl rfl (by decide +kernel) ⟨Nat.le_of_ble_eq_true rfl, Nat.le_of_ble_eq_true rfl⟩) ⟨fun a U g mk q => ⟨q.1, nw_blindR q.2⟩, va_recv hKc hPc (ci := 1) (q0 := 0) rfl rfl, fun U hU hW => ⟨rfl, by rw [hU]; exact hPc, va_K.moved hW.alike hKc⟩⟩ rfl rfl hl.1 rfl (lv_room (Nat.le_of_ble_eq_true rfl)) dL_law_270 ⟨Nat.le_of_ble_eq_true rfl, Nat.le_of_ble_eq_true rfl⟩)) (fun ry h2 => ?_)
    refine lv_icmp_eq (tgt := 354) hx hb dL_law_273 (by decide) (fun _ => ?_) (fun h => absurd (h1.trans h2.symm) h)
    exact tail w 0 _ _ _ _ _ _ _ _ _ _ _ _ _ _ ⟨hn, h6, hw, hv, hTB, hC⟩ H locs hP hD hS ls hl
  | succ n =>
    refine lv_aload_n hx hb dL_law_265 rfl (lv_at hl 1 rfl) ?_
    have hPc := hP.sub (ws' := nw_xW ux cx (S) (P) (nw_pl sa 0 5) (nw_pl ea 0 5) (kn) (nI ((n + 1))) (aw) (ay) (aa) (ao)) [0, 1, 2, 3, 4, 5, 6] rfl
    have hDc := hD.sub (ws' := nw_xW ux cx (S) (P) (nw_pl sa 0 5) (nw_pl ea 0 5) (kn) (nI ((n + 1))) (aw) (ay) (aa) (ao)) [0, 1, 2, 3, 4, 5, 6] (by decide) rfl
    have hKc := hK.sub (tys' := nw_xT cx) [0, 1, 2, 3, 4, 5] rfl
    have hFc := va_free (wc := nw_xW ux cx (S) (P) (nw_pl sa 0 5) (nw_pl ea 0 5) (kn) (nI ((n + 1))) (aw) (ay) (aa) (ao)) hD hS hA [0, 1, 2, 3, 4, 5, 6] rfl
    refine va_calli (va_runV (As := []) (rest := []) ⟨hx, hb, hml, hown, hts⟩ (metX0_back1 l dC dI ux cx S P (nw_pl sa 0 5) (nw_pl ea 0 5) kn aw ay aa ao n (by omega) H.size) (cwV 0 hts (lw_V q102 q103 q104 q12 q105) rfl rfl rfl (by decide +kernel) ⟨Nat.le_of_ble_eq_true rfl, Nat.le_of_ble_eq_true rfl⟩) ⟨fun a U g mk q => ⟨q.1, q.2.1, nw_blind q.2.2⟩, va_recv hKc hPc (ci := 0) (q0 := 0) rfl rfl, fun U hU hW => ⟨rfl, by rw [hU], by rw [hU]; exact hPc, va_K.moved hW.alike hKc, hDc.weaken (fun _ _ _ _ => trivial)⟩⟩ rfl rfl hl.1 rfl (lv_room (Nat.le_of_ble_eq_true rfl)) dL_law_266 ⟨Nat.le_of_ble_eq_true rfl, Nat.le_of_ble_eq_true rfl⟩) hS (fun q _ h => hFc q h) hFc (fun rx u t_ H locs ht_ hvm_ h1 hB_ _ hk_ hS => ?_)
    obtain ⟨hP1, -, hD1⟩ := hB_
    rw [ht_] at hP1
    obtain ⟨hP, hD⟩ := va_join (wr := nw_yW uy cy (M) (sa) (ea) (nI ((n + 1))) (bw) (pt) (ld) (wt)) (w1 := nw_xW ux cx (S) (P) (nw_pl sa 0 5) (nw_pl ea 0 5) (kn) (nI ((n))) (aw) (ay) (aa) (ao)) hP hD [0, 1, 2, 3, 4, 5, 6] [7, 8, 9, 10, 11, 12, 13, 14] rfl rfl (by decide) (by decide) hk_ hFc hP1 hD1
    refine lv_aload_n hx hb dL_law_269 rfl (lv_at hl 2 rfl) ?_
    have hPc := hP.sub (ws' := nw_yW uy cy (M) (sa) (ea) (nI ((n + 1))) (bw) (pt) (ld) (wt)) [0, 1, 2, 3, 4, 5, 6, 7] rfl
    have hDc := hD.sub (ws' := nw_yW uy cy (M) (sa) (ea) (nI ((n + 1))) (bw) (pt) (ld) (wt)) [0, 1, 2, 3, 4, 5, 6, 7] (by decide) rfl
    have hKc := hK.sub (tys' := nw_yT cy) [6, 7, 8, 9, 10, 11, 12] rfl
    have hFc := va_free (wc := nw_yW uy cy (M) (sa) (ea) (nI ((n + 1))) (bw) (pt) (ld) (wt)) hD hS hA [0, 1, 2, 3, 4, 5, 6, 7] rfl
    refine va_calli (va_runV (As := []) (rest := [.int (rx)]) ⟨hx, hb, hml, hown, hts⟩ (metX1_back1 l dC dI uy cy M sa ea bw pt ld wt n (by omega) H.size) (cwV 0 hts (lw_V q203 q204 q205 q13 q206) rfl rfl rfl (by decide +kernel) ⟨Nat.le_of_ble_eq_true rfl, Nat.le_of_ble_eq_true rfl⟩) ⟨fun a U g mk q => ⟨q.1, q.2.1, nw_blind q.2.2⟩, va_recv hKc hPc (ci := 1) (q0 := 0) rfl rfl, fun U hU hW => ⟨rfl, by rw [hU], by rw [hU]; exact hPc, va_K.moved hW.alike hKc, hDc.weaken (fun _ _ _ _ => trivial)⟩⟩ rfl rfl hl.1 rfl (lv_room (Nat.le_of_ble_eq_true rfl)) dL_law_270 ⟨Nat.le_of_ble_eq_true rfl, Nat.le_of_ble_eq_true rfl⟩) hS (fun q _ h => hFc q h) hFc (fun ry u t_ H locs ht_ hvm_ h2 hB_ _ hk_ hS => ?_)
    obtain ⟨hP1, -, hD1⟩ := hB_
    rw [ht_] at hP1
    obtain ⟨hP, hD⟩ := va_join (wr := nw_xW ux cx (S) (P) (nw_pl sa 0 5) (nw_pl ea 0 5) (kn) (nI ((n))) (aw) (ay) (aa) (ao)) (w1 := nw_yW uy cy (M) (sa) (ea) (nI ((n))) (bw) (pt) (ld) (wt)) hP hD [0, 1, 2, 3, 4, 5, 6, 7] [8, 9, 10, 11, 12, 13, 14] rfl rfl (by decide) (by decide) hk_ hFc hP1 hD1
    refine lv_icmp_eq (tgt := 354) hx hb dL_law_273 (by decide) (fun _ => ?_) (fun h => absurd (h1.trans ((hw n (by omega)).trans ((hv n (by omega)).symm.trans h2.symm))) h)
    exact tail w n _ _ _ _ _ _ _ _ _ _ _ _ _ _ ⟨by omega, fun k h => h6 k (by omega), fun k h => hw k (by omega), fun k h => hv k (by omega), hTB, fun h => nw_CI_le (hC h) (by omega)⟩ H locs hP hD hS ls hl
set_option maxHeartbeats 4000000 in
set_option maxRecDepth 100000 in
/-- read -/
theorem nw_case2 {p : Program} {l : Launch} {e : Env} {s : State} {m : MethodId} {below : List Frame} {meth : Method} {c : Code} {b L : Nat} {xs : Nat → Int32} (hL : L ≤ 384) (C0 : lw_At p s m meth c b L xs) (dC : Nat → ClassId) (dI : Nat → Nat → Nat) (ux uy : Nat → Nat) (cx cy : Nat → ClassId) (hK : va_K (dC, dI) vwCl (nw_xT cx ++ nw_yT cy) s) (a : Nat) (ha : a + 6 ≤ L) (tail : ∀ (w : Nat → Nat) (n : Nat) (S P : nw_F) (kn : Int32) (aw ay aa ao M sa ea bw pt ld wt : nw_F), nw_J w n S P kn aw ay aa ao M sa bw → ∀ (H : Heap) (locs : List Loc), va_P (dC, dI) vwCl (nw_xW ux cx (S) (P) (nw_pl (sa) 0 5) (nw_pl (ea) 0 5) (kn) (nI ((n))) (aw) (ay) (aa) (ao) ++ nw_yW uy cy (M) (sa) (ea) (nI ((n))) (bw) (pt) (ld) (wt)) H → va_D (fun q : Nat => s.heap.size ≤ q) (nw_xW ux cx (S) (P) (nw_pl (sa) 0 5) (nw_pl (ea) 0 5) (kn) (nI ((n))) (aw) (ay) (aa) (ao) ++ nw_yW uy cy (M) (sa) (ea) (nI ((n))) (bw) (pt) (ld) (wt)) → va_S (fun q : Nat => s.heap.size ≤ q) s.heap H locs → ∀ (ls : Array Slot), lv_has ls 4 [(0, .ref (b)), (1, .ref (ux 0)), (2, .ref (uy 0)), (3, .int (nI (a)))] → W p l e room_1 s m #[Value.ref b] below meth c H locs 15 1245 (lw_Z below #[Value.ref b] s) (F0 m 354 ls [])) : ∀ (w : Nat → Nat) (n : Nat) (S P : nw_F) (kn : Int32) (aw ay aa ao M sa ea bw pt ld wt : nw_F), nw_J w n S P kn aw ay aa ao M sa bw → ∀ (H : Heap) (locs : List Loc), va_P (dC, dI) vwCl (nw_xW ux cx (S) (P) (nw_pl (sa) 0 5) (nw_pl (ea) 0 5) (kn) (nI ((n))) (aw) (ay) (aa) (ao) ++ nw_yW uy cy (M) (sa) (ea) (nI ((n))) (bw) (pt) (ld) (wt)) H → va_D (fun q : Nat => s.heap.size ≤ q) (nw_xW ux cx (S) (P) (nw_pl (sa) 0 5) (nw_pl (ea) 0 5) (kn) (nI ((n))) (aw) (ay) (aa) (ao) ++ nw_yW uy cy (M) (sa) (ea) (nI ((n))) (bw) (pt) (ld) (wt)) → va_S (fun q : Nat => s.heap.size ≤ q) s.heap H locs → ∀ (ls : Array Slot), lv_has ls 4 [(0, .ref (b)), (1, .ref (ux 0)), (2, .ref (uy 0)), (3, .int (nI (a)))] → W p l e room_1 s m #[Value.ref b] below meth c H locs 15 1245 (lw_Z below #[Value.ref b] s) (F0 m 242 ls []) := by
  obtain ⟨hx, hb, hr, hml, hown, hts0, hX, hbl, hlocks, hgv⟩ := C0
  have hts : ∀ w ∈ lw_all, w.before #[Value.ref b] s = true := fun w h => hts0 w (lw_all_tbl h)
  have hA : ∀ q : Nat, s.heap.size ≤ q → (fun q : Nat => s.heap.size ≤ q) q := fun _ h => h
  have hbA : ¬ (fun q : Nat => s.heap.size ≤ q) b := Nat.not_le.mpr hbl
  intro w n S P kn aw ay aa ao M sa ea bw pt ld wt hJ H locs hP hD hS ls hl
  obtain ⟨hn, h6, hw, hv, hTB, hC⟩ := hJ
  have hT := nw_TBC hTB
  by_cases hbad : (xs (a + 1) < 0 ∨ 5 < xs (a + 1) ∨ 16 ≤ n)
  · refine lv_aload_n hx hb dL_law_242 rfl (lv_at hl 1 rfl) ?_
    refine lv_aload_n hx hb dL_law_243 rfl (lv_at hl 0 rfl) ?_
    refine lv_iload_n hx hb dL_law_244 rfl (lv_at hl 3 rfl) ?_
    refine lv_iconst (v := (nI (1))) hx hb dL_law_245 (by decide) ?_
    refine lv_iadd hx hb dL_law_246 ?_
    refine nw_as (y := (nI (a + 1))) (nI_add (a) (1)) ?_
    refine nw_sld hx hb hX hbl hbA hS (j := a + 1) (by omega) (by omega) dL_law_247 ?_
    have hPc := hP.sub (ws' := nw_xW ux cx (S) (P) (nw_pl sa 0 5) (nw_pl ea 0 5) (kn) (nI ((n))) (aw) (ay) (aa) (ao)) [0, 1, 2, 3, 4, 5, 6] rfl
    have hDc := hD.sub (ws' := nw_xW ux cx (S) (P) (nw_pl sa 0 5) (nw_pl ea 0 5) (kn) (nI ((n))) (aw) (ay) (aa) (ao)) [0, 1, 2, 3, 4, 5, 6] (by decide) rfl
    have hKc := hK.sub (tys' := nw_xT cx) [0, 1, 2, 3, 4, 5] rfl
    refine vp_callSi (va_Run.run (va_runV (As := [.int (xs (a + 1))]) (rest := []) ⟨hx, hb, hml, hown, hts⟩ (metX0_readB l dC dI ux cx S P (nw_pl sa 0 5) (nw_pl ea 0 5) kn n aw ay aa ao hn _ hbad) (cwV 1 hts (lw_V q66 q67 q68 q12 q69) rfl rfl rfl (by decide +kernel) ⟨Nat.le_of_ble_eq_true rfl, Nat.le_of_ble_eq_true rfl⟩) ⟨fun a U g mk q => ⟨q.1, nw_blindR q.2⟩, va_recv hKc hPc (ci := 0) (q0 := 0) rfl rfl, fun U hU hW => ⟨rfl, by rw [hU]; exact hPc, va_K.moved hW.alike hKc⟩⟩ rfl rfl hl.1 rfl (lv_room (Nat.le_of_ble_eq_true rfl)) dL_law_248 ⟨Nat.le_of_ble_eq_true rfl, Nat.le_of_ble_eq_true rfl⟩)) (fun rx h1 => ?_)
    refine lv_aload_n hx hb dL_law_251 rfl (lv_at hl 2 rfl) ?_
    refine lv_aload_n hx hb dL_law_252 rfl (lv_at hl 0 rfl) ?_
    refine lv_iload_n hx hb dL_law_253 rfl (lv_at hl 3 rfl) ?_
    refine lv_iconst (v := (nI (1))) hx hb dL_law_254 (by decide) ?_
    refine lv_iadd hx hb dL_law_255 ?_
    refine nw_as (y := (nI (a + 1))) (nI_add (a) (1)) ?_
    refine nw_sld hx hb hX hbl hbA hS (j := a + 1) (by omega) (by omega) dL_law_256 ?_
    have hPc := hP.sub (ws' := nw_yW uy cy (M) (sa) (ea) (nI ((n))) (bw) (pt) (ld) (wt)) [7, 8, 9, 10, 11, 12, 13, 14] rfl
    have hDc := hD.sub (ws' := nw_yW uy cy (M) (sa) (ea) (nI ((n))) (bw) (pt) (ld) (wt)) [7, 8, 9, 10, 11, 12, 13, 14] (by decide) rfl
    have hKc := hK.sub (tys' := nw_yT cy) [6, 7, 8, 9, 10, 11, 12] rfl
    refine vp_callSi (va_Run.run (va_runV (As := [.int (xs (a + 1))]) (rest := [.int (rx)]) ⟨hx, hb, hml, hown, hts⟩ (metX1_readB l dC dI uy cy M sa ea n bw pt ld wt hn _ hbad) (cwV 1 hts (lw_V q172 q173 q174 q13 q175) rfl rfl rfl (by decide +kernel) ⟨Nat.le_of_ble_eq_true rfl, Nat.le_of_ble_eq_true rfl⟩) ⟨fun a U g mk q => ⟨q.1, nw_blindR q.2⟩, va_recv hKc hPc (ci := 1) (q0 := 0) rfl rfl, fun U hU hW => ⟨rfl, by rw [hU]; exact hPc, va_K.moved hW.alike hKc⟩⟩ rfl rfl hl.1 rfl (lv_room (Nat.le_of_ble_eq_true rfl)) dL_law_257 ⟨Nat.le_of_ble_eq_true rfl, Nat.le_of_ble_eq_true rfl⟩)) (fun ry h2 => ?_)
    refine lv_icmp_eq (tgt := 354) hx hb dL_law_260 (by decide) (fun _ => ?_) (fun h => absurd (h1.trans h2.symm) h)
    exact tail _ _ _ _ _ _ _ _ _ _ _ _ _ _ _ _ ⟨hn, h6, hw, hv, hTB, hC⟩ H locs hP hD hS ls hl
  · obtain ⟨hn2, k, hk, ek⟩ := nw_rdok hbad
    refine lv_aload_n hx hb dL_law_242 rfl (lv_at hl 1 rfl) ?_
    refine lv_aload_n hx hb dL_law_243 rfl (lv_at hl 0 rfl) ?_
    refine lv_iload_n hx hb dL_law_244 rfl (lv_at hl 3 rfl) ?_
    refine lv_iconst (v := (nI (1))) hx hb dL_law_245 (by decide) ?_
    refine lv_iadd hx hb dL_law_246 ?_
    refine nw_as (y := (nI (a + 1))) (nI_add (a) (1)) ?_
    refine nw_sld hx hb hX hbl hbA hS (j := a + 1) (by omega) (by omega) dL_law_247 ?_
    refine nw_as (y := (nI (k))) (ek) ?_
    have hPc := hP.sub (ws' := nw_xW ux cx (S) (P) (nw_pl sa 0 5) (nw_pl ea 0 5) (kn) (nI ((n))) (aw) (ay) (aa) (ao)) [0, 1, 2, 3, 4, 5, 6] rfl
    have hDc := hD.sub (ws' := nw_xW ux cx (S) (P) (nw_pl sa 0 5) (nw_pl ea 0 5) (kn) (nI ((n))) (aw) (ay) (aa) (ao)) [0, 1, 2, 3, 4, 5, 6] (by decide) rfl
    have hKc := hK.sub (tys' := nw_xT cx) [0, 1, 2, 3, 4, 5] rfl
    have hFc := va_free (wc := nw_xW ux cx (S) (P) (nw_pl sa 0 5) (nw_pl ea 0 5) (kn) (nI ((n))) (aw) (ay) (aa) (ao)) hD hS hA [0, 1, 2, 3, 4, 5, 6] rfl
    refine va_calli (va_runV (As := [.int (nI (k))]) (rest := []) ⟨hx, hb, hml, hown, hts⟩ (metX0_readG l dC dI ux cx S P (nw_pl sa 0 5) (nw_pl ea 0 5) kn aw ay aa ao (nw_pp M) hT w n hn h6 hw hC hn2 k hk H.size) (cwV 1 hts (lw_V q66 q67 q68 q12 q69) rfl rfl rfl (by decide +kernel) ⟨Nat.le_of_ble_eq_true rfl, Nat.le_of_ble_eq_true rfl⟩) ⟨fun a U g mk q => ⟨q.1, q.2.1, nw_blind q.2.2⟩, va_recv hKc hPc (ci := 0) (q0 := 0) rfl rfl, fun U hU hW => ⟨rfl, by rw [hU], by rw [hU]; exact hPc, va_K.moved hW.alike hKc, hDc.weaken (fun _ _ _ _ => trivial)⟩⟩ rfl rfl hl.1 rfl (lv_room (Nat.le_of_ble_eq_true rfl)) dL_law_248 ⟨Nat.le_of_ble_eq_true rfl, Nat.le_of_ble_eq_true rfl⟩) hS (fun q _ h => hFc q h) hFc (fun rx u t_ H locs ht_ hvm_ h1 hB_ _ hk_ hS => ?_)
    obtain ⟨kn1, aw1, ay1, aa1, ao1⟩ := u
    obtain ⟨hP1, -, hD1⟩ := hB_
    rw [ht_] at hP1
    obtain ⟨hP, hD⟩ := va_join (wr := nw_yW uy cy (M) (sa) (ea) (nI ((n))) (bw) (pt) (ld) (wt)) (w1 := nw_xW ux cx (S) (P) (nw_pl sa 0 5) (nw_pl ea 0 5) (kn1) (nI ((n + 1))) (aw1) (ay1) (aa1) (ao1)) hP hD [0, 1, 2, 3, 4, 5, 6] [7, 8, 9, 10, 11, 12, 13, 14] rfl rfl (by decide) (by decide) hk_ hFc hP1 hD1
    refine lv_aload_n hx hb dL_law_251 rfl (lv_at hl 2 rfl) ?_
    refine lv_aload_n hx hb dL_law_252 rfl (lv_at hl 0 rfl) ?_
    refine lv_iload_n hx hb dL_law_253 rfl (lv_at hl 3 rfl) ?_
    refine lv_iconst (v := (nI (1))) hx hb dL_law_254 (by decide) ?_
    refine lv_iadd hx hb dL_law_255 ?_
    refine nw_as (y := (nI (a + 1))) (nI_add (a) (1)) ?_
    refine nw_sld hx hb hX hbl hbA hS (j := a + 1) (by omega) (by omega) dL_law_256 ?_
    refine nw_as (y := (nI (k))) (ek) ?_
    have hPc := hP.sub (ws' := nw_yW uy cy (M) (sa) (ea) (nI ((n))) (bw) (pt) (ld) (wt)) [0, 1, 2, 3, 4, 5, 6, 7] rfl
    have hDc := hD.sub (ws' := nw_yW uy cy (M) (sa) (ea) (nI ((n))) (bw) (pt) (ld) (wt)) [0, 1, 2, 3, 4, 5, 6, 7] (by decide) rfl
    have hKc := hK.sub (tys' := nw_yT cy) [6, 7, 8, 9, 10, 11, 12] rfl
    have hFc := va_free (wc := nw_yW uy cy (M) (sa) (ea) (nI ((n))) (bw) (pt) (ld) (wt)) hD hS hA [0, 1, 2, 3, 4, 5, 6, 7] rfl
    refine va_calli (va_runV (As := [.int (nI (k))]) (rest := [.int (rx)]) ⟨hx, hb, hml, hown, hts⟩ (metX1_readG l dC dI uy cy M sa ea bw pt ld wt w n hn hv h6 hn2 k hk H.size) (cwV 1 hts (lw_V q172 q173 q174 q13 q175) rfl rfl rfl (by decide +kernel) ⟨Nat.le_of_ble_eq_true rfl, Nat.le_of_ble_eq_true rfl⟩) ⟨fun a U g mk q => ⟨q.1, q.2.1, nw_blind q.2.2⟩, va_recv hKc hPc (ci := 1) (q0 := 0) rfl rfl, fun U hU hW => ⟨rfl, by rw [hU], by rw [hU]; exact hPc, va_K.moved hW.alike hKc, hDc.weaken (fun _ _ _ _ => trivial)⟩⟩ rfl rfl hl.1 rfl (lv_room (Nat.le_of_ble_eq_true rfl)) dL_law_257 ⟨Nat.le_of_ble_eq_true rfl, Nat.le_of_ble_eq_true rfl⟩) hS (fun q _ h => hFc q h) hFc (fun ry u t_ H locs ht_ hvm_ h2 hB_ _ hk_ hS => ?_)
    obtain ⟨p1, d1, t1⟩ := u
    obtain ⟨hP1, -, hD1⟩ := hB_
    rw [ht_] at hP1
    obtain ⟨hP, hD⟩ := va_join (wr := nw_xW ux cx (S) (P) (nw_pl sa 0 5) (nw_pl ea 0 5) (kn1) (nI ((n + 1))) (aw1) (ay1) (aa1) (ao1)) (w1 := nw_yW uy cy (M) (sa) (ea) (nI ((n + 1))) (upd bw n (nI k)) (p1) (d1) (t1)) hP hD [0, 1, 2, 3, 4, 5, 6, 7] [8, 9, 10, 11, 12, 13, 14] rfl rfl (by decide) (by decide) hk_ hFc hP1 hD1
    refine lv_icmp_eq (tgt := 354) hx hb dL_law_260 (by decide) (fun _ => ?_) (fun h => absurd (h1.1.trans h2.symm) h)
    exact tail (nw_up w n k) (n + 1) _ _ _ _ _ _ _ _ _ _ _ _ _ _ ⟨by omega, nw_up6 h6 hk, h1.2.2.1, nw_upk hv, hTB, fun _ => h1.2.2⟩ H locs hP hD hS ls hl
set_option maxHeartbeats 4000000 in
set_option maxRecDepth 100000 in
/-- state -/
theorem nw_case1 {p : Program} {l : Launch} {e : Env} {s : State} {m : MethodId} {below : List Frame} {meth : Method} {c : Code} {b L : Nat} {xs : Nat → Int32} (hL : L ≤ 384) (C0 : lw_At p s m meth c b L xs) (dC : Nat → ClassId) (dI : Nat → Nat → Nat) (ux uy : Nat → Nat) (cx cy : Nat → ClassId) (hK : va_K (dC, dI) vwCl (nw_xT cx ++ nw_yT cy) s) (a : Nat) (ha : a + 6 ≤ L) (tail : ∀ (w : Nat → Nat) (n : Nat) (S P : nw_F) (kn : Int32) (aw ay aa ao M sa ea bw pt ld wt : nw_F), nw_J w n S P kn aw ay aa ao M sa bw → ∀ (H : Heap) (locs : List Loc), va_P (dC, dI) vwCl (nw_xW ux cx (S) (P) (nw_pl (sa) 0 5) (nw_pl (ea) 0 5) (kn) (nI ((n))) (aw) (ay) (aa) (ao) ++ nw_yW uy cy (M) (sa) (ea) (nI ((n))) (bw) (pt) (ld) (wt)) H → va_D (fun q : Nat => s.heap.size ≤ q) (nw_xW ux cx (S) (P) (nw_pl (sa) 0 5) (nw_pl (ea) 0 5) (kn) (nI ((n))) (aw) (ay) (aa) (ao) ++ nw_yW uy cy (M) (sa) (ea) (nI ((n))) (bw) (pt) (ld) (wt)) → va_S (fun q : Nat => s.heap.size ≤ q) s.heap H locs → ∀ (ls : Array Slot), lv_has ls 4 [(0, .ref (b)), (1, .ref (ux 0)), (2, .ref (uy 0)), (3, .int (nI (a)))] → W p l e room_1 s m #[Value.ref b] below meth c H locs 15 1245 (lw_Z below #[Value.ref b] s) (F0 m 354 ls [])) : ∀ (w : Nat → Nat) (n : Nat) (S P : nw_F) (kn : Int32) (aw ay aa ao M sa ea bw pt ld wt : nw_F), nw_J w n S P kn aw ay aa ao M sa bw → ∀ (H : Heap) (locs : List Loc), va_P (dC, dI) vwCl (nw_xW ux cx (S) (P) (nw_pl (sa) 0 5) (nw_pl (ea) 0 5) (kn) (nI ((n))) (aw) (ay) (aa) (ao) ++ nw_yW uy cy (M) (sa) (ea) (nI ((n))) (bw) (pt) (ld) (wt)) H → va_D (fun q : Nat => s.heap.size ≤ q) (nw_xW ux cx (S) (P) (nw_pl (sa) 0 5) (nw_pl (ea) 0 5) (kn) (nI ((n))) (aw) (ay) (aa) (ao) ++ nw_yW uy cy (M) (sa) (ea) (nI ((n))) (bw) (pt) (ld) (wt)) → va_S (fun q : Nat => s.heap.size ≤ q) s.heap H locs → ∀ (ls : Array Slot), lv_has ls 4 [(0, .ref (b)), (1, .ref (ux 0)), (2, .ref (uy 0)), (3, .int (nI (a)))] → W p l e room_1 s m #[Value.ref b] below meth c H locs 15 1245 (lw_Z below #[Value.ref b] s) (F0 m 167 ls []) := by
  obtain ⟨hx, hb, hr, hml, hown, hts0, hX, hbl, hlocks, hgv⟩ := C0
  have hts : ∀ w ∈ lw_all, w.before #[Value.ref b] s = true := fun w h => hts0 w (lw_all_tbl h)
  have hA : ∀ q : Nat, s.heap.size ≤ q → (fun q : Nat => s.heap.size ≤ q) q := fun _ h => h
  have hbA : ¬ (fun q : Nat => s.heap.size ≤ q) b := Nat.not_le.mpr hbl
  intro w n S P kn aw ay aa ao M sa ea bw pt ld wt hJ H locs hP hD hS ls hl
  obtain ⟨hn, h6, hw, hv, hTB, hC⟩ := hJ
  have hT := nw_TBC hTB
  by_cases hbad : (0 ≤ xs (a + 1) ∧ xs (a + 1) ≤ 4)
  · obtain ⟨q, hq, eq⟩ := nw_s5 hbad
    refine lv_aload_n hx hb dL_law_167 rfl (lv_at hl 1 rfl) ?_
    refine lv_aload_n hx hb dL_law_168 rfl (lv_at hl 0 rfl) ?_
    refine lv_iload_n hx hb dL_law_169 rfl (lv_at hl 3 rfl) ?_
    refine lv_iconst (v := (nI (1))) hx hb dL_law_170 (by decide) ?_
    refine lv_iadd hx hb dL_law_171 ?_
    refine nw_as (y := (nI (a + 1))) (nI_add (a) (1)) ?_
    refine nw_sld hx hb hX hbl hbA hS (j := a + 1) (by omega) (by omega) dL_law_172 ?_
    refine nw_as (y := (nI (q))) (eq) ?_
    refine lv_aload_n hx hb dL_law_173 rfl (lv_at hl 0 rfl) ?_
    refine lv_iload_n hx hb dL_law_174 rfl (lv_at hl 3 rfl) ?_
    refine lv_iconst (v := (nI (2))) hx hb dL_law_175 (by decide) ?_
    refine lv_iadd hx hb dL_law_176 ?_
    refine nw_as (y := (nI (a + 2))) (nI_add (a) (2)) ?_
    refine nw_sld hx hb hX hbl hbA hS (j := a + 2) (by omega) (by omega) dL_law_177 ?_
    refine lv_if_eq (tgt := 185) hx hb dL_law_178 (by decide) (fun ha2 => ?_) (fun ha2 => ?_)
    · refine lv_iconst (v := ((0 : Int32))) hx hb dL_law_185 (by decide) ?_
      refine lv_aload_n hx hb dL_law_186 rfl (lv_at hl 0 rfl) ?_
      refine lv_iload_n hx hb dL_law_187 rfl (lv_at hl 3 rfl) ?_
      refine lv_iconst (v := (nI (3))) hx hb dL_law_188 (by decide) ?_
      refine lv_iadd hx hb dL_law_189 ?_
      refine nw_as (y := (nI (a + 3))) (nI_add (a) (3)) ?_
      refine nw_sld hx hb hX hbl hbA hS (j := a + 3) (by omega) (by omega) dL_law_190 ?_
      refine lv_if_eq (tgt := 198) hx hb dL_law_191 (by decide) (fun ha3 => ?_) (fun ha3 => ?_)
      · refine lv_iconst (v := ((0 : Int32))) hx hb dL_law_198 (by decide) ?_
        have hPc := hP.sub (ws' := nw_xW ux cx (S) (P) (nw_pl sa 0 5) (nw_pl ea 0 5) (kn) (nI ((n))) (aw) (ay) (aa) (ao)) [0, 1, 2, 3, 4, 5, 6] rfl
        have hDc := hD.sub (ws' := nw_xW ux cx (S) (P) (nw_pl sa 0 5) (nw_pl ea 0 5) (kn) (nI ((n))) (aw) (ay) (aa) (ao)) [0, 1, 2, 3, 4, 5, 6] (by decide) rfl
        have hKc := hK.sub (tys' := nw_xT cx) [0, 1, 2, 3, 4, 5] rfl
        have hFc := va_free (wc := nw_xW ux cx (S) (P) (nw_pl sa 0 5) (nw_pl ea 0 5) (kn) (nI ((n))) (aw) (ay) (aa) (ao)) hD hS hA [0, 1, 2, 3, 4, 5, 6] rfl
        refine va_calli (va_runV (As := [.int (nI (q)), .int ((0 : Int32)), .int ((0 : Int32))]) (rest := []) ⟨hx, hb, hml, hown, hts⟩ (metX0_stateG l dC dI ux cx S P (nw_pl sa 0 5) (nw_pl ea 0 5) kn aw ay aa ao n q hq ((0 : Int32)) ((0 : Int32)) H.size) (cwV 3 hts (lw_V q62 q63 q64 q12 q65) rfl rfl rfl (by decide +kernel) ⟨Nat.le_of_ble_eq_true rfl, Nat.le_of_ble_eq_true rfl⟩) ⟨fun a U g mk q => ⟨q.1, q.2.1, nw_blind q.2.2⟩, va_recv hKc hPc (ci := 0) (q0 := 0) rfl rfl, fun U hU hW => ⟨rfl, by rw [hU], by rw [hU]; exact hPc, va_K.moved hW.alike hKc, hDc.weaken (fun _ _ _ _ => trivial)⟩⟩ rfl rfl hl.1 rfl (lv_room (Nat.le_of_ble_eq_true rfl)) dL_law_199 ⟨Nat.le_of_ble_eq_true rfl, Nat.le_of_ble_eq_true rfl⟩) hS (fun q _ h => hFc q h) hFc (fun rx u t_ H locs ht_ hvm_ h1 hB_ _ hk_ hS => ?_)
        obtain ⟨hP1, -, hD1⟩ := hB_
        rw [ht_] at hP1
        obtain ⟨hP, hD⟩ := va_join (wr := nw_yW uy cy (M) (sa) (ea) (nI ((n))) (bw) (pt) (ld) (wt)) (w1 := nw_xW ux cx (S) (P) (if ((0 : Int32)) = 0 then (nw_pl sa 0 5 &&& ((1 : Int32) <<< (nI q &&& 31) ^^^ (-1))) else (nw_pl sa 0 5 ||| (1 : Int32) <<< (nI q &&& 31))) (if ((0 : Int32)) = 0 then (nw_pl ea 0 5 &&& ((1 : Int32) <<< (nI q &&& 31) ^^^ (-1))) else (nw_pl ea 0 5 ||| (1 : Int32) <<< (nI q &&& 31))) ((0 : Int32)) (nI ((n))) (aw) (ay) (aa) (ao)) hP hD [0, 1, 2, 3, 4, 5, 6] [7, 8, 9, 10, 11, 12, 13, 14] rfl rfl (by decide) (by decide) hk_ hFc hP1 hD1
        refine lv_aload_n hx hb dL_law_202 rfl (lv_at hl 2 rfl) ?_
        refine lv_aload_n hx hb dL_law_203 rfl (lv_at hl 0 rfl) ?_
        refine lv_iload_n hx hb dL_law_204 rfl (lv_at hl 3 rfl) ?_
        refine lv_iconst (v := (nI (1))) hx hb dL_law_205 (by decide) ?_
        refine lv_iadd hx hb dL_law_206 ?_
        refine nw_as (y := (nI (a + 1))) (nI_add (a) (1)) ?_
        refine nw_sld hx hb hX hbl hbA hS (j := a + 1) (by omega) (by omega) dL_law_207 ?_
        refine nw_as (y := (nI (q))) (eq) ?_
        refine lv_aload_n hx hb dL_law_208 rfl (lv_at hl 0 rfl) ?_
        refine lv_iload_n hx hb dL_law_209 rfl (lv_at hl 3 rfl) ?_
        refine lv_iconst (v := (nI (2))) hx hb dL_law_210 (by decide) ?_
        refine lv_iadd hx hb dL_law_211 ?_
        refine nw_as (y := (nI (a + 2))) (nI_add (a) (2)) ?_
        refine nw_sld hx hb hX hbl hbA hS (j := a + 2) (by omega) (by omega) dL_law_212 ?_
        refine lv_if_eq (tgt := 220) hx hb dL_law_213 (by decide) (fun _ => ?_) (fun h => absurd (ha2) h)
        refine lv_iconst (v := ((0 : Int32))) hx hb dL_law_220 (by decide) ?_
        refine lv_aload_n hx hb dL_law_221 rfl (lv_at hl 0 rfl) ?_
        refine lv_iload_n hx hb dL_law_222 rfl (lv_at hl 3 rfl) ?_
        refine lv_iconst (v := (nI (3))) hx hb dL_law_223 (by decide) ?_
        refine lv_iadd hx hb dL_law_224 ?_
        refine nw_as (y := (nI (a + 3))) (nI_add (a) (3)) ?_
        refine nw_sld hx hb hX hbl hbA hS (j := a + 3) (by omega) (by omega) dL_law_225 ?_
        refine lv_if_eq (tgt := 233) hx hb dL_law_226 (by decide) (fun _ => ?_) (fun h => absurd (ha3) h)
        refine lv_iconst (v := ((0 : Int32))) hx hb dL_law_233 (by decide) ?_
        have hPc := hP.sub (ws' := nw_yW uy cy (M) (sa) (ea) (nI ((n))) (bw) (pt) (ld) (wt)) [0, 1, 2, 3, 4, 5, 6, 7] rfl
        have hDc := hD.sub (ws' := nw_yW uy cy (M) (sa) (ea) (nI ((n))) (bw) (pt) (ld) (wt)) [0, 1, 2, 3, 4, 5, 6, 7] (by decide) rfl
        have hKc := hK.sub (tys' := nw_yT cy) [6, 7, 8, 9, 10, 11, 12] rfl
        have hFc := va_free (wc := nw_yW uy cy (M) (sa) (ea) (nI ((n))) (bw) (pt) (ld) (wt)) hD hS hA [0, 1, 2, 3, 4, 5, 6, 7] rfl
        refine va_calli (va_runV (As := [.int (nI (q)), .int ((0 : Int32)), .int ((0 : Int32))]) (rest := [.int (rx)]) ⟨hx, hb, hml, hown, hts⟩ (metX1_stateG l dC dI uy cy M sa ea bw pt ld wt n q hq ((0 : Int32)) ((0 : Int32)) H.size) (cwV 3 hts (lw_V q168 q169 q170 q13 q171) rfl rfl rfl (by decide +kernel) ⟨Nat.le_of_ble_eq_true rfl, Nat.le_of_ble_eq_true rfl⟩) ⟨fun a U g mk q => ⟨q.1, q.2.1, nw_blind q.2.2⟩, va_recv hKc hPc (ci := 1) (q0 := 0) rfl rfl, fun U hU hW => ⟨rfl, by rw [hU], by rw [hU]; exact hPc, va_K.moved hW.alike hKc, hDc.weaken (fun _ _ _ _ => trivial)⟩⟩ rfl rfl hl.1 rfl (lv_room (Nat.le_of_ble_eq_true rfl)) dL_law_234 ⟨Nat.le_of_ble_eq_true rfl, Nat.le_of_ble_eq_true rfl⟩) hS (fun q _ h => hFc q h) hFc (fun ry u t_ H locs ht_ hvm_ h2 hB_ _ hk_ hS => ?_)
        obtain ⟨hP1, -, hD1⟩ := hB_
        rw [ht_] at hP1
        obtain ⟨hP, hD⟩ := va_join (wr := nw_xW ux cx (S) (P) (if ((0 : Int32)) = 0 then (nw_pl sa 0 5 &&& ((1 : Int32) <<< (nI q &&& 31) ^^^ (-1))) else (nw_pl sa 0 5 ||| (1 : Int32) <<< (nI q &&& 31))) (if ((0 : Int32)) = 0 then (nw_pl ea 0 5 &&& ((1 : Int32) <<< (nI q &&& 31) ^^^ (-1))) else (nw_pl ea 0 5 ||| (1 : Int32) <<< (nI q &&& 31))) ((0 : Int32)) (nI ((n))) (aw) (ay) (aa) (ao)) (w1 := nw_yW uy cy (M) (upd sa q (vp_nar .boolean ((0 : Int32)))) (upd ea q (vp_nar .boolean ((0 : Int32)))) (nI ((n))) (bw) (pt) (ld) (wt)) hP hD [0, 1, 2, 3, 4, 5, 6, 7] [8, 9, 10, 11, 12, 13, 14] rfl rfl (by decide) (by decide) hk_ hFc hP1 hD1
        rw [nw_stj sa q hq (Or.inl rfl), nw_stj ea q hq (Or.inl rfl)] at hP hD
        refine lv_icmp_eq (tgt := 354) hx hb dL_law_237 (by decide) (fun _ => ?_) (fun h => absurd (h1.trans h2.symm) h)
        exact tail _ _ _ _ _ _ _ _ _ _ _ _ _ _ _ _ ⟨hn, h6, hw, hv, hTB, fun h => absurd rfl h⟩ H locs hP hD hS ls hl
      · refine lv_iconst (v := ((1 : Int32))) hx hb dL_law_194 (by decide) ?_
        refine lv_goto (tgt := 199) hx hb dL_law_195 (by decide) ?_
        have hPc := hP.sub (ws' := nw_xW ux cx (S) (P) (nw_pl sa 0 5) (nw_pl ea 0 5) (kn) (nI ((n))) (aw) (ay) (aa) (ao)) [0, 1, 2, 3, 4, 5, 6] rfl
        have hDc := hD.sub (ws' := nw_xW ux cx (S) (P) (nw_pl sa 0 5) (nw_pl ea 0 5) (kn) (nI ((n))) (aw) (ay) (aa) (ao)) [0, 1, 2, 3, 4, 5, 6] (by decide) rfl
        have hKc := hK.sub (tys' := nw_xT cx) [0, 1, 2, 3, 4, 5] rfl
        have hFc := va_free (wc := nw_xW ux cx (S) (P) (nw_pl sa 0 5) (nw_pl ea 0 5) (kn) (nI ((n))) (aw) (ay) (aa) (ao)) hD hS hA [0, 1, 2, 3, 4, 5, 6] rfl
        refine va_calli (va_runV (As := [.int (nI (q)), .int ((0 : Int32)), .int ((1 : Int32))]) (rest := []) ⟨hx, hb, hml, hown, hts⟩ (metX0_stateG l dC dI ux cx S P (nw_pl sa 0 5) (nw_pl ea 0 5) kn aw ay aa ao n q hq ((0 : Int32)) ((1 : Int32)) H.size) (cwV 3 hts (lw_V q62 q63 q64 q12 q65) rfl rfl rfl (by decide +kernel) ⟨Nat.le_of_ble_eq_true rfl, Nat.le_of_ble_eq_true rfl⟩) ⟨fun a U g mk q => ⟨q.1, q.2.1, nw_blind q.2.2⟩, va_recv hKc hPc (ci := 0) (q0 := 0) rfl rfl, fun U hU hW => ⟨rfl, by rw [hU], by rw [hU]; exact hPc, va_K.moved hW.alike hKc, hDc.weaken (fun _ _ _ _ => trivial)⟩⟩ rfl rfl hl.1 rfl (lv_room (Nat.le_of_ble_eq_true rfl)) dL_law_199 ⟨Nat.le_of_ble_eq_true rfl, Nat.le_of_ble_eq_true rfl⟩) hS (fun q _ h => hFc q h) hFc (fun rx u t_ H locs ht_ hvm_ h1 hB_ _ hk_ hS => ?_)
        obtain ⟨hP1, -, hD1⟩ := hB_
        rw [ht_] at hP1
        obtain ⟨hP, hD⟩ := va_join (wr := nw_yW uy cy (M) (sa) (ea) (nI ((n))) (bw) (pt) (ld) (wt)) (w1 := nw_xW ux cx (S) (P) (if ((0 : Int32)) = 0 then (nw_pl sa 0 5 &&& ((1 : Int32) <<< (nI q &&& 31) ^^^ (-1))) else (nw_pl sa 0 5 ||| (1 : Int32) <<< (nI q &&& 31))) (if ((1 : Int32)) = 0 then (nw_pl ea 0 5 &&& ((1 : Int32) <<< (nI q &&& 31) ^^^ (-1))) else (nw_pl ea 0 5 ||| (1 : Int32) <<< (nI q &&& 31))) ((0 : Int32)) (nI ((n))) (aw) (ay) (aa) (ao)) hP hD [0, 1, 2, 3, 4, 5, 6] [7, 8, 9, 10, 11, 12, 13, 14] rfl rfl (by decide) (by decide) hk_ hFc hP1 hD1
        refine lv_aload_n hx hb dL_law_202 rfl (lv_at hl 2 rfl) ?_
        refine lv_aload_n hx hb dL_law_203 rfl (lv_at hl 0 rfl) ?_
        refine lv_iload_n hx hb dL_law_204 rfl (lv_at hl 3 rfl) ?_
        refine lv_iconst (v := (nI (1))) hx hb dL_law_205 (by decide) ?_
        refine lv_iadd hx hb dL_law_206 ?_
        refine nw_as (y := (nI (a + 1))) (nI_add (a) (1)) ?_
        refine nw_sld hx hb hX hbl hbA hS (j := a + 1) (by omega) (by omega) dL_law_207 ?_
        refine nw_as (y := (nI (q))) (eq) ?_
        refine lv_aload_n hx hb dL_law_208 rfl (lv_at hl 0 rfl) ?_
        refine lv_iload_n hx hb dL_law_209 rfl (lv_at hl 3 rfl) ?_
        refine lv_iconst (v := (nI (2))) hx hb dL_law_210 (by decide) ?_
        refine lv_iadd hx hb dL_law_211 ?_
        refine nw_as (y := (nI (a + 2))) (nI_add (a) (2)) ?_
        refine nw_sld hx hb hX hbl hbA hS (j := a + 2) (by omega) (by omega) dL_law_212 ?_
        refine lv_if_eq (tgt := 220) hx hb dL_law_213 (by decide) (fun _ => ?_) (fun h => absurd (ha2) h)
        refine lv_iconst (v := ((0 : Int32))) hx hb dL_law_220 (by decide) ?_
        refine lv_aload_n hx hb dL_law_221 rfl (lv_at hl 0 rfl) ?_
        refine lv_iload_n hx hb dL_law_222 rfl (lv_at hl 3 rfl) ?_
        refine lv_iconst (v := (nI (3))) hx hb dL_law_223 (by decide) ?_
        refine lv_iadd hx hb dL_law_224 ?_
        refine nw_as (y := (nI (a + 3))) (nI_add (a) (3)) ?_
        refine nw_sld hx hb hX hbl hbA hS (j := a + 3) (by omega) (by omega) dL_law_225 ?_
        refine lv_if_eq (tgt := 233) hx hb dL_law_226 (by decide) (fun h => absurd h (ha3)) (fun _ => ?_)
        refine lv_iconst (v := ((1 : Int32))) hx hb dL_law_229 (by decide) ?_
        refine lv_goto (tgt := 234) hx hb dL_law_230 (by decide) ?_
        have hPc := hP.sub (ws' := nw_yW uy cy (M) (sa) (ea) (nI ((n))) (bw) (pt) (ld) (wt)) [0, 1, 2, 3, 4, 5, 6, 7] rfl
        have hDc := hD.sub (ws' := nw_yW uy cy (M) (sa) (ea) (nI ((n))) (bw) (pt) (ld) (wt)) [0, 1, 2, 3, 4, 5, 6, 7] (by decide) rfl
        have hKc := hK.sub (tys' := nw_yT cy) [6, 7, 8, 9, 10, 11, 12] rfl
        have hFc := va_free (wc := nw_yW uy cy (M) (sa) (ea) (nI ((n))) (bw) (pt) (ld) (wt)) hD hS hA [0, 1, 2, 3, 4, 5, 6, 7] rfl
        refine va_calli (va_runV (As := [.int (nI (q)), .int ((0 : Int32)), .int ((1 : Int32))]) (rest := [.int (rx)]) ⟨hx, hb, hml, hown, hts⟩ (metX1_stateG l dC dI uy cy M sa ea bw pt ld wt n q hq ((0 : Int32)) ((1 : Int32)) H.size) (cwV 3 hts (lw_V q168 q169 q170 q13 q171) rfl rfl rfl (by decide +kernel) ⟨Nat.le_of_ble_eq_true rfl, Nat.le_of_ble_eq_true rfl⟩) ⟨fun a U g mk q => ⟨q.1, q.2.1, nw_blind q.2.2⟩, va_recv hKc hPc (ci := 1) (q0 := 0) rfl rfl, fun U hU hW => ⟨rfl, by rw [hU], by rw [hU]; exact hPc, va_K.moved hW.alike hKc, hDc.weaken (fun _ _ _ _ => trivial)⟩⟩ rfl rfl hl.1 rfl (lv_room (Nat.le_of_ble_eq_true rfl)) dL_law_234 ⟨Nat.le_of_ble_eq_true rfl, Nat.le_of_ble_eq_true rfl⟩) hS (fun q _ h => hFc q h) hFc (fun ry u t_ H locs ht_ hvm_ h2 hB_ _ hk_ hS => ?_)
        obtain ⟨hP1, -, hD1⟩ := hB_
        rw [ht_] at hP1
        obtain ⟨hP, hD⟩ := va_join (wr := nw_xW ux cx (S) (P) (if ((0 : Int32)) = 0 then (nw_pl sa 0 5 &&& ((1 : Int32) <<< (nI q &&& 31) ^^^ (-1))) else (nw_pl sa 0 5 ||| (1 : Int32) <<< (nI q &&& 31))) (if ((1 : Int32)) = 0 then (nw_pl ea 0 5 &&& ((1 : Int32) <<< (nI q &&& 31) ^^^ (-1))) else (nw_pl ea 0 5 ||| (1 : Int32) <<< (nI q &&& 31))) ((0 : Int32)) (nI ((n))) (aw) (ay) (aa) (ao)) (w1 := nw_yW uy cy (M) (upd sa q (vp_nar .boolean ((0 : Int32)))) (upd ea q (vp_nar .boolean ((1 : Int32)))) (nI ((n))) (bw) (pt) (ld) (wt)) hP hD [0, 1, 2, 3, 4, 5, 6, 7] [8, 9, 10, 11, 12, 13, 14] rfl rfl (by decide) (by decide) hk_ hFc hP1 hD1
        rw [nw_stj sa q hq (Or.inl rfl), nw_stj ea q hq (Or.inr rfl)] at hP hD
        refine lv_icmp_eq (tgt := 354) hx hb dL_law_237 (by decide) (fun _ => ?_) (fun h => absurd (h1.trans h2.symm) h)
        exact tail _ _ _ _ _ _ _ _ _ _ _ _ _ _ _ _ ⟨hn, h6, hw, hv, hTB, fun h => absurd rfl h⟩ H locs hP hD hS ls hl
    · refine lv_iconst (v := ((1 : Int32))) hx hb dL_law_181 (by decide) ?_
      refine lv_goto (tgt := 186) hx hb dL_law_182 (by decide) ?_
      refine lv_aload_n hx hb dL_law_186 rfl (lv_at hl 0 rfl) ?_
      refine lv_iload_n hx hb dL_law_187 rfl (lv_at hl 3 rfl) ?_
      refine lv_iconst (v := (nI (3))) hx hb dL_law_188 (by decide) ?_
      refine lv_iadd hx hb dL_law_189 ?_
      refine nw_as (y := (nI (a + 3))) (nI_add (a) (3)) ?_
      refine nw_sld hx hb hX hbl hbA hS (j := a + 3) (by omega) (by omega) dL_law_190 ?_
      refine lv_if_eq (tgt := 198) hx hb dL_law_191 (by decide) (fun ha3 => ?_) (fun ha3 => ?_)
      · refine lv_iconst (v := ((0 : Int32))) hx hb dL_law_198 (by decide) ?_
        have hPc := hP.sub (ws' := nw_xW ux cx (S) (P) (nw_pl sa 0 5) (nw_pl ea 0 5) (kn) (nI ((n))) (aw) (ay) (aa) (ao)) [0, 1, 2, 3, 4, 5, 6] rfl
        have hDc := hD.sub (ws' := nw_xW ux cx (S) (P) (nw_pl sa 0 5) (nw_pl ea 0 5) (kn) (nI ((n))) (aw) (ay) (aa) (ao)) [0, 1, 2, 3, 4, 5, 6] (by decide) rfl
        have hKc := hK.sub (tys' := nw_xT cx) [0, 1, 2, 3, 4, 5] rfl
        have hFc := va_free (wc := nw_xW ux cx (S) (P) (nw_pl sa 0 5) (nw_pl ea 0 5) (kn) (nI ((n))) (aw) (ay) (aa) (ao)) hD hS hA [0, 1, 2, 3, 4, 5, 6] rfl
        refine va_calli (va_runV (As := [.int (nI (q)), .int ((1 : Int32)), .int ((0 : Int32))]) (rest := []) ⟨hx, hb, hml, hown, hts⟩ (metX0_stateG l dC dI ux cx S P (nw_pl sa 0 5) (nw_pl ea 0 5) kn aw ay aa ao n q hq ((1 : Int32)) ((0 : Int32)) H.size) (cwV 3 hts (lw_V q62 q63 q64 q12 q65) rfl rfl rfl (by decide +kernel) ⟨Nat.le_of_ble_eq_true rfl, Nat.le_of_ble_eq_true rfl⟩) ⟨fun a U g mk q => ⟨q.1, q.2.1, nw_blind q.2.2⟩, va_recv hKc hPc (ci := 0) (q0 := 0) rfl rfl, fun U hU hW => ⟨rfl, by rw [hU], by rw [hU]; exact hPc, va_K.moved hW.alike hKc, hDc.weaken (fun _ _ _ _ => trivial)⟩⟩ rfl rfl hl.1 rfl (lv_room (Nat.le_of_ble_eq_true rfl)) dL_law_199 ⟨Nat.le_of_ble_eq_true rfl, Nat.le_of_ble_eq_true rfl⟩) hS (fun q _ h => hFc q h) hFc (fun rx u t_ H locs ht_ hvm_ h1 hB_ _ hk_ hS => ?_)
        obtain ⟨hP1, -, hD1⟩ := hB_
        rw [ht_] at hP1
        obtain ⟨hP, hD⟩ := va_join (wr := nw_yW uy cy (M) (sa) (ea) (nI ((n))) (bw) (pt) (ld) (wt)) (w1 := nw_xW ux cx (S) (P) (if ((1 : Int32)) = 0 then (nw_pl sa 0 5 &&& ((1 : Int32) <<< (nI q &&& 31) ^^^ (-1))) else (nw_pl sa 0 5 ||| (1 : Int32) <<< (nI q &&& 31))) (if ((0 : Int32)) = 0 then (nw_pl ea 0 5 &&& ((1 : Int32) <<< (nI q &&& 31) ^^^ (-1))) else (nw_pl ea 0 5 ||| (1 : Int32) <<< (nI q &&& 31))) ((0 : Int32)) (nI ((n))) (aw) (ay) (aa) (ao)) hP hD [0, 1, 2, 3, 4, 5, 6] [7, 8, 9, 10, 11, 12, 13, 14] rfl rfl (by decide) (by decide) hk_ hFc hP1 hD1
        refine lv_aload_n hx hb dL_law_202 rfl (lv_at hl 2 rfl) ?_
        refine lv_aload_n hx hb dL_law_203 rfl (lv_at hl 0 rfl) ?_
        refine lv_iload_n hx hb dL_law_204 rfl (lv_at hl 3 rfl) ?_
        refine lv_iconst (v := (nI (1))) hx hb dL_law_205 (by decide) ?_
        refine lv_iadd hx hb dL_law_206 ?_
        refine nw_as (y := (nI (a + 1))) (nI_add (a) (1)) ?_
        refine nw_sld hx hb hX hbl hbA hS (j := a + 1) (by omega) (by omega) dL_law_207 ?_
        refine nw_as (y := (nI (q))) (eq) ?_
        refine lv_aload_n hx hb dL_law_208 rfl (lv_at hl 0 rfl) ?_
        refine lv_iload_n hx hb dL_law_209 rfl (lv_at hl 3 rfl) ?_
        refine lv_iconst (v := (nI (2))) hx hb dL_law_210 (by decide) ?_
        refine lv_iadd hx hb dL_law_211 ?_
        refine nw_as (y := (nI (a + 2))) (nI_add (a) (2)) ?_
        refine nw_sld hx hb hX hbl hbA hS (j := a + 2) (by omega) (by omega) dL_law_212 ?_
        refine lv_if_eq (tgt := 220) hx hb dL_law_213 (by decide) (fun h => absurd h (ha2)) (fun _ => ?_)
        refine lv_iconst (v := ((1 : Int32))) hx hb dL_law_216 (by decide) ?_
        refine lv_goto (tgt := 221) hx hb dL_law_217 (by decide) ?_
        refine lv_aload_n hx hb dL_law_221 rfl (lv_at hl 0 rfl) ?_
        refine lv_iload_n hx hb dL_law_222 rfl (lv_at hl 3 rfl) ?_
        refine lv_iconst (v := (nI (3))) hx hb dL_law_223 (by decide) ?_
        refine lv_iadd hx hb dL_law_224 ?_
        refine nw_as (y := (nI (a + 3))) (nI_add (a) (3)) ?_
        refine nw_sld hx hb hX hbl hbA hS (j := a + 3) (by omega) (by omega) dL_law_225 ?_
        refine lv_if_eq (tgt := 233) hx hb dL_law_226 (by decide) (fun _ => ?_) (fun h => absurd (ha3) h)
        refine lv_iconst (v := ((0 : Int32))) hx hb dL_law_233 (by decide) ?_
        have hPc := hP.sub (ws' := nw_yW uy cy (M) (sa) (ea) (nI ((n))) (bw) (pt) (ld) (wt)) [0, 1, 2, 3, 4, 5, 6, 7] rfl
        have hDc := hD.sub (ws' := nw_yW uy cy (M) (sa) (ea) (nI ((n))) (bw) (pt) (ld) (wt)) [0, 1, 2, 3, 4, 5, 6, 7] (by decide) rfl
        have hKc := hK.sub (tys' := nw_yT cy) [6, 7, 8, 9, 10, 11, 12] rfl
        have hFc := va_free (wc := nw_yW uy cy (M) (sa) (ea) (nI ((n))) (bw) (pt) (ld) (wt)) hD hS hA [0, 1, 2, 3, 4, 5, 6, 7] rfl
        refine va_calli (va_runV (As := [.int (nI (q)), .int ((1 : Int32)), .int ((0 : Int32))]) (rest := [.int (rx)]) ⟨hx, hb, hml, hown, hts⟩ (metX1_stateG l dC dI uy cy M sa ea bw pt ld wt n q hq ((1 : Int32)) ((0 : Int32)) H.size) (cwV 3 hts (lw_V q168 q169 q170 q13 q171) rfl rfl rfl (by decide +kernel) ⟨Nat.le_of_ble_eq_true rfl, Nat.le_of_ble_eq_true rfl⟩) ⟨fun a U g mk q => ⟨q.1, q.2.1, nw_blind q.2.2⟩, va_recv hKc hPc (ci := 1) (q0 := 0) rfl rfl, fun U hU hW => ⟨rfl, by rw [hU], by rw [hU]; exact hPc, va_K.moved hW.alike hKc, hDc.weaken (fun _ _ _ _ => trivial)⟩⟩ rfl rfl hl.1 rfl (lv_room (Nat.le_of_ble_eq_true rfl)) dL_law_234 ⟨Nat.le_of_ble_eq_true rfl, Nat.le_of_ble_eq_true rfl⟩) hS (fun q _ h => hFc q h) hFc (fun ry u t_ H locs ht_ hvm_ h2 hB_ _ hk_ hS => ?_)
        obtain ⟨hP1, -, hD1⟩ := hB_
        rw [ht_] at hP1
        obtain ⟨hP, hD⟩ := va_join (wr := nw_xW ux cx (S) (P) (if ((1 : Int32)) = 0 then (nw_pl sa 0 5 &&& ((1 : Int32) <<< (nI q &&& 31) ^^^ (-1))) else (nw_pl sa 0 5 ||| (1 : Int32) <<< (nI q &&& 31))) (if ((0 : Int32)) = 0 then (nw_pl ea 0 5 &&& ((1 : Int32) <<< (nI q &&& 31) ^^^ (-1))) else (nw_pl ea 0 5 ||| (1 : Int32) <<< (nI q &&& 31))) ((0 : Int32)) (nI ((n))) (aw) (ay) (aa) (ao)) (w1 := nw_yW uy cy (M) (upd sa q (vp_nar .boolean ((1 : Int32)))) (upd ea q (vp_nar .boolean ((0 : Int32)))) (nI ((n))) (bw) (pt) (ld) (wt)) hP hD [0, 1, 2, 3, 4, 5, 6, 7] [8, 9, 10, 11, 12, 13, 14] rfl rfl (by decide) (by decide) hk_ hFc hP1 hD1
        rw [nw_stj sa q hq (Or.inr rfl), nw_stj ea q hq (Or.inl rfl)] at hP hD
        refine lv_icmp_eq (tgt := 354) hx hb dL_law_237 (by decide) (fun _ => ?_) (fun h => absurd (h1.trans h2.symm) h)
        exact tail _ _ _ _ _ _ _ _ _ _ _ _ _ _ _ _ ⟨hn, h6, hw, hv, hTB, fun h => absurd rfl h⟩ H locs hP hD hS ls hl
      · refine lv_iconst (v := ((1 : Int32))) hx hb dL_law_194 (by decide) ?_
        refine lv_goto (tgt := 199) hx hb dL_law_195 (by decide) ?_
        have hPc := hP.sub (ws' := nw_xW ux cx (S) (P) (nw_pl sa 0 5) (nw_pl ea 0 5) (kn) (nI ((n))) (aw) (ay) (aa) (ao)) [0, 1, 2, 3, 4, 5, 6] rfl
        have hDc := hD.sub (ws' := nw_xW ux cx (S) (P) (nw_pl sa 0 5) (nw_pl ea 0 5) (kn) (nI ((n))) (aw) (ay) (aa) (ao)) [0, 1, 2, 3, 4, 5, 6] (by decide) rfl
        have hKc := hK.sub (tys' := nw_xT cx) [0, 1, 2, 3, 4, 5] rfl
        have hFc := va_free (wc := nw_xW ux cx (S) (P) (nw_pl sa 0 5) (nw_pl ea 0 5) (kn) (nI ((n))) (aw) (ay) (aa) (ao)) hD hS hA [0, 1, 2, 3, 4, 5, 6] rfl
        refine va_calli (va_runV (As := [.int (nI (q)), .int ((1 : Int32)), .int ((1 : Int32))]) (rest := []) ⟨hx, hb, hml, hown, hts⟩ (metX0_stateG l dC dI ux cx S P (nw_pl sa 0 5) (nw_pl ea 0 5) kn aw ay aa ao n q hq ((1 : Int32)) ((1 : Int32)) H.size) (cwV 3 hts (lw_V q62 q63 q64 q12 q65) rfl rfl rfl (by decide +kernel) ⟨Nat.le_of_ble_eq_true rfl, Nat.le_of_ble_eq_true rfl⟩) ⟨fun a U g mk q => ⟨q.1, q.2.1, nw_blind q.2.2⟩, va_recv hKc hPc (ci := 0) (q0 := 0) rfl rfl, fun U hU hW => ⟨rfl, by rw [hU], by rw [hU]; exact hPc, va_K.moved hW.alike hKc, hDc.weaken (fun _ _ _ _ => trivial)⟩⟩ rfl rfl hl.1 rfl (lv_room (Nat.le_of_ble_eq_true rfl)) dL_law_199 ⟨Nat.le_of_ble_eq_true rfl, Nat.le_of_ble_eq_true rfl⟩) hS (fun q _ h => hFc q h) hFc (fun rx u t_ H locs ht_ hvm_ h1 hB_ _ hk_ hS => ?_)
        obtain ⟨hP1, -, hD1⟩ := hB_
        rw [ht_] at hP1
        obtain ⟨hP, hD⟩ := va_join (wr := nw_yW uy cy (M) (sa) (ea) (nI ((n))) (bw) (pt) (ld) (wt)) (w1 := nw_xW ux cx (S) (P) (if ((1 : Int32)) = 0 then (nw_pl sa 0 5 &&& ((1 : Int32) <<< (nI q &&& 31) ^^^ (-1))) else (nw_pl sa 0 5 ||| (1 : Int32) <<< (nI q &&& 31))) (if ((1 : Int32)) = 0 then (nw_pl ea 0 5 &&& ((1 : Int32) <<< (nI q &&& 31) ^^^ (-1))) else (nw_pl ea 0 5 ||| (1 : Int32) <<< (nI q &&& 31))) ((0 : Int32)) (nI ((n))) (aw) (ay) (aa) (ao)) hP hD [0, 1, 2, 3, 4, 5, 6] [7, 8, 9, 10, 11, 12, 13, 14] rfl rfl (by decide) (by decide) hk_ hFc hP1 hD1
        refine lv_aload_n hx hb dL_law_202 rfl (lv_at hl 2 rfl) ?_
        refine lv_aload_n hx hb dL_law_203 rfl (lv_at hl 0 rfl) ?_
        refine lv_iload_n hx hb dL_law_204 rfl (lv_at hl 3 rfl) ?_
        refine lv_iconst (v := (nI (1))) hx hb dL_law_205 (by decide) ?_
        refine lv_iadd hx hb dL_law_206 ?_
        refine nw_as (y := (nI (a + 1))) (nI_add (a) (1)) ?_
        refine nw_sld hx hb hX hbl hbA hS (j := a + 1) (by omega) (by omega) dL_law_207 ?_
        refine nw_as (y := (nI (q))) (eq) ?_
        refine lv_aload_n hx hb dL_law_208 rfl (lv_at hl 0 rfl) ?_
        refine lv_iload_n hx hb dL_law_209 rfl (lv_at hl 3 rfl) ?_
        refine lv_iconst (v := (nI (2))) hx hb dL_law_210 (by decide) ?_
        refine lv_iadd hx hb dL_law_211 ?_
        refine nw_as (y := (nI (a + 2))) (nI_add (a) (2)) ?_
        refine nw_sld hx hb hX hbl hbA hS (j := a + 2) (by omega) (by omega) dL_law_212 ?_
        refine lv_if_eq (tgt := 220) hx hb dL_law_213 (by decide) (fun h => absurd h (ha2)) (fun _ => ?_)
        refine lv_iconst (v := ((1 : Int32))) hx hb dL_law_216 (by decide) ?_
        refine lv_goto (tgt := 221) hx hb dL_law_217 (by decide) ?_
        refine lv_aload_n hx hb dL_law_221 rfl (lv_at hl 0 rfl) ?_
        refine lv_iload_n hx hb dL_law_222 rfl (lv_at hl 3 rfl) ?_
        refine lv_iconst (v := (nI (3))) hx hb dL_law_223 (by decide) ?_
        refine lv_iadd hx hb dL_law_224 ?_
        refine nw_as (y := (nI (a + 3))) (nI_add (a) (3)) ?_
        refine nw_sld hx hb hX hbl hbA hS (j := a + 3) (by omega) (by omega) dL_law_225 ?_
        refine lv_if_eq (tgt := 233) hx hb dL_law_226 (by decide) (fun h => absurd h (ha3)) (fun _ => ?_)
        refine lv_iconst (v := ((1 : Int32))) hx hb dL_law_229 (by decide) ?_
        refine lv_goto (tgt := 234) hx hb dL_law_230 (by decide) ?_
        have hPc := hP.sub (ws' := nw_yW uy cy (M) (sa) (ea) (nI ((n))) (bw) (pt) (ld) (wt)) [0, 1, 2, 3, 4, 5, 6, 7] rfl
        have hDc := hD.sub (ws' := nw_yW uy cy (M) (sa) (ea) (nI ((n))) (bw) (pt) (ld) (wt)) [0, 1, 2, 3, 4, 5, 6, 7] (by decide) rfl
        have hKc := hK.sub (tys' := nw_yT cy) [6, 7, 8, 9, 10, 11, 12] rfl
        have hFc := va_free (wc := nw_yW uy cy (M) (sa) (ea) (nI ((n))) (bw) (pt) (ld) (wt)) hD hS hA [0, 1, 2, 3, 4, 5, 6, 7] rfl
        refine va_calli (va_runV (As := [.int (nI (q)), .int ((1 : Int32)), .int ((1 : Int32))]) (rest := [.int (rx)]) ⟨hx, hb, hml, hown, hts⟩ (metX1_stateG l dC dI uy cy M sa ea bw pt ld wt n q hq ((1 : Int32)) ((1 : Int32)) H.size) (cwV 3 hts (lw_V q168 q169 q170 q13 q171) rfl rfl rfl (by decide +kernel) ⟨Nat.le_of_ble_eq_true rfl, Nat.le_of_ble_eq_true rfl⟩) ⟨fun a U g mk q => ⟨q.1, q.2.1, nw_blind q.2.2⟩, va_recv hKc hPc (ci := 1) (q0 := 0) rfl rfl, fun U hU hW => ⟨rfl, by rw [hU], by rw [hU]; exact hPc, va_K.moved hW.alike hKc, hDc.weaken (fun _ _ _ _ => trivial)⟩⟩ rfl rfl hl.1 rfl (lv_room (Nat.le_of_ble_eq_true rfl)) dL_law_234 ⟨Nat.le_of_ble_eq_true rfl, Nat.le_of_ble_eq_true rfl⟩) hS (fun q _ h => hFc q h) hFc (fun ry u t_ H locs ht_ hvm_ h2 hB_ _ hk_ hS => ?_)
        obtain ⟨hP1, -, hD1⟩ := hB_
        rw [ht_] at hP1
        obtain ⟨hP, hD⟩ := va_join (wr := nw_xW ux cx (S) (P) (if ((1 : Int32)) = 0 then (nw_pl sa 0 5 &&& ((1 : Int32) <<< (nI q &&& 31) ^^^ (-1))) else (nw_pl sa 0 5 ||| (1 : Int32) <<< (nI q &&& 31))) (if ((1 : Int32)) = 0 then (nw_pl ea 0 5 &&& ((1 : Int32) <<< (nI q &&& 31) ^^^ (-1))) else (nw_pl ea 0 5 ||| (1 : Int32) <<< (nI q &&& 31))) ((0 : Int32)) (nI ((n))) (aw) (ay) (aa) (ao)) (w1 := nw_yW uy cy (M) (upd sa q (vp_nar .boolean ((1 : Int32)))) (upd ea q (vp_nar .boolean ((1 : Int32)))) (nI ((n))) (bw) (pt) (ld) (wt)) hP hD [0, 1, 2, 3, 4, 5, 6, 7] [8, 9, 10, 11, 12, 13, 14] rfl rfl (by decide) (by decide) hk_ hFc hP1 hD1
        rw [nw_stj sa q hq (Or.inr rfl), nw_stj ea q hq (Or.inr rfl)] at hP hD
        refine lv_icmp_eq (tgt := 354) hx hb dL_law_237 (by decide) (fun _ => ?_) (fun h => absurd (h1.trans h2.symm) h)
        exact tail _ _ _ _ _ _ _ _ _ _ _ _ _ _ _ _ ⟨hn, h6, hw, hv, hTB, fun h => absurd rfl h⟩ H locs hP hD hS ls hl
  · refine lv_aload_n hx hb dL_law_167 rfl (lv_at hl 1 rfl) ?_
    refine lv_aload_n hx hb dL_law_168 rfl (lv_at hl 0 rfl) ?_
    refine lv_iload_n hx hb dL_law_169 rfl (lv_at hl 3 rfl) ?_
    refine lv_iconst (v := (nI (1))) hx hb dL_law_170 (by decide) ?_
    refine lv_iadd hx hb dL_law_171 ?_
    refine nw_as (y := (nI (a + 1))) (nI_add (a) (1)) ?_
    refine nw_sld hx hb hX hbl hbA hS (j := a + 1) (by omega) (by omega) dL_law_172 ?_
    refine lv_aload_n hx hb dL_law_173 rfl (lv_at hl 0 rfl) ?_
    refine lv_iload_n hx hb dL_law_174 rfl (lv_at hl 3 rfl) ?_
    refine lv_iconst (v := (nI (2))) hx hb dL_law_175 (by decide) ?_
    refine lv_iadd hx hb dL_law_176 ?_
    refine nw_as (y := (nI (a + 2))) (nI_add (a) (2)) ?_
    refine nw_sld hx hb hX hbl hbA hS (j := a + 2) (by omega) (by omega) dL_law_177 ?_
    refine lv_if_eq (tgt := 185) hx hb dL_law_178 (by decide) (fun ha2 => ?_) (fun ha2 => ?_)
    · refine lv_iconst (v := ((0 : Int32))) hx hb dL_law_185 (by decide) ?_
      refine lv_aload_n hx hb dL_law_186 rfl (lv_at hl 0 rfl) ?_
      refine lv_iload_n hx hb dL_law_187 rfl (lv_at hl 3 rfl) ?_
      refine lv_iconst (v := (nI (3))) hx hb dL_law_188 (by decide) ?_
      refine lv_iadd hx hb dL_law_189 ?_
      refine nw_as (y := (nI (a + 3))) (nI_add (a) (3)) ?_
      refine nw_sld hx hb hX hbl hbA hS (j := a + 3) (by omega) (by omega) dL_law_190 ?_
      refine lv_if_eq (tgt := 198) hx hb dL_law_191 (by decide) (fun ha3 => ?_) (fun ha3 => ?_)
      · refine lv_iconst (v := ((0 : Int32))) hx hb dL_law_198 (by decide) ?_
        have hPc := hP.sub (ws' := nw_xW ux cx (S) (P) (nw_pl sa 0 5) (nw_pl ea 0 5) (kn) (nI ((n))) (aw) (ay) (aa) (ao)) [0, 1, 2, 3, 4, 5, 6] rfl
        have hDc := hD.sub (ws' := nw_xW ux cx (S) (P) (nw_pl sa 0 5) (nw_pl ea 0 5) (kn) (nI ((n))) (aw) (ay) (aa) (ao)) [0, 1, 2, 3, 4, 5, 6] (by decide) rfl
        have hKc := hK.sub (tys' := nw_xT cx) [0, 1, 2, 3, 4, 5] rfl
        refine vp_callSi (va_Run.run (va_runV (As := [.int (xs (a + 1)), .int ((0 : Int32)), .int ((0 : Int32))]) (rest := []) ⟨hx, hb, hml, hown, hts⟩ (metX0_stateB l dC dI ux cx S P (nw_pl sa 0 5) (nw_pl ea 0 5) kn (nI n) aw ay aa ao _ ((0 : Int32)) ((0 : Int32)) hbad) (cwV 3 hts (lw_V q62 q63 q64 q12 q65) rfl rfl rfl (by decide +kernel) ⟨Nat.le_of_ble_eq_true rfl, Nat.le_of_ble_eq_true rfl⟩) ⟨fun a U g mk q => ⟨q.1, nw_blindR q.2⟩, va_recv hKc hPc (ci := 0) (q0 := 0) rfl rfl, fun U hU hW => ⟨rfl, by rw [hU]; exact hPc, va_K.moved hW.alike hKc⟩⟩ rfl rfl hl.1 rfl (lv_room (Nat.le_of_ble_eq_true rfl)) dL_law_199 ⟨Nat.le_of_ble_eq_true rfl, Nat.le_of_ble_eq_true rfl⟩)) (fun rx h1 => ?_)
        refine lv_aload_n hx hb dL_law_202 rfl (lv_at hl 2 rfl) ?_
        refine lv_aload_n hx hb dL_law_203 rfl (lv_at hl 0 rfl) ?_
        refine lv_iload_n hx hb dL_law_204 rfl (lv_at hl 3 rfl) ?_
        refine lv_iconst (v := (nI (1))) hx hb dL_law_205 (by decide) ?_
        refine lv_iadd hx hb dL_law_206 ?_
        refine nw_as (y := (nI (a + 1))) (nI_add (a) (1)) ?_
        refine nw_sld hx hb hX hbl hbA hS (j := a + 1) (by omega) (by omega) dL_law_207 ?_
        refine lv_aload_n hx hb dL_law_208 rfl (lv_at hl 0 rfl) ?_
        refine lv_iload_n hx hb dL_law_209 rfl (lv_at hl 3 rfl) ?_
        refine lv_iconst (v := (nI (2))) hx hb dL_law_210 (by decide) ?_
        refine lv_iadd hx hb dL_law_211 ?_
        refine nw_as (y := (nI (a + 2))) (nI_add (a) (2)) ?_
        refine nw_sld hx hb hX hbl hbA hS (j := a + 2) (by omega) (by omega) dL_law_212 ?_
        refine lv_if_eq (tgt := 220) hx hb dL_law_213 (by decide) (fun _ => ?_) (fun h => absurd (ha2) h)
        refine lv_iconst (v := ((0 : Int32))) hx hb dL_law_220 (by decide) ?_
        refine lv_aload_n hx hb dL_law_221 rfl (lv_at hl 0 rfl) ?_
        refine lv_iload_n hx hb dL_law_222 rfl (lv_at hl 3 rfl) ?_
        refine lv_iconst (v := (nI (3))) hx hb dL_law_223 (by decide) ?_
        refine lv_iadd hx hb dL_law_224 ?_
        refine nw_as (y := (nI (a + 3))) (nI_add (a) (3)) ?_
        refine nw_sld hx hb hX hbl hbA hS (j := a + 3) (by omega) (by omega) dL_law_225 ?_
        refine lv_if_eq (tgt := 233) hx hb dL_law_226 (by decide) (fun _ => ?_) (fun h => absurd (ha3) h)
        refine lv_iconst (v := ((0 : Int32))) hx hb dL_law_233 (by decide) ?_
        have hPc := hP.sub (ws' := nw_yW uy cy (M) (sa) (ea) (nI ((n))) (bw) (pt) (ld) (wt)) [7, 8, 9, 10, 11, 12, 13, 14] rfl
        have hDc := hD.sub (ws' := nw_yW uy cy (M) (sa) (ea) (nI ((n))) (bw) (pt) (ld) (wt)) [7, 8, 9, 10, 11, 12, 13, 14] (by decide) rfl
        have hKc := hK.sub (tys' := nw_yT cy) [6, 7, 8, 9, 10, 11, 12] rfl
        refine vp_callSi (va_Run.run (va_runV (As := [.int (xs (a + 1)), .int ((0 : Int32)), .int ((0 : Int32))]) (rest := [.int (rx)]) ⟨hx, hb, hml, hown, hts⟩ (metX1_stateB l dC dI uy cy M sa ea (nI n) bw pt ld wt _ ((0 : Int32)) ((0 : Int32)) hbad) (cwV 3 hts (lw_V q168 q169 q170 q13 q171) rfl rfl rfl (by decide +kernel) ⟨Nat.le_of_ble_eq_true rfl, Nat.le_of_ble_eq_true rfl⟩) ⟨fun a U g mk q => ⟨q.1, nw_blindR q.2⟩, va_recv hKc hPc (ci := 1) (q0 := 0) rfl rfl, fun U hU hW => ⟨rfl, by rw [hU]; exact hPc, va_K.moved hW.alike hKc⟩⟩ rfl rfl hl.1 rfl (lv_room (Nat.le_of_ble_eq_true rfl)) dL_law_234 ⟨Nat.le_of_ble_eq_true rfl, Nat.le_of_ble_eq_true rfl⟩)) (fun ry h2 => ?_)
        refine lv_icmp_eq (tgt := 354) hx hb dL_law_237 (by decide) (fun _ => ?_) (fun h => absurd (h1.trans h2.symm) h)
        exact tail _ _ _ _ _ _ _ _ _ _ _ _ _ _ _ _ ⟨hn, h6, hw, hv, hTB, hC⟩ H locs hP hD hS ls hl
      · refine lv_iconst (v := ((1 : Int32))) hx hb dL_law_194 (by decide) ?_
        refine lv_goto (tgt := 199) hx hb dL_law_195 (by decide) ?_
        have hPc := hP.sub (ws' := nw_xW ux cx (S) (P) (nw_pl sa 0 5) (nw_pl ea 0 5) (kn) (nI ((n))) (aw) (ay) (aa) (ao)) [0, 1, 2, 3, 4, 5, 6] rfl
        have hDc := hD.sub (ws' := nw_xW ux cx (S) (P) (nw_pl sa 0 5) (nw_pl ea 0 5) (kn) (nI ((n))) (aw) (ay) (aa) (ao)) [0, 1, 2, 3, 4, 5, 6] (by decide) rfl
        have hKc := hK.sub (tys' := nw_xT cx) [0, 1, 2, 3, 4, 5] rfl
        refine vp_callSi (va_Run.run (va_runV (As := [.int (xs (a + 1)), .int ((0 : Int32)), .int ((1 : Int32))]) (rest := []) ⟨hx, hb, hml, hown, hts⟩ (metX0_stateB l dC dI ux cx S P (nw_pl sa 0 5) (nw_pl ea 0 5) kn (nI n) aw ay aa ao _ ((0 : Int32)) ((1 : Int32)) hbad) (cwV 3 hts (lw_V q62 q63 q64 q12 q65) rfl rfl rfl (by decide +kernel) ⟨Nat.le_of_ble_eq_true rfl, Nat.le_of_ble_eq_true rfl⟩) ⟨fun a U g mk q => ⟨q.1, nw_blindR q.2⟩, va_recv hKc hPc (ci := 0) (q0 := 0) rfl rfl, fun U hU hW => ⟨rfl, by rw [hU]; exact hPc, va_K.moved hW.alike hKc⟩⟩ rfl rfl hl.1 rfl (lv_room (Nat.le_of_ble_eq_true rfl)) dL_law_199 ⟨Nat.le_of_ble_eq_true rfl, Nat.le_of_ble_eq_true rfl⟩)) (fun rx h1 => ?_)
        refine lv_aload_n hx hb dL_law_202 rfl (lv_at hl 2 rfl) ?_
        refine lv_aload_n hx hb dL_law_203 rfl (lv_at hl 0 rfl) ?_
        refine lv_iload_n hx hb dL_law_204 rfl (lv_at hl 3 rfl) ?_
        refine lv_iconst (v := (nI (1))) hx hb dL_law_205 (by decide) ?_
        refine lv_iadd hx hb dL_law_206 ?_
        refine nw_as (y := (nI (a + 1))) (nI_add (a) (1)) ?_
        refine nw_sld hx hb hX hbl hbA hS (j := a + 1) (by omega) (by omega) dL_law_207 ?_
        refine lv_aload_n hx hb dL_law_208 rfl (lv_at hl 0 rfl) ?_
        refine lv_iload_n hx hb dL_law_209 rfl (lv_at hl 3 rfl) ?_
        refine lv_iconst (v := (nI (2))) hx hb dL_law_210 (by decide) ?_
        refine lv_iadd hx hb dL_law_211 ?_
        refine nw_as (y := (nI (a + 2))) (nI_add (a) (2)) ?_
        refine nw_sld hx hb hX hbl hbA hS (j := a + 2) (by omega) (by omega) dL_law_212 ?_
        refine lv_if_eq (tgt := 220) hx hb dL_law_213 (by decide) (fun _ => ?_) (fun h => absurd (ha2) h)
        refine lv_iconst (v := ((0 : Int32))) hx hb dL_law_220 (by decide) ?_
        refine lv_aload_n hx hb dL_law_221 rfl (lv_at hl 0 rfl) ?_
        refine lv_iload_n hx hb dL_law_222 rfl (lv_at hl 3 rfl) ?_
        refine lv_iconst (v := (nI (3))) hx hb dL_law_223 (by decide) ?_
        refine lv_iadd hx hb dL_law_224 ?_
        refine nw_as (y := (nI (a + 3))) (nI_add (a) (3)) ?_
        refine nw_sld hx hb hX hbl hbA hS (j := a + 3) (by omega) (by omega) dL_law_225 ?_
        refine lv_if_eq (tgt := 233) hx hb dL_law_226 (by decide) (fun h => absurd h (ha3)) (fun _ => ?_)
        refine lv_iconst (v := ((1 : Int32))) hx hb dL_law_229 (by decide) ?_
        refine lv_goto (tgt := 234) hx hb dL_law_230 (by decide) ?_
        have hPc := hP.sub (ws' := nw_yW uy cy (M) (sa) (ea) (nI ((n))) (bw) (pt) (ld) (wt)) [7, 8, 9, 10, 11, 12, 13, 14] rfl
        have hDc := hD.sub (ws' := nw_yW uy cy (M) (sa) (ea) (nI ((n))) (bw) (pt) (ld) (wt)) [7, 8, 9, 10, 11, 12, 13, 14] (by decide) rfl
        have hKc := hK.sub (tys' := nw_yT cy) [6, 7, 8, 9, 10, 11, 12] rfl
        refine vp_callSi (va_Run.run (va_runV (As := [.int (xs (a + 1)), .int ((0 : Int32)), .int ((1 : Int32))]) (rest := [.int (rx)]) ⟨hx, hb, hml, hown, hts⟩ (metX1_stateB l dC dI uy cy M sa ea (nI n) bw pt ld wt _ ((0 : Int32)) ((1 : Int32)) hbad) (cwV 3 hts (lw_V q168 q169 q170 q13 q171) rfl rfl rfl (by decide +kernel) ⟨Nat.le_of_ble_eq_true rfl, Nat.le_of_ble_eq_true rfl⟩) ⟨fun a U g mk q => ⟨q.1, nw_blindR q.2⟩, va_recv hKc hPc (ci := 1) (q0 := 0) rfl rfl, fun U hU hW => ⟨rfl, by rw [hU]; exact hPc, va_K.moved hW.alike hKc⟩⟩ rfl rfl hl.1 rfl (lv_room (Nat.le_of_ble_eq_true rfl)) dL_law_234 ⟨Nat.le_of_ble_eq_true rfl, Nat.le_of_ble_eq_true rfl⟩)) (fun ry h2 => ?_)
        refine lv_icmp_eq (tgt := 354) hx hb dL_law_237 (by decide) (fun _ => ?_) (fun h => absurd (h1.trans h2.symm) h)
        exact tail _ _ _ _ _ _ _ _ _ _ _ _ _ _ _ _ ⟨hn, h6, hw, hv, hTB, hC⟩ H locs hP hD hS ls hl
    · refine lv_iconst (v := ((1 : Int32))) hx hb dL_law_181 (by decide) ?_
      refine lv_goto (tgt := 186) hx hb dL_law_182 (by decide) ?_
      refine lv_aload_n hx hb dL_law_186 rfl (lv_at hl 0 rfl) ?_
      refine lv_iload_n hx hb dL_law_187 rfl (lv_at hl 3 rfl) ?_
      refine lv_iconst (v := (nI (3))) hx hb dL_law_188 (by decide) ?_
      refine lv_iadd hx hb dL_law_189 ?_
      refine nw_as (y := (nI (a + 3))) (nI_add (a) (3)) ?_
      refine nw_sld hx hb hX hbl hbA hS (j := a + 3) (by omega) (by omega) dL_law_190 ?_
      refine lv_if_eq (tgt := 198) hx hb dL_law_191 (by decide) (fun ha3 => ?_) (fun ha3 => ?_)
      · refine lv_iconst (v := ((0 : Int32))) hx hb dL_law_198 (by decide) ?_
        have hPc := hP.sub (ws' := nw_xW ux cx (S) (P) (nw_pl sa 0 5) (nw_pl ea 0 5) (kn) (nI ((n))) (aw) (ay) (aa) (ao)) [0, 1, 2, 3, 4, 5, 6] rfl
        have hDc := hD.sub (ws' := nw_xW ux cx (S) (P) (nw_pl sa 0 5) (nw_pl ea 0 5) (kn) (nI ((n))) (aw) (ay) (aa) (ao)) [0, 1, 2, 3, 4, 5, 6] (by decide) rfl
        have hKc := hK.sub (tys' := nw_xT cx) [0, 1, 2, 3, 4, 5] rfl
        refine vp_callSi (va_Run.run (va_runV (As := [.int (xs (a + 1)), .int ((1 : Int32)), .int ((0 : Int32))]) (rest := []) ⟨hx, hb, hml, hown, hts⟩ (metX0_stateB l dC dI ux cx S P (nw_pl sa 0 5) (nw_pl ea 0 5) kn (nI n) aw ay aa ao _ ((1 : Int32)) ((0 : Int32)) hbad) (cwV 3 hts (lw_V q62 q63 q64 q12 q65) rfl rfl rfl (by decide +kernel) ⟨Nat.le_of_ble_eq_true rfl, Nat.le_of_ble_eq_true rfl⟩) ⟨fun a U g mk q => ⟨q.1, nw_blindR q.2⟩, va_recv hKc hPc (ci := 0) (q0 := 0) rfl rfl, fun U hU hW => ⟨rfl, by rw [hU]; exact hPc, va_K.moved hW.alike hKc⟩⟩ rfl rfl hl.1 rfl (lv_room (Nat.le_of_ble_eq_true rfl)) dL_law_199 ⟨Nat.le_of_ble_eq_true rfl, Nat.le_of_ble_eq_true rfl⟩)) (fun rx h1 => ?_)
        refine lv_aload_n hx hb dL_law_202 rfl (lv_at hl 2 rfl) ?_
        refine lv_aload_n hx hb dL_law_203 rfl (lv_at hl 0 rfl) ?_
        refine lv_iload_n hx hb dL_law_204 rfl (lv_at hl 3 rfl) ?_
        refine lv_iconst (v := (nI (1))) hx hb dL_law_205 (by decide) ?_
        refine lv_iadd hx hb dL_law_206 ?_
        refine nw_as (y := (nI (a + 1))) (nI_add (a) (1)) ?_
        refine nw_sld hx hb hX hbl hbA hS (j := a + 1) (by omega) (by omega) dL_law_207 ?_
        refine lv_aload_n hx hb dL_law_208 rfl (lv_at hl 0 rfl) ?_
        refine lv_iload_n hx hb dL_law_209 rfl (lv_at hl 3 rfl) ?_
        refine lv_iconst (v := (nI (2))) hx hb dL_law_210 (by decide) ?_
        refine lv_iadd hx hb dL_law_211 ?_
        refine nw_as (y := (nI (a + 2))) (nI_add (a) (2)) ?_
        refine nw_sld hx hb hX hbl hbA hS (j := a + 2) (by omega) (by omega) dL_law_212 ?_
        refine lv_if_eq (tgt := 220) hx hb dL_law_213 (by decide) (fun h => absurd h (ha2)) (fun _ => ?_)
        refine lv_iconst (v := ((1 : Int32))) hx hb dL_law_216 (by decide) ?_
        refine lv_goto (tgt := 221) hx hb dL_law_217 (by decide) ?_
        refine lv_aload_n hx hb dL_law_221 rfl (lv_at hl 0 rfl) ?_
        refine lv_iload_n hx hb dL_law_222 rfl (lv_at hl 3 rfl) ?_
        refine lv_iconst (v := (nI (3))) hx hb dL_law_223 (by decide) ?_
        refine lv_iadd hx hb dL_law_224 ?_
        refine nw_as (y := (nI (a + 3))) (nI_add (a) (3)) ?_
        refine nw_sld hx hb hX hbl hbA hS (j := a + 3) (by omega) (by omega) dL_law_225 ?_
        refine lv_if_eq (tgt := 233) hx hb dL_law_226 (by decide) (fun _ => ?_) (fun h => absurd (ha3) h)
        refine lv_iconst (v := ((0 : Int32))) hx hb dL_law_233 (by decide) ?_
        have hPc := hP.sub (ws' := nw_yW uy cy (M) (sa) (ea) (nI ((n))) (bw) (pt) (ld) (wt)) [7, 8, 9, 10, 11, 12, 13, 14] rfl
        have hDc := hD.sub (ws' := nw_yW uy cy (M) (sa) (ea) (nI ((n))) (bw) (pt) (ld) (wt)) [7, 8, 9, 10, 11, 12, 13, 14] (by decide) rfl
        have hKc := hK.sub (tys' := nw_yT cy) [6, 7, 8, 9, 10, 11, 12] rfl
        refine vp_callSi (va_Run.run (va_runV (As := [.int (xs (a + 1)), .int ((1 : Int32)), .int ((0 : Int32))]) (rest := [.int (rx)]) ⟨hx, hb, hml, hown, hts⟩ (metX1_stateB l dC dI uy cy M sa ea (nI n) bw pt ld wt _ ((1 : Int32)) ((0 : Int32)) hbad) (cwV 3 hts (lw_V q168 q169 q170 q13 q171) rfl rfl rfl (by decide +kernel) ⟨Nat.le_of_ble_eq_true rfl, Nat.le_of_ble_eq_true rfl⟩) ⟨fun a U g mk q => ⟨q.1, nw_blindR q.2⟩, va_recv hKc hPc (ci := 1) (q0 := 0) rfl rfl, fun U hU hW => ⟨rfl, by rw [hU]; exact hPc, va_K.moved hW.alike hKc⟩⟩ rfl rfl hl.1 rfl (lv_room (Nat.le_of_ble_eq_true rfl)) dL_law_234 ⟨Nat.le_of_ble_eq_true rfl, Nat.le_of_ble_eq_true rfl⟩)) (fun ry h2 => ?_)
        refine lv_icmp_eq (tgt := 354) hx hb dL_law_237 (by decide) (fun _ => ?_) (fun h => absurd (h1.trans h2.symm) h)
        exact tail _ _ _ _ _ _ _ _ _ _ _ _ _ _ _ _ ⟨hn, h6, hw, hv, hTB, hC⟩ H locs hP hD hS ls hl
      · refine lv_iconst (v := ((1 : Int32))) hx hb dL_law_194 (by decide) ?_
        refine lv_goto (tgt := 199) hx hb dL_law_195 (by decide) ?_
        have hPc := hP.sub (ws' := nw_xW ux cx (S) (P) (nw_pl sa 0 5) (nw_pl ea 0 5) (kn) (nI ((n))) (aw) (ay) (aa) (ao)) [0, 1, 2, 3, 4, 5, 6] rfl
        have hDc := hD.sub (ws' := nw_xW ux cx (S) (P) (nw_pl sa 0 5) (nw_pl ea 0 5) (kn) (nI ((n))) (aw) (ay) (aa) (ao)) [0, 1, 2, 3, 4, 5, 6] (by decide) rfl
        have hKc := hK.sub (tys' := nw_xT cx) [0, 1, 2, 3, 4, 5] rfl
        refine vp_callSi (va_Run.run (va_runV (As := [.int (xs (a + 1)), .int ((1 : Int32)), .int ((1 : Int32))]) (rest := []) ⟨hx, hb, hml, hown, hts⟩ (metX0_stateB l dC dI ux cx S P (nw_pl sa 0 5) (nw_pl ea 0 5) kn (nI n) aw ay aa ao _ ((1 : Int32)) ((1 : Int32)) hbad) (cwV 3 hts (lw_V q62 q63 q64 q12 q65) rfl rfl rfl (by decide +kernel) ⟨Nat.le_of_ble_eq_true rfl, Nat.le_of_ble_eq_true rfl⟩) ⟨fun a U g mk q => ⟨q.1, nw_blindR q.2⟩, va_recv hKc hPc (ci := 0) (q0 := 0) rfl rfl, fun U hU hW => ⟨rfl, by rw [hU]; exact hPc, va_K.moved hW.alike hKc⟩⟩ rfl rfl hl.1 rfl (lv_room (Nat.le_of_ble_eq_true rfl)) dL_law_199 ⟨Nat.le_of_ble_eq_true rfl, Nat.le_of_ble_eq_true rfl⟩)) (fun rx h1 => ?_)
        refine lv_aload_n hx hb dL_law_202 rfl (lv_at hl 2 rfl) ?_
        refine lv_aload_n hx hb dL_law_203 rfl (lv_at hl 0 rfl) ?_
        refine lv_iload_n hx hb dL_law_204 rfl (lv_at hl 3 rfl) ?_
        refine lv_iconst (v := (nI (1))) hx hb dL_law_205 (by decide) ?_
        refine lv_iadd hx hb dL_law_206 ?_
        refine nw_as (y := (nI (a + 1))) (nI_add (a) (1)) ?_
        refine nw_sld hx hb hX hbl hbA hS (j := a + 1) (by omega) (by omega) dL_law_207 ?_
        refine lv_aload_n hx hb dL_law_208 rfl (lv_at hl 0 rfl) ?_
        refine lv_iload_n hx hb dL_law_209 rfl (lv_at hl 3 rfl) ?_
        refine lv_iconst (v := (nI (2))) hx hb dL_law_210 (by decide) ?_
        refine lv_iadd hx hb dL_law_211 ?_
        refine nw_as (y := (nI (a + 2))) (nI_add (a) (2)) ?_
        refine nw_sld hx hb hX hbl hbA hS (j := a + 2) (by omega) (by omega) dL_law_212 ?_
        refine lv_if_eq (tgt := 220) hx hb dL_law_213 (by decide) (fun h => absurd h (ha2)) (fun _ => ?_)
        refine lv_iconst (v := ((1 : Int32))) hx hb dL_law_216 (by decide) ?_
        refine lv_goto (tgt := 221) hx hb dL_law_217 (by decide) ?_
        refine lv_aload_n hx hb dL_law_221 rfl (lv_at hl 0 rfl) ?_
        refine lv_iload_n hx hb dL_law_222 rfl (lv_at hl 3 rfl) ?_
        refine lv_iconst (v := (nI (3))) hx hb dL_law_223 (by decide) ?_
        refine lv_iadd hx hb dL_law_224 ?_
        refine nw_as (y := (nI (a + 3))) (nI_add (a) (3)) ?_
        refine nw_sld hx hb hX hbl hbA hS (j := a + 3) (by omega) (by omega) dL_law_225 ?_
        refine lv_if_eq (tgt := 233) hx hb dL_law_226 (by decide) (fun h => absurd h (ha3)) (fun _ => ?_)
        refine lv_iconst (v := ((1 : Int32))) hx hb dL_law_229 (by decide) ?_
        refine lv_goto (tgt := 234) hx hb dL_law_230 (by decide) ?_
        have hPc := hP.sub (ws' := nw_yW uy cy (M) (sa) (ea) (nI ((n))) (bw) (pt) (ld) (wt)) [7, 8, 9, 10, 11, 12, 13, 14] rfl
        have hDc := hD.sub (ws' := nw_yW uy cy (M) (sa) (ea) (nI ((n))) (bw) (pt) (ld) (wt)) [7, 8, 9, 10, 11, 12, 13, 14] (by decide) rfl
        have hKc := hK.sub (tys' := nw_yT cy) [6, 7, 8, 9, 10, 11, 12] rfl
        refine vp_callSi (va_Run.run (va_runV (As := [.int (xs (a + 1)), .int ((1 : Int32)), .int ((1 : Int32))]) (rest := [.int (rx)]) ⟨hx, hb, hml, hown, hts⟩ (metX1_stateB l dC dI uy cy M sa ea (nI n) bw pt ld wt _ ((1 : Int32)) ((1 : Int32)) hbad) (cwV 3 hts (lw_V q168 q169 q170 q13 q171) rfl rfl rfl (by decide +kernel) ⟨Nat.le_of_ble_eq_true rfl, Nat.le_of_ble_eq_true rfl⟩) ⟨fun a U g mk q => ⟨q.1, nw_blindR q.2⟩, va_recv hKc hPc (ci := 1) (q0 := 0) rfl rfl, fun U hU hW => ⟨rfl, by rw [hU]; exact hPc, va_K.moved hW.alike hKc⟩⟩ rfl rfl hl.1 rfl (lv_room (Nat.le_of_ble_eq_true rfl)) dL_law_234 ⟨Nat.le_of_ble_eq_true rfl, Nat.le_of_ble_eq_true rfl⟩)) (fun ry h2 => ?_)
        refine lv_icmp_eq (tgt := 354) hx hb dL_law_237 (by decide) (fun _ => ?_) (fun h => absurd (h1.trans h2.symm) h)
        exact tail _ _ _ _ _ _ _ _ _ _ _ _ _ _ _ _ ⟨hn, h6, hw, hv, hTB, hC⟩ H locs hP hD hS ls hl
set_option maxHeartbeats 4000000 in
set_option maxRecDepth 100000 in
/-- move -/
theorem nw_case0 {p : Program} {l : Launch} {e : Env} {s : State} {m : MethodId} {below : List Frame} {meth : Method} {c : Code} {b L : Nat} {xs : Nat → Int32} (hL : L ≤ 384) (C0 : lw_At p s m meth c b L xs) (dC : Nat → ClassId) (dI : Nat → Nat → Nat) (ux uy : Nat → Nat) (cx cy : Nat → ClassId) (hK : va_K (dC, dI) vwCl (nw_xT cx ++ nw_yT cy) s) (a : Nat) (ha : a + 6 ≤ L) (tail : ∀ (w : Nat → Nat) (n : Nat) (S P : nw_F) (kn : Int32) (aw ay aa ao M sa ea bw pt ld wt : nw_F), nw_J w n S P kn aw ay aa ao M sa bw → ∀ (H : Heap) (locs : List Loc), va_P (dC, dI) vwCl (nw_xW ux cx (S) (P) (nw_pl (sa) 0 5) (nw_pl (ea) 0 5) (kn) (nI ((n))) (aw) (ay) (aa) (ao) ++ nw_yW uy cy (M) (sa) (ea) (nI ((n))) (bw) (pt) (ld) (wt)) H → va_D (fun q : Nat => s.heap.size ≤ q) (nw_xW ux cx (S) (P) (nw_pl (sa) 0 5) (nw_pl (ea) 0 5) (kn) (nI ((n))) (aw) (ay) (aa) (ao) ++ nw_yW uy cy (M) (sa) (ea) (nI ((n))) (bw) (pt) (ld) (wt)) → va_S (fun q : Nat => s.heap.size ≤ q) s.heap H locs → ∀ (ls : Array Slot), lv_has ls 4 [(0, .ref (b)), (1, .ref (ux 0)), (2, .ref (uy 0)), (3, .int (nI (a)))] → W p l e room_1 s m #[Value.ref b] below meth c H locs 15 1245 (lw_Z below #[Value.ref b] s) (F0 m 354 ls [])) : ∀ (w : Nat → Nat) (n : Nat) (S P : nw_F) (kn : Int32) (aw ay aa ao M sa ea bw pt ld wt : nw_F), nw_J w n S P kn aw ay aa ao M sa bw → ∀ (H : Heap) (locs : List Loc), va_P (dC, dI) vwCl (nw_xW ux cx (S) (P) (nw_pl (sa) 0 5) (nw_pl (ea) 0 5) (kn) (nI ((n))) (aw) (ay) (aa) (ao) ++ nw_yW uy cy (M) (sa) (ea) (nI ((n))) (bw) (pt) (ld) (wt)) H → va_D (fun q : Nat => s.heap.size ≤ q) (nw_xW ux cx (S) (P) (nw_pl (sa) 0 5) (nw_pl (ea) 0 5) (kn) (nI ((n))) (aw) (ay) (aa) (ao) ++ nw_yW uy cy (M) (sa) (ea) (nI ((n))) (bw) (pt) (ld) (wt)) → va_S (fun q : Nat => s.heap.size ≤ q) s.heap H locs → ∀ (ls : Array Slot), lv_has ls 4 [(0, .ref (b)), (1, .ref (ux 0)), (2, .ref (uy 0)), (3, .int (nI (a)))] → W p l e room_1 s m #[Value.ref b] below meth c H locs 15 1245 (lw_Z below #[Value.ref b] s) (F0 m 88 ls []) := by
  obtain ⟨hx, hb, hr, hml, hown, hts0, hX, hbl, hlocks, hgv⟩ := C0
  have hts : ∀ w ∈ lw_all, w.before #[Value.ref b] s = true := fun w h => hts0 w (lw_all_tbl h)
  have hA : ∀ q : Nat, s.heap.size ≤ q → (fun q : Nat => s.heap.size ≤ q) q := fun _ h => h
  have hbA : ¬ (fun q : Nat => s.heap.size ≤ q) b := Nat.not_le.mpr hbl
  intro w n S P kn aw ay aa ao M sa ea bw pt ld wt hJ H locs hP hD hS ls hl
  obtain ⟨hn, h6, hw, hv, hTB, hC⟩ := hJ
  have hT := nw_TBC hTB
  by_cases hok : nw_mok (xs (a + 1)) (xs (a + 2)) (xs (a + 3)) (xs (a + 4))
  · obtain ⟨q, k, r, hq, hk, hr5, e1, e2, e3, e4⟩ := nw_mok_of hok
    by_cases h4 : k < 4
    · obtain ⟨x, hx4, hx3, e5⟩ := e4 h4
      refine lv_aload_n hx hb dL_law_88 rfl (lv_at hl 1 rfl) ?_
      refine lv_aload_n hx hb dL_law_89 rfl (lv_at hl 0 rfl) ?_
      refine lv_iload_n hx hb dL_law_90 rfl (lv_at hl 3 rfl) ?_
      refine lv_iconst (v := (nI (1))) hx hb dL_law_91 (by decide) ?_
      refine lv_iadd hx hb dL_law_92 ?_
      refine nw_as (y := (nI (a + 1))) (nI_add (a) (1)) ?_
      refine nw_sld hx hb hX hbl hbA hS (j := a + 1) (by omega) (by omega) dL_law_93 ?_
      refine nw_as (y := (nI (q))) (e1) ?_
      refine lv_aload_n hx hb dL_law_94 rfl (lv_at hl 0 rfl) ?_
      refine lv_iload_n hx hb dL_law_95 rfl (lv_at hl 3 rfl) ?_
      refine lv_iconst (v := (nI (2))) hx hb dL_law_96 (by decide) ?_
      refine lv_iadd hx hb dL_law_97 ?_
      refine nw_as (y := (nI (a + 2))) (nI_add (a) (2)) ?_
      refine nw_sld hx hb hX hbl hbA hS (j := a + 2) (by omega) (by omega) dL_law_98 ?_
      refine nw_as (y := (nI (k))) (e2) ?_
      refine lv_aload_n hx hb dL_law_99 rfl (lv_at hl 0 rfl) ?_
      refine lv_iload_n hx hb dL_law_100 rfl (lv_at hl 3 rfl) ?_
      refine lv_iconst (v := (nI (3))) hx hb dL_law_101 (by decide) ?_
      refine lv_iadd hx hb dL_law_102 ?_
      refine nw_as (y := (nI (a + 3))) (nI_add (a) (3)) ?_
      refine nw_sld hx hb hX hbl hbA hS (j := a + 3) (by omega) (by omega) dL_law_103 ?_
      refine nw_as (y := (nI (r))) (e3) ?_
      refine lv_aload_n hx hb dL_law_104 rfl (lv_at hl 0 rfl) ?_
      refine lv_iload_n hx hb dL_law_105 rfl (lv_at hl 3 rfl) ?_
      refine lv_iconst (v := (nI (4))) hx hb dL_law_106 (by decide) ?_
      refine lv_iadd hx hb dL_law_107 ?_
      refine nw_as (y := (nI (a + 4))) (nI_add (a) (4)) ?_
      refine nw_sld hx hb hX hbl hbA hS (j := a + 4) (by omega) (by omega) dL_law_108 ?_
      refine nw_as (y := (nI (x))) (e5) ?_
      refine lv_aload_n hx hb dL_law_109 rfl (lv_at hl 0 rfl) ?_
      refine lv_iload_n hx hb dL_law_110 rfl (lv_at hl 3 rfl) ?_
      refine lv_iconst (v := (nI (5))) hx hb dL_law_111 (by decide) ?_
      refine lv_iadd hx hb dL_law_112 ?_
      refine nw_as (y := (nI (a + 5))) (nI_add (a) (5)) ?_
      refine nw_sld hx hb hX hbl hbA hS (j := a + 5) (by omega) (by omega) dL_law_113 ?_
      refine lv_if_eq (tgt := 121) hx hb dL_law_114 (by decide) (fun ho => ?_) (fun ho => ?_)
      · refine lv_iconst (v := ((0 : Int32))) hx hb dL_law_121 (by decide) ?_
        have hPc := hP.sub (ws' := nw_xW ux cx (S) (P) (nw_pl sa 0 5) (nw_pl ea 0 5) (kn) (nI ((n))) (aw) (ay) (aa) (ao)) [0, 1, 2, 3, 4, 5, 6] rfl
        have hDc := hD.sub (ws' := nw_xW ux cx (S) (P) (nw_pl sa 0 5) (nw_pl ea 0 5) (kn) (nI ((n))) (aw) (ay) (aa) (ao)) [0, 1, 2, 3, 4, 5, 6] (by decide) rfl
        have hKc := hK.sub (tys' := nw_xT cx) [0, 1, 2, 3, 4, 5] rfl
        have hFc := va_free (wc := nw_xW ux cx (S) (P) (nw_pl sa 0 5) (nw_pl ea 0 5) (kn) (nI ((n))) (aw) (ay) (aa) (ao)) hD hS hA [0, 1, 2, 3, 4, 5, 6] rfl
        refine va_calli (va_runV (As := [.int (nI (q)), .int (nI (k)), .int (nI (r)), .int (nI (x)), .int ((0 : Int32))]) (rest := []) ⟨hx, hb, hml, hown, hts⟩ (metX0_moveS l dC dI ux cx S P (nw_pl sa 0 5) (nw_pl ea 0 5) kn aw ay aa ao n q k r x hq h4 hr5 hx4 hx3 ((0 : Int32)) H.size) (cwV 5 hts (lw_V q55 q56 q57 q12 q58) rfl rfl rfl (by decide +kernel) ⟨Nat.le_of_ble_eq_true rfl, Nat.le_of_ble_eq_true rfl⟩) ⟨fun a U g mk q => ⟨q.1, q.2.1, nw_blind q.2.2⟩, va_recv hKc hPc (ci := 0) (q0 := 0) rfl rfl, fun U hU hW => ⟨rfl, by rw [hU], by rw [hU]; exact hPc, va_K.moved hW.alike hKc, hDc.weaken (fun _ _ _ _ => trivial)⟩⟩ rfl rfl hl.1 rfl (lv_room (Nat.le_of_ble_eq_true rfl)) dL_law_122 ⟨Nat.le_of_ble_eq_true rfl, Nat.le_of_ble_eq_true rfl⟩) hS (fun q _ h => hFc q h) hFc (fun rx u t_ H locs ht_ hvm_ h1 hB_ _ hk_ hS => ?_)
        obtain ⟨hP1, -, hD1⟩ := hB_
        rw [ht_] at hP1
        obtain ⟨hP, hD⟩ := va_join (wr := nw_yW uy cy (M) (sa) (ea) (nI ((n))) (bw) (pt) (ld) (wt)) (w1 := nw_xW ux cx (upd S (100 * k + 4 * (5 * q + r) + x) (vp_nar .boolean ((0 : Int32)))) (P) (nw_pl sa 0 5) (nw_pl ea 0 5) ((0 : Int32)) (nI ((n))) (aw) (ay) (aa) (ao)) hP hD [0, 1, 2, 3, 4, 5, 6] [7, 8, 9, 10, 11, 12, 13, 14] rfl rfl (by decide) (by decide) hk_ hFc hP1 hD1
        refine lv_aload_n hx hb dL_law_125 rfl (lv_at hl 2 rfl) ?_
        refine lv_aload_n hx hb dL_law_126 rfl (lv_at hl 0 rfl) ?_
        refine lv_iload_n hx hb dL_law_127 rfl (lv_at hl 3 rfl) ?_
        refine lv_iconst (v := (nI (1))) hx hb dL_law_128 (by decide) ?_
        refine lv_iadd hx hb dL_law_129 ?_
        refine nw_as (y := (nI (a + 1))) (nI_add (a) (1)) ?_
        refine nw_sld hx hb hX hbl hbA hS (j := a + 1) (by omega) (by omega) dL_law_130 ?_
        refine nw_as (y := (nI (q))) (e1) ?_
        refine lv_aload_n hx hb dL_law_131 rfl (lv_at hl 0 rfl) ?_
        refine lv_iload_n hx hb dL_law_132 rfl (lv_at hl 3 rfl) ?_
        refine lv_iconst (v := (nI (2))) hx hb dL_law_133 (by decide) ?_
        refine lv_iadd hx hb dL_law_134 ?_
        refine nw_as (y := (nI (a + 2))) (nI_add (a) (2)) ?_
        refine nw_sld hx hb hX hbl hbA hS (j := a + 2) (by omega) (by omega) dL_law_135 ?_
        refine nw_as (y := (nI (k))) (e2) ?_
        refine lv_aload_n hx hb dL_law_136 rfl (lv_at hl 0 rfl) ?_
        refine lv_iload_n hx hb dL_law_137 rfl (lv_at hl 3 rfl) ?_
        refine lv_iconst (v := (nI (3))) hx hb dL_law_138 (by decide) ?_
        refine lv_iadd hx hb dL_law_139 ?_
        refine nw_as (y := (nI (a + 3))) (nI_add (a) (3)) ?_
        refine nw_sld hx hb hX hbl hbA hS (j := a + 3) (by omega) (by omega) dL_law_140 ?_
        refine nw_as (y := (nI (r))) (e3) ?_
        refine lv_aload_n hx hb dL_law_141 rfl (lv_at hl 0 rfl) ?_
        refine lv_iload_n hx hb dL_law_142 rfl (lv_at hl 3 rfl) ?_
        refine lv_iconst (v := (nI (4))) hx hb dL_law_143 (by decide) ?_
        refine lv_iadd hx hb dL_law_144 ?_
        refine nw_as (y := (nI (a + 4))) (nI_add (a) (4)) ?_
        refine nw_sld hx hb hX hbl hbA hS (j := a + 4) (by omega) (by omega) dL_law_145 ?_
        refine nw_as (y := (nI (x))) (e5) ?_
        refine lv_aload_n hx hb dL_law_146 rfl (lv_at hl 0 rfl) ?_
        refine lv_iload_n hx hb dL_law_147 rfl (lv_at hl 3 rfl) ?_
        refine lv_iconst (v := (nI (5))) hx hb dL_law_148 (by decide) ?_
        refine lv_iadd hx hb dL_law_149 ?_
        refine nw_as (y := (nI (a + 5))) (nI_add (a) (5)) ?_
        refine nw_sld hx hb hX hbl hbA hS (j := a + 5) (by omega) (by omega) dL_law_150 ?_
        refine lv_if_eq (tgt := 158) hx hb dL_law_151 (by decide) (fun _ => ?_) (fun h => absurd (ho) h)
        refine lv_iconst (v := ((0 : Int32))) hx hb dL_law_158 (by decide) ?_
        have hPc := hP.sub (ws' := nw_yW uy cy (M) (sa) (ea) (nI ((n))) (bw) (pt) (ld) (wt)) [0, 1, 2, 3, 4, 5, 6, 7] rfl
        have hDc := hD.sub (ws' := nw_yW uy cy (M) (sa) (ea) (nI ((n))) (bw) (pt) (ld) (wt)) [0, 1, 2, 3, 4, 5, 6, 7] (by decide) rfl
        have hKc := hK.sub (tys' := nw_yT cy) [6, 7, 8, 9, 10, 11, 12] rfl
        have hFc := va_free (wc := nw_yW uy cy (M) (sa) (ea) (nI ((n))) (bw) (pt) (ld) (wt)) hD hS hA [0, 1, 2, 3, 4, 5, 6, 7] rfl
        refine va_calli (va_runV (As := [.int (nI (q)), .int (nI (k)), .int (nI (r)), .int (nI (x)), .int ((0 : Int32))]) (rest := [.int (rx)]) ⟨hx, hb, hml, hown, hts⟩ (metX1_moveS l dC dI uy cy M sa ea bw pt ld wt n q k r x hq h4 hr5 hx4 hx3 ((0 : Int32)) H.size) (cwV 5 hts (lw_V q161 q162 q163 q13 q164) rfl rfl rfl (by decide +kernel) ⟨Nat.le_of_ble_eq_true rfl, Nat.le_of_ble_eq_true rfl⟩) ⟨fun a U g mk q => ⟨q.1, q.2.1, nw_blind q.2.2⟩, va_recv hKc hPc (ci := 1) (q0 := 0) rfl rfl, fun U hU hW => ⟨rfl, by rw [hU], by rw [hU]; exact hPc, va_K.moved hW.alike hKc, hDc.weaken (fun _ _ _ _ => trivial)⟩⟩ rfl rfl hl.1 rfl (lv_room (Nat.le_of_ble_eq_true rfl)) dL_law_159 ⟨Nat.le_of_ble_eq_true rfl, Nat.le_of_ble_eq_true rfl⟩) hS (fun q _ h => hFc q h) hFc (fun ry u t_ H locs ht_ hvm_ h2 hB_ _ hk_ hS => ?_)
        obtain ⟨hP1, -, hD1⟩ := hB_
        rw [ht_] at hP1
        obtain ⟨hP, hD⟩ := va_join (wr := nw_xW ux cx (upd S (100 * k + 4 * (5 * q + r) + x) (vp_nar .boolean ((0 : Int32)))) (P) (nw_pl sa 0 5) (nw_pl ea 0 5) ((0 : Int32)) (nI ((n))) (aw) (ay) (aa) (ao)) (w1 := nw_yW uy cy (upd M (120 * q + 20 * k + 4 * r + x) (vp_nar .boolean ((0 : Int32)))) (sa) (ea) (nI ((n))) (bw) (pt) (ld) (wt)) hP hD [0, 1, 2, 3, 4, 5, 6, 7] [8, 9, 10, 11, 12, 13, 14] rfl rfl (by decide) (by decide) hk_ hFc hP1 hD1
        refine lv_icmp_eq (tgt := 354) hx hb dL_law_162 (by decide) (fun _ => ?_) (fun h => absurd ((h1.trans (by rw [hTB.1 q r k x hq hr5 h4 hx4])).trans h2.symm) h)
        exact tail _ _ _ _ _ _ _ _ _ _ _ _ _ _ _ _ ⟨hn, h6, hw, hv, nw_TBs hTB _ hq hr5 h4 hx4, fun h => absurd rfl h⟩ H locs hP hD hS ls hl
      · refine lv_iconst (v := ((1 : Int32))) hx hb dL_law_117 (by decide) ?_
        refine lv_goto (tgt := 122) hx hb dL_law_118 (by decide) ?_
        have hPc := hP.sub (ws' := nw_xW ux cx (S) (P) (nw_pl sa 0 5) (nw_pl ea 0 5) (kn) (nI ((n))) (aw) (ay) (aa) (ao)) [0, 1, 2, 3, 4, 5, 6] rfl
        have hDc := hD.sub (ws' := nw_xW ux cx (S) (P) (nw_pl sa 0 5) (nw_pl ea 0 5) (kn) (nI ((n))) (aw) (ay) (aa) (ao)) [0, 1, 2, 3, 4, 5, 6] (by decide) rfl
        have hKc := hK.sub (tys' := nw_xT cx) [0, 1, 2, 3, 4, 5] rfl
        have hFc := va_free (wc := nw_xW ux cx (S) (P) (nw_pl sa 0 5) (nw_pl ea 0 5) (kn) (nI ((n))) (aw) (ay) (aa) (ao)) hD hS hA [0, 1, 2, 3, 4, 5, 6] rfl
        refine va_calli (va_runV (As := [.int (nI (q)), .int (nI (k)), .int (nI (r)), .int (nI (x)), .int ((1 : Int32))]) (rest := []) ⟨hx, hb, hml, hown, hts⟩ (metX0_moveS l dC dI ux cx S P (nw_pl sa 0 5) (nw_pl ea 0 5) kn aw ay aa ao n q k r x hq h4 hr5 hx4 hx3 ((1 : Int32)) H.size) (cwV 5 hts (lw_V q55 q56 q57 q12 q58) rfl rfl rfl (by decide +kernel) ⟨Nat.le_of_ble_eq_true rfl, Nat.le_of_ble_eq_true rfl⟩) ⟨fun a U g mk q => ⟨q.1, q.2.1, nw_blind q.2.2⟩, va_recv hKc hPc (ci := 0) (q0 := 0) rfl rfl, fun U hU hW => ⟨rfl, by rw [hU], by rw [hU]; exact hPc, va_K.moved hW.alike hKc, hDc.weaken (fun _ _ _ _ => trivial)⟩⟩ rfl rfl hl.1 rfl (lv_room (Nat.le_of_ble_eq_true rfl)) dL_law_122 ⟨Nat.le_of_ble_eq_true rfl, Nat.le_of_ble_eq_true rfl⟩) hS (fun q _ h => hFc q h) hFc (fun rx u t_ H locs ht_ hvm_ h1 hB_ _ hk_ hS => ?_)
        obtain ⟨hP1, -, hD1⟩ := hB_
        rw [ht_] at hP1
        obtain ⟨hP, hD⟩ := va_join (wr := nw_yW uy cy (M) (sa) (ea) (nI ((n))) (bw) (pt) (ld) (wt)) (w1 := nw_xW ux cx (upd S (100 * k + 4 * (5 * q + r) + x) (vp_nar .boolean ((1 : Int32)))) (P) (nw_pl sa 0 5) (nw_pl ea 0 5) ((0 : Int32)) (nI ((n))) (aw) (ay) (aa) (ao)) hP hD [0, 1, 2, 3, 4, 5, 6] [7, 8, 9, 10, 11, 12, 13, 14] rfl rfl (by decide) (by decide) hk_ hFc hP1 hD1
        refine lv_aload_n hx hb dL_law_125 rfl (lv_at hl 2 rfl) ?_
        refine lv_aload_n hx hb dL_law_126 rfl (lv_at hl 0 rfl) ?_
        refine lv_iload_n hx hb dL_law_127 rfl (lv_at hl 3 rfl) ?_
        refine lv_iconst (v := (nI (1))) hx hb dL_law_128 (by decide) ?_
        refine lv_iadd hx hb dL_law_129 ?_
        refine nw_as (y := (nI (a + 1))) (nI_add (a) (1)) ?_
        refine nw_sld hx hb hX hbl hbA hS (j := a + 1) (by omega) (by omega) dL_law_130 ?_
        refine nw_as (y := (nI (q))) (e1) ?_
        refine lv_aload_n hx hb dL_law_131 rfl (lv_at hl 0 rfl) ?_
        refine lv_iload_n hx hb dL_law_132 rfl (lv_at hl 3 rfl) ?_
        refine lv_iconst (v := (nI (2))) hx hb dL_law_133 (by decide) ?_
        refine lv_iadd hx hb dL_law_134 ?_
        refine nw_as (y := (nI (a + 2))) (nI_add (a) (2)) ?_
        refine nw_sld hx hb hX hbl hbA hS (j := a + 2) (by omega) (by omega) dL_law_135 ?_
        refine nw_as (y := (nI (k))) (e2) ?_
        refine lv_aload_n hx hb dL_law_136 rfl (lv_at hl 0 rfl) ?_
        refine lv_iload_n hx hb dL_law_137 rfl (lv_at hl 3 rfl) ?_
        refine lv_iconst (v := (nI (3))) hx hb dL_law_138 (by decide) ?_
        refine lv_iadd hx hb dL_law_139 ?_
        refine nw_as (y := (nI (a + 3))) (nI_add (a) (3)) ?_
        refine nw_sld hx hb hX hbl hbA hS (j := a + 3) (by omega) (by omega) dL_law_140 ?_
        refine nw_as (y := (nI (r))) (e3) ?_
        refine lv_aload_n hx hb dL_law_141 rfl (lv_at hl 0 rfl) ?_
        refine lv_iload_n hx hb dL_law_142 rfl (lv_at hl 3 rfl) ?_
        refine lv_iconst (v := (nI (4))) hx hb dL_law_143 (by decide) ?_
        refine lv_iadd hx hb dL_law_144 ?_
        refine nw_as (y := (nI (a + 4))) (nI_add (a) (4)) ?_
        refine nw_sld hx hb hX hbl hbA hS (j := a + 4) (by omega) (by omega) dL_law_145 ?_
        refine nw_as (y := (nI (x))) (e5) ?_
        refine lv_aload_n hx hb dL_law_146 rfl (lv_at hl 0 rfl) ?_
        refine lv_iload_n hx hb dL_law_147 rfl (lv_at hl 3 rfl) ?_
        refine lv_iconst (v := (nI (5))) hx hb dL_law_148 (by decide) ?_
        refine lv_iadd hx hb dL_law_149 ?_
        refine nw_as (y := (nI (a + 5))) (nI_add (a) (5)) ?_
        refine nw_sld hx hb hX hbl hbA hS (j := a + 5) (by omega) (by omega) dL_law_150 ?_
        refine lv_if_eq (tgt := 158) hx hb dL_law_151 (by decide) (fun h => absurd h (ho)) (fun _ => ?_)
        refine lv_iconst (v := ((1 : Int32))) hx hb dL_law_154 (by decide) ?_
        refine lv_goto (tgt := 159) hx hb dL_law_155 (by decide) ?_
        have hPc := hP.sub (ws' := nw_yW uy cy (M) (sa) (ea) (nI ((n))) (bw) (pt) (ld) (wt)) [0, 1, 2, 3, 4, 5, 6, 7] rfl
        have hDc := hD.sub (ws' := nw_yW uy cy (M) (sa) (ea) (nI ((n))) (bw) (pt) (ld) (wt)) [0, 1, 2, 3, 4, 5, 6, 7] (by decide) rfl
        have hKc := hK.sub (tys' := nw_yT cy) [6, 7, 8, 9, 10, 11, 12] rfl
        have hFc := va_free (wc := nw_yW uy cy (M) (sa) (ea) (nI ((n))) (bw) (pt) (ld) (wt)) hD hS hA [0, 1, 2, 3, 4, 5, 6, 7] rfl
        refine va_calli (va_runV (As := [.int (nI (q)), .int (nI (k)), .int (nI (r)), .int (nI (x)), .int ((1 : Int32))]) (rest := [.int (rx)]) ⟨hx, hb, hml, hown, hts⟩ (metX1_moveS l dC dI uy cy M sa ea bw pt ld wt n q k r x hq h4 hr5 hx4 hx3 ((1 : Int32)) H.size) (cwV 5 hts (lw_V q161 q162 q163 q13 q164) rfl rfl rfl (by decide +kernel) ⟨Nat.le_of_ble_eq_true rfl, Nat.le_of_ble_eq_true rfl⟩) ⟨fun a U g mk q => ⟨q.1, q.2.1, nw_blind q.2.2⟩, va_recv hKc hPc (ci := 1) (q0 := 0) rfl rfl, fun U hU hW => ⟨rfl, by rw [hU], by rw [hU]; exact hPc, va_K.moved hW.alike hKc, hDc.weaken (fun _ _ _ _ => trivial)⟩⟩ rfl rfl hl.1 rfl (lv_room (Nat.le_of_ble_eq_true rfl)) dL_law_159 ⟨Nat.le_of_ble_eq_true rfl, Nat.le_of_ble_eq_true rfl⟩) hS (fun q _ h => hFc q h) hFc (fun ry u t_ H locs ht_ hvm_ h2 hB_ _ hk_ hS => ?_)
        obtain ⟨hP1, -, hD1⟩ := hB_
        rw [ht_] at hP1
        obtain ⟨hP, hD⟩ := va_join (wr := nw_xW ux cx (upd S (100 * k + 4 * (5 * q + r) + x) (vp_nar .boolean ((1 : Int32)))) (P) (nw_pl sa 0 5) (nw_pl ea 0 5) ((0 : Int32)) (nI ((n))) (aw) (ay) (aa) (ao)) (w1 := nw_yW uy cy (upd M (120 * q + 20 * k + 4 * r + x) (vp_nar .boolean ((1 : Int32)))) (sa) (ea) (nI ((n))) (bw) (pt) (ld) (wt)) hP hD [0, 1, 2, 3, 4, 5, 6, 7] [8, 9, 10, 11, 12, 13, 14] rfl rfl (by decide) (by decide) hk_ hFc hP1 hD1
        refine lv_icmp_eq (tgt := 354) hx hb dL_law_162 (by decide) (fun _ => ?_) (fun h => absurd ((h1.trans (by rw [hTB.1 q r k x hq hr5 h4 hx4])).trans h2.symm) h)
        exact tail _ _ _ _ _ _ _ _ _ _ _ _ _ _ _ _ ⟨hn, h6, hw, hv, nw_TBs hTB _ hq hr5 h4 hx4, fun h => absurd rfl h⟩ H locs hP hD hS ls hl
    · refine lv_aload_n hx hb dL_law_88 rfl (lv_at hl 1 rfl) ?_
      refine lv_aload_n hx hb dL_law_89 rfl (lv_at hl 0 rfl) ?_
      refine lv_iload_n hx hb dL_law_90 rfl (lv_at hl 3 rfl) ?_
      refine lv_iconst (v := (nI (1))) hx hb dL_law_91 (by decide) ?_
      refine lv_iadd hx hb dL_law_92 ?_
      refine nw_as (y := (nI (a + 1))) (nI_add (a) (1)) ?_
      refine nw_sld hx hb hX hbl hbA hS (j := a + 1) (by omega) (by omega) dL_law_93 ?_
      refine nw_as (y := (nI (q))) (e1) ?_
      refine lv_aload_n hx hb dL_law_94 rfl (lv_at hl 0 rfl) ?_
      refine lv_iload_n hx hb dL_law_95 rfl (lv_at hl 3 rfl) ?_
      refine lv_iconst (v := (nI (2))) hx hb dL_law_96 (by decide) ?_
      refine lv_iadd hx hb dL_law_97 ?_
      refine nw_as (y := (nI (a + 2))) (nI_add (a) (2)) ?_
      refine nw_sld hx hb hX hbl hbA hS (j := a + 2) (by omega) (by omega) dL_law_98 ?_
      refine nw_as (y := (nI (k))) (e2) ?_
      refine lv_aload_n hx hb dL_law_99 rfl (lv_at hl 0 rfl) ?_
      refine lv_iload_n hx hb dL_law_100 rfl (lv_at hl 3 rfl) ?_
      refine lv_iconst (v := (nI (3))) hx hb dL_law_101 (by decide) ?_
      refine lv_iadd hx hb dL_law_102 ?_
      refine nw_as (y := (nI (a + 3))) (nI_add (a) (3)) ?_
      refine nw_sld hx hb hX hbl hbA hS (j := a + 3) (by omega) (by omega) dL_law_103 ?_
      refine nw_as (y := (nI (r))) (e3) ?_
      refine lv_aload_n hx hb dL_law_104 rfl (lv_at hl 0 rfl) ?_
      refine lv_iload_n hx hb dL_law_105 rfl (lv_at hl 3 rfl) ?_
      refine lv_iconst (v := (nI (4))) hx hb dL_law_106 (by decide) ?_
      refine lv_iadd hx hb dL_law_107 ?_
      refine nw_as (y := (nI (a + 4))) (nI_add (a) (4)) ?_
      refine nw_sld hx hb hX hbl hbA hS (j := a + 4) (by omega) (by omega) dL_law_108 ?_
      refine lv_aload_n hx hb dL_law_109 rfl (lv_at hl 0 rfl) ?_
      refine lv_iload_n hx hb dL_law_110 rfl (lv_at hl 3 rfl) ?_
      refine lv_iconst (v := (nI (5))) hx hb dL_law_111 (by decide) ?_
      refine lv_iadd hx hb dL_law_112 ?_
      refine nw_as (y := (nI (a + 5))) (nI_add (a) (5)) ?_
      refine nw_sld hx hb hX hbl hbA hS (j := a + 5) (by omega) (by omega) dL_law_113 ?_
      refine lv_if_eq (tgt := 121) hx hb dL_law_114 (by decide) (fun ho => ?_) (fun ho => ?_)
      · refine lv_iconst (v := ((0 : Int32))) hx hb dL_law_121 (by decide) ?_
        have hPc := hP.sub (ws' := nw_xW ux cx (S) (P) (nw_pl sa 0 5) (nw_pl ea 0 5) (kn) (nI ((n))) (aw) (ay) (aa) (ao)) [0, 1, 2, 3, 4, 5, 6] rfl
        have hDc := hD.sub (ws' := nw_xW ux cx (S) (P) (nw_pl sa 0 5) (nw_pl ea 0 5) (kn) (nI ((n))) (aw) (ay) (aa) (ao)) [0, 1, 2, 3, 4, 5, 6] (by decide) rfl
        have hKc := hK.sub (tys' := nw_xT cx) [0, 1, 2, 3, 4, 5] rfl
        have hFc := va_free (wc := nw_xW ux cx (S) (P) (nw_pl sa 0 5) (nw_pl ea 0 5) (kn) (nI ((n))) (aw) (ay) (aa) (ao)) hD hS hA [0, 1, 2, 3, 4, 5, 6] rfl
        refine va_calli (va_runV (As := [.int (nI (q)), .int (nI (k)), .int (nI (r)), .int (xs (a + 4)), .int ((0 : Int32))]) (rest := []) ⟨hx, hb, hml, hown, hts⟩ (metX0_moveL l dC dI ux cx S P (nw_pl sa 0 5) (nw_pl ea 0 5) kn aw ay aa ao n q k r hq (by omega) hk hr5 _ ((0 : Int32)) H.size) (cwV 5 hts (lw_V q55 q56 q57 q12 q58) rfl rfl rfl (by decide +kernel) ⟨Nat.le_of_ble_eq_true rfl, Nat.le_of_ble_eq_true rfl⟩) ⟨fun a U g mk q => ⟨q.1, q.2.1, nw_blind q.2.2⟩, va_recv hKc hPc (ci := 0) (q0 := 0) rfl rfl, fun U hU hW => ⟨rfl, by rw [hU], by rw [hU]; exact hPc, va_K.moved hW.alike hKc, hDc.weaken (fun _ _ _ _ => trivial)⟩⟩ rfl rfl hl.1 rfl (lv_room (Nat.le_of_ble_eq_true rfl)) dL_law_122 ⟨Nat.le_of_ble_eq_true rfl, Nat.le_of_ble_eq_true rfl⟩) hS (fun q _ h => hFc q h) hFc (fun rx u t_ H locs ht_ hvm_ h1 hB_ _ hk_ hS => ?_)
        obtain ⟨hP1, -, hD1⟩ := hB_
        rw [ht_] at hP1
        obtain ⟨hP, hD⟩ := va_join (wr := nw_yW uy cy (M) (sa) (ea) (nI ((n))) (bw) (pt) (ld) (wt)) (w1 := nw_xW ux cx (S) (upd P (25 * (k - 4) + (5 * q + r)) (vp_nar .boolean ((0 : Int32)))) (nw_pl sa 0 5) (nw_pl ea 0 5) ((0 : Int32)) (nI ((n))) (aw) (ay) (aa) (ao)) hP hD [0, 1, 2, 3, 4, 5, 6] [7, 8, 9, 10, 11, 12, 13, 14] rfl rfl (by decide) (by decide) hk_ hFc hP1 hD1
        refine lv_aload_n hx hb dL_law_125 rfl (lv_at hl 2 rfl) ?_
        refine lv_aload_n hx hb dL_law_126 rfl (lv_at hl 0 rfl) ?_
        refine lv_iload_n hx hb dL_law_127 rfl (lv_at hl 3 rfl) ?_
        refine lv_iconst (v := (nI (1))) hx hb dL_law_128 (by decide) ?_
        refine lv_iadd hx hb dL_law_129 ?_
        refine nw_as (y := (nI (a + 1))) (nI_add (a) (1)) ?_
        refine nw_sld hx hb hX hbl hbA hS (j := a + 1) (by omega) (by omega) dL_law_130 ?_
        refine nw_as (y := (nI (q))) (e1) ?_
        refine lv_aload_n hx hb dL_law_131 rfl (lv_at hl 0 rfl) ?_
        refine lv_iload_n hx hb dL_law_132 rfl (lv_at hl 3 rfl) ?_
        refine lv_iconst (v := (nI (2))) hx hb dL_law_133 (by decide) ?_
        refine lv_iadd hx hb dL_law_134 ?_
        refine nw_as (y := (nI (a + 2))) (nI_add (a) (2)) ?_
        refine nw_sld hx hb hX hbl hbA hS (j := a + 2) (by omega) (by omega) dL_law_135 ?_
        refine nw_as (y := (nI (k))) (e2) ?_
        refine lv_aload_n hx hb dL_law_136 rfl (lv_at hl 0 rfl) ?_
        refine lv_iload_n hx hb dL_law_137 rfl (lv_at hl 3 rfl) ?_
        refine lv_iconst (v := (nI (3))) hx hb dL_law_138 (by decide) ?_
        refine lv_iadd hx hb dL_law_139 ?_
        refine nw_as (y := (nI (a + 3))) (nI_add (a) (3)) ?_
        refine nw_sld hx hb hX hbl hbA hS (j := a + 3) (by omega) (by omega) dL_law_140 ?_
        refine nw_as (y := (nI (r))) (e3) ?_
        refine lv_aload_n hx hb dL_law_141 rfl (lv_at hl 0 rfl) ?_
        refine lv_iload_n hx hb dL_law_142 rfl (lv_at hl 3 rfl) ?_
        refine lv_iconst (v := (nI (4))) hx hb dL_law_143 (by decide) ?_
        refine lv_iadd hx hb dL_law_144 ?_
        refine nw_as (y := (nI (a + 4))) (nI_add (a) (4)) ?_
        refine nw_sld hx hb hX hbl hbA hS (j := a + 4) (by omega) (by omega) dL_law_145 ?_
        refine lv_aload_n hx hb dL_law_146 rfl (lv_at hl 0 rfl) ?_
        refine lv_iload_n hx hb dL_law_147 rfl (lv_at hl 3 rfl) ?_
        refine lv_iconst (v := (nI (5))) hx hb dL_law_148 (by decide) ?_
        refine lv_iadd hx hb dL_law_149 ?_
        refine nw_as (y := (nI (a + 5))) (nI_add (a) (5)) ?_
        refine nw_sld hx hb hX hbl hbA hS (j := a + 5) (by omega) (by omega) dL_law_150 ?_
        refine lv_if_eq (tgt := 158) hx hb dL_law_151 (by decide) (fun _ => ?_) (fun h => absurd (ho) h)
        refine lv_iconst (v := ((0 : Int32))) hx hb dL_law_158 (by decide) ?_
        have hPc := hP.sub (ws' := nw_yW uy cy (M) (sa) (ea) (nI ((n))) (bw) (pt) (ld) (wt)) [0, 1, 2, 3, 4, 5, 6, 7] rfl
        have hDc := hD.sub (ws' := nw_yW uy cy (M) (sa) (ea) (nI ((n))) (bw) (pt) (ld) (wt)) [0, 1, 2, 3, 4, 5, 6, 7] (by decide) rfl
        have hKc := hK.sub (tys' := nw_yT cy) [6, 7, 8, 9, 10, 11, 12] rfl
        have hFc := va_free (wc := nw_yW uy cy (M) (sa) (ea) (nI ((n))) (bw) (pt) (ld) (wt)) hD hS hA [0, 1, 2, 3, 4, 5, 6, 7] rfl
        refine va_calli (va_runV (As := [.int (nI (q)), .int (nI (k)), .int (nI (r)), .int (xs (a + 4)), .int ((0 : Int32))]) (rest := [.int (rx)]) ⟨hx, hb, hml, hown, hts⟩ (metX1_moveL l dC dI uy cy M sa ea bw pt ld wt n q k r hq (by omega) hk hr5 _ ((0 : Int32)) H.size) (cwV 5 hts (lw_V q161 q162 q163 q13 q164) rfl rfl rfl (by decide +kernel) ⟨Nat.le_of_ble_eq_true rfl, Nat.le_of_ble_eq_true rfl⟩) ⟨fun a U g mk q => ⟨q.1, q.2.1, nw_blind q.2.2⟩, va_recv hKc hPc (ci := 1) (q0 := 0) rfl rfl, fun U hU hW => ⟨rfl, by rw [hU], by rw [hU]; exact hPc, va_K.moved hW.alike hKc, hDc.weaken (fun _ _ _ _ => trivial)⟩⟩ rfl rfl hl.1 rfl (lv_room (Nat.le_of_ble_eq_true rfl)) dL_law_159 ⟨Nat.le_of_ble_eq_true rfl, Nat.le_of_ble_eq_true rfl⟩) hS (fun q _ h => hFc q h) hFc (fun ry u t_ H locs ht_ hvm_ h2 hB_ _ hk_ hS => ?_)
        obtain ⟨hP1, -, hD1⟩ := hB_
        rw [ht_] at hP1
        obtain ⟨hP, hD⟩ := va_join (wr := nw_xW ux cx (S) (upd P (25 * (k - 4) + (5 * q + r)) (vp_nar .boolean ((0 : Int32)))) (nw_pl sa 0 5) (nw_pl ea 0 5) ((0 : Int32)) (nI ((n))) (aw) (ay) (aa) (ao)) (w1 := nw_yW uy cy (upd M (120 * q + 20 * k + 4 * r) (vp_nar .boolean ((0 : Int32)))) (sa) (ea) (nI ((n))) (bw) (pt) (ld) (wt)) hP hD [0, 1, 2, 3, 4, 5, 6, 7] [8, 9, 10, 11, 12, 13, 14] rfl rfl (by decide) (by decide) hk_ hFc hP1 hD1
        refine lv_icmp_eq (tgt := 354) hx hb dL_law_162 (by decide) (fun _ => ?_) (fun h => absurd ((h1.trans (by rw [hTB.2 q r k hq hr5 (by omega) hk])).trans h2.symm) h)
        exact tail _ _ _ _ _ _ _ _ _ _ _ _ _ _ _ _ ⟨hn, h6, hw, hv, nw_TBl hTB _ hq hr5 (by omega) hk, fun h => absurd rfl h⟩ H locs hP hD hS ls hl
      · refine lv_iconst (v := ((1 : Int32))) hx hb dL_law_117 (by decide) ?_
        refine lv_goto (tgt := 122) hx hb dL_law_118 (by decide) ?_
        have hPc := hP.sub (ws' := nw_xW ux cx (S) (P) (nw_pl sa 0 5) (nw_pl ea 0 5) (kn) (nI ((n))) (aw) (ay) (aa) (ao)) [0, 1, 2, 3, 4, 5, 6] rfl
        have hDc := hD.sub (ws' := nw_xW ux cx (S) (P) (nw_pl sa 0 5) (nw_pl ea 0 5) (kn) (nI ((n))) (aw) (ay) (aa) (ao)) [0, 1, 2, 3, 4, 5, 6] (by decide) rfl
        have hKc := hK.sub (tys' := nw_xT cx) [0, 1, 2, 3, 4, 5] rfl
        have hFc := va_free (wc := nw_xW ux cx (S) (P) (nw_pl sa 0 5) (nw_pl ea 0 5) (kn) (nI ((n))) (aw) (ay) (aa) (ao)) hD hS hA [0, 1, 2, 3, 4, 5, 6] rfl
        refine va_calli (va_runV (As := [.int (nI (q)), .int (nI (k)), .int (nI (r)), .int (xs (a + 4)), .int ((1 : Int32))]) (rest := []) ⟨hx, hb, hml, hown, hts⟩ (metX0_moveL l dC dI ux cx S P (nw_pl sa 0 5) (nw_pl ea 0 5) kn aw ay aa ao n q k r hq (by omega) hk hr5 _ ((1 : Int32)) H.size) (cwV 5 hts (lw_V q55 q56 q57 q12 q58) rfl rfl rfl (by decide +kernel) ⟨Nat.le_of_ble_eq_true rfl, Nat.le_of_ble_eq_true rfl⟩) ⟨fun a U g mk q => ⟨q.1, q.2.1, nw_blind q.2.2⟩, va_recv hKc hPc (ci := 0) (q0 := 0) rfl rfl, fun U hU hW => ⟨rfl, by rw [hU], by rw [hU]; exact hPc, va_K.moved hW.alike hKc, hDc.weaken (fun _ _ _ _ => trivial)⟩⟩ rfl rfl hl.1 rfl (lv_room (Nat.le_of_ble_eq_true rfl)) dL_law_122 ⟨Nat.le_of_ble_eq_true rfl, Nat.le_of_ble_eq_true rfl⟩) hS (fun q _ h => hFc q h) hFc (fun rx u t_ H locs ht_ hvm_ h1 hB_ _ hk_ hS => ?_)
        obtain ⟨hP1, -, hD1⟩ := hB_
        rw [ht_] at hP1
        obtain ⟨hP, hD⟩ := va_join (wr := nw_yW uy cy (M) (sa) (ea) (nI ((n))) (bw) (pt) (ld) (wt)) (w1 := nw_xW ux cx (S) (upd P (25 * (k - 4) + (5 * q + r)) (vp_nar .boolean ((1 : Int32)))) (nw_pl sa 0 5) (nw_pl ea 0 5) ((0 : Int32)) (nI ((n))) (aw) (ay) (aa) (ao)) hP hD [0, 1, 2, 3, 4, 5, 6] [7, 8, 9, 10, 11, 12, 13, 14] rfl rfl (by decide) (by decide) hk_ hFc hP1 hD1
        refine lv_aload_n hx hb dL_law_125 rfl (lv_at hl 2 rfl) ?_
        refine lv_aload_n hx hb dL_law_126 rfl (lv_at hl 0 rfl) ?_
        refine lv_iload_n hx hb dL_law_127 rfl (lv_at hl 3 rfl) ?_
        refine lv_iconst (v := (nI (1))) hx hb dL_law_128 (by decide) ?_
        refine lv_iadd hx hb dL_law_129 ?_
        refine nw_as (y := (nI (a + 1))) (nI_add (a) (1)) ?_
        refine nw_sld hx hb hX hbl hbA hS (j := a + 1) (by omega) (by omega) dL_law_130 ?_
        refine nw_as (y := (nI (q))) (e1) ?_
        refine lv_aload_n hx hb dL_law_131 rfl (lv_at hl 0 rfl) ?_
        refine lv_iload_n hx hb dL_law_132 rfl (lv_at hl 3 rfl) ?_
        refine lv_iconst (v := (nI (2))) hx hb dL_law_133 (by decide) ?_
        refine lv_iadd hx hb dL_law_134 ?_
        refine nw_as (y := (nI (a + 2))) (nI_add (a) (2)) ?_
        refine nw_sld hx hb hX hbl hbA hS (j := a + 2) (by omega) (by omega) dL_law_135 ?_
        refine nw_as (y := (nI (k))) (e2) ?_
        refine lv_aload_n hx hb dL_law_136 rfl (lv_at hl 0 rfl) ?_
        refine lv_iload_n hx hb dL_law_137 rfl (lv_at hl 3 rfl) ?_
        refine lv_iconst (v := (nI (3))) hx hb dL_law_138 (by decide) ?_
        refine lv_iadd hx hb dL_law_139 ?_
        refine nw_as (y := (nI (a + 3))) (nI_add (a) (3)) ?_
        refine nw_sld hx hb hX hbl hbA hS (j := a + 3) (by omega) (by omega) dL_law_140 ?_
        refine nw_as (y := (nI (r))) (e3) ?_
        refine lv_aload_n hx hb dL_law_141 rfl (lv_at hl 0 rfl) ?_
        refine lv_iload_n hx hb dL_law_142 rfl (lv_at hl 3 rfl) ?_
        refine lv_iconst (v := (nI (4))) hx hb dL_law_143 (by decide) ?_
        refine lv_iadd hx hb dL_law_144 ?_
        refine nw_as (y := (nI (a + 4))) (nI_add (a) (4)) ?_
        refine nw_sld hx hb hX hbl hbA hS (j := a + 4) (by omega) (by omega) dL_law_145 ?_
        refine lv_aload_n hx hb dL_law_146 rfl (lv_at hl 0 rfl) ?_
        refine lv_iload_n hx hb dL_law_147 rfl (lv_at hl 3 rfl) ?_
        refine lv_iconst (v := (nI (5))) hx hb dL_law_148 (by decide) ?_
        refine lv_iadd hx hb dL_law_149 ?_
        refine nw_as (y := (nI (a + 5))) (nI_add (a) (5)) ?_
        refine nw_sld hx hb hX hbl hbA hS (j := a + 5) (by omega) (by omega) dL_law_150 ?_
        refine lv_if_eq (tgt := 158) hx hb dL_law_151 (by decide) (fun h => absurd h (ho)) (fun _ => ?_)
        refine lv_iconst (v := ((1 : Int32))) hx hb dL_law_154 (by decide) ?_
        refine lv_goto (tgt := 159) hx hb dL_law_155 (by decide) ?_
        have hPc := hP.sub (ws' := nw_yW uy cy (M) (sa) (ea) (nI ((n))) (bw) (pt) (ld) (wt)) [0, 1, 2, 3, 4, 5, 6, 7] rfl
        have hDc := hD.sub (ws' := nw_yW uy cy (M) (sa) (ea) (nI ((n))) (bw) (pt) (ld) (wt)) [0, 1, 2, 3, 4, 5, 6, 7] (by decide) rfl
        have hKc := hK.sub (tys' := nw_yT cy) [6, 7, 8, 9, 10, 11, 12] rfl
        have hFc := va_free (wc := nw_yW uy cy (M) (sa) (ea) (nI ((n))) (bw) (pt) (ld) (wt)) hD hS hA [0, 1, 2, 3, 4, 5, 6, 7] rfl
        refine va_calli (va_runV (As := [.int (nI (q)), .int (nI (k)), .int (nI (r)), .int (xs (a + 4)), .int ((1 : Int32))]) (rest := [.int (rx)]) ⟨hx, hb, hml, hown, hts⟩ (metX1_moveL l dC dI uy cy M sa ea bw pt ld wt n q k r hq (by omega) hk hr5 _ ((1 : Int32)) H.size) (cwV 5 hts (lw_V q161 q162 q163 q13 q164) rfl rfl rfl (by decide +kernel) ⟨Nat.le_of_ble_eq_true rfl, Nat.le_of_ble_eq_true rfl⟩) ⟨fun a U g mk q => ⟨q.1, q.2.1, nw_blind q.2.2⟩, va_recv hKc hPc (ci := 1) (q0 := 0) rfl rfl, fun U hU hW => ⟨rfl, by rw [hU], by rw [hU]; exact hPc, va_K.moved hW.alike hKc, hDc.weaken (fun _ _ _ _ => trivial)⟩⟩ rfl rfl hl.1 rfl (lv_room (Nat.le_of_ble_eq_true rfl)) dL_law_159 ⟨Nat.le_of_ble_eq_true rfl, Nat.le_of_ble_eq_true rfl⟩) hS (fun q _ h => hFc q h) hFc (fun ry u t_ H locs ht_ hvm_ h2 hB_ _ hk_ hS => ?_)
        obtain ⟨hP1, -, hD1⟩ := hB_
        rw [ht_] at hP1
        obtain ⟨hP, hD⟩ := va_join (wr := nw_xW ux cx (S) (upd P (25 * (k - 4) + (5 * q + r)) (vp_nar .boolean ((1 : Int32)))) (nw_pl sa 0 5) (nw_pl ea 0 5) ((0 : Int32)) (nI ((n))) (aw) (ay) (aa) (ao)) (w1 := nw_yW uy cy (upd M (120 * q + 20 * k + 4 * r) (vp_nar .boolean ((1 : Int32)))) (sa) (ea) (nI ((n))) (bw) (pt) (ld) (wt)) hP hD [0, 1, 2, 3, 4, 5, 6, 7] [8, 9, 10, 11, 12, 13, 14] rfl rfl (by decide) (by decide) hk_ hFc hP1 hD1
        refine lv_icmp_eq (tgt := 354) hx hb dL_law_162 (by decide) (fun _ => ?_) (fun h => absurd ((h1.trans (by rw [hTB.2 q r k hq hr5 (by omega) hk])).trans h2.symm) h)
        exact tail _ _ _ _ _ _ _ _ _ _ _ _ _ _ _ _ ⟨hn, h6, hw, hv, nw_TBl hTB _ hq hr5 (by omega) hk, fun h => absurd rfl h⟩ H locs hP hD hS ls hl
  · refine lv_aload_n hx hb dL_law_88 rfl (lv_at hl 1 rfl) ?_
    refine lv_aload_n hx hb dL_law_89 rfl (lv_at hl 0 rfl) ?_
    refine lv_iload_n hx hb dL_law_90 rfl (lv_at hl 3 rfl) ?_
    refine lv_iconst (v := (nI (1))) hx hb dL_law_91 (by decide) ?_
    refine lv_iadd hx hb dL_law_92 ?_
    refine nw_as (y := (nI (a + 1))) (nI_add (a) (1)) ?_
    refine nw_sld hx hb hX hbl hbA hS (j := a + 1) (by omega) (by omega) dL_law_93 ?_
    refine lv_aload_n hx hb dL_law_94 rfl (lv_at hl 0 rfl) ?_
    refine lv_iload_n hx hb dL_law_95 rfl (lv_at hl 3 rfl) ?_
    refine lv_iconst (v := (nI (2))) hx hb dL_law_96 (by decide) ?_
    refine lv_iadd hx hb dL_law_97 ?_
    refine nw_as (y := (nI (a + 2))) (nI_add (a) (2)) ?_
    refine nw_sld hx hb hX hbl hbA hS (j := a + 2) (by omega) (by omega) dL_law_98 ?_
    refine lv_aload_n hx hb dL_law_99 rfl (lv_at hl 0 rfl) ?_
    refine lv_iload_n hx hb dL_law_100 rfl (lv_at hl 3 rfl) ?_
    refine lv_iconst (v := (nI (3))) hx hb dL_law_101 (by decide) ?_
    refine lv_iadd hx hb dL_law_102 ?_
    refine nw_as (y := (nI (a + 3))) (nI_add (a) (3)) ?_
    refine nw_sld hx hb hX hbl hbA hS (j := a + 3) (by omega) (by omega) dL_law_103 ?_
    refine lv_aload_n hx hb dL_law_104 rfl (lv_at hl 0 rfl) ?_
    refine lv_iload_n hx hb dL_law_105 rfl (lv_at hl 3 rfl) ?_
    refine lv_iconst (v := (nI (4))) hx hb dL_law_106 (by decide) ?_
    refine lv_iadd hx hb dL_law_107 ?_
    refine nw_as (y := (nI (a + 4))) (nI_add (a) (4)) ?_
    refine nw_sld hx hb hX hbl hbA hS (j := a + 4) (by omega) (by omega) dL_law_108 ?_
    refine lv_aload_n hx hb dL_law_109 rfl (lv_at hl 0 rfl) ?_
    refine lv_iload_n hx hb dL_law_110 rfl (lv_at hl 3 rfl) ?_
    refine lv_iconst (v := (nI (5))) hx hb dL_law_111 (by decide) ?_
    refine lv_iadd hx hb dL_law_112 ?_
    refine nw_as (y := (nI (a + 5))) (nI_add (a) (5)) ?_
    refine nw_sld hx hb hX hbl hbA hS (j := a + 5) (by omega) (by omega) dL_law_113 ?_
    refine lv_if_eq (tgt := 121) hx hb dL_law_114 (by decide) (fun ho => ?_) (fun ho => ?_)
    · refine lv_iconst (v := ((0 : Int32))) hx hb dL_law_121 (by decide) ?_
      have hPc := hP.sub (ws' := nw_xW ux cx (S) (P) (nw_pl sa 0 5) (nw_pl ea 0 5) (kn) (nI ((n))) (aw) (ay) (aa) (ao)) [0, 1, 2, 3, 4, 5, 6] rfl
      have hDc := hD.sub (ws' := nw_xW ux cx (S) (P) (nw_pl sa 0 5) (nw_pl ea 0 5) (kn) (nI ((n))) (aw) (ay) (aa) (ao)) [0, 1, 2, 3, 4, 5, 6] (by decide) rfl
      have hKc := hK.sub (tys' := nw_xT cx) [0, 1, 2, 3, 4, 5] rfl
      refine vp_callSi (va_Run.run (va_runV (As := [.int (xs (a + 1)), .int (xs (a + 2)), .int (xs (a + 3)), .int (xs (a + 4)), .int ((0 : Int32))]) (rest := []) ⟨hx, hb, hml, hown, hts⟩ (metX0_moveB l dC dI ux cx S P (nw_pl sa 0 5) (nw_pl ea 0 5) kn (nI n) aw ay aa ao _ _ _ _ ((0 : Int32)) hok) (cwV 5 hts (lw_V q55 q56 q57 q12 q58) rfl rfl rfl (by decide +kernel) ⟨Nat.le_of_ble_eq_true rfl, Nat.le_of_ble_eq_true rfl⟩) ⟨fun a U g mk q => ⟨q.1, nw_blindR q.2⟩, va_recv hKc hPc (ci := 0) (q0 := 0) rfl rfl, fun U hU hW => ⟨rfl, by rw [hU]; exact hPc, va_K.moved hW.alike hKc⟩⟩ rfl rfl hl.1 rfl (lv_room (Nat.le_of_ble_eq_true rfl)) dL_law_122 ⟨Nat.le_of_ble_eq_true rfl, Nat.le_of_ble_eq_true rfl⟩)) (fun rx h1 => ?_)
      refine lv_aload_n hx hb dL_law_125 rfl (lv_at hl 2 rfl) ?_
      refine lv_aload_n hx hb dL_law_126 rfl (lv_at hl 0 rfl) ?_
      refine lv_iload_n hx hb dL_law_127 rfl (lv_at hl 3 rfl) ?_
      refine lv_iconst (v := (nI (1))) hx hb dL_law_128 (by decide) ?_
      refine lv_iadd hx hb dL_law_129 ?_
      refine nw_as (y := (nI (a + 1))) (nI_add (a) (1)) ?_
      refine nw_sld hx hb hX hbl hbA hS (j := a + 1) (by omega) (by omega) dL_law_130 ?_
      refine lv_aload_n hx hb dL_law_131 rfl (lv_at hl 0 rfl) ?_
      refine lv_iload_n hx hb dL_law_132 rfl (lv_at hl 3 rfl) ?_
      refine lv_iconst (v := (nI (2))) hx hb dL_law_133 (by decide) ?_
      refine lv_iadd hx hb dL_law_134 ?_
      refine nw_as (y := (nI (a + 2))) (nI_add (a) (2)) ?_
      refine nw_sld hx hb hX hbl hbA hS (j := a + 2) (by omega) (by omega) dL_law_135 ?_
      refine lv_aload_n hx hb dL_law_136 rfl (lv_at hl 0 rfl) ?_
      refine lv_iload_n hx hb dL_law_137 rfl (lv_at hl 3 rfl) ?_
      refine lv_iconst (v := (nI (3))) hx hb dL_law_138 (by decide) ?_
      refine lv_iadd hx hb dL_law_139 ?_
      refine nw_as (y := (nI (a + 3))) (nI_add (a) (3)) ?_
      refine nw_sld hx hb hX hbl hbA hS (j := a + 3) (by omega) (by omega) dL_law_140 ?_
      refine lv_aload_n hx hb dL_law_141 rfl (lv_at hl 0 rfl) ?_
      refine lv_iload_n hx hb dL_law_142 rfl (lv_at hl 3 rfl) ?_
      refine lv_iconst (v := (nI (4))) hx hb dL_law_143 (by decide) ?_
      refine lv_iadd hx hb dL_law_144 ?_
      refine nw_as (y := (nI (a + 4))) (nI_add (a) (4)) ?_
      refine nw_sld hx hb hX hbl hbA hS (j := a + 4) (by omega) (by omega) dL_law_145 ?_
      refine lv_aload_n hx hb dL_law_146 rfl (lv_at hl 0 rfl) ?_
      refine lv_iload_n hx hb dL_law_147 rfl (lv_at hl 3 rfl) ?_
      refine lv_iconst (v := (nI (5))) hx hb dL_law_148 (by decide) ?_
      refine lv_iadd hx hb dL_law_149 ?_
      refine nw_as (y := (nI (a + 5))) (nI_add (a) (5)) ?_
      refine nw_sld hx hb hX hbl hbA hS (j := a + 5) (by omega) (by omega) dL_law_150 ?_
      refine lv_if_eq (tgt := 158) hx hb dL_law_151 (by decide) (fun _ => ?_) (fun h => absurd (ho) h)
      refine lv_iconst (v := ((0 : Int32))) hx hb dL_law_158 (by decide) ?_
      have hPc := hP.sub (ws' := nw_yW uy cy (M) (sa) (ea) (nI ((n))) (bw) (pt) (ld) (wt)) [7, 8, 9, 10, 11, 12, 13, 14] rfl
      have hDc := hD.sub (ws' := nw_yW uy cy (M) (sa) (ea) (nI ((n))) (bw) (pt) (ld) (wt)) [7, 8, 9, 10, 11, 12, 13, 14] (by decide) rfl
      have hKc := hK.sub (tys' := nw_yT cy) [6, 7, 8, 9, 10, 11, 12] rfl
      refine vp_callSi (va_Run.run (va_runV (As := [.int (xs (a + 1)), .int (xs (a + 2)), .int (xs (a + 3)), .int (xs (a + 4)), .int ((0 : Int32))]) (rest := [.int (rx)]) ⟨hx, hb, hml, hown, hts⟩ (metX1_moveB l dC dI uy cy M sa ea (nI n) bw pt ld wt _ _ _ _ ((0 : Int32)) hok) (cwV 5 hts (lw_V q161 q162 q163 q13 q164) rfl rfl rfl (by decide +kernel) ⟨Nat.le_of_ble_eq_true rfl, Nat.le_of_ble_eq_true rfl⟩) ⟨fun a U g mk q => ⟨q.1, nw_blindR q.2⟩, va_recv hKc hPc (ci := 1) (q0 := 0) rfl rfl, fun U hU hW => ⟨rfl, by rw [hU]; exact hPc, va_K.moved hW.alike hKc⟩⟩ rfl rfl hl.1 rfl (lv_room (Nat.le_of_ble_eq_true rfl)) dL_law_159 ⟨Nat.le_of_ble_eq_true rfl, Nat.le_of_ble_eq_true rfl⟩)) (fun ry h2 => ?_)
      refine lv_icmp_eq (tgt := 354) hx hb dL_law_162 (by decide) (fun _ => ?_) (fun h => absurd (h1.trans h2.symm) h)
      exact tail _ _ _ _ _ _ _ _ _ _ _ _ _ _ _ _ ⟨hn, h6, hw, hv, hTB, hC⟩ H locs hP hD hS ls hl
    · refine lv_iconst (v := ((1 : Int32))) hx hb dL_law_117 (by decide) ?_
      refine lv_goto (tgt := 122) hx hb dL_law_118 (by decide) ?_
      have hPc := hP.sub (ws' := nw_xW ux cx (S) (P) (nw_pl sa 0 5) (nw_pl ea 0 5) (kn) (nI ((n))) (aw) (ay) (aa) (ao)) [0, 1, 2, 3, 4, 5, 6] rfl
      have hDc := hD.sub (ws' := nw_xW ux cx (S) (P) (nw_pl sa 0 5) (nw_pl ea 0 5) (kn) (nI ((n))) (aw) (ay) (aa) (ao)) [0, 1, 2, 3, 4, 5, 6] (by decide) rfl
      have hKc := hK.sub (tys' := nw_xT cx) [0, 1, 2, 3, 4, 5] rfl
      refine vp_callSi (va_Run.run (va_runV (As := [.int (xs (a + 1)), .int (xs (a + 2)), .int (xs (a + 3)), .int (xs (a + 4)), .int ((1 : Int32))]) (rest := []) ⟨hx, hb, hml, hown, hts⟩ (metX0_moveB l dC dI ux cx S P (nw_pl sa 0 5) (nw_pl ea 0 5) kn (nI n) aw ay aa ao _ _ _ _ ((1 : Int32)) hok) (cwV 5 hts (lw_V q55 q56 q57 q12 q58) rfl rfl rfl (by decide +kernel) ⟨Nat.le_of_ble_eq_true rfl, Nat.le_of_ble_eq_true rfl⟩) ⟨fun a U g mk q => ⟨q.1, nw_blindR q.2⟩, va_recv hKc hPc (ci := 0) (q0 := 0) rfl rfl, fun U hU hW => ⟨rfl, by rw [hU]; exact hPc, va_K.moved hW.alike hKc⟩⟩ rfl rfl hl.1 rfl (lv_room (Nat.le_of_ble_eq_true rfl)) dL_law_122 ⟨Nat.le_of_ble_eq_true rfl, Nat.le_of_ble_eq_true rfl⟩)) (fun rx h1 => ?_)
      refine lv_aload_n hx hb dL_law_125 rfl (lv_at hl 2 rfl) ?_
      refine lv_aload_n hx hb dL_law_126 rfl (lv_at hl 0 rfl) ?_
      refine lv_iload_n hx hb dL_law_127 rfl (lv_at hl 3 rfl) ?_
      refine lv_iconst (v := (nI (1))) hx hb dL_law_128 (by decide) ?_
      refine lv_iadd hx hb dL_law_129 ?_
      refine nw_as (y := (nI (a + 1))) (nI_add (a) (1)) ?_
      refine nw_sld hx hb hX hbl hbA hS (j := a + 1) (by omega) (by omega) dL_law_130 ?_
      refine lv_aload_n hx hb dL_law_131 rfl (lv_at hl 0 rfl) ?_
      refine lv_iload_n hx hb dL_law_132 rfl (lv_at hl 3 rfl) ?_
      refine lv_iconst (v := (nI (2))) hx hb dL_law_133 (by decide) ?_
      refine lv_iadd hx hb dL_law_134 ?_
      refine nw_as (y := (nI (a + 2))) (nI_add (a) (2)) ?_
      refine nw_sld hx hb hX hbl hbA hS (j := a + 2) (by omega) (by omega) dL_law_135 ?_
      refine lv_aload_n hx hb dL_law_136 rfl (lv_at hl 0 rfl) ?_
      refine lv_iload_n hx hb dL_law_137 rfl (lv_at hl 3 rfl) ?_
      refine lv_iconst (v := (nI (3))) hx hb dL_law_138 (by decide) ?_
      refine lv_iadd hx hb dL_law_139 ?_
      refine nw_as (y := (nI (a + 3))) (nI_add (a) (3)) ?_
      refine nw_sld hx hb hX hbl hbA hS (j := a + 3) (by omega) (by omega) dL_law_140 ?_
      refine lv_aload_n hx hb dL_law_141 rfl (lv_at hl 0 rfl) ?_
      refine lv_iload_n hx hb dL_law_142 rfl (lv_at hl 3 rfl) ?_
      refine lv_iconst (v := (nI (4))) hx hb dL_law_143 (by decide) ?_
      refine lv_iadd hx hb dL_law_144 ?_
      refine nw_as (y := (nI (a + 4))) (nI_add (a) (4)) ?_
      refine nw_sld hx hb hX hbl hbA hS (j := a + 4) (by omega) (by omega) dL_law_145 ?_
      refine lv_aload_n hx hb dL_law_146 rfl (lv_at hl 0 rfl) ?_
      refine lv_iload_n hx hb dL_law_147 rfl (lv_at hl 3 rfl) ?_
      refine lv_iconst (v := (nI (5))) hx hb dL_law_148 (by decide) ?_
      refine lv_iadd hx hb dL_law_149 ?_
      refine nw_as (y := (nI (a + 5))) (nI_add (a) (5)) ?_
      refine nw_sld hx hb hX hbl hbA hS (j := a + 5) (by omega) (by omega) dL_law_150 ?_
      refine lv_if_eq (tgt := 158) hx hb dL_law_151 (by decide) (fun h => absurd h (ho)) (fun _ => ?_)
      refine lv_iconst (v := ((1 : Int32))) hx hb dL_law_154 (by decide) ?_
      refine lv_goto (tgt := 159) hx hb dL_law_155 (by decide) ?_
      have hPc := hP.sub (ws' := nw_yW uy cy (M) (sa) (ea) (nI ((n))) (bw) (pt) (ld) (wt)) [7, 8, 9, 10, 11, 12, 13, 14] rfl
      have hDc := hD.sub (ws' := nw_yW uy cy (M) (sa) (ea) (nI ((n))) (bw) (pt) (ld) (wt)) [7, 8, 9, 10, 11, 12, 13, 14] (by decide) rfl
      have hKc := hK.sub (tys' := nw_yT cy) [6, 7, 8, 9, 10, 11, 12] rfl
      refine vp_callSi (va_Run.run (va_runV (As := [.int (xs (a + 1)), .int (xs (a + 2)), .int (xs (a + 3)), .int (xs (a + 4)), .int ((1 : Int32))]) (rest := [.int (rx)]) ⟨hx, hb, hml, hown, hts⟩ (metX1_moveB l dC dI uy cy M sa ea (nI n) bw pt ld wt _ _ _ _ ((1 : Int32)) hok) (cwV 5 hts (lw_V q161 q162 q163 q13 q164) rfl rfl rfl (by decide +kernel) ⟨Nat.le_of_ble_eq_true rfl, Nat.le_of_ble_eq_true rfl⟩) ⟨fun a U g mk q => ⟨q.1, nw_blindR q.2⟩, va_recv hKc hPc (ci := 1) (q0 := 0) rfl rfl, fun U hU hW => ⟨rfl, by rw [hU]; exact hPc, va_K.moved hW.alike hKc⟩⟩ rfl rfl hl.1 rfl (lv_room (Nat.le_of_ble_eq_true rfl)) dL_law_159 ⟨Nat.le_of_ble_eq_true rfl, Nat.le_of_ble_eq_true rfl⟩)) (fun ry h2 => ?_)
      refine lv_icmp_eq (tgt := 354) hx hb dL_law_162 (by decide) (fun _ => ?_) (fun h => absurd (h1.trans h2.symm) h)
      exact tail _ _ _ _ _ _ _ _ _ _ _ _ _ _ _ _ ⟨hn, h6, hw, hv, hTB, hC⟩ H locs hP hD hS ls hl
end
section
/-! WALKS 13: the law: its loop, its entry -/
set_option maxHeartbeats 4000000 in
set_option maxRecDepth 100000 in
/-- the law at the head of its loop, a ints read -/
theorem nw_law_loop {p : Program} {l : Launch} {e : Env} {s : State} {m : MethodId} {below : List Frame} {meth : Method} {c : Code} {b L : Nat} {xs : Nat → Int32} (hL : L ≤ 384) (C0 : lw_At p s m meth c b L xs) (dC : Nat → ClassId) (dI : Nat → Nat → Nat) (ux uy : Nat → Nat) (cx cy : Nat → ClassId) (hK : va_K (dC, dI) vwCl (nw_xT cx ++ nw_yT cy) s) : ∀ (N a : Nat), a ≤ L → L ≤ a + N → ∀ (w : Nat → Nat) (n : Nat) (S P : nw_F) (kn : Int32) (aw ay aa ao M sa ea bw pt ld wt : nw_F), nw_J w n S P kn aw ay aa ao M sa bw → ∀ (H : Heap) (locs : List Loc), va_P (dC, dI) vwCl (nw_xW ux cx (S) (P) (nw_pl (sa) 0 5) (nw_pl (ea) 0 5) (kn) (nI ((n))) (aw) (ay) (aa) (ao) ++ nw_yW uy cy (M) (sa) (ea) (nI ((n))) (bw) (pt) (ld) (wt)) H → va_D (fun q : Nat => s.heap.size ≤ q) (nw_xW ux cx (S) (P) (nw_pl (sa) 0 5) (nw_pl (ea) 0 5) (kn) (nI ((n))) (aw) (ay) (aa) (ao) ++ nw_yW uy cy (M) (sa) (ea) (nI ((n))) (bw) (pt) (ld) (wt)) → va_S (fun q : Nat => s.heap.size ≤ q) s.heap H locs → ∀ (ls : Array Slot), lv_has ls 4 [(0, .ref (b)), (1, .ref (ux 0)), (2, .ref (uy 0)), (3, .int (nI (a)))] → W p l e room_1 s m #[Value.ref b] below meth c H locs 15 1245 (lw_Z below #[Value.ref b] s) (F0 m 18 ls []) := by
  have C1 := C0
  obtain ⟨hx, hb, hr, hml, hown, hts0, hX, hbl, hlocks, hgv⟩ := C0
  have hts : ∀ w ∈ lw_all, w.before #[Value.ref b] s = true := fun w h => hts0 w (lw_all_tbl h)
  have hA : ∀ q : Nat, s.heap.size ≤ q → (fun q : Nat => s.heap.size ≤ q) q := fun _ h => h
  have hbA : ¬ (fun q : Nat => s.heap.size ≤ q) b := Nat.not_le.mpr hbl
  have ex : ∀ (a : Nat), a ≤ L → L < a + 6 → ∀ (H : Heap) (locs : List Loc), va_S (fun q : Nat => s.heap.size ≤ q) s.heap H locs → ∀ (ls : Array Slot), lv_has ls 4 [(0, .ref (b)), (1, .ref (ux 0)), (2, .ref (uy 0)), (3, .int (nI (a)))] → W p l e room_1 s m #[Value.ref b] below meth c H locs 15 1245 (lw_Z below #[Value.ref b] s) (F0 m 18 ls []) := by
    intro a h1 h2 H locs hS ls hl
    refine lv_iload_n hx hb dL_law_18 rfl (lv_at hl 3 rfl) ?_
    refine lv_aload_n hx hb dL_law_19 rfl (lv_at hl 0 rfl) ?_
    refine va_slen hx hb hX hbl hbA hS dL_law_20 ?_
    refine nw_as (y := nI L) rfl ?_
    refine lv_bipush (v := nI 6) hx hb dL_law_21 (by decide) ?_
    refine lv_isub hx hb dL_law_23 ?_
    refine lv_icmp_gt (tgt := 360) hx hb dL_law_24 (by decide) (fun _ => ?_) (fun h => absurd ((nw_gt (by omega) (by omega)).mpr h2) h)
    refine lv_iconst (v := 1) hx hb dL_law_360 (by decide) ?_
    refine va_forget (fun q hq => hS.2.2 q hq) ?_
    refine W.widen (k := 600000) (n := 7290000) (by decide) (by decide) ?_
    exact lw_ret hx hb hr hlocks dL_law_361
  intro N
  induction N with
  | zero =>
    intro a h1 h2 w n S P kn aw ay aa ao M sa ea bw pt ld wt hJ H locs hP hD hS ls hl
    exact ex a h1 (by omega) H locs hS ls hl
  | succ N ih =>
    intro a h1 h2 w n S P kn aw ay aa ao M sa ea bw pt ld wt hJ H locs hP hD hS ls hl
    rcases Nat.lt_or_ge L (a + 6) with h | ha
    · exact ex a h1 h H locs hS ls hl
    · have tail : ∀ (w : Nat → Nat) (n : Nat) (S P : nw_F) (kn : Int32) (aw ay aa ao M sa ea bw pt ld wt : nw_F), nw_J w n S P kn aw ay aa ao M sa bw → ∀ (H : Heap) (locs : List Loc), va_P (dC, dI) vwCl (nw_xW ux cx (S) (P) (nw_pl (sa) 0 5) (nw_pl (ea) 0 5) (kn) (nI ((n))) (aw) (ay) (aa) (ao) ++ nw_yW uy cy (M) (sa) (ea) (nI ((n))) (bw) (pt) (ld) (wt)) H → va_D (fun q : Nat => s.heap.size ≤ q) (nw_xW ux cx (S) (P) (nw_pl (sa) 0 5) (nw_pl (ea) 0 5) (kn) (nI ((n))) (aw) (ay) (aa) (ao) ++ nw_yW uy cy (M) (sa) (ea) (nI ((n))) (bw) (pt) (ld) (wt)) → va_S (fun q : Nat => s.heap.size ≤ q) s.heap H locs → ∀ (ls : Array Slot), lv_has ls 4 [(0, .ref (b)), (1, .ref (ux 0)), (2, .ref (uy 0)), (3, .int (nI (a)))] → W p l e room_1 s m #[Value.ref b] below meth c H locs 15 1245 (lw_Z below #[Value.ref b] s) (F0 m 354 ls []) := by
        intro w n S P kn aw ay aa ao M sa ea bw pt ld wt hJ H locs hP hD hS ls hl
        refine lv_iinc (v := nI (a + 6)) (lv' := [(3, .int (nI (a + 6))), (0, .ref b), (1, .ref (ux 0)), (2, .ref (uy 0))]) hx hb dL_law_354 hl (k := 3) rfl (nw_inc6 a) (by decide) rfl (fun ls hl => ?_)
        refine lv_goto (tgt := 18) hx hb dL_law_357 (by decide) ?_
        exact ih (a + 6) ha (by omega) w n S P kn aw ay aa ao M sa ea bw pt ld wt hJ H locs hP hD hS ls (lv_sub hl [1, 2, 3, 0] rfl)
      refine lv_iload_n hx hb dL_law_18 rfl (lv_at hl 3 rfl) ?_
      refine lv_aload_n hx hb dL_law_19 rfl (lv_at hl 0 rfl) ?_
      refine va_slen hx hb hX hbl hbA hS dL_law_20 ?_
      refine nw_as (y := nI L) rfl ?_
      refine lv_bipush (v := nI 6) hx hb dL_law_21 (by decide) ?_
      refine lv_isub hx hb dL_law_23 ?_
      refine lv_icmp_gt (tgt := 360) hx hb dL_law_24 (by decide) (fun h => absurd ((nw_gt (by omega) (by omega)).mp h) (by omega)) (fun _ => ?_)
      refine lv_aload_n hx hb dL_law_27 rfl (lv_at hl 0 rfl) ?_
      refine lv_iload_n hx hb dL_law_28 rfl (lv_at hl 3 rfl) ?_
      refine nw_sld hx hb hX hbl hbA hS (j := a) (by omega) (by omega) dL_law_29 ?_
      refine lv_bipush (v := (15 : Int32)) hx hb dL_law_30 (by decide) ?_
      refine lv_iand hx hb dL_law_32 ?_
      obtain ⟨j, hj, ej⟩ := pk_andE (xs a) (m := 15) 4 (by decide)
      refine nw_as ej ?_
      rcases (show j = 0 ∨ j = 1 ∨ j = 2 ∨ j = 3 ∨ j = 4 ∨ j = 5 ∨ j = 6 ∨ j = 7 ∨ j = 8 ∨ j = 9 ∨ j = 10 ∨ j = 11 ∨ j = 12 ∨ j = 13 ∨ j = 14 ∨ j = 15 by omega) with rfl | rfl | rfl | rfl | rfl | rfl | rfl | rfl | rfl | rfl | rfl | rfl | rfl | rfl | rfl | rfl
      · refine lv_tableIn (off := 55) (tgt := 88) hx hb dL_law_33 (by decide) (by decide) (by decide) (by decide) ?_
        exact nw_case0 hL C1 dC dI ux uy cx cy hK a ha tail w n S P kn aw ay aa ao M sa ea bw pt ld wt hJ H locs hP hD hS ls hl
      · refine lv_tableIn (off := 134) (tgt := 167) hx hb dL_law_33 (by decide) (by decide) (by decide) (by decide) ?_
        exact nw_case1 hL C1 dC dI ux uy cx cy hK a ha tail w n S P kn aw ay aa ao M sa ea bw pt ld wt hJ H locs hP hD hS ls hl
      · refine lv_tableIn (off := 209) (tgt := 242) hx hb dL_law_33 (by decide) (by decide) (by decide) (by decide) ?_
        exact nw_case2 hL C1 dC dI ux uy cx cy hK a ha tail w n S P kn aw ay aa ao M sa ea bw pt ld wt hJ H locs hP hD hS ls hl
      · refine lv_tableIn (off := 232) (tgt := 265) hx hb dL_law_33 (by decide) (by decide) (by decide) (by decide) ?_
        exact nw_case3 hL C1 dC dI ux uy cx cy hK a ha tail w n S P kn aw ay aa ao M sa ea bw pt ld wt hJ H locs hP hD hS ls hl
      · refine lv_tableIn (off := 245) (tgt := 278) hx hb dL_law_33 (by decide) (by decide) (by decide) (by decide) ?_
        exact nw_case4 hL C1 dC dI ux uy cx cy hK a ha tail w n S P kn aw ay aa ao M sa ea bw pt ld wt hJ H locs hP hD hS ls hl
      · refine lv_tableIn (off := 256) (tgt := 289) hx hb dL_law_33 (by decide) (by decide) (by decide) (by decide) ?_
        exact nw_case5 hL C1 dC dI ux uy cx cy hK a ha tail w n S P kn aw ay aa ao M sa ea bw pt ld wt hJ H locs hP hD hS ls hl
      · refine lv_tableIn (off := 269) (tgt := 302) hx hb dL_law_33 (by decide) (by decide) (by decide) (by decide) ?_
        exact nw_case6 hL C1 dC dI ux uy cx cy hK a ha tail w n S P kn aw ay aa ao M sa ea bw pt ld wt hJ H locs hP hD hS ls hl
      · refine lv_tableIn (off := 282) (tgt := 315) hx hb dL_law_33 (by decide) (by decide) (by decide) (by decide) ?_
        exact nw_case7 hL C1 dC dI ux uy cx cy hK a ha tail w n S P kn aw ay aa ao M sa ea bw pt ld wt hJ H locs hP hD hS ls hl
      · refine lv_tableIn (off := 295) (tgt := 328) hx hb dL_law_33 (by decide) (by decide) (by decide) (by decide) ?_
        exact nw_case8 hL C1 dC dI ux uy cx cy hK a ha tail w n S P kn aw ay aa ao M sa ea bw pt ld wt hJ H locs hP hD hS ls hl
      · refine lv_tableIn (off := 308) (tgt := 341) hx hb dL_law_33 (by decide) (by decide) (by decide) (by decide) ?_
        exact nw_case9 hL C1 dC dI ux uy cx cy hK a ha tail w n S P kn aw ay aa ao M sa ea bw pt ld wt hJ H locs hP hD hS ls hl
      · refine lv_tableOut (tgt := 354) hx hb dL_law_33 (by decide) (by decide) ?_
        exact tail w n S P kn aw ay aa ao M sa ea bw pt ld wt hJ H locs hP hD hS ls hl
      · refine lv_tableOut (tgt := 354) hx hb dL_law_33 (by decide) (by decide) ?_
        exact tail w n S P kn aw ay aa ao M sa ea bw pt ld wt hJ H locs hP hD hS ls hl
      · refine lv_tableOut (tgt := 354) hx hb dL_law_33 (by decide) (by decide) ?_
        exact tail w n S P kn aw ay aa ao M sa ea bw pt ld wt hJ H locs hP hD hS ls hl
      · refine lv_tableOut (tgt := 354) hx hb dL_law_33 (by decide) (by decide) ?_
        exact tail w n S P kn aw ay aa ao M sa ea bw pt ld wt hJ H locs hP hD hS ls hl
      · refine lv_tableOut (tgt := 354) hx hb dL_law_33 (by decide) (by decide) ?_
        exact tail w n S P kn aw ay aa ao M sa ea bw pt ld wt hJ H locs hP hD hS ls hl
      · refine lv_tableOut (tgt := 354) hx hb dL_law_33 (by decide) (by decide) ?_
        exact tail w n S P kn aw ay aa ao M sa ea bw pt ld wt hJ H locs hP hD hS ls hl
set_option maxHeartbeats 4000000 in
set_option maxRecDepth 100000 in
/-- from the entry, for every script of at most 384 ints, the law comes to its end with true -/
theorem whole_start {p : Program} {e : Env} {s : State} {m : MethodId} {below : List Frame} {meth : Method} {c : Code} (l : Launch) {b L : Nat} {xs : Nat → Int32} (hL : L ≤ 384) (C0 : lw_At p s m meth c b L xs) : W p l e room_1 s m #[Value.ref b] below meth c s.heap [] 0 0 (lw_Z below #[Value.ref b] s) (entryFrame m ([Value.ref b] : List Value).toArray 4) := by
  have C1 := C0
  obtain ⟨hx, hb, hr, hml, hown, hts0, hX, hbl, hlocks, hgv⟩ := C0
  have hts : ∀ w ∈ lw_all, w.before #[Value.ref b] s = true := fun w h => hts0 w (lw_all_tbl h)
  have hA : ∀ q : Nat, s.heap.size ≤ q → (fun q : Nat => s.heap.size ≤ q) q := fun _ h => h
  have hbA : ¬ (fun q : Nat => s.heap.size ≤ q) b := Nat.not_le.mpr hbl
  obtain ⟨c0_, iS0, hKn0⟩ := u_known (C := RX0) (T := TX0) (N := 10) (n := 10) hts0 (fun w h => lw_all_tbl (in_X0 w h)) (hts0 _ (lw_all_tbl q15))
  obtain ⟨c1_, iS1, hKn1⟩ := u_known (C := RX1) (T := TX1) (N := 8) (n := 8) hts0 (fun w h => lw_all_tbl (in_X1 w h)) (hts0 _ (lw_all_tbl q131))
  obtain ⟨dC, dI, hKc0⟩ : ∃ (dC : Nat → ClassId) (dI : Nat → Nat → Nat), ∀ (k : Nat) (q : vw_C), vwCl[k]? = some q → u_Kn s q.1 q.2.1 q.2.2 (dC k) (dI k) := by
    refine ⟨fun k => if k = 0 then c0_ else c1_, fun k => if k = 0 then iS0 else iS1, ?_⟩
    intro k q hq
    match k, hq with
    | 0, hq => cases hq; exact hKn0
    | 1, hq => cases hq; exact hKn1
    | k + 2, hq => simp [vwCl] at hq
  have hS : va_S (fun q : Nat => s.heap.size ≤ q) s.heap s.heap [] := va_S.rf
  have hK : va_K (dC, dI) vwCl [] s := ⟨hKc0, fun k q h => by simp at h⟩
  have hP : va_P (dC, dI) vwCl [] s.heap := fun k q h => by simp at h
  have hD : va_D (fun q : Nat => s.heap.size ≤ q) [] := ⟨fun i j p q h => by simp at h, fun k q h => by simp at h⟩
  have hl := lv_entry ([.ref b]) (n := 4) (Nat.le_of_ble_eq_true rfl)
  rw [lg_entry_eq]
  generalize (lg_sl ([.ref b]) ++ List.replicate (4 - (lg_sl ([.ref b])).length) Slot.unset).toArray = ls at hl ⊢
  have hl : lv_has ls 4 [(0, .ref b)] := hl
  refine va_new (ci := 0) (fs := [.null, .null, .int 0, .int 0, .int 0, .int 0, .null, .null, .null, .null]) (C := RX0) (T := TX0) (N := 10) hx hb hts in_X0 tyX0 tyX0_ok hown (hts _ q14) (hts _ q15) (hts _ q12) hK hP hD hS hA rfl (fun j hj => by rcases (show j = 0 ∨ j = 1 ∨ j = 2 ∨ j = 3 ∨ j = 4 ∨ j = 5 ∨ j = 6 ∨ j = 7 ∨ j = 8 ∨ j = 9 by omega) with rfl | rfl | rfl | rfl | rfl | rfl | rfl | rfl | rfl | rfl <;> rfl) (Nat.le_of_ble_eq_true rfl) (Nat.le_of_ble_eq_true rfl) dL_law_0 (fun h0 H hP hD hS => ?_)
  have hP : va_P (dC, dI) vwCl ([(h0, .inr (0, [.null, .null, .int 0, .int 0, .int 0, .int 0, .null, .null, .null, .null]))]) H := hP
  have hD : va_D (fun q : Nat => s.heap.size ≤ q) ([(h0, .inr (0, [.null, .null, .int 0, .int 0, .int 0, .int 0, .null, .null, .null, .null]))]) := hD
  refine W.widen (k := 1) (n := 10) (by decide) (by decide) ?_
  refine lv_dup hx hb dL_law_3 rfl ?_
  have hPc := hP.sub (ws' := [(h0, .inr (0, [.null, .null, .int 0, .int 0, .int 0, .int 0, .null, .null, .null, .null]))]) [0] rfl
  have hDc := hD.sub (ws' := [(h0, .inr (0, [.null, .null, .int 0, .int 0, .int 0, .int 0, .null, .null, .null, .null]))]) [0] (by decide) rfl
  have hKc := hK.sub (tys' := []) [] rfl
  have hFc := va_free (wc := [(h0, .inr (0, [.null, .null, .int 0, .int 0, .int 0, .int 0, .null, .null, .null, .null]))]) hD hS hA [0] rfl
  refine va_callv (va_runI (As := []) (rest := [.ref h0]) ⟨hx, hb, hml, hown, hts⟩ (metX0_init l dC dI h0 H.size) (cwI 0 hts (lw_meth q18) rfl rfl rfl (hts _ q12) (hts _ q16) (hts _ q17) rfl (by decide +kernel) ⟨Nat.le_of_ble_eq_true rfl, Nat.le_of_ble_eq_true rfl⟩) ⟨fun a U g mk q => ⟨q.1, q.2.1, nw_blind q.2.2⟩, fun U hU hW => ⟨rfl, by rw [hU], by rw [hU]; exact hPc, va_K.moved hW.alike hKc, hDc.weaken (fun _ _ _ _ => trivial)⟩⟩ rfl rfl hl.1 rfl (lv_room (Nat.le_of_ble_eq_true rfl)) dL_law_4 ⟨Nat.le_of_ble_eq_true rfl, Nat.le_of_ble_eq_true rfl⟩) hS (fun q _ h => hFc q h) hFc (fun u t_ H locs ht_ hvm_ hu hB_ _ hk_ hS => ?_)
  obtain ⟨ux, cx⟩ := u
  have hu : ux 0 = h0 := hu
  subst hu
  obtain ⟨hP1, hK1, hD1⟩ := hB_
  rw [ht_] at hP1
  have hK1 := va_K.moved hvm_.symm hK1
  obtain ⟨hP, hD⟩ := va_join (wr := []) (w1 := nw_xW ux cx (fun _ => 0) (fun _ => 0) 0 0 0 (nI 0) (fun _ => 0) (fun _ => 0) (fun _ => 0) (fun _ => 0)) hP hD [0] [] rfl rfl (by decide) (by decide) hk_ hFc hP1 hD1
  have hP : va_P (dC, dI) vwCl (nw_xW ux cx (fun _ => 0) (fun _ => 0) 0 0 0 (nI 0) (fun _ => 0) (fun _ => 0) (fun _ => 0) (fun _ => 0)) H := hP
  have hD : va_D (fun q : Nat => s.heap.size ≤ q) (nw_xW ux cx (fun _ => 0) (fun _ => 0) 0 0 0 (nI 0) (fun _ => 0) (fun _ => 0) (fun _ => 0) (fun _ => 0)) := hD
  have hK : va_K (dC, dI) vwCl (nw_xT cx) s := hK1
  refine W.widen (k := 7) (n := 547) (by decide) (by decide) ?_
  refine lv_astore_n (lv' := [(1, .ref (ux 0)), (0, .ref b)]) hx hb dL_law_7 rfl hl (by decide) rfl (fun ls hl => ?_)
  refine va_new (ci := 1) (fs := [.null, .null, .null, .int 0, .null, .null, .null, .null]) (C := RX1) (T := TX1) (N := 8) hx hb hts in_X1 tyX1 tyX1_ok hown (hts _ q130) (hts _ q131) (hts _ q13) hK hP hD hS hA rfl (fun j hj => by rcases (show j = 0 ∨ j = 1 ∨ j = 2 ∨ j = 3 ∨ j = 4 ∨ j = 5 ∨ j = 6 ∨ j = 7 by omega) with rfl | rfl | rfl | rfl | rfl | rfl | rfl | rfl <;> rfl) (Nat.le_of_ble_eq_true rfl) (Nat.le_of_ble_eq_true rfl) dL_law_8 (fun h1 H hP hD hS => ?_)
  have hP : va_P (dC, dI) vwCl (nw_xW ux cx (fun _ => 0) (fun _ => 0) 0 0 0 (nI 0) (fun _ => 0) (fun _ => 0) (fun _ => 0) (fun _ => 0) ++ [(h1, .inr (1, [.null, .null, .null, .int 0, .null, .null, .null, .null]))]) H := hP
  have hD : va_D (fun q : Nat => s.heap.size ≤ q) (nw_xW ux cx (fun _ => 0) (fun _ => 0) 0 0 0 (nI 0) (fun _ => 0) (fun _ => 0) (fun _ => 0) (fun _ => 0) ++ [(h1, .inr (1, [.null, .null, .null, .int 0, .null, .null, .null, .null]))]) := hD
  refine W.widen (k := 8) (n := 555) (by decide) (by decide) ?_
  refine lv_dup hx hb dL_law_11 rfl ?_
  have hPc := hP.sub (ws' := [(h1, .inr (1, [.null, .null, .null, .int 0, .null, .null, .null, .null]))]) [7] rfl
  have hDc := hD.sub (ws' := [(h1, .inr (1, [.null, .null, .null, .int 0, .null, .null, .null, .null]))]) [7] (by decide) rfl
  have hKc := hK.sub (tys' := []) [] rfl
  have hFc := va_free (wc := [(h1, .inr (1, [.null, .null, .null, .int 0, .null, .null, .null, .null]))]) hD hS hA [7] rfl
  refine va_callv (va_runI (As := []) (rest := [.ref h1]) ⟨hx, hb, hml, hown, hts⟩ (metX1_init l dC dI h1 H.size) (cwI 0 hts (lw_meth q134) rfl rfl rfl (hts _ q13) (hts _ q132) (hts _ q133) rfl (by decide +kernel) ⟨Nat.le_of_ble_eq_true rfl, Nat.le_of_ble_eq_true rfl⟩) ⟨fun a U g mk q => ⟨q.1, q.2.1, nw_blind q.2.2⟩, fun U hU hW => ⟨rfl, by rw [hU], by rw [hU]; exact hPc, va_K.moved hW.alike hKc, hDc.weaken (fun _ _ _ _ => trivial)⟩⟩ rfl rfl hl.1 rfl (lv_room (Nat.le_of_ble_eq_true rfl)) dL_law_12 ⟨Nat.le_of_ble_eq_true rfl, Nat.le_of_ble_eq_true rfl⟩) hS (fun q _ h => hFc q h) hFc (fun u t_ H locs ht_ hvm_ hu hB_ _ hk_ hS => ?_)
  obtain ⟨uy, cy⟩ := u
  have hu : uy 0 = h1 := hu
  subst hu
  obtain ⟨hP1, hK1, hD1⟩ := hB_
  rw [ht_] at hP1
  have hK1 := va_K.moved hvm_.symm hK1
  obtain ⟨hP, hD⟩ := va_join (wr := nw_xW ux cx (fun _ => 0) (fun _ => 0) 0 0 0 (nI 0) (fun _ => 0) (fun _ => 0) (fun _ => 0) (fun _ => 0)) (w1 := nw_yW uy cy (fun _ => 0) (fun _ => 0) (fun _ => 0) (nI 0) (fun _ => 0) (fun _ => 0) (fun _ => 0) (fun _ => 0)) hP hD [7] [0, 1, 2, 3, 4, 5, 6] rfl rfl (by decide) (by decide) hk_ hFc hP1 hD1
  have hK : va_K (dC, dI) vwCl (nw_xT cx ++ nw_yT cy) s := hK.app hK1
  refine W.widen (k := 15) (n := 1245) (by decide) (by decide) ?_
  refine lv_astore_n (lv' := [(2, .ref (uy 0)), (1, .ref (ux 0)), (0, .ref b)]) hx hb dL_law_15 rfl hl (by decide) rfl (fun ls hl => ?_)
  refine lv_iconst (v := nI 0) hx hb dL_law_16 (by decide) ?_
  refine lv_istore_n (lv' := [(3, .int (nI 0)), (2, .ref (uy 0)), (1, .ref (ux 0)), (0, .ref b)]) hx hb dL_law_17 rfl hl (by decide) rfl (fun ls hl => ?_)
  have e0 : nw_pl (fun _ => 0) 0 5 = 0 := by decide +kernel
  refine nw_law_loop hL C1 dC dI ux uy cx cy hK L 0 (Nat.zero_le L) (by omega) (fun _ => 0) 0 (fun _ => 0) (fun _ => 0) 0 (fun _ => 0) (fun _ => 0) (fun _ => 0) (fun _ => 0) (fun _ => 0) (fun _ => 0) (fun _ => 0) (fun _ => 0) (fun _ => 0) (fun _ => 0) (fun _ => 0) ⟨by omega, fun k h => absurd h (Nat.not_lt_zero k), fun k h => absurd h (Nat.not_lt_zero k), fun k h => absurd h (Nat.not_lt_zero k), nw_TB0, fun h => absurd rfl h⟩ H locs ?_ ?_ hS ls (lv_sub hl [3, 2, 1, 0] rfl)
  · rw [e0]; exact hP
  · rw [e0]; exact hD
end
section
/-! the claim out of whole_start: the skeleton's end -/
set_option maxHeartbeats 4000000 in
theorem lw_walk (l : Launch) (b : Addr) (xs : List Int32) : MetFree l x (headSpec (Jvm.Cond.code x code maxLocals ret :: tables_1) room_1) (lw_P b xs) (fun _ _ _ _ _ => True) lw_Q := by
  refine MetFree.of_bodyS (code := code) (maxLocals := maxLocals) (ret := ret) (by decide) ?_ ?_
  · intro args s m h hn
    obtain ⟨meth, c, h1, h2, h3, h4, h5, h6, -, -⟩ := Cond.code_spec hn (atoms_spec (ws := Jvm.Cond.code x code maxLocals ret :: tables_1) h _ List.mem_cons_self)
    exact ⟨meth, c, h1, h2, h3, h4, h5, h6⟩
  · intro p e s m args below meth c s₁ B hml0 hP _
    obtain ⟨rfl, hx, hbd, hgv⟩ := hP
    obtain ⟨scr, harrAt, hlist, hof, hsmall⟩ := hx
    obtain ⟨hcb, hkn, -, -⟩ := State.arrayAt?_spec harrAt
    have hown : s.vm.findClass R_law = some m.cls := findClass_of_methodNamed B.named
    have hts0 : ∀ c ∈ (Jvm.Cond.code x code maxLocals ret :: tables_1), c.before #[Value.ref b] s = true := atoms_spec (ws := Jvm.Cond.code x code maxLocals ret :: tables_1) B.pre
    have hts : ∀ w ∈ lw_tbl, w.before #[Value.ref b] s = true := k2_hts_sels lw_privs (fun w hw => hts0 w (List.mem_cons_of_mem _ hw)) lw_privs_ok
    have hml : c.maxLocals = 4 := B.maxLocals_eq (hts0 _ List.mem_cons_self)
    have X₀ : Stand p l e room_1 s m #[Value.ref b] below meth c s₁ [] 0 0 := Stand.of_body B
    have hh0 : s₁.heap = s.heap := by rw [B.state]; rfl
    have hsz : scr.slots.size = xs.length := by rw [← Array.length_toList, hlist, List.length_map]
    have hval : ∀ j : Nat, j < xs.length → scr.slots[j]? = some (.int (xs.getD j 0)) := fun j hj => by
      rw [← Array.getElem?_toList, hlist]
      simp [hj]
    have hbl : b < s.heap.size := (Array.getElem?_eq_some_iff.mp hcb).1
    have hX : va_X b xs.length (fun j => xs.getD j 0) s s.heap := ⟨scr, hcb, hof, hkn, hsz, hval⟩
    have K : W p l e room_1 s m #[Value.ref b] below meth c s₁.heap [] 0 0 (lw_Z below #[Value.ref b] s) (entryFrame m ([Value.ref b] : List Value).toArray 4) := by
      rw [hh0]
      exact whole_start l hbd ⟨B.exec, B.bytes, B.returns, hml, hown, hts, hX, hbl, B.notSynchronized, hgv⟩
    obtain ⟨t, a1, o, b1, b2, b3⟩ := K s₁ rfl X₀
    exact ⟨t, o, a1, b1, b2, b3⟩
theorem lw_pre_spec {args : Array Value} {s : State} (h : (Jvm.Cond.and given_1 narrow_1).before args s = true) (hr : rest_1_c.before args s = true) : ∃ (b : Addr) (xs : List Int32), lw_P b xs args s := by
  have hs := flat_of_before _ h
  have hq := flat_of_before _ hr
  have hc : (Cond.count 1).before args s = true := hs _ (by decide +kernel)
  have harr : (Cond.arrayOf (.arg 0) .int).before args s = true := hs _ (by decide +kernel)
  have hle : (Cond.le (.length (.arg 0)) (.int 384)).before args s = true := hs _ (by decide +kernel)
  have hlen : (Cond.isInt (.length (.arg 0))).before args s = true := hq _ (by decide +kernel)
  have hall : (Cond.all (.arg 0) (.isInt (.elem (.arg 0) (.index 0)))).before args s = true := hq _ (by decide +kernel)
  obtain ⟨b, xs, hb, hx⟩ := State.ints_of_pre rfl harr hlen hall
  have hsm : xs.length < 2 ^ 31 := hx.choose_spec.2.2.2
  have hev : (Term.length (.arg 0)).eval args s none [] s = some (.int xs.length.toInt32) := hx.length_eval hb
  have hv := Cond.le_ints hev (show (Term.int 384).eval args s none [] s = some (.int 384) from rfl)
  have hd : xs.length.toInt32 ≤ 384 := by
    simpa [Cond.before, Cond.holds, hv] using hle
  have hN : xs.length ≤ 384 := (Int32.ofNat_le_ofNat hsm (by decide)).mp (show Int32.ofNat xs.length ≤ Int32.ofNat 384 from hd)
  exact ⟨b, xs, Cond.one_arg hc (show args[0]? = some (.ref b) from hb), hx, hN, h⟩
theorem lw_comes (l : Launch) : Comes l x (Jvm.Cond.code x code maxLocals ret :: tables_1) room_1 (fun tb e args s => Calls_1 tb e args s ∧ rest_1 tb e args s ∧ Pre_1 tb e args s)
    (fun _ _ args s o t => lw_Q args s o t) := by
  intro p e ha hc hk s m args below hf hfit hheap happ hpre
  obtain ⟨b, xs, hP⟩ := lw_pre_spec hpre.2.2 hpre.2.1
  obtain ⟨k, o, h1, h2, h3, hQ⟩ := lw_walk l b xs p e ha hc hk s m args below hf ((Spec.applies_iff_loose hf).mp happ).1 hP trivial
  exact ⟨k, o, h1, h2, h3, hQ⟩
theorem lw_frame {s t : State} {o : Outcome} {args : Array Value} (h : Framed s o t [] 600000 7290000) :
    Framed s o t (fieldLocs frame_1_writes args s ++ arrayLocs frame_1_arrays args s ++ staticLocs frame_1_statics s) 600000 7290000 := h
theorem lw_limb (L : Cond) (hL : ∀ (args : Array Value) (s t : State), L.after args s (.returned (some (.int 1))) t = true) :
    ArmFor flags0 classFile x code maxLocals ret World_1 tables_1 room_1 Calls_1 rest_1 Pre_1
      (fun tb e a s o t => postC L tb e a s o t ∧ Framed s o t (fieldLocs frame_1_writes a s ++ arrayLocs frame_1_arrays a s ++ staticLocs frame_1_statics s) 600000 7290000) := by
  intro l _ _ _ p e ha hc hk s m args below hf hfit hheap happ hpre
  obtain ⟨k, o, h1, h2, h3, rfl, hF⟩ := lw_comes l p e ha hc hk s m args below hf hfit hheap happ hpre
  exact ⟨k, _, h1, h2, h3, hL args s _, lw_frame hF⟩
theorem i_vc : Claimed_1_1 ∧ Claimed_1_2 := ⟨lw_limb limb_1_1 (fun args s t => by simp [limb_1_1, Cond.after, Cond.holds, Cond.value]), lw_limb limb_1_2 (fun args s t => Cond.after_iff.mpr (by
  first | (rw [show limb_1_2 = Cond.eq .result (.int 1) from rfl, Cond.eq_ints (x := 1) (y := 1) rfl rfl]; simp; done) | (simp [limb_1_2, Cond.value, Term.eval]; done)))⟩
end
