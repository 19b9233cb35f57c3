section
/-- a private method of a class that the tables say can be made, by its rows of tables_1 -/
def lw_okq (q : MethodName × Nat) : Prop := (q.1.cls ≠ "java/lang/invoke/MethodHandle" ∧ q.1.cls ≠ "java/lang/invoke/VarHandle") ∧ Cond.instantiable q.1.cls q.2 ∈ tables_1 ∧ Cond.privateMethod q.1 ∈ tables_1 ∧ Cond.instanceMethod q.1 ∈ tables_1
set_option maxRecDepth 100000
theorem lw_p0 : lw_okq (⟨"SymbolMender", "divideAway", "()V"⟩, 12) := ⟨⟨by decide +kernel, by decide +kernel⟩, List.mem_of_getElem? (i := 4) rfl, List.mem_of_getElem? (i := 58) rfl, List.mem_of_getElem? (i := 59) rfl⟩
theorem lw_p1 : lw_okq (⟨"SymbolMender", "times", "(II)I"⟩, 12) := ⟨⟨by decide +kernel, by decide +kernel⟩, List.mem_of_getElem? (i := 4) rfl, List.mem_of_getElem? (i := 62) rfl, List.mem_of_getElem? (i := 63) rfl⟩
theorem lw_p2 : lw_okq (⟨"SymbolMender", "findWhole", "()Z"⟩, 12) := ⟨⟨by decide +kernel, by decide +kernel⟩, List.mem_of_getElem? (i := 4) rfl, List.mem_of_getElem? (i := 85) rfl, List.mem_of_getElem? (i := 86) rfl⟩
theorem lw_p3 : lw_okq (⟨"SymbolMender", "valueOf", "([II)I"⟩, 12) := ⟨⟨by decide +kernel, by decide +kernel⟩, List.mem_of_getElem? (i := 4) rfl, List.mem_of_getElem? (i := 89) rfl, List.mem_of_getElem? (i := 90) rfl⟩
theorem lw_p4 : lw_okq (⟨"SymbolMender", "buildRule", "(I)V"⟩, 12) := ⟨⟨by decide +kernel, by decide +kernel⟩, List.mem_of_getElem? (i := 4) rfl, List.mem_of_getElem? (i := 93) rfl, List.mem_of_getElem? (i := 94) rfl⟩
theorem lw_p5 : lw_okq (⟨"SymbolMender", "lengthen", "(III)V"⟩, 12) := ⟨⟨by decide +kernel, by decide +kernel⟩, List.mem_of_getElem? (i := 4) rfl, List.mem_of_getElem? (i := 97) rfl, List.mem_of_getElem? (i := 98) rfl⟩
theorem lw_p6 : lw_okq (⟨"SymbolMender", "over", "(II)I"⟩, 12) := ⟨⟨by decide +kernel, by decide +kernel⟩, List.mem_of_getElem? (i := 4) rfl, List.mem_of_getElem? (i := 101) rfl, List.mem_of_getElem? (i := 102) rfl⟩
theorem lw_p7 : lw_okq (⟨"SymbolMender", "findNumerator", "()V"⟩, 12) := ⟨⟨by decide +kernel, by decide +kernel⟩, List.mem_of_getElem? (i := 4) rfl, List.mem_of_getElem? (i := 105) rfl, List.mem_of_getElem? (i := 106) rfl⟩
theorem lw_p8 : lw_okq (⟨"SymbolMender", "correct", "(I)V"⟩, 12) := ⟨⟨by decide +kernel, by decide +kernel⟩, List.mem_of_getElem? (i := 4) rfl, List.mem_of_getElem? (i := 109) rfl, List.mem_of_getElem? (i := 110) rfl⟩
theorem lw_p9 : lw_okq (⟨"SymbolMender", "isRight", "(I)Z"⟩, 12) := ⟨⟨by decide +kernel, by decide +kernel⟩, List.mem_of_getElem? (i := 4) rfl, List.mem_of_getElem? (i := 113) rfl, List.mem_of_getElem? (i := 114) rfl⟩
theorem lw_p10 : lw_okq (⟨"SymbolMenderModel", "times", "(I)V"⟩, 4) := ⟨⟨by decide +kernel, by decide +kernel⟩, List.mem_of_getElem? (i := 137) rfl, List.mem_of_getElem? (i := 143) rfl, List.mem_of_getElem? (i := 144) rfl⟩
theorem lw_p11 : lw_okq (⟨"SymbolMenderModel", "make", "(I)V"⟩, 4) := ⟨⟨by decide +kernel, by decide +kernel⟩, List.mem_of_getElem? (i := 137) rfl, List.mem_of_getElem? (i := 170) rfl, List.mem_of_getElem? (i := 171) rfl⟩
theorem lw_p12 : lw_okq (⟨"SymbolMenderModel", "take", "()V"⟩, 4) := ⟨⟨by decide +kernel, by decide +kernel⟩, List.mem_of_getElem? (i := 137) rfl, List.mem_of_getElem? (i := 174) rfl, List.mem_of_getElem? (i := 175) rfl⟩
theorem lw_p13 : lw_okq (⟨"SymbolMenderModel", "find", "()Z"⟩, 4) := ⟨⟨by decide +kernel, by decide +kernel⟩, List.mem_of_getElem? (i := 137) rfl, List.mem_of_getElem? (i := 197) rfl, List.mem_of_getElem? (i := 198) rfl⟩
theorem lw_p14 : lw_okq (⟨"SymbolMenderModel", "lost", "()I"⟩, 4) := ⟨⟨by decide +kernel, by decide +kernel⟩, List.mem_of_getElem? (i := 137) rfl, List.mem_of_getElem? (i := 201) rfl, List.mem_of_getElem? (i := 202) rfl⟩
theorem lw_p15 : lw_okq (⟨"SymbolMenderModel", "different", "()I"⟩, 4) := ⟨⟨by decide +kernel, by decide +kernel⟩, List.mem_of_getElem? (i := 137) rfl, List.mem_of_getElem? (i := 205) rfl, List.mem_of_getElem? (i := 206) rfl⟩
def lw_privs_1 : List (MethodName × Nat) := [(⟨"SymbolMender", "divideAway", "()V"⟩, 12), (⟨"SymbolMender", "times", "(II)I"⟩, 12), (⟨"SymbolMender", "findWhole", "()Z"⟩, 12), (⟨"SymbolMender", "valueOf", "([II)I"⟩, 12), (⟨"SymbolMender", "buildRule", "(I)V"⟩, 12), (⟨"SymbolMender", "lengthen", "(III)V"⟩, 12), (⟨"SymbolMender", "over", "(II)I"⟩, 12), (⟨"SymbolMender", "findNumerator", "()V"⟩, 12), (⟨"SymbolMender", "correct", "(I)V"⟩, 12), (⟨"SymbolMender", "isRight", "(I)Z"⟩, 12), (⟨"SymbolMenderModel", "times", "(I)V"⟩, 4), (⟨"SymbolMenderModel", "make", "(I)V"⟩, 4), (⟨"SymbolMenderModel", "take", "()V"⟩, 4), (⟨"SymbolMenderModel", "find", "()Z"⟩, 4), (⟨"SymbolMenderModel", "lost", "()I"⟩, 4), (⟨"SymbolMenderModel", "different", "()I"⟩, 4)]
theorem lw_r1 : ∀ q ∈ lw_privs_1, lw_okq q := List.forall_mem_cons.mpr ⟨lw_p0, List.forall_mem_cons.mpr ⟨lw_p1, List.forall_mem_cons.mpr ⟨lw_p2, List.forall_mem_cons.mpr ⟨lw_p3, List.forall_mem_cons.mpr ⟨lw_p4, List.forall_mem_cons.mpr ⟨lw_p5, List.forall_mem_cons.mpr ⟨lw_p6, List.forall_mem_cons.mpr ⟨lw_p7, List.forall_mem_cons.mpr ⟨lw_p8, List.forall_mem_cons.mpr ⟨lw_p9, List.forall_mem_cons.mpr ⟨lw_p10, List.forall_mem_cons.mpr ⟨lw_p11, List.forall_mem_cons.mpr ⟨lw_p12, List.forall_mem_cons.mpr ⟨lw_p13, List.forall_mem_cons.mpr ⟨lw_p14, List.forall_mem_cons.mpr ⟨lw_p15, fun _ h => absurd h List.not_mem_nil⟩⟩⟩⟩⟩⟩⟩⟩⟩⟩⟩⟩⟩⟩⟩⟩
def lw_privs : List (MethodName × Nat) := lw_privs_1
def lw_tbl : List Cond := k2_sels lw_privs ++ tables_1
theorem lw_privs_ok : ∀ q ∈ lw_privs, lw_okq q := lw_r1
def lw_all : List Cond := lw_tbl.filter goodWord
/-- a word of the tables by its place: claim/WORDS.tsv -/
theorem lw_w {w : Cond} (i : Nat) (h : lw_tbl[i]? = some w) (g : goodWord w = true) : w ∈ lw_all := List.mem_filter.mpr ⟨List.mem_of_getElem? h, g⟩
theorem lw_all_tbl {w : Cond} (h : w ∈ lw_all) : w ∈ lw_tbl := (List.mem_filter.mp h).1
theorem lw_self : GoodIn lw_all lw_all := fun w h => ⟨h, good_of_word (List.mem_filter.mp h).2⟩
/-- a class's field words, by their places -/
theorem lw_in (ws : List Cond) (ps : List Nat) (hp : ws = ps.filterMap (fun i => lw_tbl[i]?)) (hg : ws.all goodWord = true) : ∀ w ∈ ws, w ∈ lw_all := by
  intro w h
  have h1 := List.all_eq_true.mp hg w h
  rw [hp] at h
  obtain ⟨i, -, hi⟩ := List.mem_filterMap.mp h
  exact lw_w i hi h1
/-- the words of a contract for the method y with code b, L locals, answer r -/
abbrev ws_ (y : MethodName) (b : ByteArray) (L : Nat) (r : Option FieldType) : List Cond := Cond.code y b L r :: lw_all
theorem lw_meth {y : MethodName} {b : ByteArray} {L : Nat} {r : Option FieldType} (h : Cond.code y b L r ∈ lw_all) : GoodIn lw_all (ws_ y b L r) := by
  intro w hw
  rcases List.mem_cons.mp hw with e | e
  · rw [e]
    exact lw_self _ h
  · exact lw_self _ e
theorem lw_app {a c : List Cond} (ha : ∀ w ∈ a, w ∈ lw_all) (hc : GoodIn lw_all c) : GoodIn lw_all (a ++ c) := by
  intro w hw
  rcases List.mem_append.mp hw with e | e
  · exact lw_self w (ha w e)
  · exact hc w e
/-- what a call through an object asks: cwV n hts (lw_V ..) -/
theorem lw_V {own : String} {idx : Nat} {C : String} {y : MethodName} {b : ByteArray} {L : Nat} {r : Option FieldType} (h1 : Cond.methodLink own idx y ∈ lw_all) (h2 : Cond.instanceMethod y ∈ lw_all) (h3 : Cond.selects C y y ∈ lw_all) (h4 : Cond.initialized C ∈ lw_all) (h5 : Cond.code y b L r ∈ lw_all) : GoodIn lw_all (wsV own idx C y (ws_ y b L r)) := by
  refine lw_app ?_ (lw_meth h5)
  intro w hw
  simp only [List.mem_cons, List.not_mem_nil, or_false] at hw
  rcases hw with e | e | e | e
  · rw [e]; exact h1
  · rw [e]; exact h2
  · rw [e]; exact h3
  · rw [e]; exact h4
/-- what a static call asks: va_cwS n hts (lw_S ..) -/
theorem lw_S {own : String} {idx : Nat} {y : MethodName} {b : ByteArray} {L : Nat} {r : Option FieldType} (h1 : Cond.methodLink own idx y ∈ lw_all) (h2 : Cond.static y ∈ lw_all) (h3 : Cond.initialized y.cls ∈ lw_all) (h4 : Cond.code y b L r ∈ lw_all) : GoodIn lw_all (va_wsS own idx y (ws_ y b L r)) := by
  refine lw_app ?_ (lw_meth h4)
  intro w hw
  simp only [List.mem_cons, List.not_mem_nil, or_false] at hw
  rcases hw with e | e | e
  · rw [e]; exact h1
  · rw [e]; exact h2
  · rw [e]; exact h3
/-- the words of a contract for a method WITH HANDLERS (hh: its table) -/
abbrev wsW_ (y : MethodName) (b : ByteArray) (L : Nat) (r : Option FieldType) (hh : List (Nat × Nat × Nat × Nat)) : List Cond := Cond.codeWith y b L r hh :: lw_all
theorem lw_methW {y : MethodName} {b : ByteArray} {L : Nat} {r : Option FieldType} {hh : List (Nat × Nat × Nat × Nat)} (h : Cond.codeWith y b L r hh ∈ lw_all) : GoodIn lw_all (wsW_ y b L r hh) := by
  intro w hw
  rcases List.mem_cons.mp hw with e | e
  · rw [e]
    exact lw_self _ h
  · exact lw_self _ e
/-- any list of words by their places (lw_in), good -/
theorem lw_good {ws : List Cond} (h : ∀ w ∈ ws, w ∈ lw_all) : GoodIn lw_all ws := fun w hw => lw_self w (h w hw)
/-- what a call of a method with handlers asks: vx_cwVW n hts (lw_VW ..), vx_cwSW n hts (lw_SW ..) -/
theorem lw_VW {own : String} {idx : Nat} {C : String} {y : MethodName} {b : ByteArray} {L : Nat} {r : Option FieldType} {hh : List (Nat × Nat × Nat × Nat)} (h1 : Cond.methodLink own idx y ∈ lw_all) (h2 : Cond.instanceMethod y ∈ lw_all) (h3 : Cond.selects C y y ∈ lw_all) (h4 : Cond.initialized C ∈ lw_all) (h5 : Cond.codeWith y b L r hh ∈ lw_all) : GoodIn lw_all (wsV own idx C y (wsW_ y b L r hh)) := by
  refine lw_app ?_ (lw_methW h5)
  intro w hw
  simp only [List.mem_cons, List.not_mem_nil, or_false] at hw
  rcases hw with e | e | e | e
  · rw [e]; exact h1
  · rw [e]; exact h2
  · rw [e]; exact h3
  · rw [e]; exact h4
theorem lw_SW {own : String} {idx : Nat} {y : MethodName} {b : ByteArray} {L : Nat} {r : Option FieldType} {hh : List (Nat × Nat × Nat × Nat)} (h1 : Cond.methodLink own idx y ∈ lw_all) (h2 : Cond.static y ∈ lw_all) (h3 : Cond.initialized y.cls ∈ lw_all) (h4 : Cond.codeWith y b L r hh ∈ lw_all) : GoodIn lw_all (va_wsS own idx y (wsW_ y b L r hh)) := by
  refine lw_app ?_ (lw_methW h4)
  intro w hw
  simp only [List.mem_cons, List.not_mem_nil, or_false] at hw
  rcases hw with e | e | e
  · rw [e]; exact h1
  · rw [e]; exact h2
  · rw [e]; exact h3
/-- a word by its place in its run of the tables -/
theorem lw_at {r : List Cond} (hr : ∀ w ∈ r, w ∈ lw_tbl) {w : Cond} (i : Nat) (h : r[i]? = some w) : w ∈ lw_tbl := hr w (List.mem_of_getElem? h)
theorem lw_g {w : Cond} (h : w ∈ lw_tbl) (g : goodWord w = true) : w ∈ lw_all := List.mem_filter.mpr ⟨h, g⟩
theorem lw_ms : ∀ w ∈ k2_sels lw_privs, w ∈ lw_tbl := fun w h => show w ∈ k2_sels lw_privs ++ tables_1 from List.mem_append_left _ h
theorem lw_m0 : ∀ w ∈ tables_1, w ∈ lw_tbl := fun w h => show w ∈ k2_sels lw_privs ++ tables_1 from List.mem_append_right (k2_sels lw_privs) h
theorem qs0 : (Cond.selects "SymbolMender" ⟨"SymbolMender", "divideAway", "()V"⟩ ⟨"SymbolMender", "divideAway", "()V"⟩) ∈ lw_all := lw_g (lw_at lw_ms 0 rfl) rfl
theorem qs1 : (Cond.selects "SymbolMender" ⟨"SymbolMender", "times", "(II)I"⟩ ⟨"SymbolMender", "times", "(II)I"⟩) ∈ lw_all := lw_g (lw_at lw_ms 1 rfl) rfl
theorem qs2 : (Cond.selects "SymbolMender" ⟨"SymbolMender", "findWhole", "()Z"⟩ ⟨"SymbolMender", "findWhole", "()Z"⟩) ∈ lw_all := lw_g (lw_at lw_ms 2 rfl) rfl
theorem qs3 : (Cond.selects "SymbolMender" ⟨"SymbolMender", "valueOf", "([II)I"⟩ ⟨"SymbolMender", "valueOf", "([II)I"⟩) ∈ lw_all := lw_g (lw_at lw_ms 3 rfl) rfl
theorem qs4 : (Cond.selects "SymbolMender" ⟨"SymbolMender", "buildRule", "(I)V"⟩ ⟨"SymbolMender", "buildRule", "(I)V"⟩) ∈ lw_all := lw_g (lw_at lw_ms 4 rfl) rfl
theorem qs5 : (Cond.selects "SymbolMender" ⟨"SymbolMender", "lengthen", "(III)V"⟩ ⟨"SymbolMender", "lengthen", "(III)V"⟩) ∈ lw_all := lw_g (lw_at lw_ms 5 rfl) rfl
theorem qs6 : (Cond.selects "SymbolMender" ⟨"SymbolMender", "over", "(II)I"⟩ ⟨"SymbolMender", "over", "(II)I"⟩) ∈ lw_all := lw_g (lw_at lw_ms 6 rfl) rfl
theorem qs7 : (Cond.selects "SymbolMender" ⟨"SymbolMender", "findNumerator", "()V"⟩ ⟨"SymbolMender", "findNumerator", "()V"⟩) ∈ lw_all := lw_g (lw_at lw_ms 7 rfl) rfl
theorem qs8 : (Cond.selects "SymbolMender" ⟨"SymbolMender", "correct", "(I)V"⟩ ⟨"SymbolMender", "correct", "(I)V"⟩) ∈ lw_all := lw_g (lw_at lw_ms 8 rfl) rfl
theorem qs9 : (Cond.selects "SymbolMender" ⟨"SymbolMender", "isRight", "(I)Z"⟩ ⟨"SymbolMender", "isRight", "(I)Z"⟩) ∈ lw_all := lw_g (lw_at lw_ms 9 rfl) rfl
theorem qs10 : (Cond.selects "SymbolMenderModel" ⟨"SymbolMenderModel", "times", "(I)V"⟩ ⟨"SymbolMenderModel", "times", "(I)V"⟩) ∈ lw_all := lw_g (lw_at lw_ms 10 rfl) rfl
theorem qs11 : (Cond.selects "SymbolMenderModel" ⟨"SymbolMenderModel", "make", "(I)V"⟩ ⟨"SymbolMenderModel", "make", "(I)V"⟩) ∈ lw_all := lw_g (lw_at lw_ms 11 rfl) rfl
theorem qs12 : (Cond.selects "SymbolMenderModel" ⟨"SymbolMenderModel", "take", "()V"⟩ ⟨"SymbolMenderModel", "take", "()V"⟩) ∈ lw_all := lw_g (lw_at lw_ms 12 rfl) rfl
theorem qs13 : (Cond.selects "SymbolMenderModel" ⟨"SymbolMenderModel", "find", "()Z"⟩ ⟨"SymbolMenderModel", "find", "()Z"⟩) ∈ lw_all := lw_g (lw_at lw_ms 13 rfl) rfl
theorem qs14 : (Cond.selects "SymbolMenderModel" ⟨"SymbolMenderModel", "lost", "()I"⟩ ⟨"SymbolMenderModel", "lost", "()I"⟩) ∈ lw_all := lw_g (lw_at lw_ms 14 rfl) rfl
theorem qs15 : (Cond.selects "SymbolMenderModel" ⟨"SymbolMenderModel", "different", "()I"⟩ ⟨"SymbolMenderModel", "different", "()I"⟩) ∈ lw_all := lw_g (lw_at lw_ms 15 rfl) rfl
/-! java/lang/Object -/
def RJ0 : String := "java/lang/Object"
abbrev cJ0_init : ByteArray := object_method_1_code
def yJ0_init : MethodName := ⟨RJ0, "<init>", "()V"⟩
theorem q25 : (Jvm.Cond.instanceMethod ({ cls := "java/lang/Object", name := "<init>", desc := "()V" } : Jvm.MethodName)) ∈ lw_all := lw_g (lw_at lw_m0 9 rfl) rfl
theorem q26 : (Jvm.Cond.code ({ cls := "java/lang/Object", name := "<init>", desc := "()V" } : Jvm.MethodName) object_method_1_code (1 : Nat) (Option.none : Option Jvm.ClassFile.FieldType)) ∈ lw_all := lw_g (lw_at lw_m0 10 rfl) rfl
theorem q64 : (Jvm.Cond.arrayClass Jvm.ClassFile.FieldType.int) ∈ lw_all := lw_g (lw_at lw_m0 48 rfl) rfl
theorem q65 : (Jvm.Cond.arrayClass Jvm.ClassFile.FieldType.boolean) ∈ lw_all := lw_g (lw_at lw_m0 49 rfl) rfl
theorem q16 : (Jvm.Cond.initialized "SymbolMenderLaw") ∈ lw_all := lw_g (lw_at lw_m0 0 rfl) rfl
theorem q19 : (Jvm.Cond.classLink "SymbolMenderLaw" (7 : Nat) "SymbolMender") ∈ lw_all := lw_g (lw_at lw_m0 3 rfl) rfl
theorem q21 : (Jvm.Cond.methodLink "SymbolMenderLaw" (9 : Nat) ({ cls := "SymbolMender", name := "<init>", desc := "()V" } : Jvm.MethodName)) ∈ lw_all := lw_g (lw_at lw_m0 5 rfl) rfl
theorem q66 : (Jvm.Cond.methodLink "SymbolMenderLaw" (13 : Nat) ({ cls := "SymbolMender", name := "send", desc := "(III)I" } : Jvm.MethodName)) ∈ lw_all := lw_g (lw_at lw_m0 50 rfl) rfl
theorem q81 : (Jvm.Cond.methodLink "SymbolMenderLaw" (18 : Nat) ({ cls := "SymbolMender", name := "change", desc := "(II)I" } : Jvm.MethodName)) ∈ lw_all := lw_g (lw_at lw_m0 65 rfl) rfl
theorem q88 : (Jvm.Cond.methodLink "SymbolMenderLaw" (23 : Nat) ({ cls := "SymbolMender", name := "lose", desc := "(IZ)I" } : Jvm.MethodName)) ∈ lw_all := lw_g (lw_at lw_m0 72 rfl) rfl
theorem q92 : (Jvm.Cond.methodLink "SymbolMenderLaw" (28 : Nat) ({ cls := "SymbolMender", name := "at", desc := "(I)I" } : Jvm.MethodName)) ∈ lw_all := lw_g (lw_at lw_m0 76 rfl) rfl
theorem q96 : (Jvm.Cond.methodLink "SymbolMenderLaw" (33 : Nat) ({ cls := "SymbolMender", name := "fits", desc := "()I" } : Jvm.MethodName)) ∈ lw_all := lw_g (lw_at lw_m0 80 rfl) rfl
theorem q132 : (Jvm.Cond.methodLink "SymbolMenderLaw" (38 : Nat) ({ cls := "SymbolMender", name := "mended", desc := "(I)I" } : Jvm.MethodName)) ∈ lw_all := lw_g (lw_at lw_m0 116 rfl) rfl
theorem q136 : (Jvm.Cond.methodLink "SymbolMenderLaw" (42 : Nat) ({ cls := "SymbolMender", name := "wrong", desc := "()I" } : Jvm.MethodName)) ∈ lw_all := lw_g (lw_at lw_m0 120 rfl) rfl
theorem q140 : (Jvm.Cond.methodLink "SymbolMenderLaw" (46 : Nat) ({ cls := "SymbolMender", name := "mend", desc := "()I" } : Jvm.MethodName)) ∈ lw_all := lw_g (lw_at lw_m0 124 rfl) rfl
theorem q144 : (Jvm.Cond.methodLink "SymbolMenderLaw" (50 : Nat) ({ cls := "SymbolMender", name := "product", desc := "(II)I" } : Jvm.MethodName)) ∈ lw_all := lw_g (lw_at lw_m0 128 rfl) rfl
theorem q148 : (Jvm.Cond.methodLink "SymbolMenderLaw" (54 : Nat) ({ cls := "SymbolMender", name := "value", desc := "(I)I" } : Jvm.MethodName)) ∈ lw_all := lw_g (lw_at lw_m0 132 rfl) rfl
theorem q152 : (Jvm.Cond.classLink "SymbolMenderLaw" (10 : Nat) "SymbolMenderModel") ∈ lw_all := lw_g (lw_at lw_m0 136 rfl) rfl
theorem q154 : (Jvm.Cond.methodLink "SymbolMenderLaw" (12 : Nat) ({ cls := "SymbolMenderModel", name := "<init>", desc := "()V" } : Jvm.MethodName)) ∈ lw_all := lw_g (lw_at lw_m0 138 rfl) rfl
theorem q178 : (Jvm.Cond.methodLink "SymbolMenderLaw" (17 : Nat) ({ cls := "SymbolMenderModel", name := "send", desc := "(III)I" } : Jvm.MethodName)) ∈ lw_all := lw_g (lw_at lw_m0 162 rfl) rfl
theorem q193 : (Jvm.Cond.methodLink "SymbolMenderLaw" (22 : Nat) ({ cls := "SymbolMenderModel", name := "change", desc := "(II)I" } : Jvm.MethodName)) ∈ lw_all := lw_g (lw_at lw_m0 177 rfl) rfl
theorem q200 : (Jvm.Cond.methodLink "SymbolMenderLaw" (27 : Nat) ({ cls := "SymbolMenderModel", name := "lose", desc := "(IZ)I" } : Jvm.MethodName)) ∈ lw_all := lw_g (lw_at lw_m0 184 rfl) rfl
theorem q204 : (Jvm.Cond.methodLink "SymbolMenderLaw" (32 : Nat) ({ cls := "SymbolMenderModel", name := "at", desc := "(I)I" } : Jvm.MethodName)) ∈ lw_all := lw_g (lw_at lw_m0 188 rfl) rfl
theorem q208 : (Jvm.Cond.methodLink "SymbolMenderLaw" (37 : Nat) ({ cls := "SymbolMenderModel", name := "fits", desc := "()I" } : Jvm.MethodName)) ∈ lw_all := lw_g (lw_at lw_m0 192 rfl) rfl
theorem q224 : (Jvm.Cond.methodLink "SymbolMenderLaw" (41 : Nat) ({ cls := "SymbolMenderModel", name := "mended", desc := "(I)I" } : Jvm.MethodName)) ∈ lw_all := lw_g (lw_at lw_m0 208 rfl) rfl
theorem q228 : (Jvm.Cond.methodLink "SymbolMenderLaw" (45 : Nat) ({ cls := "SymbolMenderModel", name := "wrong", desc := "()I" } : Jvm.MethodName)) ∈ lw_all := lw_g (lw_at lw_m0 212 rfl) rfl
theorem q232 : (Jvm.Cond.methodLink "SymbolMenderLaw" (49 : Nat) ({ cls := "SymbolMenderModel", name := "mend", desc := "()I" } : Jvm.MethodName)) ∈ lw_all := lw_g (lw_at lw_m0 216 rfl) rfl
theorem q236 : (Jvm.Cond.methodLink "SymbolMenderLaw" (53 : Nat) ({ cls := "SymbolMenderModel", name := "product", desc := "(II)I" } : Jvm.MethodName)) ∈ lw_all := lw_g (lw_at lw_m0 220 rfl) rfl
theorem q240 : (Jvm.Cond.methodLink "SymbolMenderLaw" (57 : Nat) ({ cls := "SymbolMenderModel", name := "value", desc := "(I)I" } : Jvm.MethodName)) ∈ lw_all := lw_g (lw_at lw_m0 224 rfl) rfl
/-! SymbolMender -/
def RX0 : String := "SymbolMender"
def TX0 : u_T := fun k => match k with
  | 0 => ("SymbolMender", "word", "[I", true)
  | 1 => ("SymbolMender", "missing", "[Z", true)
  | 2 => ("SymbolMender", "power", "[I", true)
  | 3 => ("SymbolMender", "exponent", "[I", true)
  | 4 => ("SymbolMender", "syndrome", "[I", true)
  | 5 => ("SymbolMender", "rule", "[I", true)
  | 6 => ("SymbolMender", "helper", "[I", true)
  | 7 => ("SymbolMender", "before", "[I", true)
  | 8 => ("SymbolMender", "numerator", "[I", true)
  | 9 => ("SymbolMender", "length", "I", false)
  | 10 => ("SymbolMender", "whole", "[I", true)
  | _ => ("SymbolMender", "differences", "I", false)
def tyX0 : Nat → FieldType := fun k => match k with
  | 0 => .array .int
  | 1 => .array .boolean
  | 2 => .array .int
  | 3 => .array .int
  | 4 => .array .int
  | 5 => .array .int
  | 6 => .array .int
  | 7 => .array .int
  | 8 => .array .int
  | 9 => .int
  | 10 => .array .int
  | _ => .int
abbrev wsX00 : List Cond := u_ws RX0 TX0 12
theorem nmX0 : ∀ a, a < 12 → ∀ b, b < 12 → a ≠ b → (TX0 a).2.1 ≠ (TX0 b).2.1 := by decide +kernel
theorem tyX0_ok : ∀ k, k < 12 → parseFieldDescriptor (TX0 k).2.2.1 = some (tyX0 k) := by decide +kernel
abbrev cX0_init : ByteArray := prog_1_method_1_code
def yX0_init : MethodName := ⟨RX0, "<init>", "()V"⟩
abbrev cX0_send : ByteArray := prog_1_method_2_code
def yX0_send : MethodName := ⟨RX0, "send", "(III)I"⟩
abbrev cX0_isSymbol : ByteArray := prog_1_method_13_code
def yX0_isSymbol : MethodName := ⟨RX0, "isSymbol", "(I)Z"⟩
abbrev cX0_divideAway : ByteArray := prog_1_method_17_code
def yX0_divideAway : MethodName := ⟨RX0, "divideAway", "()V"⟩
abbrev cX0_times : ByteArray := prog_1_method_14_code
def yX0_times : MethodName := ⟨RX0, "times", "(II)I"⟩
abbrev cX0_change : ByteArray := prog_1_method_3_code
def yX0_change : MethodName := ⟨RX0, "change", "(II)I"⟩
abbrev cX0_isPlace : ByteArray := prog_1_method_12_code
def yX0_isPlace : MethodName := ⟨RX0, "isPlace", "(I)Z"⟩
abbrev cX0_lose : ByteArray := prog_1_method_4_code
def yX0_lose : MethodName := ⟨RX0, "lose", "(IZ)I"⟩
abbrev cX0_at : ByteArray := prog_1_method_5_code
def yX0_at : MethodName := ⟨RX0, "at", "(I)I"⟩
abbrev cX0_fits : ByteArray := prog_1_method_6_code
def yX0_fits : MethodName := ⟨RX0, "fits", "()I"⟩
abbrev cX0_findWhole : ByteArray := prog_1_method_18_code
def yX0_findWhole : MethodName := ⟨RX0, "findWhole", "()Z"⟩
abbrev cX0_valueOf : ByteArray := prog_1_method_16_code
def yX0_valueOf : MethodName := ⟨RX0, "valueOf", "([II)I"⟩
abbrev cX0_buildRule : ByteArray := prog_1_method_19_code
def yX0_buildRule : MethodName := ⟨RX0, "buildRule", "(I)V"⟩
abbrev cX0_lengthen : ByteArray := prog_1_method_20_code
def yX0_lengthen : MethodName := ⟨RX0, "lengthen", "(III)V"⟩
abbrev cX0_over : ByteArray := prog_1_method_15_code
def yX0_over : MethodName := ⟨RX0, "over", "(II)I"⟩
abbrev cX0_findNumerator : ByteArray := prog_1_method_21_code
def yX0_findNumerator : MethodName := ⟨RX0, "findNumerator", "()V"⟩
abbrev cX0_correct : ByteArray := prog_1_method_22_code
def yX0_correct : MethodName := ⟨RX0, "correct", "(I)V"⟩
abbrev cX0_isRight : ByteArray := prog_1_method_23_code
def yX0_isRight : MethodName := ⟨RX0, "isRight", "(I)Z"⟩
abbrev cX0_mended : ByteArray := prog_1_method_7_code
def yX0_mended : MethodName := ⟨RX0, "mended", "(I)I"⟩
abbrev cX0_wrong : ByteArray := prog_1_method_8_code
def yX0_wrong : MethodName := ⟨RX0, "wrong", "()I"⟩
abbrev cX0_mend : ByteArray := prog_1_method_9_code
def yX0_mend : MethodName := ⟨RX0, "mend", "()I"⟩
abbrev cX0_product : ByteArray := prog_1_method_10_code
def yX0_product : MethodName := ⟨RX0, "product", "(II)I"⟩
abbrev cX0_value : ByteArray := prog_1_method_11_code
def yX0_value : MethodName := ⟨RX0, "value", "(I)I"⟩
theorem q17 : (Jvm.Cond.initialized "SymbolMender") ∈ lw_all := lw_g (lw_at lw_m0 1 rfl) rfl
theorem q20 : (Jvm.Cond.instantiable "SymbolMender" (12 : Nat)) ∈ lw_all := lw_g (lw_at lw_m0 4 rfl) rfl
theorem q22 : (Jvm.Cond.instanceMethod ({ cls := "SymbolMender", name := "<init>", desc := "()V" } : Jvm.MethodName)) ∈ lw_all := lw_g (lw_at lw_m0 6 rfl) rfl
theorem q23 : (Jvm.Cond.code ({ cls := "SymbolMender", name := "<init>", desc := "()V" } : Jvm.MethodName) prog_1_method_1_code (3 : Nat) (Option.none : Option Jvm.ClassFile.FieldType)) ∈ lw_all := lw_g (lw_at lw_m0 7 rfl) rfl
theorem q24 : (Jvm.Cond.methodLink "SymbolMender" (1 : Nat) ({ cls := "java/lang/Object", name := "<init>", desc := "()V" } : Jvm.MethodName)) ∈ lw_all := lw_g (lw_at lw_m0 8 rfl) rfl
theorem q27 : (Jvm.Cond.fieldLink "SymbolMender" (7 : Nat) "SymbolMender" "word" "[I") ∈ lw_all := lw_g (lw_at lw_m0 11 rfl) rfl
theorem q28 : (Jvm.Cond.fieldLink "SymbolMender" (13 : Nat) "SymbolMender" "missing" "[Z") ∈ lw_all := lw_g (lw_at lw_m0 12 rfl) rfl
theorem q29 : (Jvm.Cond.fieldLink "SymbolMender" (17 : Nat) "SymbolMender" "power" "[I") ∈ lw_all := lw_g (lw_at lw_m0 13 rfl) rfl
theorem q30 : (Jvm.Cond.fieldLink "SymbolMender" (20 : Nat) "SymbolMender" "exponent" "[I") ∈ lw_all := lw_g (lw_at lw_m0 14 rfl) rfl
theorem q31 : (Jvm.Cond.fieldLink "SymbolMender" (23 : Nat) "SymbolMender" "syndrome" "[I") ∈ lw_all := lw_g (lw_at lw_m0 15 rfl) rfl
theorem q32 : (Jvm.Cond.fieldLink "SymbolMender" (26 : Nat) "SymbolMender" "rule" "[I") ∈ lw_all := lw_g (lw_at lw_m0 16 rfl) rfl
theorem q33 : (Jvm.Cond.fieldLink "SymbolMender" (29 : Nat) "SymbolMender" "helper" "[I") ∈ lw_all := lw_g (lw_at lw_m0 17 rfl) rfl
theorem q34 : (Jvm.Cond.fieldLink "SymbolMender" (32 : Nat) "SymbolMender" "before" "[I") ∈ lw_all := lw_g (lw_at lw_m0 18 rfl) rfl
theorem q35 : (Jvm.Cond.fieldLink "SymbolMender" (35 : Nat) "SymbolMender" "numerator" "[I") ∈ lw_all := lw_g (lw_at lw_m0 19 rfl) rfl
theorem q36 : (Jvm.Cond.fieldLink "SymbolMender" (80 : Nat) "SymbolMender" "length" "I") ∈ lw_all := lw_g (lw_at lw_m0 20 rfl) rfl
theorem q37 : (Jvm.Cond.fieldLink "SymbolMender" (38 : Nat) "SymbolMender" "whole" "[I") ∈ lw_all := lw_g (lw_at lw_m0 21 rfl) rfl
theorem q38 : (Jvm.Cond.fieldLink "SymbolMender" (55 : Nat) "SymbolMender" "differences" "I") ∈ lw_all := lw_g (lw_at lw_m0 22 rfl) rfl
theorem q39 : (Jvm.Cond.laysFinal "SymbolMender" "SymbolMender" "word" "[I") ∈ lw_all := lw_g (lw_at lw_m0 23 rfl) rfl
theorem q40 : (Jvm.Cond.soleField "SymbolMender" "word") ∈ lw_all := lw_g (lw_at lw_m0 24 rfl) rfl
theorem q41 : (Jvm.Cond.laysFinal "SymbolMender" "SymbolMender" "missing" "[Z") ∈ lw_all := lw_g (lw_at lw_m0 25 rfl) rfl
theorem q42 : (Jvm.Cond.soleField "SymbolMender" "missing") ∈ lw_all := lw_g (lw_at lw_m0 26 rfl) rfl
theorem q43 : (Jvm.Cond.laysFinal "SymbolMender" "SymbolMender" "power" "[I") ∈ lw_all := lw_g (lw_at lw_m0 27 rfl) rfl
theorem q44 : (Jvm.Cond.soleField "SymbolMender" "power") ∈ lw_all := lw_g (lw_at lw_m0 28 rfl) rfl
theorem q45 : (Jvm.Cond.laysFinal "SymbolMender" "SymbolMender" "exponent" "[I") ∈ lw_all := lw_g (lw_at lw_m0 29 rfl) rfl
theorem q46 : (Jvm.Cond.soleField "SymbolMender" "exponent") ∈ lw_all := lw_g (lw_at lw_m0 30 rfl) rfl
theorem q47 : (Jvm.Cond.laysFinal "SymbolMender" "SymbolMender" "syndrome" "[I") ∈ lw_all := lw_g (lw_at lw_m0 31 rfl) rfl
theorem q48 : (Jvm.Cond.soleField "SymbolMender" "syndrome") ∈ lw_all := lw_g (lw_at lw_m0 32 rfl) rfl
theorem q49 : (Jvm.Cond.laysFinal "SymbolMender" "SymbolMender" "rule" "[I") ∈ lw_all := lw_g (lw_at lw_m0 33 rfl) rfl
theorem q50 : (Jvm.Cond.soleField "SymbolMender" "rule") ∈ lw_all := lw_g (lw_at lw_m0 34 rfl) rfl
theorem q51 : (Jvm.Cond.laysFinal "SymbolMender" "SymbolMender" "helper" "[I") ∈ lw_all := lw_g (lw_at lw_m0 35 rfl) rfl
theorem q52 : (Jvm.Cond.soleField "SymbolMender" "helper") ∈ lw_all := lw_g (lw_at lw_m0 36 rfl) rfl
theorem q53 : (Jvm.Cond.laysFinal "SymbolMender" "SymbolMender" "before" "[I") ∈ lw_all := lw_g (lw_at lw_m0 37 rfl) rfl
theorem q54 : (Jvm.Cond.soleField "SymbolMender" "before") ∈ lw_all := lw_g (lw_at lw_m0 38 rfl) rfl
theorem q55 : (Jvm.Cond.laysFinal "SymbolMender" "SymbolMender" "numerator" "[I") ∈ lw_all := lw_g (lw_at lw_m0 39 rfl) rfl
theorem q56 : (Jvm.Cond.soleField "SymbolMender" "numerator") ∈ lw_all := lw_g (lw_at lw_m0 40 rfl) rfl
theorem q57 : (Jvm.Cond.lays "SymbolMender" "SymbolMender" "length" "I") ∈ lw_all := lw_g (lw_at lw_m0 41 rfl) rfl
theorem q58 : (Jvm.Cond.soleField "SymbolMender" "length") ∈ lw_all := lw_g (lw_at lw_m0 42 rfl) rfl
theorem q59 : (Jvm.Cond.laysFinal "SymbolMender" "SymbolMender" "whole" "[I") ∈ lw_all := lw_g (lw_at lw_m0 43 rfl) rfl
theorem q60 : (Jvm.Cond.soleField "SymbolMender" "whole") ∈ lw_all := lw_g (lw_at lw_m0 44 rfl) rfl
theorem q61 : (Jvm.Cond.lays "SymbolMender" "SymbolMender" "differences" "I") ∈ lw_all := lw_g (lw_at lw_m0 45 rfl) rfl
theorem q62 : (Jvm.Cond.soleField "SymbolMender" "differences") ∈ lw_all := lw_g (lw_at lw_m0 46 rfl) rfl
theorem q63 : (Jvm.Cond.superclass "SymbolMender" "java/lang/Object") ∈ lw_all := lw_g (lw_at lw_m0 47 rfl) rfl
theorem q67 : (Jvm.Cond.instanceMethod ({ cls := "SymbolMender", name := "send", desc := "(III)I" } : Jvm.MethodName)) ∈ lw_all := lw_g (lw_at lw_m0 51 rfl) rfl
theorem q68 : (Jvm.Cond.selects "SymbolMender" ({ cls := "SymbolMender", name := "send", desc := "(III)I" } : Jvm.MethodName) ({ cls := "SymbolMender", name := "send", desc := "(III)I" } : Jvm.MethodName)) ∈ lw_all := lw_g (lw_at lw_m0 52 rfl) rfl
theorem q69 : (Jvm.Cond.code ({ cls := "SymbolMender", name := "send", desc := "(III)I" } : Jvm.MethodName) prog_1_method_2_code (5 : Nat) (Option.some Jvm.ClassFile.FieldType.int)) ∈ lw_all := lw_g (lw_at lw_m0 53 rfl) rfl
theorem q70 : (Jvm.Cond.methodLink "SymbolMender" (41 : Nat) ({ cls := "SymbolMender", name := "isSymbol", desc := "(I)Z" } : Jvm.MethodName)) ∈ lw_all := lw_g (lw_at lw_m0 54 rfl) rfl
theorem q71 : (Jvm.Cond.static ({ cls := "SymbolMender", name := "isSymbol", desc := "(I)Z" } : Jvm.MethodName)) ∈ lw_all := lw_g (lw_at lw_m0 55 rfl) rfl
theorem q72 : (Jvm.Cond.code ({ cls := "SymbolMender", name := "isSymbol", desc := "(I)Z" } : Jvm.MethodName) prog_1_method_13_code (1 : Nat) (Option.some Jvm.ClassFile.FieldType.boolean)) ∈ lw_all := lw_g (lw_at lw_m0 56 rfl) rfl
theorem q73 : (Jvm.Cond.methodLink "SymbolMender" (45 : Nat) ({ cls := "SymbolMender", name := "divideAway", desc := "()V" } : Jvm.MethodName)) ∈ lw_all := lw_g (lw_at lw_m0 57 rfl) rfl
theorem q74 : (Jvm.Cond.privateMethod ({ cls := "SymbolMender", name := "divideAway", desc := "()V" } : Jvm.MethodName)) ∈ lw_tbl := lw_at lw_m0 58 rfl
theorem q75 : (Jvm.Cond.instanceMethod ({ cls := "SymbolMender", name := "divideAway", desc := "()V" } : Jvm.MethodName)) ∈ lw_all := lw_g (lw_at lw_m0 59 rfl) rfl
theorem q76 : (Jvm.Cond.code ({ cls := "SymbolMender", name := "divideAway", desc := "()V" } : Jvm.MethodName) prog_1_method_17_code (7 : Nat) (Option.none : Option Jvm.ClassFile.FieldType)) ∈ lw_all := lw_g (lw_at lw_m0 60 rfl) rfl
theorem q77 : (Jvm.Cond.methodLink "SymbolMender" (59 : Nat) ({ cls := "SymbolMender", name := "times", desc := "(II)I" } : Jvm.MethodName)) ∈ lw_all := lw_g (lw_at lw_m0 61 rfl) rfl
theorem q78 : (Jvm.Cond.privateMethod ({ cls := "SymbolMender", name := "times", desc := "(II)I" } : Jvm.MethodName)) ∈ lw_tbl := lw_at lw_m0 62 rfl
theorem q79 : (Jvm.Cond.instanceMethod ({ cls := "SymbolMender", name := "times", desc := "(II)I" } : Jvm.MethodName)) ∈ lw_all := lw_g (lw_at lw_m0 63 rfl) rfl
theorem q80 : (Jvm.Cond.code ({ cls := "SymbolMender", name := "times", desc := "(II)I" } : Jvm.MethodName) prog_1_method_14_code (3 : Nat) (Option.some Jvm.ClassFile.FieldType.int)) ∈ lw_all := lw_g (lw_at lw_m0 64 rfl) rfl
theorem q82 : (Jvm.Cond.instanceMethod ({ cls := "SymbolMender", name := "change", desc := "(II)I" } : Jvm.MethodName)) ∈ lw_all := lw_g (lw_at lw_m0 66 rfl) rfl
theorem q83 : (Jvm.Cond.selects "SymbolMender" ({ cls := "SymbolMender", name := "change", desc := "(II)I" } : Jvm.MethodName) ({ cls := "SymbolMender", name := "change", desc := "(II)I" } : Jvm.MethodName)) ∈ lw_all := lw_g (lw_at lw_m0 67 rfl) rfl
theorem q84 : (Jvm.Cond.code ({ cls := "SymbolMender", name := "change", desc := "(II)I" } : Jvm.MethodName) prog_1_method_3_code (4 : Nat) (Option.some Jvm.ClassFile.FieldType.int)) ∈ lw_all := lw_g (lw_at lw_m0 68 rfl) rfl
theorem q85 : (Jvm.Cond.methodLink "SymbolMender" (48 : Nat) ({ cls := "SymbolMender", name := "isPlace", desc := "(I)Z" } : Jvm.MethodName)) ∈ lw_all := lw_g (lw_at lw_m0 69 rfl) rfl
theorem q86 : (Jvm.Cond.static ({ cls := "SymbolMender", name := "isPlace", desc := "(I)Z" } : Jvm.MethodName)) ∈ lw_all := lw_g (lw_at lw_m0 70 rfl) rfl
theorem q87 : (Jvm.Cond.code ({ cls := "SymbolMender", name := "isPlace", desc := "(I)Z" } : Jvm.MethodName) prog_1_method_12_code (1 : Nat) (Option.some Jvm.ClassFile.FieldType.boolean)) ∈ lw_all := lw_g (lw_at lw_m0 71 rfl) rfl
theorem q89 : (Jvm.Cond.instanceMethod ({ cls := "SymbolMender", name := "lose", desc := "(IZ)I" } : Jvm.MethodName)) ∈ lw_all := lw_g (lw_at lw_m0 73 rfl) rfl
theorem q90 : (Jvm.Cond.selects "SymbolMender" ({ cls := "SymbolMender", name := "lose", desc := "(IZ)I" } : Jvm.MethodName) ({ cls := "SymbolMender", name := "lose", desc := "(IZ)I" } : Jvm.MethodName)) ∈ lw_all := lw_g (lw_at lw_m0 74 rfl) rfl
theorem q91 : (Jvm.Cond.code ({ cls := "SymbolMender", name := "lose", desc := "(IZ)I" } : Jvm.MethodName) prog_1_method_4_code (4 : Nat) (Option.some Jvm.ClassFile.FieldType.int)) ∈ lw_all := lw_g (lw_at lw_m0 75 rfl) rfl
theorem q93 : (Jvm.Cond.instanceMethod ({ cls := "SymbolMender", name := "at", desc := "(I)I" } : Jvm.MethodName)) ∈ lw_all := lw_g (lw_at lw_m0 77 rfl) rfl
theorem q94 : (Jvm.Cond.selects "SymbolMender" ({ cls := "SymbolMender", name := "at", desc := "(I)I" } : Jvm.MethodName) ({ cls := "SymbolMender", name := "at", desc := "(I)I" } : Jvm.MethodName)) ∈ lw_all := lw_g (lw_at lw_m0 78 rfl) rfl
theorem q95 : (Jvm.Cond.code ({ cls := "SymbolMender", name := "at", desc := "(I)I" } : Jvm.MethodName) prog_1_method_5_code (2 : Nat) (Option.some Jvm.ClassFile.FieldType.int)) ∈ lw_all := lw_g (lw_at lw_m0 79 rfl) rfl
theorem q97 : (Jvm.Cond.instanceMethod ({ cls := "SymbolMender", name := "fits", desc := "()I" } : Jvm.MethodName)) ∈ lw_all := lw_g (lw_at lw_m0 81 rfl) rfl
theorem q98 : (Jvm.Cond.selects "SymbolMender" ({ cls := "SymbolMender", name := "fits", desc := "()I" } : Jvm.MethodName) ({ cls := "SymbolMender", name := "fits", desc := "()I" } : Jvm.MethodName)) ∈ lw_all := lw_g (lw_at lw_m0 82 rfl) rfl
theorem q99 : (Jvm.Cond.code ({ cls := "SymbolMender", name := "fits", desc := "()I" } : Jvm.MethodName) prog_1_method_6_code (1 : Nat) (Option.some Jvm.ClassFile.FieldType.int)) ∈ lw_all := lw_g (lw_at lw_m0 83 rfl) rfl
theorem q100 : (Jvm.Cond.methodLink "SymbolMender" (51 : Nat) ({ cls := "SymbolMender", name := "findWhole", desc := "()Z" } : Jvm.MethodName)) ∈ lw_all := lw_g (lw_at lw_m0 84 rfl) rfl
theorem q101 : (Jvm.Cond.privateMethod ({ cls := "SymbolMender", name := "findWhole", desc := "()Z" } : Jvm.MethodName)) ∈ lw_tbl := lw_at lw_m0 85 rfl
theorem q102 : (Jvm.Cond.instanceMethod ({ cls := "SymbolMender", name := "findWhole", desc := "()Z" } : Jvm.MethodName)) ∈ lw_all := lw_g (lw_at lw_m0 86 rfl) rfl
theorem q103 : (Jvm.Cond.code ({ cls := "SymbolMender", name := "findWhole", desc := "()Z" } : Jvm.MethodName) prog_1_method_18_code (3 : Nat) (Option.some Jvm.ClassFile.FieldType.boolean)) ∈ lw_all := lw_g (lw_at lw_m0 87 rfl) rfl
theorem q104 : (Jvm.Cond.methodLink "SymbolMender" (63 : Nat) ({ cls := "SymbolMender", name := "valueOf", desc := "([II)I" } : Jvm.MethodName)) ∈ lw_all := lw_g (lw_at lw_m0 88 rfl) rfl
theorem q105 : (Jvm.Cond.privateMethod ({ cls := "SymbolMender", name := "valueOf", desc := "([II)I" } : Jvm.MethodName)) ∈ lw_tbl := lw_at lw_m0 89 rfl
theorem q106 : (Jvm.Cond.instanceMethod ({ cls := "SymbolMender", name := "valueOf", desc := "([II)I" } : Jvm.MethodName)) ∈ lw_all := lw_g (lw_at lw_m0 90 rfl) rfl
theorem q107 : (Jvm.Cond.code ({ cls := "SymbolMender", name := "valueOf", desc := "([II)I" } : Jvm.MethodName) prog_1_method_16_code (5 : Nat) (Option.some Jvm.ClassFile.FieldType.int)) ∈ lw_all := lw_g (lw_at lw_m0 91 rfl) rfl
theorem q108 : (Jvm.Cond.methodLink "SymbolMender" (67 : Nat) ({ cls := "SymbolMender", name := "buildRule", desc := "(I)V" } : Jvm.MethodName)) ∈ lw_all := lw_g (lw_at lw_m0 92 rfl) rfl
theorem q109 : (Jvm.Cond.privateMethod ({ cls := "SymbolMender", name := "buildRule", desc := "(I)V" } : Jvm.MethodName)) ∈ lw_tbl := lw_at lw_m0 93 rfl
theorem q110 : (Jvm.Cond.instanceMethod ({ cls := "SymbolMender", name := "buildRule", desc := "(I)V" } : Jvm.MethodName)) ∈ lw_all := lw_g (lw_at lw_m0 94 rfl) rfl
theorem q111 : (Jvm.Cond.code ({ cls := "SymbolMender", name := "buildRule", desc := "(I)V" } : Jvm.MethodName) prog_1_method_19_code (5 : Nat) (Option.none : Option Jvm.ClassFile.FieldType)) ∈ lw_all := lw_g (lw_at lw_m0 95 rfl) rfl
theorem q112 : (Jvm.Cond.methodLink "SymbolMender" (83 : Nat) ({ cls := "SymbolMender", name := "lengthen", desc := "(III)V" } : Jvm.MethodName)) ∈ lw_all := lw_g (lw_at lw_m0 96 rfl) rfl
theorem q113 : (Jvm.Cond.privateMethod ({ cls := "SymbolMender", name := "lengthen", desc := "(III)V" } : Jvm.MethodName)) ∈ lw_tbl := lw_at lw_m0 97 rfl
theorem q114 : (Jvm.Cond.instanceMethod ({ cls := "SymbolMender", name := "lengthen", desc := "(III)V" } : Jvm.MethodName)) ∈ lw_all := lw_g (lw_at lw_m0 98 rfl) rfl
theorem q115 : (Jvm.Cond.code ({ cls := "SymbolMender", name := "lengthen", desc := "(III)V" } : Jvm.MethodName) prog_1_method_20_code (6 : Nat) (Option.none : Option Jvm.ClassFile.FieldType)) ∈ lw_all := lw_g (lw_at lw_m0 99 rfl) rfl
theorem q116 : (Jvm.Cond.methodLink "SymbolMender" (87 : Nat) ({ cls := "SymbolMender", name := "over", desc := "(II)I" } : Jvm.MethodName)) ∈ lw_all := lw_g (lw_at lw_m0 100 rfl) rfl
theorem q117 : (Jvm.Cond.privateMethod ({ cls := "SymbolMender", name := "over", desc := "(II)I" } : Jvm.MethodName)) ∈ lw_tbl := lw_at lw_m0 101 rfl
theorem q118 : (Jvm.Cond.instanceMethod ({ cls := "SymbolMender", name := "over", desc := "(II)I" } : Jvm.MethodName)) ∈ lw_all := lw_g (lw_at lw_m0 102 rfl) rfl
theorem q119 : (Jvm.Cond.code ({ cls := "SymbolMender", name := "over", desc := "(II)I" } : Jvm.MethodName) prog_1_method_15_code (3 : Nat) (Option.some Jvm.ClassFile.FieldType.int)) ∈ lw_all := lw_g (lw_at lw_m0 103 rfl) rfl
theorem q120 : (Jvm.Cond.methodLink "SymbolMender" (71 : Nat) ({ cls := "SymbolMender", name := "findNumerator", desc := "()V" } : Jvm.MethodName)) ∈ lw_all := lw_g (lw_at lw_m0 104 rfl) rfl
theorem q121 : (Jvm.Cond.privateMethod ({ cls := "SymbolMender", name := "findNumerator", desc := "()V" } : Jvm.MethodName)) ∈ lw_tbl := lw_at lw_m0 105 rfl
theorem q122 : (Jvm.Cond.instanceMethod ({ cls := "SymbolMender", name := "findNumerator", desc := "()V" } : Jvm.MethodName)) ∈ lw_all := lw_g (lw_at lw_m0 106 rfl) rfl
theorem q123 : (Jvm.Cond.code ({ cls := "SymbolMender", name := "findNumerator", desc := "()V" } : Jvm.MethodName) prog_1_method_21_code (3 : Nat) (Option.none : Option Jvm.ClassFile.FieldType)) ∈ lw_all := lw_g (lw_at lw_m0 107 rfl) rfl
theorem q124 : (Jvm.Cond.methodLink "SymbolMender" (74 : Nat) ({ cls := "SymbolMender", name := "correct", desc := "(I)V" } : Jvm.MethodName)) ∈ lw_all := lw_g (lw_at lw_m0 108 rfl) rfl
theorem q125 : (Jvm.Cond.privateMethod ({ cls := "SymbolMender", name := "correct", desc := "(I)V" } : Jvm.MethodName)) ∈ lw_tbl := lw_at lw_m0 109 rfl
theorem q126 : (Jvm.Cond.instanceMethod ({ cls := "SymbolMender", name := "correct", desc := "(I)V" } : Jvm.MethodName)) ∈ lw_all := lw_g (lw_at lw_m0 110 rfl) rfl
theorem q127 : (Jvm.Cond.code ({ cls := "SymbolMender", name := "correct", desc := "(I)V" } : Jvm.MethodName) prog_1_method_22_code (9 : Nat) (Option.none : Option Jvm.ClassFile.FieldType)) ∈ lw_all := lw_g (lw_at lw_m0 111 rfl) rfl
theorem q128 : (Jvm.Cond.methodLink "SymbolMender" (77 : Nat) ({ cls := "SymbolMender", name := "isRight", desc := "(I)Z" } : Jvm.MethodName)) ∈ lw_all := lw_g (lw_at lw_m0 112 rfl) rfl
theorem q129 : (Jvm.Cond.privateMethod ({ cls := "SymbolMender", name := "isRight", desc := "(I)Z" } : Jvm.MethodName)) ∈ lw_tbl := lw_at lw_m0 113 rfl
theorem q130 : (Jvm.Cond.instanceMethod ({ cls := "SymbolMender", name := "isRight", desc := "(I)Z" } : Jvm.MethodName)) ∈ lw_all := lw_g (lw_at lw_m0 114 rfl) rfl
theorem q131 : (Jvm.Cond.code ({ cls := "SymbolMender", name := "isRight", desc := "(I)Z" } : Jvm.MethodName) prog_1_method_23_code (4 : Nat) (Option.some Jvm.ClassFile.FieldType.boolean)) ∈ lw_all := lw_g (lw_at lw_m0 115 rfl) rfl
theorem q133 : (Jvm.Cond.instanceMethod ({ cls := "SymbolMender", name := "mended", desc := "(I)I" } : Jvm.MethodName)) ∈ lw_all := lw_g (lw_at lw_m0 117 rfl) rfl
theorem q134 : (Jvm.Cond.selects "SymbolMender" ({ cls := "SymbolMender", name := "mended", desc := "(I)I" } : Jvm.MethodName) ({ cls := "SymbolMender", name := "mended", desc := "(I)I" } : Jvm.MethodName)) ∈ lw_all := lw_g (lw_at lw_m0 118 rfl) rfl
theorem q135 : (Jvm.Cond.code ({ cls := "SymbolMender", name := "mended", desc := "(I)I" } : Jvm.MethodName) prog_1_method_7_code (2 : Nat) (Option.some Jvm.ClassFile.FieldType.int)) ∈ lw_all := lw_g (lw_at lw_m0 119 rfl) rfl
theorem q137 : (Jvm.Cond.instanceMethod ({ cls := "SymbolMender", name := "wrong", desc := "()I" } : Jvm.MethodName)) ∈ lw_all := lw_g (lw_at lw_m0 121 rfl) rfl
theorem q138 : (Jvm.Cond.selects "SymbolMender" ({ cls := "SymbolMender", name := "wrong", desc := "()I" } : Jvm.MethodName) ({ cls := "SymbolMender", name := "wrong", desc := "()I" } : Jvm.MethodName)) ∈ lw_all := lw_g (lw_at lw_m0 122 rfl) rfl
theorem q139 : (Jvm.Cond.code ({ cls := "SymbolMender", name := "wrong", desc := "()I" } : Jvm.MethodName) prog_1_method_8_code (1 : Nat) (Option.some Jvm.ClassFile.FieldType.int)) ∈ lw_all := lw_g (lw_at lw_m0 123 rfl) rfl
theorem q141 : (Jvm.Cond.instanceMethod ({ cls := "SymbolMender", name := "mend", desc := "()I" } : Jvm.MethodName)) ∈ lw_all := lw_g (lw_at lw_m0 125 rfl) rfl
theorem q142 : (Jvm.Cond.selects "SymbolMender" ({ cls := "SymbolMender", name := "mend", desc := "()I" } : Jvm.MethodName) ({ cls := "SymbolMender", name := "mend", desc := "()I" } : Jvm.MethodName)) ∈ lw_all := lw_g (lw_at lw_m0 126 rfl) rfl
theorem q143 : (Jvm.Cond.code ({ cls := "SymbolMender", name := "mend", desc := "()I" } : Jvm.MethodName) prog_1_method_9_code (2 : Nat) (Option.some Jvm.ClassFile.FieldType.int)) ∈ lw_all := lw_g (lw_at lw_m0 127 rfl) rfl
theorem q145 : (Jvm.Cond.instanceMethod ({ cls := "SymbolMender", name := "product", desc := "(II)I" } : Jvm.MethodName)) ∈ lw_all := lw_g (lw_at lw_m0 129 rfl) rfl
theorem q146 : (Jvm.Cond.selects "SymbolMender" ({ cls := "SymbolMender", name := "product", desc := "(II)I" } : Jvm.MethodName) ({ cls := "SymbolMender", name := "product", desc := "(II)I" } : Jvm.MethodName)) ∈ lw_all := lw_g (lw_at lw_m0 130 rfl) rfl
theorem q147 : (Jvm.Cond.code ({ cls := "SymbolMender", name := "product", desc := "(II)I" } : Jvm.MethodName) prog_1_method_10_code (3 : Nat) (Option.some Jvm.ClassFile.FieldType.int)) ∈ lw_all := lw_g (lw_at lw_m0 131 rfl) rfl
theorem q149 : (Jvm.Cond.instanceMethod ({ cls := "SymbolMender", name := "value", desc := "(I)I" } : Jvm.MethodName)) ∈ lw_all := lw_g (lw_at lw_m0 133 rfl) rfl
theorem q150 : (Jvm.Cond.selects "SymbolMender" ({ cls := "SymbolMender", name := "value", desc := "(I)I" } : Jvm.MethodName) ({ cls := "SymbolMender", name := "value", desc := "(I)I" } : Jvm.MethodName)) ∈ lw_all := lw_g (lw_at lw_m0 134 rfl) rfl
theorem q151 : (Jvm.Cond.code ({ cls := "SymbolMender", name := "value", desc := "(I)I" } : Jvm.MethodName) prog_1_method_11_code (2 : Nat) (Option.some Jvm.ClassFile.FieldType.int)) ∈ lw_all := lw_g (lw_at lw_m0 135 rfl) rfl
theorem in_X0 : ∀ w ∈ wsX00, w ∈ lw_all := lw_in wsX00 [39, 41, 43, 45, 47, 49, 51, 53, 55, 57, 59, 61] (by decide +kernel) (by decide +kernel)
/-! SymbolMenderModel -/
def RX1 : String := "SymbolMenderModel"
def TX1 : u_T := fun k => match k with
  | 0 => ("SymbolMenderModel", "line", "[I", true)
  | 1 => ("SymbolMenderModel", "missing", "[Z", true)
  | 2 => ("SymbolMenderModel", "zeros", "[I", true)
  | _ => ("SymbolMenderModel", "made", "[I", true)
def tyX1 : Nat → FieldType := fun k => match k with
  | 0 => .array .int
  | 1 => .array .boolean
  | 2 => .array .int
  | _ => .array .int
abbrev wsX10 : List Cond := u_ws RX1 TX1 4
theorem nmX1 : ∀ a, a < 4 → ∀ b, b < 4 → a ≠ b → (TX1 a).2.1 ≠ (TX1 b).2.1 := by decide +kernel
theorem tyX1_ok : ∀ k, k < 4 → parseFieldDescriptor (TX1 k).2.2.1 = some (tyX1 k) := by decide +kernel
abbrev cX1_init : ByteArray := prog_3_method_1_code
def yX1_init : MethodName := ⟨RX1, "<init>", "()V"⟩
abbrev cX1_times : ByteArray := prog_3_method_2_code
def yX1_times : MethodName := ⟨RX1, "times", "(I)V"⟩
abbrev cX1_multiplied : ByteArray := prog_3_method_5_code
def yX1_multiplied : MethodName := ⟨RX1, "multiplied", "(II)I"⟩
abbrev cX1_send : ByteArray := prog_3_method_7_code
def yX1_send : MethodName := ⟨RX1, "send", "(III)I"⟩
abbrev cX1_badSymbol : ByteArray := prog_3_method_3_code
def yX1_badSymbol : MethodName := ⟨RX1, "badSymbol", "(I)Z"⟩
abbrev cX1_make : ByteArray := prog_3_method_6_code
def yX1_make : MethodName := ⟨RX1, "make", "(I)V"⟩
abbrev cX1_take : ByteArray := prog_3_method_8_code
def yX1_take : MethodName := ⟨RX1, "take", "()V"⟩
abbrev cX1_change : ByteArray := prog_3_method_9_code
def yX1_change : MethodName := ⟨RX1, "change", "(II)I"⟩
abbrev cX1_badPlace : ByteArray := prog_3_method_4_code
def yX1_badPlace : MethodName := ⟨RX1, "badPlace", "(I)Z"⟩
abbrev cX1_lose : ByteArray := prog_3_method_10_code
def yX1_lose : MethodName := ⟨RX1, "lose", "(IZ)I"⟩
abbrev cX1_at : ByteArray := prog_3_method_11_code
def yX1_at : MethodName := ⟨RX1, "at", "(I)I"⟩
abbrev cX1_fits : ByteArray := prog_3_method_15_code
def yX1_fits : MethodName := ⟨RX1, "fits", "()I"⟩
abbrev cX1_find : ByteArray := prog_3_method_14_code
def yX1_find : MethodName := ⟨RX1, "find", "()Z"⟩
abbrev cX1_lost : ByteArray := prog_3_method_13_code
def yX1_lost : MethodName := ⟨RX1, "lost", "()I"⟩
abbrev cX1_different : ByteArray := prog_3_method_12_code
def yX1_different : MethodName := ⟨RX1, "different", "()I"⟩
abbrev cX1_mended : ByteArray := prog_3_method_16_code
def yX1_mended : MethodName := ⟨RX1, "mended", "(I)I"⟩
abbrev cX1_wrong : ByteArray := prog_3_method_17_code
def yX1_wrong : MethodName := ⟨RX1, "wrong", "()I"⟩
abbrev cX1_mend : ByteArray := prog_3_method_18_code
def yX1_mend : MethodName := ⟨RX1, "mend", "()I"⟩
abbrev cX1_product : ByteArray := prog_3_method_19_code
def yX1_product : MethodName := ⟨RX1, "product", "(II)I"⟩
abbrev cX1_value : ByteArray := prog_3_method_20_code
def yX1_value : MethodName := ⟨RX1, "value", "(I)I"⟩
theorem q18 : (Jvm.Cond.initialized "SymbolMenderModel") ∈ lw_all := lw_g (lw_at lw_m0 2 rfl) rfl
theorem q153 : (Jvm.Cond.instantiable "SymbolMenderModel" (4 : Nat)) ∈ lw_all := lw_g (lw_at lw_m0 137 rfl) rfl
theorem q155 : (Jvm.Cond.instanceMethod ({ cls := "SymbolMenderModel", name := "<init>", desc := "()V" } : Jvm.MethodName)) ∈ lw_all := lw_g (lw_at lw_m0 139 rfl) rfl
theorem q156 : (Jvm.Cond.code ({ cls := "SymbolMenderModel", name := "<init>", desc := "()V" } : Jvm.MethodName) prog_3_method_1_code (1 : Nat) (Option.none : Option Jvm.ClassFile.FieldType)) ∈ lw_all := lw_g (lw_at lw_m0 140 rfl) rfl
theorem q157 : (Jvm.Cond.methodLink "SymbolMenderModel" (1 : Nat) ({ cls := "java/lang/Object", name := "<init>", desc := "()V" } : Jvm.MethodName)) ∈ lw_all := lw_g (lw_at lw_m0 141 rfl) rfl
theorem q158 : (Jvm.Cond.methodLink "SymbolMenderModel" (23 : Nat) ({ cls := "SymbolMenderModel", name := "times", desc := "(I)V" } : Jvm.MethodName)) ∈ lw_all := lw_g (lw_at lw_m0 142 rfl) rfl
theorem q159 : (Jvm.Cond.privateMethod ({ cls := "SymbolMenderModel", name := "times", desc := "(I)V" } : Jvm.MethodName)) ∈ lw_tbl := lw_at lw_m0 143 rfl
theorem q160 : (Jvm.Cond.instanceMethod ({ cls := "SymbolMenderModel", name := "times", desc := "(I)V" } : Jvm.MethodName)) ∈ lw_all := lw_g (lw_at lw_m0 144 rfl) rfl
theorem q161 : (Jvm.Cond.code ({ cls := "SymbolMenderModel", name := "times", desc := "(I)V" } : Jvm.MethodName) prog_3_method_2_code (4 : Nat) (Option.none : Option Jvm.ClassFile.FieldType)) ∈ lw_all := lw_g (lw_at lw_m0 145 rfl) rfl
theorem q162 : (Jvm.Cond.methodLink "SymbolMenderModel" (27 : Nat) ({ cls := "SymbolMenderModel", name := "multiplied", desc := "(II)I" } : Jvm.MethodName)) ∈ lw_all := lw_g (lw_at lw_m0 146 rfl) rfl
theorem q163 : (Jvm.Cond.static ({ cls := "SymbolMenderModel", name := "multiplied", desc := "(II)I" } : Jvm.MethodName)) ∈ lw_all := lw_g (lw_at lw_m0 147 rfl) rfl
theorem q164 : (Jvm.Cond.code ({ cls := "SymbolMenderModel", name := "multiplied", desc := "(II)I" } : Jvm.MethodName) prog_3_method_5_code (4 : Nat) (Option.some Jvm.ClassFile.FieldType.int)) ∈ lw_all := lw_g (lw_at lw_m0 148 rfl) rfl
theorem q165 : (Jvm.Cond.fieldLink "SymbolMenderModel" (7 : Nat) "SymbolMenderModel" "line" "[I") ∈ lw_all := lw_g (lw_at lw_m0 149 rfl) rfl
theorem q166 : (Jvm.Cond.fieldLink "SymbolMenderModel" (13 : Nat) "SymbolMenderModel" "missing" "[Z") ∈ lw_all := lw_g (lw_at lw_m0 150 rfl) rfl
theorem q167 : (Jvm.Cond.fieldLink "SymbolMenderModel" (17 : Nat) "SymbolMenderModel" "zeros" "[I") ∈ lw_all := lw_g (lw_at lw_m0 151 rfl) rfl
theorem q168 : (Jvm.Cond.fieldLink "SymbolMenderModel" (20 : Nat) "SymbolMenderModel" "made" "[I") ∈ lw_all := lw_g (lw_at lw_m0 152 rfl) rfl
theorem q169 : (Jvm.Cond.laysFinal "SymbolMenderModel" "SymbolMenderModel" "line" "[I") ∈ lw_all := lw_g (lw_at lw_m0 153 rfl) rfl
theorem q170 : (Jvm.Cond.soleField "SymbolMenderModel" "line") ∈ lw_all := lw_g (lw_at lw_m0 154 rfl) rfl
theorem q171 : (Jvm.Cond.laysFinal "SymbolMenderModel" "SymbolMenderModel" "missing" "[Z") ∈ lw_all := lw_g (lw_at lw_m0 155 rfl) rfl
theorem q172 : (Jvm.Cond.soleField "SymbolMenderModel" "missing") ∈ lw_all := lw_g (lw_at lw_m0 156 rfl) rfl
theorem q173 : (Jvm.Cond.laysFinal "SymbolMenderModel" "SymbolMenderModel" "zeros" "[I") ∈ lw_all := lw_g (lw_at lw_m0 157 rfl) rfl
theorem q174 : (Jvm.Cond.soleField "SymbolMenderModel" "zeros") ∈ lw_all := lw_g (lw_at lw_m0 158 rfl) rfl
theorem q175 : (Jvm.Cond.laysFinal "SymbolMenderModel" "SymbolMenderModel" "made" "[I") ∈ lw_all := lw_g (lw_at lw_m0 159 rfl) rfl
theorem q176 : (Jvm.Cond.soleField "SymbolMenderModel" "made") ∈ lw_all := lw_g (lw_at lw_m0 160 rfl) rfl
theorem q177 : (Jvm.Cond.superclass "SymbolMenderModel" "java/lang/Object") ∈ lw_all := lw_g (lw_at lw_m0 161 rfl) rfl
theorem q179 : (Jvm.Cond.instanceMethod ({ cls := "SymbolMenderModel", name := "send", desc := "(III)I" } : Jvm.MethodName)) ∈ lw_all := lw_g (lw_at lw_m0 163 rfl) rfl
theorem q180 : (Jvm.Cond.selects "SymbolMenderModel" ({ cls := "SymbolMenderModel", name := "send", desc := "(III)I" } : Jvm.MethodName) ({ cls := "SymbolMenderModel", name := "send", desc := "(III)I" } : Jvm.MethodName)) ∈ lw_all := lw_g (lw_at lw_m0 164 rfl) rfl
theorem q181 : (Jvm.Cond.code ({ cls := "SymbolMenderModel", name := "send", desc := "(III)I" } : Jvm.MethodName) prog_3_method_7_code (5 : Nat) (Option.some Jvm.ClassFile.FieldType.int)) ∈ lw_all := lw_g (lw_at lw_m0 165 rfl) rfl
theorem q182 : (Jvm.Cond.methodLink "SymbolMenderModel" (31 : Nat) ({ cls := "SymbolMenderModel", name := "badSymbol", desc := "(I)Z" } : Jvm.MethodName)) ∈ lw_all := lw_g (lw_at lw_m0 166 rfl) rfl
theorem q183 : (Jvm.Cond.static ({ cls := "SymbolMenderModel", name := "badSymbol", desc := "(I)Z" } : Jvm.MethodName)) ∈ lw_all := lw_g (lw_at lw_m0 167 rfl) rfl
theorem q184 : (Jvm.Cond.code ({ cls := "SymbolMenderModel", name := "badSymbol", desc := "(I)Z" } : Jvm.MethodName) prog_3_method_3_code (1 : Nat) (Option.some Jvm.ClassFile.FieldType.boolean)) ∈ lw_all := lw_g (lw_at lw_m0 168 rfl) rfl
theorem q185 : (Jvm.Cond.methodLink "SymbolMenderModel" (35 : Nat) ({ cls := "SymbolMenderModel", name := "make", desc := "(I)V" } : Jvm.MethodName)) ∈ lw_all := lw_g (lw_at lw_m0 169 rfl) rfl
theorem q186 : (Jvm.Cond.privateMethod ({ cls := "SymbolMenderModel", name := "make", desc := "(I)V" } : Jvm.MethodName)) ∈ lw_tbl := lw_at lw_m0 170 rfl
theorem q187 : (Jvm.Cond.instanceMethod ({ cls := "SymbolMenderModel", name := "make", desc := "(I)V" } : Jvm.MethodName)) ∈ lw_all := lw_g (lw_at lw_m0 171 rfl) rfl
theorem q188 : (Jvm.Cond.code ({ cls := "SymbolMenderModel", name := "make", desc := "(I)V" } : Jvm.MethodName) prog_3_method_6_code (5 : Nat) (Option.none : Option Jvm.ClassFile.FieldType)) ∈ lw_all := lw_g (lw_at lw_m0 172 rfl) rfl
theorem q189 : (Jvm.Cond.methodLink "SymbolMenderModel" (38 : Nat) ({ cls := "SymbolMenderModel", name := "take", desc := "()V" } : Jvm.MethodName)) ∈ lw_all := lw_g (lw_at lw_m0 173 rfl) rfl
theorem q190 : (Jvm.Cond.privateMethod ({ cls := "SymbolMenderModel", name := "take", desc := "()V" } : Jvm.MethodName)) ∈ lw_tbl := lw_at lw_m0 174 rfl
theorem q191 : (Jvm.Cond.instanceMethod ({ cls := "SymbolMenderModel", name := "take", desc := "()V" } : Jvm.MethodName)) ∈ lw_all := lw_g (lw_at lw_m0 175 rfl) rfl
theorem q192 : (Jvm.Cond.code ({ cls := "SymbolMenderModel", name := "take", desc := "()V" } : Jvm.MethodName) prog_3_method_8_code (2 : Nat) (Option.none : Option Jvm.ClassFile.FieldType)) ∈ lw_all := lw_g (lw_at lw_m0 176 rfl) rfl
theorem q194 : (Jvm.Cond.instanceMethod ({ cls := "SymbolMenderModel", name := "change", desc := "(II)I" } : Jvm.MethodName)) ∈ lw_all := lw_g (lw_at lw_m0 178 rfl) rfl
theorem q195 : (Jvm.Cond.selects "SymbolMenderModel" ({ cls := "SymbolMenderModel", name := "change", desc := "(II)I" } : Jvm.MethodName) ({ cls := "SymbolMenderModel", name := "change", desc := "(II)I" } : Jvm.MethodName)) ∈ lw_all := lw_g (lw_at lw_m0 179 rfl) rfl
theorem q196 : (Jvm.Cond.code ({ cls := "SymbolMenderModel", name := "change", desc := "(II)I" } : Jvm.MethodName) prog_3_method_9_code (4 : Nat) (Option.some Jvm.ClassFile.FieldType.int)) ∈ lw_all := lw_g (lw_at lw_m0 180 rfl) rfl
theorem q197 : (Jvm.Cond.methodLink "SymbolMenderModel" (41 : Nat) ({ cls := "SymbolMenderModel", name := "badPlace", desc := "(I)Z" } : Jvm.MethodName)) ∈ lw_all := lw_g (lw_at lw_m0 181 rfl) rfl
theorem q198 : (Jvm.Cond.static ({ cls := "SymbolMenderModel", name := "badPlace", desc := "(I)Z" } : Jvm.MethodName)) ∈ lw_all := lw_g (lw_at lw_m0 182 rfl) rfl
theorem q199 : (Jvm.Cond.code ({ cls := "SymbolMenderModel", name := "badPlace", desc := "(I)Z" } : Jvm.MethodName) prog_3_method_4_code (1 : Nat) (Option.some Jvm.ClassFile.FieldType.boolean)) ∈ lw_all := lw_g (lw_at lw_m0 183 rfl) rfl
theorem q201 : (Jvm.Cond.instanceMethod ({ cls := "SymbolMenderModel", name := "lose", desc := "(IZ)I" } : Jvm.MethodName)) ∈ lw_all := lw_g (lw_at lw_m0 185 rfl) rfl
theorem q202 : (Jvm.Cond.selects "SymbolMenderModel" ({ cls := "SymbolMenderModel", name := "lose", desc := "(IZ)I" } : Jvm.MethodName) ({ cls := "SymbolMenderModel", name := "lose", desc := "(IZ)I" } : Jvm.MethodName)) ∈ lw_all := lw_g (lw_at lw_m0 186 rfl) rfl
theorem q203 : (Jvm.Cond.code ({ cls := "SymbolMenderModel", name := "lose", desc := "(IZ)I" } : Jvm.MethodName) prog_3_method_10_code (4 : Nat) (Option.some Jvm.ClassFile.FieldType.int)) ∈ lw_all := lw_g (lw_at lw_m0 187 rfl) rfl
theorem q205 : (Jvm.Cond.instanceMethod ({ cls := "SymbolMenderModel", name := "at", desc := "(I)I" } : Jvm.MethodName)) ∈ lw_all := lw_g (lw_at lw_m0 189 rfl) rfl
theorem q206 : (Jvm.Cond.selects "SymbolMenderModel" ({ cls := "SymbolMenderModel", name := "at", desc := "(I)I" } : Jvm.MethodName) ({ cls := "SymbolMenderModel", name := "at", desc := "(I)I" } : Jvm.MethodName)) ∈ lw_all := lw_g (lw_at lw_m0 190 rfl) rfl
theorem q207 : (Jvm.Cond.code ({ cls := "SymbolMenderModel", name := "at", desc := "(I)I" } : Jvm.MethodName) prog_3_method_11_code (2 : Nat) (Option.some Jvm.ClassFile.FieldType.int)) ∈ lw_all := lw_g (lw_at lw_m0 191 rfl) rfl
theorem q209 : (Jvm.Cond.instanceMethod ({ cls := "SymbolMenderModel", name := "fits", desc := "()I" } : Jvm.MethodName)) ∈ lw_all := lw_g (lw_at lw_m0 193 rfl) rfl
theorem q210 : (Jvm.Cond.selects "SymbolMenderModel" ({ cls := "SymbolMenderModel", name := "fits", desc := "()I" } : Jvm.MethodName) ({ cls := "SymbolMenderModel", name := "fits", desc := "()I" } : Jvm.MethodName)) ∈ lw_all := lw_g (lw_at lw_m0 194 rfl) rfl
theorem q211 : (Jvm.Cond.code ({ cls := "SymbolMenderModel", name := "fits", desc := "()I" } : Jvm.MethodName) prog_3_method_15_code (1 : Nat) (Option.some Jvm.ClassFile.FieldType.int)) ∈ lw_all := lw_g (lw_at lw_m0 195 rfl) rfl
theorem q212 : (Jvm.Cond.methodLink "SymbolMenderModel" (51 : Nat) ({ cls := "SymbolMenderModel", name := "find", desc := "()Z" } : Jvm.MethodName)) ∈ lw_all := lw_g (lw_at lw_m0 196 rfl) rfl
theorem q213 : (Jvm.Cond.privateMethod ({ cls := "SymbolMenderModel", name := "find", desc := "()Z" } : Jvm.MethodName)) ∈ lw_tbl := lw_at lw_m0 197 rfl
theorem q214 : (Jvm.Cond.instanceMethod ({ cls := "SymbolMenderModel", name := "find", desc := "()Z" } : Jvm.MethodName)) ∈ lw_all := lw_g (lw_at lw_m0 198 rfl) rfl
theorem q215 : (Jvm.Cond.code ({ cls := "SymbolMenderModel", name := "find", desc := "()Z" } : Jvm.MethodName) prog_3_method_14_code (3 : Nat) (Option.some Jvm.ClassFile.FieldType.boolean)) ∈ lw_all := lw_g (lw_at lw_m0 199 rfl) rfl
theorem q216 : (Jvm.Cond.methodLink "SymbolMenderModel" (44 : Nat) ({ cls := "SymbolMenderModel", name := "lost", desc := "()I" } : Jvm.MethodName)) ∈ lw_all := lw_g (lw_at lw_m0 200 rfl) rfl
theorem q217 : (Jvm.Cond.privateMethod ({ cls := "SymbolMenderModel", name := "lost", desc := "()I" } : Jvm.MethodName)) ∈ lw_tbl := lw_at lw_m0 201 rfl
theorem q218 : (Jvm.Cond.instanceMethod ({ cls := "SymbolMenderModel", name := "lost", desc := "()I" } : Jvm.MethodName)) ∈ lw_all := lw_g (lw_at lw_m0 202 rfl) rfl
theorem q219 : (Jvm.Cond.code ({ cls := "SymbolMenderModel", name := "lost", desc := "()I" } : Jvm.MethodName) prog_3_method_13_code (3 : Nat) (Option.some Jvm.ClassFile.FieldType.int)) ∈ lw_all := lw_g (lw_at lw_m0 203 rfl) rfl
theorem q220 : (Jvm.Cond.methodLink "SymbolMenderModel" (48 : Nat) ({ cls := "SymbolMenderModel", name := "different", desc := "()I" } : Jvm.MethodName)) ∈ lw_all := lw_g (lw_at lw_m0 204 rfl) rfl
theorem q221 : (Jvm.Cond.privateMethod ({ cls := "SymbolMenderModel", name := "different", desc := "()I" } : Jvm.MethodName)) ∈ lw_tbl := lw_at lw_m0 205 rfl
theorem q222 : (Jvm.Cond.instanceMethod ({ cls := "SymbolMenderModel", name := "different", desc := "()I" } : Jvm.MethodName)) ∈ lw_all := lw_g (lw_at lw_m0 206 rfl) rfl
theorem q223 : (Jvm.Cond.code ({ cls := "SymbolMenderModel", name := "different", desc := "()I" } : Jvm.MethodName) prog_3_method_12_code (3 : Nat) (Option.some Jvm.ClassFile.FieldType.int)) ∈ lw_all := lw_g (lw_at lw_m0 207 rfl) rfl
theorem q225 : (Jvm.Cond.instanceMethod ({ cls := "SymbolMenderModel", name := "mended", desc := "(I)I" } : Jvm.MethodName)) ∈ lw_all := lw_g (lw_at lw_m0 209 rfl) rfl
theorem q226 : (Jvm.Cond.selects "SymbolMenderModel" ({ cls := "SymbolMenderModel", name := "mended", desc := "(I)I" } : Jvm.MethodName) ({ cls := "SymbolMenderModel", name := "mended", desc := "(I)I" } : Jvm.MethodName)) ∈ lw_all := lw_g (lw_at lw_m0 210 rfl) rfl
theorem q227 : (Jvm.Cond.code ({ cls := "SymbolMenderModel", name := "mended", desc := "(I)I" } : Jvm.MethodName) prog_3_method_16_code (2 : Nat) (Option.some Jvm.ClassFile.FieldType.int)) ∈ lw_all := lw_g (lw_at lw_m0 211 rfl) rfl
theorem q229 : (Jvm.Cond.instanceMethod ({ cls := "SymbolMenderModel", name := "wrong", desc := "()I" } : Jvm.MethodName)) ∈ lw_all := lw_g (lw_at lw_m0 213 rfl) rfl
theorem q230 : (Jvm.Cond.selects "SymbolMenderModel" ({ cls := "SymbolMenderModel", name := "wrong", desc := "()I" } : Jvm.MethodName) ({ cls := "SymbolMenderModel", name := "wrong", desc := "()I" } : Jvm.MethodName)) ∈ lw_all := lw_g (lw_at lw_m0 214 rfl) rfl
theorem q231 : (Jvm.Cond.code ({ cls := "SymbolMenderModel", name := "wrong", desc := "()I" } : Jvm.MethodName) prog_3_method_17_code (1 : Nat) (Option.some Jvm.ClassFile.FieldType.int)) ∈ lw_all := lw_g (lw_at lw_m0 215 rfl) rfl
theorem q233 : (Jvm.Cond.instanceMethod ({ cls := "SymbolMenderModel", name := "mend", desc := "()I" } : Jvm.MethodName)) ∈ lw_all := lw_g (lw_at lw_m0 217 rfl) rfl
theorem q234 : (Jvm.Cond.selects "SymbolMenderModel" ({ cls := "SymbolMenderModel", name := "mend", desc := "()I" } : Jvm.MethodName) ({ cls := "SymbolMenderModel", name := "mend", desc := "()I" } : Jvm.MethodName)) ∈ lw_all := lw_g (lw_at lw_m0 218 rfl) rfl
theorem q235 : (Jvm.Cond.code ({ cls := "SymbolMenderModel", name := "mend", desc := "()I" } : Jvm.MethodName) prog_3_method_18_code (1 : Nat) (Option.some Jvm.ClassFile.FieldType.int)) ∈ lw_all := lw_g (lw_at lw_m0 219 rfl) rfl
theorem q237 : (Jvm.Cond.instanceMethod ({ cls := "SymbolMenderModel", name := "product", desc := "(II)I" } : Jvm.MethodName)) ∈ lw_all := lw_g (lw_at lw_m0 221 rfl) rfl
theorem q238 : (Jvm.Cond.selects "SymbolMenderModel" ({ cls := "SymbolMenderModel", name := "product", desc := "(II)I" } : Jvm.MethodName) ({ cls := "SymbolMenderModel", name := "product", desc := "(II)I" } : Jvm.MethodName)) ∈ lw_all := lw_g (lw_at lw_m0 222 rfl) rfl
theorem q239 : (Jvm.Cond.code ({ cls := "SymbolMenderModel", name := "product", desc := "(II)I" } : Jvm.MethodName) prog_3_method_19_code (3 : Nat) (Option.some Jvm.ClassFile.FieldType.int)) ∈ lw_all := lw_g (lw_at lw_m0 223 rfl) rfl
theorem q241 : (Jvm.Cond.instanceMethod ({ cls := "SymbolMenderModel", name := "value", desc := "(I)I" } : Jvm.MethodName)) ∈ lw_all := lw_g (lw_at lw_m0 225 rfl) rfl
theorem q242 : (Jvm.Cond.selects "SymbolMenderModel" ({ cls := "SymbolMenderModel", name := "value", desc := "(I)I" } : Jvm.MethodName) ({ cls := "SymbolMenderModel", name := "value", desc := "(I)I" } : Jvm.MethodName)) ∈ lw_all := lw_g (lw_at lw_m0 226 rfl) rfl
theorem q243 : (Jvm.Cond.code ({ cls := "SymbolMenderModel", name := "value", desc := "(I)I" } : Jvm.MethodName) prog_3_method_20_code (5 : Nat) (Option.some Jvm.ClassFile.FieldType.int)) ∈ lw_all := lw_g (lw_at lw_m0 227 rfl) rfl
theorem in_X1 : ∀ w ∈ wsX10, w ∈ lw_all := lw_in wsX10 [169, 171, 173, 175] (by decide +kernel) (by decide +kernel)
/-! the law's own entry -/
abbrev cL_law : ByteArray := code
end
section
set_option maxRecDepth 100000
theorem dX0_init_0 : decode cX0_init 0 = .ok (.aload_n 0, 1) := by decide +kernel
theorem dX0_init_1 : decode cX0_init 1 = .ok (.invokespecial 1, 3) := by decide +kernel
theorem dX0_init_4 : decode cX0_init 4 = .ok (.aload_n 0, 1) := by decide +kernel
theorem dX0_init_5 : decode cX0_init 5 = .ok (.bipush 7, 2) := by decide +kernel
theorem dX0_init_7 : decode cX0_init 7 = .ok (.newarray .int, 2) := by decide +kernel
theorem dX0_init_9 : decode cX0_init 9 = .ok (.putfield 7, 3) := by decide +kernel
theorem dX0_init_12 : decode cX0_init 12 = .ok (.aload_n 0, 1) := by decide +kernel
theorem dX0_init_13 : decode cX0_init 13 = .ok (.bipush 7, 2) := by decide +kernel
theorem dX0_init_15 : decode cX0_init 15 = .ok (.newarray .boolean, 2) := by decide +kernel
theorem dX0_init_17 : decode cX0_init 17 = .ok (.putfield 13, 3) := by decide +kernel
theorem dX0_init_20 : decode cX0_init 20 = .ok (.aload_n 0, 1) := by decide +kernel
theorem dX0_init_21 : decode cX0_init 21 = .ok (.bipush 14, 2) := by decide +kernel
theorem dX0_init_23 : decode cX0_init 23 = .ok (.newarray .int, 2) := by decide +kernel
theorem dX0_init_25 : decode cX0_init 25 = .ok (.putfield 17, 3) := by decide +kernel
theorem dX0_init_28 : decode cX0_init 28 = .ok (.aload_n 0, 1) := by decide +kernel
theorem dX0_init_29 : decode cX0_init 29 = .ok (.bipush 8, 2) := by decide +kernel
theorem dX0_init_31 : decode cX0_init 31 = .ok (.newarray .int, 2) := by decide +kernel
theorem dX0_init_33 : decode cX0_init 33 = .ok (.putfield 20, 3) := by decide +kernel
theorem dX0_init_36 : decode cX0_init 36 = .ok (.aload_n 0, 1) := by decide +kernel
theorem dX0_init_37 : decode cX0_init 37 = .ok (.iconst 5, 1) := by decide +kernel
theorem dX0_init_38 : decode cX0_init 38 = .ok (.newarray .int, 2) := by decide +kernel
theorem dX0_init_40 : decode cX0_init 40 = .ok (.putfield 23, 3) := by decide +kernel
theorem dX0_init_43 : decode cX0_init 43 = .ok (.aload_n 0, 1) := by decide +kernel
theorem dX0_init_44 : decode cX0_init 44 = .ok (.bipush 10, 2) := by decide +kernel
theorem dX0_init_46 : decode cX0_init 46 = .ok (.newarray .int, 2) := by decide +kernel
theorem dX0_init_48 : decode cX0_init 48 = .ok (.putfield 26, 3) := by decide +kernel
theorem dX0_init_51 : decode cX0_init 51 = .ok (.aload_n 0, 1) := by decide +kernel
theorem dX0_init_52 : decode cX0_init 52 = .ok (.bipush 10, 2) := by decide +kernel
theorem dX0_init_54 : decode cX0_init 54 = .ok (.newarray .int, 2) := by decide +kernel
theorem dX0_init_56 : decode cX0_init 56 = .ok (.putfield 29, 3) := by decide +kernel
theorem dX0_init_59 : decode cX0_init 59 = .ok (.aload_n 0, 1) := by decide +kernel
theorem dX0_init_60 : decode cX0_init 60 = .ok (.bipush 10, 2) := by decide +kernel
theorem dX0_init_62 : decode cX0_init 62 = .ok (.newarray .int, 2) := by decide +kernel
theorem dX0_init_64 : decode cX0_init 64 = .ok (.putfield 32, 3) := by decide +kernel
theorem dX0_init_67 : decode cX0_init 67 = .ok (.aload_n 0, 1) := by decide +kernel
theorem dX0_init_68 : decode cX0_init 68 = .ok (.iconst 4, 1) := by decide +kernel
theorem dX0_init_69 : decode cX0_init 69 = .ok (.newarray .int, 2) := by decide +kernel
theorem dX0_init_71 : decode cX0_init 71 = .ok (.putfield 35, 3) := by decide +kernel
theorem dX0_init_74 : decode cX0_init 74 = .ok (.aload_n 0, 1) := by decide +kernel
theorem dX0_init_75 : decode cX0_init 75 = .ok (.bipush 7, 2) := by decide +kernel
theorem dX0_init_77 : decode cX0_init 77 = .ok (.newarray .int, 2) := by decide +kernel
theorem dX0_init_79 : decode cX0_init 79 = .ok (.putfield 38, 3) := by decide +kernel
theorem dX0_init_82 : decode cX0_init 82 = .ok (.iconst 1, 1) := by decide +kernel
theorem dX0_init_83 : decode cX0_init 83 = .ok (.istore_n 1, 1) := by decide +kernel
theorem dX0_init_84 : decode cX0_init 84 = .ok (.iconst 0, 1) := by decide +kernel
theorem dX0_init_85 : decode cX0_init 85 = .ok (.istore_n 2, 1) := by decide +kernel
theorem dX0_init_86 : decode cX0_init 86 = .ok (.iload_n 2, 1) := by decide +kernel
theorem dX0_init_87 : decode cX0_init 87 = .ok (.bipush 14, 2) := by decide +kernel
theorem dX0_init_89 : decode cX0_init 89 = .ok (.if_icmp .ge 49, 3) := by decide +kernel
theorem dX0_init_92 : decode cX0_init 92 = .ok (.aload_n 0, 1) := by decide +kernel
theorem dX0_init_93 : decode cX0_init 93 = .ok (.getfield 17, 3) := by decide +kernel
theorem dX0_init_96 : decode cX0_init 96 = .ok (.iload_n 2, 1) := by decide +kernel
theorem dX0_init_97 : decode cX0_init 97 = .ok (.iload_n 1, 1) := by decide +kernel
theorem dX0_init_98 : decode cX0_init 98 = .ok (.iastore, 1) := by decide +kernel
theorem dX0_init_99 : decode cX0_init 99 = .ok (.iload_n 2, 1) := by decide +kernel
theorem dX0_init_100 : decode cX0_init 100 = .ok (.bipush 7, 2) := by decide +kernel
theorem dX0_init_102 : decode cX0_init 102 = .ok (.if_icmp .ge 10, 3) := by decide +kernel
theorem dX0_init_105 : decode cX0_init 105 = .ok (.aload_n 0, 1) := by decide +kernel
theorem dX0_init_106 : decode cX0_init 106 = .ok (.getfield 20, 3) := by decide +kernel
theorem dX0_init_109 : decode cX0_init 109 = .ok (.iload_n 1, 1) := by decide +kernel
theorem dX0_init_110 : decode cX0_init 110 = .ok (.iload_n 2, 1) := by decide +kernel
theorem dX0_init_111 : decode cX0_init 111 = .ok (.iastore, 1) := by decide +kernel
theorem dX0_init_112 : decode cX0_init 112 = .ok (.iload_n 1, 1) := by decide +kernel
theorem dX0_init_113 : decode cX0_init 113 = .ok (.iconst 4, 1) := by decide +kernel
theorem dX0_init_114 : decode cX0_init 114 = .ok (.if_icmp .lt 14, 3) := by decide +kernel
theorem dX0_init_117 : decode cX0_init 117 = .ok (.iconst 2, 1) := by decide +kernel
theorem dX0_init_118 : decode cX0_init 118 = .ok (.iload_n 1, 1) := by decide +kernel
theorem dX0_init_119 : decode cX0_init 119 = .ok (.imul, 1) := by decide +kernel
theorem dX0_init_120 : decode cX0_init 120 = .ok (.bipush 8, 2) := by decide +kernel
theorem dX0_init_122 : decode cX0_init 122 = .ok (.isub, 1) := by decide +kernel
theorem dX0_init_123 : decode cX0_init 123 = .ok (.iconst 3, 1) := by decide +kernel
theorem dX0_init_124 : decode cX0_init 124 = .ok (.ixor, 1) := by decide +kernel
theorem dX0_init_125 : decode cX0_init 125 = .ok (.goto 6, 3) := by decide +kernel
theorem dX0_init_128 : decode cX0_init 128 = .ok (.iconst 2, 1) := by decide +kernel
theorem dX0_init_129 : decode cX0_init 129 = .ok (.iload_n 1, 1) := by decide +kernel
theorem dX0_init_130 : decode cX0_init 130 = .ok (.imul, 1) := by decide +kernel
theorem dX0_init_131 : decode cX0_init 131 = .ok (.istore_n 1, 1) := by decide +kernel
theorem dX0_init_132 : decode cX0_init 132 = .ok (.iinc 2 1, 3) := by decide +kernel
theorem dX0_init_135 : decode cX0_init 135 = .ok (.goto (-49), 3) := by decide +kernel
theorem dX0_init_138 : decode cX0_init 138 = .ok (.return_, 1) := by decide +kernel
theorem dX0_send_0 : decode cX0_send 0 = .ok (.iload_n 1, 1) := by decide +kernel
theorem dX0_send_1 : decode cX0_send 1 = .ok (.invokestatic 41, 3) := by decide +kernel
theorem dX0_send_4 : decode cX0_send 4 = .ok (.ifCond .eq 17, 3) := by decide +kernel
theorem dX0_send_7 : decode cX0_send 7 = .ok (.iload_n 2, 1) := by decide +kernel
theorem dX0_send_8 : decode cX0_send 8 = .ok (.invokestatic 41, 3) := by decide +kernel
theorem dX0_send_11 : decode cX0_send 11 = .ok (.ifCond .eq 10, 3) := by decide +kernel
theorem dX0_send_14 : decode cX0_send 14 = .ok (.iload_n 3, 1) := by decide +kernel
theorem dX0_send_15 : decode cX0_send 15 = .ok (.invokestatic 41, 3) := by decide +kernel
theorem dX0_send_18 : decode cX0_send 18 = .ok (.ifCond .ne 5, 3) := by decide +kernel
theorem dX0_send_21 : decode cX0_send 21 = .ok (.iconst (-1), 1) := by decide +kernel
theorem dX0_send_22 : decode cX0_send 22 = .ok (.ireturn, 1) := by decide +kernel
theorem dX0_send_23 : decode cX0_send 23 = .ok (.iconst 0, 1) := by decide +kernel
theorem dX0_send_24 : decode cX0_send 24 = .ok (.istore 4, 2) := by decide +kernel
theorem dX0_send_26 : decode cX0_send 26 = .ok (.iload 4, 2) := by decide +kernel
theorem dX0_send_28 : decode cX0_send 28 = .ok (.bipush 7, 2) := by decide +kernel
theorem dX0_send_30 : decode cX0_send 30 = .ok (.if_icmp .ge 56, 3) := by decide +kernel
theorem dX0_send_33 : decode cX0_send 33 = .ok (.aload_n 0, 1) := by decide +kernel
theorem dX0_send_34 : decode cX0_send 34 = .ok (.getfield 7, 3) := by decide +kernel
theorem dX0_send_37 : decode cX0_send 37 = .ok (.iload 4, 2) := by decide +kernel
theorem dX0_send_39 : decode cX0_send 39 = .ok (.iload 4, 2) := by decide +kernel
theorem dX0_send_41 : decode cX0_send 41 = .ok (.iconst 4, 1) := by decide +kernel
theorem dX0_send_42 : decode cX0_send 42 = .ok (.if_icmp .ne 7, 3) := by decide +kernel
theorem dX0_send_45 : decode cX0_send 45 = .ok (.iload_n 1, 1) := by decide +kernel
theorem dX0_send_46 : decode cX0_send 46 = .ok (.goto 25, 3) := by decide +kernel
theorem dX0_send_49 : decode cX0_send 49 = .ok (.iload 4, 2) := by decide +kernel
theorem dX0_send_51 : decode cX0_send 51 = .ok (.iconst 5, 1) := by decide +kernel
theorem dX0_send_52 : decode cX0_send 52 = .ok (.if_icmp .ne 7, 3) := by decide +kernel
theorem dX0_send_55 : decode cX0_send 55 = .ok (.iload_n 2, 1) := by decide +kernel
theorem dX0_send_56 : decode cX0_send 56 = .ok (.goto 15, 3) := by decide +kernel
theorem dX0_send_59 : decode cX0_send 59 = .ok (.iload 4, 2) := by decide +kernel
theorem dX0_send_61 : decode cX0_send 61 = .ok (.bipush 6, 2) := by decide +kernel
theorem dX0_send_63 : decode cX0_send 63 = .ok (.if_icmp .ne 7, 3) := by decide +kernel
theorem dX0_send_66 : decode cX0_send 66 = .ok (.iload_n 3, 1) := by decide +kernel
theorem dX0_send_67 : decode cX0_send 67 = .ok (.goto 4, 3) := by decide +kernel
theorem dX0_send_70 : decode cX0_send 70 = .ok (.iconst 0, 1) := by decide +kernel
theorem dX0_send_71 : decode cX0_send 71 = .ok (.iastore, 1) := by decide +kernel
theorem dX0_send_72 : decode cX0_send 72 = .ok (.aload_n 0, 1) := by decide +kernel
theorem dX0_send_73 : decode cX0_send 73 = .ok (.getfield 13, 3) := by decide +kernel
theorem dX0_send_76 : decode cX0_send 76 = .ok (.iload 4, 2) := by decide +kernel
theorem dX0_send_78 : decode cX0_send 78 = .ok (.iconst 0, 1) := by decide +kernel
theorem dX0_send_79 : decode cX0_send 79 = .ok (.bastore, 1) := by decide +kernel
theorem dX0_send_80 : decode cX0_send 80 = .ok (.iinc 4 1, 3) := by decide +kernel
theorem dX0_send_83 : decode cX0_send 83 = .ok (.goto (-57), 3) := by decide +kernel
theorem dX0_send_86 : decode cX0_send 86 = .ok (.aload_n 0, 1) := by decide +kernel
theorem dX0_send_87 : decode cX0_send 87 = .ok (.invokevirtual 45, 3) := by decide +kernel
theorem dX0_send_90 : decode cX0_send 90 = .ok (.iconst 0, 1) := by decide +kernel
theorem dX0_send_91 : decode cX0_send 91 = .ok (.ireturn, 1) := by decide +kernel
theorem dX0_isSymbol_0 : decode cX0_isSymbol 0 = .ok (.iload_n 0, 1) := by decide +kernel
theorem dX0_isSymbol_1 : decode cX0_isSymbol 1 = .ok (.ifCond .lt 13, 3) := by decide +kernel
theorem dX0_isSymbol_4 : decode cX0_isSymbol 4 = .ok (.iload_n 0, 1) := by decide +kernel
theorem dX0_isSymbol_5 : decode cX0_isSymbol 5 = .ok (.bipush 7, 2) := by decide +kernel
theorem dX0_isSymbol_7 : decode cX0_isSymbol 7 = .ok (.if_icmp .gt 7, 3) := by decide +kernel
theorem dX0_isSymbol_10 : decode cX0_isSymbol 10 = .ok (.iconst 1, 1) := by decide +kernel
theorem dX0_isSymbol_11 : decode cX0_isSymbol 11 = .ok (.goto 4, 3) := by decide +kernel
theorem dX0_isSymbol_14 : decode cX0_isSymbol 14 = .ok (.iconst 0, 1) := by decide +kernel
theorem dX0_isSymbol_15 : decode cX0_isSymbol 15 = .ok (.ireturn, 1) := by decide +kernel
theorem dX0_divideAway_0 : decode cX0_divideAway 0 = .ok (.iconst 0, 1) := by decide +kernel
theorem dX0_divideAway_1 : decode cX0_divideAway 1 = .ok (.istore_n 1, 1) := by decide +kernel
theorem dX0_divideAway_2 : decode cX0_divideAway 2 = .ok (.iconst 0, 1) := by decide +kernel
theorem dX0_divideAway_3 : decode cX0_divideAway 3 = .ok (.istore_n 2, 1) := by decide +kernel
theorem dX0_divideAway_4 : decode cX0_divideAway 4 = .ok (.iconst 0, 1) := by decide +kernel
theorem dX0_divideAway_5 : decode cX0_divideAway 5 = .ok (.istore_n 3, 1) := by decide +kernel
theorem dX0_divideAway_6 : decode cX0_divideAway 6 = .ok (.iconst 0, 1) := by decide +kernel
theorem dX0_divideAway_7 : decode cX0_divideAway 7 = .ok (.istore 4, 2) := by decide +kernel
theorem dX0_divideAway_9 : decode cX0_divideAway 9 = .ok (.bipush 6, 2) := by decide +kernel
theorem dX0_divideAway_11 : decode cX0_divideAway 11 = .ok (.istore 5, 2) := by decide +kernel
theorem dX0_divideAway_13 : decode cX0_divideAway 13 = .ok (.iload 5, 2) := by decide +kernel
theorem dX0_divideAway_15 : decode cX0_divideAway 15 = .ok (.iconst 4, 1) := by decide +kernel
theorem dX0_divideAway_16 : decode cX0_divideAway 16 = .ok (.if_icmp .lt 55, 3) := by decide +kernel
theorem dX0_divideAway_19 : decode cX0_divideAway 19 = .ok (.aload_n 0, 1) := by decide +kernel
theorem dX0_divideAway_20 : decode cX0_divideAway 20 = .ok (.getfield 7, 3) := by decide +kernel
theorem dX0_divideAway_23 : decode cX0_divideAway 23 = .ok (.iload 5, 2) := by decide +kernel
theorem dX0_divideAway_25 : decode cX0_divideAway 25 = .ok (.iaload, 1) := by decide +kernel
theorem dX0_divideAway_26 : decode cX0_divideAway 26 = .ok (.iload 4, 2) := by decide +kernel
theorem dX0_divideAway_28 : decode cX0_divideAway 28 = .ok (.ixor, 1) := by decide +kernel
theorem dX0_divideAway_29 : decode cX0_divideAway 29 = .ok (.istore 6, 2) := by decide +kernel
theorem dX0_divideAway_31 : decode cX0_divideAway 31 = .ok (.iload_n 3, 1) := by decide +kernel
theorem dX0_divideAway_32 : decode cX0_divideAway 32 = .ok (.aload_n 0, 1) := by decide +kernel
theorem dX0_divideAway_33 : decode cX0_divideAway 33 = .ok (.iload 6, 2) := by decide +kernel
theorem dX0_divideAway_35 : decode cX0_divideAway 35 = .ok (.iconst 3, 1) := by decide +kernel
theorem dX0_divideAway_36 : decode cX0_divideAway 36 = .ok (.invokevirtual 59, 3) := by decide +kernel
theorem dX0_divideAway_39 : decode cX0_divideAway 39 = .ok (.ixor, 1) := by decide +kernel
theorem dX0_divideAway_40 : decode cX0_divideAway 40 = .ok (.istore 4, 2) := by decide +kernel
theorem dX0_divideAway_42 : decode cX0_divideAway 42 = .ok (.iload_n 2, 1) := by decide +kernel
theorem dX0_divideAway_43 : decode cX0_divideAway 43 = .ok (.iload 6, 2) := by decide +kernel
theorem dX0_divideAway_45 : decode cX0_divideAway 45 = .ok (.ixor, 1) := by decide +kernel
theorem dX0_divideAway_46 : decode cX0_divideAway 46 = .ok (.istore_n 3, 1) := by decide +kernel
theorem dX0_divideAway_47 : decode cX0_divideAway 47 = .ok (.iload_n 1, 1) := by decide +kernel
theorem dX0_divideAway_48 : decode cX0_divideAway 48 = .ok (.aload_n 0, 1) := by decide +kernel
theorem dX0_divideAway_49 : decode cX0_divideAway 49 = .ok (.iload 6, 2) := by decide +kernel
theorem dX0_divideAway_51 : decode cX0_divideAway 51 = .ok (.iconst 2, 1) := by decide +kernel
theorem dX0_divideAway_52 : decode cX0_divideAway 52 = .ok (.invokevirtual 59, 3) := by decide +kernel
theorem dX0_divideAway_55 : decode cX0_divideAway 55 = .ok (.ixor, 1) := by decide +kernel
theorem dX0_divideAway_56 : decode cX0_divideAway 56 = .ok (.istore_n 2, 1) := by decide +kernel
theorem dX0_divideAway_57 : decode cX0_divideAway 57 = .ok (.aload_n 0, 1) := by decide +kernel
theorem dX0_divideAway_58 : decode cX0_divideAway 58 = .ok (.iload 6, 2) := by decide +kernel
theorem dX0_divideAway_60 : decode cX0_divideAway 60 = .ok (.iconst 3, 1) := by decide +kernel
theorem dX0_divideAway_61 : decode cX0_divideAway 61 = .ok (.invokevirtual 59, 3) := by decide +kernel
theorem dX0_divideAway_64 : decode cX0_divideAway 64 = .ok (.istore_n 1, 1) := by decide +kernel
theorem dX0_divideAway_65 : decode cX0_divideAway 65 = .ok (.iinc 5 (-1), 3) := by decide +kernel
theorem dX0_divideAway_68 : decode cX0_divideAway 68 = .ok (.goto (-55), 3) := by decide +kernel
theorem dX0_divideAway_71 : decode cX0_divideAway 71 = .ok (.aload_n 0, 1) := by decide +kernel
theorem dX0_divideAway_72 : decode cX0_divideAway 72 = .ok (.getfield 7, 3) := by decide +kernel
theorem dX0_divideAway_75 : decode cX0_divideAway 75 = .ok (.iconst 0, 1) := by decide +kernel
theorem dX0_divideAway_76 : decode cX0_divideAway 76 = .ok (.iload_n 1, 1) := by decide +kernel
theorem dX0_divideAway_77 : decode cX0_divideAway 77 = .ok (.iastore, 1) := by decide +kernel
theorem dX0_divideAway_78 : decode cX0_divideAway 78 = .ok (.aload_n 0, 1) := by decide +kernel
theorem dX0_divideAway_79 : decode cX0_divideAway 79 = .ok (.getfield 7, 3) := by decide +kernel
theorem dX0_divideAway_82 : decode cX0_divideAway 82 = .ok (.iconst 1, 1) := by decide +kernel
theorem dX0_divideAway_83 : decode cX0_divideAway 83 = .ok (.iload_n 2, 1) := by decide +kernel
theorem dX0_divideAway_84 : decode cX0_divideAway 84 = .ok (.iastore, 1) := by decide +kernel
theorem dX0_divideAway_85 : decode cX0_divideAway 85 = .ok (.aload_n 0, 1) := by decide +kernel
theorem dX0_divideAway_86 : decode cX0_divideAway 86 = .ok (.getfield 7, 3) := by decide +kernel
theorem dX0_divideAway_89 : decode cX0_divideAway 89 = .ok (.iconst 2, 1) := by decide +kernel
theorem dX0_divideAway_90 : decode cX0_divideAway 90 = .ok (.iload_n 3, 1) := by decide +kernel
theorem dX0_divideAway_91 : decode cX0_divideAway 91 = .ok (.iastore, 1) := by decide +kernel
theorem dX0_divideAway_92 : decode cX0_divideAway 92 = .ok (.aload_n 0, 1) := by decide +kernel
theorem dX0_divideAway_93 : decode cX0_divideAway 93 = .ok (.getfield 7, 3) := by decide +kernel
theorem dX0_divideAway_96 : decode cX0_divideAway 96 = .ok (.iconst 3, 1) := by decide +kernel
theorem dX0_divideAway_97 : decode cX0_divideAway 97 = .ok (.iload 4, 2) := by decide +kernel
theorem dX0_divideAway_99 : decode cX0_divideAway 99 = .ok (.iastore, 1) := by decide +kernel
theorem dX0_divideAway_100 : decode cX0_divideAway 100 = .ok (.return_, 1) := by decide +kernel
theorem dX0_times_0 : decode cX0_times 0 = .ok (.iload_n 1, 1) := by decide +kernel
theorem dX0_times_1 : decode cX0_times 1 = .ok (.ifCond .eq 7, 3) := by decide +kernel
theorem dX0_times_4 : decode cX0_times 4 = .ok (.iload_n 2, 1) := by decide +kernel
theorem dX0_times_5 : decode cX0_times 5 = .ok (.ifCond .ne 7, 3) := by decide +kernel
theorem dX0_times_8 : decode cX0_times 8 = .ok (.iconst 0, 1) := by decide +kernel
theorem dX0_times_9 : decode cX0_times 9 = .ok (.goto 21, 3) := by decide +kernel
theorem dX0_times_12 : decode cX0_times 12 = .ok (.aload_n 0, 1) := by decide +kernel
theorem dX0_times_13 : decode cX0_times 13 = .ok (.getfield 17, 3) := by decide +kernel
theorem dX0_times_16 : decode cX0_times 16 = .ok (.aload_n 0, 1) := by decide +kernel
theorem dX0_times_17 : decode cX0_times 17 = .ok (.getfield 20, 3) := by decide +kernel
theorem dX0_times_20 : decode cX0_times 20 = .ok (.iload_n 1, 1) := by decide +kernel
theorem dX0_times_21 : decode cX0_times 21 = .ok (.iaload, 1) := by decide +kernel
theorem dX0_times_22 : decode cX0_times 22 = .ok (.aload_n 0, 1) := by decide +kernel
theorem dX0_times_23 : decode cX0_times 23 = .ok (.getfield 20, 3) := by decide +kernel
theorem dX0_times_26 : decode cX0_times 26 = .ok (.iload_n 2, 1) := by decide +kernel
theorem dX0_times_27 : decode cX0_times 27 = .ok (.iaload, 1) := by decide +kernel
theorem dX0_times_28 : decode cX0_times 28 = .ok (.iadd, 1) := by decide +kernel
theorem dX0_times_29 : decode cX0_times 29 = .ok (.iaload, 1) := by decide +kernel
theorem dX0_times_30 : decode cX0_times 30 = .ok (.ireturn, 1) := by decide +kernel
theorem dX0_change_0 : decode cX0_change 0 = .ok (.iload_n 1, 1) := by decide +kernel
theorem dX0_change_1 : decode cX0_change 1 = .ok (.invokestatic 48, 3) := by decide +kernel
theorem dX0_change_4 : decode cX0_change 4 = .ok (.ifCond .eq 10, 3) := by decide +kernel
theorem dX0_change_7 : decode cX0_change 7 = .ok (.iload_n 2, 1) := by decide +kernel
theorem dX0_change_8 : decode cX0_change 8 = .ok (.invokestatic 41, 3) := by decide +kernel
theorem dX0_change_11 : decode cX0_change 11 = .ok (.ifCond .ne 5, 3) := by decide +kernel
theorem dX0_change_14 : decode cX0_change 14 = .ok (.iconst (-1), 1) := by decide +kernel
theorem dX0_change_15 : decode cX0_change 15 = .ok (.ireturn, 1) := by decide +kernel
theorem dX0_change_16 : decode cX0_change 16 = .ok (.aload_n 0, 1) := by decide +kernel
theorem dX0_change_17 : decode cX0_change 17 = .ok (.getfield 7, 3) := by decide +kernel
theorem dX0_change_20 : decode cX0_change 20 = .ok (.iload_n 1, 1) := by decide +kernel
theorem dX0_change_21 : decode cX0_change 21 = .ok (.iaload, 1) := by decide +kernel
theorem dX0_change_22 : decode cX0_change 22 = .ok (.istore_n 3, 1) := by decide +kernel
theorem dX0_change_23 : decode cX0_change 23 = .ok (.aload_n 0, 1) := by decide +kernel
theorem dX0_change_24 : decode cX0_change 24 = .ok (.getfield 7, 3) := by decide +kernel
theorem dX0_change_27 : decode cX0_change 27 = .ok (.iload_n 1, 1) := by decide +kernel
theorem dX0_change_28 : decode cX0_change 28 = .ok (.iload_n 2, 1) := by decide +kernel
theorem dX0_change_29 : decode cX0_change 29 = .ok (.iastore, 1) := by decide +kernel
theorem dX0_change_30 : decode cX0_change 30 = .ok (.iload_n 3, 1) := by decide +kernel
theorem dX0_change_31 : decode cX0_change 31 = .ok (.ireturn, 1) := by decide +kernel
theorem dX0_isPlace_0 : decode cX0_isPlace 0 = .ok (.iload_n 0, 1) := by decide +kernel
theorem dX0_isPlace_1 : decode cX0_isPlace 1 = .ok (.ifCond .lt 13, 3) := by decide +kernel
theorem dX0_isPlace_4 : decode cX0_isPlace 4 = .ok (.iload_n 0, 1) := by decide +kernel
theorem dX0_isPlace_5 : decode cX0_isPlace 5 = .ok (.bipush 6, 2) := by decide +kernel
theorem dX0_isPlace_7 : decode cX0_isPlace 7 = .ok (.if_icmp .gt 7, 3) := by decide +kernel
theorem dX0_isPlace_10 : decode cX0_isPlace 10 = .ok (.iconst 1, 1) := by decide +kernel
theorem dX0_isPlace_11 : decode cX0_isPlace 11 = .ok (.goto 4, 3) := by decide +kernel
theorem dX0_isPlace_14 : decode cX0_isPlace 14 = .ok (.iconst 0, 1) := by decide +kernel
theorem dX0_isPlace_15 : decode cX0_isPlace 15 = .ok (.ireturn, 1) := by decide +kernel
theorem dX0_lose_0 : decode cX0_lose 0 = .ok (.iload_n 1, 1) := by decide +kernel
theorem dX0_lose_1 : decode cX0_lose 1 = .ok (.invokestatic 48, 3) := by decide +kernel
theorem dX0_lose_4 : decode cX0_lose 4 = .ok (.ifCond .ne 5, 3) := by decide +kernel
theorem dX0_lose_7 : decode cX0_lose 7 = .ok (.iconst (-1), 1) := by decide +kernel
theorem dX0_lose_8 : decode cX0_lose 8 = .ok (.ireturn, 1) := by decide +kernel
theorem dX0_lose_9 : decode cX0_lose 9 = .ok (.aload_n 0, 1) := by decide +kernel
theorem dX0_lose_10 : decode cX0_lose 10 = .ok (.getfield 13, 3) := by decide +kernel
theorem dX0_lose_13 : decode cX0_lose 13 = .ok (.iload_n 1, 1) := by decide +kernel
theorem dX0_lose_14 : decode cX0_lose 14 = .ok (.baload, 1) := by decide +kernel
theorem dX0_lose_15 : decode cX0_lose 15 = .ok (.ifCond .eq 7, 3) := by decide +kernel
theorem dX0_lose_18 : decode cX0_lose 18 = .ok (.iconst 1, 1) := by decide +kernel
theorem dX0_lose_19 : decode cX0_lose 19 = .ok (.goto 4, 3) := by decide +kernel
theorem dX0_lose_22 : decode cX0_lose 22 = .ok (.iconst 0, 1) := by decide +kernel
theorem dX0_lose_23 : decode cX0_lose 23 = .ok (.istore_n 3, 1) := by decide +kernel
theorem dX0_lose_24 : decode cX0_lose 24 = .ok (.aload_n 0, 1) := by decide +kernel
theorem dX0_lose_25 : decode cX0_lose 25 = .ok (.getfield 13, 3) := by decide +kernel
theorem dX0_lose_28 : decode cX0_lose 28 = .ok (.iload_n 1, 1) := by decide +kernel
theorem dX0_lose_29 : decode cX0_lose 29 = .ok (.iload_n 2, 1) := by decide +kernel
theorem dX0_lose_30 : decode cX0_lose 30 = .ok (.bastore, 1) := by decide +kernel
theorem dX0_lose_31 : decode cX0_lose 31 = .ok (.iload_n 3, 1) := by decide +kernel
theorem dX0_lose_32 : decode cX0_lose 32 = .ok (.ireturn, 1) := by decide +kernel
theorem dX0_at_0 : decode cX0_at 0 = .ok (.iload_n 1, 1) := by decide +kernel
theorem dX0_at_1 : decode cX0_at 1 = .ok (.invokestatic 48, 3) := by decide +kernel
theorem dX0_at_4 : decode cX0_at 4 = .ok (.ifCond .eq 12, 3) := by decide +kernel
theorem dX0_at_7 : decode cX0_at 7 = .ok (.aload_n 0, 1) := by decide +kernel
theorem dX0_at_8 : decode cX0_at 8 = .ok (.getfield 7, 3) := by decide +kernel
theorem dX0_at_11 : decode cX0_at 11 = .ok (.iload_n 1, 1) := by decide +kernel
theorem dX0_at_12 : decode cX0_at 12 = .ok (.iaload, 1) := by decide +kernel
theorem dX0_at_13 : decode cX0_at 13 = .ok (.goto 4, 3) := by decide +kernel
theorem dX0_at_16 : decode cX0_at 16 = .ok (.iconst (-1), 1) := by decide +kernel
theorem dX0_at_17 : decode cX0_at 17 = .ok (.ireturn, 1) := by decide +kernel
theorem dX0_fits_0 : decode cX0_fits 0 = .ok (.aload_n 0, 1) := by decide +kernel
theorem dX0_fits_1 : decode cX0_fits 1 = .ok (.invokevirtual 51, 3) := by decide +kernel
theorem dX0_fits_4 : decode cX0_fits 4 = .ok (.ifCond .eq 7, 3) := by decide +kernel
theorem dX0_fits_7 : decode cX0_fits 7 = .ok (.iconst 1, 1) := by decide +kernel
theorem dX0_fits_8 : decode cX0_fits 8 = .ok (.goto 4, 3) := by decide +kernel
theorem dX0_fits_11 : decode cX0_fits 11 = .ok (.iconst 0, 1) := by decide +kernel
theorem dX0_fits_12 : decode cX0_fits 12 = .ok (.ireturn, 1) := by decide +kernel
theorem dX0_findWhole_0 : decode cX0_findWhole 0 = .ok (.iconst 0, 1) := by decide +kernel
theorem dX0_findWhole_1 : decode cX0_findWhole 1 = .ok (.istore_n 1, 1) := by decide +kernel
theorem dX0_findWhole_2 : decode cX0_findWhole 2 = .ok (.iconst 0, 1) := by decide +kernel
theorem dX0_findWhole_3 : decode cX0_findWhole 3 = .ok (.istore_n 2, 1) := by decide +kernel
theorem dX0_findWhole_4 : decode cX0_findWhole 4 = .ok (.iload_n 2, 1) := by decide +kernel
theorem dX0_findWhole_5 : decode cX0_findWhole 5 = .ok (.bipush 7, 2) := by decide +kernel
theorem dX0_findWhole_7 : decode cX0_findWhole 7 = .ok (.if_icmp .ge 38, 3) := by decide +kernel
theorem dX0_findWhole_10 : decode cX0_findWhole 10 = .ok (.aload_n 0, 1) := by decide +kernel
theorem dX0_findWhole_11 : decode cX0_findWhole 11 = .ok (.getfield 38, 3) := by decide +kernel
theorem dX0_findWhole_14 : decode cX0_findWhole 14 = .ok (.iload_n 2, 1) := by decide +kernel
theorem dX0_findWhole_15 : decode cX0_findWhole 15 = .ok (.aload_n 0, 1) := by decide +kernel
theorem dX0_findWhole_16 : decode cX0_findWhole 16 = .ok (.getfield 7, 3) := by decide +kernel
theorem dX0_findWhole_19 : decode cX0_findWhole 19 = .ok (.iload_n 2, 1) := by decide +kernel
theorem dX0_findWhole_20 : decode cX0_findWhole 20 = .ok (.iaload, 1) := by decide +kernel
theorem dX0_findWhole_21 : decode cX0_findWhole 21 = .ok (.iastore, 1) := by decide +kernel
theorem dX0_findWhole_22 : decode cX0_findWhole 22 = .ok (.iload_n 1, 1) := by decide +kernel
theorem dX0_findWhole_23 : decode cX0_findWhole 23 = .ok (.aload_n 0, 1) := by decide +kernel
theorem dX0_findWhole_24 : decode cX0_findWhole 24 = .ok (.getfield 13, 3) := by decide +kernel
theorem dX0_findWhole_27 : decode cX0_findWhole 27 = .ok (.iload_n 2, 1) := by decide +kernel
theorem dX0_findWhole_28 : decode cX0_findWhole 28 = .ok (.baload, 1) := by decide +kernel
theorem dX0_findWhole_29 : decode cX0_findWhole 29 = .ok (.ifCond .eq 7, 3) := by decide +kernel
theorem dX0_findWhole_32 : decode cX0_findWhole 32 = .ok (.iconst 1, 1) := by decide +kernel
theorem dX0_findWhole_33 : decode cX0_findWhole 33 = .ok (.goto 4, 3) := by decide +kernel
theorem dX0_findWhole_36 : decode cX0_findWhole 36 = .ok (.iconst 0, 1) := by decide +kernel
theorem dX0_findWhole_37 : decode cX0_findWhole 37 = .ok (.iadd, 1) := by decide +kernel
theorem dX0_findWhole_38 : decode cX0_findWhole 38 = .ok (.istore_n 1, 1) := by decide +kernel
theorem dX0_findWhole_39 : decode cX0_findWhole 39 = .ok (.iinc 2 1, 3) := by decide +kernel
theorem dX0_findWhole_42 : decode cX0_findWhole 42 = .ok (.goto (-38), 3) := by decide +kernel
theorem dX0_findWhole_45 : decode cX0_findWhole 45 = .ok (.iload_n 1, 1) := by decide +kernel
theorem dX0_findWhole_46 : decode cX0_findWhole 46 = .ok (.iconst 4, 1) := by decide +kernel
theorem dX0_findWhole_47 : decode cX0_findWhole 47 = .ok (.if_icmp .le 5, 3) := by decide +kernel
theorem dX0_findWhole_50 : decode cX0_findWhole 50 = .ok (.iconst 0, 1) := by decide +kernel
theorem dX0_findWhole_51 : decode cX0_findWhole 51 = .ok (.ireturn, 1) := by decide +kernel
theorem dX0_findWhole_52 : decode cX0_findWhole 52 = .ok (.iconst 1, 1) := by decide +kernel
theorem dX0_findWhole_53 : decode cX0_findWhole 53 = .ok (.istore_n 2, 1) := by decide +kernel
theorem dX0_findWhole_54 : decode cX0_findWhole 54 = .ok (.iload_n 2, 1) := by decide +kernel
theorem dX0_findWhole_55 : decode cX0_findWhole 55 = .ok (.iconst 5, 1) := by decide +kernel
theorem dX0_findWhole_56 : decode cX0_findWhole 56 = .ok (.if_icmp .ge 29, 3) := by decide +kernel
theorem dX0_findWhole_59 : decode cX0_findWhole 59 = .ok (.aload_n 0, 1) := by decide +kernel
theorem dX0_findWhole_60 : decode cX0_findWhole 60 = .ok (.getfield 23, 3) := by decide +kernel
theorem dX0_findWhole_63 : decode cX0_findWhole 63 = .ok (.iload_n 2, 1) := by decide +kernel
theorem dX0_findWhole_64 : decode cX0_findWhole 64 = .ok (.aload_n 0, 1) := by decide +kernel
theorem dX0_findWhole_65 : decode cX0_findWhole 65 = .ok (.aload_n 0, 1) := by decide +kernel
theorem dX0_findWhole_66 : decode cX0_findWhole 66 = .ok (.getfield 7, 3) := by decide +kernel
theorem dX0_findWhole_69 : decode cX0_findWhole 69 = .ok (.aload_n 0, 1) := by decide +kernel
theorem dX0_findWhole_70 : decode cX0_findWhole 70 = .ok (.getfield 17, 3) := by decide +kernel
theorem dX0_findWhole_73 : decode cX0_findWhole 73 = .ok (.iload_n 2, 1) := by decide +kernel
theorem dX0_findWhole_74 : decode cX0_findWhole 74 = .ok (.iaload, 1) := by decide +kernel
theorem dX0_findWhole_75 : decode cX0_findWhole 75 = .ok (.invokevirtual 63, 3) := by decide +kernel
theorem dX0_findWhole_78 : decode cX0_findWhole 78 = .ok (.iastore, 1) := by decide +kernel
theorem dX0_findWhole_79 : decode cX0_findWhole 79 = .ok (.iinc 2 1, 3) := by decide +kernel
theorem dX0_findWhole_82 : decode cX0_findWhole 82 = .ok (.goto (-28), 3) := by decide +kernel
theorem dX0_findWhole_85 : decode cX0_findWhole 85 = .ok (.aload_n 0, 1) := by decide +kernel
theorem dX0_findWhole_86 : decode cX0_findWhole 86 = .ok (.iload_n 1, 1) := by decide +kernel
theorem dX0_findWhole_87 : decode cX0_findWhole 87 = .ok (.invokevirtual 67, 3) := by decide +kernel
theorem dX0_findWhole_90 : decode cX0_findWhole 90 = .ok (.aload_n 0, 1) := by decide +kernel
theorem dX0_findWhole_91 : decode cX0_findWhole 91 = .ok (.invokevirtual 71, 3) := by decide +kernel
theorem dX0_findWhole_94 : decode cX0_findWhole 94 = .ok (.iconst 0, 1) := by decide +kernel
theorem dX0_findWhole_95 : decode cX0_findWhole 95 = .ok (.istore_n 2, 1) := by decide +kernel
theorem dX0_findWhole_96 : decode cX0_findWhole 96 = .ok (.iload_n 2, 1) := by decide +kernel
theorem dX0_findWhole_97 : decode cX0_findWhole 97 = .ok (.bipush 7, 2) := by decide +kernel
theorem dX0_findWhole_99 : decode cX0_findWhole 99 = .ok (.if_icmp .ge 14, 3) := by decide +kernel
theorem dX0_findWhole_102 : decode cX0_findWhole 102 = .ok (.aload_n 0, 1) := by decide +kernel
theorem dX0_findWhole_103 : decode cX0_findWhole 103 = .ok (.iload_n 2, 1) := by decide +kernel
theorem dX0_findWhole_104 : decode cX0_findWhole 104 = .ok (.invokevirtual 74, 3) := by decide +kernel
theorem dX0_findWhole_107 : decode cX0_findWhole 107 = .ok (.iinc 2 1, 3) := by decide +kernel
theorem dX0_findWhole_110 : decode cX0_findWhole 110 = .ok (.goto (-14), 3) := by decide +kernel
theorem dX0_findWhole_113 : decode cX0_findWhole 113 = .ok (.aload_n 0, 1) := by decide +kernel
theorem dX0_findWhole_114 : decode cX0_findWhole 114 = .ok (.iload_n 1, 1) := by decide +kernel
theorem dX0_findWhole_115 : decode cX0_findWhole 115 = .ok (.invokevirtual 77, 3) := by decide +kernel
theorem dX0_findWhole_118 : decode cX0_findWhole 118 = .ok (.ireturn, 1) := by decide +kernel
theorem dX0_valueOf_0 : decode cX0_valueOf 0 = .ok (.iconst 0, 1) := by decide +kernel
theorem dX0_valueOf_1 : decode cX0_valueOf 1 = .ok (.istore_n 3, 1) := by decide +kernel
theorem dX0_valueOf_2 : decode cX0_valueOf 2 = .ok (.bipush 6, 2) := by decide +kernel
theorem dX0_valueOf_4 : decode cX0_valueOf 4 = .ok (.istore 4, 2) := by decide +kernel
theorem dX0_valueOf_6 : decode cX0_valueOf 6 = .ok (.iload 4, 2) := by decide +kernel
theorem dX0_valueOf_8 : decode cX0_valueOf 8 = .ok (.ifCond .lt 21, 3) := by decide +kernel
theorem dX0_valueOf_11 : decode cX0_valueOf 11 = .ok (.aload_n 0, 1) := by decide +kernel
theorem dX0_valueOf_12 : decode cX0_valueOf 12 = .ok (.iload_n 3, 1) := by decide +kernel
theorem dX0_valueOf_13 : decode cX0_valueOf 13 = .ok (.iload_n 2, 1) := by decide +kernel
theorem dX0_valueOf_14 : decode cX0_valueOf 14 = .ok (.invokevirtual 59, 3) := by decide +kernel
theorem dX0_valueOf_17 : decode cX0_valueOf 17 = .ok (.aload_n 1, 1) := by decide +kernel
theorem dX0_valueOf_18 : decode cX0_valueOf 18 = .ok (.iload 4, 2) := by decide +kernel
theorem dX0_valueOf_20 : decode cX0_valueOf 20 = .ok (.iaload, 1) := by decide +kernel
theorem dX0_valueOf_21 : decode cX0_valueOf 21 = .ok (.ixor, 1) := by decide +kernel
theorem dX0_valueOf_22 : decode cX0_valueOf 22 = .ok (.istore_n 3, 1) := by decide +kernel
theorem dX0_valueOf_23 : decode cX0_valueOf 23 = .ok (.iinc 4 (-1), 3) := by decide +kernel
theorem dX0_valueOf_26 : decode cX0_valueOf 26 = .ok (.goto (-20), 3) := by decide +kernel
theorem dX0_valueOf_29 : decode cX0_valueOf 29 = .ok (.iload_n 3, 1) := by decide +kernel
theorem dX0_valueOf_30 : decode cX0_valueOf 30 = .ok (.ireturn, 1) := by decide +kernel
theorem dX0_buildRule_0 : decode cX0_buildRule 0 = .ok (.iconst 0, 1) := by decide +kernel
theorem dX0_buildRule_1 : decode cX0_buildRule 1 = .ok (.istore_n 2, 1) := by decide +kernel
theorem dX0_buildRule_2 : decode cX0_buildRule 2 = .ok (.iload_n 2, 1) := by decide +kernel
theorem dX0_buildRule_3 : decode cX0_buildRule 3 = .ok (.bipush 10, 2) := by decide +kernel
theorem dX0_buildRule_5 : decode cX0_buildRule 5 = .ok (.if_icmp .ge 24, 3) := by decide +kernel
theorem dX0_buildRule_8 : decode cX0_buildRule 8 = .ok (.aload_n 0, 1) := by decide +kernel
theorem dX0_buildRule_9 : decode cX0_buildRule 9 = .ok (.getfield 26, 3) := by decide +kernel
theorem dX0_buildRule_12 : decode cX0_buildRule 12 = .ok (.iload_n 2, 1) := by decide +kernel
theorem dX0_buildRule_13 : decode cX0_buildRule 13 = .ok (.iload_n 2, 1) := by decide +kernel
theorem dX0_buildRule_14 : decode cX0_buildRule 14 = .ok (.ifCond .ne 7, 3) := by decide +kernel
theorem dX0_buildRule_17 : decode cX0_buildRule 17 = .ok (.iconst 1, 1) := by decide +kernel
theorem dX0_buildRule_18 : decode cX0_buildRule 18 = .ok (.goto 4, 3) := by decide +kernel
theorem dX0_buildRule_21 : decode cX0_buildRule 21 = .ok (.iconst 0, 1) := by decide +kernel
theorem dX0_buildRule_22 : decode cX0_buildRule 22 = .ok (.iastore, 1) := by decide +kernel
theorem dX0_buildRule_23 : decode cX0_buildRule 23 = .ok (.iinc 2 1, 3) := by decide +kernel
theorem dX0_buildRule_26 : decode cX0_buildRule 26 = .ok (.goto (-24), 3) := by decide +kernel
theorem dX0_buildRule_29 : decode cX0_buildRule 29 = .ok (.iconst 0, 1) := by decide +kernel
theorem dX0_buildRule_30 : decode cX0_buildRule 30 = .ok (.istore_n 2, 1) := by decide +kernel
theorem dX0_buildRule_31 : decode cX0_buildRule 31 = .ok (.iload_n 2, 1) := by decide +kernel
theorem dX0_buildRule_32 : decode cX0_buildRule 32 = .ok (.bipush 7, 2) := by decide +kernel
theorem dX0_buildRule_34 : decode cX0_buildRule 34 = .ok (.if_icmp .ge 58, 3) := by decide +kernel
theorem dX0_buildRule_37 : decode cX0_buildRule 37 = .ok (.bipush 9, 2) := by decide +kernel
theorem dX0_buildRule_39 : decode cX0_buildRule 39 = .ok (.istore_n 3, 1) := by decide +kernel
theorem dX0_buildRule_40 : decode cX0_buildRule 40 = .ok (.iload_n 3, 1) := by decide +kernel
theorem dX0_buildRule_41 : decode cX0_buildRule 41 = .ok (.ifCond .le 45, 3) := by decide +kernel
theorem dX0_buildRule_44 : decode cX0_buildRule 44 = .ok (.aload_n 0, 1) := by decide +kernel
theorem dX0_buildRule_45 : decode cX0_buildRule 45 = .ok (.getfield 13, 3) := by decide +kernel
theorem dX0_buildRule_48 : decode cX0_buildRule 48 = .ok (.iload_n 2, 1) := by decide +kernel
theorem dX0_buildRule_49 : decode cX0_buildRule 49 = .ok (.baload, 1) := by decide +kernel
theorem dX0_buildRule_50 : decode cX0_buildRule 50 = .ok (.ifCond .eq 36, 3) := by decide +kernel
theorem dX0_buildRule_53 : decode cX0_buildRule 53 = .ok (.aload_n 0, 1) := by decide +kernel
theorem dX0_buildRule_54 : decode cX0_buildRule 54 = .ok (.getfield 26, 3) := by decide +kernel
theorem dX0_buildRule_57 : decode cX0_buildRule 57 = .ok (.iload_n 3, 1) := by decide +kernel
theorem dX0_buildRule_58 : decode cX0_buildRule 58 = .ok (.dup2, 1) := by decide +kernel
theorem dX0_buildRule_59 : decode cX0_buildRule 59 = .ok (.iaload, 1) := by decide +kernel
theorem dX0_buildRule_60 : decode cX0_buildRule 60 = .ok (.aload_n 0, 1) := by decide +kernel
theorem dX0_buildRule_61 : decode cX0_buildRule 61 = .ok (.aload_n 0, 1) := by decide +kernel
theorem dX0_buildRule_62 : decode cX0_buildRule 62 = .ok (.getfield 26, 3) := by decide +kernel
theorem dX0_buildRule_65 : decode cX0_buildRule 65 = .ok (.iload_n 3, 1) := by decide +kernel
theorem dX0_buildRule_66 : decode cX0_buildRule 66 = .ok (.iconst 1, 1) := by decide +kernel
theorem dX0_buildRule_67 : decode cX0_buildRule 67 = .ok (.isub, 1) := by decide +kernel
theorem dX0_buildRule_68 : decode cX0_buildRule 68 = .ok (.iaload, 1) := by decide +kernel
theorem dX0_buildRule_69 : decode cX0_buildRule 69 = .ok (.aload_n 0, 1) := by decide +kernel
theorem dX0_buildRule_70 : decode cX0_buildRule 70 = .ok (.getfield 17, 3) := by decide +kernel
theorem dX0_buildRule_73 : decode cX0_buildRule 73 = .ok (.iload_n 2, 1) := by decide +kernel
theorem dX0_buildRule_74 : decode cX0_buildRule 74 = .ok (.iaload, 1) := by decide +kernel
theorem dX0_buildRule_75 : decode cX0_buildRule 75 = .ok (.invokevirtual 59, 3) := by decide +kernel
theorem dX0_buildRule_78 : decode cX0_buildRule 78 = .ok (.ixor, 1) := by decide +kernel
theorem dX0_buildRule_79 : decode cX0_buildRule 79 = .ok (.iastore, 1) := by decide +kernel
theorem dX0_buildRule_80 : decode cX0_buildRule 80 = .ok (.iinc 3 (-1), 3) := by decide +kernel
theorem dX0_buildRule_83 : decode cX0_buildRule 83 = .ok (.goto (-43), 3) := by decide +kernel
theorem dX0_buildRule_86 : decode cX0_buildRule 86 = .ok (.iinc 2 1, 3) := by decide +kernel
theorem dX0_buildRule_89 : decode cX0_buildRule 89 = .ok (.goto (-58), 3) := by decide +kernel
theorem dX0_buildRule_92 : decode cX0_buildRule 92 = .ok (.iconst 0, 1) := by decide +kernel
theorem dX0_buildRule_93 : decode cX0_buildRule 93 = .ok (.istore_n 2, 1) := by decide +kernel
end
section
set_option maxRecDepth 100000
theorem dX0_buildRule_94 : decode cX0_buildRule 94 = .ok (.iload_n 2, 1) := by decide +kernel
theorem dX0_buildRule_95 : decode cX0_buildRule 95 = .ok (.bipush 10, 2) := by decide +kernel
theorem dX0_buildRule_97 : decode cX0_buildRule 97 = .ok (.if_icmp .ge 21, 3) := by decide +kernel
theorem dX0_buildRule_100 : decode cX0_buildRule 100 = .ok (.aload_n 0, 1) := by decide +kernel
theorem dX0_buildRule_101 : decode cX0_buildRule 101 = .ok (.getfield 29, 3) := by decide +kernel
theorem dX0_buildRule_104 : decode cX0_buildRule 104 = .ok (.iload_n 2, 1) := by decide +kernel
theorem dX0_buildRule_105 : decode cX0_buildRule 105 = .ok (.aload_n 0, 1) := by decide +kernel
theorem dX0_buildRule_106 : decode cX0_buildRule 106 = .ok (.getfield 26, 3) := by decide +kernel
theorem dX0_buildRule_109 : decode cX0_buildRule 109 = .ok (.iload_n 2, 1) := by decide +kernel
theorem dX0_buildRule_110 : decode cX0_buildRule 110 = .ok (.iaload, 1) := by decide +kernel
theorem dX0_buildRule_111 : decode cX0_buildRule 111 = .ok (.iastore, 1) := by decide +kernel
theorem dX0_buildRule_112 : decode cX0_buildRule 112 = .ok (.iinc 2 1, 3) := by decide +kernel
theorem dX0_buildRule_115 : decode cX0_buildRule 115 = .ok (.goto (-21), 3) := by decide +kernel
theorem dX0_buildRule_118 : decode cX0_buildRule 118 = .ok (.aload_n 0, 1) := by decide +kernel
theorem dX0_buildRule_119 : decode cX0_buildRule 119 = .ok (.iload_n 1, 1) := by decide +kernel
theorem dX0_buildRule_120 : decode cX0_buildRule 120 = .ok (.putfield 80, 3) := by decide +kernel
theorem dX0_buildRule_123 : decode cX0_buildRule 123 = .ok (.iload_n 1, 1) := by decide +kernel
theorem dX0_buildRule_124 : decode cX0_buildRule 124 = .ok (.iconst 1, 1) := by decide +kernel
theorem dX0_buildRule_125 : decode cX0_buildRule 125 = .ok (.iadd, 1) := by decide +kernel
theorem dX0_buildRule_126 : decode cX0_buildRule 126 = .ok (.istore_n 2, 1) := by decide +kernel
theorem dX0_buildRule_127 : decode cX0_buildRule 127 = .ok (.iload_n 2, 1) := by decide +kernel
theorem dX0_buildRule_128 : decode cX0_buildRule 128 = .ok (.iconst 5, 1) := by decide +kernel
theorem dX0_buildRule_129 : decode cX0_buildRule 129 = .ok (.if_icmp .ge 98, 3) := by decide +kernel
theorem dX0_buildRule_132 : decode cX0_buildRule 132 = .ok (.iconst 0, 1) := by decide +kernel
theorem dX0_buildRule_133 : decode cX0_buildRule 133 = .ok (.istore_n 3, 1) := by decide +kernel
theorem dX0_buildRule_134 : decode cX0_buildRule 134 = .ok (.iconst 0, 1) := by decide +kernel
theorem dX0_buildRule_135 : decode cX0_buildRule 135 = .ok (.istore 4, 2) := by decide +kernel
theorem dX0_buildRule_137 : decode cX0_buildRule 137 = .ok (.iload 4, 2) := by decide +kernel
theorem dX0_buildRule_139 : decode cX0_buildRule 139 = .ok (.iload_n 2, 1) := by decide +kernel
theorem dX0_buildRule_140 : decode cX0_buildRule 140 = .ok (.if_icmp .ge 32, 3) := by decide +kernel
theorem dX0_buildRule_143 : decode cX0_buildRule 143 = .ok (.iload_n 3, 1) := by decide +kernel
theorem dX0_buildRule_144 : decode cX0_buildRule 144 = .ok (.aload_n 0, 1) := by decide +kernel
theorem dX0_buildRule_145 : decode cX0_buildRule 145 = .ok (.aload_n 0, 1) := by decide +kernel
theorem dX0_buildRule_146 : decode cX0_buildRule 146 = .ok (.getfield 26, 3) := by decide +kernel
theorem dX0_buildRule_149 : decode cX0_buildRule 149 = .ok (.iload 4, 2) := by decide +kernel
theorem dX0_buildRule_151 : decode cX0_buildRule 151 = .ok (.iaload, 1) := by decide +kernel
theorem dX0_buildRule_152 : decode cX0_buildRule 152 = .ok (.aload_n 0, 1) := by decide +kernel
theorem dX0_buildRule_153 : decode cX0_buildRule 153 = .ok (.getfield 23, 3) := by decide +kernel
theorem dX0_buildRule_156 : decode cX0_buildRule 156 = .ok (.iload_n 2, 1) := by decide +kernel
theorem dX0_buildRule_157 : decode cX0_buildRule 157 = .ok (.iload 4, 2) := by decide +kernel
theorem dX0_buildRule_159 : decode cX0_buildRule 159 = .ok (.isub, 1) := by decide +kernel
theorem dX0_buildRule_160 : decode cX0_buildRule 160 = .ok (.iaload, 1) := by decide +kernel
theorem dX0_buildRule_161 : decode cX0_buildRule 161 = .ok (.invokevirtual 59, 3) := by decide +kernel
theorem dX0_buildRule_164 : decode cX0_buildRule 164 = .ok (.ixor, 1) := by decide +kernel
theorem dX0_buildRule_165 : decode cX0_buildRule 165 = .ok (.istore_n 3, 1) := by decide +kernel
theorem dX0_buildRule_166 : decode cX0_buildRule 166 = .ok (.iinc 4 1, 3) := by decide +kernel
theorem dX0_buildRule_169 : decode cX0_buildRule 169 = .ok (.goto (-32), 3) := by decide +kernel
theorem dX0_buildRule_172 : decode cX0_buildRule 172 = .ok (.bipush 9, 2) := by decide +kernel
theorem dX0_buildRule_174 : decode cX0_buildRule 174 = .ok (.istore 4, 2) := by decide +kernel
theorem dX0_buildRule_176 : decode cX0_buildRule 176 = .ok (.iload 4, 2) := by decide +kernel
theorem dX0_buildRule_178 : decode cX0_buildRule 178 = .ok (.ifCond .le 25, 3) := by decide +kernel
theorem dX0_buildRule_181 : decode cX0_buildRule 181 = .ok (.aload_n 0, 1) := by decide +kernel
theorem dX0_buildRule_182 : decode cX0_buildRule 182 = .ok (.getfield 29, 3) := by decide +kernel
theorem dX0_buildRule_185 : decode cX0_buildRule 185 = .ok (.iload 4, 2) := by decide +kernel
theorem dX0_buildRule_187 : decode cX0_buildRule 187 = .ok (.aload_n 0, 1) := by decide +kernel
theorem dX0_buildRule_188 : decode cX0_buildRule 188 = .ok (.getfield 29, 3) := by decide +kernel
theorem dX0_buildRule_191 : decode cX0_buildRule 191 = .ok (.iload 4, 2) := by decide +kernel
theorem dX0_buildRule_193 : decode cX0_buildRule 193 = .ok (.iconst 1, 1) := by decide +kernel
theorem dX0_buildRule_194 : decode cX0_buildRule 194 = .ok (.isub, 1) := by decide +kernel
theorem dX0_buildRule_195 : decode cX0_buildRule 195 = .ok (.iaload, 1) := by decide +kernel
theorem dX0_buildRule_196 : decode cX0_buildRule 196 = .ok (.iastore, 1) := by decide +kernel
theorem dX0_buildRule_197 : decode cX0_buildRule 197 = .ok (.iinc 4 (-1), 3) := by decide +kernel
theorem dX0_buildRule_200 : decode cX0_buildRule 200 = .ok (.goto (-24), 3) := by decide +kernel
theorem dX0_buildRule_203 : decode cX0_buildRule 203 = .ok (.aload_n 0, 1) := by decide +kernel
theorem dX0_buildRule_204 : decode cX0_buildRule 204 = .ok (.getfield 29, 3) := by decide +kernel
theorem dX0_buildRule_207 : decode cX0_buildRule 207 = .ok (.iconst 0, 1) := by decide +kernel
theorem dX0_buildRule_208 : decode cX0_buildRule 208 = .ok (.iconst 0, 1) := by decide +kernel
theorem dX0_buildRule_209 : decode cX0_buildRule 209 = .ok (.iastore, 1) := by decide +kernel
theorem dX0_buildRule_210 : decode cX0_buildRule 210 = .ok (.iload_n 3, 1) := by decide +kernel
theorem dX0_buildRule_211 : decode cX0_buildRule 211 = .ok (.ifCond .eq 10, 3) := by decide +kernel
theorem dX0_buildRule_214 : decode cX0_buildRule 214 = .ok (.aload_n 0, 1) := by decide +kernel
theorem dX0_buildRule_215 : decode cX0_buildRule 215 = .ok (.iload_n 3, 1) := by decide +kernel
theorem dX0_buildRule_216 : decode cX0_buildRule 216 = .ok (.iload_n 2, 1) := by decide +kernel
theorem dX0_buildRule_217 : decode cX0_buildRule 217 = .ok (.iload_n 1, 1) := by decide +kernel
theorem dX0_buildRule_218 : decode cX0_buildRule 218 = .ok (.invokevirtual 83, 3) := by decide +kernel
theorem dX0_buildRule_221 : decode cX0_buildRule 221 = .ok (.iinc 2 1, 3) := by decide +kernel
theorem dX0_buildRule_224 : decode cX0_buildRule 224 = .ok (.goto (-97), 3) := by decide +kernel
theorem dX0_buildRule_227 : decode cX0_buildRule 227 = .ok (.return_, 1) := by decide +kernel
theorem dX0_lengthen_0 : decode cX0_lengthen 0 = .ok (.iconst 2, 1) := by decide +kernel
theorem dX0_lengthen_1 : decode cX0_lengthen 1 = .ok (.aload_n 0, 1) := by decide +kernel
theorem dX0_lengthen_2 : decode cX0_lengthen 2 = .ok (.getfield 80, 3) := by decide +kernel
theorem dX0_lengthen_5 : decode cX0_lengthen 5 = .ok (.imul, 1) := by decide +kernel
theorem dX0_lengthen_6 : decode cX0_lengthen 6 = .ok (.iload_n 2, 1) := by decide +kernel
theorem dX0_lengthen_7 : decode cX0_lengthen 7 = .ok (.iload_n 3, 1) := by decide +kernel
theorem dX0_lengthen_8 : decode cX0_lengthen 8 = .ok (.iadd, 1) := by decide +kernel
theorem dX0_lengthen_9 : decode cX0_lengthen 9 = .ok (.iconst 1, 1) := by decide +kernel
theorem dX0_lengthen_10 : decode cX0_lengthen 10 = .ok (.isub, 1) := by decide +kernel
theorem dX0_lengthen_11 : decode cX0_lengthen 11 = .ok (.if_icmp .gt 7, 3) := by decide +kernel
theorem dX0_lengthen_14 : decode cX0_lengthen 14 = .ok (.iconst 1, 1) := by decide +kernel
theorem dX0_lengthen_15 : decode cX0_lengthen 15 = .ok (.goto 4, 3) := by decide +kernel
theorem dX0_lengthen_18 : decode cX0_lengthen 18 = .ok (.iconst 0, 1) := by decide +kernel
theorem dX0_lengthen_19 : decode cX0_lengthen 19 = .ok (.istore 4, 2) := by decide +kernel
theorem dX0_lengthen_21 : decode cX0_lengthen 21 = .ok (.iconst 0, 1) := by decide +kernel
theorem dX0_lengthen_22 : decode cX0_lengthen 22 = .ok (.istore 5, 2) := by decide +kernel
theorem dX0_lengthen_24 : decode cX0_lengthen 24 = .ok (.iload 5, 2) := by decide +kernel
theorem dX0_lengthen_26 : decode cX0_lengthen 26 = .ok (.bipush 10, 2) := by decide +kernel
theorem dX0_lengthen_28 : decode cX0_lengthen 28 = .ok (.if_icmp .ge 45, 3) := by decide +kernel
theorem dX0_lengthen_31 : decode cX0_lengthen 31 = .ok (.aload_n 0, 1) := by decide +kernel
theorem dX0_lengthen_32 : decode cX0_lengthen 32 = .ok (.getfield 32, 3) := by decide +kernel
theorem dX0_lengthen_35 : decode cX0_lengthen 35 = .ok (.iload 5, 2) := by decide +kernel
theorem dX0_lengthen_37 : decode cX0_lengthen 37 = .ok (.aload_n 0, 1) := by decide +kernel
theorem dX0_lengthen_38 : decode cX0_lengthen 38 = .ok (.getfield 26, 3) := by decide +kernel
theorem dX0_lengthen_41 : decode cX0_lengthen 41 = .ok (.iload 5, 2) := by decide +kernel
theorem dX0_lengthen_43 : decode cX0_lengthen 43 = .ok (.iaload, 1) := by decide +kernel
theorem dX0_lengthen_44 : decode cX0_lengthen 44 = .ok (.iastore, 1) := by decide +kernel
theorem dX0_lengthen_45 : decode cX0_lengthen 45 = .ok (.aload_n 0, 1) := by decide +kernel
theorem dX0_lengthen_46 : decode cX0_lengthen 46 = .ok (.getfield 26, 3) := by decide +kernel
theorem dX0_lengthen_49 : decode cX0_lengthen 49 = .ok (.iload 5, 2) := by decide +kernel
theorem dX0_lengthen_51 : decode cX0_lengthen 51 = .ok (.dup2, 1) := by decide +kernel
theorem dX0_lengthen_52 : decode cX0_lengthen 52 = .ok (.iaload, 1) := by decide +kernel
theorem dX0_lengthen_53 : decode cX0_lengthen 53 = .ok (.aload_n 0, 1) := by decide +kernel
theorem dX0_lengthen_54 : decode cX0_lengthen 54 = .ok (.iload_n 1, 1) := by decide +kernel
theorem dX0_lengthen_55 : decode cX0_lengthen 55 = .ok (.aload_n 0, 1) := by decide +kernel
theorem dX0_lengthen_56 : decode cX0_lengthen 56 = .ok (.getfield 29, 3) := by decide +kernel
theorem dX0_lengthen_59 : decode cX0_lengthen 59 = .ok (.iload 5, 2) := by decide +kernel
theorem dX0_lengthen_61 : decode cX0_lengthen 61 = .ok (.iaload, 1) := by decide +kernel
theorem dX0_lengthen_62 : decode cX0_lengthen 62 = .ok (.invokevirtual 59, 3) := by decide +kernel
theorem dX0_lengthen_65 : decode cX0_lengthen 65 = .ok (.ixor, 1) := by decide +kernel
theorem dX0_lengthen_66 : decode cX0_lengthen 66 = .ok (.iastore, 1) := by decide +kernel
theorem dX0_lengthen_67 : decode cX0_lengthen 67 = .ok (.iinc 5 1, 3) := by decide +kernel
theorem dX0_lengthen_70 : decode cX0_lengthen 70 = .ok (.goto (-46), 3) := by decide +kernel
theorem dX0_lengthen_73 : decode cX0_lengthen 73 = .ok (.iload 4, 2) := by decide +kernel
theorem dX0_lengthen_75 : decode cX0_lengthen 75 = .ok (.ifCond .eq 50, 3) := by decide +kernel
theorem dX0_lengthen_78 : decode cX0_lengthen 78 = .ok (.iconst 0, 1) := by decide +kernel
theorem dX0_lengthen_79 : decode cX0_lengthen 79 = .ok (.istore 5, 2) := by decide +kernel
theorem dX0_lengthen_81 : decode cX0_lengthen 81 = .ok (.iload 5, 2) := by decide +kernel
theorem dX0_lengthen_83 : decode cX0_lengthen 83 = .ok (.bipush 10, 2) := by decide +kernel
theorem dX0_lengthen_85 : decode cX0_lengthen 85 = .ok (.if_icmp .ge 28, 3) := by decide +kernel
theorem dX0_lengthen_88 : decode cX0_lengthen 88 = .ok (.aload_n 0, 1) := by decide +kernel
theorem dX0_lengthen_89 : decode cX0_lengthen 89 = .ok (.getfield 29, 3) := by decide +kernel
theorem dX0_lengthen_92 : decode cX0_lengthen 92 = .ok (.iload 5, 2) := by decide +kernel
theorem dX0_lengthen_94 : decode cX0_lengthen 94 = .ok (.aload_n 0, 1) := by decide +kernel
theorem dX0_lengthen_95 : decode cX0_lengthen 95 = .ok (.aload_n 0, 1) := by decide +kernel
theorem dX0_lengthen_96 : decode cX0_lengthen 96 = .ok (.getfield 32, 3) := by decide +kernel
theorem dX0_lengthen_99 : decode cX0_lengthen 99 = .ok (.iload 5, 2) := by decide +kernel
theorem dX0_lengthen_101 : decode cX0_lengthen 101 = .ok (.iaload, 1) := by decide +kernel
theorem dX0_lengthen_102 : decode cX0_lengthen 102 = .ok (.iload_n 1, 1) := by decide +kernel
theorem dX0_lengthen_103 : decode cX0_lengthen 103 = .ok (.invokevirtual 87, 3) := by decide +kernel
theorem dX0_lengthen_106 : decode cX0_lengthen 106 = .ok (.iastore, 1) := by decide +kernel
theorem dX0_lengthen_107 : decode cX0_lengthen 107 = .ok (.iinc 5 1, 3) := by decide +kernel
theorem dX0_lengthen_110 : decode cX0_lengthen 110 = .ok (.goto (-29), 3) := by decide +kernel
theorem dX0_lengthen_113 : decode cX0_lengthen 113 = .ok (.aload_n 0, 1) := by decide +kernel
theorem dX0_lengthen_114 : decode cX0_lengthen 114 = .ok (.iload_n 2, 1) := by decide +kernel
theorem dX0_lengthen_115 : decode cX0_lengthen 115 = .ok (.iload_n 3, 1) := by decide +kernel
theorem dX0_lengthen_116 : decode cX0_lengthen 116 = .ok (.iadd, 1) := by decide +kernel
theorem dX0_lengthen_117 : decode cX0_lengthen 117 = .ok (.aload_n 0, 1) := by decide +kernel
theorem dX0_lengthen_118 : decode cX0_lengthen 118 = .ok (.getfield 80, 3) := by decide +kernel
theorem dX0_lengthen_121 : decode cX0_lengthen 121 = .ok (.isub, 1) := by decide +kernel
theorem dX0_lengthen_122 : decode cX0_lengthen 122 = .ok (.putfield 80, 3) := by decide +kernel
theorem dX0_lengthen_125 : decode cX0_lengthen 125 = .ok (.return_, 1) := by decide +kernel
theorem dX0_over_0 : decode cX0_over 0 = .ok (.iload_n 1, 1) := by decide +kernel
theorem dX0_over_1 : decode cX0_over 1 = .ok (.ifCond .ne 7, 3) := by decide +kernel
theorem dX0_over_4 : decode cX0_over 4 = .ok (.iconst 0, 1) := by decide +kernel
theorem dX0_over_5 : decode cX0_over 5 = .ok (.goto 24, 3) := by decide +kernel
theorem dX0_over_8 : decode cX0_over 8 = .ok (.aload_n 0, 1) := by decide +kernel
theorem dX0_over_9 : decode cX0_over 9 = .ok (.getfield 17, 3) := by decide +kernel
theorem dX0_over_12 : decode cX0_over 12 = .ok (.aload_n 0, 1) := by decide +kernel
theorem dX0_over_13 : decode cX0_over 13 = .ok (.getfield 20, 3) := by decide +kernel
theorem dX0_over_16 : decode cX0_over 16 = .ok (.iload_n 1, 1) := by decide +kernel
theorem dX0_over_17 : decode cX0_over 17 = .ok (.iaload, 1) := by decide +kernel
theorem dX0_over_18 : decode cX0_over 18 = .ok (.bipush 7, 2) := by decide +kernel
theorem dX0_over_20 : decode cX0_over 20 = .ok (.iadd, 1) := by decide +kernel
theorem dX0_over_21 : decode cX0_over 21 = .ok (.aload_n 0, 1) := by decide +kernel
theorem dX0_over_22 : decode cX0_over 22 = .ok (.getfield 20, 3) := by decide +kernel
theorem dX0_over_25 : decode cX0_over 25 = .ok (.iload_n 2, 1) := by decide +kernel
theorem dX0_over_26 : decode cX0_over 26 = .ok (.iaload, 1) := by decide +kernel
theorem dX0_over_27 : decode cX0_over 27 = .ok (.isub, 1) := by decide +kernel
theorem dX0_over_28 : decode cX0_over 28 = .ok (.iaload, 1) := by decide +kernel
theorem dX0_over_29 : decode cX0_over 29 = .ok (.ireturn, 1) := by decide +kernel
theorem dX0_findNumerator_0 : decode cX0_findNumerator 0 = .ok (.iconst 0, 1) := by decide +kernel
theorem dX0_findNumerator_1 : decode cX0_findNumerator 1 = .ok (.istore_n 1, 1) := by decide +kernel
theorem dX0_findNumerator_2 : decode cX0_findNumerator 2 = .ok (.iload_n 1, 1) := by decide +kernel
theorem dX0_findNumerator_3 : decode cX0_findNumerator 3 = .ok (.iconst 4, 1) := by decide +kernel
theorem dX0_findNumerator_4 : decode cX0_findNumerator 4 = .ok (.if_icmp .ge 58, 3) := by decide +kernel
theorem dX0_findNumerator_7 : decode cX0_findNumerator 7 = .ok (.aload_n 0, 1) := by decide +kernel
theorem dX0_findNumerator_8 : decode cX0_findNumerator 8 = .ok (.getfield 35, 3) := by decide +kernel
theorem dX0_findNumerator_11 : decode cX0_findNumerator 11 = .ok (.iload_n 1, 1) := by decide +kernel
theorem dX0_findNumerator_12 : decode cX0_findNumerator 12 = .ok (.iconst 0, 1) := by decide +kernel
theorem dX0_findNumerator_13 : decode cX0_findNumerator 13 = .ok (.iastore, 1) := by decide +kernel
theorem dX0_findNumerator_14 : decode cX0_findNumerator 14 = .ok (.iconst 0, 1) := by decide +kernel
theorem dX0_findNumerator_15 : decode cX0_findNumerator 15 = .ok (.istore_n 2, 1) := by decide +kernel
theorem dX0_findNumerator_16 : decode cX0_findNumerator 16 = .ok (.iload_n 2, 1) := by decide +kernel
theorem dX0_findNumerator_17 : decode cX0_findNumerator 17 = .ok (.iload_n 1, 1) := by decide +kernel
theorem dX0_findNumerator_18 : decode cX0_findNumerator 18 = .ok (.if_icmp .gt 38, 3) := by decide +kernel
theorem dX0_findNumerator_21 : decode cX0_findNumerator 21 = .ok (.aload_n 0, 1) := by decide +kernel
theorem dX0_findNumerator_22 : decode cX0_findNumerator 22 = .ok (.getfield 35, 3) := by decide +kernel
theorem dX0_findNumerator_25 : decode cX0_findNumerator 25 = .ok (.iload_n 1, 1) := by decide +kernel
theorem dX0_findNumerator_26 : decode cX0_findNumerator 26 = .ok (.dup2, 1) := by decide +kernel
theorem dX0_findNumerator_27 : decode cX0_findNumerator 27 = .ok (.iaload, 1) := by decide +kernel
theorem dX0_findNumerator_28 : decode cX0_findNumerator 28 = .ok (.aload_n 0, 1) := by decide +kernel
theorem dX0_findNumerator_29 : decode cX0_findNumerator 29 = .ok (.aload_n 0, 1) := by decide +kernel
theorem dX0_findNumerator_30 : decode cX0_findNumerator 30 = .ok (.getfield 26, 3) := by decide +kernel
theorem dX0_findNumerator_33 : decode cX0_findNumerator 33 = .ok (.iload_n 2, 1) := by decide +kernel
theorem dX0_findNumerator_34 : decode cX0_findNumerator 34 = .ok (.iaload, 1) := by decide +kernel
theorem dX0_findNumerator_35 : decode cX0_findNumerator 35 = .ok (.aload_n 0, 1) := by decide +kernel
theorem dX0_findNumerator_36 : decode cX0_findNumerator 36 = .ok (.getfield 23, 3) := by decide +kernel
theorem dX0_findNumerator_39 : decode cX0_findNumerator 39 = .ok (.iload_n 1, 1) := by decide +kernel
theorem dX0_findNumerator_40 : decode cX0_findNumerator 40 = .ok (.iload_n 2, 1) := by decide +kernel
theorem dX0_findNumerator_41 : decode cX0_findNumerator 41 = .ok (.isub, 1) := by decide +kernel
theorem dX0_findNumerator_42 : decode cX0_findNumerator 42 = .ok (.iconst 1, 1) := by decide +kernel
theorem dX0_findNumerator_43 : decode cX0_findNumerator 43 = .ok (.iadd, 1) := by decide +kernel
theorem dX0_findNumerator_44 : decode cX0_findNumerator 44 = .ok (.iaload, 1) := by decide +kernel
theorem dX0_findNumerator_45 : decode cX0_findNumerator 45 = .ok (.invokevirtual 59, 3) := by decide +kernel
theorem dX0_findNumerator_48 : decode cX0_findNumerator 48 = .ok (.ixor, 1) := by decide +kernel
theorem dX0_findNumerator_49 : decode cX0_findNumerator 49 = .ok (.iastore, 1) := by decide +kernel
theorem dX0_findNumerator_50 : decode cX0_findNumerator 50 = .ok (.iinc 2 1, 3) := by decide +kernel
theorem dX0_findNumerator_53 : decode cX0_findNumerator 53 = .ok (.goto (-37), 3) := by decide +kernel
theorem dX0_findNumerator_56 : decode cX0_findNumerator 56 = .ok (.iinc 1 1, 3) := by decide +kernel
theorem dX0_findNumerator_59 : decode cX0_findNumerator 59 = .ok (.goto (-57), 3) := by decide +kernel
theorem dX0_findNumerator_62 : decode cX0_findNumerator 62 = .ok (.return_, 1) := by decide +kernel
theorem dX0_correct_0 : decode cX0_correct 0 = .ok (.aload_n 0, 1) := by decide +kernel
theorem dX0_correct_1 : decode cX0_correct 1 = .ok (.getfield 17, 3) := by decide +kernel
theorem dX0_correct_4 : decode cX0_correct 4 = .ok (.bipush 7, 2) := by decide +kernel
theorem dX0_correct_6 : decode cX0_correct 6 = .ok (.iload_n 1, 1) := by decide +kernel
theorem dX0_correct_7 : decode cX0_correct 7 = .ok (.isub, 1) := by decide +kernel
theorem dX0_correct_8 : decode cX0_correct 8 = .ok (.iaload, 1) := by decide +kernel
theorem dX0_correct_9 : decode cX0_correct 9 = .ok (.istore_n 2, 1) := by decide +kernel
theorem dX0_correct_10 : decode cX0_correct 10 = .ok (.iconst 0, 1) := by decide +kernel
theorem dX0_correct_11 : decode cX0_correct 11 = .ok (.istore_n 3, 1) := by decide +kernel
theorem dX0_correct_12 : decode cX0_correct 12 = .ok (.iconst 0, 1) := by decide +kernel
theorem dX0_correct_13 : decode cX0_correct 13 = .ok (.istore 4, 2) := by decide +kernel
theorem dX0_correct_15 : decode cX0_correct 15 = .ok (.iconst 0, 1) := by decide +kernel
theorem dX0_correct_16 : decode cX0_correct 16 = .ok (.istore 5, 2) := by decide +kernel
theorem dX0_correct_18 : decode cX0_correct 18 = .ok (.iconst 1, 1) := by decide +kernel
theorem dX0_correct_19 : decode cX0_correct 19 = .ok (.istore 6, 2) := by decide +kernel
theorem dX0_correct_21 : decode cX0_correct 21 = .ok (.iconst 0, 1) := by decide +kernel
theorem dX0_correct_22 : decode cX0_correct 22 = .ok (.istore 7, 2) := by decide +kernel
theorem dX0_correct_24 : decode cX0_correct 24 = .ok (.iload 7, 2) := by decide +kernel
theorem dX0_correct_26 : decode cX0_correct 26 = .ok (.bipush 8, 2) := by decide +kernel
theorem dX0_correct_28 : decode cX0_correct 28 = .ok (.if_icmp .ge 84, 3) := by decide +kernel
theorem dX0_correct_31 : decode cX0_correct 31 = .ok (.aload_n 0, 1) := by decide +kernel
theorem dX0_correct_32 : decode cX0_correct 32 = .ok (.aload_n 0, 1) := by decide +kernel
theorem dX0_correct_33 : decode cX0_correct 33 = .ok (.getfield 26, 3) := by decide +kernel
theorem dX0_correct_36 : decode cX0_correct 36 = .ok (.iload 7, 2) := by decide +kernel
theorem dX0_correct_38 : decode cX0_correct 38 = .ok (.iaload, 1) := by decide +kernel
theorem dX0_correct_39 : decode cX0_correct 39 = .ok (.iload 6, 2) := by decide +kernel
theorem dX0_correct_41 : decode cX0_correct 41 = .ok (.invokevirtual 59, 3) := by decide +kernel
theorem dX0_correct_44 : decode cX0_correct 44 = .ok (.istore 8, 2) := by decide +kernel
theorem dX0_correct_46 : decode cX0_correct 46 = .ok (.iload_n 3, 1) := by decide +kernel
theorem dX0_correct_47 : decode cX0_correct 47 = .ok (.iload 8, 2) := by decide +kernel
theorem dX0_correct_49 : decode cX0_correct 49 = .ok (.ixor, 1) := by decide +kernel
theorem dX0_correct_50 : decode cX0_correct 50 = .ok (.istore_n 3, 1) := by decide +kernel
theorem dX0_correct_51 : decode cX0_correct 51 = .ok (.iload 4, 2) := by decide +kernel
theorem dX0_correct_53 : decode cX0_correct 53 = .ok (.iload 7, 2) := by decide +kernel
theorem dX0_correct_55 : decode cX0_correct 55 = .ok (.iconst 1, 1) := by decide +kernel
theorem dX0_correct_56 : decode cX0_correct 56 = .ok (.iand, 1) := by decide +kernel
theorem dX0_correct_57 : decode cX0_correct 57 = .ok (.ifCond .eq 8, 3) := by decide +kernel
theorem dX0_correct_60 : decode cX0_correct 60 = .ok (.iload 8, 2) := by decide +kernel
theorem dX0_correct_62 : decode cX0_correct 62 = .ok (.goto 4, 3) := by decide +kernel
theorem dX0_correct_65 : decode cX0_correct 65 = .ok (.iconst 0, 1) := by decide +kernel
theorem dX0_correct_66 : decode cX0_correct 66 = .ok (.ixor, 1) := by decide +kernel
theorem dX0_correct_67 : decode cX0_correct 67 = .ok (.istore 4, 2) := by decide +kernel
theorem dX0_correct_69 : decode cX0_correct 69 = .ok (.iload 5, 2) := by decide +kernel
theorem dX0_correct_71 : decode cX0_correct 71 = .ok (.iload 7, 2) := by decide +kernel
theorem dX0_correct_73 : decode cX0_correct 73 = .ok (.iconst 4, 1) := by decide +kernel
theorem dX0_correct_74 : decode cX0_correct 74 = .ok (.if_icmp .ge 19, 3) := by decide +kernel
theorem dX0_correct_77 : decode cX0_correct 77 = .ok (.aload_n 0, 1) := by decide +kernel
theorem dX0_correct_78 : decode cX0_correct 78 = .ok (.aload_n 0, 1) := by decide +kernel
theorem dX0_correct_79 : decode cX0_correct 79 = .ok (.getfield 35, 3) := by decide +kernel
theorem dX0_correct_82 : decode cX0_correct 82 = .ok (.iload 7, 2) := by decide +kernel
theorem dX0_correct_84 : decode cX0_correct 84 = .ok (.iaload, 1) := by decide +kernel
theorem dX0_correct_85 : decode cX0_correct 85 = .ok (.iload 6, 2) := by decide +kernel
theorem dX0_correct_87 : decode cX0_correct 87 = .ok (.invokevirtual 59, 3) := by decide +kernel
theorem dX0_correct_90 : decode cX0_correct 90 = .ok (.goto 4, 3) := by decide +kernel
theorem dX0_correct_93 : decode cX0_correct 93 = .ok (.iconst 0, 1) := by decide +kernel
theorem dX0_correct_94 : decode cX0_correct 94 = .ok (.ixor, 1) := by decide +kernel
theorem dX0_correct_95 : decode cX0_correct 95 = .ok (.istore 5, 2) := by decide +kernel
theorem dX0_correct_97 : decode cX0_correct 97 = .ok (.aload_n 0, 1) := by decide +kernel
theorem dX0_correct_98 : decode cX0_correct 98 = .ok (.iload 6, 2) := by decide +kernel
theorem dX0_correct_100 : decode cX0_correct 100 = .ok (.iload_n 2, 1) := by decide +kernel
theorem dX0_correct_101 : decode cX0_correct 101 = .ok (.invokevirtual 59, 3) := by decide +kernel
theorem dX0_correct_104 : decode cX0_correct 104 = .ok (.istore 6, 2) := by decide +kernel
theorem dX0_correct_106 : decode cX0_correct 106 = .ok (.iinc 7 1, 3) := by decide +kernel
theorem dX0_correct_109 : decode cX0_correct 109 = .ok (.goto (-85), 3) := by decide +kernel
theorem dX0_correct_112 : decode cX0_correct 112 = .ok (.iload_n 3, 1) := by decide +kernel
theorem dX0_correct_113 : decode cX0_correct 113 = .ok (.ifCond .ne 39, 3) := by decide +kernel
theorem dX0_correct_116 : decode cX0_correct 116 = .ok (.iload 4, 2) := by decide +kernel
theorem dX0_correct_118 : decode cX0_correct 118 = .ok (.ifCond .eq 34, 3) := by decide +kernel
theorem dX0_correct_121 : decode cX0_correct 121 = .ok (.aload_n 0, 1) := by decide +kernel
theorem dX0_correct_122 : decode cX0_correct 122 = .ok (.iload 4, 2) := by decide +kernel
theorem dX0_correct_124 : decode cX0_correct 124 = .ok (.aload_n 0, 1) := by decide +kernel
theorem dX0_correct_125 : decode cX0_correct 125 = .ok (.getfield 17, 3) := by decide +kernel
theorem dX0_correct_128 : decode cX0_correct 128 = .ok (.iload_n 1, 1) := by decide +kernel
theorem dX0_correct_129 : decode cX0_correct 129 = .ok (.iaload, 1) := by decide +kernel
theorem dX0_correct_130 : decode cX0_correct 130 = .ok (.invokevirtual 59, 3) := by decide +kernel
theorem dX0_correct_133 : decode cX0_correct 133 = .ok (.istore 7, 2) := by decide +kernel
theorem dX0_correct_135 : decode cX0_correct 135 = .ok (.aload_n 0, 1) := by decide +kernel
theorem dX0_correct_136 : decode cX0_correct 136 = .ok (.getfield 38, 3) := by decide +kernel
theorem dX0_correct_139 : decode cX0_correct 139 = .ok (.iload_n 1, 1) := by decide +kernel
theorem dX0_correct_140 : decode cX0_correct 140 = .ok (.dup2, 1) := by decide +kernel
theorem dX0_correct_141 : decode cX0_correct 141 = .ok (.iaload, 1) := by decide +kernel
theorem dX0_correct_142 : decode cX0_correct 142 = .ok (.aload_n 0, 1) := by decide +kernel
theorem dX0_correct_143 : decode cX0_correct 143 = .ok (.iload 5, 2) := by decide +kernel
theorem dX0_correct_145 : decode cX0_correct 145 = .ok (.iload 7, 2) := by decide +kernel
theorem dX0_correct_147 : decode cX0_correct 147 = .ok (.invokevirtual 87, 3) := by decide +kernel
theorem dX0_correct_150 : decode cX0_correct 150 = .ok (.ixor, 1) := by decide +kernel
theorem dX0_correct_151 : decode cX0_correct 151 = .ok (.iastore, 1) := by decide +kernel
theorem dX0_correct_152 : decode cX0_correct 152 = .ok (.return_, 1) := by decide +kernel
theorem dX0_isRight_0 : decode cX0_isRight 0 = .ok (.aload_n 0, 1) := by decide +kernel
theorem dX0_isRight_1 : decode cX0_isRight 1 = .ok (.iconst 0, 1) := by decide +kernel
theorem dX0_isRight_2 : decode cX0_isRight 2 = .ok (.putfield 55, 3) := by decide +kernel
theorem dX0_isRight_5 : decode cX0_isRight 5 = .ok (.iconst 0, 1) := by decide +kernel
theorem dX0_isRight_6 : decode cX0_isRight 6 = .ok (.istore_n 2, 1) := by decide +kernel
theorem dX0_isRight_7 : decode cX0_isRight 7 = .ok (.iload_n 2, 1) := by decide +kernel
theorem dX0_isRight_8 : decode cX0_isRight 8 = .ok (.bipush 7, 2) := by decide +kernel
theorem dX0_isRight_10 : decode cX0_isRight 10 = .ok (.if_icmp .ge 47, 3) := by decide +kernel
theorem dX0_isRight_13 : decode cX0_isRight 13 = .ok (.aload_n 0, 1) := by decide +kernel
theorem dX0_isRight_14 : decode cX0_isRight 14 = .ok (.dup, 1) := by decide +kernel
theorem dX0_isRight_15 : decode cX0_isRight 15 = .ok (.getfield 55, 3) := by decide +kernel
theorem dX0_isRight_18 : decode cX0_isRight 18 = .ok (.aload_n 0, 1) := by decide +kernel
theorem dX0_isRight_19 : decode cX0_isRight 19 = .ok (.getfield 13, 3) := by decide +kernel
theorem dX0_isRight_22 : decode cX0_isRight 22 = .ok (.iload_n 2, 1) := by decide +kernel
theorem dX0_isRight_23 : decode cX0_isRight 23 = .ok (.baload, 1) := by decide +kernel
theorem dX0_isRight_24 : decode cX0_isRight 24 = .ok (.ifCond .ne 22, 3) := by decide +kernel
theorem dX0_isRight_27 : decode cX0_isRight 27 = .ok (.aload_n 0, 1) := by decide +kernel
theorem dX0_isRight_28 : decode cX0_isRight 28 = .ok (.getfield 38, 3) := by decide +kernel
theorem dX0_isRight_31 : decode cX0_isRight 31 = .ok (.iload_n 2, 1) := by decide +kernel
theorem dX0_isRight_32 : decode cX0_isRight 32 = .ok (.iaload, 1) := by decide +kernel
theorem dX0_isRight_33 : decode cX0_isRight 33 = .ok (.aload_n 0, 1) := by decide +kernel
theorem dX0_isRight_34 : decode cX0_isRight 34 = .ok (.getfield 7, 3) := by decide +kernel
theorem dX0_isRight_37 : decode cX0_isRight 37 = .ok (.iload_n 2, 1) := by decide +kernel
theorem dX0_isRight_38 : decode cX0_isRight 38 = .ok (.iaload, 1) := by decide +kernel
theorem dX0_isRight_39 : decode cX0_isRight 39 = .ok (.if_icmp .eq 7, 3) := by decide +kernel
theorem dX0_isRight_42 : decode cX0_isRight 42 = .ok (.iconst 1, 1) := by decide +kernel
theorem dX0_isRight_43 : decode cX0_isRight 43 = .ok (.goto 4, 3) := by decide +kernel
theorem dX0_isRight_46 : decode cX0_isRight 46 = .ok (.iconst 0, 1) := by decide +kernel
theorem dX0_isRight_47 : decode cX0_isRight 47 = .ok (.iadd, 1) := by decide +kernel
theorem dX0_isRight_48 : decode cX0_isRight 48 = .ok (.putfield 55, 3) := by decide +kernel
theorem dX0_isRight_51 : decode cX0_isRight 51 = .ok (.iinc 2 1, 3) := by decide +kernel
theorem dX0_isRight_54 : decode cX0_isRight 54 = .ok (.goto (-47), 3) := by decide +kernel
theorem dX0_isRight_57 : decode cX0_isRight 57 = .ok (.iconst 1, 1) := by decide +kernel
theorem dX0_isRight_58 : decode cX0_isRight 58 = .ok (.istore_n 2, 1) := by decide +kernel
theorem dX0_isRight_59 : decode cX0_isRight 59 = .ok (.iload_n 2, 1) := by decide +kernel
theorem dX0_isRight_60 : decode cX0_isRight 60 = .ok (.iconst 5, 1) := by decide +kernel
theorem dX0_isRight_61 : decode cX0_isRight 61 = .ok (.if_icmp .ge 30, 3) := by decide +kernel
theorem dX0_isRight_64 : decode cX0_isRight 64 = .ok (.aload_n 0, 1) := by decide +kernel
theorem dX0_isRight_65 : decode cX0_isRight 65 = .ok (.aload_n 0, 1) := by decide +kernel
theorem dX0_isRight_66 : decode cX0_isRight 66 = .ok (.getfield 38, 3) := by decide +kernel
theorem dX0_isRight_69 : decode cX0_isRight 69 = .ok (.aload_n 0, 1) := by decide +kernel
theorem dX0_isRight_70 : decode cX0_isRight 70 = .ok (.getfield 17, 3) := by decide +kernel
theorem dX0_isRight_73 : decode cX0_isRight 73 = .ok (.iload_n 2, 1) := by decide +kernel
theorem dX0_isRight_74 : decode cX0_isRight 74 = .ok (.iaload, 1) := by decide +kernel
theorem dX0_isRight_75 : decode cX0_isRight 75 = .ok (.invokevirtual 63, 3) := by decide +kernel
theorem dX0_isRight_78 : decode cX0_isRight 78 = .ok (.istore_n 3, 1) := by decide +kernel
theorem dX0_isRight_79 : decode cX0_isRight 79 = .ok (.iload_n 3, 1) := by decide +kernel
theorem dX0_isRight_80 : decode cX0_isRight 80 = .ok (.ifCond .eq 5, 3) := by decide +kernel
theorem dX0_isRight_83 : decode cX0_isRight 83 = .ok (.iconst 0, 1) := by decide +kernel
theorem dX0_isRight_84 : decode cX0_isRight 84 = .ok (.ireturn, 1) := by decide +kernel
theorem dX0_isRight_85 : decode cX0_isRight 85 = .ok (.iinc 2 1, 3) := by decide +kernel
theorem dX0_isRight_88 : decode cX0_isRight 88 = .ok (.goto (-29), 3) := by decide +kernel
theorem dX0_isRight_91 : decode cX0_isRight 91 = .ok (.iconst 2, 1) := by decide +kernel
theorem dX0_isRight_92 : decode cX0_isRight 92 = .ok (.aload_n 0, 1) := by decide +kernel
theorem dX0_isRight_93 : decode cX0_isRight 93 = .ok (.getfield 55, 3) := by decide +kernel
theorem dX0_isRight_96 : decode cX0_isRight 96 = .ok (.imul, 1) := by decide +kernel
theorem dX0_isRight_97 : decode cX0_isRight 97 = .ok (.iload_n 1, 1) := by decide +kernel
theorem dX0_isRight_98 : decode cX0_isRight 98 = .ok (.iadd, 1) := by decide +kernel
theorem dX0_isRight_99 : decode cX0_isRight 99 = .ok (.iconst 4, 1) := by decide +kernel
theorem dX0_isRight_100 : decode cX0_isRight 100 = .ok (.if_icmp .gt 7, 3) := by decide +kernel
theorem dX0_isRight_103 : decode cX0_isRight 103 = .ok (.iconst 1, 1) := by decide +kernel
theorem dX0_isRight_104 : decode cX0_isRight 104 = .ok (.goto 4, 3) := by decide +kernel
theorem dX0_isRight_107 : decode cX0_isRight 107 = .ok (.iconst 0, 1) := by decide +kernel
theorem dX0_isRight_108 : decode cX0_isRight 108 = .ok (.ireturn, 1) := by decide +kernel
theorem dX0_mended_0 : decode cX0_mended 0 = .ok (.iload_n 1, 1) := by decide +kernel
theorem dX0_mended_1 : decode cX0_mended 1 = .ok (.invokestatic 48, 3) := by decide +kernel
theorem dX0_mended_4 : decode cX0_mended 4 = .ok (.ifCond .eq 19, 3) := by decide +kernel
theorem dX0_mended_7 : decode cX0_mended 7 = .ok (.aload_n 0, 1) := by decide +kernel
theorem dX0_mended_8 : decode cX0_mended 8 = .ok (.invokevirtual 51, 3) := by decide +kernel
theorem dX0_mended_11 : decode cX0_mended 11 = .ok (.ifCond .eq 12, 3) := by decide +kernel
theorem dX0_mended_14 : decode cX0_mended 14 = .ok (.aload_n 0, 1) := by decide +kernel
theorem dX0_mended_15 : decode cX0_mended 15 = .ok (.getfield 38, 3) := by decide +kernel
theorem dX0_mended_18 : decode cX0_mended 18 = .ok (.iload_n 1, 1) := by decide +kernel
theorem dX0_mended_19 : decode cX0_mended 19 = .ok (.iaload, 1) := by decide +kernel
theorem dX0_mended_20 : decode cX0_mended 20 = .ok (.goto 4, 3) := by decide +kernel
theorem dX0_mended_23 : decode cX0_mended 23 = .ok (.iconst (-1), 1) := by decide +kernel
theorem dX0_mended_24 : decode cX0_mended 24 = .ok (.ireturn, 1) := by decide +kernel
theorem dX0_wrong_0 : decode cX0_wrong 0 = .ok (.aload_n 0, 1) := by decide +kernel
theorem dX0_wrong_1 : decode cX0_wrong 1 = .ok (.invokevirtual 51, 3) := by decide +kernel
theorem dX0_wrong_4 : decode cX0_wrong 4 = .ok (.ifCond .eq 10, 3) := by decide +kernel
theorem dX0_wrong_7 : decode cX0_wrong 7 = .ok (.aload_n 0, 1) := by decide +kernel
theorem dX0_wrong_8 : decode cX0_wrong 8 = .ok (.getfield 55, 3) := by decide +kernel
theorem dX0_wrong_11 : decode cX0_wrong 11 = .ok (.goto 4, 3) := by decide +kernel
theorem dX0_wrong_14 : decode cX0_wrong 14 = .ok (.iconst (-1), 1) := by decide +kernel
theorem dX0_wrong_15 : decode cX0_wrong 15 = .ok (.ireturn, 1) := by decide +kernel
theorem dX0_mend_0 : decode cX0_mend 0 = .ok (.aload_n 0, 1) := by decide +kernel
theorem dX0_mend_1 : decode cX0_mend 1 = .ok (.invokevirtual 51, 3) := by decide +kernel
theorem dX0_mend_4 : decode cX0_mend 4 = .ok (.ifCond .ne 5, 3) := by decide +kernel
theorem dX0_mend_7 : decode cX0_mend 7 = .ok (.iconst 0, 1) := by decide +kernel
theorem dX0_mend_8 : decode cX0_mend 8 = .ok (.ireturn, 1) := by decide +kernel
theorem dX0_mend_9 : decode cX0_mend 9 = .ok (.iconst 0, 1) := by decide +kernel
theorem dX0_mend_10 : decode cX0_mend 10 = .ok (.istore_n 1, 1) := by decide +kernel
theorem dX0_mend_11 : decode cX0_mend 11 = .ok (.iload_n 1, 1) := by decide +kernel
theorem dX0_mend_12 : decode cX0_mend 12 = .ok (.bipush 7, 2) := by decide +kernel
theorem dX0_mend_14 : decode cX0_mend 14 = .ok (.if_icmp .ge 28, 3) := by decide +kernel
theorem dX0_mend_17 : decode cX0_mend 17 = .ok (.aload_n 0, 1) := by decide +kernel
theorem dX0_mend_18 : decode cX0_mend 18 = .ok (.getfield 7, 3) := by decide +kernel
theorem dX0_mend_21 : decode cX0_mend 21 = .ok (.iload_n 1, 1) := by decide +kernel
theorem dX0_mend_22 : decode cX0_mend 22 = .ok (.aload_n 0, 1) := by decide +kernel
theorem dX0_mend_23 : decode cX0_mend 23 = .ok (.getfield 38, 3) := by decide +kernel
theorem dX0_mend_26 : decode cX0_mend 26 = .ok (.iload_n 1, 1) := by decide +kernel
theorem dX0_mend_27 : decode cX0_mend 27 = .ok (.iaload, 1) := by decide +kernel
theorem dX0_mend_28 : decode cX0_mend 28 = .ok (.iastore, 1) := by decide +kernel
theorem dX0_mend_29 : decode cX0_mend 29 = .ok (.aload_n 0, 1) := by decide +kernel
theorem dX0_mend_30 : decode cX0_mend 30 = .ok (.getfield 13, 3) := by decide +kernel
theorem dX0_mend_33 : decode cX0_mend 33 = .ok (.iload_n 1, 1) := by decide +kernel
theorem dX0_mend_34 : decode cX0_mend 34 = .ok (.iconst 0, 1) := by decide +kernel
theorem dX0_mend_35 : decode cX0_mend 35 = .ok (.bastore, 1) := by decide +kernel
theorem dX0_mend_36 : decode cX0_mend 36 = .ok (.iinc 1 1, 3) := by decide +kernel
theorem dX0_mend_39 : decode cX0_mend 39 = .ok (.goto (-28), 3) := by decide +kernel
theorem dX0_mend_42 : decode cX0_mend 42 = .ok (.iconst 1, 1) := by decide +kernel
theorem dX0_mend_43 : decode cX0_mend 43 = .ok (.ireturn, 1) := by decide +kernel
theorem dX0_product_0 : decode cX0_product 0 = .ok (.iload_n 1, 1) := by decide +kernel
theorem dX0_product_1 : decode cX0_product 1 = .ok (.invokestatic 41, 3) := by decide +kernel
theorem dX0_product_4 : decode cX0_product 4 = .ok (.ifCond .eq 19, 3) := by decide +kernel
theorem dX0_product_7 : decode cX0_product 7 = .ok (.iload_n 2, 1) := by decide +kernel
theorem dX0_product_8 : decode cX0_product 8 = .ok (.invokestatic 41, 3) := by decide +kernel
theorem dX0_product_11 : decode cX0_product 11 = .ok (.ifCond .eq 12, 3) := by decide +kernel
theorem dX0_product_14 : decode cX0_product 14 = .ok (.aload_n 0, 1) := by decide +kernel
theorem dX0_product_15 : decode cX0_product 15 = .ok (.iload_n 1, 1) := by decide +kernel
theorem dX0_product_16 : decode cX0_product 16 = .ok (.iload_n 2, 1) := by decide +kernel
theorem dX0_product_17 : decode cX0_product 17 = .ok (.invokevirtual 59, 3) := by decide +kernel
theorem dX0_product_20 : decode cX0_product 20 = .ok (.goto 4, 3) := by decide +kernel
theorem dX0_product_23 : decode cX0_product 23 = .ok (.iconst (-1), 1) := by decide +kernel
theorem dX0_product_24 : decode cX0_product 24 = .ok (.ireturn, 1) := by decide +kernel
theorem dX0_value_0 : decode cX0_value 0 = .ok (.iload_n 1, 1) := by decide +kernel
theorem dX0_value_1 : decode cX0_value 1 = .ok (.invokestatic 41, 3) := by decide +kernel
theorem dX0_value_4 : decode cX0_value 4 = .ok (.ifCond .eq 15, 3) := by decide +kernel
theorem dX0_value_7 : decode cX0_value 7 = .ok (.aload_n 0, 1) := by decide +kernel
theorem dX0_value_8 : decode cX0_value 8 = .ok (.aload_n 0, 1) := by decide +kernel
theorem dX0_value_9 : decode cX0_value 9 = .ok (.getfield 7, 3) := by decide +kernel
theorem dX0_value_12 : decode cX0_value 12 = .ok (.iload_n 1, 1) := by decide +kernel
theorem dX0_value_13 : decode cX0_value 13 = .ok (.invokevirtual 63, 3) := by decide +kernel
theorem dX0_value_16 : decode cX0_value 16 = .ok (.goto 4, 3) := by decide +kernel
theorem dX0_value_19 : decode cX0_value 19 = .ok (.iconst (-1), 1) := by decide +kernel
theorem dX0_value_20 : decode cX0_value 20 = .ok (.ireturn, 1) := by decide +kernel
end
section
set_option maxRecDepth 100000
theorem dX1_init_0 : decode cX1_init 0 = .ok (.aload_n 0, 1) := by decide +kernel
theorem dX1_init_1 : decode cX1_init 1 = .ok (.invokespecial 1, 3) := by decide +kernel
theorem dX1_init_4 : decode cX1_init 4 = .ok (.aload_n 0, 1) := by decide +kernel
theorem dX1_init_5 : decode cX1_init 5 = .ok (.bipush 7, 2) := by decide +kernel
theorem dX1_init_7 : decode cX1_init 7 = .ok (.newarray .int, 2) := by decide +kernel
theorem dX1_init_9 : decode cX1_init 9 = .ok (.putfield 7, 3) := by decide +kernel
theorem dX1_init_12 : decode cX1_init 12 = .ok (.aload_n 0, 1) := by decide +kernel
theorem dX1_init_13 : decode cX1_init 13 = .ok (.bipush 7, 2) := by decide +kernel
theorem dX1_init_15 : decode cX1_init 15 = .ok (.newarray .boolean, 2) := by decide +kernel
theorem dX1_init_17 : decode cX1_init 17 = .ok (.putfield 13, 3) := by decide +kernel
theorem dX1_init_20 : decode cX1_init 20 = .ok (.aload_n 0, 1) := by decide +kernel
theorem dX1_init_21 : decode cX1_init 21 = .ok (.iconst 5, 1) := by decide +kernel
theorem dX1_init_22 : decode cX1_init 22 = .ok (.newarray .int, 2) := by decide +kernel
theorem dX1_init_24 : decode cX1_init 24 = .ok (.putfield 17, 3) := by decide +kernel
theorem dX1_init_27 : decode cX1_init 27 = .ok (.aload_n 0, 1) := by decide +kernel
theorem dX1_init_28 : decode cX1_init 28 = .ok (.bipush 7, 2) := by decide +kernel
theorem dX1_init_30 : decode cX1_init 30 = .ok (.newarray .int, 2) := by decide +kernel
theorem dX1_init_32 : decode cX1_init 32 = .ok (.putfield 20, 3) := by decide +kernel
theorem dX1_init_35 : decode cX1_init 35 = .ok (.aload_n 0, 1) := by decide +kernel
theorem dX1_init_36 : decode cX1_init 36 = .ok (.getfield 17, 3) := by decide +kernel
theorem dX1_init_39 : decode cX1_init 39 = .ok (.iconst 0, 1) := by decide +kernel
theorem dX1_init_40 : decode cX1_init 40 = .ok (.iconst 1, 1) := by decide +kernel
theorem dX1_init_41 : decode cX1_init 41 = .ok (.iastore, 1) := by decide +kernel
theorem dX1_init_42 : decode cX1_init 42 = .ok (.aload_n 0, 1) := by decide +kernel
theorem dX1_init_43 : decode cX1_init 43 = .ok (.iconst 2, 1) := by decide +kernel
theorem dX1_init_44 : decode cX1_init 44 = .ok (.invokevirtual 23, 3) := by decide +kernel
theorem dX1_init_47 : decode cX1_init 47 = .ok (.aload_n 0, 1) := by decide +kernel
theorem dX1_init_48 : decode cX1_init 48 = .ok (.iconst 4, 1) := by decide +kernel
theorem dX1_init_49 : decode cX1_init 49 = .ok (.invokevirtual 23, 3) := by decide +kernel
theorem dX1_init_52 : decode cX1_init 52 = .ok (.aload_n 0, 1) := by decide +kernel
theorem dX1_init_53 : decode cX1_init 53 = .ok (.iconst 3, 1) := by decide +kernel
theorem dX1_init_54 : decode cX1_init 54 = .ok (.invokevirtual 23, 3) := by decide +kernel
theorem dX1_init_57 : decode cX1_init 57 = .ok (.aload_n 0, 1) := by decide +kernel
theorem dX1_init_58 : decode cX1_init 58 = .ok (.bipush 6, 2) := by decide +kernel
theorem dX1_init_60 : decode cX1_init 60 = .ok (.invokevirtual 23, 3) := by decide +kernel
theorem dX1_init_63 : decode cX1_init 63 = .ok (.return_, 1) := by decide +kernel
theorem dX1_times_0 : decode cX1_times 0 = .ok (.iconst 4, 1) := by decide +kernel
theorem dX1_times_1 : decode cX1_times 1 = .ok (.istore_n 2, 1) := by decide +kernel
theorem dX1_times_2 : decode cX1_times 2 = .ok (.iload_n 2, 1) := by decide +kernel
theorem dX1_times_3 : decode cX1_times 3 = .ok (.ifCond .lt 44, 3) := by decide +kernel
theorem dX1_times_6 : decode cX1_times 6 = .ok (.iload_n 2, 1) := by decide +kernel
theorem dX1_times_7 : decode cX1_times 7 = .ok (.ifCond .le 14, 3) := by decide +kernel
theorem dX1_times_10 : decode cX1_times 10 = .ok (.aload_n 0, 1) := by decide +kernel
theorem dX1_times_11 : decode cX1_times 11 = .ok (.getfield 17, 3) := by decide +kernel
theorem dX1_times_14 : decode cX1_times 14 = .ok (.iload_n 2, 1) := by decide +kernel
theorem dX1_times_15 : decode cX1_times 15 = .ok (.iconst 1, 1) := by decide +kernel
theorem dX1_times_16 : decode cX1_times 16 = .ok (.isub, 1) := by decide +kernel
theorem dX1_times_17 : decode cX1_times 17 = .ok (.iaload, 1) := by decide +kernel
theorem dX1_times_18 : decode cX1_times 18 = .ok (.goto 4, 3) := by decide +kernel
theorem dX1_times_21 : decode cX1_times 21 = .ok (.iconst 0, 1) := by decide +kernel
theorem dX1_times_22 : decode cX1_times 22 = .ok (.istore_n 3, 1) := by decide +kernel
theorem dX1_times_23 : decode cX1_times 23 = .ok (.aload_n 0, 1) := by decide +kernel
theorem dX1_times_24 : decode cX1_times 24 = .ok (.getfield 17, 3) := by decide +kernel
theorem dX1_times_27 : decode cX1_times 27 = .ok (.iload_n 2, 1) := by decide +kernel
theorem dX1_times_28 : decode cX1_times 28 = .ok (.iload_n 3, 1) := by decide +kernel
theorem dX1_times_29 : decode cX1_times 29 = .ok (.aload_n 0, 1) := by decide +kernel
theorem dX1_times_30 : decode cX1_times 30 = .ok (.getfield 17, 3) := by decide +kernel
theorem dX1_times_33 : decode cX1_times 33 = .ok (.iload_n 2, 1) := by decide +kernel
theorem dX1_times_34 : decode cX1_times 34 = .ok (.iaload, 1) := by decide +kernel
theorem dX1_times_35 : decode cX1_times 35 = .ok (.iload_n 1, 1) := by decide +kernel
theorem dX1_times_36 : decode cX1_times 36 = .ok (.invokestatic 27, 3) := by decide +kernel
theorem dX1_times_39 : decode cX1_times 39 = .ok (.ixor, 1) := by decide +kernel
theorem dX1_times_40 : decode cX1_times 40 = .ok (.iastore, 1) := by decide +kernel
theorem dX1_times_41 : decode cX1_times 41 = .ok (.iinc 2 (-1), 3) := by decide +kernel
theorem dX1_times_44 : decode cX1_times 44 = .ok (.goto (-42), 3) := by decide +kernel
theorem dX1_times_47 : decode cX1_times 47 = .ok (.return_, 1) := by decide +kernel
theorem dX1_multiplied_0 : decode cX1_multiplied 0 = .ok (.iconst 0, 1) := by decide +kernel
theorem dX1_multiplied_1 : decode cX1_multiplied 1 = .ok (.istore_n 2, 1) := by decide +kernel
theorem dX1_multiplied_2 : decode cX1_multiplied 2 = .ok (.iconst 0, 1) := by decide +kernel
theorem dX1_multiplied_3 : decode cX1_multiplied 3 = .ok (.istore_n 3, 1) := by decide +kernel
theorem dX1_multiplied_4 : decode cX1_multiplied 4 = .ok (.iload_n 3, 1) := by decide +kernel
theorem dX1_multiplied_5 : decode cX1_multiplied 5 = .ok (.iconst 3, 1) := by decide +kernel
theorem dX1_multiplied_6 : decode cX1_multiplied 6 = .ok (.if_icmp .ge 24, 3) := by decide +kernel
theorem dX1_multiplied_9 : decode cX1_multiplied 9 = .ok (.iload_n 1, 1) := by decide +kernel
theorem dX1_multiplied_10 : decode cX1_multiplied 10 = .ok (.iload_n 3, 1) := by decide +kernel
theorem dX1_multiplied_11 : decode cX1_multiplied 11 = .ok (.ishr, 1) := by decide +kernel
theorem dX1_multiplied_12 : decode cX1_multiplied 12 = .ok (.iconst 1, 1) := by decide +kernel
theorem dX1_multiplied_13 : decode cX1_multiplied 13 = .ok (.iand, 1) := by decide +kernel
theorem dX1_multiplied_14 : decode cX1_multiplied 14 = .ok (.iconst 1, 1) := by decide +kernel
theorem dX1_multiplied_15 : decode cX1_multiplied 15 = .ok (.if_icmp .ne 9, 3) := by decide +kernel
theorem dX1_multiplied_18 : decode cX1_multiplied 18 = .ok (.iload_n 2, 1) := by decide +kernel
theorem dX1_multiplied_19 : decode cX1_multiplied 19 = .ok (.iload_n 0, 1) := by decide +kernel
theorem dX1_multiplied_20 : decode cX1_multiplied 20 = .ok (.iload_n 3, 1) := by decide +kernel
theorem dX1_multiplied_21 : decode cX1_multiplied 21 = .ok (.ishl, 1) := by decide +kernel
theorem dX1_multiplied_22 : decode cX1_multiplied 22 = .ok (.ixor, 1) := by decide +kernel
theorem dX1_multiplied_23 : decode cX1_multiplied 23 = .ok (.istore_n 2, 1) := by decide +kernel
theorem dX1_multiplied_24 : decode cX1_multiplied 24 = .ok (.iinc 3 1, 3) := by decide +kernel
theorem dX1_multiplied_27 : decode cX1_multiplied 27 = .ok (.goto (-23), 3) := by decide +kernel
theorem dX1_multiplied_30 : decode cX1_multiplied 30 = .ok (.iload_n 2, 1) := by decide +kernel
theorem dX1_multiplied_31 : decode cX1_multiplied 31 = .ok (.bipush 16, 2) := by decide +kernel
theorem dX1_multiplied_33 : decode cX1_multiplied 33 = .ok (.iand, 1) := by decide +kernel
theorem dX1_multiplied_34 : decode cX1_multiplied 34 = .ok (.ifCond .eq 11, 3) := by decide +kernel
theorem dX1_multiplied_37 : decode cX1_multiplied 37 = .ok (.iload_n 2, 1) := by decide +kernel
theorem dX1_multiplied_38 : decode cX1_multiplied 38 = .ok (.bipush 16, 2) := by decide +kernel
theorem dX1_multiplied_40 : decode cX1_multiplied 40 = .ok (.ixor, 1) := by decide +kernel
theorem dX1_multiplied_41 : decode cX1_multiplied 41 = .ok (.bipush 6, 2) := by decide +kernel
theorem dX1_multiplied_43 : decode cX1_multiplied 43 = .ok (.ixor, 1) := by decide +kernel
theorem dX1_multiplied_44 : decode cX1_multiplied 44 = .ok (.istore_n 2, 1) := by decide +kernel
theorem dX1_multiplied_45 : decode cX1_multiplied 45 = .ok (.iload_n 2, 1) := by decide +kernel
theorem dX1_multiplied_46 : decode cX1_multiplied 46 = .ok (.bipush 8, 2) := by decide +kernel
theorem dX1_multiplied_48 : decode cX1_multiplied 48 = .ok (.iand, 1) := by decide +kernel
theorem dX1_multiplied_49 : decode cX1_multiplied 49 = .ok (.ifCond .eq 10, 3) := by decide +kernel
theorem dX1_multiplied_52 : decode cX1_multiplied 52 = .ok (.iload_n 2, 1) := by decide +kernel
theorem dX1_multiplied_53 : decode cX1_multiplied 53 = .ok (.bipush 8, 2) := by decide +kernel
theorem dX1_multiplied_55 : decode cX1_multiplied 55 = .ok (.ixor, 1) := by decide +kernel
theorem dX1_multiplied_56 : decode cX1_multiplied 56 = .ok (.iconst 3, 1) := by decide +kernel
theorem dX1_multiplied_57 : decode cX1_multiplied 57 = .ok (.ixor, 1) := by decide +kernel
theorem dX1_multiplied_58 : decode cX1_multiplied 58 = .ok (.istore_n 2, 1) := by decide +kernel
theorem dX1_multiplied_59 : decode cX1_multiplied 59 = .ok (.iload_n 2, 1) := by decide +kernel
theorem dX1_multiplied_60 : decode cX1_multiplied 60 = .ok (.ireturn, 1) := by decide +kernel
theorem dX1_send_0 : decode cX1_send 0 = .ok (.iload_n 1, 1) := by decide +kernel
theorem dX1_send_1 : decode cX1_send 1 = .ok (.invokestatic 31, 3) := by decide +kernel
theorem dX1_send_4 : decode cX1_send 4 = .ok (.ifCond .ne 17, 3) := by decide +kernel
theorem dX1_send_7 : decode cX1_send 7 = .ok (.iload_n 2, 1) := by decide +kernel
theorem dX1_send_8 : decode cX1_send 8 = .ok (.invokestatic 31, 3) := by decide +kernel
theorem dX1_send_11 : decode cX1_send 11 = .ok (.ifCond .ne 10, 3) := by decide +kernel
theorem dX1_send_14 : decode cX1_send 14 = .ok (.iload_n 3, 1) := by decide +kernel
theorem dX1_send_15 : decode cX1_send 15 = .ok (.invokestatic 31, 3) := by decide +kernel
theorem dX1_send_18 : decode cX1_send 18 = .ok (.ifCond .eq 5, 3) := by decide +kernel
theorem dX1_send_21 : decode cX1_send 21 = .ok (.iconst (-1), 1) := by decide +kernel
theorem dX1_send_22 : decode cX1_send 22 = .ok (.ireturn, 1) := by decide +kernel
theorem dX1_send_23 : decode cX1_send 23 = .ok (.iconst 0, 1) := by decide +kernel
theorem dX1_send_24 : decode cX1_send 24 = .ok (.istore 4, 2) := by decide +kernel
theorem dX1_send_26 : decode cX1_send 26 = .ok (.iload 4, 2) := by decide +kernel
theorem dX1_send_28 : decode cX1_send 28 = .ok (.sipush 512, 3) := by decide +kernel
theorem dX1_send_31 : decode cX1_send 31 = .ok (.if_icmp .ge 50, 3) := by decide +kernel
theorem dX1_send_34 : decode cX1_send 34 = .ok (.aload_n 0, 1) := by decide +kernel
theorem dX1_send_35 : decode cX1_send 35 = .ok (.iload 4, 2) := by decide +kernel
theorem dX1_send_37 : decode cX1_send 37 = .ok (.invokevirtual 35, 3) := by decide +kernel
theorem dX1_send_40 : decode cX1_send 40 = .ok (.aload_n 0, 1) := by decide +kernel
theorem dX1_send_41 : decode cX1_send 41 = .ok (.getfield 20, 3) := by decide +kernel
theorem dX1_send_44 : decode cX1_send 44 = .ok (.iconst 4, 1) := by decide +kernel
theorem dX1_send_45 : decode cX1_send 45 = .ok (.iaload, 1) := by decide +kernel
theorem dX1_send_46 : decode cX1_send 46 = .ok (.iload_n 1, 1) := by decide +kernel
theorem dX1_send_47 : decode cX1_send 47 = .ok (.if_icmp .ne 28, 3) := by decide +kernel
theorem dX1_send_50 : decode cX1_send 50 = .ok (.aload_n 0, 1) := by decide +kernel
theorem dX1_send_51 : decode cX1_send 51 = .ok (.getfield 20, 3) := by decide +kernel
theorem dX1_send_54 : decode cX1_send 54 = .ok (.iconst 5, 1) := by decide +kernel
theorem dX1_send_55 : decode cX1_send 55 = .ok (.iaload, 1) := by decide +kernel
theorem dX1_send_56 : decode cX1_send 56 = .ok (.iload_n 2, 1) := by decide +kernel
theorem dX1_send_57 : decode cX1_send 57 = .ok (.if_icmp .ne 18, 3) := by decide +kernel
theorem dX1_send_60 : decode cX1_send 60 = .ok (.aload_n 0, 1) := by decide +kernel
theorem dX1_send_61 : decode cX1_send 61 = .ok (.getfield 20, 3) := by decide +kernel
theorem dX1_send_64 : decode cX1_send 64 = .ok (.bipush 6, 2) := by decide +kernel
theorem dX1_send_66 : decode cX1_send 66 = .ok (.iaload, 1) := by decide +kernel
theorem dX1_send_67 : decode cX1_send 67 = .ok (.iload_n 3, 1) := by decide +kernel
theorem dX1_send_68 : decode cX1_send 68 = .ok (.if_icmp .ne 7, 3) := by decide +kernel
theorem dX1_send_71 : decode cX1_send 71 = .ok (.aload_n 0, 1) := by decide +kernel
theorem dX1_send_72 : decode cX1_send 72 = .ok (.invokevirtual 38, 3) := by decide +kernel
theorem dX1_send_75 : decode cX1_send 75 = .ok (.iinc 4 1, 3) := by decide +kernel
theorem dX1_send_78 : decode cX1_send 78 = .ok (.goto (-52), 3) := by decide +kernel
theorem dX1_send_81 : decode cX1_send 81 = .ok (.iconst 0, 1) := by decide +kernel
theorem dX1_send_82 : decode cX1_send 82 = .ok (.ireturn, 1) := by decide +kernel
theorem dX1_badSymbol_0 : decode cX1_badSymbol 0 = .ok (.iload_n 0, 1) := by decide +kernel
theorem dX1_badSymbol_1 : decode cX1_badSymbol 1 = .ok (.ifCond .lt 9, 3) := by decide +kernel
theorem dX1_badSymbol_4 : decode cX1_badSymbol 4 = .ok (.iload_n 0, 1) := by decide +kernel
theorem dX1_badSymbol_5 : decode cX1_badSymbol 5 = .ok (.bipush 7, 2) := by decide +kernel
theorem dX1_badSymbol_7 : decode cX1_badSymbol 7 = .ok (.if_icmp .le 7, 3) := by decide +kernel
theorem dX1_badSymbol_10 : decode cX1_badSymbol 10 = .ok (.iconst 1, 1) := by decide +kernel
theorem dX1_badSymbol_11 : decode cX1_badSymbol 11 = .ok (.goto 4, 3) := by decide +kernel
theorem dX1_badSymbol_14 : decode cX1_badSymbol 14 = .ok (.iconst 0, 1) := by decide +kernel
theorem dX1_badSymbol_15 : decode cX1_badSymbol 15 = .ok (.ireturn, 1) := by decide +kernel
theorem dX1_make_0 : decode cX1_make 0 = .ok (.iconst 0, 1) := by decide +kernel
theorem dX1_make_1 : decode cX1_make 1 = .ok (.istore_n 2, 1) := by decide +kernel
theorem dX1_make_2 : decode cX1_make 2 = .ok (.iload_n 2, 1) := by decide +kernel
theorem dX1_make_3 : decode cX1_make 3 = .ok (.bipush 7, 2) := by decide +kernel
theorem dX1_make_5 : decode cX1_make 5 = .ok (.if_icmp .ge 16, 3) := by decide +kernel
theorem dX1_make_8 : decode cX1_make 8 = .ok (.aload_n 0, 1) := by decide +kernel
theorem dX1_make_9 : decode cX1_make 9 = .ok (.getfield 20, 3) := by decide +kernel
theorem dX1_make_12 : decode cX1_make 12 = .ok (.iload_n 2, 1) := by decide +kernel
theorem dX1_make_13 : decode cX1_make 13 = .ok (.iconst 0, 1) := by decide +kernel
theorem dX1_make_14 : decode cX1_make 14 = .ok (.iastore, 1) := by decide +kernel
theorem dX1_make_15 : decode cX1_make 15 = .ok (.iinc 2 1, 3) := by decide +kernel
theorem dX1_make_18 : decode cX1_make 18 = .ok (.goto (-16), 3) := by decide +kernel
theorem dX1_make_21 : decode cX1_make 21 = .ok (.iconst 0, 1) := by decide +kernel
theorem dX1_make_22 : decode cX1_make 22 = .ok (.istore_n 2, 1) := by decide +kernel
theorem dX1_make_23 : decode cX1_make 23 = .ok (.iload_n 2, 1) := by decide +kernel
theorem dX1_make_24 : decode cX1_make 24 = .ok (.iconst 3, 1) := by decide +kernel
theorem dX1_make_25 : decode cX1_make 25 = .ok (.if_icmp .ge 56, 3) := by decide +kernel
theorem dX1_make_28 : decode cX1_make 28 = .ok (.iload_n 1, 1) := by decide +kernel
theorem dX1_make_29 : decode cX1_make 29 = .ok (.iconst 3, 1) := by decide +kernel
theorem dX1_make_30 : decode cX1_make 30 = .ok (.iload_n 2, 1) := by decide +kernel
theorem dX1_make_31 : decode cX1_make 31 = .ok (.imul, 1) := by decide +kernel
theorem dX1_make_32 : decode cX1_make 32 = .ok (.ishr, 1) := by decide +kernel
theorem dX1_make_33 : decode cX1_make 33 = .ok (.bipush 7, 2) := by decide +kernel
theorem dX1_make_35 : decode cX1_make 35 = .ok (.iand, 1) := by decide +kernel
theorem dX1_make_36 : decode cX1_make 36 = .ok (.istore_n 3, 1) := by decide +kernel
theorem dX1_make_37 : decode cX1_make 37 = .ok (.iconst 0, 1) := by decide +kernel
theorem dX1_make_38 : decode cX1_make 38 = .ok (.istore 4, 2) := by decide +kernel
theorem dX1_make_40 : decode cX1_make 40 = .ok (.iload 4, 2) := by decide +kernel
theorem dX1_make_42 : decode cX1_make 42 = .ok (.iconst 5, 1) := by decide +kernel
theorem dX1_make_43 : decode cX1_make 43 = .ok (.if_icmp .ge 32, 3) := by decide +kernel
theorem dX1_make_46 : decode cX1_make 46 = .ok (.aload_n 0, 1) := by decide +kernel
theorem dX1_make_47 : decode cX1_make 47 = .ok (.getfield 20, 3) := by decide +kernel
theorem dX1_make_50 : decode cX1_make 50 = .ok (.iload 4, 2) := by decide +kernel
theorem dX1_make_52 : decode cX1_make 52 = .ok (.iload_n 2, 1) := by decide +kernel
theorem dX1_make_53 : decode cX1_make 53 = .ok (.iadd, 1) := by decide +kernel
theorem dX1_make_54 : decode cX1_make 54 = .ok (.dup2, 1) := by decide +kernel
theorem dX1_make_55 : decode cX1_make 55 = .ok (.iaload, 1) := by decide +kernel
theorem dX1_make_56 : decode cX1_make 56 = .ok (.aload_n 0, 1) := by decide +kernel
theorem dX1_make_57 : decode cX1_make 57 = .ok (.getfield 17, 3) := by decide +kernel
theorem dX1_make_60 : decode cX1_make 60 = .ok (.iload 4, 2) := by decide +kernel
theorem dX1_make_62 : decode cX1_make 62 = .ok (.iaload, 1) := by decide +kernel
theorem dX1_make_63 : decode cX1_make 63 = .ok (.iload_n 3, 1) := by decide +kernel
theorem dX1_make_64 : decode cX1_make 64 = .ok (.invokestatic 27, 3) := by decide +kernel
theorem dX1_make_67 : decode cX1_make 67 = .ok (.ixor, 1) := by decide +kernel
theorem dX1_make_68 : decode cX1_make 68 = .ok (.iastore, 1) := by decide +kernel
theorem dX1_make_69 : decode cX1_make 69 = .ok (.iinc 4 1, 3) := by decide +kernel
theorem dX1_make_72 : decode cX1_make 72 = .ok (.goto (-32), 3) := by decide +kernel
theorem dX1_make_75 : decode cX1_make 75 = .ok (.iinc 2 1, 3) := by decide +kernel
theorem dX1_make_78 : decode cX1_make 78 = .ok (.goto (-55), 3) := by decide +kernel
theorem dX1_make_81 : decode cX1_make 81 = .ok (.return_, 1) := by decide +kernel
theorem dX1_take_0 : decode cX1_take 0 = .ok (.iconst 0, 1) := by decide +kernel
theorem dX1_take_1 : decode cX1_take 1 = .ok (.istore_n 1, 1) := by decide +kernel
theorem dX1_take_2 : decode cX1_take 2 = .ok (.iload_n 1, 1) := by decide +kernel
theorem dX1_take_3 : decode cX1_take 3 = .ok (.bipush 7, 2) := by decide +kernel
theorem dX1_take_5 : decode cX1_take 5 = .ok (.if_icmp .ge 28, 3) := by decide +kernel
theorem dX1_take_8 : decode cX1_take 8 = .ok (.aload_n 0, 1) := by decide +kernel
theorem dX1_take_9 : decode cX1_take 9 = .ok (.getfield 7, 3) := by decide +kernel
theorem dX1_take_12 : decode cX1_take 12 = .ok (.iload_n 1, 1) := by decide +kernel
theorem dX1_take_13 : decode cX1_take 13 = .ok (.aload_n 0, 1) := by decide +kernel
theorem dX1_take_14 : decode cX1_take 14 = .ok (.getfield 20, 3) := by decide +kernel
theorem dX1_take_17 : decode cX1_take 17 = .ok (.iload_n 1, 1) := by decide +kernel
theorem dX1_take_18 : decode cX1_take 18 = .ok (.iaload, 1) := by decide +kernel
theorem dX1_take_19 : decode cX1_take 19 = .ok (.iastore, 1) := by decide +kernel
theorem dX1_take_20 : decode cX1_take 20 = .ok (.aload_n 0, 1) := by decide +kernel
theorem dX1_take_21 : decode cX1_take 21 = .ok (.getfield 13, 3) := by decide +kernel
theorem dX1_take_24 : decode cX1_take 24 = .ok (.iload_n 1, 1) := by decide +kernel
theorem dX1_take_25 : decode cX1_take 25 = .ok (.iconst 0, 1) := by decide +kernel
theorem dX1_take_26 : decode cX1_take 26 = .ok (.bastore, 1) := by decide +kernel
theorem dX1_take_27 : decode cX1_take 27 = .ok (.iinc 1 1, 3) := by decide +kernel
theorem dX1_take_30 : decode cX1_take 30 = .ok (.goto (-28), 3) := by decide +kernel
theorem dX1_take_33 : decode cX1_take 33 = .ok (.return_, 1) := by decide +kernel
theorem dX1_change_0 : decode cX1_change 0 = .ok (.iload_n 1, 1) := by decide +kernel
theorem dX1_change_1 : decode cX1_change 1 = .ok (.invokestatic 41, 3) := by decide +kernel
theorem dX1_change_4 : decode cX1_change 4 = .ok (.ifCond .ne 10, 3) := by decide +kernel
theorem dX1_change_7 : decode cX1_change 7 = .ok (.iload_n 2, 1) := by decide +kernel
theorem dX1_change_8 : decode cX1_change 8 = .ok (.invokestatic 31, 3) := by decide +kernel
theorem dX1_change_11 : decode cX1_change 11 = .ok (.ifCond .eq 5, 3) := by decide +kernel
theorem dX1_change_14 : decode cX1_change 14 = .ok (.iconst (-1), 1) := by decide +kernel
theorem dX1_change_15 : decode cX1_change 15 = .ok (.ireturn, 1) := by decide +kernel
theorem dX1_change_16 : decode cX1_change 16 = .ok (.aload_n 0, 1) := by decide +kernel
theorem dX1_change_17 : decode cX1_change 17 = .ok (.getfield 7, 3) := by decide +kernel
theorem dX1_change_20 : decode cX1_change 20 = .ok (.iload_n 1, 1) := by decide +kernel
theorem dX1_change_21 : decode cX1_change 21 = .ok (.iaload, 1) := by decide +kernel
theorem dX1_change_22 : decode cX1_change 22 = .ok (.istore_n 3, 1) := by decide +kernel
theorem dX1_change_23 : decode cX1_change 23 = .ok (.aload_n 0, 1) := by decide +kernel
theorem dX1_change_24 : decode cX1_change 24 = .ok (.getfield 7, 3) := by decide +kernel
theorem dX1_change_27 : decode cX1_change 27 = .ok (.iload_n 1, 1) := by decide +kernel
theorem dX1_change_28 : decode cX1_change 28 = .ok (.iload_n 2, 1) := by decide +kernel
theorem dX1_change_29 : decode cX1_change 29 = .ok (.iastore, 1) := by decide +kernel
theorem dX1_change_30 : decode cX1_change 30 = .ok (.iload_n 3, 1) := by decide +kernel
theorem dX1_change_31 : decode cX1_change 31 = .ok (.ireturn, 1) := by decide +kernel
theorem dX1_badPlace_0 : decode cX1_badPlace 0 = .ok (.iload_n 0, 1) := by decide +kernel
theorem dX1_badPlace_1 : decode cX1_badPlace 1 = .ok (.ifCond .lt 9, 3) := by decide +kernel
theorem dX1_badPlace_4 : decode cX1_badPlace 4 = .ok (.iload_n 0, 1) := by decide +kernel
theorem dX1_badPlace_5 : decode cX1_badPlace 5 = .ok (.bipush 6, 2) := by decide +kernel
theorem dX1_badPlace_7 : decode cX1_badPlace 7 = .ok (.if_icmp .le 7, 3) := by decide +kernel
theorem dX1_badPlace_10 : decode cX1_badPlace 10 = .ok (.iconst 1, 1) := by decide +kernel
theorem dX1_badPlace_11 : decode cX1_badPlace 11 = .ok (.goto 4, 3) := by decide +kernel
theorem dX1_badPlace_14 : decode cX1_badPlace 14 = .ok (.iconst 0, 1) := by decide +kernel
theorem dX1_badPlace_15 : decode cX1_badPlace 15 = .ok (.ireturn, 1) := by decide +kernel
theorem dX1_lose_0 : decode cX1_lose 0 = .ok (.iload_n 1, 1) := by decide +kernel
theorem dX1_lose_1 : decode cX1_lose 1 = .ok (.invokestatic 41, 3) := by decide +kernel
theorem dX1_lose_4 : decode cX1_lose 4 = .ok (.ifCond .eq 5, 3) := by decide +kernel
theorem dX1_lose_7 : decode cX1_lose 7 = .ok (.iconst (-1), 1) := by decide +kernel
theorem dX1_lose_8 : decode cX1_lose 8 = .ok (.ireturn, 1) := by decide +kernel
theorem dX1_lose_9 : decode cX1_lose 9 = .ok (.aload_n 0, 1) := by decide +kernel
theorem dX1_lose_10 : decode cX1_lose 10 = .ok (.getfield 13, 3) := by decide +kernel
theorem dX1_lose_13 : decode cX1_lose 13 = .ok (.iload_n 1, 1) := by decide +kernel
theorem dX1_lose_14 : decode cX1_lose 14 = .ok (.baload, 1) := by decide +kernel
theorem dX1_lose_15 : decode cX1_lose 15 = .ok (.istore_n 3, 1) := by decide +kernel
theorem dX1_lose_16 : decode cX1_lose 16 = .ok (.aload_n 0, 1) := by decide +kernel
theorem dX1_lose_17 : decode cX1_lose 17 = .ok (.getfield 13, 3) := by decide +kernel
theorem dX1_lose_20 : decode cX1_lose 20 = .ok (.iload_n 1, 1) := by decide +kernel
theorem dX1_lose_21 : decode cX1_lose 21 = .ok (.iload_n 2, 1) := by decide +kernel
theorem dX1_lose_22 : decode cX1_lose 22 = .ok (.bastore, 1) := by decide +kernel
theorem dX1_lose_23 : decode cX1_lose 23 = .ok (.iload_n 3, 1) := by decide +kernel
theorem dX1_lose_24 : decode cX1_lose 24 = .ok (.ifCond .eq 7, 3) := by decide +kernel
theorem dX1_lose_27 : decode cX1_lose 27 = .ok (.iconst 1, 1) := by decide +kernel
theorem dX1_lose_28 : decode cX1_lose 28 = .ok (.goto 4, 3) := by decide +kernel
theorem dX1_lose_31 : decode cX1_lose 31 = .ok (.iconst 0, 1) := by decide +kernel
theorem dX1_lose_32 : decode cX1_lose 32 = .ok (.ireturn, 1) := by decide +kernel
theorem dX1_at_0 : decode cX1_at 0 = .ok (.iload_n 1, 1) := by decide +kernel
theorem dX1_at_1 : decode cX1_at 1 = .ok (.invokestatic 41, 3) := by decide +kernel
theorem dX1_at_4 : decode cX1_at 4 = .ok (.ifCond .eq 7, 3) := by decide +kernel
theorem dX1_at_7 : decode cX1_at 7 = .ok (.iconst (-1), 1) := by decide +kernel
theorem dX1_at_8 : decode cX1_at 8 = .ok (.goto 9, 3) := by decide +kernel
theorem dX1_at_11 : decode cX1_at 11 = .ok (.aload_n 0, 1) := by decide +kernel
theorem dX1_at_12 : decode cX1_at 12 = .ok (.getfield 7, 3) := by decide +kernel
theorem dX1_at_15 : decode cX1_at 15 = .ok (.iload_n 1, 1) := by decide +kernel
theorem dX1_at_16 : decode cX1_at 16 = .ok (.iaload, 1) := by decide +kernel
theorem dX1_at_17 : decode cX1_at 17 = .ok (.ireturn, 1) := by decide +kernel
theorem dX1_fits_0 : decode cX1_fits 0 = .ok (.aload_n 0, 1) := by decide +kernel
theorem dX1_fits_1 : decode cX1_fits 1 = .ok (.invokevirtual 51, 3) := by decide +kernel
theorem dX1_fits_4 : decode cX1_fits 4 = .ok (.ifCond .eq 7, 3) := by decide +kernel
theorem dX1_fits_7 : decode cX1_fits 7 = .ok (.iconst 1, 1) := by decide +kernel
theorem dX1_fits_8 : decode cX1_fits 8 = .ok (.goto 4, 3) := by decide +kernel
theorem dX1_fits_11 : decode cX1_fits 11 = .ok (.iconst 0, 1) := by decide +kernel
theorem dX1_fits_12 : decode cX1_fits 12 = .ok (.ireturn, 1) := by decide +kernel
theorem dX1_find_0 : decode cX1_find 0 = .ok (.aload_n 0, 1) := by decide +kernel
theorem dX1_find_1 : decode cX1_find 1 = .ok (.invokevirtual 44, 3) := by decide +kernel
theorem dX1_find_4 : decode cX1_find 4 = .ok (.istore_n 1, 1) := by decide +kernel
theorem dX1_find_5 : decode cX1_find 5 = .ok (.iconst 0, 1) := by decide +kernel
theorem dX1_find_6 : decode cX1_find 6 = .ok (.istore_n 2, 1) := by decide +kernel
theorem dX1_find_7 : decode cX1_find 7 = .ok (.iload_n 2, 1) := by decide +kernel
theorem dX1_find_8 : decode cX1_find 8 = .ok (.sipush 512, 3) := by decide +kernel
theorem dX1_find_11 : decode cX1_find 11 = .ok (.if_icmp .ge 28, 3) := by decide +kernel
theorem dX1_find_14 : decode cX1_find 14 = .ok (.aload_n 0, 1) := by decide +kernel
theorem dX1_find_15 : decode cX1_find 15 = .ok (.iload_n 2, 1) := by decide +kernel
theorem dX1_find_16 : decode cX1_find 16 = .ok (.invokevirtual 35, 3) := by decide +kernel
theorem dX1_find_19 : decode cX1_find 19 = .ok (.iconst 2, 1) := by decide +kernel
theorem dX1_find_20 : decode cX1_find 20 = .ok (.aload_n 0, 1) := by decide +kernel
theorem dX1_find_21 : decode cX1_find 21 = .ok (.invokevirtual 48, 3) := by decide +kernel
theorem dX1_find_24 : decode cX1_find 24 = .ok (.imul, 1) := by decide +kernel
theorem dX1_find_25 : decode cX1_find 25 = .ok (.iload_n 1, 1) := by decide +kernel
theorem dX1_find_26 : decode cX1_find 26 = .ok (.iadd, 1) := by decide +kernel
theorem dX1_find_27 : decode cX1_find 27 = .ok (.iconst 4, 1) := by decide +kernel
theorem dX1_find_28 : decode cX1_find 28 = .ok (.if_icmp .gt 5, 3) := by decide +kernel
theorem dX1_find_31 : decode cX1_find 31 = .ok (.iconst 1, 1) := by decide +kernel
theorem dX1_find_32 : decode cX1_find 32 = .ok (.ireturn, 1) := by decide +kernel
theorem dX1_find_33 : decode cX1_find 33 = .ok (.iinc 2 1, 3) := by decide +kernel
theorem dX1_find_36 : decode cX1_find 36 = .ok (.goto (-29), 3) := by decide +kernel
theorem dX1_find_39 : decode cX1_find 39 = .ok (.iconst 0, 1) := by decide +kernel
theorem dX1_find_40 : decode cX1_find 40 = .ok (.ireturn, 1) := by decide +kernel
theorem dX1_lost_0 : decode cX1_lost 0 = .ok (.iconst 0, 1) := by decide +kernel
theorem dX1_lost_1 : decode cX1_lost 1 = .ok (.istore_n 1, 1) := by decide +kernel
theorem dX1_lost_2 : decode cX1_lost 2 = .ok (.iconst 0, 1) := by decide +kernel
theorem dX1_lost_3 : decode cX1_lost 3 = .ok (.istore_n 2, 1) := by decide +kernel
theorem dX1_lost_4 : decode cX1_lost 4 = .ok (.iload_n 2, 1) := by decide +kernel
theorem dX1_lost_5 : decode cX1_lost 5 = .ok (.bipush 7, 2) := by decide +kernel
theorem dX1_lost_7 : decode cX1_lost 7 = .ok (.if_icmp .ge 26, 3) := by decide +kernel
theorem dX1_lost_10 : decode cX1_lost 10 = .ok (.iload_n 1, 1) := by decide +kernel
theorem dX1_lost_11 : decode cX1_lost 11 = .ok (.aload_n 0, 1) := by decide +kernel
theorem dX1_lost_12 : decode cX1_lost 12 = .ok (.getfield 13, 3) := by decide +kernel
theorem dX1_lost_15 : decode cX1_lost 15 = .ok (.iload_n 2, 1) := by decide +kernel
theorem dX1_lost_16 : decode cX1_lost 16 = .ok (.baload, 1) := by decide +kernel
theorem dX1_lost_17 : decode cX1_lost 17 = .ok (.ifCond .eq 7, 3) := by decide +kernel
theorem dX1_lost_20 : decode cX1_lost 20 = .ok (.iconst 1, 1) := by decide +kernel
theorem dX1_lost_21 : decode cX1_lost 21 = .ok (.goto 4, 3) := by decide +kernel
theorem dX1_lost_24 : decode cX1_lost 24 = .ok (.iconst 0, 1) := by decide +kernel
theorem dX1_lost_25 : decode cX1_lost 25 = .ok (.iadd, 1) := by decide +kernel
theorem dX1_lost_26 : decode cX1_lost 26 = .ok (.istore_n 1, 1) := by decide +kernel
theorem dX1_lost_27 : decode cX1_lost 27 = .ok (.iinc 2 1, 3) := by decide +kernel
theorem dX1_lost_30 : decode cX1_lost 30 = .ok (.goto (-26), 3) := by decide +kernel
theorem dX1_lost_33 : decode cX1_lost 33 = .ok (.iload_n 1, 1) := by decide +kernel
theorem dX1_lost_34 : decode cX1_lost 34 = .ok (.ireturn, 1) := by decide +kernel
theorem dX1_different_0 : decode cX1_different 0 = .ok (.iconst 0, 1) := by decide +kernel
theorem dX1_different_1 : decode cX1_different 1 = .ok (.istore_n 1, 1) := by decide +kernel
theorem dX1_different_2 : decode cX1_different 2 = .ok (.iconst 0, 1) := by decide +kernel
theorem dX1_different_3 : decode cX1_different 3 = .ok (.istore_n 2, 1) := by decide +kernel
theorem dX1_different_4 : decode cX1_different 4 = .ok (.iload_n 2, 1) := by decide +kernel
theorem dX1_different_5 : decode cX1_different 5 = .ok (.bipush 7, 2) := by decide +kernel
theorem dX1_different_7 : decode cX1_different 7 = .ok (.if_icmp .ge 36, 3) := by decide +kernel
theorem dX1_different_10 : decode cX1_different 10 = .ok (.aload_n 0, 1) := by decide +kernel
theorem dX1_different_11 : decode cX1_different 11 = .ok (.getfield 13, 3) := by decide +kernel
theorem dX1_different_14 : decode cX1_different 14 = .ok (.iload_n 2, 1) := by decide +kernel
theorem dX1_different_15 : decode cX1_different 15 = .ok (.baload, 1) := by decide +kernel
theorem dX1_different_16 : decode cX1_different 16 = .ok (.ifCond .ne 21, 3) := by decide +kernel
theorem dX1_different_19 : decode cX1_different 19 = .ok (.aload_n 0, 1) := by decide +kernel
theorem dX1_different_20 : decode cX1_different 20 = .ok (.getfield 7, 3) := by decide +kernel
theorem dX1_different_23 : decode cX1_different 23 = .ok (.iload_n 2, 1) := by decide +kernel
theorem dX1_different_24 : decode cX1_different 24 = .ok (.iaload, 1) := by decide +kernel
theorem dX1_different_25 : decode cX1_different 25 = .ok (.aload_n 0, 1) := by decide +kernel
theorem dX1_different_26 : decode cX1_different 26 = .ok (.getfield 20, 3) := by decide +kernel
theorem dX1_different_29 : decode cX1_different 29 = .ok (.iload_n 2, 1) := by decide +kernel
theorem dX1_different_30 : decode cX1_different 30 = .ok (.iaload, 1) := by decide +kernel
theorem dX1_different_31 : decode cX1_different 31 = .ok (.if_icmp .eq 6, 3) := by decide +kernel
theorem dX1_different_34 : decode cX1_different 34 = .ok (.iinc 1 1, 3) := by decide +kernel
theorem dX1_different_37 : decode cX1_different 37 = .ok (.iinc 2 1, 3) := by decide +kernel
theorem dX1_different_40 : decode cX1_different 40 = .ok (.goto (-36), 3) := by decide +kernel
theorem dX1_different_43 : decode cX1_different 43 = .ok (.iload_n 1, 1) := by decide +kernel
theorem dX1_different_44 : decode cX1_different 44 = .ok (.ireturn, 1) := by decide +kernel
theorem dX1_mended_0 : decode cX1_mended 0 = .ok (.iload_n 1, 1) := by decide +kernel
theorem dX1_mended_1 : decode cX1_mended 1 = .ok (.invokestatic 41, 3) := by decide +kernel
theorem dX1_mended_4 : decode cX1_mended 4 = .ok (.ifCond .ne 10, 3) := by decide +kernel
theorem dX1_mended_7 : decode cX1_mended 7 = .ok (.aload_n 0, 1) := by decide +kernel
theorem dX1_mended_8 : decode cX1_mended 8 = .ok (.invokevirtual 51, 3) := by decide +kernel
theorem dX1_mended_11 : decode cX1_mended 11 = .ok (.ifCond .ne 7, 3) := by decide +kernel
theorem dX1_mended_14 : decode cX1_mended 14 = .ok (.iconst (-1), 1) := by decide +kernel
theorem dX1_mended_15 : decode cX1_mended 15 = .ok (.goto 9, 3) := by decide +kernel
theorem dX1_mended_18 : decode cX1_mended 18 = .ok (.aload_n 0, 1) := by decide +kernel
theorem dX1_mended_19 : decode cX1_mended 19 = .ok (.getfield 20, 3) := by decide +kernel
theorem dX1_mended_22 : decode cX1_mended 22 = .ok (.iload_n 1, 1) := by decide +kernel
theorem dX1_mended_23 : decode cX1_mended 23 = .ok (.iaload, 1) := by decide +kernel
theorem dX1_mended_24 : decode cX1_mended 24 = .ok (.ireturn, 1) := by decide +kernel
theorem dX1_wrong_0 : decode cX1_wrong 0 = .ok (.aload_n 0, 1) := by decide +kernel
theorem dX1_wrong_1 : decode cX1_wrong 1 = .ok (.invokevirtual 51, 3) := by decide +kernel
theorem dX1_wrong_4 : decode cX1_wrong 4 = .ok (.ifCond .eq 10, 3) := by decide +kernel
theorem dX1_wrong_7 : decode cX1_wrong 7 = .ok (.aload_n 0, 1) := by decide +kernel
theorem dX1_wrong_8 : decode cX1_wrong 8 = .ok (.invokevirtual 48, 3) := by decide +kernel
theorem dX1_wrong_11 : decode cX1_wrong 11 = .ok (.goto 4, 3) := by decide +kernel
theorem dX1_wrong_14 : decode cX1_wrong 14 = .ok (.iconst (-1), 1) := by decide +kernel
theorem dX1_wrong_15 : decode cX1_wrong 15 = .ok (.ireturn, 1) := by decide +kernel
theorem dX1_mend_0 : decode cX1_mend 0 = .ok (.aload_n 0, 1) := by decide +kernel
theorem dX1_mend_1 : decode cX1_mend 1 = .ok (.invokevirtual 51, 3) := by decide +kernel
theorem dX1_mend_4 : decode cX1_mend 4 = .ok (.ifCond .ne 5, 3) := by decide +kernel
theorem dX1_mend_7 : decode cX1_mend 7 = .ok (.iconst 0, 1) := by decide +kernel
theorem dX1_mend_8 : decode cX1_mend 8 = .ok (.ireturn, 1) := by decide +kernel
theorem dX1_mend_9 : decode cX1_mend 9 = .ok (.aload_n 0, 1) := by decide +kernel
theorem dX1_mend_10 : decode cX1_mend 10 = .ok (.invokevirtual 38, 3) := by decide +kernel
theorem dX1_mend_13 : decode cX1_mend 13 = .ok (.iconst 1, 1) := by decide +kernel
theorem dX1_mend_14 : decode cX1_mend 14 = .ok (.ireturn, 1) := by decide +kernel
theorem dX1_product_0 : decode cX1_product 0 = .ok (.iload_n 1, 1) := by decide +kernel
theorem dX1_product_1 : decode cX1_product 1 = .ok (.invokestatic 31, 3) := by decide +kernel
theorem dX1_product_4 : decode cX1_product 4 = .ok (.ifCond .ne 10, 3) := by decide +kernel
theorem dX1_product_7 : decode cX1_product 7 = .ok (.iload_n 2, 1) := by decide +kernel
theorem dX1_product_8 : decode cX1_product 8 = .ok (.invokestatic 31, 3) := by decide +kernel
theorem dX1_product_11 : decode cX1_product 11 = .ok (.ifCond .eq 7, 3) := by decide +kernel
theorem dX1_product_14 : decode cX1_product 14 = .ok (.iconst (-1), 1) := by decide +kernel
theorem dX1_product_15 : decode cX1_product 15 = .ok (.goto 8, 3) := by decide +kernel
theorem dX1_product_18 : decode cX1_product 18 = .ok (.iload_n 1, 1) := by decide +kernel
theorem dX1_product_19 : decode cX1_product 19 = .ok (.iload_n 2, 1) := by decide +kernel
theorem dX1_product_20 : decode cX1_product 20 = .ok (.invokestatic 27, 3) := by decide +kernel
theorem dX1_product_23 : decode cX1_product 23 = .ok (.ireturn, 1) := by decide +kernel
theorem dX1_value_0 : decode cX1_value 0 = .ok (.iload_n 1, 1) := by decide +kernel
theorem dX1_value_1 : decode cX1_value 1 = .ok (.invokestatic 31, 3) := by decide +kernel
theorem dX1_value_4 : decode cX1_value 4 = .ok (.ifCond .eq 5, 3) := by decide +kernel
theorem dX1_value_7 : decode cX1_value 7 = .ok (.iconst (-1), 1) := by decide +kernel
theorem dX1_value_8 : decode cX1_value 8 = .ok (.ireturn, 1) := by decide +kernel
theorem dX1_value_9 : decode cX1_value 9 = .ok (.iconst 0, 1) := by decide +kernel
theorem dX1_value_10 : decode cX1_value 10 = .ok (.istore_n 2, 1) := by decide +kernel
theorem dX1_value_11 : decode cX1_value 11 = .ok (.iconst 1, 1) := by decide +kernel
theorem dX1_value_12 : decode cX1_value 12 = .ok (.istore_n 3, 1) := by decide +kernel
theorem dX1_value_13 : decode cX1_value 13 = .ok (.iconst 0, 1) := by decide +kernel
theorem dX1_value_14 : decode cX1_value 14 = .ok (.istore 4, 2) := by decide +kernel
theorem dX1_value_16 : decode cX1_value 16 = .ok (.iload 4, 2) := by decide +kernel
theorem dX1_value_18 : decode cX1_value 18 = .ok (.bipush 7, 2) := by decide +kernel
theorem dX1_value_20 : decode cX1_value 20 = .ok (.if_icmp .ge 29, 3) := by decide +kernel
theorem dX1_value_23 : decode cX1_value 23 = .ok (.iload_n 2, 1) := by decide +kernel
theorem dX1_value_24 : decode cX1_value 24 = .ok (.aload_n 0, 1) := by decide +kernel
theorem dX1_value_25 : decode cX1_value 25 = .ok (.getfield 7, 3) := by decide +kernel
theorem dX1_value_28 : decode cX1_value 28 = .ok (.iload 4, 2) := by decide +kernel
theorem dX1_value_30 : decode cX1_value 30 = .ok (.iaload, 1) := by decide +kernel
theorem dX1_value_31 : decode cX1_value 31 = .ok (.iload_n 3, 1) := by decide +kernel
theorem dX1_value_32 : decode cX1_value 32 = .ok (.invokestatic 27, 3) := by decide +kernel
theorem dX1_value_35 : decode cX1_value 35 = .ok (.ixor, 1) := by decide +kernel
theorem dX1_value_36 : decode cX1_value 36 = .ok (.istore_n 2, 1) := by decide +kernel
theorem dX1_value_37 : decode cX1_value 37 = .ok (.iload_n 3, 1) := by decide +kernel
theorem dX1_value_38 : decode cX1_value 38 = .ok (.iload_n 1, 1) := by decide +kernel
theorem dX1_value_39 : decode cX1_value 39 = .ok (.invokestatic 27, 3) := by decide +kernel
theorem dX1_value_42 : decode cX1_value 42 = .ok (.istore_n 3, 1) := by decide +kernel
theorem dX1_value_43 : decode cX1_value 43 = .ok (.iinc 4 1, 3) := by decide +kernel
theorem dX1_value_46 : decode cX1_value 46 = .ok (.goto (-30), 3) := by decide +kernel
theorem dX1_value_49 : decode cX1_value 49 = .ok (.iload_n 2, 1) := by decide +kernel
theorem dX1_value_50 : decode cX1_value 50 = .ok (.ireturn, 1) := by decide +kernel
end
section
set_option maxRecDepth 100000
theorem dL_law_0 : decode cL_law 0 = .ok (.new 7, 3) := by decide +kernel
theorem dL_law_3 : decode cL_law 3 = .ok (.dup, 1) := by decide +kernel
theorem dL_law_4 : decode cL_law 4 = .ok (.invokespecial 9, 3) := by decide +kernel
theorem dL_law_7 : decode cL_law 7 = .ok (.astore_n 1, 1) := by decide +kernel
theorem dL_law_8 : decode cL_law 8 = .ok (.new 10, 3) := by decide +kernel
theorem dL_law_11 : decode cL_law 11 = .ok (.dup, 1) := by decide +kernel
theorem dL_law_12 : decode cL_law 12 = .ok (.invokespecial 12, 3) := by decide +kernel
theorem dL_law_15 : decode cL_law 15 = .ok (.astore_n 2, 1) := by decide +kernel
theorem dL_law_16 : decode cL_law 16 = .ok (.iconst 0, 1) := by decide +kernel
theorem dL_law_17 : decode cL_law 17 = .ok (.istore_n 3, 1) := by decide +kernel
theorem dL_law_18 : decode cL_law 18 = .ok (.iload_n 3, 1) := by decide +kernel
theorem dL_law_19 : decode cL_law 19 = .ok (.aload_n 0, 1) := by decide +kernel
theorem dL_law_20 : decode cL_law 20 = .ok (.arraylength, 1) := by decide +kernel
theorem dL_law_21 : decode cL_law 21 = .ok (.iconst 4, 1) := by decide +kernel
theorem dL_law_22 : decode cL_law 22 = .ok (.isub, 1) := by decide +kernel
theorem dL_law_23 : decode cL_law 23 = .ok (.if_icmp .gt 337, 3) := by decide +kernel
theorem dL_law_26 : decode cL_law 26 = .ok (.aload_n 0, 1) := by decide +kernel
theorem dL_law_27 : decode cL_law 27 = .ok (.iload_n 3, 1) := by decide +kernel
theorem dL_law_28 : decode cL_law 28 = .ok (.iaload, 1) := by decide +kernel
theorem dL_law_29 : decode cL_law 29 = .ok (.bipush 15, 2) := by decide +kernel
theorem dL_law_31 : decode cL_law 31 = .ok (.iand, 1) := by decide +kernel
theorem dL_law_32 : decode cL_law 32 = .ok (.tableswitch 322 0 9 #[56, 99, 132, 181, 204, 217, 240, 253, 266, 299], 56) := by decide +kernel
theorem dL_law_88 : decode cL_law 88 = .ok (.aload_n 1, 1) := by decide +kernel
theorem dL_law_89 : decode cL_law 89 = .ok (.aload_n 0, 1) := by decide +kernel
theorem dL_law_90 : decode cL_law 90 = .ok (.iload_n 3, 1) := by decide +kernel
theorem dL_law_91 : decode cL_law 91 = .ok (.iconst 1, 1) := by decide +kernel
theorem dL_law_92 : decode cL_law 92 = .ok (.iadd, 1) := by decide +kernel
theorem dL_law_93 : decode cL_law 93 = .ok (.iaload, 1) := by decide +kernel
theorem dL_law_94 : decode cL_law 94 = .ok (.aload_n 0, 1) := by decide +kernel
theorem dL_law_95 : decode cL_law 95 = .ok (.iload_n 3, 1) := by decide +kernel
theorem dL_law_96 : decode cL_law 96 = .ok (.iconst 2, 1) := by decide +kernel
theorem dL_law_97 : decode cL_law 97 = .ok (.iadd, 1) := by decide +kernel
theorem dL_law_98 : decode cL_law 98 = .ok (.iaload, 1) := by decide +kernel
theorem dL_law_99 : decode cL_law 99 = .ok (.aload_n 0, 1) := by decide +kernel
theorem dL_law_100 : decode cL_law 100 = .ok (.iload_n 3, 1) := by decide +kernel
theorem dL_law_101 : decode cL_law 101 = .ok (.iconst 3, 1) := by decide +kernel
theorem dL_law_102 : decode cL_law 102 = .ok (.iadd, 1) := by decide +kernel
theorem dL_law_103 : decode cL_law 103 = .ok (.iaload, 1) := by decide +kernel
theorem dL_law_104 : decode cL_law 104 = .ok (.invokevirtual 13, 3) := by decide +kernel
theorem dL_law_107 : decode cL_law 107 = .ok (.aload_n 2, 1) := by decide +kernel
theorem dL_law_108 : decode cL_law 108 = .ok (.aload_n 0, 1) := by decide +kernel
theorem dL_law_109 : decode cL_law 109 = .ok (.iload_n 3, 1) := by decide +kernel
theorem dL_law_110 : decode cL_law 110 = .ok (.iconst 1, 1) := by decide +kernel
theorem dL_law_111 : decode cL_law 111 = .ok (.iadd, 1) := by decide +kernel
theorem dL_law_112 : decode cL_law 112 = .ok (.iaload, 1) := by decide +kernel
theorem dL_law_113 : decode cL_law 113 = .ok (.aload_n 0, 1) := by decide +kernel
theorem dL_law_114 : decode cL_law 114 = .ok (.iload_n 3, 1) := by decide +kernel
theorem dL_law_115 : decode cL_law 115 = .ok (.iconst 2, 1) := by decide +kernel
theorem dL_law_116 : decode cL_law 116 = .ok (.iadd, 1) := by decide +kernel
theorem dL_law_117 : decode cL_law 117 = .ok (.iaload, 1) := by decide +kernel
theorem dL_law_118 : decode cL_law 118 = .ok (.aload_n 0, 1) := by decide +kernel
theorem dL_law_119 : decode cL_law 119 = .ok (.iload_n 3, 1) := by decide +kernel
theorem dL_law_120 : decode cL_law 120 = .ok (.iconst 3, 1) := by decide +kernel
theorem dL_law_121 : decode cL_law 121 = .ok (.iadd, 1) := by decide +kernel
theorem dL_law_122 : decode cL_law 122 = .ok (.iaload, 1) := by decide +kernel
theorem dL_law_123 : decode cL_law 123 = .ok (.invokevirtual 17, 3) := by decide +kernel
theorem dL_law_126 : decode cL_law 126 = .ok (.if_icmp .eq 228, 3) := by decide +kernel
theorem dL_law_129 : decode cL_law 129 = .ok (.iconst 0, 1) := by decide +kernel
theorem dL_law_130 : decode cL_law 130 = .ok (.ireturn, 1) := by decide +kernel
theorem dL_law_131 : decode cL_law 131 = .ok (.aload_n 1, 1) := by decide +kernel
theorem dL_law_132 : decode cL_law 132 = .ok (.aload_n 0, 1) := by decide +kernel
theorem dL_law_133 : decode cL_law 133 = .ok (.iload_n 3, 1) := by decide +kernel
theorem dL_law_134 : decode cL_law 134 = .ok (.iconst 1, 1) := by decide +kernel
theorem dL_law_135 : decode cL_law 135 = .ok (.iadd, 1) := by decide +kernel
theorem dL_law_136 : decode cL_law 136 = .ok (.iaload, 1) := by decide +kernel
theorem dL_law_137 : decode cL_law 137 = .ok (.aload_n 0, 1) := by decide +kernel
theorem dL_law_138 : decode cL_law 138 = .ok (.iload_n 3, 1) := by decide +kernel
theorem dL_law_139 : decode cL_law 139 = .ok (.iconst 2, 1) := by decide +kernel
theorem dL_law_140 : decode cL_law 140 = .ok (.iadd, 1) := by decide +kernel
theorem dL_law_141 : decode cL_law 141 = .ok (.iaload, 1) := by decide +kernel
theorem dL_law_142 : decode cL_law 142 = .ok (.invokevirtual 18, 3) := by decide +kernel
theorem dL_law_145 : decode cL_law 145 = .ok (.aload_n 2, 1) := by decide +kernel
theorem dL_law_146 : decode cL_law 146 = .ok (.aload_n 0, 1) := by decide +kernel
theorem dL_law_147 : decode cL_law 147 = .ok (.iload_n 3, 1) := by decide +kernel
theorem dL_law_148 : decode cL_law 148 = .ok (.iconst 1, 1) := by decide +kernel
theorem dL_law_149 : decode cL_law 149 = .ok (.iadd, 1) := by decide +kernel
theorem dL_law_150 : decode cL_law 150 = .ok (.iaload, 1) := by decide +kernel
theorem dL_law_151 : decode cL_law 151 = .ok (.aload_n 0, 1) := by decide +kernel
theorem dL_law_152 : decode cL_law 152 = .ok (.iload_n 3, 1) := by decide +kernel
theorem dL_law_153 : decode cL_law 153 = .ok (.iconst 2, 1) := by decide +kernel
theorem dL_law_154 : decode cL_law 154 = .ok (.iadd, 1) := by decide +kernel
theorem dL_law_155 : decode cL_law 155 = .ok (.iaload, 1) := by decide +kernel
theorem dL_law_156 : decode cL_law 156 = .ok (.invokevirtual 22, 3) := by decide +kernel
theorem dL_law_159 : decode cL_law 159 = .ok (.if_icmp .eq 195, 3) := by decide +kernel
theorem dL_law_162 : decode cL_law 162 = .ok (.iconst 0, 1) := by decide +kernel
theorem dL_law_163 : decode cL_law 163 = .ok (.ireturn, 1) := by decide +kernel
theorem dL_law_164 : decode cL_law 164 = .ok (.aload_n 1, 1) := by decide +kernel
theorem dL_law_165 : decode cL_law 165 = .ok (.aload_n 0, 1) := by decide +kernel
theorem dL_law_166 : decode cL_law 166 = .ok (.iload_n 3, 1) := by decide +kernel
theorem dL_law_167 : decode cL_law 167 = .ok (.iconst 1, 1) := by decide +kernel
theorem dL_law_168 : decode cL_law 168 = .ok (.iadd, 1) := by decide +kernel
theorem dL_law_169 : decode cL_law 169 = .ok (.iaload, 1) := by decide +kernel
theorem dL_law_170 : decode cL_law 170 = .ok (.aload_n 0, 1) := by decide +kernel
theorem dL_law_171 : decode cL_law 171 = .ok (.iload_n 3, 1) := by decide +kernel
theorem dL_law_172 : decode cL_law 172 = .ok (.iconst 2, 1) := by decide +kernel
theorem dL_law_173 : decode cL_law 173 = .ok (.iadd, 1) := by decide +kernel
theorem dL_law_174 : decode cL_law 174 = .ok (.iaload, 1) := by decide +kernel
theorem dL_law_175 : decode cL_law 175 = .ok (.ifCond .eq 7, 3) := by decide +kernel
theorem dL_law_178 : decode cL_law 178 = .ok (.iconst 1, 1) := by decide +kernel
theorem dL_law_179 : decode cL_law 179 = .ok (.goto 4, 3) := by decide +kernel
theorem dL_law_182 : decode cL_law 182 = .ok (.iconst 0, 1) := by decide +kernel
theorem dL_law_183 : decode cL_law 183 = .ok (.invokevirtual 23, 3) := by decide +kernel
theorem dL_law_186 : decode cL_law 186 = .ok (.aload_n 2, 1) := by decide +kernel
theorem dL_law_187 : decode cL_law 187 = .ok (.aload_n 0, 1) := by decide +kernel
theorem dL_law_188 : decode cL_law 188 = .ok (.iload_n 3, 1) := by decide +kernel
theorem dL_law_189 : decode cL_law 189 = .ok (.iconst 1, 1) := by decide +kernel
theorem dL_law_190 : decode cL_law 190 = .ok (.iadd, 1) := by decide +kernel
theorem dL_law_191 : decode cL_law 191 = .ok (.iaload, 1) := by decide +kernel
theorem dL_law_192 : decode cL_law 192 = .ok (.aload_n 0, 1) := by decide +kernel
theorem dL_law_193 : decode cL_law 193 = .ok (.iload_n 3, 1) := by decide +kernel
theorem dL_law_194 : decode cL_law 194 = .ok (.iconst 2, 1) := by decide +kernel
theorem dL_law_195 : decode cL_law 195 = .ok (.iadd, 1) := by decide +kernel
theorem dL_law_196 : decode cL_law 196 = .ok (.iaload, 1) := by decide +kernel
theorem dL_law_197 : decode cL_law 197 = .ok (.ifCond .eq 7, 3) := by decide +kernel
theorem dL_law_200 : decode cL_law 200 = .ok (.iconst 1, 1) := by decide +kernel
theorem dL_law_201 : decode cL_law 201 = .ok (.goto 4, 3) := by decide +kernel
theorem dL_law_204 : decode cL_law 204 = .ok (.iconst 0, 1) := by decide +kernel
theorem dL_law_205 : decode cL_law 205 = .ok (.invokevirtual 27, 3) := by decide +kernel
theorem dL_law_208 : decode cL_law 208 = .ok (.if_icmp .eq 146, 3) := by decide +kernel
theorem dL_law_211 : decode cL_law 211 = .ok (.iconst 0, 1) := by decide +kernel
theorem dL_law_212 : decode cL_law 212 = .ok (.ireturn, 1) := by decide +kernel
theorem dL_law_213 : decode cL_law 213 = .ok (.aload_n 1, 1) := by decide +kernel
theorem dL_law_214 : decode cL_law 214 = .ok (.aload_n 0, 1) := by decide +kernel
theorem dL_law_215 : decode cL_law 215 = .ok (.iload_n 3, 1) := by decide +kernel
theorem dL_law_216 : decode cL_law 216 = .ok (.iconst 1, 1) := by decide +kernel
theorem dL_law_217 : decode cL_law 217 = .ok (.iadd, 1) := by decide +kernel
theorem dL_law_218 : decode cL_law 218 = .ok (.iaload, 1) := by decide +kernel
theorem dL_law_219 : decode cL_law 219 = .ok (.invokevirtual 28, 3) := by decide +kernel
theorem dL_law_222 : decode cL_law 222 = .ok (.aload_n 2, 1) := by decide +kernel
theorem dL_law_223 : decode cL_law 223 = .ok (.aload_n 0, 1) := by decide +kernel
theorem dL_law_224 : decode cL_law 224 = .ok (.iload_n 3, 1) := by decide +kernel
theorem dL_law_225 : decode cL_law 225 = .ok (.iconst 1, 1) := by decide +kernel
theorem dL_law_226 : decode cL_law 226 = .ok (.iadd, 1) := by decide +kernel
theorem dL_law_227 : decode cL_law 227 = .ok (.iaload, 1) := by decide +kernel
theorem dL_law_228 : decode cL_law 228 = .ok (.invokevirtual 32, 3) := by decide +kernel
theorem dL_law_231 : decode cL_law 231 = .ok (.if_icmp .eq 123, 3) := by decide +kernel
theorem dL_law_234 : decode cL_law 234 = .ok (.iconst 0, 1) := by decide +kernel
theorem dL_law_235 : decode cL_law 235 = .ok (.ireturn, 1) := by decide +kernel
theorem dL_law_236 : decode cL_law 236 = .ok (.aload_n 1, 1) := by decide +kernel
theorem dL_law_237 : decode cL_law 237 = .ok (.invokevirtual 33, 3) := by decide +kernel
theorem dL_law_240 : decode cL_law 240 = .ok (.aload_n 2, 1) := by decide +kernel
theorem dL_law_241 : decode cL_law 241 = .ok (.invokevirtual 37, 3) := by decide +kernel
theorem dL_law_244 : decode cL_law 244 = .ok (.if_icmp .eq 110, 3) := by decide +kernel
theorem dL_law_247 : decode cL_law 247 = .ok (.iconst 0, 1) := by decide +kernel
theorem dL_law_248 : decode cL_law 248 = .ok (.ireturn, 1) := by decide +kernel
theorem dL_law_249 : decode cL_law 249 = .ok (.aload_n 1, 1) := by decide +kernel
theorem dL_law_250 : decode cL_law 250 = .ok (.aload_n 0, 1) := by decide +kernel
theorem dL_law_251 : decode cL_law 251 = .ok (.iload_n 3, 1) := by decide +kernel
theorem dL_law_252 : decode cL_law 252 = .ok (.iconst 1, 1) := by decide +kernel
theorem dL_law_253 : decode cL_law 253 = .ok (.iadd, 1) := by decide +kernel
theorem dL_law_254 : decode cL_law 254 = .ok (.iaload, 1) := by decide +kernel
theorem dL_law_255 : decode cL_law 255 = .ok (.invokevirtual 38, 3) := by decide +kernel
theorem dL_law_258 : decode cL_law 258 = .ok (.aload_n 2, 1) := by decide +kernel
theorem dL_law_259 : decode cL_law 259 = .ok (.aload_n 0, 1) := by decide +kernel
theorem dL_law_260 : decode cL_law 260 = .ok (.iload_n 3, 1) := by decide +kernel
theorem dL_law_261 : decode cL_law 261 = .ok (.iconst 1, 1) := by decide +kernel
theorem dL_law_262 : decode cL_law 262 = .ok (.iadd, 1) := by decide +kernel
theorem dL_law_263 : decode cL_law 263 = .ok (.iaload, 1) := by decide +kernel
theorem dL_law_264 : decode cL_law 264 = .ok (.invokevirtual 41, 3) := by decide +kernel
theorem dL_law_267 : decode cL_law 267 = .ok (.if_icmp .eq 87, 3) := by decide +kernel
theorem dL_law_270 : decode cL_law 270 = .ok (.iconst 0, 1) := by decide +kernel
theorem dL_law_271 : decode cL_law 271 = .ok (.ireturn, 1) := by decide +kernel
theorem dL_law_272 : decode cL_law 272 = .ok (.aload_n 1, 1) := by decide +kernel
theorem dL_law_273 : decode cL_law 273 = .ok (.invokevirtual 42, 3) := by decide +kernel
theorem dL_law_276 : decode cL_law 276 = .ok (.aload_n 2, 1) := by decide +kernel
theorem dL_law_277 : decode cL_law 277 = .ok (.invokevirtual 45, 3) := by decide +kernel
theorem dL_law_280 : decode cL_law 280 = .ok (.if_icmp .eq 74, 3) := by decide +kernel
theorem dL_law_283 : decode cL_law 283 = .ok (.iconst 0, 1) := by decide +kernel
theorem dL_law_284 : decode cL_law 284 = .ok (.ireturn, 1) := by decide +kernel
theorem dL_law_285 : decode cL_law 285 = .ok (.aload_n 1, 1) := by decide +kernel
theorem dL_law_286 : decode cL_law 286 = .ok (.invokevirtual 46, 3) := by decide +kernel
theorem dL_law_289 : decode cL_law 289 = .ok (.aload_n 2, 1) := by decide +kernel
theorem dL_law_290 : decode cL_law 290 = .ok (.invokevirtual 49, 3) := by decide +kernel
theorem dL_law_293 : decode cL_law 293 = .ok (.if_icmp .eq 61, 3) := by decide +kernel
theorem dL_law_296 : decode cL_law 296 = .ok (.iconst 0, 1) := by decide +kernel
theorem dL_law_297 : decode cL_law 297 = .ok (.ireturn, 1) := by decide +kernel
theorem dL_law_298 : decode cL_law 298 = .ok (.aload_n 1, 1) := by decide +kernel
theorem dL_law_299 : decode cL_law 299 = .ok (.aload_n 0, 1) := by decide +kernel
theorem dL_law_300 : decode cL_law 300 = .ok (.iload_n 3, 1) := by decide +kernel
theorem dL_law_301 : decode cL_law 301 = .ok (.iconst 1, 1) := by decide +kernel
theorem dL_law_302 : decode cL_law 302 = .ok (.iadd, 1) := by decide +kernel
theorem dL_law_303 : decode cL_law 303 = .ok (.iaload, 1) := by decide +kernel
theorem dL_law_304 : decode cL_law 304 = .ok (.aload_n 0, 1) := by decide +kernel
theorem dL_law_305 : decode cL_law 305 = .ok (.iload_n 3, 1) := by decide +kernel
theorem dL_law_306 : decode cL_law 306 = .ok (.iconst 2, 1) := by decide +kernel
theorem dL_law_307 : decode cL_law 307 = .ok (.iadd, 1) := by decide +kernel
theorem dL_law_308 : decode cL_law 308 = .ok (.iaload, 1) := by decide +kernel
theorem dL_law_309 : decode cL_law 309 = .ok (.invokevirtual 50, 3) := by decide +kernel
theorem dL_law_312 : decode cL_law 312 = .ok (.aload_n 2, 1) := by decide +kernel
theorem dL_law_313 : decode cL_law 313 = .ok (.aload_n 0, 1) := by decide +kernel
theorem dL_law_314 : decode cL_law 314 = .ok (.iload_n 3, 1) := by decide +kernel
theorem dL_law_315 : decode cL_law 315 = .ok (.iconst 1, 1) := by decide +kernel
theorem dL_law_316 : decode cL_law 316 = .ok (.iadd, 1) := by decide +kernel
theorem dL_law_317 : decode cL_law 317 = .ok (.iaload, 1) := by decide +kernel
theorem dL_law_318 : decode cL_law 318 = .ok (.aload_n 0, 1) := by decide +kernel
theorem dL_law_319 : decode cL_law 319 = .ok (.iload_n 3, 1) := by decide +kernel
theorem dL_law_320 : decode cL_law 320 = .ok (.iconst 2, 1) := by decide +kernel
theorem dL_law_321 : decode cL_law 321 = .ok (.iadd, 1) := by decide +kernel
theorem dL_law_322 : decode cL_law 322 = .ok (.iaload, 1) := by decide +kernel
theorem dL_law_323 : decode cL_law 323 = .ok (.invokevirtual 53, 3) := by decide +kernel
theorem dL_law_326 : decode cL_law 326 = .ok (.if_icmp .eq 28, 3) := by decide +kernel
theorem dL_law_329 : decode cL_law 329 = .ok (.iconst 0, 1) := by decide +kernel
theorem dL_law_330 : decode cL_law 330 = .ok (.ireturn, 1) := by decide +kernel
theorem dL_law_331 : decode cL_law 331 = .ok (.aload_n 1, 1) := by decide +kernel
theorem dL_law_332 : decode cL_law 332 = .ok (.aload_n 0, 1) := by decide +kernel
theorem dL_law_333 : decode cL_law 333 = .ok (.iload_n 3, 1) := by decide +kernel
theorem dL_law_334 : decode cL_law 334 = .ok (.iconst 1, 1) := by decide +kernel
theorem dL_law_335 : decode cL_law 335 = .ok (.iadd, 1) := by decide +kernel
theorem dL_law_336 : decode cL_law 336 = .ok (.iaload, 1) := by decide +kernel
theorem dL_law_337 : decode cL_law 337 = .ok (.invokevirtual 54, 3) := by decide +kernel
theorem dL_law_340 : decode cL_law 340 = .ok (.aload_n 2, 1) := by decide +kernel
theorem dL_law_341 : decode cL_law 341 = .ok (.aload_n 0, 1) := by decide +kernel
theorem dL_law_342 : decode cL_law 342 = .ok (.iload_n 3, 1) := by decide +kernel
theorem dL_law_343 : decode cL_law 343 = .ok (.iconst 1, 1) := by decide +kernel
theorem dL_law_344 : decode cL_law 344 = .ok (.iadd, 1) := by decide +kernel
theorem dL_law_345 : decode cL_law 345 = .ok (.iaload, 1) := by decide +kernel
theorem dL_law_346 : decode cL_law 346 = .ok (.invokevirtual 57, 3) := by decide +kernel
theorem dL_law_349 : decode cL_law 349 = .ok (.if_icmp .eq 5, 3) := by decide +kernel
theorem dL_law_352 : decode cL_law 352 = .ok (.iconst 0, 1) := by decide +kernel
theorem dL_law_353 : decode cL_law 353 = .ok (.ireturn, 1) := by decide +kernel
theorem dL_law_354 : decode cL_law 354 = .ok (.iinc 3 4, 3) := by decide +kernel
theorem dL_law_357 : decode cL_law 357 = .ok (.goto (-339), 3) := by decide +kernel
theorem dL_law_360 : decode cL_law 360 = .ok (.iconst 1, 1) := by decide +kernel
theorem dL_law_361 : decode cL_law 361 = .ok (.ireturn, 1) := by decide +kernel
end
section
/-! symbols of the field with eight elements, the arrays' contents, the worlds of both objects -/
set_option maxRecDepth 100000
abbrev F8 : Type := Fin 8
def gx (a b : F8) : F8 := ⟨(a.val ^^^ b.val) % 8, Nat.mod_lt _ (by decide)⟩
def pw (i : Nat) : F8 := ⟨(7683196839697 >>> (3 * i)) % 8, Nat.mod_lt _ (by decide)⟩
def ex (i : Nat) : F8 := ⟨(11740736 >>> (3 * i)) % 8, Nat.mod_lt _ (by decide)⟩
def gm (a b : F8) : F8 := ⟨(2821848294356612419217921029917578219971947684264937521152 >>> (3 * (8 * a.val + b.val))) % 8, Nat.mod_lt _ (by decide)⟩
def go (a b : F8) : F8 := ⟨(1047628189932426741136043465902155670087605318451074170880 >>> (3 * (8 * a.val + b.val))) % 8, Nat.mod_lt _ (by decide)⟩
def xs (f : Nat → F8) : Nat → F8
  | 0 => 0
  | n + 1 => gx (xs f n) (f n)
def gp (b : F8) : Nat → F8
  | 0 => 1
  | n + 1 => gm (gp b n) b
def cn (f : Nat → Bool) : Nat → Nat
  | 0 => 0
  | n + 1 => cn f n + (f n).toNat
def dn : Nat → Int32
  | 0 => -1
  | n + 1 => nI n
def mx {α : Type} (k : Nat) (f g : Nat → α) : Nat → α := fun j => if j < k then f j else g j
def md {α : Type} (k n : Nat) (f g : Nat → α) : Nat → α := fun j => if k ≤ j ∧ j < n then f j else g j
theorem mx_0 {α : Type} (f g : Nat → α) : mx 0 f g = g := funext fun j => by simp [mx]
theorem mx_lt {α : Type} {k j : Nat} {f g : Nat → α} (h : j < k) : mx k f g j = f j := by simp [mx, h]
theorem mx_ge {α : Type} {k j : Nat} {f g : Nat → α} (h : k ≤ j) : mx k f g j = g j := by simp [mx, Nat.not_lt.mpr h]
theorem mx_up {α : Type} {k : Nat} {f g : Nat → α} {v : α} (h : v = f k) (i : Nat) : va_up (mx k f g) k v i = mx (k + 1) f g i := by
  subst h
  simp only [va_up, mx]
  by_cases h1 : i = k
  · subst h1
    simp
  · by_cases h2 : i < k
    · simp [h1, h2, Nat.lt_succ_of_lt h2]
    · simp [h1, h2, show ¬ i < k + 1 by omega]
theorem md_e {α : Type} (n : Nat) (f g : Nat → α) : md n n f g = g := funext fun j => by
  simp only [md]
  rw [if_neg (by omega)]
theorem md_up {α : Type} {k n : Nat} {f g : Nat → α} {v : α} (h : v = f k) (hk : k < n) (i : Nat) : va_up (md (k + 1) n f g) k v i = md k n f g i := by
  subst h
  simp only [va_up, md]
  by_cases h1 : i = k
  · subst h1
    simp [hk]
  · by_cases h2 : k + 1 ≤ i ∧ i < n
    · simp [h1, h2, show k ≤ i by omega]
    · rw [if_neg h1, if_neg h2, if_neg (by omega)]
theorem md_lo {α : Type} {k n j : Nat} {f g : Nat → α} (h : j < k) : md k n f g j = g j := by
  simp only [md]
  rw [if_neg (by omega)]
theorem md_in {α : Type} {k n j : Nat} {f g : Nat → α} (h : k ≤ j) (h2 : j < n) : md k n f g j = f j := by simp [md, h, h2]
def aC (n : Nat) (X : Nat → F8) : Nat → Int32 := fun i => nI (if i < n then (X i).val else 0)
def aB (n : Nat) (g : Nat → Bool) : Nat → Int32 := fun i => nI (if i < n then (g i).toNat else 0)
theorem aC_at {n k : Nat} {X : Nat → F8} (h : k < n) : aC n X k = nI (X k).val := by simp [aC, h]
theorem aB_at {n k : Nat} {g : Nat → Bool} (h : k < n) : aB n g k = nI (g k).toNat := by simp [aB, h]
theorem aC_eq {n : Nat} {X Y : Nat → F8} (h : ∀ i, i < n → X i = Y i) : aC n X = aC n Y := funext fun i => by
  simp only [aC]
  by_cases hi : i < n
  · simp [hi, h i hi]
  · simp [hi]
theorem aB_eq {n : Nat} {X Y : Nat → Bool} (h : ∀ i, i < n → X i = Y i) : aB n X = aB n Y := funext fun i => by
  simp only [aB]
  by_cases hi : i < n
  · simp [hi, h i hi]
  · simp [hi]
theorem aC_up {n k : Nat} {X Y : Nat → F8} {v : F8} (hk : k < n) (hY : ∀ i, i < n → va_up X k v i = Y i) : upd (aC n X) k (nI v.val) = aC n Y := by
  rw [← aC_eq hY]
  funext i
  simp only [upd, aC, va_up]
  by_cases hi : i = k
  · subst hi
    simp [hk]
  · simp [hi]
theorem aB_up {n k : Nat} {X Y : Nat → Bool} {v : Bool} (hk : k < n) (hY : ∀ i, i < n → va_up X k v i = Y i) : upd (aB n X) k (nI v.toNat) = aB n Y := by
  rw [← aB_eq hY]
  funext i
  simp only [upd, aB, va_up]
  by_cases hi : i = k
  · subst hi
    simp [hk]
  · simp [hi]
theorem aC_0 (n : Nat) : aC n (fun _ => 0) = fun _ => 0 := funext fun i => by
  simp only [aC]
  by_cases hi : i < n
  · simp [hi]; rfl
  · simp [hi]; rfl
theorem aB_0 (n : Nat) : aB n (fun _ => false) = fun _ => 0 := funext fun i => by
  simp only [aB]
  by_cases hi : i < n
  · simp [hi]; rfl
  · simp [hi]; rfl
theorem nar_b (b : Bool) : vp_nar .boolean (nI b.toNat) = nI b.toNat := by cases b <;> decide
theorem nar_b2 (b : Bool) : narrow .boolean (.int (nI b.toNat)) = .int (nI b.toNat) := by cases b <;> rfl
theorem f8_eq {a b : F8} : nI a.val = nI b.val ↔ a = b := by
  rw [nI_eq (Nat.lt_trans a.isLt (by decide)) (Nat.lt_trans b.isLt (by decide))]
  exact Fin.val_inj
theorem f8_0 {a : F8} : nI a.val = 0 ↔ a = 0 := by
  have h := f8_eq (a := a) (b := 0)
  exact h
theorem f8_x (a b : F8) : nI a.val ^^^ nI b.val = nI (gx a b).val := by
  revert a b
  decide +kernel
theorem bo_0 {b : Bool} : nI b.toNat = 0 ↔ b = false := by cases b <;> decide
theorem ex_le : ∀ a : F8, (ex a.val).val ≤ 6 := by decide +kernel
theorem gm_ex : ∀ a b : F8, ¬ a = 0 → ¬ b = 0 → pw ((ex a.val).val + (ex b.val).val) = gm a b := by decide +kernel
theorem gm_z1 : ∀ b : F8, gm 0 b = 0 := by decide +kernel
theorem gm_z2 : ∀ a : F8, gm a 0 = 0 := by decide +kernel
theorem go_ex : ∀ a b : F8, ¬ a = 0 → pw ((ex a.val).val + 7 - (ex b.val).val) = go a b := by decide +kernel
theorem go_z1 : ∀ b : F8, go 0 b = 0 := by decide +kernel
abbrev vwCl : List vw_C := [(RX0, TX0, 12), (RX1, TX1, 4)]
abbrev tyL (dA dZ : ClassId) : List (ClassId × FieldType) := [(dA, .int), (dZ, .boolean)]
abbrev rk (k : Nat) : Room := { frames := k, cells := 0, slots := 0, locals := 32 * k }
def Wd (D : va_G) (dA dZ : ClassId) (A : Nat → Prop) (s : State) (ws : va_W) (H : Heap) (locs : List Loc) : Prop := va_K D vwCl (tyL dA dZ) s ∧ va_P D vwCl ws H ∧ va_D A ws ∧ va_S A s.heap H locs ∧ ∀ q, s.heap.size ≤ q → A q
/-- SymbolMender: the object and its ten arrays -/
def wM (dA dZ : ClassId) (ad : Nat → Nat) (w : Nat → F8) (g : Nat → Bool) (sy ru he be nu : Nat → F8) (le : Nat) (wh : Nat → F8) (di : Nat) : va_W :=
  [(ad 0, .inr (0, [.ref (ad 1), .ref (ad 2), .ref (ad 3), .ref (ad 4), .ref (ad 5), .ref (ad 6), .ref (ad 7), .ref (ad 8), .ref (ad 9), .int (nI le), .ref (ad 10), .int (nI di)])),
   (ad 1, .inl (dA, 7, .inl (aC 7 w))), (ad 2, .inl (dZ, 7, .inl (aB 7 g))), (ad 3, .inl (dA, 14, .inl (aC 14 pw))), (ad 4, .inl (dA, 8, .inl (aC 8 ex))), (ad 5, .inl (dA, 5, .inl (aC 5 sy))),
   (ad 6, .inl (dA, 10, .inl (aC 10 ru))), (ad 7, .inl (dA, 10, .inl (aC 10 he))), (ad 8, .inl (dA, 10, .inl (aC 10 be))), (ad 9, .inl (dA, 4, .inl (aC 4 nu))), (ad 10, .inl (dA, 7, .inl (aC 7 wh)))]
/-- SymbolMenderModel: the object and its four arrays -/
def wO (dA dZ : ClassId) (ad : Nat → Nat) (li : Nat → F8) (g : Nat → Bool) (ze ma : Nat → F8) : va_W :=
  [(ad 0, .inr (1, [.ref (ad 1), .ref (ad 2), .ref (ad 3), .ref (ad 4)])),
   (ad 1, .inl (dA, 7, .inl (aC 7 li))), (ad 2, .inl (dZ, 7, .inl (aB 7 g))), (ad 3, .inl (dA, 5, .inl (aC 5 ze))), (ad 4, .inl (dA, 7, .inl (aC 7 ma)))]
theorem wM_eq {dA dZ : ClassId} {ad : Nat → Nat} {w w' : Nat → F8} {g g' : Nat → Bool} {sy sy' ru ru' he he' be be' nu nu' : Nat → F8} {le : Nat} {wh wh' : Nat → F8} {di : Nat} (h1 : ∀ i, i < 7 → w i = w' i) (h2 : ∀ i, i < 7 → g i = g' i) (h3 : ∀ i, i < 5 → sy i = sy' i) (h4 : ∀ i, i < 10 → ru i = ru' i) (h5 : ∀ i, i < 10 → he i = he' i) (h6 : ∀ i, i < 10 → be i = be' i) (h7 : ∀ i, i < 4 → nu i = nu' i) (h8 : ∀ i, i < 7 → wh i = wh' i) :
    wM dA dZ ad w g sy ru he be nu le wh di = wM dA dZ ad w' g' sy' ru' he' be' nu' le wh' di := by
  unfold wM
  rw [aC_eq h1, aB_eq h2, aC_eq h3, aC_eq h4, aC_eq h5, aC_eq h6, aC_eq h7, aC_eq h8]
theorem wO_eq {dA dZ : ClassId} {ad : Nat → Nat} {w w' : Nat → F8} {g g' : Nat → Bool} {ze ze' ma ma' : Nat → F8} (h1 : ∀ i, i < 7 → w i = w' i) (h2 : ∀ i, i < 7 → g i = g' i) (h3 : ∀ i, i < 5 → ze i = ze' i) (h4 : ∀ i, i < 7 → ma i = ma' i) :
    wO dA dZ ad w g ze ma = wO dA dZ ad w' g' ze' ma' := by
  unfold wO
  rw [aC_eq h1, aB_eq h2, aC_eq h3, aC_eq h4]
theorem e_rf {α : Type} {n : Nat} {X : Nat → α} : ∀ i, i < n → X i = X i := fun _ _ => rfl
end
section
set_option maxRecDepth 100000
section Rows
variable {p : Program} {l : Launch} {e : Env} {R : Room} {s : State} {m : MethodId} {args : Array Value} {below : List Frame} {meth : Method} {c : Code} {H : Heap} {locs : List Loc} {cells slots : Nat} {Q : State → Prop}
variable {cc : ByteArray} {nL : Nat} {own : String} {pc : Nat} {ls : Array Slot} {rest : List Value} {D : va_G} {dA dZ : ClassId} {A : Nat → Prop} {ws : va_W}
theorem ir_ild_n {k : Fin 4} {x : Int32} {lv : List (Nat × Value)} (S : CallFix p m c cc nL s args lw_all own) (hdg : decode cc pc = .ok (.iload_n k, 1)) (hl : lv_has ls nL lv) (j : Nat) (hj : lv[j]? = some ((k : Nat), .int x)) (kk : W p l e R s m args below meth c H locs cells slots Q (F0 m (pc + 1) ls (.int x :: rest))) : W p l e R s m args below meth c H locs cells slots Q (F0 m pc ls rest) := lv_iload_n S.1 S.2.1 hdg rfl (lv_at hl j hj) kk
theorem ir_ild {i : Nat} {x : Int32} {lv : List (Nat × Value)} (S : CallFix p m c cc nL s args lw_all own) (hdg : decode cc pc = .ok (.iload i, 2)) (hl : lv_has ls nL lv) (j : Nat) (hj : lv[j]? = some (i, .int x)) (kk : W p l e R s m args below meth c H locs cells slots Q (F0 m (pc + 2) ls (.int x :: rest))) : W p l e R s m args below meth c H locs cells slots Q (F0 m pc ls rest) := lv_iload S.1 S.2.1 hdg (lv_at hl j hj) kk
theorem ir_ald_n {k : Fin 4} {x : Nat} {lv : List (Nat × Value)} (S : CallFix p m c cc nL s args lw_all own) (hdg : decode cc pc = .ok (.aload_n k, 1)) (hl : lv_has ls nL lv) (j : Nat) (hj : lv[j]? = some ((k : Nat), .ref x)) (kk : W p l e R s m args below meth c H locs cells slots Q (F0 m (pc + 1) ls (.ref x :: rest))) : W p l e R s m args below meth c H locs cells slots Q (F0 m pc ls rest) := lv_aload_n S.1 S.2.1 hdg rfl (lv_at hl j hj) kk
theorem ir_ic {n : Int} (S : CallFix p m c cc nL s args lw_all own) (hdg : decode cc pc = .ok (.iconst n, 1)) (v : Int32) (hv : Int32.ofInt n = v) (kk : W p l e R s m args below meth c H locs cells slots Q (F0 m (pc + 1) ls (.int v :: rest))) : W p l e R s m args below meth c H locs cells slots Q (F0 m pc ls rest) := lv_iconst S.1 S.2.1 hdg hv kk
theorem ir_bi {n : Int} (S : CallFix p m c cc nL s args lw_all own) (hdg : decode cc pc = .ok (.bipush n, 2)) (v : Int32) (hv : (Int8.ofInt n).toInt32 = v) (kk : W p l e R s m args below meth c H locs cells slots Q (F0 m (pc + 2) ls (.int v :: rest))) : W p l e R s m args below meth c H locs cells slots Q (F0 m pc ls rest) := lv_bipush S.1 S.2.1 hdg hv kk
theorem ir_si {n : Int} (S : CallFix p m c cc nL s args lw_all own) (hdg : decode cc pc = .ok (.sipush n, 3)) (v : Int32) (hv : (Int16.ofInt n).toInt32 = v) (kk : W p l e R s m args below meth c H locs cells slots Q (F0 m (pc + 3) ls (.int v :: rest))) : W p l e R s m args below meth c H locs cells slots Q (F0 m pc ls rest) := lv_sipush S.1 S.2.1 hdg hv kk
theorem ir_st_n {k : Fin 4} {x : Int32} {lv lv1 : List (Nat × Value)} (S : CallFix p m c cc nL s args lw_all own) (hdg : decode cc pc = .ok (.istore_n k, 1)) (hl : lv_has ls nL lv) (ks : List Nat) (hn : (k : Nat) < nL) (hp : lv_pick (((k : Nat), Value.int x) :: lv.filter (fun q => !(q.1 == (k : Nat)) && !(q.1 + 1 == (k : Nat) && q.2.category == 2))) ks = lv1) (kk : ∀ ls1 : Array Slot, lv_has ls1 nL lv1 → W p l e R s m args below meth c H locs cells slots Q (F0 m (pc + 1) ls1 rest)) : W p l e R s m args below meth c H locs cells slots Q (F0 m pc ls (.int x :: rest)) := lv_istore_n S.1 S.2.1 hdg rfl hl hn rfl (fun ls1 h => kk ls1 (lv_sub h ks hp))
theorem ir_st {i : Nat} {x : Int32} {lv lv1 : List (Nat × Value)} (S : CallFix p m c cc nL s args lw_all own) (hdg : decode cc pc = .ok (.istore i, 2)) (hl : lv_has ls nL lv) (ks : List Nat) (hn : i < nL) (hp : lv_pick ((i, Value.int x) :: lv.filter (fun q => !(q.1 == i) && !(q.1 + 1 == i && q.2.category == 2))) ks = lv1) (kk : ∀ ls1 : Array Slot, lv_has ls1 nL lv1 → W p l e R s m args below meth c H locs cells slots Q (F0 m (pc + 2) ls1 rest)) : W p l e R s m args below meth c H locs cells slots Q (F0 m pc ls (.int x :: rest)) := lv_istore S.1 S.2.1 hdg hl hn rfl (fun ls1 h => kk ls1 (lv_sub h ks hp))
theorem ir_ast_n {k : Fin 4} {x : Nat} {lv lv1 : List (Nat × Value)} (S : CallFix p m c cc nL s args lw_all own) (hdg : decode cc pc = .ok (.astore_n k, 1)) (hl : lv_has ls nL lv) (ks : List Nat) (hn : (k : Nat) < nL) (hp : lv_pick (((k : Nat), Value.ref x) :: lv.filter (fun q => !(q.1 == (k : Nat)) && !(q.1 + 1 == (k : Nat) && q.2.category == 2))) ks = lv1) (kk : ∀ ls1 : Array Slot, lv_has ls1 nL lv1 → W p l e R s m args below meth c H locs cells slots Q (F0 m (pc + 1) ls1 rest)) : W p l e R s m args below meth c H locs cells slots Q (F0 m pc ls (.ref x :: rest)) := lv_astore_n S.1 S.2.1 hdg rfl hl hn rfl (fun ls1 h => kk ls1 (lv_sub h ks hp))
theorem ii_1 (k : Nat) : nI k + Int32.ofInt 1 = nI (k + 1) := by rw [show Int32.ofInt 1 = 1 by decide]; exact nI_1 k
theorem ii_4 (k : Nat) : nI k + Int32.ofInt 4 = nI (k + 4) := by rw [show Int32.ofInt 4 = nI 4 by decide]; exact nI_add k 4
theorem ii_m (k : Nat) : nI (k + 1) + Int32.ofInt (-1) = nI k := by rw [show Int32.ofInt (-1) = -1 by decide]; exact pk_m1 k
theorem ii_d (k : Nat) : dn (k + 1) + Int32.ofInt (-1) = dn k := by
  cases k with
  | zero => decide
  | succ k => exact ii_m k
theorem ir_inc {i k : Nat} {lv lv1 : List (Nat × Value)} (S : CallFix p m c cc nL s args lw_all own) (hdg : decode cc pc = .ok (.iinc i 1, 3)) (hl : lv_has ls nL lv) (j : Nat) (hj : lv[j]? = some (i, .int (nI k))) (ks : List Nat) (hn : i < nL) (hp : lv_pick ((i, Value.int (nI (k + 1))) :: lv.filter (fun q => !(q.1 == i) && !(q.1 + 1 == i && q.2.category == 2))) ks = lv1) (kk : ∀ ls1 : Array Slot, lv_has ls1 nL lv1 → W p l e R s m args below meth c H locs cells slots Q (F0 m (pc + 3) ls1 rest)) : W p l e R s m args below meth c H locs cells slots Q (F0 m pc ls rest) := lv_iinc (v := nI (k + 1)) S.1 S.2.1 hdg hl hj (ii_1 k) hn rfl (fun ls1 h => kk ls1 (lv_sub h ks hp))
theorem ir_in4 {i k : Nat} {lv lv1 : List (Nat × Value)} (S : CallFix p m c cc nL s args lw_all own) (hdg : decode cc pc = .ok (.iinc i 4, 3)) (hl : lv_has ls nL lv) (j : Nat) (hj : lv[j]? = some (i, .int (nI k))) (ks : List Nat) (hn : i < nL) (hp : lv_pick ((i, Value.int (nI (k + 4))) :: lv.filter (fun q => !(q.1 == i) && !(q.1 + 1 == i && q.2.category == 2))) ks = lv1) (kk : ∀ ls1 : Array Slot, lv_has ls1 nL lv1 → W p l e R s m args below meth c H locs cells slots Q (F0 m (pc + 3) ls1 rest)) : W p l e R s m args below meth c H locs cells slots Q (F0 m pc ls rest) := lv_iinc (v := nI (k + 4)) S.1 S.2.1 hdg hl hj (ii_4 k) hn rfl (fun ls1 h => kk ls1 (lv_sub h ks hp))
theorem ir_dec {i k : Nat} {lv lv1 : List (Nat × Value)} (S : CallFix p m c cc nL s args lw_all own) (hdg : decode cc pc = .ok (.iinc i (-1), 3)) (hl : lv_has ls nL lv) (j : Nat) (hj : lv[j]? = some (i, .int (nI (k + 1)))) (ks : List Nat) (hn : i < nL) (hp : lv_pick ((i, Value.int (nI k)) :: lv.filter (fun q => !(q.1 == i) && !(q.1 + 1 == i && q.2.category == 2))) ks = lv1) (kk : ∀ ls1 : Array Slot, lv_has ls1 nL lv1 → W p l e R s m args below meth c H locs cells slots Q (F0 m (pc + 3) ls1 rest)) : W p l e R s m args below meth c H locs cells slots Q (F0 m pc ls rest) := lv_iinc (v := nI k) S.1 S.2.1 hdg hl hj (ii_m k) hn rfl (fun ls1 h => kk ls1 (lv_sub h ks hp))
theorem ir_dcd {i k : Nat} {lv lv1 : List (Nat × Value)} (S : CallFix p m c cc nL s args lw_all own) (hdg : decode cc pc = .ok (.iinc i (-1), 3)) (hl : lv_has ls nL lv) (j : Nat) (hj : lv[j]? = some (i, .int (dn (k + 1)))) (ks : List Nat) (hn : i < nL) (hp : lv_pick ((i, Value.int (dn k)) :: lv.filter (fun q => !(q.1 == i) && !(q.1 + 1 == i && q.2.category == 2))) ks = lv1) (kk : ∀ ls1 : Array Slot, lv_has ls1 nL lv1 → W p l e R s m args below meth c H locs cells slots Q (F0 m (pc + 3) ls1 rest)) : W p l e R s m args below meth c H locs cells slots Q (F0 m pc ls rest) := lv_iinc (v := dn k) S.1 S.2.1 hdg hl hj (ii_d k) hn rfl (fun ls1 h => kk ls1 (lv_sub h ks hp))
theorem ir_add {a b : Nat} (S : CallFix p m c cc nL s args lw_all own) (hdg : decode cc pc = .ok (.iadd, 1))  (kk : W p l e R s m args below meth c H locs cells slots Q (F0 m (pc + 1) ls (.int (nI (a + b)) :: rest))) : W p l e R s m args below meth c H locs cells slots Q (F0 m pc ls (.int (nI b) :: .int (nI a) :: rest)) := lv_iadd S.1 S.2.1 hdg (by rw [nI_add]; exact kk)
theorem ir_sub {a b : Nat} (S : CallFix p m c cc nL s args lw_all own) (hdg : decode cc pc = .ok (.isub, 1)) (h : b ≤ a) (kk : W p l e R s m args below meth c H locs cells slots Q (F0 m (pc + 1) ls (.int (nI (a - b)) :: rest))) : W p l e R s m args below meth c H locs cells slots Q (F0 m pc ls (.int (nI b) :: .int (nI a) :: rest)) := lv_isub S.1 S.2.1 hdg (by rw [pk_sub h]; exact kk)
theorem ir_mul {a b : Nat} (S : CallFix p m c cc nL s args lw_all own) (hdg : decode cc pc = .ok (.imul, 1))  (kk : W p l e R s m args below meth c H locs cells slots Q (F0 m (pc + 1) ls (.int (nI (a * b)) :: rest))) : W p l e R s m args below meth c H locs cells slots Q (F0 m pc ls (.int (nI b) :: .int (nI a) :: rest)) := lv_imul S.1 S.2.1 hdg (by rw [pk_mul]; exact kk)
theorem ir_xor {a b : F8} (S : CallFix p m c cc nL s args lw_all own) (hdg : decode cc pc = .ok (.ixor, 1))  (kk : W p l e R s m args below meth c H locs cells slots Q (F0 m (pc + 1) ls (.int (nI (gx a b).val) :: rest))) : W p l e R s m args below meth c H locs cells slots Q (F0 m pc ls (.int (nI b.val) :: .int (nI a.val) :: rest)) := lv_ixor S.1 S.2.1 hdg (by rw [f8_x]; exact kk)
theorem ir_dup {va : Value} (S : CallFix p m c cc nL s args lw_all own) (hdg : decode cc pc = .ok (.dup, 1)) (hv : va.category = 1) (kk : W p l e R s m args below meth c H locs cells slots Q (F0 m (pc + 1) ls (va :: va :: rest))) : W p l e R s m args below meth c H locs cells slots Q (F0 m pc ls (va :: rest)) := lv_dup S.1 S.2.1 hdg hv kk
theorem ir_dup2 {va vb : Value} (S : CallFix p m c cc nL s args lw_all own) (hdg : decode cc pc = .ok (.dup2, 1)) (hv : va.category = 1) (hv2 : vb.category = 1) (kk : W p l e R s m args below meth c H locs cells slots Q (F0 m (pc + 1) ls (va :: vb :: va :: vb :: rest))) : W p l e R s m args below meth c H locs cells slots Q (F0 m pc ls (va :: vb :: rest)) := lv_dup2_11 S.1 S.2.1 hdg hv hv2 kk
theorem ir_goto {off : Int} (tgt : Nat) (S : CallFix p m c cc nL s args lw_all own) (hdg : decode cc pc = .ok (.goto off, 3)) (ht : (pc : Int) + off = (tgt : Int)) (kk : W p l e R s m args below meth c H locs cells slots Q (F0 m tgt ls rest)) : W p l e R s m args below meth c H locs cells slots Q (F0 m pc ls rest) := lv_goto S.1 S.2.1 hdg ht kk
theorem ir_cge {a b : Nat} {off : Int} (tgt : Nat) (S : CallFix p m c cc nL s args lw_all own) (hdg : decode cc pc = .ok (.if_icmp .ge off, 3)) (ht : (pc : Int) + off = (tgt : Int)) (ha : a < 2 ^ 31) (hb : b < 2 ^ 31) (kt : b ≤ a → W p l e R s m args below meth c H locs cells slots Q (F0 m tgt ls rest)) (kf : a < b → W p l e R s m args below meth c H locs cells slots Q (F0 m (pc + 3) ls rest)) : W p l e R s m args below meth c H locs cells slots Q (F0 m pc ls (.int (nI b) :: .int (nI a) :: rest)) := lv_icmp_ge S.1 S.2.1 hdg ht (fun h => kt ((nI_leI hb ha).mp h)) (fun h => kf (Nat.not_le.mp (fun q => h ((nI_leI hb ha).mpr q))))
theorem ir_cgt {a b : Nat} {off : Int} (tgt : Nat) (S : CallFix p m c cc nL s args lw_all own) (hdg : decode cc pc = .ok (.if_icmp .gt off, 3)) (ht : (pc : Int) + off = (tgt : Int)) (ha : a < 2 ^ 31) (hb : b < 2 ^ 31) (kt : b < a → W p l e R s m args below meth c H locs cells slots Q (F0 m tgt ls rest)) (kf : a ≤ b → W p l e R s m args below meth c H locs cells slots Q (F0 m (pc + 3) ls rest)) : W p l e R s m args below meth c H locs cells slots Q (F0 m pc ls (.int (nI b) :: .int (nI a) :: rest)) := lv_icmp_gt S.1 S.2.1 hdg ht (fun h => kt ((nI_ltI hb ha).mp h)) (fun h => kf (Nat.not_lt.mp (fun q => h ((nI_ltI hb ha).mpr q))))
theorem ir_cle {a b : Nat} {off : Int} (tgt : Nat) (S : CallFix p m c cc nL s args lw_all own) (hdg : decode cc pc = .ok (.if_icmp .le off, 3)) (ht : (pc : Int) + off = (tgt : Int)) (ha : a < 2 ^ 31) (hb : b < 2 ^ 31) (kt : a ≤ b → W p l e R s m args below meth c H locs cells slots Q (F0 m tgt ls rest)) (kf : b < a → W p l e R s m args below meth c H locs cells slots Q (F0 m (pc + 3) ls rest)) : W p l e R s m args below meth c H locs cells slots Q (F0 m pc ls (.int (nI b) :: .int (nI a) :: rest)) := lv_icmp_le S.1 S.2.1 hdg ht (fun h => kt ((nI_leI ha hb).mp h)) (fun h => kf (Nat.not_le.mp (fun q => h ((nI_leI ha hb).mpr q))))
theorem ir_clt {a b : Nat} {off : Int} (tgt : Nat) (S : CallFix p m c cc nL s args lw_all own) (hdg : decode cc pc = .ok (.if_icmp .lt off, 3)) (ht : (pc : Int) + off = (tgt : Int)) (ha : a < 2 ^ 31) (hb : b < 2 ^ 31) (kt : a < b → W p l e R s m args below meth c H locs cells slots Q (F0 m tgt ls rest)) (kf : b ≤ a → W p l e R s m args below meth c H locs cells slots Q (F0 m (pc + 3) ls rest)) : W p l e R s m args below meth c H locs cells slots Q (F0 m pc ls (.int (nI b) :: .int (nI a) :: rest)) := lv_icmp_lt S.1 S.2.1 hdg ht (fun h => kt ((nI_ltI ha hb).mp h)) (fun h => kf (Nat.not_lt.mp (fun q => h ((nI_ltI ha hb).mpr q))))
theorem ir_cne {a b : Nat} {off : Int} (tgt : Nat) (S : CallFix p m c cc nL s args lw_all own) (hdg : decode cc pc = .ok (.if_icmp .ne off, 3)) (ht : (pc : Int) + off = (tgt : Int)) (ha : a < 2 ^ 31) (hb : b < 2 ^ 31) (kt : ¬ a = b → W p l e R s m args below meth c H locs cells slots Q (F0 m tgt ls rest)) (kf : a = b → W p l e R s m args below meth c H locs cells slots Q (F0 m (pc + 3) ls rest)) : W p l e R s m args below meth c H locs cells slots Q (F0 m pc ls (.int (nI b) :: .int (nI a) :: rest)) := lv_icmp_ne S.1 S.2.1 hdg ht (fun h => kt (fun q => h ((nI_eq ha hb).mpr q))) (fun h => kf ((nI_eq ha hb).mp (h)))
theorem ir_ceq8 {a b : F8} {off : Int} (tgt : Nat) (S : CallFix p m c cc nL s args lw_all own) (hdg : decode cc pc = .ok (.if_icmp .eq off, 3)) (ht : (pc : Int) + off = (tgt : Int))  (kt : a = b → W p l e R s m args below meth c H locs cells slots Q (F0 m tgt ls rest)) (kf : ¬ a = b → W p l e R s m args below meth c H locs cells slots Q (F0 m (pc + 3) ls rest)) : W p l e R s m args below meth c H locs cells slots Q (F0 m pc ls (.int (nI b.val) :: .int (nI a.val) :: rest)) := lv_icmp_eq S.1 S.2.1 hdg ht (fun h => kt (f8_eq.mp h)) (fun h => kf (fun q => h (f8_eq.mpr q)))
theorem ir_cne8 {a b : F8} {off : Int} (tgt : Nat) (S : CallFix p m c cc nL s args lw_all own) (hdg : decode cc pc = .ok (.if_icmp .ne off, 3)) (ht : (pc : Int) + off = (tgt : Int))  (kt : ¬ a = b → W p l e R s m args below meth c H locs cells slots Q (F0 m tgt ls rest)) (kf : a = b → W p l e R s m args below meth c H locs cells slots Q (F0 m (pc + 3) ls rest)) : W p l e R s m args below meth c H locs cells slots Q (F0 m pc ls (.int (nI b.val) :: .int (nI a.val) :: rest)) := lv_icmp_ne S.1 S.2.1 hdg ht (fun h => kt (fun q => h (f8_eq.mpr q))) (fun h => kf (f8_eq.mp (h)))
theorem ir_eq8 {a : F8} {off : Int} (tgt : Nat) (S : CallFix p m c cc nL s args lw_all own) (hdg : decode cc pc = .ok (.ifCond .eq off, 3)) (ht : (pc : Int) + off = (tgt : Int))  (kt : a = 0 → W p l e R s m args below meth c H locs cells slots Q (F0 m tgt ls rest)) (kf : ¬ a = 0 → W p l e R s m args below meth c H locs cells slots Q (F0 m (pc + 3) ls rest)) : W p l e R s m args below meth c H locs cells slots Q (F0 m pc ls (.int (nI a.val) :: rest)) := lv_if_eq S.1 S.2.1 hdg ht (fun h => kt (f8_0.mp h)) (fun h => kf (fun q => h (f8_0.mpr q)))
theorem ir_ne8 {a : F8} {off : Int} (tgt : Nat) (S : CallFix p m c cc nL s args lw_all own) (hdg : decode cc pc = .ok (.ifCond .ne off, 3)) (ht : (pc : Int) + off = (tgt : Int))  (kt : ¬ a = 0 → W p l e R s m args below meth c H locs cells slots Q (F0 m tgt ls rest)) (kf : a = 0 → W p l e R s m args below meth c H locs cells slots Q (F0 m (pc + 3) ls rest)) : W p l e R s m args below meth c H locs cells slots Q (F0 m pc ls (.int (nI a.val) :: rest)) := lv_if_ne S.1 S.2.1 hdg ht (fun h => kt (fun q => h (f8_0.mpr q))) (fun h => kf (f8_0.mp (h)))
theorem ir_eqB {a : Bool} {off : Int} (tgt : Nat) (S : CallFix p m c cc nL s args lw_all own) (hdg : decode cc pc = .ok (.ifCond .eq off, 3)) (ht : (pc : Int) + off = (tgt : Int))  (kt : a = false → W p l e R s m args below meth c H locs cells slots Q (F0 m tgt ls rest)) (kf : a = true → W p l e R s m args below meth c H locs cells slots Q (F0 m (pc + 3) ls rest)) : W p l e R s m args below meth c H locs cells slots Q (F0 m pc ls (.int (nI a.toNat) :: rest)) := lv_if_eq S.1 S.2.1 hdg ht (fun h => kt (bo_0.mp h)) (fun h => kf ((Bool.eq_false_or_eq_true a).resolve_right (fun q => h (bo_0.mpr q))))
theorem ir_neB {a : Bool} {off : Int} (tgt : Nat) (S : CallFix p m c cc nL s args lw_all own) (hdg : decode cc pc = .ok (.ifCond .ne off, 3)) (ht : (pc : Int) + off = (tgt : Int))  (kt : a = true → W p l e R s m args below meth c H locs cells slots Q (F0 m tgt ls rest)) (kf : a = false → W p l e R s m args below meth c H locs cells slots Q (F0 m (pc + 3) ls rest)) : W p l e R s m args below meth c H locs cells slots Q (F0 m pc ls (.int (nI a.toNat) :: rest)) := lv_if_ne S.1 S.2.1 hdg ht (fun h => kt ((Bool.eq_false_or_eq_true a).resolve_right (fun q => h (bo_0.mpr q)))) (fun h => kf (bo_0.mp (h)))
theorem ir_leN {a : Nat} {off : Int} (tgt : Nat) (S : CallFix p m c cc nL s args lw_all own) (hdg : decode cc pc = .ok (.ifCond .le off, 3)) (ht : (pc : Int) + off = (tgt : Int)) (ha : a < 2 ^ 31) (kt : a = 0 → W p l e R s m args below meth c H locs cells slots Q (F0 m tgt ls rest)) (kf : 0 < a → W p l e R s m args below meth c H locs cells slots Q (F0 m (pc + 3) ls rest)) : W p l e R s m args below meth c H locs cells slots Q (F0 m pc ls (.int (nI a) :: rest)) := lv_if_le S.1 S.2.1 hdg ht (fun h => kt (Nat.eq_zero_of_not_pos (fun q => nI_nle q ha h))) (fun h => kf (Nat.pos_of_ne_zero (fun q => h (by rw [q]; decide))))
theorem ir_neN {a : Nat} {off : Int} (tgt : Nat) (S : CallFix p m c cc nL s args lw_all own) (hdg : decode cc pc = .ok (.ifCond .ne off, 3)) (ht : (pc : Int) + off = (tgt : Int)) (ha : a < 2 ^ 31) (kt : 0 < a → W p l e R s m args below meth c H locs cells slots Q (F0 m tgt ls rest)) (kf : a = 0 → W p l e R s m args below meth c H locs cells slots Q (F0 m (pc + 3) ls rest)) : W p l e R s m args below meth c H locs cells slots Q (F0 m pc ls (.int (nI a) :: rest)) := lv_if_ne S.1 S.2.1 hdg ht (fun h => kt (Nat.pos_of_ne_zero (fun q => h (by rw [q]; rfl)))) (fun h => kf (Nat.eq_zero_of_not_pos (fun q => nI_ne0 q ha (h))))
theorem ir_eqN {a : Nat} {off : Int} (tgt : Nat) (S : CallFix p m c cc nL s args lw_all own) (hdg : decode cc pc = .ok (.ifCond .eq off, 3)) (ht : (pc : Int) + off = (tgt : Int)) (ha : a < 2 ^ 31) (kt : a = 0 → W p l e R s m args below meth c H locs cells slots Q (F0 m tgt ls rest)) (kf : 0 < a → W p l e R s m args below meth c H locs cells slots Q (F0 m (pc + 3) ls rest)) : W p l e R s m args below meth c H locs cells slots Q (F0 m pc ls (.int (nI a) :: rest)) := lv_if_eq S.1 S.2.1 hdg ht (fun h => kt (Nat.eq_zero_of_not_pos (fun q => nI_ne0 q ha h))) (fun h => kf (Nat.pos_of_ne_zero (fun q => h (by rw [q]; rfl))))
theorem ir_lt0 {off : Int} (tgt : Nat) (S : CallFix p m c cc nL s args lw_all own) (hdg : decode cc pc = .ok (.ifCond .lt off, 3)) (ht : (pc : Int) + off = (tgt : Int)) (kk : W p l e R s m args below meth c H locs cells slots Q (F0 m tgt ls rest)) : W p l e R s m args below meth c H locs cells slots Q (F0 m pc ls (.int (dn 0) :: rest)) := lv_if_lt S.1 S.2.1 hdg ht (fun _ => kk) (fun h => absurd (by decide) h)
theorem ir_ltS {off : Int} {k : Nat} (tgt : Nat) (S : CallFix p m c cc nL s args lw_all own) (hdg : decode cc pc = .ok (.ifCond .lt off, 3)) (ht : (pc : Int) + off = (tgt : Int)) (hk : k < 2 ^ 31) (kk : W p l e R s m args below meth c H locs cells slots Q (F0 m (pc + 3) ls rest)) : W p l e R s m args below meth c H locs cells slots Q (F0 m pc ls (.int (dn (k + 1)) :: rest)) := lv_if_lt S.1 S.2.1 hdg ht (fun h => absurd h (nI_pos hk)) (fun _ => kk)
theorem ir_ia {a n k : Nat} {X : Nat → F8} (S : CallFix p m c cc nL s args lw_all own) (hdg : decode cc pc = .ok (.iaload, 1)) (hw : Wd D dA dZ A s ws H locs) (q0 : Nat) (ha : ws[q0]? = some (a, .inl (dA, n, .inl (aC n X)))) (hk : k < n) (hn : n < 2 ^ 31) (kk : W p l e R s m args below meth c H locs cells slots Q (F0 m (pc + 1) ls (.int (nI (X k).val) :: rest))) : W p l e R s m args below meth c H locs cells slots Q (F0 m pc ls (.int (nI k) :: .ref a :: rest)) := va_iald S.1 S.2.1 hw.1 hw.2.1 q0 0 ha rfl (vp_in_nI hk hn) hdg (by rw [nI_clamp (Nat.lt_trans hk hn), aC_at hk]; exact kk)
theorem ir_za {a n k : Nat} {X : Nat → Bool} (S : CallFix p m c cc nL s args lw_all own) (hdg : decode cc pc = .ok (.baload, 1)) (hw : Wd D dA dZ A s ws H locs) (q0 : Nat) (ha : ws[q0]? = some (a, .inl (dZ, n, .inl (aB n X)))) (hk : k < n) (hn : n < 2 ^ 31) (kk : W p l e R s m args below meth c H locs cells slots Q (F0 m (pc + 1) ls (.int (nI (X k).toNat) :: rest))) : W p l e R s m args below meth c H locs cells slots Q (F0 m pc ls (.int (nI k) :: .ref a :: rest)) := va_zald S.1 S.2.1 hw.1 hw.2.1 q0 1 ha rfl (vp_in_nI hk hn) hdg (by rw [nI_clamp (Nat.lt_trans hk hn), aB_at hk]; exact kk)
theorem ir_is {a n k : Nat} {X : Nat → F8} {v : F8} {w1 : va_W} (S : CallFix p m c cc nL s args lw_all own) (hdg : decode cc pc = .ok (.iastore, 1)) (hw : Wd D dA dZ A s ws H locs) (q0 : Nat) (ha : ws[q0]? = some (a, .inl (dA, n, .inl (aC n X)))) (hk : k < n) (hn : n < 2 ^ 31) (Y : Nat → F8) (hY : ∀ i, i < n → va_up X k v i = Y i) (he : ws.set q0 (a, .inl (dA, n, .inl (aC n Y))) = w1) (kk : ∀ (H1 : Heap) (locs1 : List Loc), Wd D dA dZ A s w1 H1 locs1 → W p l e R s m args below meth c H1 locs1 cells slots Q (F0 m (pc + 1) ls rest)) : W p l e R s m args below meth c H locs cells slots Q (F0 m pc ls (.int (nI v.val) :: .int (nI k) :: .ref a :: rest)) := va_iast S.1 S.2.1 hw.1 hw.2.1 hw.2.2.1 hw.2.2.2.1 q0 0 ha rfl (vp_in_nI hk hn) hdg (fun H1 locs1 hP hD hS => kk H1 locs1 (by rw [nI_clamp (Nat.lt_trans hk hn), aC_up hk hY, he] at hP hD; exact ⟨hw.1, hP, hD, hS, hw.2.2.2.2⟩))
theorem ir_zs {a n k : Nat} {X : Nat → Bool} {v : Bool} {w1 : va_W} (S : CallFix p m c cc nL s args lw_all own) (hdg : decode cc pc = .ok (.bastore, 1)) (hw : Wd D dA dZ A s ws H locs) (q0 : Nat) (ha : ws[q0]? = some (a, .inl (dZ, n, .inl (aB n X)))) (hk : k < n) (hn : n < 2 ^ 31) (Y : Nat → Bool) (hY : ∀ i, i < n → va_up X k v i = Y i) (he : ws.set q0 (a, .inl (dZ, n, .inl (aB n Y))) = w1) (kk : ∀ (H1 : Heap) (locs1 : List Loc), Wd D dA dZ A s w1 H1 locs1 → W p l e R s m args below meth c H1 locs1 cells slots Q (F0 m (pc + 1) ls rest)) : W p l e R s m args below meth c H locs cells slots Q (F0 m pc ls (.int (nI v.toNat) :: .int (nI k) :: .ref a :: rest)) := va_zast S.1 S.2.1 hw.1 hw.2.1 hw.2.2.1 hw.2.2.2.1 q0 1 ha rfl (vp_in_nI hk hn) hdg (fun H1 locs1 hP hD hS => kk H1 locs1 (by rw [nI_clamp (Nat.lt_trans hk hn), nar_b, aB_up hk hY, he] at hP hD; exact ⟨hw.1, hP, hD, hS, hw.2.2.2.2⟩))
end Rows
section Fields
variable {p : Program} {l : Launch} {e : Env} {R : Room} {s : State} {m : MethodId} {args : Array Value} {below : List Frame} {meth : Method} {c : Code} {H : Heap} {locs : List Loc} {cells slots : Nat} {Q : State → Prop}
variable {cc : ByteArray} {nL : Nat} {pc : Nat} {ls : Array Slot} {rest : List Value} {D : va_G} {dA dZ : ClassId} {A : Nat → Prop} {ad : Nat → Nat} {w : Nat → F8} {g : Nat → Bool} {sy ru he be nu : Nat → F8} {le : Nat} {wh : Nat → F8} {di : Nat} {ze ma : Nat → F8}
theorem g0_word (S : CallFix p m c cc nL s args lw_all RX0) (hdg : decode cc pc = .ok (.getfield 7, 3)) (hw : Wd D dA dZ A s (wM dA dZ ad w g sy ru he be nu le wh di) H locs) (kk : W p l e R s m args below meth c H locs cells slots Q (F0 m (pc + 3) ls (.ref (ad 1) :: rest))) : W p l e R s m args below meth c H locs cells slots Q (F0 m pc ls (.ref (ad 0) :: rest)) := va_get (own := RX0) (ref := RX0) (C := RX0) (T := TX0) (N := 12) (ci := 0) (index := 7) S.1 S.2.1 S.2.2.2.2 in_X0 S.2.2.2.1 hw.1 hw.2.1 0 rfl rfl 0 (by decide) (S.2.2.2.2 _ q27) (fun _ h => h) rfl hdg kk
theorem g0_missing (S : CallFix p m c cc nL s args lw_all RX0) (hdg : decode cc pc = .ok (.getfield 13, 3)) (hw : Wd D dA dZ A s (wM dA dZ ad w g sy ru he be nu le wh di) H locs) (kk : W p l e R s m args below meth c H locs cells slots Q (F0 m (pc + 3) ls (.ref (ad 2) :: rest))) : W p l e R s m args below meth c H locs cells slots Q (F0 m pc ls (.ref (ad 0) :: rest)) := va_get (own := RX0) (ref := RX0) (C := RX0) (T := TX0) (N := 12) (ci := 0) (index := 13) S.1 S.2.1 S.2.2.2.2 in_X0 S.2.2.2.1 hw.1 hw.2.1 0 rfl rfl 1 (by decide) (S.2.2.2.2 _ q28) (fun _ h => h) rfl hdg kk
theorem g0_power (S : CallFix p m c cc nL s args lw_all RX0) (hdg : decode cc pc = .ok (.getfield 17, 3)) (hw : Wd D dA dZ A s (wM dA dZ ad w g sy ru he be nu le wh di) H locs) (kk : W p l e R s m args below meth c H locs cells slots Q (F0 m (pc + 3) ls (.ref (ad 3) :: rest))) : W p l e R s m args below meth c H locs cells slots Q (F0 m pc ls (.ref (ad 0) :: rest)) := va_get (own := RX0) (ref := RX0) (C := RX0) (T := TX0) (N := 12) (ci := 0) (index := 17) S.1 S.2.1 S.2.2.2.2 in_X0 S.2.2.2.1 hw.1 hw.2.1 0 rfl rfl 2 (by decide) (S.2.2.2.2 _ q29) (fun _ h => h) rfl hdg kk
theorem g0_exponent (S : CallFix p m c cc nL s args lw_all RX0) (hdg : decode cc pc = .ok (.getfield 20, 3)) (hw : Wd D dA dZ A s (wM dA dZ ad w g sy ru he be nu le wh di) H locs) (kk : W p l e R s m args below meth c H locs cells slots Q (F0 m (pc + 3) ls (.ref (ad 4) :: rest))) : W p l e R s m args below meth c H locs cells slots Q (F0 m pc ls (.ref (ad 0) :: rest)) := va_get (own := RX0) (ref := RX0) (C := RX0) (T := TX0) (N := 12) (ci := 0) (index := 20) S.1 S.2.1 S.2.2.2.2 in_X0 S.2.2.2.1 hw.1 hw.2.1 0 rfl rfl 3 (by decide) (S.2.2.2.2 _ q30) (fun _ h => h) rfl hdg kk
theorem g0_syndrome (S : CallFix p m c cc nL s args lw_all RX0) (hdg : decode cc pc = .ok (.getfield 23, 3)) (hw : Wd D dA dZ A s (wM dA dZ ad w g sy ru he be nu le wh di) H locs) (kk : W p l e R s m args below meth c H locs cells slots Q (F0 m (pc + 3) ls (.ref (ad 5) :: rest))) : W p l e R s m args below meth c H locs cells slots Q (F0 m pc ls (.ref (ad 0) :: rest)) := va_get (own := RX0) (ref := RX0) (C := RX0) (T := TX0) (N := 12) (ci := 0) (index := 23) S.1 S.2.1 S.2.2.2.2 in_X0 S.2.2.2.1 hw.1 hw.2.1 0 rfl rfl 4 (by decide) (S.2.2.2.2 _ q31) (fun _ h => h) rfl hdg kk
theorem g0_rule (S : CallFix p m c cc nL s args lw_all RX0) (hdg : decode cc pc = .ok (.getfield 26, 3)) (hw : Wd D dA dZ A s (wM dA dZ ad w g sy ru he be nu le wh di) H locs) (kk : W p l e R s m args below meth c H locs cells slots Q (F0 m (pc + 3) ls (.ref (ad 6) :: rest))) : W p l e R s m args below meth c H locs cells slots Q (F0 m pc ls (.ref (ad 0) :: rest)) := va_get (own := RX0) (ref := RX0) (C := RX0) (T := TX0) (N := 12) (ci := 0) (index := 26) S.1 S.2.1 S.2.2.2.2 in_X0 S.2.2.2.1 hw.1 hw.2.1 0 rfl rfl 5 (by decide) (S.2.2.2.2 _ q32) (fun _ h => h) rfl hdg kk
theorem g0_helper (S : CallFix p m c cc nL s args lw_all RX0) (hdg : decode cc pc = .ok (.getfield 29, 3)) (hw : Wd D dA dZ A s (wM dA dZ ad w g sy ru he be nu le wh di) H locs) (kk : W p l e R s m args below meth c H locs cells slots Q (F0 m (pc + 3) ls (.ref (ad 7) :: rest))) : W p l e R s m args below meth c H locs cells slots Q (F0 m pc ls (.ref (ad 0) :: rest)) := va_get (own := RX0) (ref := RX0) (C := RX0) (T := TX0) (N := 12) (ci := 0) (index := 29) S.1 S.2.1 S.2.2.2.2 in_X0 S.2.2.2.1 hw.1 hw.2.1 0 rfl rfl 6 (by decide) (S.2.2.2.2 _ q33) (fun _ h => h) rfl hdg kk
theorem g0_before (S : CallFix p m c cc nL s args lw_all RX0) (hdg : decode cc pc = .ok (.getfield 32, 3)) (hw : Wd D dA dZ A s (wM dA dZ ad w g sy ru he be nu le wh di) H locs) (kk : W p l e R s m args below meth c H locs cells slots Q (F0 m (pc + 3) ls (.ref (ad 8) :: rest))) : W p l e R s m args below meth c H locs cells slots Q (F0 m pc ls (.ref (ad 0) :: rest)) := va_get (own := RX0) (ref := RX0) (C := RX0) (T := TX0) (N := 12) (ci := 0) (index := 32) S.1 S.2.1 S.2.2.2.2 in_X0 S.2.2.2.1 hw.1 hw.2.1 0 rfl rfl 7 (by decide) (S.2.2.2.2 _ q34) (fun _ h => h) rfl hdg kk
theorem g0_numerator (S : CallFix p m c cc nL s args lw_all RX0) (hdg : decode cc pc = .ok (.getfield 35, 3)) (hw : Wd D dA dZ A s (wM dA dZ ad w g sy ru he be nu le wh di) H locs) (kk : W p l e R s m args below meth c H locs cells slots Q (F0 m (pc + 3) ls (.ref (ad 9) :: rest))) : W p l e R s m args below meth c H locs cells slots Q (F0 m pc ls (.ref (ad 0) :: rest)) := va_get (own := RX0) (ref := RX0) (C := RX0) (T := TX0) (N := 12) (ci := 0) (index := 35) S.1 S.2.1 S.2.2.2.2 in_X0 S.2.2.2.1 hw.1 hw.2.1 0 rfl rfl 8 (by decide) (S.2.2.2.2 _ q35) (fun _ h => h) rfl hdg kk
theorem g0_length (S : CallFix p m c cc nL s args lw_all RX0) (hdg : decode cc pc = .ok (.getfield 80, 3)) (hw : Wd D dA dZ A s (wM dA dZ ad w g sy ru he be nu le wh di) H locs) (kk : W p l e R s m args below meth c H locs cells slots Q (F0 m (pc + 3) ls (.int (nI le) :: rest))) : W p l e R s m args below meth c H locs cells slots Q (F0 m pc ls (.ref (ad 0) :: rest)) := va_get (own := RX0) (ref := RX0) (C := RX0) (T := TX0) (N := 12) (ci := 0) (index := 80) S.1 S.2.1 S.2.2.2.2 in_X0 S.2.2.2.1 hw.1 hw.2.1 0 rfl rfl 9 (by decide) (S.2.2.2.2 _ q36) (fun _ h => h) rfl hdg kk
theorem g0_whole (S : CallFix p m c cc nL s args lw_all RX0) (hdg : decode cc pc = .ok (.getfield 38, 3)) (hw : Wd D dA dZ A s (wM dA dZ ad w g sy ru he be nu le wh di) H locs) (kk : W p l e R s m args below meth c H locs cells slots Q (F0 m (pc + 3) ls (.ref (ad 10) :: rest))) : W p l e R s m args below meth c H locs cells slots Q (F0 m pc ls (.ref (ad 0) :: rest)) := va_get (own := RX0) (ref := RX0) (C := RX0) (T := TX0) (N := 12) (ci := 0) (index := 38) S.1 S.2.1 S.2.2.2.2 in_X0 S.2.2.2.1 hw.1 hw.2.1 0 rfl rfl 10 (by decide) (S.2.2.2.2 _ q37) (fun _ h => h) rfl hdg kk
theorem g0_differences (S : CallFix p m c cc nL s args lw_all RX0) (hdg : decode cc pc = .ok (.getfield 55, 3)) (hw : Wd D dA dZ A s (wM dA dZ ad w g sy ru he be nu le wh di) H locs) (kk : W p l e R s m args below meth c H locs cells slots Q (F0 m (pc + 3) ls (.int (nI di) :: rest))) : W p l e R s m args below meth c H locs cells slots Q (F0 m pc ls (.ref (ad 0) :: rest)) := va_get (own := RX0) (ref := RX0) (C := RX0) (T := TX0) (N := 12) (ci := 0) (index := 55) S.1 S.2.1 S.2.2.2.2 in_X0 S.2.2.2.1 hw.1 hw.2.1 0 rfl rfl 11 (by decide) (S.2.2.2.2 _ q38) (fun _ h => h) rfl hdg kk
theorem p0_length {v : Nat} (S : CallFix p m c cc nL s args lw_all RX0) (hdg : decode cc pc = .ok (.putfield 80, 3)) (hw : Wd D dA dZ A s (wM dA dZ ad w g sy ru he be nu le wh di) H locs) (kk : ∀ (H1 : Heap) (locs1 : List Loc), Wd D dA dZ A s (wM dA dZ ad w g sy ru he be nu v wh di) H1 locs1 → W p l e R s m args below meth c H1 locs1 cells slots Q (F0 m (pc + 3) ls rest)) : W p l e R s m args below meth c H locs cells slots Q (F0 m pc ls (.int (nI v) :: .ref (ad 0) :: rest)) := va_put (own := RX0) (ref := RX0) (C := RX0) (T := TX0) (N := 12) (ci := 0) (index := 80) (ty := .int) S.1 S.2.1 S.2.2.2.2 in_X0 tyX0 tyX0_ok nmX0 S.2.2.2.1 hw.1 hw.2.1 hw.2.2.1 hw.2.2.2.1 0 rfl rfl 9 (by decide) (S.2.2.2.2 _ q36) (fun _ h => h) rfl (by decide +kernel) rfl rfl (Nat.le_of_ble_eq_true rfl) hdg (fun H1 locs1 hP hD hS => kk H1 locs1 ⟨hw.1, hP, hD, hS, hw.2.2.2.2⟩)
theorem p0_differences {v : Nat} (S : CallFix p m c cc nL s args lw_all RX0) (hdg : decode cc pc = .ok (.putfield 55, 3)) (hw : Wd D dA dZ A s (wM dA dZ ad w g sy ru he be nu le wh di) H locs) (kk : ∀ (H1 : Heap) (locs1 : List Loc), Wd D dA dZ A s (wM dA dZ ad w g sy ru he be nu le wh v) H1 locs1 → W p l e R s m args below meth c H1 locs1 cells slots Q (F0 m (pc + 3) ls rest)) : W p l e R s m args below meth c H locs cells slots Q (F0 m pc ls (.int (nI v) :: .ref (ad 0) :: rest)) := va_put (own := RX0) (ref := RX0) (C := RX0) (T := TX0) (N := 12) (ci := 0) (index := 55) (ty := .int) S.1 S.2.1 S.2.2.2.2 in_X0 tyX0 tyX0_ok nmX0 S.2.2.2.1 hw.1 hw.2.1 hw.2.2.1 hw.2.2.2.1 0 rfl rfl 11 (by decide) (S.2.2.2.2 _ q38) (fun _ h => h) rfl (by decide +kernel) rfl rfl (Nat.le_of_ble_eq_true rfl) hdg (fun H1 locs1 hP hD hS => kk H1 locs1 ⟨hw.1, hP, hD, hS, hw.2.2.2.2⟩)
theorem g1_line (S : CallFix p m c cc nL s args lw_all RX1) (hdg : decode cc pc = .ok (.getfield 7, 3)) (hw : Wd D dA dZ A s (wO dA dZ ad w g ze ma) H locs) (kk : W p l e R s m args below meth c H locs cells slots Q (F0 m (pc + 3) ls (.ref (ad 1) :: rest))) : W p l e R s m args below meth c H locs cells slots Q (F0 m pc ls (.ref (ad 0) :: rest)) := va_get (own := RX1) (ref := RX1) (C := RX1) (T := TX1) (N := 4) (ci := 1) (index := 7) S.1 S.2.1 S.2.2.2.2 in_X1 S.2.2.2.1 hw.1 hw.2.1 0 rfl rfl 0 (by decide) (S.2.2.2.2 _ q165) (fun _ h => h) rfl hdg kk
theorem g1_missing (S : CallFix p m c cc nL s args lw_all RX1) (hdg : decode cc pc = .ok (.getfield 13, 3)) (hw : Wd D dA dZ A s (wO dA dZ ad w g ze ma) H locs) (kk : W p l e R s m args below meth c H locs cells slots Q (F0 m (pc + 3) ls (.ref (ad 2) :: rest))) : W p l e R s m args below meth c H locs cells slots Q (F0 m pc ls (.ref (ad 0) :: rest)) := va_get (own := RX1) (ref := RX1) (C := RX1) (T := TX1) (N := 4) (ci := 1) (index := 13) S.1 S.2.1 S.2.2.2.2 in_X1 S.2.2.2.1 hw.1 hw.2.1 0 rfl rfl 1 (by decide) (S.2.2.2.2 _ q166) (fun _ h => h) rfl hdg kk
theorem g1_zeros (S : CallFix p m c cc nL s args lw_all RX1) (hdg : decode cc pc = .ok (.getfield 17, 3)) (hw : Wd D dA dZ A s (wO dA dZ ad w g ze ma) H locs) (kk : W p l e R s m args below meth c H locs cells slots Q (F0 m (pc + 3) ls (.ref (ad 3) :: rest))) : W p l e R s m args below meth c H locs cells slots Q (F0 m pc ls (.ref (ad 0) :: rest)) := va_get (own := RX1) (ref := RX1) (C := RX1) (T := TX1) (N := 4) (ci := 1) (index := 17) S.1 S.2.1 S.2.2.2.2 in_X1 S.2.2.2.1 hw.1 hw.2.1 0 rfl rfl 2 (by decide) (S.2.2.2.2 _ q167) (fun _ h => h) rfl hdg kk
theorem g1_made (S : CallFix p m c cc nL s args lw_all RX1) (hdg : decode cc pc = .ok (.getfield 20, 3)) (hw : Wd D dA dZ A s (wO dA dZ ad w g ze ma) H locs) (kk : W p l e R s m args below meth c H locs cells slots Q (F0 m (pc + 3) ls (.ref (ad 4) :: rest))) : W p l e R s m args below meth c H locs cells slots Q (F0 m pc ls (.ref (ad 0) :: rest)) := va_get (own := RX1) (ref := RX1) (C := RX1) (T := TX1) (N := 4) (ci := 1) (index := 20) S.1 S.2.1 S.2.2.2.2 in_X1 S.2.2.2.1 hw.1 hw.2.1 0 rfl rfl 3 (by decide) (S.2.2.2.2 _ q168) (fun _ h => h) rfl hdg kk
end Fields
end
section
/-! contracts: CtI (an int or a truth value comes back), CtV (nothing comes back); from the world wc to the world w1; their starts, ends and calls -/
set_option maxRecDepth 100000
def CtI (l : Launch) (D : va_G) (dA dZ : ClassId) (y : MethodName) (b : ByteArray) (n : Nat) (r : Option FieldType) (k : Nat) (av : List Value) (wc : va_W) (rv : Int32) (w1 : va_W) : Prop :=
  ∀ sz : Nat, Met l y (ws_ y b n r) (rk k) (va_Pc av (fun U => U.heap.size = sz ∧ va_P D vwCl wc U.heap ∧ va_K D vwCl (tyL dA dZ) U ∧ va_D (fun _ => True) wc)) (va_Qi (fun (x : Int32) (_ : Unit) => x = rv) (fun _ t => va_P D vwCl w1 t.heap ∧ va_K D vwCl (tyL dA dZ) t ∧ va_D (va_A wc sz) w1) (va_A wc sz)) 0 0 (va_A wc sz)
def CtV (l : Launch) (D : va_G) (dA dZ : ClassId) (y : MethodName) (b : ByteArray) (n : Nat) (r : Option FieldType) (k : Nat) (av : List Value) (wc : va_W) (w1 : va_W) : Prop :=
  ∀ sz : Nat, Met l y (ws_ y b n r) (rk k) (va_Pc av (fun U => U.heap.size = sz ∧ va_P D vwCl wc U.heap ∧ va_K D vwCl (tyL dA dZ) U ∧ va_D (fun _ => True) wc)) (va_Qv (fun (_ : Unit) => True) (fun _ t => va_P D vwCl w1 t.heap ∧ va_K D vwCl (tyL dA dZ) t ∧ va_D (va_A wc sz) w1) (va_A wc sz)) 0 0 (va_A wc sz)
def EI (D : va_G) (dA dZ : ClassId) (rv : Int32) (w1 : va_W) (A : Nat → Prop) (below : List Frame) (a : Array Value) (s : State) : State → Prop := MQ below (va_Qi (fun (x : Int32) (_ : Unit) => x = rv) (fun _ t => va_P D vwCl w1 t.heap ∧ va_K D vwCl (tyL dA dZ) t ∧ va_D A w1) A) a s 0 0 A
def EV (D : va_G) (dA dZ : ClassId) (w1 : va_W) (A : Nat → Prop) (below : List Frame) (a : Array Value) (s : State) : State → Prop := MQ below (va_Qv (fun (_ : Unit) => True) (fun _ t => va_P D vwCl w1 t.heap ∧ va_K D vwCl (tyL dA dZ) t ∧ va_D A w1) A) a s 0 0 A
theorem CtI.of {l : Launch} {D : va_G} {dA dZ : ClassId} {y : MethodName} {b : ByteArray} {n : Nat} {r : Option FieldType} {k : Nat} {av : List Value} {wc : va_W} {rv : Int32} {w1 : va_W} (hy : plainName y.cls = true) (hn : (lg_sl av).length ≤ n)
    (body : ∀ (p : Program) (e : Env) (s : State) (m : MethodId) (args : Array Value) (below : List Frame) (meth : Method) (c : Code) (A : Nat → Prop) (H : Heap) (locs : List Loc) (ls : Array Slot), CallFix p m c b n s args lw_all y.cls → meth.sig.returnType = r → meth.locks = false → lv_has ls n (lv_args 0 av) → Wd D dA dZ A s wc H locs → W p l e (rk k) s m args below meth c H locs 0 0 (EI D dA dZ rv w1 A below args s) (F0 m 0 ls [])) : CtI l D dA dZ y b n r k av wc rv w1 := by
  intro sz
  refine Met.ofW (cc := b) (maxL := n) (ret := r) hy rfl ?_
  intro p e s m args below meth c s₁ B hml hv
  obtain ⟨rfl, hsz, hP, hK, hD0⟩ := hv
  have hts := atoms_spec (ws := ws_ y b n r) B.pre
  have hts : ∀ w ∈ lw_all, w.before _ s = true := fun w h => hts w (List.mem_cons_of_mem _ h)
  have hown : s.vm.findClass y.cls = some m.cls := findClass_of_methodNamed B.named
  subst hsz
  have hl := lv_entry av (n := n) hn
  rw [lg_entry_eq]
  generalize (lg_sl av ++ List.replicate (n - (lg_sl av).length) Slot.unset).toArray = ls at hl ⊢
  exact body p e s m av.toArray below meth c (va_A wc s.heap.size) s.heap [] ls ⟨B.exec, B.bytes, hml, hown, hts⟩ B.returns B.notSynchronized hl ⟨hK, hP, hD0.self, va_S.rf, fun q h => Or.inr h⟩
theorem CtV.of {l : Launch} {D : va_G} {dA dZ : ClassId} {y : MethodName} {b : ByteArray} {n : Nat} {r : Option FieldType} {k : Nat} {av : List Value} {wc : va_W} {w1 : va_W} (hy : plainName y.cls = true) (hn : (lg_sl av).length ≤ n)
    (body : ∀ (p : Program) (e : Env) (s : State) (m : MethodId) (args : Array Value) (below : List Frame) (meth : Method) (c : Code) (A : Nat → Prop) (H : Heap) (locs : List Loc) (ls : Array Slot), CallFix p m c b n s args lw_all y.cls → meth.sig.returnType = r → meth.locks = false → lv_has ls n (lv_args 0 av) → Wd D dA dZ A s wc H locs → W p l e (rk k) s m args below meth c H locs 0 0 (EV D dA dZ w1 A below args s) (F0 m 0 ls [])) : CtV l D dA dZ y b n r k av wc w1 := by
  intro sz
  refine Met.ofW (cc := b) (maxL := n) (ret := r) hy rfl ?_
  intro p e s m args below meth c s₁ B hml hv
  obtain ⟨rfl, hsz, hP, hK, hD0⟩ := hv
  have hts := atoms_spec (ws := ws_ y b n r) B.pre
  have hts : ∀ w ∈ lw_all, w.before _ s = true := fun w h => hts w (List.mem_cons_of_mem _ h)
  have hown : s.vm.findClass y.cls = some m.cls := findClass_of_methodNamed B.named
  subst hsz
  have hl := lv_entry av (n := n) hn
  rw [lg_entry_eq]
  generalize (lg_sl av ++ List.replicate (n - (lg_sl av).length) Slot.unset).toArray = ls at hl ⊢
  exact body p e s m av.toArray below meth c (va_A wc s.heap.size) s.heap [] ls ⟨B.exec, B.bytes, hml, hown, hts⟩ B.returns B.notSynchronized hl ⟨hK, hP, hD0.self, va_S.rf, fun q h => Or.inr h⟩
section Ends
variable {p : Program} {l : Launch} {e : Env} {R : Room} {s : State} {m : MethodId} {args : Array Value} {below : List Frame} {meth : Method} {c : Code} {H : Heap} {locs : List Loc} {cells slots : Nat} {Q : State → Prop}
variable {cc : ByteArray} {nL : Nat} {own : String} {pc : Nat} {ls : Array Slot} {rest : List Value} {D : va_G} {dA dZ : ClassId} {A : Nat → Prop} {ws w1 : va_W} {v rv : Int32}
theorem re_I (S : CallFix p m c cc nL s args lw_all own) (hdg : decode cc pc = .ok (.ireturn, 1)) (hr : meth.sig.returnType = some .int) (hlk : meth.locks = false) (hw : Wd D dA dZ A s w1 H locs) (hv : v = rv) : W p l e R s m args below meth c H locs 0 0 (EI D dA dZ rv w1 A below args s) (F0 m pc ls [.int v]) := by
  subst hv
  exact W.iret S.1 S.2.1 hr (fun t ht hW => ⟨⟨v, (), rfl, rfl, by rw [ht]; exact hw.2.1, va_K.moved hW.alike hw.1, hw.2.2.1⟩, hw.2.2.2.1.F ht⟩) hw.2.2.2.1.2.2 hdg hlk
theorem re_Z (S : CallFix p m c cc nL s args lw_all own) (hdg : decode cc pc = .ok (.ireturn, 1)) (hr : meth.sig.returnType = some .boolean) (hlk : meth.locks = false) (hw : Wd D dA dZ A s w1 H locs) {b : Bool} (hv : v = nI b.toNat) (hq : v = rv) : W p l e R s m args below meth c H locs 0 0 (EI D dA dZ rv w1 A below args s) (F0 m pc ls [.int v]) := by
  subst hq
  exact W.zret S.1 S.2.1 hr (by rw [hv]; exact nar_b2 b) (fun t ht hW => ⟨⟨v, (), rfl, rfl, by rw [ht]; exact hw.2.1, va_K.moved hW.alike hw.1, hw.2.2.1⟩, hw.2.2.2.1.F ht⟩) hw.2.2.2.1.2.2 hdg hlk
theorem re_V (S : CallFix p m c cc nL s args lw_all own) (hdg : decode cc pc = .ok (.return_, 1)) (hr : meth.sig.returnType = none) (hlk : meth.locks = false) (hw : Wd D dA dZ A s w1 H locs) : W p l e R s m args below meth c H locs 0 0 (EV D dA dZ w1 A below args s) (F0 m pc ls []) :=
  W.vret S.1 S.2.1 hr (fun t ht hW => ⟨⟨(), rfl, trivial, by rw [ht]; exact hw.2.1, va_K.moved hW.alike hw.1, hw.2.2.1⟩, hw.2.2.2.1.F ht⟩) hw.2.2.2.1.2.2 hdg hlk
theorem Wd.fr {wc : va_W} (hw : Wd D dA dZ A s wc H locs) : ∀ q, va_A wc H.size q → A q := by
  intro q h
  rcases h with ⟨i, e, h⟩ | h
  · exact hw.2.2.1.2 i _ h
  · exact hw.2.2.2.2 q (Nat.le_trans hw.2.2.2.1.1 h)
/-- a call through an object whose world is the whole world -/
theorem ca_I {y : MethodName} {b : ByteArray} {n k a index q0 ci N nA : Nat} {r : Option FieldType} {As : List Value} {wc : va_W} {C : String} {T : u_T} {fs : List Value} {st0 : List Value} (S : CallFix p m c cc nL s args lw_all own) (hdg : decode cc pc = .ok (.invokevirtual index, 3)) (hM : CtI l D dA dZ y b n r k (.ref a :: As) wc rv w1) (hG : GoodIn lw_all (wsV own index C y (ws_ y b n r)))
    (hd : y.cls = C ∧ y.cls ≠ "java/lang/invoke/MethodHandle" ∧ y.cls ≠ "java/lang/invoke/VarHandle" ∧ (parseMethodDescriptor y.desc).map (fun d => d.parameters.length) = some nA) (hnA : As.length = nA) (hR : k + 1 ≤ R.frames ∧ 8 + (n + 11) + 32 * k ≤ R.locals) (hf : cells ≤ R.cells ∧ slots ≤ R.slots) (hw : Wd D dA dZ A s wc H locs) (he : wc[q0]? = some (a, .inr (ci, fs))) (hc : vwCl[ci]? = some (C, T, N)) (hl : ls.size = nL) (hst : st0 = As.reverse ++ .ref a :: rest) (hroom : (rest.map fun v => v.category).sum ≤ 8)
    (kk : ∀ (H1 : Heap) (locs1 : List Loc), Wd D dA dZ A s w1 H1 locs1 → W p l e R s m args below meth c H1 locs1 cells slots Q (F0 m (pc + 3) ls (.int rv :: rest))) : W p l e R s m args below meth c H locs cells slots Q (F0 m pc ls st0) := by
  have hF := hw.fr
  obtain ⟨hK, hP, hD, hS, hA⟩ := hw
  refine va_calli (va_runV (As := As) (rest := rest) S (hM H.size) (cwV nA S.2.2.2.2 hG rfl rfl rfl hd hR) ⟨fun v U g mk q => ?_, va_recv hK hP hc he, fun U hU hW => ⟨rfl, by rw [hU], by rw [hU]; exact hP, va_K.moved hW.alike hK, hD.weaken (fun _ _ _ _ => trivial)⟩⟩ rfl hnA hl hst (lv_room hroom) hdg ⟨hf.1, hf.2⟩) hS (fun q _ h => hF q h) hF (fun x u t H1 locs1 ht hvm hx hB hz hk hS1 => ?_)
  · obtain ⟨q0, q1, qP, qK, qD⟩ := q
    exact ⟨q0, q1, qP, va_K.moved (u := U) (U := U.calling g mk v) (Vm.Alike.refl U.vm) qK, qD⟩
  · obtain ⟨hP1, hK1, hD1⟩ := hB
    rw [ht] at hP1
    have hx : x = rv := hx
    subst hx
    exact kk H1 locs1 ⟨hK, hP1, hD1.weaken (fun _ q _ h => hF q.1 h), hS1, hA⟩
theorem ca_V {y : MethodName} {b : ByteArray} {n k a index q0 ci N nA : Nat} {r : Option FieldType} {As : List Value} {wc : va_W} {C : String} {T : u_T} {fs : List Value} {st0 : List Value} (S : CallFix p m c cc nL s args lw_all own) (hdg : decode cc pc = .ok (.invokevirtual index, 3)) (hM : CtV l D dA dZ y b n r k (.ref a :: As) wc w1) (hG : GoodIn lw_all (wsV own index C y (ws_ y b n r)))
    (hd : y.cls = C ∧ y.cls ≠ "java/lang/invoke/MethodHandle" ∧ y.cls ≠ "java/lang/invoke/VarHandle" ∧ (parseMethodDescriptor y.desc).map (fun d => d.parameters.length) = some nA) (hnA : As.length = nA) (hR : k + 1 ≤ R.frames ∧ 8 + (n + 11) + 32 * k ≤ R.locals) (hf : cells ≤ R.cells ∧ slots ≤ R.slots) (hw : Wd D dA dZ A s wc H locs) (he : wc[q0]? = some (a, .inr (ci, fs))) (hc : vwCl[ci]? = some (C, T, N)) (hl : ls.size = nL) (hst : st0 = As.reverse ++ .ref a :: rest) (hroom : (rest.map fun v => v.category).sum ≤ 8)
    (kk : ∀ (H1 : Heap) (locs1 : List Loc), Wd D dA dZ A s w1 H1 locs1 → W p l e R s m args below meth c H1 locs1 cells slots Q (F0 m (pc + 3) ls rest)) : W p l e R s m args below meth c H locs cells slots Q (F0 m pc ls st0) := by
  have hF := hw.fr
  obtain ⟨hK, hP, hD, hS, hA⟩ := hw
  refine va_callv (va_runV (As := As) (rest := rest) S (hM H.size) (cwV nA S.2.2.2.2 hG rfl rfl rfl hd hR) ⟨fun v U g mk q => ?_, va_recv hK hP hc he, fun U hU hW => ⟨rfl, by rw [hU], by rw [hU]; exact hP, va_K.moved hW.alike hK, hD.weaken (fun _ _ _ _ => trivial)⟩⟩ rfl hnA hl hst (lv_room hroom) hdg ⟨hf.1, hf.2⟩) hS (fun q _ h => hF q h) hF (fun u t H1 locs1 ht hvm hx hB hz hk hS1 => ?_)
  · obtain ⟨q0, q1, qP, qK, qD⟩ := q
    exact ⟨q0, q1, qP, va_K.moved (u := U) (U := U.calling g mk v) (Vm.Alike.refl U.vm) qK, qD⟩
  · obtain ⟨hP1, hK1, hD1⟩ := hB
    rw [ht] at hP1
    exact kk H1 locs1 ⟨hK, hP1, hD1.weaken (fun _ q _ h => hF q.1 h), hS1, hA⟩
/-- a static call that needs no cell -/
theorem ca_S {y : MethodName} {b : ByteArray} {n k index nA : Nat} {r : Option FieldType} {As : List Value} {st0 : List Value} (S : CallFix p m c cc nL s args lw_all own) (hdg : decode cc pc = .ok (.invokestatic index, 3)) (hM : CtI l D dA dZ y b n r k As [] rv []) (hG : GoodIn lw_all (va_wsS own index y (ws_ y b n r)))
    (hd : y.cls ≠ "java/lang/invoke/MethodHandle" ∧ y.cls ≠ "java/lang/invoke/VarHandle" ∧ (parseMethodDescriptor y.desc).map (fun d => d.parameters.length) = some nA) (hnA : As.length = nA) (hR : k + 1 ≤ R.frames ∧ 8 + (n + 11) + 32 * k ≤ R.locals) (hf : cells ≤ R.cells ∧ slots ≤ R.slots) (hw : Wd D dA dZ A s ws H locs) (hl : ls.size = nL) (hst : st0 = As.reverse ++ rest) (hroom : (rest.map fun v => v.category).sum ≤ 8)
    (kk : ∀ (H1 : Heap) (locs1 : List Loc), Wd D dA dZ A s ws H1 locs1 → W p l e R s m args below meth c H1 locs1 cells slots Q (F0 m (pc + 3) ls (.int rv :: rest))) : W p l e R s m args below meth c H locs cells slots Q (F0 m pc ls st0) := by
  obtain ⟨hK, hP, hD, hS, hA⟩ := hw
  have hP0 : va_P D vwCl [] H := hP.sub [] rfl
  have hD0 : va_D A [] := hD.sub [] rfl rfl
  have hF : ∀ q, va_A [] H.size q → A q := by
    intro q h
    rcases h with ⟨i, e, h⟩ | h
    · simp at h
    · exact hA q (Nat.le_trans hS.1 h)
  refine va_calli (va_runS (As := As) (rest := rest) S (hM H.size) (va_cwS nA S.2.2.2.2 hG rfl rfl rfl hd hR) ⟨fun v U g mk q => ?_, fun U hU hW => ⟨rfl, by rw [hU], by rw [hU]; exact hP0, va_K.moved hW.alike hK, hD0.weaken (fun _ _ _ _ => trivial)⟩⟩ rfl hnA hl hst (lv_room hroom) hdg ⟨hf.1, hf.2⟩) hS (fun q _ h => hF q h) hF (fun x u t H1 locs1 ht hvm hx hB hz hk hS1 => ?_)
  · obtain ⟨q0, q1, qP, qK, qD⟩ := q
    exact ⟨q0, q1, qP, va_K.moved (u := U) (U := U.calling g mk v) (Vm.Alike.refl U.vm) qK, qD⟩
  · have hx : x = rv := hx
    subst hx
    refine kk H1 locs1 ⟨hK, hP.kept (fun i q hq => ?_), hD, hS1, hA⟩
    have hlt := (hP i q hq).lt
    refine hk q.1 hlt (fun h => ?_)
    rcases h with ⟨i, e, h⟩ | h
    · simp at h
    · exact absurd h (Nat.not_le.mpr hlt)
end Ends
end
section
set_option maxRecDepth 100000
def okP (x : Int32) : Bool := decide (¬ x < 0 ∧ ¬ 6 < x)
def okS (x : Int32) : Bool := decide (¬ x < 0 ∧ ¬ 7 < x)
theorem okS_of {x : Int32} (h : okS x = true) : ∃ a : F8, x = nI a.val := by
  have h := of_decide_eq_true h
  obtain ⟨j, hj, e⟩ := nI_of2 (M := 7) (n := 7) (by decide) h.1 (Int32.not_lt.mp h.2)
  exact ⟨⟨j, by omega⟩, e⟩
theorem okP_of {x : Int32} (h : okP x = true) : ∃ j : Nat, j < 7 ∧ x = nI j := by
  have h := of_decide_eq_true h
  obtain ⟨j, hj, e⟩ := nI_of2 (M := 6) (n := 6) (by decide) h.1 (Int32.not_lt.mp h.2)
  exact ⟨j, by omega, e⟩
theorem ct_isPlace (l : Launch) (D : va_G) (dA dZ : ClassId) (x : Int32) : CtI l D dA dZ yX0_isPlace cX0_isPlace 1 (some .boolean) 0 [.int x] [] (nI (okP x).toNat) [] := by
  refine CtI.of (by decide) (Nat.le_of_ble_eq_true rfl) ?_
  intro p e s m args below meth c A H locs ls S hr hlk hl hw
  have hl : lv_has ls 1 [(0, .int x)] := hl
  refine ir_ild_n S dX0_isPlace_0 hl 0 rfl ?_
  refine lv_if_lt (tgt := 14) S.1 S.2.1 dX0_isPlace_1 (by decide) (fun h1 => ?_) (fun h1 => ?_)
  · refine ir_ic S dX0_isPlace_14 (nI false.toNat) (by decide) ?_
    exact re_Z S dX0_isPlace_15 hr hlk hw rfl (by rw [show okP x = false from decide_eq_false (fun q => q.1 h1)])
  · refine ir_ild_n S dX0_isPlace_4 hl 0 rfl ?_
    refine ir_bi S dX0_isPlace_5 6 (by decide) ?_
    refine lv_icmp_gt (tgt := 14) S.1 S.2.1 dX0_isPlace_7 (by decide) (fun h2 => ?_) (fun h2 => ?_)
    · refine ir_ic S dX0_isPlace_14 (nI false.toNat) (by decide) ?_
      exact re_Z S dX0_isPlace_15 hr hlk hw rfl (by rw [show okP x = false from decide_eq_false (fun q => q.2 h2)])
    · refine ir_ic S dX0_isPlace_10 (nI true.toNat) (by decide) ?_
      refine ir_goto 15 S dX0_isPlace_11 (by decide) ?_
      exact re_Z S dX0_isPlace_15 hr hlk hw rfl (by rw [show okP x = true from decide_eq_true ⟨h1, h2⟩])
theorem ct_isSymbol (l : Launch) (D : va_G) (dA dZ : ClassId) (x : Int32) : CtI l D dA dZ yX0_isSymbol cX0_isSymbol 1 (some .boolean) 0 [.int x] [] (nI (okS x).toNat) [] := by
  refine CtI.of (by decide) (Nat.le_of_ble_eq_true rfl) ?_
  intro p e s m args below meth c A H locs ls S hr hlk hl hw
  have hl : lv_has ls 1 [(0, .int x)] := hl
  refine ir_ild_n S dX0_isSymbol_0 hl 0 rfl ?_
  refine lv_if_lt (tgt := 14) S.1 S.2.1 dX0_isSymbol_1 (by decide) (fun h1 => ?_) (fun h1 => ?_)
  · refine ir_ic S dX0_isSymbol_14 (nI false.toNat) (by decide) ?_
    exact re_Z S dX0_isSymbol_15 hr hlk hw rfl (by rw [show okS x = false from decide_eq_false (fun q => q.1 h1)])
  · refine ir_ild_n S dX0_isSymbol_4 hl 0 rfl ?_
    refine ir_bi S dX0_isSymbol_5 7 (by decide) ?_
    refine lv_icmp_gt (tgt := 14) S.1 S.2.1 dX0_isSymbol_7 (by decide) (fun h2 => ?_) (fun h2 => ?_)
    · refine ir_ic S dX0_isSymbol_14 (nI false.toNat) (by decide) ?_
      exact re_Z S dX0_isSymbol_15 hr hlk hw rfl (by rw [show okS x = false from decide_eq_false (fun q => q.2 h2)])
    · refine ir_ic S dX0_isSymbol_10 (nI true.toNat) (by decide) ?_
      refine ir_goto 15 S dX0_isSymbol_11 (by decide) ?_
      exact re_Z S dX0_isSymbol_15 hr hlk hw rfl (by rw [show okS x = true from decide_eq_true ⟨h1, h2⟩])
section C1
variable {p : Program} {l : Launch} {e : Env} {R : Room} {s : State} {m : MethodId} {args : Array Value} {below : List Frame} {meth : Method} {c : Code} {H : Heap} {locs : List Loc} {cells slots : Nat} {Q : State → Prop} {cc : ByteArray} {nL : Nat} {pc : Nat} {ls : Array Slot} {rest : List Value} {D : va_G} {dA dZ : ClassId} {A : Nat → Prop} {ad : Nat → Nat} {lv : List (Nat × Value)} {ws : va_W}
theorem c_isPlace {x : Int32} (S : CallFix p m c cc nL s args lw_all RX0) (hdg : decode cc pc = .ok (.invokestatic 48, 3)) (hR : 1 ≤ R.frames ∧ 20 ≤ R.locals) (hf : cells ≤ R.cells ∧ slots ≤ R.slots) (hw : Wd D dA dZ A s ws H locs) (hl : lv_has ls nL lv) (hroom : (rest.map fun v => v.category).sum ≤ 8) (kk : ∀ (H1 : Heap) (locs1 : List Loc), Wd D dA dZ A s ws H1 locs1 → W p l e R s m args below meth c H1 locs1 cells slots Q (F0 m (pc + 3) ls (.int (nI (okP x).toNat) :: rest))) : W p l e R s m args below meth c H locs cells slots Q (F0 m pc ls (.int x :: rest)) :=
  ca_S (nA := 1) (As := [.int x]) S hdg (ct_isPlace l D dA dZ x) (lw_S q85 q86 q17 q87) (by decide +kernel) rfl hR hf hw hl.1 rfl hroom kk
theorem c_isSymbol {x : Int32} (S : CallFix p m c cc nL s args lw_all RX0) (hdg : decode cc pc = .ok (.invokestatic 41, 3)) (hR : 1 ≤ R.frames ∧ 20 ≤ R.locals) (hf : cells ≤ R.cells ∧ slots ≤ R.slots) (hw : Wd D dA dZ A s ws H locs) (hl : lv_has ls nL lv) (hroom : (rest.map fun v => v.category).sum ≤ 8) (kk : ∀ (H1 : Heap) (locs1 : List Loc), Wd D dA dZ A s ws H1 locs1 → W p l e R s m args below meth c H1 locs1 cells slots Q (F0 m (pc + 3) ls (.int (nI (okS x).toNat) :: rest))) : W p l e R s m args below meth c H locs cells slots Q (F0 m pc ls (.int x :: rest)) :=
  ca_S (nA := 1) (As := [.int x]) S hdg (ct_isSymbol l D dA dZ x) (lw_S q70 q71 q17 q72) (by decide +kernel) rfl hR hf hw hl.1 rfl hroom kk
end C1
set_option maxHeartbeats 4000000 in
theorem ct_times (l : Launch) (D : va_G) (dA dZ : ClassId) (ad : Nat → Nat) (w : Nat → F8) (g : Nat → Bool) (sy ru he be nu : Nat → F8) (le : Nat) (wh : Nat → F8) (di : Nat) (a b : F8) : CtI l D dA dZ yX0_times cX0_times 3 (some .int) 0 [.ref (ad 0), .int (nI a.val), .int (nI b.val)] (wM dA dZ ad w g sy ru he be nu le wh di) (nI (gm a b).val) (wM dA dZ ad w g sy ru he be nu le wh di) := by
  refine CtI.of (by decide) (Nat.le_of_ble_eq_true rfl) ?_
  intro p e s m args below meth c A H locs ls S hr hlk hl hw
  have hl : lv_has ls 3 [(0, .ref (ad 0)), (1, .int (nI a.val)), (2, .int (nI b.val))] := hl
  refine ir_ild_n S dX0_times_0 hl 1 rfl ?_
  refine ir_eq8 8 S dX0_times_1 (by decide)  (fun h1 => ?_) (fun h1 => ?_)
  · refine ir_ic S dX0_times_8 ((nI ((0 : F8)).val)) (by decide) ?_
    refine ir_goto 30 S dX0_times_9 (by decide) ?_
    exact re_I S dX0_times_30 hr hlk hw (by rw [h1, gm_z1])
  · refine ir_ild_n S dX0_times_4 hl 2 rfl ?_
    refine ir_ne8 12 S dX0_times_5 (by decide)  (fun h2 => ?_) (fun h2 => ?_)
    · refine ir_ald_n S dX0_times_12 hl 0 rfl ?_
      refine g0_power S dX0_times_13 hw ?_
      refine ir_ald_n S dX0_times_16 hl 0 rfl ?_
      refine g0_exponent S dX0_times_17 hw ?_
      refine ir_ild_n S dX0_times_20 hl 1 rfl ?_
      refine ir_ia S dX0_times_21 hw 4 rfl a.isLt (by decide) ?_
      refine ir_ald_n S dX0_times_22 hl 0 rfl ?_
      refine g0_exponent S dX0_times_23 hw ?_
      refine ir_ild_n S dX0_times_26 hl 2 rfl ?_
      refine ir_ia S dX0_times_27 hw 4 rfl b.isLt (by decide) ?_
      refine ir_add S dX0_times_28 ?_
      refine ir_ia S dX0_times_29 hw 3 rfl (by have h1 := ex_le a; have h2 := ex_le b; omega) (by decide) ?_
      exact re_I S dX0_times_30 hr hlk hw (by rw [gm_ex a b h1 h2])
    · refine ir_ic S dX0_times_8 ((nI ((0 : F8)).val)) (by decide) ?_
      refine ir_goto 30 S dX0_times_9 (by decide) ?_
      exact re_I S dX0_times_30 hr hlk hw (by rw [h2, gm_z2])
end
section
set_option maxRecDepth 100000
section C2
variable {p : Program} {l : Launch} {e : Env} {R : Room} {s : State} {m : MethodId} {args : Array Value} {below : List Frame} {meth : Method} {c : Code} {H : Heap} {locs : List Loc} {cells slots : Nat} {Q : State → Prop} {cc : ByteArray} {nL : Nat} {pc : Nat} {ls : Array Slot} {rest : List Value} {D : va_G} {dA dZ : ClassId} {A : Nat → Prop} {ad : Nat → Nat} {lv : List (Nat × Value)} {ws : va_W}
theorem c_times {w : Nat → F8} {g : Nat → Bool} {sy ru he be nu : Nat → F8} {le : Nat} {wh : Nat → F8} {di : Nat} {a b : F8} (S : CallFix p m c cc nL s args lw_all RX0) (hdg : decode cc pc = .ok (.invokevirtual 59, 3)) (hR : 1 ≤ R.frames ∧ 22 ≤ R.locals) (hf : cells ≤ R.cells ∧ slots ≤ R.slots) (hw : Wd D dA dZ A s (wM dA dZ ad w g sy ru he be nu le wh di) H locs) (hl : lv_has ls nL lv) (hroom : (rest.map fun v => v.category).sum ≤ 8)  (kk : ∀ (H1 : Heap) (locs1 : List Loc), Wd D dA dZ A s (wM dA dZ ad w g sy ru he be nu le wh di) H1 locs1 → W p l e R s m args below meth c H1 locs1 cells slots Q (F0 m (pc + 3) ls (.int (nI (gm a b).val) :: rest))) : W p l e R s m args below meth c H locs cells slots Q (F0 m pc ls (.int (nI b.val) :: .int (nI a.val) :: .ref (ad 0) :: rest)) :=
  ca_I (q0 := 0) (nA := 2) (ci := 0) (As := [.int (nI a.val), .int (nI b.val)]) (C := RX0) S hdg (ct_times l D dA dZ ad w g sy ru he be nu le wh di a b) (lw_V q77 q79 qs1 q17 q80) (by decide +kernel) rfl hR hf hw rfl rfl hl.1 rfl hroom kk
end C2
set_option maxHeartbeats 4000000 in
theorem ct_over (l : Launch) (D : va_G) (dA dZ : ClassId) (ad : Nat → Nat) (w : Nat → F8) (g : Nat → Bool) (sy ru he be nu : Nat → F8) (le : Nat) (wh : Nat → F8) (di : Nat) (a b : F8) : CtI l D dA dZ yX0_over cX0_over 3 (some .int) 0 [.ref (ad 0), .int (nI a.val), .int (nI b.val)] (wM dA dZ ad w g sy ru he be nu le wh di) (nI (go a b).val) (wM dA dZ ad w g sy ru he be nu le wh di) := by
  refine CtI.of (by decide) (Nat.le_of_ble_eq_true rfl) ?_
  intro p e s m args below meth c A H locs ls S hr hlk hl hw
  have hl : lv_has ls 3 [(0, .ref (ad 0)), (1, .int (nI a.val)), (2, .int (nI b.val))] := hl
  refine ir_ild_n S dX0_over_0 hl 1 rfl ?_
  refine ir_ne8 8 S dX0_over_1 (by decide)  (fun h1 => ?_) (fun h1 => ?_)
  · refine ir_ald_n S dX0_over_8 hl 0 rfl ?_
    refine g0_power S dX0_over_9 hw ?_
    refine ir_ald_n S dX0_over_12 hl 0 rfl ?_
    refine g0_exponent S dX0_over_13 hw ?_
    refine ir_ild_n S dX0_over_16 hl 1 rfl ?_
    refine ir_ia S dX0_over_17 hw 4 rfl a.isLt (by decide) ?_
    refine ir_bi S dX0_over_18 ((nI 7)) (by decide) ?_
    refine ir_add S dX0_over_20 ?_
    refine ir_ald_n S dX0_over_21 hl 0 rfl ?_
    refine g0_exponent S dX0_over_22 hw ?_
    refine ir_ild_n S dX0_over_25 hl 2 rfl ?_
    refine ir_ia S dX0_over_26 hw 4 rfl b.isLt (by decide) ?_
    refine ir_sub S dX0_over_27 (by have h1 := ex_le a; have h2 := ex_le b; omega) ?_
    refine ir_ia S dX0_over_28 hw 3 rfl (by have h1 := ex_le a; have h2 := ex_le b; omega) (by decide) ?_
    exact re_I S dX0_over_29 hr hlk hw (by rw [go_ex a b h1])
  · refine ir_ic S dX0_over_4 ((nI ((0 : F8)).val)) (by decide) ?_
    refine ir_goto 29 S dX0_over_5 (by decide) ?_
    exact re_I S dX0_over_29 hr hlk hw (by rw [h1, go_z1])
section C3
variable {p : Program} {l : Launch} {e : Env} {R : Room} {s : State} {m : MethodId} {args : Array Value} {below : List Frame} {meth : Method} {c : Code} {H : Heap} {locs : List Loc} {cells slots : Nat} {Q : State → Prop} {cc : ByteArray} {nL : Nat} {pc : Nat} {ls : Array Slot} {rest : List Value} {D : va_G} {dA dZ : ClassId} {A : Nat → Prop} {ad : Nat → Nat} {lv : List (Nat × Value)} {ws : va_W}
theorem c_over {w : Nat → F8} {g : Nat → Bool} {sy ru he be nu : Nat → F8} {le : Nat} {wh : Nat → F8} {di : Nat} {a b : F8} (S : CallFix p m c cc nL s args lw_all RX0) (hdg : decode cc pc = .ok (.invokevirtual 87, 3)) (hR : 1 ≤ R.frames ∧ 22 ≤ R.locals) (hf : cells ≤ R.cells ∧ slots ≤ R.slots) (hw : Wd D dA dZ A s (wM dA dZ ad w g sy ru he be nu le wh di) H locs) (hl : lv_has ls nL lv) (hroom : (rest.map fun v => v.category).sum ≤ 8)  (kk : ∀ (H1 : Heap) (locs1 : List Loc), Wd D dA dZ A s (wM dA dZ ad w g sy ru he be nu le wh di) H1 locs1 → W p l e R s m args below meth c H1 locs1 cells slots Q (F0 m (pc + 3) ls (.int (nI (go a b).val) :: rest))) : W p l e R s m args below meth c H locs cells slots Q (F0 m pc ls (.int (nI b.val) :: .int (nI a.val) :: .ref (ad 0) :: rest)) :=
  ca_I (q0 := 0) (nA := 2) (ci := 0) (As := [.int (nI a.val), .int (nI b.val)]) (C := RX0) S hdg (ct_over l D dA dZ ad w g sy ru he be nu le wh di a b) (lw_V q116 q118 qs6 q17 q119) (by decide +kernel) rfl hR hf hw rfl rfl hl.1 rfl hroom kk
end C3
def hv (X : Nat → F8) (s : F8) : Nat → F8 → F8
  | 0, a => a
  | n + 1, a => hv X s n (gx (gm a s) (X n))
set_option maxHeartbeats 4000000 in
theorem lo_valueOf {p : Program} {l : Launch} {e : Env} {s : State} {m : MethodId} {args : Array Value} {below : List Frame} {meth : Method} {c : Code} {D : va_G} {dA dZ : ClassId} {A : Nat → Prop} {ad : Nat → Nat} {w : Nat → F8} {g : Nat → Bool} {sy ru he be nu : Nat → F8} {le : Nat} {wh : Nat → F8} {di : Nat} {X : Nat → F8} {sb : F8} {ra r : Nat} (S : CallFix p m c cX0_valueOf 5 s args lw_all RX0) (hr : meth.sig.returnType = some .int) (hlk : meth.locks = false) (hx : (wM dA dZ ad w g sy ru he be nu le wh di)[r]? = some (ra, .inl (dA, 7, .inl (aC 7 X)))) : ∀ (n : Nat), n ≤ 7 → ∀ (a : F8) (H : Heap) (locs : List Loc) (ls : Array Slot), lv_has ls 5 [(0, .ref (ad 0)), (1, .ref ra), (2, .int (nI sb.val)), (3, .int (nI a.val)), (4, .int (dn n))] → Wd D dA dZ A s (wM dA dZ ad w g sy ru he be nu le wh di) H locs → W p l e (rk 1) s m args below meth c H locs 0 0 (EI D dA dZ (nI (hv X sb n a).val) (wM dA dZ ad w g sy ru he be nu le wh di) A below args s) (F0 m 6 ls []) := by
  intro n
  induction n with
  | zero =>
    intro hn a H locs ls hl hw
    refine ir_ild S dX0_valueOf_6 hl 4 rfl ?_
    refine ir_lt0 29 S dX0_valueOf_8 (by decide) ?_
    refine ir_ild_n S dX0_valueOf_29 hl 3 rfl ?_
    exact re_I S dX0_valueOf_30 hr hlk hw rfl
  | succ n ih =>
    intro hn a H locs ls hl hw
    refine ir_ild S dX0_valueOf_6 hl 4 rfl ?_
    refine ir_ltS 29 S dX0_valueOf_8 (by decide) (by omega) ?_
    refine ir_ald_n S dX0_valueOf_11 hl 0 rfl ?_
    refine ir_ild_n S dX0_valueOf_12 hl 3 rfl ?_
    refine ir_ild_n S dX0_valueOf_13 hl 2 rfl ?_
    refine c_times  S dX0_valueOf_14 (by decide) (by decide) hw hl (Nat.le_of_ble_eq_true rfl) (fun H locs hw => ?_)
    refine ir_ald_n S dX0_valueOf_17 hl 1 rfl ?_
    refine ir_ild S dX0_valueOf_18 hl 4 rfl ?_
    refine ir_ia (k := n) S dX0_valueOf_20 hw r hx (by omega) (by decide) ?_
    refine ir_xor S dX0_valueOf_21 ?_
    refine ir_st_n (lv1 := [(0, .ref (ad 0)), (1, .ref (ra)), (2, .int (nI sb.val)), (3, .int (nI (gx (gm a sb) (X n)).val)), (4, .int (dn (n + 1)))]) S dX0_valueOf_22 hl [1, 2, 3, 0, 4] (by decide) rfl (fun ls hl => ?_)
    refine ir_dcd (lv1 := [(0, .ref (ad 0)), (1, .ref (ra)), (2, .int (nI sb.val)), (3, .int (nI (gx (gm a sb) (X n)).val)), (4, .int (dn n))]) S dX0_valueOf_23 hl 4 rfl [1, 2, 3, 4, 0] (by decide) rfl (fun ls hl => ?_)
    refine ir_goto 6 S dX0_valueOf_26 (by decide) ?_
    exact ih (by omega) _ H locs ls hl hw
set_option maxHeartbeats 4000000 in
theorem ct_valueOf (l : Launch) (D : va_G) (dA dZ : ClassId) (ad : Nat → Nat) (w : Nat → F8) (g : Nat → Bool) (sy ru he be nu : Nat → F8) (le : Nat) (wh : Nat → F8) (di : Nat) (X : Nat → F8) (sb : F8) (ra r : Nat) (hx : (wM dA dZ ad w g sy ru he be nu le wh di)[r]? = some (ra, .inl (dA, 7, .inl (aC 7 X)))) : CtI l D dA dZ yX0_valueOf cX0_valueOf 5 (some .int) 1 [.ref (ad 0), .ref ra, .int (nI sb.val)] (wM dA dZ ad w g sy ru he be nu le wh di) (nI (hv X sb 7 0).val) (wM dA dZ ad w g sy ru he be nu le wh di) := by
  refine CtI.of (by decide) (Nat.le_of_ble_eq_true rfl) ?_
  intro p e s m args below meth c A H locs ls S hr hlk hl hw
  have hl : lv_has ls 5 [(0, .ref (ad 0)), (1, .ref (ra)), (2, .int (nI sb.val))] := hl
  refine ir_ic S dX0_valueOf_0 ((nI ((0 : F8)).val)) (by decide) ?_
  refine ir_st_n (lv1 := [(0, .ref (ad 0)), (1, .ref (ra)), (2, .int (nI sb.val)), (3, .int (nI ((0 : F8)).val))]) S dX0_valueOf_1 hl [1, 2, 3, 0] (by decide) rfl (fun ls hl => ?_)
  refine ir_bi S dX0_valueOf_2 ((nI 6)) (by decide) ?_
  have e6 : nI 6 = dn 7 := rfl
  refine ir_st (lv1 := [(0, .ref (ad 0)), (1, .ref (ra)), (2, .int (nI sb.val)), (3, .int (nI ((0 : F8)).val)), (4, .int (dn 7))]) S dX0_valueOf_4 hl [1, 2, 3, 4, 0] (by decide) rfl (fun ls hl => ?_)
  exact lo_valueOf S hr hlk hx 7 (by omega) 0 _ _ ls hl hw
section C4
variable {p : Program} {l : Launch} {e : Env} {R : Room} {s : State} {m : MethodId} {args : Array Value} {below : List Frame} {meth : Method} {c : Code} {H : Heap} {locs : List Loc} {cells slots : Nat} {Q : State → Prop} {cc : ByteArray} {nL : Nat} {pc : Nat} {ls : Array Slot} {rest : List Value} {D : va_G} {dA dZ : ClassId} {A : Nat → Prop} {ad : Nat → Nat} {lv : List (Nat × Value)} {ws : va_W}
theorem c_valueOf {w : Nat → F8} {g : Nat → Bool} {sy ru he be nu : Nat → F8} {le : Nat} {wh : Nat → F8} {di : Nat} {X : Nat → F8} {sb : F8} {ra : Nat} (r : Nat) (S : CallFix p m c cc nL s args lw_all RX0) (hdg : decode cc pc = .ok (.invokevirtual 63, 3)) (hR : 2 ≤ R.frames ∧ 56 ≤ R.locals) (hf : cells ≤ R.cells ∧ slots ≤ R.slots) (hw : Wd D dA dZ A s (wM dA dZ ad w g sy ru he be nu le wh di) H locs) (hl : lv_has ls nL lv) (hroom : (rest.map fun v => v.category).sum ≤ 8) (hx : (wM dA dZ ad w g sy ru he be nu le wh di)[r]? = some (ra, .inl (dA, 7, .inl (aC 7 X)))) (kk : ∀ (H1 : Heap) (locs1 : List Loc), Wd D dA dZ A s (wM dA dZ ad w g sy ru he be nu le wh di) H1 locs1 → W p l e R s m args below meth c H1 locs1 cells slots Q (F0 m (pc + 3) ls (.int (nI (hv X sb 7 0).val) :: rest))) : W p l e R s m args below meth c H locs cells slots Q (F0 m pc ls (.int (nI sb.val) :: .ref ra :: .ref (ad 0) :: rest)) :=
  ca_I (q0 := 0) (nA := 2) (ci := 0) (As := [.ref ra, .int (nI sb.val)]) (C := RX0) S hdg (ct_valueOf l D dA dZ ad w g sy ru he be nu le wh di X sb ra r hx) (lw_V q104 q106 qs3 q17 q107) (by decide +kernel) rfl hR hf hw rfl rfl hl.1 rfl hroom kk
end C4
def dstep (v : F8) (r : F8 × F8 × F8 × F8) : F8 × F8 × F8 × F8 := (gm (gx v r.2.2.2) 3, gx r.1 (gm (gx v r.2.2.2) 2), gx r.2.1 (gx v r.2.2.2), gx r.2.2.1 (gm (gx v r.2.2.2) 3))
def dv (w : Nat → F8) : Nat → F8 × F8 × F8 × F8 → F8 × F8 × F8 × F8
  | 0, r => r
  | n + 1, r => dv w n (dstep (w (n + 3 + 1)) r)
def dw (w : Nat → F8) (r : F8 × F8 × F8 × F8) : Nat → F8 := va_up (va_up (va_up (va_up w 0 r.1) 1 r.2.1) 2 r.2.2.1) 3 r.2.2.2
set_option maxHeartbeats 4000000 in
theorem lo_divide {p : Program} {l : Launch} {e : Env} {s : State} {m : MethodId} {args : Array Value} {below : List Frame} {meth : Method} {c : Code} {D : va_G} {dA dZ : ClassId} {A : Nat → Prop} {ad : Nat → Nat} {w : Nat → F8} {g : Nat → Bool} {sy ru he be nu : Nat → F8} {le : Nat} {wh : Nat → F8} {di : Nat} (S : CallFix p m c cX0_divideAway 7 s args lw_all RX0) (hr : meth.sig.returnType = none) (hlk : meth.locks = false) : ∀ (n : Nat), n ≤ 3 → ∀ (r0 r1 r2 r3 : F8) (H : Heap) (locs : List Loc) (ls : Array Slot), lv_has ls 7 [(0, .ref (ad 0)), (1, .int (nI r0.val)), (2, .int (nI r1.val)), (3, .int (nI r2.val)), (4, .int (nI r3.val)), (5, .int (nI (n + 3)))] → Wd D dA dZ A s (wM dA dZ ad w g sy ru he be nu le wh di) H locs → W p l e (rk 1) s m args below meth c H locs 0 0 (EV D dA dZ (wM dA dZ ad (dw w (dv w n (r0, r1, r2, r3))) g sy ru he be nu le wh di) A below args s) (F0 m 13 ls []) := by
  intro n
  induction n with
  | zero =>
    intro hn r0 r1 r2 r3 H locs ls hl hw
    refine ir_ild S dX0_divideAway_13 hl 5 rfl ?_
    refine ir_ic S dX0_divideAway_15 ((nI 4)) (by decide) ?_
    refine ir_clt 71 S dX0_divideAway_16 (by decide) (by omega) (by omega) (fun hc => ?_) (fun hc => absurd hc (by omega))
    refine ir_ald_n S dX0_divideAway_71 hl 0 rfl ?_
    refine g0_word S dX0_divideAway_72 hw ?_
    refine ir_ic S dX0_divideAway_75 ((nI 0)) (by decide) ?_
    refine ir_ild_n S dX0_divideAway_76 hl 1 rfl ?_
    refine ir_is (w1 := (wM dA dZ ad (va_up w 0 r0) g sy ru he be nu le wh di)) S dX0_divideAway_77 hw 1 rfl (by omega) (by decide) (va_up w 0 r0) (fun _ _ => rfl) rfl (fun H locs hw => ?_)
    refine ir_ald_n S dX0_divideAway_78 hl 0 rfl ?_
    refine g0_word S dX0_divideAway_79 hw ?_
    refine ir_ic S dX0_divideAway_82 ((nI 1)) (by decide) ?_
    refine ir_ild_n S dX0_divideAway_83 hl 2 rfl ?_
    refine ir_is (w1 := (wM dA dZ ad (va_up (va_up w 0 r0) 1 r1) g sy ru he be nu le wh di)) S dX0_divideAway_84 hw 1 rfl (by omega) (by decide) (va_up (va_up w 0 r0) 1 r1) (fun _ _ => rfl) rfl (fun H locs hw => ?_)
    refine ir_ald_n S dX0_divideAway_85 hl 0 rfl ?_
    refine g0_word S dX0_divideAway_86 hw ?_
    refine ir_ic S dX0_divideAway_89 ((nI 2)) (by decide) ?_
    refine ir_ild_n S dX0_divideAway_90 hl 3 rfl ?_
    refine ir_is (w1 := (wM dA dZ ad (va_up (va_up (va_up w 0 r0) 1 r1) 2 r2) g sy ru he be nu le wh di)) S dX0_divideAway_91 hw 1 rfl (by omega) (by decide) (va_up (va_up (va_up w 0 r0) 1 r1) 2 r2) (fun _ _ => rfl) rfl (fun H locs hw => ?_)
    refine ir_ald_n S dX0_divideAway_92 hl 0 rfl ?_
    refine g0_word S dX0_divideAway_93 hw ?_
    refine ir_ic S dX0_divideAway_96 ((nI 3)) (by decide) ?_
    refine ir_ild S dX0_divideAway_97 hl 4 rfl ?_
    refine ir_is (w1 := (wM dA dZ ad (va_up (va_up (va_up (va_up w 0 r0) 1 r1) 2 r2) 3 r3) g sy ru he be nu le wh di)) S dX0_divideAway_99 hw 1 rfl (by omega) (by decide) (va_up (va_up (va_up (va_up w 0 r0) 1 r1) 2 r2) 3 r3) (fun _ _ => rfl) rfl (fun H locs hw => ?_)
    exact re_V S dX0_divideAway_100 hr hlk hw
  | succ n ih =>
    intro hn r0 r1 r2 r3 H locs ls hl hw
    have hl : lv_has ls 7 [(0, .ref (ad 0)), (1, .int (nI r0.val)), (2, .int (nI r1.val)), (3, .int (nI r2.val)), (4, .int (nI r3.val)), (5, .int (nI (n + 3 + 1)))] := hl
    refine ir_ild S dX0_divideAway_13 hl 5 rfl ?_
    refine ir_ic S dX0_divideAway_15 ((nI 4)) (by decide) ?_
    refine ir_clt 71 S dX0_divideAway_16 (by decide) (by omega) (by omega) (fun hc => absurd hc (by omega)) (fun hc => ?_)
    refine ir_ald_n S dX0_divideAway_19 hl 0 rfl ?_
    refine g0_word S dX0_divideAway_20 hw ?_
    refine ir_ild S dX0_divideAway_23 hl 5 rfl ?_
    refine ir_ia S dX0_divideAway_25 hw 1 rfl (by omega) (by decide) ?_
    refine ir_ild S dX0_divideAway_26 hl 4 rfl ?_
    refine ir_xor S dX0_divideAway_28 ?_
    refine ir_st (lv1 := [(0, .ref (ad 0)), (1, .int (nI r0.val)), (2, .int (nI r1.val)), (3, .int (nI r2.val)), (4, .int (nI r3.val)), (5, .int (nI (n + 3 + 1))), (6, .int (nI (gx (w (n + 3 + 1)) r3).val))]) S dX0_divideAway_29 hl [1, 2, 3, 4, 5, 6, 0] (by decide) rfl (fun ls hl => ?_)
    refine ir_ild_n S dX0_divideAway_31 hl 3 rfl ?_
    refine ir_ald_n S dX0_divideAway_32 hl 0 rfl ?_
    refine ir_ild S dX0_divideAway_33 hl 6 rfl ?_
    refine ir_ic S dX0_divideAway_35 ((nI ((3 : F8)).val)) (by decide) ?_
    refine c_times  S dX0_divideAway_36 (by decide) (by decide) hw hl (Nat.le_of_ble_eq_true rfl) (fun H locs hw => ?_)
    refine ir_xor S dX0_divideAway_39 ?_
    refine ir_st (lv1 := [(0, .ref (ad 0)), (1, .int (nI r0.val)), (2, .int (nI r1.val)), (3, .int (nI r2.val)), (4, .int (nI (gx r2 (gm (gx (w (n + 3 + 1)) r3) ((3 : F8)))).val)), (5, .int (nI (n + 3 + 1))), (6, .int (nI (gx (w (n + 3 + 1)) r3).val))]) S dX0_divideAway_40 hl [1, 2, 3, 4, 0, 5, 6] (by decide) rfl (fun ls hl => ?_)
    refine ir_ild_n S dX0_divideAway_42 hl 2 rfl ?_
    refine ir_ild S dX0_divideAway_43 hl 6 rfl ?_
    refine ir_xor S dX0_divideAway_45 ?_
    refine ir_st_n (lv1 := [(0, .ref (ad 0)), (1, .int (nI r0.val)), (2, .int (nI r1.val)), (3, .int (nI (gx r1 (gx (w (n + 3 + 1)) r3)).val)), (4, .int (nI (gx r2 (gm (gx (w (n + 3 + 1)) r3) ((3 : F8)))).val)), (5, .int (nI (n + 3 + 1))), (6, .int (nI (gx (w (n + 3 + 1)) r3).val))]) S dX0_divideAway_46 hl [1, 2, 3, 0, 4, 5, 6] (by decide) rfl (fun ls hl => ?_)
    refine ir_ild_n S dX0_divideAway_47 hl 1 rfl ?_
    refine ir_ald_n S dX0_divideAway_48 hl 0 rfl ?_
    refine ir_ild S dX0_divideAway_49 hl 6 rfl ?_
    refine ir_ic S dX0_divideAway_51 ((nI ((2 : F8)).val)) (by decide) ?_
    refine c_times  S dX0_divideAway_52 (by decide) (by decide) hw hl (Nat.le_of_ble_eq_true rfl) (fun H locs hw => ?_)
    refine ir_xor S dX0_divideAway_55 ?_
    refine ir_st_n (lv1 := [(0, .ref (ad 0)), (1, .int (nI r0.val)), (2, .int (nI (gx r0 (gm (gx (w (n + 3 + 1)) r3) ((2 : F8)))).val)), (3, .int (nI (gx r1 (gx (w (n + 3 + 1)) r3)).val)), (4, .int (nI (gx r2 (gm (gx (w (n + 3 + 1)) r3) ((3 : F8)))).val)), (5, .int (nI (n + 3 + 1))), (6, .int (nI (gx (w (n + 3 + 1)) r3).val))]) S dX0_divideAway_56 hl [1, 2, 0, 3, 4, 5, 6] (by decide) rfl (fun ls hl => ?_)
    refine ir_ald_n S dX0_divideAway_57 hl 0 rfl ?_
    refine ir_ild S dX0_divideAway_58 hl 6 rfl ?_
    refine ir_ic S dX0_divideAway_60 ((nI ((3 : F8)).val)) (by decide) ?_
    refine c_times  S dX0_divideAway_61 (by decide) (by decide) hw hl (Nat.le_of_ble_eq_true rfl) (fun H locs hw => ?_)
    refine ir_st_n (lv1 := [(0, .ref (ad 0)), (1, .int (nI (gm (gx (w (n + 3 + 1)) r3) ((3 : F8))).val)), (2, .int (nI (gx r0 (gm (gx (w (n + 3 + 1)) r3) ((2 : F8)))).val)), (3, .int (nI (gx r1 (gx (w (n + 3 + 1)) r3)).val)), (4, .int (nI (gx r2 (gm (gx (w (n + 3 + 1)) r3) ((3 : F8)))).val)), (5, .int (nI (n + 3 + 1))), (6, .int (nI (gx (w (n + 3 + 1)) r3).val))]) S dX0_divideAway_64 hl [1, 0, 2, 3, 4, 5, 6] (by decide) rfl (fun ls hl => ?_)
    refine ir_dec (lv1 := [(0, .ref (ad 0)), (1, .int (nI (gm (gx (w (n + 3 + 1)) r3) ((3 : F8))).val)), (2, .int (nI (gx r0 (gm (gx (w (n + 3 + 1)) r3) ((2 : F8)))).val)), (3, .int (nI (gx r1 (gx (w (n + 3 + 1)) r3)).val)), (4, .int (nI (gx r2 (gm (gx (w (n + 3 + 1)) r3) ((3 : F8)))).val)), (5, .int (nI (n + 3))), (6, .int (nI (gx (w (n + 3 + 1)) r3).val))]) S dX0_divideAway_65 hl 5 rfl [1, 2, 3, 4, 5, 0, 6] (by decide) rfl (fun ls hl => ?_)
    refine ir_goto 13 S dX0_divideAway_68 (by decide) ?_
    exact ih (by omega) _ _ _ _ H locs ls (lv_sub hl [0, 1, 2, 3, 4, 5] rfl) hw
set_option maxHeartbeats 4000000 in
theorem ct_divideAway (l : Launch) (D : va_G) (dA dZ : ClassId) (ad : Nat → Nat) (w : Nat → F8) (g : Nat → Bool) (sy ru he be nu : Nat → F8) (le : Nat) (wh : Nat → F8) (di : Nat) : CtV l D dA dZ yX0_divideAway cX0_divideAway 7 none 1 [.ref (ad 0)] (wM dA dZ ad w g sy ru he be nu le wh di) (wM dA dZ ad (dw w (dv w 3 (0, 0, 0, 0))) g sy ru he be nu le wh di) := by
  refine CtV.of (by decide) (Nat.le_of_ble_eq_true rfl) ?_
  intro p e s m args below meth c A H locs ls S hr hlk hl hw
  have hl : lv_has ls 7 [(0, .ref (ad 0))] := hl
  refine ir_ic S dX0_divideAway_0 ((nI ((0 : F8)).val)) (by decide) ?_
  refine ir_st_n (lv1 := [(0, .ref (ad 0)), (1, .int (nI ((0 : F8)).val))]) S dX0_divideAway_1 hl [1, 0] (by decide) rfl (fun ls hl => ?_)
  refine ir_ic S dX0_divideAway_2 ((nI ((0 : F8)).val)) (by decide) ?_
  refine ir_st_n (lv1 := [(0, .ref (ad 0)), (1, .int (nI ((0 : F8)).val)), (2, .int (nI ((0 : F8)).val))]) S dX0_divideAway_3 hl [1, 2, 0] (by decide) rfl (fun ls hl => ?_)
  refine ir_ic S dX0_divideAway_4 ((nI ((0 : F8)).val)) (by decide) ?_
  refine ir_st_n (lv1 := [(0, .ref (ad 0)), (1, .int (nI ((0 : F8)).val)), (2, .int (nI ((0 : F8)).val)), (3, .int (nI ((0 : F8)).val))]) S dX0_divideAway_5 hl [1, 2, 3, 0] (by decide) rfl (fun ls hl => ?_)
  refine ir_ic S dX0_divideAway_6 ((nI ((0 : F8)).val)) (by decide) ?_
  refine ir_st (lv1 := [(0, .ref (ad 0)), (1, .int (nI ((0 : F8)).val)), (2, .int (nI ((0 : F8)).val)), (3, .int (nI ((0 : F8)).val)), (4, .int (nI ((0 : F8)).val))]) S dX0_divideAway_7 hl [1, 2, 3, 4, 0] (by decide) rfl (fun ls hl => ?_)
  refine ir_bi S dX0_divideAway_9 ((nI 6)) (by decide) ?_
  refine ir_st (lv1 := [(0, .ref (ad 0)), (1, .int (nI ((0 : F8)).val)), (2, .int (nI ((0 : F8)).val)), (3, .int (nI ((0 : F8)).val)), (4, .int (nI ((0 : F8)).val)), (5, .int (nI 6))]) S dX0_divideAway_11 hl [1, 2, 3, 4, 5, 0] (by decide) rfl (fun ls hl => ?_)
  exact lo_divide S hr hlk 3 (by omega) 0 0 0 0 _ _ ls hl hw
section C5
variable {p : Program} {l : Launch} {e : Env} {R : Room} {s : State} {m : MethodId} {args : Array Value} {below : List Frame} {meth : Method} {c : Code} {H : Heap} {locs : List Loc} {cells slots : Nat} {Q : State → Prop} {cc : ByteArray} {nL : Nat} {pc : Nat} {ls : Array Slot} {rest : List Value} {D : va_G} {dA dZ : ClassId} {A : Nat → Prop} {ad : Nat → Nat} {lv : List (Nat × Value)} {ws : va_W}
theorem c_divideAway {w : Nat → F8} {g : Nat → Bool} {sy ru he be nu : Nat → F8} {le : Nat} {wh : Nat → F8} {di : Nat}  (S : CallFix p m c cc nL s args lw_all RX0) (hdg : decode cc pc = .ok (.invokevirtual 45, 3)) (hR : 2 ≤ R.frames ∧ 58 ≤ R.locals) (hf : cells ≤ R.cells ∧ slots ≤ R.slots) (hw : Wd D dA dZ A s (wM dA dZ ad w g sy ru he be nu le wh di) H locs) (hl : lv_has ls nL lv) (hroom : (rest.map fun v => v.category).sum ≤ 8)  (kk : ∀ (H1 : Heap) (locs1 : List Loc), Wd D dA dZ A s (wM dA dZ ad (dw w (dv w 3 (0, 0, 0, 0))) g sy ru he be nu le wh di) H1 locs1 → W p l e R s m args below meth c H1 locs1 cells slots Q (F0 m (pc + 3) ls rest)) : W p l e R s m args below meth c H locs cells slots Q (F0 m pc ls (.ref (ad 0) :: rest)) :=
  ca_V (q0 := 0) (nA := 0) (ci := 0) (As := []) (C := RX0) S hdg (ct_divideAway l D dA dZ ad w g sy ru he be nu le wh di) (lw_V q73 q75 qs0 q17 q76) (by decide +kernel) rfl hR hf hw rfl rfl hl.1 rfl hroom kk
end C5
end
section
set_option maxRecDepth 100000
theorem Wd.cg {D : va_G} {dA dZ : ClassId} {A : Nat → Prop} {s : State} {ws w1 : va_W} {H : Heap} {locs : List Loc} (hw : Wd D dA dZ A s ws H locs) (h : ws = w1) : Wd D dA dZ A s w1 H locs := h ▸ hw
theorem gx_0 : ∀ a : F8, gx a 0 = a := by decide +kernel
theorem ir_an1 {p : Program} {l : Launch} {e : Env} {R : Room} {s : State} {m : MethodId} {args : Array Value} {below : List Frame} {meth : Method} {c : Code} {H : Heap} {locs : List Loc} {cells slots : Nat} {Q : State → Prop} {cc : ByteArray} {nL : Nat} {own : String} {pc : Nat} {ls : Array Slot} {rest : List Value} {a : Nat} (S : CallFix p m c cc nL s args lw_all own) (hdg : decode cc pc = .ok (.iand, 1)) (ha : a < 2 ^ 32) (kk : W p l e R s m args below meth c H locs cells slots Q (F0 m (pc + 1) ls (.int (nI (a % 2)) :: rest))) : W p l e R s m args below meth c H locs cells slots Q (F0 m pc ls (.int (nI 1) :: .int (nI a) :: rest)) :=
  lv_iand S.1 S.2.1 hdg (by rw [pk_andN ha (m := nI 1) 1 (by decide)]; exact kk)
def lgR (gap : F8) (ru he : Nat → F8) : Nat → F8 := fun j => gx (ru j) (gm gap (he j))
def lgH (gap : F8) (ru : Nat → F8) : Nat → F8 := fun j => go (ru j) gap
def lgP (gap : F8) (r lost : Nat) (ru he : Nat → F8) (le : Nat) : (Nat → F8) × Nat := if 2 * le ≤ r + lost - 1 then (lgH gap ru, r + lost - le) else (he, le)
set_option maxHeartbeats 4000000 in
theorem lo_len1 {p : Program} {l : Launch} {e : Env} {s : State} {m : MethodId} {args : Array Value} {below : List Frame} {meth : Method} {c : Code} {Q : State → Prop} {D : va_G} {dA dZ : ClassId} {A : Nat → Prop} {ad : Nat → Nat} {w : Nat → F8} {g : Nat → Bool} {sy ru he be nu : Nat → F8} {le : Nat} {wh : Nat → F8} {di : Nat} {gap : F8} {r lost : Nat} {b : Bool} (S : CallFix p m c cX0_lengthen 6 s args lw_all RX0)  (kk : ∀ (H : Heap) (locs : List Loc) (ls : Array Slot), lv_has ls 6 [(0, .ref (ad 0)), (1, .int (nI gap.val)), (2, .int (nI r)), (3, .int (nI lost)), (4, .int (nI b.toNat))] → Wd D dA dZ A s (wM dA dZ ad w g sy (lgR gap ru he) he ru nu le wh di) H locs → W p l e (rk 1) s m args below meth c H locs 0 0 Q (F0 m 73 ls [])) : ∀ (n k : Nat), k + n = 10 → ∀ (H : Heap) (locs : List Loc) (ls : Array Slot), lv_has ls 6 [(0, .ref (ad 0)), (1, .int (nI gap.val)), (2, .int (nI r)), (3, .int (nI lost)), (4, .int (nI b.toNat)), (5, .int (nI k))] → Wd D dA dZ A s (wM dA dZ ad w g sy (mx k (lgR gap ru he) ru) he (mx k ru be) nu le wh di) H locs → W p l e (rk 1) s m args below meth c H locs 0 0 Q (F0 m 24 ls []) := by
  intro n
  induction n with
  | zero =>
    intro k hk H locs ls hl hw
    refine ir_ild S dX0_lengthen_24 hl 5 rfl ?_
    refine ir_bi S dX0_lengthen_26 ((nI 10)) (by decide) ?_
    refine ir_cge 73 S dX0_lengthen_28 (by decide) (by omega) (by omega) (fun hc => ?_) (fun hc => absurd hc (by omega))
    obtain rfl : k = 10 := by omega
    exact kk H locs ls (lv_sub hl [0, 1, 2, 3, 4] rfl) (hw.cg (wM_eq e_rf e_rf e_rf (fun i hi => mx_lt hi) e_rf (fun i hi => mx_lt hi) e_rf e_rf))
  | succ n ih =>
    intro k hk H locs ls hl hw
    refine ir_ild S dX0_lengthen_24 hl 5 rfl ?_
    refine ir_bi S dX0_lengthen_26 ((nI 10)) (by decide) ?_
    refine ir_cge 73 S dX0_lengthen_28 (by decide) (by omega) (by omega) (fun hc => absurd hc (by omega)) (fun hc => ?_)
    refine ir_ald_n S dX0_lengthen_31 hl 0 rfl ?_
    refine g0_before S dX0_lengthen_32 hw ?_
    refine ir_ild S dX0_lengthen_35 hl 5 rfl ?_
    refine ir_ald_n S dX0_lengthen_37 hl 0 rfl ?_
    refine g0_rule S dX0_lengthen_38 hw ?_
    refine ir_ild S dX0_lengthen_41 hl 5 rfl ?_
    refine ir_ia S dX0_lengthen_43 hw 6 rfl (by omega) (by decide) ?_
    refine ir_is (w1 := (wM dA dZ ad w g sy (mx k (lgR gap ru he) ru) he (mx (k + 1) ru be) nu le wh di)) S dX0_lengthen_44 hw 8 rfl (by omega) (by decide) (mx (k + 1) ru be) (fun i _ => mx_up (mx_ge (Nat.le_refl k)) i) rfl (fun H locs hw => ?_)
    refine ir_ald_n S dX0_lengthen_45 hl 0 rfl ?_
    refine g0_rule S dX0_lengthen_46 hw ?_
    refine ir_ild S dX0_lengthen_49 hl 5 rfl ?_
    refine ir_dup2 S dX0_lengthen_51 rfl rfl ?_
    refine ir_ia S dX0_lengthen_52 hw 6 rfl (by omega) (by decide) ?_
    refine ir_ald_n S dX0_lengthen_53 hl 0 rfl ?_
    refine ir_ild_n S dX0_lengthen_54 hl 1 rfl ?_
    refine ir_ald_n S dX0_lengthen_55 hl 0 rfl ?_
    refine g0_helper S dX0_lengthen_56 hw ?_
    refine ir_ild S dX0_lengthen_59 hl 5 rfl ?_
    refine ir_ia S dX0_lengthen_61 hw 7 rfl (by omega) (by decide) ?_
    refine c_times  S dX0_lengthen_62 (by decide) (by decide) hw hl (Nat.le_of_ble_eq_true rfl) (fun H locs hw => ?_)
    refine ir_xor S dX0_lengthen_65 ?_
    refine ir_is (w1 := (wM dA dZ ad w g sy (mx (k + 1) (lgR gap ru he) ru) he (mx (k + 1) ru be) nu le wh di)) S dX0_lengthen_66 hw 6 rfl (by omega) (by decide) (mx (k + 1) (lgR gap ru he) ru) (fun i _ => mx_up (by rw [mx_ge (Nat.le_refl k)]; rfl) i) rfl (fun H locs hw => ?_)
    refine ir_inc (lv1 := [(0, .ref (ad 0)), (1, .int (nI gap.val)), (2, .int (nI r)), (3, .int (nI lost)), (4, .int (nI b.toNat)), (5, .int (nI (k + 1)))]) S dX0_lengthen_67 hl 5 rfl [1, 2, 3, 4, 5, 0] (by decide) rfl (fun ls hl => ?_)
    refine ir_goto 24 S dX0_lengthen_70 (by decide) ?_
    exact ih (k + 1) (by omega) H locs ls hl hw
set_option maxHeartbeats 4000000 in
theorem lo_len2 {p : Program} {l : Launch} {e : Env} {s : State} {m : MethodId} {args : Array Value} {below : List Frame} {meth : Method} {c : Code} {Q : State → Prop} {D : va_G} {dA dZ : ClassId} {A : Nat → Prop} {ad : Nat → Nat} {w : Nat → F8} {g : Nat → Bool} {sy ru he be nu : Nat → F8} {le : Nat} {wh : Nat → F8} {di : Nat} {gap : F8} {r lost : Nat} {b : Bool} (S : CallFix p m c cX0_lengthen 6 s args lw_all RX0)  (kk : ∀ (H : Heap) (locs : List Loc) (ls : Array Slot), lv_has ls 6 [(0, .ref (ad 0)), (1, .int (nI gap.val)), (2, .int (nI r)), (3, .int (nI lost)), (4, .int (nI b.toNat))] → Wd D dA dZ A s (wM dA dZ ad w g sy ru (lgH gap be) be nu le wh di) H locs → W p l e (rk 1) s m args below meth c H locs 0 0 Q (F0 m 113 ls [])) : ∀ (n k : Nat), k + n = 10 → ∀ (H : Heap) (locs : List Loc) (ls : Array Slot), lv_has ls 6 [(0, .ref (ad 0)), (1, .int (nI gap.val)), (2, .int (nI r)), (3, .int (nI lost)), (4, .int (nI b.toNat)), (5, .int (nI k))] → Wd D dA dZ A s (wM dA dZ ad w g sy ru (mx k (lgH gap be) he) be nu le wh di) H locs → W p l e (rk 1) s m args below meth c H locs 0 0 Q (F0 m 81 ls []) := by
  intro n
  induction n with
  | zero =>
    intro k hk H locs ls hl hw
    refine ir_ild S dX0_lengthen_81 hl 5 rfl ?_
    refine ir_bi S dX0_lengthen_83 ((nI 10)) (by decide) ?_
    refine ir_cge 113 S dX0_lengthen_85 (by decide) (by omega) (by omega) (fun hc => ?_) (fun hc => absurd hc (by omega))
    obtain rfl : k = 10 := by omega
    exact kk H locs ls (lv_sub hl [0, 1, 2, 3, 4] rfl) (hw.cg (wM_eq e_rf e_rf e_rf e_rf (fun i hi => mx_lt hi) e_rf e_rf e_rf))
  | succ n ih =>
    intro k hk H locs ls hl hw
    refine ir_ild S dX0_lengthen_81 hl 5 rfl ?_
    refine ir_bi S dX0_lengthen_83 ((nI 10)) (by decide) ?_
    refine ir_cge 113 S dX0_lengthen_85 (by decide) (by omega) (by omega) (fun hc => absurd hc (by omega)) (fun hc => ?_)
    refine ir_ald_n S dX0_lengthen_88 hl 0 rfl ?_
    refine g0_helper S dX0_lengthen_89 hw ?_
    refine ir_ild S dX0_lengthen_92 hl 5 rfl ?_
    refine ir_ald_n S dX0_lengthen_94 hl 0 rfl ?_
    refine ir_ald_n S dX0_lengthen_95 hl 0 rfl ?_
    refine g0_before S dX0_lengthen_96 hw ?_
    refine ir_ild S dX0_lengthen_99 hl 5 rfl ?_
    refine ir_ia S dX0_lengthen_101 hw 8 rfl (by omega) (by decide) ?_
    refine ir_ild_n S dX0_lengthen_102 hl 1 rfl ?_
    refine c_over  S dX0_lengthen_103 (by decide) (by decide) hw hl (Nat.le_of_ble_eq_true rfl) (fun H locs hw => ?_)
    refine ir_is (w1 := (wM dA dZ ad w g sy ru (mx (k + 1) (lgH gap be) he) be nu le wh di)) S dX0_lengthen_106 hw 7 rfl (by omega) (by decide) (mx (k + 1) (lgH gap be) he) (fun i _ => mx_up rfl i) rfl (fun H locs hw => ?_)
    refine ir_inc (lv1 := [(0, .ref (ad 0)), (1, .int (nI gap.val)), (2, .int (nI r)), (3, .int (nI lost)), (4, .int (nI b.toNat)), (5, .int (nI (k + 1)))]) S dX0_lengthen_107 hl 5 rfl [1, 2, 3, 4, 5, 0] (by decide) rfl (fun ls hl => ?_)
    refine ir_goto 81 S dX0_lengthen_110 (by decide) ?_
    exact ih (k + 1) (by omega) H locs ls hl hw
set_option maxHeartbeats 4000000 in
theorem ct_lengthen (l : Launch) (D : va_G) (dA dZ : ClassId) (ad : Nat → Nat) (w : Nat → F8) (g : Nat → Bool) (sy ru he be nu : Nat → F8) (le : Nat) (wh : Nat → F8) (di : Nat) (gap : F8) (r lost : Nat) (hr1 : 1 ≤ r) (hr2 : r ≤ 10) (hlo : lost ≤ 10) (hle : le ≤ 10) : CtV l D dA dZ yX0_lengthen cX0_lengthen 6 none 1 [.ref (ad 0), .int (nI gap.val), .int (nI r), .int (nI lost)] (wM dA dZ ad w g sy ru he be nu le wh di) (wM dA dZ ad w g sy (lgR gap ru he) ((lgP gap r lost ru he le).1) ru nu ((lgP gap r lost ru he le).2) wh di) := by
  refine CtV.of (by decide) (Nat.le_of_ble_eq_true rfl) ?_
  intro p e s m args below meth c A H locs ls S hr hlk hl hw
  have hl : lv_has ls 6 [(0, .ref (ad 0)), (1, .int (nI gap.val)), (2, .int (nI r)), (3, .int (nI lost))] := hl
  generalize hQ : EV D dA dZ _ A below _ s = Q
  have key : ∀ b : Bool, b = decide (2 * le ≤ r + lost - 1) → W p l e (rk 1) s m args below meth c H locs 0 0 Q (F0 m 19 ls [.int (nI b.toNat)]) := by
    intro b hb
    refine ir_st (lv1 := [(0, .ref (ad 0)), (1, .int (nI gap.val)), (2, .int (nI r)), (3, .int (nI lost)), (4, .int (nI b.toNat))]) S dX0_lengthen_19 hl [1, 2, 3, 4, 0] (by decide) rfl (fun ls hl => ?_)
    refine ir_ic S dX0_lengthen_21 ((nI 0)) (by decide) ?_
    refine ir_st (lv1 := [(0, .ref (ad 0)), (1, .int (nI gap.val)), (2, .int (nI r)), (3, .int (nI lost)), (4, .int (nI b.toNat)), (5, .int (nI 0))]) S dX0_lengthen_22 hl [1, 2, 3, 4, 5, 0] (by decide) rfl (fun ls hl => ?_)
    refine lo_len1 S (fun H locs ls hl hw => ?_) 10 0 rfl _ _ ls hl (hw.cg (by rw [mx_0, mx_0]))
    refine ir_ild S dX0_lengthen_73 hl 4 rfl ?_
    refine ir_eqB 125 S dX0_lengthen_75 (by decide)  (fun hc => ?_) (fun hc => ?_)
    · subst hQ
      rw [show lgP gap r lost ru he le = (he, le) from if_neg (of_decide_eq_false (hb.symm.trans hc))]
      exact re_V S dX0_lengthen_125 hr hlk hw
    · have hcd : 2 * le ≤ r + lost - 1 := of_decide_eq_true (hb.symm.trans hc)
      refine ir_ic S dX0_lengthen_78 ((nI 0)) (by decide) ?_
      refine ir_st (lv1 := [(0, .ref (ad 0)), (1, .int (nI gap.val)), (2, .int (nI r)), (3, .int (nI lost)), (4, .int (nI b.toNat)), (5, .int (nI 0))]) S dX0_lengthen_79 hl [1, 2, 3, 4, 5, 0] (by decide) rfl (fun ls hl => ?_)
      refine lo_len2 S (fun H locs ls hl hw => ?_) 10 0 rfl _ _ ls hl (hw.cg (by rw [mx_0]))
      refine ir_ald_n S dX0_lengthen_113 hl 0 rfl ?_
      refine ir_ild_n S dX0_lengthen_114 hl 2 rfl ?_
      refine ir_ild_n S dX0_lengthen_115 hl 3 rfl ?_
      refine ir_add S dX0_lengthen_116 ?_
      refine ir_ald_n S dX0_lengthen_117 hl 0 rfl ?_
      refine g0_length S dX0_lengthen_118 hw ?_
      refine ir_sub S dX0_lengthen_121 (by omega) ?_
      refine p0_length S dX0_lengthen_122 hw (fun H locs hw => ?_)
      subst hQ
      rw [show lgP gap r lost ru he le = (lgH gap ru, r + lost - le) from if_pos hcd]
      exact re_V S dX0_lengthen_125 hr hlk hw
  refine ir_ic S dX0_lengthen_0 ((nI 2)) (by decide) ?_
  refine ir_ald_n S dX0_lengthen_1 hl 0 rfl ?_
  refine g0_length S dX0_lengthen_2 hw ?_
  refine ir_mul S dX0_lengthen_5 ?_
  refine ir_ild_n S dX0_lengthen_6 hl 2 rfl ?_
  refine ir_ild_n S dX0_lengthen_7 hl 3 rfl ?_
  refine ir_add S dX0_lengthen_8 ?_
  refine ir_ic S dX0_lengthen_9 ((nI 1)) (by decide) ?_
  refine ir_sub S dX0_lengthen_10 (by omega) ?_
  refine ir_cgt 18 S dX0_lengthen_11 (by decide) (by omega) (by omega) (fun hc => ?_) (fun hc => ?_)
  · refine ir_ic S dX0_lengthen_18 ((nI false.toNat)) (by decide) ?_
    exact key false (decide_eq_false (by omega)).symm
  · refine ir_ic S dX0_lengthen_14 ((nI true.toNat)) (by decide) ?_
    refine ir_goto 19 S dX0_lengthen_15 (by decide) ?_
    exact key true (decide_eq_true (by omega)).symm
section C6
variable {p : Program} {l : Launch} {e : Env} {R : Room} {s : State} {m : MethodId} {args : Array Value} {below : List Frame} {meth : Method} {c : Code} {H : Heap} {locs : List Loc} {cells slots : Nat} {Q : State → Prop} {cc : ByteArray} {nL : Nat} {pc : Nat} {ls : Array Slot} {rest : List Value} {D : va_G} {dA dZ : ClassId} {A : Nat → Prop} {ad : Nat → Nat} {lv : List (Nat × Value)} {ws : va_W}
theorem c_lengthen {w : Nat → F8} {g : Nat → Bool} {sy ru he be nu : Nat → F8} {le : Nat} {wh : Nat → F8} {di : Nat} {gap : F8} {r lost : Nat} (S : CallFix p m c cc nL s args lw_all RX0) (hdg : decode cc pc = .ok (.invokevirtual 83, 3)) (hR : 2 ≤ R.frames ∧ 57 ≤ R.locals) (hf : cells ≤ R.cells ∧ slots ≤ R.slots) (hw : Wd D dA dZ A s (wM dA dZ ad w g sy ru he be nu le wh di) H locs) (hl : lv_has ls nL lv) (hroom : (rest.map fun v => v.category).sum ≤ 8) (hr1 : 1 ≤ r) (hr2 : r ≤ 10) (hlo : lost ≤ 10) (hle : le ≤ 10) (kk : ∀ (H1 : Heap) (locs1 : List Loc), Wd D dA dZ A s (wM dA dZ ad w g sy (lgR gap ru he) (lgP gap r lost ru he le).1 ru nu (lgP gap r lost ru he le).2 wh di) H1 locs1 → W p l e R s m args below meth c H1 locs1 cells slots Q (F0 m (pc + 3) ls rest)) : W p l e R s m args below meth c H locs cells slots Q (F0 m pc ls (.int (nI lost) :: .int (nI r) :: .int (nI gap.val) :: .ref (ad 0) :: rest)) :=
  ca_V (q0 := 0) (nA := 3) (ci := 0) (As := [.int (nI gap.val), .int (nI r), .int (nI lost)]) (C := RX0) S hdg (ct_lengthen l D dA dZ ad w g sy ru he be nu le wh di gap r lost hr1 hr2 hlo hle) (lw_V q112 q114 qs5 q17 q115) (by decide +kernel) rfl hR hf hw rfl rfl hl.1 rfl hroom kk
end C6
def nuT (ru sy : Nat → F8) (k : Nat) : Nat → F8 := fun i => gm (ru i) (sy (k - i + 1))
def nuF (ru sy : Nat → F8) : Nat → F8 := fun k => xs (nuT ru sy k) (k + 1)
set_option maxHeartbeats 4000000 in
theorem lo_num1 {p : Program} {l : Launch} {e : Env} {s : State} {m : MethodId} {args : Array Value} {below : List Frame} {meth : Method} {c : Code} {Q : State → Prop} {D : va_G} {dA dZ : ClassId} {A : Nat → Prop} {ad : Nat → Nat} {w : Nat → F8} {g : Nat → Bool} {sy ru he be nu : Nat → F8} {le : Nat} {wh : Nat → F8} {di : Nat} {k : Nat} (hk4 : k < 4) (S : CallFix p m c cX0_findNumerator 3 s args lw_all RX0) (kk : ∀ (H : Heap) (locs : List Loc) (ls : Array Slot), lv_has ls 3 [(0, .ref (ad 0)), (1, .int (nI k))] → Wd D dA dZ A s (wM dA dZ ad w g sy ru he be (va_up nu k (nuF ru sy k)) le wh di) H locs → W p l e (rk 1) s m args below meth c H locs 0 0 Q (F0 m 56 ls [])) : ∀ (n i : Nat), i + n = k + 1 → ∀ (H : Heap) (locs : List Loc) (ls : Array Slot), lv_has ls 3 [(0, .ref (ad 0)), (1, .int (nI k)), (2, .int (nI i))] → Wd D dA dZ A s (wM dA dZ ad w g sy ru he be (va_up nu k (xs (nuT ru sy k) i)) le wh di) H locs → W p l e (rk 1) s m args below meth c H locs 0 0 Q (F0 m 16 ls []) := by
  intro n
  induction n with
  | zero =>
    intro i hi H locs ls hl hw
    refine ir_ild_n S dX0_findNumerator_16 hl 2 rfl ?_
    refine ir_ild_n S dX0_findNumerator_17 hl 1 rfl ?_
    refine ir_cgt 56 S dX0_findNumerator_18 (by decide) (by omega) (by omega) (fun hc => ?_) (fun hc => absurd hc (by omega))
    obtain rfl : i = k + 1 := by omega
    exact kk H locs ls (lv_sub hl [0, 1] rfl) hw
  | succ n ih =>
    intro i hi H locs ls hl hw
    refine ir_ild_n S dX0_findNumerator_16 hl 2 rfl ?_
    refine ir_ild_n S dX0_findNumerator_17 hl 1 rfl ?_
    refine ir_cgt 56 S dX0_findNumerator_18 (by decide) (by omega) (by omega) (fun hc => absurd hc (by omega)) (fun hc => ?_)
    refine ir_ald_n S dX0_findNumerator_21 hl 0 rfl ?_
    refine g0_numerator S dX0_findNumerator_22 hw ?_
    refine ir_ild_n S dX0_findNumerator_25 hl 1 rfl ?_
    refine ir_dup2 S dX0_findNumerator_26 rfl rfl ?_
    refine ir_ia S dX0_findNumerator_27 hw 9 rfl (by omega) (by decide) ?_
    refine ir_ald_n S dX0_findNumerator_28 hl 0 rfl ?_
    refine ir_ald_n S dX0_findNumerator_29 hl 0 rfl ?_
    refine g0_rule S dX0_findNumerator_30 hw ?_
    refine ir_ild_n S dX0_findNumerator_33 hl 2 rfl ?_
    refine ir_ia S dX0_findNumerator_34 hw 6 rfl (by omega) (by decide) ?_
    refine ir_ald_n S dX0_findNumerator_35 hl 0 rfl ?_
    refine g0_syndrome S dX0_findNumerator_36 hw ?_
    refine ir_ild_n S dX0_findNumerator_39 hl 1 rfl ?_
    refine ir_ild_n S dX0_findNumerator_40 hl 2 rfl ?_
    refine ir_sub S dX0_findNumerator_41 (by omega) ?_
    refine ir_ic S dX0_findNumerator_42 ((nI 1)) (by decide) ?_
    refine ir_add S dX0_findNumerator_43 ?_
    refine ir_ia S dX0_findNumerator_44 hw 5 rfl (by omega) (by decide) ?_
    refine c_times  S dX0_findNumerator_45 (by decide) (by decide) hw hl (Nat.le_of_ble_eq_true rfl) (fun H locs hw => ?_)
    refine ir_xor S dX0_findNumerator_48 ?_
    refine ir_is (w1 := (wM dA dZ ad w g sy ru he be (va_up nu k (xs (nuT ru sy k) (i + 1))) le wh di)) S dX0_findNumerator_49 hw 9 rfl (by omega) (by decide) (va_up nu k (xs (nuT ru sy k) (i + 1))) (fun j _ => by rw [va_up_self, bx_uu]; rfl) rfl (fun H locs hw => ?_)
    refine ir_inc (lv1 := [(0, .ref (ad 0)), (1, .int (nI k)), (2, .int (nI (i + 1)))]) S dX0_findNumerator_50 hl 2 rfl [1, 2, 0] (by decide) rfl (fun ls hl => ?_)
    refine ir_goto 16 S dX0_findNumerator_53 (by decide) ?_
    exact ih (i + 1) (by omega) H locs ls hl hw
set_option maxHeartbeats 4000000 in
theorem lo_num2 {p : Program} {l : Launch} {e : Env} {s : State} {m : MethodId} {args : Array Value} {below : List Frame} {meth : Method} {c : Code} {Q : State → Prop} {D : va_G} {dA dZ : ClassId} {A : Nat → Prop} {ad : Nat → Nat} {w : Nat → F8} {g : Nat → Bool} {sy ru he be nu : Nat → F8} {le : Nat} {wh : Nat → F8} {di : Nat}  (S : CallFix p m c cX0_findNumerator 3 s args lw_all RX0)  (kk : ∀ (H : Heap) (locs : List Loc) (ls : Array Slot), lv_has ls 3 [(0, .ref (ad 0)), (1, .int (nI 4))] → Wd D dA dZ A s (wM dA dZ ad w g sy ru he be (nuF ru sy) le wh di) H locs → W p l e (rk 1) s m args below meth c H locs 0 0 Q (F0 m 62 ls [])) : ∀ (n k : Nat), k + n = 4 → ∀ (H : Heap) (locs : List Loc) (ls : Array Slot), lv_has ls 3 [(0, .ref (ad 0)), (1, .int (nI k))] → Wd D dA dZ A s (wM dA dZ ad w g sy ru he be (mx k (nuF ru sy) nu) le wh di) H locs → W p l e (rk 1) s m args below meth c H locs 0 0 Q (F0 m 2 ls []) := by
  intro n
  induction n with
  | zero =>
    intro k hk H locs ls hl hw
    refine ir_ild_n S dX0_findNumerator_2 hl 1 rfl ?_
    refine ir_ic S dX0_findNumerator_3 ((nI 4)) (by decide) ?_
    refine ir_cge 62 S dX0_findNumerator_4 (by decide) (by omega) (by omega) (fun hc => ?_) (fun hc => absurd hc (by omega))
    obtain rfl : k = 4 := by omega
    exact kk H locs ls hl (hw.cg (wM_eq e_rf e_rf e_rf e_rf e_rf e_rf (fun i hi => mx_lt hi) e_rf))
  | succ n ih =>
    intro k hk H locs ls hl hw
    refine ir_ild_n S dX0_findNumerator_2 hl 1 rfl ?_
    refine ir_ic S dX0_findNumerator_3 ((nI 4)) (by decide) ?_
    refine ir_cge 62 S dX0_findNumerator_4 (by decide) (by omega) (by omega) (fun hc => absurd hc (by omega)) (fun hc => ?_)
    refine ir_ald_n S dX0_findNumerator_7 hl 0 rfl ?_
    refine g0_numerator S dX0_findNumerator_8 hw ?_
    refine ir_ild_n S dX0_findNumerator_11 hl 1 rfl ?_
    refine ir_ic S dX0_findNumerator_12 ((nI ((0 : F8)).val)) (by decide) ?_
    refine ir_is (w1 := (wM dA dZ ad w g sy ru he be (va_up (mx k (nuF ru sy) nu) k (xs (nuT ru sy k) 0)) le wh di)) S dX0_findNumerator_13 hw 9 rfl (by omega) (by decide) (va_up (mx k (nuF ru sy) nu) k (xs (nuT ru sy k) 0)) (fun _ _ => rfl) rfl (fun H locs hw => ?_)
    refine ir_ic S dX0_findNumerator_14 ((nI 0)) (by decide) ?_
    refine ir_st_n (lv1 := [(0, .ref (ad 0)), (1, .int (nI k)), (2, .int (nI 0))]) S dX0_findNumerator_15 hl [1, 2, 0] (by decide) rfl (fun ls hl => ?_)
    refine lo_num1 (by omega) S (fun H locs ls hl hw => ?_) (k + 1) 0 (by omega) H locs ls hl hw
    refine ir_inc (lv1 := [(0, .ref (ad 0)), (1, .int (nI (k + 1)))]) S dX0_findNumerator_56 hl 1 rfl [1, 0] (by decide) rfl (fun ls hl => ?_)
    refine ir_goto 2 S dX0_findNumerator_59 (by decide) ?_
    exact ih (k + 1) (by omega) H locs ls hl (hw.cg (wM_eq e_rf e_rf e_rf e_rf e_rf e_rf (fun i _ => mx_up rfl i) e_rf))
set_option maxHeartbeats 4000000 in
theorem ct_findNumerator (l : Launch) (D : va_G) (dA dZ : ClassId) (ad : Nat → Nat) (w : Nat → F8) (g : Nat → Bool) (sy ru he be nu : Nat → F8) (le : Nat) (wh : Nat → F8) (di : Nat) : CtV l D dA dZ yX0_findNumerator cX0_findNumerator 3 none 1 [.ref (ad 0)] (wM dA dZ ad w g sy ru he be nu le wh di) (wM dA dZ ad w g sy ru he be (nuF ru sy) le wh di) := by
  refine CtV.of (by decide) (Nat.le_of_ble_eq_true rfl) ?_
  intro p e s m args below meth c A H locs ls S hr hlk hl hw
  have hl : lv_has ls 3 [(0, .ref (ad 0))] := hl
  refine ir_ic S dX0_findNumerator_0 ((nI 0)) (by decide) ?_
  refine ir_st_n (lv1 := [(0, .ref (ad 0)), (1, .int (nI 0))]) S dX0_findNumerator_1 hl [1, 0] (by decide) rfl (fun ls hl => ?_)
  refine lo_num2 S (fun H locs ls hl hw => ?_) 4 0 rfl _ _ ls hl (hw.cg (by rw [mx_0]))
  exact re_V S dX0_findNumerator_62 hr hlk hw
section C7
variable {p : Program} {l : Launch} {e : Env} {R : Room} {s : State} {m : MethodId} {args : Array Value} {below : List Frame} {meth : Method} {c : Code} {H : Heap} {locs : List Loc} {cells slots : Nat} {Q : State → Prop} {cc : ByteArray} {nL : Nat} {pc : Nat} {ls : Array Slot} {rest : List Value} {D : va_G} {dA dZ : ClassId} {A : Nat → Prop} {ad : Nat → Nat} {lv : List (Nat × Value)} {ws : va_W}
theorem c_findNumerator {w : Nat → F8} {g : Nat → Bool} {sy ru he be nu : Nat → F8} {le : Nat} {wh : Nat → F8} {di : Nat}  (S : CallFix p m c cc nL s args lw_all RX0) (hdg : decode cc pc = .ok (.invokevirtual 71, 3)) (hR : 2 ≤ R.frames ∧ 54 ≤ R.locals) (hf : cells ≤ R.cells ∧ slots ≤ R.slots) (hw : Wd D dA dZ A s (wM dA dZ ad w g sy ru he be nu le wh di) H locs) (hl : lv_has ls nL lv) (hroom : (rest.map fun v => v.category).sum ≤ 8)  (kk : ∀ (H1 : Heap) (locs1 : List Loc), Wd D dA dZ A s (wM dA dZ ad w g sy ru he be (nuF ru sy) le wh di) H1 locs1 → W p l e R s m args below meth c H1 locs1 cells slots Q (F0 m (pc + 3) ls rest)) : W p l e R s m args below meth c H locs cells slots Q (F0 m pc ls (.ref (ad 0) :: rest)) :=
  ca_V (q0 := 0) (nA := 0) (ci := 0) (As := []) (C := RX0) S hdg (ct_findNumerator l D dA dZ ad w g sy ru he be nu le wh di) (lw_V q120 q122 qs7 q17 q123) (by decide +kernel) rfl hR hf hw rfl rfl hl.1 rfl hroom kk
end C7
end
section
set_option maxRecDepth 100000
def coA (b : F8) (ru : Nat → F8) : Nat → F8 := fun i => gm (ru i) (gp b i)
def coO (b : F8) (ru : Nat → F8) : Nat → F8 := fun i => if i % 2 = 0 then 0 else gm (ru i) (gp b i)
def coU (b : F8) (nu : Nat → F8) : Nat → F8 := fun i => if 4 ≤ i then 0 else gm (nu i) (gp b i)
def cor (ru nu : Nat → F8) (p : Nat) : F8 := if xs (coA (pw (7 - p)) ru) 8 = 0 ∧ ¬ xs (coO (pw (7 - p)) ru) 8 = 0 then go (xs (coU (pw (7 - p)) nu) 8) (gm (xs (coO (pw (7 - p)) ru) 8) (pw p)) else 0
set_option maxHeartbeats 4000000 in
theorem lo_cor {p : Program} {l : Launch} {e : Env} {s : State} {m : MethodId} {args : Array Value} {below : List Frame} {meth : Method} {c : Code} {Q : State → Prop} {D : va_G} {dA dZ : ClassId} {A : Nat → Prop} {ad : Nat → Nat} {w : Nat → F8} {g : Nat → Bool} {sy ru he be nu : Nat → F8} {le : Nat} {wh : Nat → F8} {di : Nat} {pl : Nat} {b : F8} (S : CallFix p m c cX0_correct 9 s args lw_all RX0) (kk : ∀ (H : Heap) (locs : List Loc) (ls : Array Slot), lv_has ls 9 [(0, .ref (ad 0)), (1, .int (nI pl)), (2, .int (nI b.val)), (3, .int (nI (xs (coA b ru) 8).val)), (4, .int (nI (xs (coO b ru) 8).val)), (5, .int (nI (xs (coU b nu) 8).val))] → Wd D dA dZ A s (wM dA dZ ad w g sy ru he be nu le wh di) H locs → W p l e (rk 1) s m args below meth c H locs 0 0 Q (F0 m 112 ls [])) : ∀ (n k : Nat), k + n = 8 → ∀ (H : Heap) (locs : List Loc) (ls : Array Slot), lv_has ls 9 [(0, .ref (ad 0)), (1, .int (nI pl)), (2, .int (nI b.val)), (3, .int (nI (xs (coA b ru) k).val)), (4, .int (nI (xs (coO b ru) k).val)), (5, .int (nI (xs (coU b nu) k).val)), (6, .int (nI (gp b k).val)), (7, .int (nI k))] → Wd D dA dZ A s (wM dA dZ ad w g sy ru he be nu le wh di) H locs → W p l e (rk 1) s m args below meth c H locs 0 0 Q (F0 m 24 ls []) := by
  intro n
  induction n with
  | zero =>
    intro k hk H locs ls hl hw
    refine ir_ild S dX0_correct_24 hl 7 rfl ?_
    refine ir_bi S dX0_correct_26 ((nI 8)) (by decide) ?_
    refine ir_cge 112 S dX0_correct_28 (by decide) (by omega) (by omega) (fun hc => ?_) (fun hc => absurd hc (by omega))
    obtain rfl : k = 8 := by omega
    exact kk H locs ls (lv_sub hl [0, 1, 2, 3, 4, 5] rfl) hw
  | succ n ih =>
    intro k hk H locs ls hl hw
    refine ir_ild S dX0_correct_24 hl 7 rfl ?_
    refine ir_bi S dX0_correct_26 ((nI 8)) (by decide) ?_
    refine ir_cge 112 S dX0_correct_28 (by decide) (by omega) (by omega) (fun hc => absurd hc (by omega)) (fun hc => ?_)
    refine ir_ald_n S dX0_correct_31 hl 0 rfl ?_
    refine ir_ald_n S dX0_correct_32 hl 0 rfl ?_
    refine g0_rule S dX0_correct_33 hw ?_
    refine ir_ild S dX0_correct_36 hl 7 rfl ?_
    refine ir_ia S dX0_correct_38 hw 6 rfl (by omega) (by decide) ?_
    refine ir_ild S dX0_correct_39 hl 6 rfl ?_
    refine c_times  S dX0_correct_41 (by decide) (by decide) hw hl (Nat.le_of_ble_eq_true rfl) (fun H locs hw => ?_)
    refine ir_st (lv1 := [(0, .ref (ad 0)), (1, .int (nI pl)), (2, .int (nI b.val)), (3, .int (nI (xs (coA b ru) k).val)), (4, .int (nI (xs (coO b ru) k).val)), (5, .int (nI (xs (coU b nu) k).val)), (6, .int (nI (gp b k).val)), (7, .int (nI k)), (8, .int (nI (gm (ru k) (gp b k)).val))]) S dX0_correct_44 hl [1, 2, 3, 4, 5, 6, 7, 8, 0] (by decide) rfl (fun ls hl => ?_)
    refine ir_ild_n S dX0_correct_46 hl 3 rfl ?_
    refine ir_ild S dX0_correct_47 hl 8 rfl ?_
    refine ir_xor S dX0_correct_49 ?_
    refine ir_st_n (lv1 := [(0, .ref (ad 0)), (1, .int (nI pl)), (2, .int (nI b.val)), (3, .int (nI (gx (xs (coA b ru) k) (gm (ru k) (gp b k))).val)), (4, .int (nI (xs (coO b ru) k).val)), (5, .int (nI (xs (coU b nu) k).val)), (6, .int (nI (gp b k).val)), (7, .int (nI k)), (8, .int (nI (gm (ru k) (gp b k)).val))]) S dX0_correct_50 hl [1, 2, 3, 0, 4, 5, 6, 7, 8] (by decide) rfl (fun ls hl => ?_)
    have hl : lv_has ls 9 [(0, .ref (ad 0)), (1, .int (nI pl)), (2, .int (nI b.val)), (3, .int (nI (xs (coA b ru) (k + 1)).val)), (4, .int (nI (xs (coO b ru) k).val)), (5, .int (nI (xs (coU b nu) k).val)), (6, .int (nI (gp b k).val)), (7, .int (nI k)), (8, .int (nI (gm (ru k) (gp b k)).val))] := hl
    refine ir_ild S dX0_correct_51 hl 4 rfl ?_
    have k1 : ∀ v : F8, v = coO b ru k → W p l e (rk 1) s m args below meth c H locs 0 0 Q (F0 m 66 ls [.int (nI v.val), .int (nI (xs (coO b ru) k).val)]) := by
      intro v hv
      refine ir_xor S dX0_correct_66 ?_
      refine ir_st (lv1 := [(0, .ref (ad 0)), (1, .int (nI pl)), (2, .int (nI b.val)), (3, .int (nI (xs (coA b ru) (k + 1)).val)), (4, .int (nI (gx (xs (coO b ru) k) v).val)), (5, .int (nI (xs (coU b nu) k).val)), (6, .int (nI (gp b k).val)), (7, .int (nI k)), (8, .int (nI (gm (ru k) (gp b k)).val))]) S dX0_correct_67 hl [1, 2, 3, 4, 0, 5, 6, 7, 8] (by decide) rfl (fun ls hl => ?_)
      subst hv
      have hl : lv_has ls 9 [(0, .ref (ad 0)), (1, .int (nI pl)), (2, .int (nI b.val)), (3, .int (nI (xs (coA b ru) (k + 1)).val)), (4, .int (nI (xs (coO b ru) (k + 1)).val)), (5, .int (nI (xs (coU b nu) k).val)), (6, .int (nI (gp b k).val)), (7, .int (nI k)), (8, .int (nI (gm (ru k) (gp b k)).val))] := hl
      refine ir_ild S dX0_correct_69 hl 5 rfl ?_
      have k2 : ∀ (H : Heap) (locs : List Loc) (v : F8), v = coU b nu k → Wd D dA dZ A s (wM dA dZ ad w g sy ru he be nu le wh di) H locs → W p l e (rk 1) s m args below meth c H locs 0 0 Q (F0 m 94 ls [.int (nI v.val), .int (nI (xs (coU b nu) k).val)]) := by
        intro H locs v hv hw
        refine ir_xor S dX0_correct_94 ?_
        refine ir_st (lv1 := [(0, .ref (ad 0)), (1, .int (nI pl)), (2, .int (nI b.val)), (3, .int (nI (xs (coA b ru) (k + 1)).val)), (4, .int (nI (xs (coO b ru) (k + 1)).val)), (5, .int (nI (gx (xs (coU b nu) k) v).val)), (6, .int (nI (gp b k).val)), (7, .int (nI k)), (8, .int (nI (gm (ru k) (gp b k)).val))]) S dX0_correct_95 hl [1, 2, 3, 4, 5, 0, 6, 7, 8] (by decide) rfl (fun ls hl => ?_)
        subst hv
        have hl : lv_has ls 9 [(0, .ref (ad 0)), (1, .int (nI pl)), (2, .int (nI b.val)), (3, .int (nI (xs (coA b ru) (k + 1)).val)), (4, .int (nI (xs (coO b ru) (k + 1)).val)), (5, .int (nI (xs (coU b nu) (k + 1)).val)), (6, .int (nI (gp b k).val)), (7, .int (nI k)), (8, .int (nI (gm (ru k) (gp b k)).val))] := hl
        refine ir_ald_n S dX0_correct_97 hl 0 rfl ?_
        refine ir_ild S dX0_correct_98 hl 6 rfl ?_
        refine ir_ild_n S dX0_correct_100 hl 2 rfl ?_
        refine c_times  S dX0_correct_101 (by decide) (by decide) hw hl (Nat.le_of_ble_eq_true rfl) (fun H locs hw => ?_)
        refine ir_st (lv1 := [(0, .ref (ad 0)), (1, .int (nI pl)), (2, .int (nI b.val)), (3, .int (nI (xs (coA b ru) (k + 1)).val)), (4, .int (nI (xs (coO b ru) (k + 1)).val)), (5, .int (nI (xs (coU b nu) (k + 1)).val)), (6, .int (nI (gm (gp b k) b).val)), (7, .int (nI k)), (8, .int (nI (gm (ru k) (gp b k)).val))]) S dX0_correct_104 hl [1, 2, 3, 4, 5, 6, 0, 7, 8] (by decide) rfl (fun ls hl => ?_)
        refine ir_inc (lv1 := [(0, .ref (ad 0)), (1, .int (nI pl)), (2, .int (nI b.val)), (3, .int (nI (xs (coA b ru) (k + 1)).val)), (4, .int (nI (xs (coO b ru) (k + 1)).val)), (5, .int (nI (xs (coU b nu) (k + 1)).val)), (6, .int (nI (gm (gp b k) b).val)), (7, .int (nI (k + 1))), (8, .int (nI (gm (ru k) (gp b k)).val))]) S dX0_correct_106 hl 7 rfl [1, 2, 3, 4, 5, 6, 7, 0, 8] (by decide) rfl (fun ls hl => ?_)
        refine ir_goto 24 S dX0_correct_109 (by decide) ?_
        exact ih (k + 1) (by omega) H locs ls (lv_sub hl [0, 1, 2, 3, 4, 5, 6, 7] rfl) hw
      refine ir_ild S dX0_correct_71 hl 7 rfl ?_
      refine ir_ic S dX0_correct_73 ((nI 4)) (by decide) ?_
      refine ir_cge 93 S dX0_correct_74 (by decide) (by omega) (by omega) (fun hc => ?_) (fun hc => ?_)
      · refine ir_ic S dX0_correct_93 ((nI ((0 : F8)).val)) (by decide) ?_
        exact k2 H locs 0 (by simp only [coU]; rw [if_pos hc]) hw
      · refine ir_ald_n S dX0_correct_77 hl 0 rfl ?_
        refine ir_ald_n S dX0_correct_78 hl 0 rfl ?_
        refine g0_numerator S dX0_correct_79 hw ?_
        refine ir_ild S dX0_correct_82 hl 7 rfl ?_
        refine ir_ia S dX0_correct_84 hw 9 rfl (by omega) (by decide) ?_
        refine ir_ild S dX0_correct_85 hl 6 rfl ?_
        refine c_times  S dX0_correct_87 (by decide) (by decide) hw hl (Nat.le_of_ble_eq_true rfl) (fun H locs hw => ?_)
        refine ir_goto 94 S dX0_correct_90 (by decide) ?_
        exact k2 H locs _ (by simp only [coU]; rw [if_neg (by omega)]) hw
    refine ir_ild S dX0_correct_53 hl 7 rfl ?_
    refine ir_ic S dX0_correct_55 ((nI 1)) (by decide) ?_
    refine ir_an1 S dX0_correct_56 (by omega) ?_
    refine ir_eqN 65 S dX0_correct_57 (by decide) (by omega) (fun hc => ?_) (fun hc => ?_)
    · refine ir_ic S dX0_correct_65 ((nI ((0 : F8)).val)) (by decide) ?_
      exact k1 0 (by simp only [coO]; rw [if_pos hc])
    · refine ir_ild S dX0_correct_60 hl 8 rfl ?_
      refine ir_goto 66 S dX0_correct_62 (by decide) ?_
      exact k1 _ (by simp only [coO]; rw [if_neg (by omega)])
set_option maxHeartbeats 4000000 in
theorem ct_correct (l : Launch) (D : va_G) (dA dZ : ClassId) (ad : Nat → Nat) (w : Nat → F8) (g : Nat → Bool) (sy ru he be nu : Nat → F8) (le : Nat) (wh : Nat → F8) (di : Nat) (pl : Nat) (hp : pl < 7) : CtV l D dA dZ yX0_correct cX0_correct 9 none 1 [.ref (ad 0), .int (nI pl)] (wM dA dZ ad w g sy ru he be nu le wh di) (wM dA dZ ad w g sy ru he be nu le (va_up wh pl (gx (wh pl) (cor ru nu pl))) di) := by
  refine CtV.of (by decide) (Nat.le_of_ble_eq_true rfl) ?_
  intro p e s m args below meth c A H locs ls S hr hlk hl hw
  have hl : lv_has ls 9 [(0, .ref (ad 0)), (1, .int (nI pl))] := hl
  refine ir_ald_n S dX0_correct_0 hl 0 rfl ?_
  refine g0_power S dX0_correct_1 hw ?_
  refine ir_bi S dX0_correct_4 ((nI 7)) (by decide) ?_
  refine ir_ild_n S dX0_correct_6 hl 1 rfl ?_
  refine ir_sub S dX0_correct_7 (by omega) ?_
  refine ir_ia S dX0_correct_8 hw 3 rfl (by omega) (by decide) ?_
  refine ir_st_n (lv1 := [(0, .ref (ad 0)), (1, .int (nI pl)), (2, .int (nI (pw (7 - pl)).val))]) S dX0_correct_9 hl [1, 2, 0] (by decide) rfl (fun ls hl => ?_)
  refine ir_ic S dX0_correct_10 ((nI ((0 : F8)).val)) (by decide) ?_
  refine ir_st_n (lv1 := [(0, .ref (ad 0)), (1, .int (nI pl)), (2, .int (nI (pw (7 - pl)).val)), (3, .int (nI ((0 : F8)).val))]) S dX0_correct_11 hl [1, 2, 3, 0] (by decide) rfl (fun ls hl => ?_)
  refine ir_ic S dX0_correct_12 ((nI ((0 : F8)).val)) (by decide) ?_
  refine ir_st (lv1 := [(0, .ref (ad 0)), (1, .int (nI pl)), (2, .int (nI (pw (7 - pl)).val)), (3, .int (nI ((0 : F8)).val)), (4, .int (nI ((0 : F8)).val))]) S dX0_correct_13 hl [1, 2, 3, 4, 0] (by decide) rfl (fun ls hl => ?_)
  refine ir_ic S dX0_correct_15 ((nI ((0 : F8)).val)) (by decide) ?_
  refine ir_st (lv1 := [(0, .ref (ad 0)), (1, .int (nI pl)), (2, .int (nI (pw (7 - pl)).val)), (3, .int (nI ((0 : F8)).val)), (4, .int (nI ((0 : F8)).val)), (5, .int (nI ((0 : F8)).val))]) S dX0_correct_16 hl [1, 2, 3, 4, 5, 0] (by decide) rfl (fun ls hl => ?_)
  refine ir_ic S dX0_correct_18 ((nI ((1 : F8)).val)) (by decide) ?_
  refine ir_st (lv1 := [(0, .ref (ad 0)), (1, .int (nI pl)), (2, .int (nI (pw (7 - pl)).val)), (3, .int (nI ((0 : F8)).val)), (4, .int (nI ((0 : F8)).val)), (5, .int (nI ((0 : F8)).val)), (6, .int (nI ((1 : F8)).val))]) S dX0_correct_19 hl [1, 2, 3, 4, 5, 6, 0] (by decide) rfl (fun ls hl => ?_)
  refine ir_ic S dX0_correct_21 ((nI 0)) (by decide) ?_
  refine ir_st (lv1 := [(0, .ref (ad 0)), (1, .int (nI pl)), (2, .int (nI (pw (7 - pl)).val)), (3, .int (nI ((0 : F8)).val)), (4, .int (nI ((0 : F8)).val)), (5, .int (nI ((0 : F8)).val)), (6, .int (nI ((1 : F8)).val)), (7, .int (nI 0))]) S dX0_correct_22 hl [1, 2, 3, 4, 5, 6, 7, 0] (by decide) rfl (fun ls hl => ?_)
  generalize hb : pw (7 - pl) = b at hl
  refine lo_cor (pl := pl) (b := b) S (fun H locs ls hl hw => ?_) 8 0 rfl _ _ ls hl hw
  refine ir_ild_n S dX0_correct_112 hl 3 rfl ?_
  refine ir_ne8 152 S dX0_correct_113 (by decide)  (fun h1 => ?_) (fun h1 => ?_)
  · have e0 : cor ru nu pl = 0 := if_neg (by rw [hb]; exact fun q => h1 q.1)
    refine re_V S dX0_correct_152 hr hlk (hw.cg (wM_eq e_rf e_rf e_rf e_rf e_rf e_rf e_rf (fun i _ => ?_)))
    rw [e0, gx_0]; simp only [va_up]; split
    · next h => rw [h]
    · rfl
  · refine ir_ild S dX0_correct_116 hl 4 rfl ?_
    refine ir_eq8 152 S dX0_correct_118 (by decide)  (fun h2 => ?_) (fun h2 => ?_)
    · have e0 : cor ru nu pl = 0 := if_neg (by rw [hb]; exact fun q => q.2 h2)
      refine re_V S dX0_correct_152 hr hlk (hw.cg (wM_eq e_rf e_rf e_rf e_rf e_rf e_rf e_rf (fun i _ => ?_)))
      rw [e0, gx_0]; simp only [va_up]; split
      · next h => rw [h]
      · rfl
    · refine ir_ald_n S dX0_correct_121 hl 0 rfl ?_
      refine ir_ild S dX0_correct_122 hl 4 rfl ?_
      refine ir_ald_n S dX0_correct_124 hl 0 rfl ?_
      refine g0_power S dX0_correct_125 hw ?_
      refine ir_ild_n S dX0_correct_128 hl 1 rfl ?_
      refine ir_ia S dX0_correct_129 hw 3 rfl (by omega) (by decide) ?_
      refine c_times  S dX0_correct_130 (by decide) (by decide) hw hl (Nat.le_of_ble_eq_true rfl) (fun H locs hw => ?_)
      refine ir_st (lv1 := [(0, .ref (ad 0)), (1, .int (nI pl)), (2, .int (nI b.val)), (3, .int (nI (xs (coA b ru) 8).val)), (4, .int (nI (xs (coO b ru) 8).val)), (5, .int (nI (xs (coU b nu) 8).val)), (7, .int (nI (gm (xs (coO b ru) 8) (pw pl)).val))]) S dX0_correct_133 hl [1, 2, 3, 4, 5, 6, 0] (by decide) rfl (fun ls hl => ?_)
      refine ir_ald_n S dX0_correct_135 hl 0 rfl ?_
      refine g0_whole S dX0_correct_136 hw ?_
      refine ir_ild_n S dX0_correct_139 hl 1 rfl ?_
      refine ir_dup2 S dX0_correct_140 rfl rfl ?_
      refine ir_ia S dX0_correct_141 hw 10 rfl (by omega) (by decide) ?_
      refine ir_ald_n S dX0_correct_142 hl 0 rfl ?_
      refine ir_ild S dX0_correct_143 hl 5 rfl ?_
      refine ir_ild S dX0_correct_145 hl 6 rfl ?_
      refine c_over  S dX0_correct_147 (by decide) (by decide) hw hl (Nat.le_of_ble_eq_true rfl) (fun H locs hw => ?_)
      refine ir_xor S dX0_correct_150 ?_
      have e1 : cor ru nu pl = go (xs (coU b nu) 8) (gm (xs (coO b ru) 8) (pw pl)) := by simp only [cor]; rw [hb]; exact if_pos ⟨h1, h2⟩
      refine ir_is (w1 := (wM dA dZ ad w g sy ru he be nu le (va_up wh pl (gx (wh pl) (cor ru nu pl))) di)) S dX0_correct_151 hw 10 rfl (by omega) (by decide) (va_up wh pl (gx (wh pl) (cor ru nu pl))) (fun i _ => by rw [e1]) rfl (fun H locs hw => ?_)
      exact re_V S dX0_correct_152 hr hlk hw
section C8
variable {p : Program} {l : Launch} {e : Env} {R : Room} {s : State} {m : MethodId} {args : Array Value} {below : List Frame} {meth : Method} {c : Code} {H : Heap} {locs : List Loc} {cells slots : Nat} {Q : State → Prop} {cc : ByteArray} {nL : Nat} {pc : Nat} {ls : Array Slot} {rest : List Value} {D : va_G} {dA dZ : ClassId} {A : Nat → Prop} {ad : Nat → Nat} {lv : List (Nat × Value)} {ws : va_W}
theorem c_correct {w : Nat → F8} {g : Nat → Bool} {sy ru he be nu : Nat → F8} {le : Nat} {wh : Nat → F8} {di : Nat} {pl : Nat} (S : CallFix p m c cc nL s args lw_all RX0) (hdg : decode cc pc = .ok (.invokevirtual 74, 3)) (hR : 2 ≤ R.frames ∧ 60 ≤ R.locals) (hf : cells ≤ R.cells ∧ slots ≤ R.slots) (hw : Wd D dA dZ A s (wM dA dZ ad w g sy ru he be nu le wh di) H locs) (hl : lv_has ls nL lv) (hroom : (rest.map fun v => v.category).sum ≤ 8) (hp : pl < 7) (kk : ∀ (H1 : Heap) (locs1 : List Loc), Wd D dA dZ A s (wM dA dZ ad w g sy ru he be nu le (va_up wh pl (gx (wh pl) (cor ru nu pl))) di) H1 locs1 → W p l e R s m args below meth c H1 locs1 cells slots Q (F0 m (pc + 3) ls rest)) : W p l e R s m args below meth c H locs cells slots Q (F0 m pc ls (.int (nI pl) :: .ref (ad 0) :: rest)) :=
  ca_V (q0 := 0) (nA := 1) (ci := 0) (As := [.int (nI pl)]) (C := RX0) S hdg (ct_correct l D dA dZ ad w g sy ru he be nu le wh di pl hp) (lw_V q124 q126 qs8 q17 q127) (by decide +kernel) rfl hR hf hw rfl rfl hl.1 rfl hroom kk
end C8
def dfF (w : Nat → F8) (g : Nat → Bool) (wh : Nat → F8) : Nat → Bool := fun i => !(g i) && !(decide (wh i = w i))
def zr4 (X : Nat → F8) : Bool := decide (hv X (pw 1) 7 0 = 0 ∧ hv X (pw 2) 7 0 = 0 ∧ hv X (pw 3) 7 0 = 0 ∧ hv X (pw 4) 7 0 = 0)
theorem zr4_of {X : Nat → F8} (h : ∀ i, i < 4 → hv X (pw (i + 1)) 7 0 = 0) : zr4 X = true := decide_eq_true ⟨h 0 (by decide), h 1 (by decide), h 2 (by decide), h 3 (by decide)⟩
theorem zr4_at {X : Nat → F8} (h : zr4 X = true) : ∀ i, i < 4 → hv X (pw (i + 1)) 7 0 = 0 := by
  have h := of_decide_eq_true h
  intro i hi
  match i, hi with
  | 0, _ => exact h.1
  | 1, _ => exact h.2.1
  | 2, _ => exact h.2.2.1
  | 3, _ => exact h.2.2.2
def isR (w : Nat → F8) (g : Nat → Bool) (wh : Nat → F8) (lost : Nat) : Bool := decide (zr4 wh = true ∧ 2 * cn (dfF w g wh) 7 + lost ≤ 4)
theorem cn_le (f : Nat → Bool) : ∀ n, cn f n ≤ n := by
  intro n
  induction n with
  | zero => exact Nat.le_refl _
  | succ n ih =>
    have h := Bool.toNat_le (f n)
    simp only [cn]
    omega
set_option maxHeartbeats 4000000 in
theorem lo_right1 {p : Program} {l : Launch} {e : Env} {s : State} {m : MethodId} {args : Array Value} {below : List Frame} {meth : Method} {c : Code} {Q : State → Prop} {D : va_G} {dA dZ : ClassId} {A : Nat → Prop} {ad : Nat → Nat} {w : Nat → F8} {g : Nat → Bool} {sy ru he be nu : Nat → F8} {le : Nat} {wh : Nat → F8} {di : Nat} {lost : Nat} (S : CallFix p m c cX0_isRight 4 s args lw_all RX0)  (kk : ∀ (H : Heap) (locs : List Loc) (ls : Array Slot), lv_has ls 4 [(0, .ref (ad 0)), (1, .int (nI lost))] → Wd D dA dZ A s (wM dA dZ ad w g sy ru he be nu le wh (cn (dfF w g wh) 7)) H locs → W p l e (rk 2) s m args below meth c H locs 0 0 Q (F0 m 57 ls [])) : ∀ (n k : Nat), k + n = 7 → ∀ (H : Heap) (locs : List Loc) (ls : Array Slot), lv_has ls 4 [(0, .ref (ad 0)), (1, .int (nI lost)), (2, .int (nI k))] → Wd D dA dZ A s (wM dA dZ ad w g sy ru he be nu le wh (cn (dfF w g wh) k)) H locs → W p l e (rk 2) s m args below meth c H locs 0 0 Q (F0 m 7 ls []) := by
  intro n
  induction n with
  | zero =>
    intro k hk H locs ls hl hw
    refine ir_ild_n S dX0_isRight_7 hl 2 rfl ?_
    refine ir_bi S dX0_isRight_8 ((nI 7)) (by decide) ?_
    refine ir_cge 57 S dX0_isRight_10 (by decide) (by omega) (by omega) (fun hc => ?_) (fun hc => absurd hc (by omega))
    obtain rfl : k = 7 := by omega
    exact kk H locs ls (lv_sub hl [0, 1] rfl) hw
  | succ n ih =>
    intro k hk H locs ls hl hw
    refine ir_ild_n S dX0_isRight_7 hl 2 rfl ?_
    refine ir_bi S dX0_isRight_8 ((nI 7)) (by decide) ?_
    refine ir_cge 57 S dX0_isRight_10 (by decide) (by omega) (by omega) (fun hc => absurd hc (by omega)) (fun hc => ?_)
    refine ir_ald_n S dX0_isRight_13 hl 0 rfl ?_
    refine ir_dup S dX0_isRight_14 rfl ?_
    refine g0_differences S dX0_isRight_15 hw ?_
    have k1 : ∀ v : Nat, v = (dfF w g wh k).toNat → W p l e (rk 2) s m args below meth c H locs 0 0 Q (F0 m 47 ls [.int (nI v), .int (nI (cn (dfF w g wh) k)), .ref (ad 0)]) := by
      intro v hv
      refine ir_add S dX0_isRight_47 ?_
      have ed : cn (dfF w g wh) k + v = cn (dfF w g wh) (k + 1) := by rw [hv]; rfl
      rw [ed]
      refine p0_differences S dX0_isRight_48 hw (fun H locs hw => ?_)
      refine ir_inc (lv1 := [(0, .ref (ad 0)), (1, .int (nI lost)), (2, .int (nI (k + 1)))]) S dX0_isRight_51 hl 2 rfl [1, 2, 0] (by decide) rfl (fun ls hl => ?_)
      refine ir_goto 7 S dX0_isRight_54 (by decide) ?_
      exact ih (k + 1) (by omega) H locs ls hl hw
    refine ir_ald_n S dX0_isRight_18 hl 0 rfl ?_
    refine g0_missing S dX0_isRight_19 hw ?_
    refine ir_ild_n S dX0_isRight_22 hl 2 rfl ?_
    refine ir_za S dX0_isRight_23 hw 2 rfl (by omega) (by decide) ?_
    refine ir_neB 46 S dX0_isRight_24 (by decide)  (fun h1 => ?_) (fun h1 => ?_)
    · refine ir_ic S dX0_isRight_46 ((nI 0)) (by decide) ?_
      exact k1 0 (by simp only [dfF]; rw [h1]; rfl)
    · refine ir_ald_n S dX0_isRight_27 hl 0 rfl ?_
      refine g0_whole S dX0_isRight_28 hw ?_
      refine ir_ild_n S dX0_isRight_31 hl 2 rfl ?_
      refine ir_ia S dX0_isRight_32 hw 10 rfl (by omega) (by decide) ?_
      refine ir_ald_n S dX0_isRight_33 hl 0 rfl ?_
      refine g0_word S dX0_isRight_34 hw ?_
      refine ir_ild_n S dX0_isRight_37 hl 2 rfl ?_
      refine ir_ia S dX0_isRight_38 hw 1 rfl (by omega) (by decide) ?_
      refine ir_ceq8 46 S dX0_isRight_39 (by decide)  (fun h2 => ?_) (fun h2 => ?_)
      · refine ir_ic S dX0_isRight_46 ((nI 0)) (by decide) ?_
        exact k1 0 (by simp only [dfF]; rw [h1, decide_eq_true h2]; rfl)
      · refine ir_ic S dX0_isRight_42 ((nI 1)) (by decide) ?_
        refine ir_goto 47 S dX0_isRight_43 (by decide) ?_
        exact k1 1 (by simp only [dfF]; rw [h1, decide_eq_false h2]; rfl)
set_option maxHeartbeats 4000000 in
theorem lo_right2 {p : Program} {l : Launch} {e : Env} {s : State} {m : MethodId} {args : Array Value} {below : List Frame} {meth : Method} {c : Code} {D : va_G} {dA dZ : ClassId} {A : Nat → Prop} {ad : Nat → Nat} {w : Nat → F8} {g : Nat → Bool} {sy ru he be nu : Nat → F8} {le : Nat} {wh : Nat → F8} {di : Nat} {lost : Nat} (hlo : lost ≤ 10) (hdi : di ≤ 10) (S : CallFix p m c cX0_isRight 4 s args lw_all RX0) (hr : meth.sig.returnType = some .boolean) (hlk : meth.locks = false) : ∀ (n k : Nat), k + n = 4 → (∀ i, i < k → hv wh (pw (i + 1)) 7 0 = 0) → ∀ (H : Heap) (locs : List Loc) (ls : Array Slot), lv_has ls 4 [(0, .ref (ad 0)), (1, .int (nI lost)), (2, .int (nI (k + 1)))] → Wd D dA dZ A s (wM dA dZ ad w g sy ru he be nu le wh di) H locs → W p l e (rk 2) s m args below meth c H locs 0 0 (EI D dA dZ (nI (decide (zr4 wh = true ∧ 2 * di + lost ≤ 4)).toNat) (wM dA dZ ad w g sy ru he be nu le wh di) A below args s) (F0 m 59 ls []) := by
  intro n
  induction n with
  | zero =>
    intro k hk hz H locs ls hl hw
    refine ir_ild_n S dX0_isRight_59 hl 2 rfl ?_
    refine ir_ic S dX0_isRight_60 ((nI 5)) (by decide) ?_
    refine ir_cge 91 S dX0_isRight_61 (by decide) (by omega) (by omega) (fun hc => ?_) (fun hc => absurd hc (by omega))
    obtain rfl : k = 4 := by omega
    refine ir_ic S dX0_isRight_91 ((nI 2)) (by decide) ?_
    refine ir_ald_n S dX0_isRight_92 hl 0 rfl ?_
    refine g0_differences S dX0_isRight_93 hw ?_
    refine ir_mul S dX0_isRight_96 ?_
    refine ir_ild_n S dX0_isRight_97 hl 1 rfl ?_
    refine ir_add S dX0_isRight_98 ?_
    refine ir_ic S dX0_isRight_99 ((nI 4)) (by decide) ?_
    refine ir_cgt 107 S dX0_isRight_100 (by decide) (by omega) (by omega) (fun hc => ?_) (fun hc => ?_)
    · refine ir_ic S dX0_isRight_107 ((nI false.toNat)) (by decide) ?_
      exact re_Z (b := false) S dX0_isRight_108 hr hlk hw rfl (by rw [decide_eq_false (fun q => absurd q.2 (by omega))])
    · refine ir_ic S dX0_isRight_103 ((nI true.toNat)) (by decide) ?_
      refine ir_goto 108 S dX0_isRight_104 (by decide) ?_
      exact re_Z (b := true) S dX0_isRight_108 hr hlk hw rfl (by rw [decide_eq_true ⟨zr4_of hz, hc⟩])
  | succ n ih =>
    intro k hk hz H locs ls hl hw
    refine ir_ild_n S dX0_isRight_59 hl 2 rfl ?_
    refine ir_ic S dX0_isRight_60 ((nI 5)) (by decide) ?_
    refine ir_cge 91 S dX0_isRight_61 (by decide) (by omega) (by omega) (fun hc => absurd hc (by omega)) (fun hc => ?_)
    refine ir_ald_n S dX0_isRight_64 hl 0 rfl ?_
    refine ir_ald_n S dX0_isRight_65 hl 0 rfl ?_
    refine g0_whole S dX0_isRight_66 hw ?_
    refine ir_ald_n S dX0_isRight_69 hl 0 rfl ?_
    refine g0_power S dX0_isRight_70 hw ?_
    refine ir_ild_n S dX0_isRight_73 hl 2 rfl ?_
    refine ir_ia S dX0_isRight_74 hw 3 rfl (by omega) (by decide) ?_
    refine c_valueOf 10 S dX0_isRight_75 (by decide) (by decide) hw hl (Nat.le_of_ble_eq_true rfl) rfl (fun H locs hw => ?_)
    refine ir_st_n (lv1 := [(0, .ref (ad 0)), (1, .int (nI lost)), (2, .int (nI (k + 1))), (3, .int (nI (hv wh (pw (k + 1)) 7 0).val))]) S dX0_isRight_78 hl [1, 2, 3, 0] (by decide) rfl (fun ls hl => ?_)
    refine ir_ild_n S dX0_isRight_79 hl 3 rfl ?_
    refine ir_eq8 85 S dX0_isRight_80 (by decide)  (fun hc => ?_) (fun hc => ?_)
    · refine ir_inc (lv1 := [(0, .ref (ad 0)), (1, .int (nI lost)), (2, .int (nI (k + 1 + 1))), (3, .int (nI (hv wh (pw (k + 1)) 7 0).val))]) S dX0_isRight_85 hl 2 rfl [1, 2, 0, 3] (by decide) rfl (fun ls hl => ?_)
      refine ir_goto 59 S dX0_isRight_88 (by decide) ?_
      exact ih (k + 1) (by omega) (lt_s hz hc) H locs ls (lv_sub hl [0, 1, 2] rfl) hw
    · refine ir_ic S dX0_isRight_83 ((nI false.toNat)) (by decide) ?_
      exact re_Z (b := false) S dX0_isRight_84 hr hlk hw rfl (by rw [decide_eq_false (fun q => hc (zr4_at q.1 k (by omega)))])
set_option maxHeartbeats 4000000 in
theorem ct_isRight (l : Launch) (D : va_G) (dA dZ : ClassId) (ad : Nat → Nat) (w : Nat → F8) (g : Nat → Bool) (sy ru he be nu : Nat → F8) (le : Nat) (wh : Nat → F8) (di : Nat) (lost : Nat) (hlo : lost ≤ 10) : CtI l D dA dZ yX0_isRight cX0_isRight 4 (some .boolean) 2 [.ref (ad 0), .int (nI lost)] (wM dA dZ ad w g sy ru he be nu le wh di) (nI (isR w g wh lost).toNat) (wM dA dZ ad w g sy ru he be nu le wh (cn (dfF w g wh) 7)) := by
  refine CtI.of (by decide) (Nat.le_of_ble_eq_true rfl) ?_
  intro p e s m args below meth c A H locs ls S hr hlk hl hw
  have hl : lv_has ls 4 [(0, .ref (ad 0)), (1, .int (nI lost))] := hl
  refine ir_ald_n S dX0_isRight_0 hl 0 rfl ?_
  refine ir_ic S dX0_isRight_1 ((nI 0)) (by decide) ?_
  refine p0_differences S dX0_isRight_2 hw (fun H locs hw => ?_)
  refine ir_ic S dX0_isRight_5 ((nI 0)) (by decide) ?_
  refine ir_st_n (lv1 := [(0, .ref (ad 0)), (1, .int (nI lost)), (2, .int (nI 0))]) S dX0_isRight_6 hl [1, 2, 0] (by decide) rfl (fun ls hl => ?_)
  refine lo_right1 (di := di) S (fun H locs ls hl hw => ?_) 7 0 rfl _ _ ls hl hw
  refine ir_ic S dX0_isRight_57 ((nI 1)) (by decide) ?_
  refine ir_st_n (lv1 := [(0, .ref (ad 0)), (1, .int (nI lost)), (2, .int (nI 1))]) S dX0_isRight_58 hl [1, 2, 0] (by decide) rfl (fun ls hl => ?_)
  exact lo_right2 hlo (Nat.le_trans (cn_le _ _) (by decide)) S hr hlk 4 0 rfl lt_0 H locs ls hl hw
section C9
variable {p : Program} {l : Launch} {e : Env} {R : Room} {s : State} {m : MethodId} {args : Array Value} {below : List Frame} {meth : Method} {c : Code} {H : Heap} {locs : List Loc} {cells slots : Nat} {Q : State → Prop} {cc : ByteArray} {nL : Nat} {pc : Nat} {ls : Array Slot} {rest : List Value} {D : va_G} {dA dZ : ClassId} {A : Nat → Prop} {ad : Nat → Nat} {lv : List (Nat × Value)} {ws : va_W}
theorem c_isRight {w : Nat → F8} {g : Nat → Bool} {sy ru he be nu : Nat → F8} {le : Nat} {wh : Nat → F8} {di : Nat} {lost : Nat} (S : CallFix p m c cc nL s args lw_all RX0) (hdg : decode cc pc = .ok (.invokevirtual 77, 3)) (hR : 3 ≤ R.frames ∧ 87 ≤ R.locals) (hf : cells ≤ R.cells ∧ slots ≤ R.slots) (hw : Wd D dA dZ A s (wM dA dZ ad w g sy ru he be nu le wh di) H locs) (hl : lv_has ls nL lv) (hroom : (rest.map fun v => v.category).sum ≤ 8) (hlo : lost ≤ 10) (kk : ∀ (H1 : Heap) (locs1 : List Loc), Wd D dA dZ A s (wM dA dZ ad w g sy ru he be nu le wh (cn (dfF w g wh) 7)) H1 locs1 → W p l e R s m args below meth c H1 locs1 cells slots Q (F0 m (pc + 3) ls (.int (nI (isR w g wh lost).toNat) :: rest))) : W p l e R s m args below meth c H locs cells slots Q (F0 m pc ls (.int (nI lost) :: .ref (ad 0) :: rest)) :=
  ca_I (q0 := 0) (nA := 1) (ci := 0) (As := [.int (nI lost)]) (C := RX0) S hdg (ct_isRight l D dA dZ ad w g sy ru he be nu le wh di lost hlo) (lw_V q128 q130 qs9 q17 q131) (by decide +kernel) rfl hR hf hw rfl rfl hl.1 rfl hroom kk
end C9
end
section
set_option maxRecDepth 100000
def one0 : Nat → F8 := fun j => if j = 0 then 1 else 0
def erF (pl : Nat) (ru : Nat → F8) : Nat → F8 := fun j => gx (ru j) (gm (ru (j - 1)) (pw pl))
def er (pl : Nat) (ru : Nat → F8) : Nat → F8 := md 1 10 (erF pl ru) ru
def eR (g : Nat → Bool) : Nat → Nat → F8
  | 0 => one0
  | n + 1 => if g n = true then er n (eR g n) else eR g n
def shH (he : Nat → F8) : Nat → F8 := fun j => if j = 0 then 0 else he (j - 1)
def gapT (ru sy : Nat → F8) (r : Nat) : Nat → F8 := fun k => gm (ru k) (sy (r - k))
def gapF (ru sy : Nat → F8) (r : Nat) : F8 := xs (gapT ru sy r) r
theorem shH_up (he : Nat → F8) : ∀ i, i < 10 → va_up (md (0 + 1) 10 (shH he) he) 0 0 i = shH he i := by
  intro i hi
  by_cases h0 : i = 0
  · subst h0
    rfl
  · rw [va_up_ne _ _ h0, md_in (by omega) hi]
theorem lgP_le {gap : F8} {r lost le : Nat} {ru he : Nat → F8} (h : r + lost ≤ 10) (hle : le ≤ 10) : (lgP gap r lost ru he le).2 ≤ 10 := by
  unfold lgP
  split
  · show r + lost - le ≤ 10
    omega
  · exact hle
abbrev BS : Type := (Nat → F8) × (Nat → F8) × Nat
def bst (sy : Nat → F8) (lost r : Nat) (st : BS) : BS := if gapF st.1 sy r = 0 then (st.1, shH st.2.1, st.2.2) else (lgR (gapF st.1 sy r) st.1 (shH st.2.1), (lgP (gapF st.1 sy r) r lost st.1 (shH st.2.1) st.2.2).1, (lgP (gapF st.1 sy r) r lost st.1 (shH st.2.1) st.2.2).2)
def bsb (sy : Nat → F8) (r : Nat) (st : BS) (be : Nat → F8) : Nat → F8 := if gapF st.1 sy r = 0 then be else st.1
def bmm (sy : Nat → F8) (lost : Nat) : Nat → Nat → BS → BS
  | 0, _, st => st
  | n + 1, r, st => bmm sy lost n (r + 1) (bst sy lost r st)
def bmb (sy : Nat → F8) (lost : Nat) : Nat → Nat → BS → (Nat → F8) → Nat → F8
  | 0, _, _, be => be
  | n + 1, r, st, be => bmb sy lost n (r + 1) (bst sy lost r st) (bsb sy r st be)
set_option maxHeartbeats 4000000 in
theorem lo_bA {p : Program} {l : Launch} {e : Env} {s : State} {m : MethodId} {args : Array Value} {below : List Frame} {meth : Method} {c : Code} {Q : State → Prop} {D : va_G} {dA dZ : ClassId} {A : Nat → Prop} {ad : Nat → Nat} {w : Nat → F8} {g : Nat → Bool} {sy ru he be nu : Nat → F8} {le : Nat} {wh : Nat → F8} {di : Nat} {lost : Nat} (S : CallFix p m c cX0_buildRule 5 s args lw_all RX0)  (kk : ∀ (H : Heap) (locs : List Loc) (ls : Array Slot), lv_has ls 5 [(0, .ref (ad 0)), (1, .int (nI lost))] → Wd D dA dZ A s (wM dA dZ ad w g sy one0 he be nu le wh di) H locs → W p l e (rk 2) s m args below meth c H locs 0 0 Q (F0 m 29 ls [])) : ∀ (n k : Nat), k + n = 10 → ∀ (H : Heap) (locs : List Loc) (ls : Array Slot), lv_has ls 5 [(0, .ref (ad 0)), (1, .int (nI lost)), (2, .int (nI k))] → Wd D dA dZ A s (wM dA dZ ad w g sy (mx k one0 ru) he be nu le wh di) H locs → W p l e (rk 2) s m args below meth c H locs 0 0 Q (F0 m 2 ls []) := by
  intro n
  induction n with
  | zero =>
    intro k hk H locs ls hl hw
    refine ir_ild_n S dX0_buildRule_2 hl 2 rfl ?_
    refine ir_bi S dX0_buildRule_3 ((nI 10)) (by decide) ?_
    refine ir_cge 29 S dX0_buildRule_5 (by decide) (by omega) (by omega) (fun hc => ?_) (fun hc => absurd hc (by omega))
    obtain rfl : k = 10 := by omega
    exact kk H locs ls (lv_sub hl [0, 1] rfl) (hw.cg (wM_eq e_rf e_rf e_rf (fun i hi => mx_lt hi) e_rf e_rf e_rf e_rf))
  | succ n ih =>
    intro k hk H locs ls hl hw
    refine ir_ild_n S dX0_buildRule_2 hl 2 rfl ?_
    refine ir_bi S dX0_buildRule_3 ((nI 10)) (by decide) ?_
    refine ir_cge 29 S dX0_buildRule_5 (by decide) (by omega) (by omega) (fun hc => absurd hc (by omega)) (fun hc => ?_)
    refine ir_ald_n S dX0_buildRule_8 hl 0 rfl ?_
    refine g0_rule S dX0_buildRule_9 hw ?_
    refine ir_ild_n S dX0_buildRule_12 hl 2 rfl ?_
    have k1 : ∀ v : F8, v = one0 k → W p l e (rk 2) s m args below meth c H locs 0 0 Q (F0 m 22 ls [.int (nI v.val), .int (nI k), .ref (ad 6)]) := by
      intro v hv
      refine ir_is (w1 := (wM dA dZ ad w g sy (mx (k + 1) one0 ru) he be nu le wh di)) S dX0_buildRule_22 hw 6 rfl (by omega) (by decide) (mx (k + 1) one0 ru) (fun i _ => mx_up hv i) rfl (fun H locs hw => ?_)
      refine ir_inc (lv1 := [(0, .ref (ad 0)), (1, .int (nI lost)), (2, .int (nI (k + 1)))]) S dX0_buildRule_23 hl 2 rfl [1, 2, 0] (by decide) rfl (fun ls hl => ?_)
      refine ir_goto 2 S dX0_buildRule_26 (by decide) ?_
      exact ih (k + 1) (by omega) H locs ls hl hw
    refine ir_ild_n S dX0_buildRule_13 hl 2 rfl ?_
    refine ir_neN 21 S dX0_buildRule_14 (by decide) (by omega) (fun hc => ?_) (fun hc => ?_)
    · refine ir_ic S dX0_buildRule_21 ((nI ((0 : F8)).val)) (by decide) ?_
      exact k1 0 (by simp only [one0]; rw [if_neg (by omega)])
    · refine ir_ic S dX0_buildRule_17 ((nI ((1 : F8)).val)) (by decide) ?_
      refine ir_goto 22 S dX0_buildRule_18 (by decide) ?_
      exact k1 1 (by simp only [one0]; rw [if_pos hc])
set_option maxHeartbeats 4000000 in
theorem lo_bC {p : Program} {l : Launch} {e : Env} {s : State} {m : MethodId} {args : Array Value} {below : List Frame} {meth : Method} {c : Code} {Q : State → Prop} {D : va_G} {dA dZ : ClassId} {A : Nat → Prop} {ad : Nat → Nat} {w : Nat → F8} {g : Nat → Bool} {sy ru he be nu : Nat → F8} {le : Nat} {wh : Nat → F8} {di : Nat} {lost pl : Nat} (hpl : pl < 7) (hg : g pl = true) (S : CallFix p m c cX0_buildRule 5 s args lw_all RX0) (kk : ∀ (H : Heap) (locs : List Loc) (ls : Array Slot), lv_has ls 5 [(0, .ref (ad 0)), (1, .int (nI lost)), (2, .int (nI pl))] → Wd D dA dZ A s (wM dA dZ ad w g sy (er pl ru) he be nu le wh di) H locs → W p l e (rk 2) s m args below meth c H locs 0 0 Q (F0 m 86 ls [])) : ∀ (k : Nat), k ≤ 9 → ∀ (H : Heap) (locs : List Loc) (ls : Array Slot), lv_has ls 5 [(0, .ref (ad 0)), (1, .int (nI lost)), (2, .int (nI pl)), (3, .int (nI k))] → Wd D dA dZ A s (wM dA dZ ad w g sy (md (k + 1) 10 (erF pl ru) ru) he be nu le wh di) H locs → W p l e (rk 2) s m args below meth c H locs 0 0 Q (F0 m 40 ls []) := by
  intro k
  induction k with
  | zero =>
    intro hk H locs ls hl hw
    refine ir_ild_n S dX0_buildRule_40 hl 3 rfl ?_
    refine ir_leN 86 S dX0_buildRule_41 (by decide) (by omega) (fun hc => ?_) (fun hc => absurd hc (by omega))
    exact kk H locs ls (lv_sub hl [0, 1, 2] rfl) hw
  | succ k ih =>
    intro hk H locs ls hl hw
    refine ir_ild_n S dX0_buildRule_40 hl 3 rfl ?_
    refine ir_leN 86 S dX0_buildRule_41 (by decide) (by omega) (fun hc => absurd hc (by omega)) (fun hc => ?_)
    refine ir_ald_n S dX0_buildRule_44 hl 0 rfl ?_
    refine g0_missing S dX0_buildRule_45 hw ?_
    refine ir_ild_n S dX0_buildRule_48 hl 2 rfl ?_
    refine ir_za S dX0_buildRule_49 hw 2 rfl (by omega) (by decide) ?_
    refine ir_eqB 86 S dX0_buildRule_50 (by decide)  (fun hc => absurd (hg.symm.trans hc) (by decide)) (fun hc => ?_)
    refine ir_ald_n S dX0_buildRule_53 hl 0 rfl ?_
    refine g0_rule S dX0_buildRule_54 hw ?_
    refine ir_ild_n S dX0_buildRule_57 hl 3 rfl ?_
    refine ir_dup2 S dX0_buildRule_58 rfl rfl ?_
    refine ir_ia S dX0_buildRule_59 hw 6 rfl (by omega) (by decide) ?_
    refine ir_ald_n S dX0_buildRule_60 hl 0 rfl ?_
    refine ir_ald_n S dX0_buildRule_61 hl 0 rfl ?_
    refine g0_rule S dX0_buildRule_62 hw ?_
    refine ir_ild_n S dX0_buildRule_65 hl 3 rfl ?_
    refine ir_ic S dX0_buildRule_66 ((nI 1)) (by decide) ?_
    refine ir_sub S dX0_buildRule_67 (by omega) ?_
    refine ir_ia S dX0_buildRule_68 hw 6 rfl (by omega) (by decide) ?_
    refine ir_ald_n S dX0_buildRule_69 hl 0 rfl ?_
    refine g0_power S dX0_buildRule_70 hw ?_
    refine ir_ild_n S dX0_buildRule_73 hl 2 rfl ?_
    refine ir_ia S dX0_buildRule_74 hw 3 rfl (by omega) (by decide) ?_
    refine c_times  S dX0_buildRule_75 (by decide) (by decide) hw hl (Nat.le_of_ble_eq_true rfl) (fun H locs hw => ?_)
    refine ir_xor S dX0_buildRule_78 ?_
    refine ir_is (w1 := (wM dA dZ ad w g sy (md (k + 1) 10 (erF pl ru) ru) he be nu le wh di)) S dX0_buildRule_79 hw 6 rfl (by omega) (by decide) (md (k + 1) 10 (erF pl ru) ru) (fun i _ => md_up (by rw [md_lo (by omega), md_lo (by omega)]; rfl) (by omega) i) rfl (fun H locs hw => ?_)
    refine ir_dec (lv1 := [(0, .ref (ad 0)), (1, .int (nI lost)), (2, .int (nI pl)), (3, .int (nI k))]) S dX0_buildRule_80 hl 3 rfl [1, 2, 3, 0] (by decide) rfl (fun ls hl => ?_)
    refine ir_goto 40 S dX0_buildRule_83 (by decide) ?_
    exact ih (by omega) H locs ls hl hw
set_option maxHeartbeats 4000000 in
theorem lo_bB {p : Program} {l : Launch} {e : Env} {s : State} {m : MethodId} {args : Array Value} {below : List Frame} {meth : Method} {c : Code} {Q : State → Prop} {D : va_G} {dA dZ : ClassId} {A : Nat → Prop} {ad : Nat → Nat} {w : Nat → F8} {g : Nat → Bool} {sy ru he be nu : Nat → F8} {le : Nat} {wh : Nat → F8} {di : Nat} {lost : Nat} (S : CallFix p m c cX0_buildRule 5 s args lw_all RX0)  (kk : ∀ (H : Heap) (locs : List Loc) (ls : Array Slot), lv_has ls 5 [(0, .ref (ad 0)), (1, .int (nI lost))] → Wd D dA dZ A s (wM dA dZ ad w g sy (eR g 7) he be nu le wh di) H locs → W p l e (rk 2) s m args below meth c H locs 0 0 Q (F0 m 92 ls [])) : ∀ (n k : Nat), k + n = 7 → ∀ (H : Heap) (locs : List Loc) (ls : Array Slot), lv_has ls 5 [(0, .ref (ad 0)), (1, .int (nI lost)), (2, .int (nI k))] → Wd D dA dZ A s (wM dA dZ ad w g sy (eR g k) he be nu le wh di) H locs → W p l e (rk 2) s m args below meth c H locs 0 0 Q (F0 m 31 ls []) := by
  intro n
  induction n with
  | zero =>
    intro k hk H locs ls hl hw
    refine ir_ild_n S dX0_buildRule_31 hl 2 rfl ?_
    refine ir_bi S dX0_buildRule_32 ((nI 7)) (by decide) ?_
    refine ir_cge 92 S dX0_buildRule_34 (by decide) (by omega) (by omega) (fun hc => ?_) (fun hc => absurd hc (by omega))
    obtain rfl : k = 7 := by omega
    exact kk H locs ls (lv_sub hl [0, 1] rfl) hw
  | succ n ih =>
    intro k hk H locs ls hl hw
    refine ir_ild_n S dX0_buildRule_31 hl 2 rfl ?_
    refine ir_bi S dX0_buildRule_32 ((nI 7)) (by decide) ?_
    refine ir_cge 92 S dX0_buildRule_34 (by decide) (by omega) (by omega) (fun hc => absurd hc (by omega)) (fun hc => ?_)
    refine ir_bi S dX0_buildRule_37 ((nI 9)) (by decide) ?_
    refine ir_st_n (lv1 := [(0, .ref (ad 0)), (1, .int (nI lost)), (2, .int (nI k)), (3, .int (nI 9))]) S dX0_buildRule_39 hl [1, 2, 3, 0] (by decide) rfl (fun ls hl => ?_)
    cases hg : g k with
    | true =>
      refine lo_bC (by omega) hg S (fun H locs ls hl hw => ?_) 9 (by omega) H locs ls hl (hw.cg (by rw [md_e]))
      refine ir_inc (lv1 := [(0, .ref (ad 0)), (1, .int (nI lost)), (2, .int (nI (k + 1)))]) S dX0_buildRule_86 hl 2 rfl [1, 2, 0] (by decide) rfl (fun ls hl => ?_)
      refine ir_goto 31 S dX0_buildRule_89 (by decide) ?_
      exact ih (k + 1) (by omega) H locs ls hl (hw.cg (by rw [show eR g (k + 1) = er k (eR g k) from if_pos hg]))
    | false =>
      refine ir_ild_n S dX0_buildRule_40 hl 3 rfl ?_
      refine ir_leN 86 S dX0_buildRule_41 (by decide) (by omega) (fun hc => absurd hc (by omega)) (fun hc => ?_)
      refine ir_ald_n S dX0_buildRule_44 hl 0 rfl ?_
      refine g0_missing S dX0_buildRule_45 hw ?_
      refine ir_ild_n S dX0_buildRule_48 hl 2 rfl ?_
      refine ir_za S dX0_buildRule_49 hw 2 rfl (by omega) (by decide) ?_
      refine ir_eqB 86 S dX0_buildRule_50 (by decide)  (fun hc => ?_) (fun hc => absurd (hg.symm.trans hc) (by decide))
      refine ir_inc (lv1 := [(0, .ref (ad 0)), (1, .int (nI lost)), (2, .int (nI (k + 1))), (3, .int (nI 9))]) S dX0_buildRule_86 hl 2 rfl [1, 2, 0, 3] (by decide) rfl (fun ls hl => ?_)
      refine ir_goto 31 S dX0_buildRule_89 (by decide) ?_
      exact ih (k + 1) (by omega) H locs ls (lv_sub hl [0, 1, 2] rfl) (hw.cg (by rw [show eR g (k + 1) = eR g k from if_neg (by rw [hg]; decide)]))
set_option maxHeartbeats 4000000 in
theorem lo_bD {p : Program} {l : Launch} {e : Env} {s : State} {m : MethodId} {args : Array Value} {below : List Frame} {meth : Method} {c : Code} {Q : State → Prop} {D : va_G} {dA dZ : ClassId} {A : Nat → Prop} {ad : Nat → Nat} {w : Nat → F8} {g : Nat → Bool} {sy ru he be nu : Nat → F8} {le : Nat} {wh : Nat → F8} {di : Nat} {lost : Nat} (S : CallFix p m c cX0_buildRule 5 s args lw_all RX0)  (kk : ∀ (H : Heap) (locs : List Loc) (ls : Array Slot), lv_has ls 5 [(0, .ref (ad 0)), (1, .int (nI lost))] → Wd D dA dZ A s (wM dA dZ ad w g sy ru ru be nu le wh di) H locs → W p l e (rk 2) s m args below meth c H locs 0 0 Q (F0 m 118 ls [])) : ∀ (n k : Nat), k + n = 10 → ∀ (H : Heap) (locs : List Loc) (ls : Array Slot), lv_has ls 5 [(0, .ref (ad 0)), (1, .int (nI lost)), (2, .int (nI k))] → Wd D dA dZ A s (wM dA dZ ad w g sy ru (mx k ru he) be nu le wh di) H locs → W p l e (rk 2) s m args below meth c H locs 0 0 Q (F0 m 94 ls []) := by
  intro n
  induction n with
  | zero =>
    intro k hk H locs ls hl hw
    refine ir_ild_n S dX0_buildRule_94 hl 2 rfl ?_
    refine ir_bi S dX0_buildRule_95 ((nI 10)) (by decide) ?_
    refine ir_cge 118 S dX0_buildRule_97 (by decide) (by omega) (by omega) (fun hc => ?_) (fun hc => absurd hc (by omega))
    obtain rfl : k = 10 := by omega
    exact kk H locs ls (lv_sub hl [0, 1] rfl) (hw.cg (wM_eq e_rf e_rf e_rf e_rf (fun i hi => mx_lt hi) e_rf e_rf e_rf))
  | succ n ih =>
    intro k hk H locs ls hl hw
    refine ir_ild_n S dX0_buildRule_94 hl 2 rfl ?_
    refine ir_bi S dX0_buildRule_95 ((nI 10)) (by decide) ?_
    refine ir_cge 118 S dX0_buildRule_97 (by decide) (by omega) (by omega) (fun hc => absurd hc (by omega)) (fun hc => ?_)
    refine ir_ald_n S dX0_buildRule_100 hl 0 rfl ?_
    refine g0_helper S dX0_buildRule_101 hw ?_
    refine ir_ild_n S dX0_buildRule_104 hl 2 rfl ?_
    refine ir_ald_n S dX0_buildRule_105 hl 0 rfl ?_
    refine g0_rule S dX0_buildRule_106 hw ?_
    refine ir_ild_n S dX0_buildRule_109 hl 2 rfl ?_
    refine ir_ia S dX0_buildRule_110 hw 6 rfl (by omega) (by decide) ?_
    refine ir_is (w1 := (wM dA dZ ad w g sy ru (mx (k + 1) ru he) be nu le wh di)) S dX0_buildRule_111 hw 7 rfl (by omega) (by decide) (mx (k + 1) ru he) (fun i _ => mx_up rfl i) rfl (fun H locs hw => ?_)
    refine ir_inc (lv1 := [(0, .ref (ad 0)), (1, .int (nI lost)), (2, .int (nI (k + 1)))]) S dX0_buildRule_112 hl 2 rfl [1, 2, 0] (by decide) rfl (fun ls hl => ?_)
    refine ir_goto 94 S dX0_buildRule_115 (by decide) ?_
    exact ih (k + 1) (by omega) H locs ls hl hw
set_option maxHeartbeats 4000000 in
theorem lo_bF {p : Program} {l : Launch} {e : Env} {s : State} {m : MethodId} {args : Array Value} {below : List Frame} {meth : Method} {c : Code} {Q : State → Prop} {D : va_G} {dA dZ : ClassId} {A : Nat → Prop} {ad : Nat → Nat} {w : Nat → F8} {g : Nat → Bool} {sy ru he be nu : Nat → F8} {le : Nat} {wh : Nat → F8} {di : Nat} {lost r : Nat} (hr4 : r ≤ 4) (S : CallFix p m c cX0_buildRule 5 s args lw_all RX0) (kk : ∀ (H : Heap) (locs : List Loc) (ls : Array Slot), lv_has ls 5 [(0, .ref (ad 0)), (1, .int (nI lost)), (2, .int (nI r)), (3, .int (nI (gapF ru sy r).val))] → Wd D dA dZ A s (wM dA dZ ad w g sy ru he be nu le wh di) H locs → W p l e (rk 2) s m args below meth c H locs 0 0 Q (F0 m 172 ls [])) : ∀ (n k : Nat), k + n = r → ∀ (H : Heap) (locs : List Loc) (ls : Array Slot), lv_has ls 5 [(0, .ref (ad 0)), (1, .int (nI lost)), (2, .int (nI r)), (3, .int (nI (xs (gapT ru sy r) k).val)), (4, .int (nI k))] → Wd D dA dZ A s (wM dA dZ ad w g sy ru he be nu le wh di) H locs → W p l e (rk 2) s m args below meth c H locs 0 0 Q (F0 m 137 ls []) := by
  intro n
  induction n with
  | zero =>
    intro k hk H locs ls hl hw
    refine ir_ild S dX0_buildRule_137 hl 4 rfl ?_
    refine ir_ild_n S dX0_buildRule_139 hl 2 rfl ?_
    refine ir_cge 172 S dX0_buildRule_140 (by decide) (by omega) (by omega) (fun hc => ?_) (fun hc => absurd hc (by omega))
    obtain rfl : k = r := by omega
    exact kk H locs ls (lv_sub hl [0, 1, 2, 3] rfl) hw
  | succ n ih =>
    intro k hk H locs ls hl hw
    refine ir_ild S dX0_buildRule_137 hl 4 rfl ?_
    refine ir_ild_n S dX0_buildRule_139 hl 2 rfl ?_
    refine ir_cge 172 S dX0_buildRule_140 (by decide) (by omega) (by omega) (fun hc => absurd hc (by omega)) (fun hc => ?_)
    refine ir_ild_n S dX0_buildRule_143 hl 3 rfl ?_
    refine ir_ald_n S dX0_buildRule_144 hl 0 rfl ?_
    refine ir_ald_n S dX0_buildRule_145 hl 0 rfl ?_
    refine g0_rule S dX0_buildRule_146 hw ?_
    refine ir_ild S dX0_buildRule_149 hl 4 rfl ?_
    refine ir_ia S dX0_buildRule_151 hw 6 rfl (by omega) (by decide) ?_
    refine ir_ald_n S dX0_buildRule_152 hl 0 rfl ?_
    refine g0_syndrome S dX0_buildRule_153 hw ?_
    refine ir_ild_n S dX0_buildRule_156 hl 2 rfl ?_
    refine ir_ild S dX0_buildRule_157 hl 4 rfl ?_
    refine ir_sub S dX0_buildRule_159 (by omega) ?_
    refine ir_ia S dX0_buildRule_160 hw 5 rfl (by omega) (by decide) ?_
    refine c_times  S dX0_buildRule_161 (by decide) (by decide) hw hl (Nat.le_of_ble_eq_true rfl) (fun H locs hw => ?_)
    refine ir_xor S dX0_buildRule_164 ?_
    refine ir_st_n (lv1 := [(0, .ref (ad 0)), (1, .int (nI lost)), (2, .int (nI r)), (3, .int (nI (gx (xs (gapT ru sy r) k) (gm (ru k) (sy (r - k)))).val)), (4, .int (nI k))]) S dX0_buildRule_165 hl [1, 2, 3, 0, 4] (by decide) rfl (fun ls hl => ?_)
    refine ir_inc (lv1 := [(0, .ref (ad 0)), (1, .int (nI lost)), (2, .int (nI r)), (3, .int (nI (gx (xs (gapT ru sy r) k) (gm (ru k) (sy (r - k)))).val)), (4, .int (nI (k + 1)))]) S dX0_buildRule_166 hl 4 rfl [1, 2, 3, 4, 0] (by decide) rfl (fun ls hl => ?_)
    refine ir_goto 137 S dX0_buildRule_169 (by decide) ?_
    exact ih (k + 1) (by omega) H locs ls hl hw
set_option maxHeartbeats 4000000 in
theorem lo_bG {p : Program} {l : Launch} {e : Env} {s : State} {m : MethodId} {args : Array Value} {below : List Frame} {meth : Method} {c : Code} {Q : State → Prop} {D : va_G} {dA dZ : ClassId} {A : Nat → Prop} {ad : Nat → Nat} {w : Nat → F8} {g : Nat → Bool} {sy ru he be nu : Nat → F8} {le : Nat} {wh : Nat → F8} {di : Nat} {lost r : Nat} {gap : F8} (S : CallFix p m c cX0_buildRule 5 s args lw_all RX0) (kk : ∀ (H : Heap) (locs : List Loc) (ls : Array Slot), lv_has ls 5 [(0, .ref (ad 0)), (1, .int (nI lost)), (2, .int (nI r)), (3, .int (nI gap.val))] → Wd D dA dZ A s (wM dA dZ ad w g sy ru (shH he) be nu le wh di) H locs → W p l e (rk 2) s m args below meth c H locs 0 0 Q (F0 m 210 ls [])) : ∀ (k : Nat), k ≤ 9 → ∀ (H : Heap) (locs : List Loc) (ls : Array Slot), lv_has ls 5 [(0, .ref (ad 0)), (1, .int (nI lost)), (2, .int (nI r)), (3, .int (nI gap.val)), (4, .int (nI k))] → Wd D dA dZ A s (wM dA dZ ad w g sy ru (md (k + 1) 10 (shH he) he) be nu le wh di) H locs → W p l e (rk 2) s m args below meth c H locs 0 0 Q (F0 m 176 ls []) := by
  intro k
  induction k with
  | zero =>
    intro hk H locs ls hl hw
    refine ir_ild S dX0_buildRule_176 hl 4 rfl ?_
    refine ir_leN 203 S dX0_buildRule_178 (by decide) (by omega) (fun hc => ?_) (fun hc => absurd hc (by omega))
    refine ir_ald_n S dX0_buildRule_203 hl 0 rfl ?_
    refine g0_helper S dX0_buildRule_204 hw ?_
    refine ir_ic S dX0_buildRule_207 ((nI 0)) (by decide) ?_
    refine ir_ic S dX0_buildRule_208 ((nI ((0 : F8)).val)) (by decide) ?_
    refine ir_is (w1 := (wM dA dZ ad w g sy ru (shH he) be nu le wh di)) S dX0_buildRule_209 hw 7 rfl (by omega) (by decide) (shH he) (shH_up he) rfl (fun H locs hw => ?_)
    exact kk H locs ls (lv_sub hl [0, 1, 2, 3] rfl) hw
  | succ k ih =>
    intro hk H locs ls hl hw
    refine ir_ild S dX0_buildRule_176 hl 4 rfl ?_
    refine ir_leN 203 S dX0_buildRule_178 (by decide) (by omega) (fun hc => absurd hc (by omega)) (fun hc => ?_)
    refine ir_ald_n S dX0_buildRule_181 hl 0 rfl ?_
    refine g0_helper S dX0_buildRule_182 hw ?_
    refine ir_ild S dX0_buildRule_185 hl 4 rfl ?_
    refine ir_ald_n S dX0_buildRule_187 hl 0 rfl ?_
    refine g0_helper S dX0_buildRule_188 hw ?_
    refine ir_ild S dX0_buildRule_191 hl 4 rfl ?_
    refine ir_ic S dX0_buildRule_193 ((nI 1)) (by decide) ?_
    refine ir_sub S dX0_buildRule_194 (by omega) ?_
    refine ir_ia S dX0_buildRule_195 hw 7 rfl (by omega) (by decide) ?_
    refine ir_is (w1 := (wM dA dZ ad w g sy ru (md (k + 1) 10 (shH he) he) be nu le wh di)) S dX0_buildRule_196 hw 7 rfl (by omega) (by decide) (md (k + 1) 10 (shH he) he) (fun i _ => md_up (by rw [md_lo (by omega)]; exact (if_neg (by omega)).symm) (by omega) i) rfl (fun H locs hw => ?_)
    refine ir_dec (lv1 := [(0, .ref (ad 0)), (1, .int (nI lost)), (2, .int (nI r)), (3, .int (nI gap.val)), (4, .int (nI k))]) S dX0_buildRule_197 hl 4 rfl [1, 2, 3, 4, 0] (by decide) rfl (fun ls hl => ?_)
    refine ir_goto 176 S dX0_buildRule_200 (by decide) ?_
    exact ih (by omega) H locs ls hl hw
set_option maxHeartbeats 4000000 in
theorem lo_bE {p : Program} {l : Launch} {e : Env} {s : State} {m : MethodId} {args : Array Value} {below : List Frame} {meth : Method} {c : Code} {D : va_G} {dA dZ : ClassId} {A : Nat → Prop} {ad : Nat → Nat} {w : Nat → F8} {g : Nat → Bool} {sy nu : Nat → F8} {wh : Nat → F8} {di : Nat} {lost : Nat} (hlo : lost ≤ 4) (S : CallFix p m c cX0_buildRule 5 s args lw_all RX0) (hr : meth.sig.returnType = none) (hlk : meth.locks = false) : ∀ (n r : Nat), r + n = 5 → 1 ≤ r → ∀ (ru he be : Nat → F8) (le : Nat), le ≤ 10 → ∀ (H : Heap) (locs : List Loc) (ls : Array Slot), lv_has ls 5 [(0, .ref (ad 0)), (1, .int (nI lost)), (2, .int (nI r))] → Wd D dA dZ A s (wM dA dZ ad w g sy ru he be nu le wh di) H locs → W p l e (rk 2) s m args below meth c H locs 0 0 (EV D dA dZ (wM dA dZ ad w g sy ((bmm sy lost n r (ru, he, le)).1) ((bmm sy lost n r (ru, he, le)).2.1) (bmb sy lost n r (ru, he, le) be) nu ((bmm sy lost n r (ru, he, le)).2.2) wh di) A below args s) (F0 m 127 ls []) := by
  intro n
  induction n with
  | zero =>
    intro r hr5 hr1 ru he be le hle H locs ls hl hw
    refine ir_ild_n S dX0_buildRule_127 hl 2 rfl ?_
    refine ir_ic S dX0_buildRule_128 ((nI 5)) (by decide) ?_
    refine ir_cge 227 S dX0_buildRule_129 (by decide) (by omega) (by omega) (fun hc => ?_) (fun hc => absurd hc (by omega))
    exact re_V S dX0_buildRule_227 hr hlk hw
  | succ n ih =>
    intro r hr5 hr1 ru he be le hle H locs ls hl hw
    refine ir_ild_n S dX0_buildRule_127 hl 2 rfl ?_
    refine ir_ic S dX0_buildRule_128 ((nI 5)) (by decide) ?_
    refine ir_cge 227 S dX0_buildRule_129 (by decide) (by omega) (by omega) (fun hc => absurd hc (by omega)) (fun hc => ?_)
    refine ir_ic S dX0_buildRule_132 ((nI ((0 : F8)).val)) (by decide) ?_
    refine ir_st_n (lv1 := [(0, .ref (ad 0)), (1, .int (nI lost)), (2, .int (nI r)), (3, .int (nI ((0 : F8)).val))]) S dX0_buildRule_133 hl [1, 2, 3, 0] (by decide) rfl (fun ls hl => ?_)
    refine ir_ic S dX0_buildRule_134 ((nI 0)) (by decide) ?_
    refine ir_st (lv1 := [(0, .ref (ad 0)), (1, .int (nI lost)), (2, .int (nI r)), (3, .int (nI ((0 : F8)).val)), (4, .int (nI 0))]) S dX0_buildRule_135 hl [1, 2, 3, 4, 0] (by decide) rfl (fun ls hl => ?_)
    refine lo_bF (r := r) (by omega) S (fun H locs ls hl hw => ?_) r 0 (by omega) H locs ls hl hw
    refine ir_bi S dX0_buildRule_172 ((nI 9)) (by decide) ?_
    refine ir_st (lv1 := [(0, .ref (ad 0)), (1, .int (nI lost)), (2, .int (nI r)), (3, .int (nI (gapF ru sy r).val)), (4, .int (nI 9))]) S dX0_buildRule_174 hl [1, 2, 3, 4, 0] (by decide) rfl (fun ls hl => ?_)
    refine lo_bG S (fun H locs ls hl hw => ?_) 9 (by omega) H locs ls hl (hw.cg (by rw [md_e]))
    refine ir_ild_n S dX0_buildRule_210 hl 3 rfl ?_
    refine ir_eq8 221 S dX0_buildRule_211 (by decide)  (fun hc => ?_) (fun hc => ?_)
    · refine ir_inc (lv1 := [(0, .ref (ad 0)), (1, .int (nI lost)), (2, .int (nI (r + 1))), (3, .int (nI (gapF ru sy r).val))]) S dX0_buildRule_221 hl 2 rfl [1, 2, 0, 3] (by decide) rfl (fun ls hl => ?_)
      refine ir_goto 127 S dX0_buildRule_224 (by decide) ?_
      have e1 : bmm sy lost (n + 1) r (ru, he, le) = bmm sy lost n (r + 1) (ru, shH he, le) := by show bmm sy lost n (r + 1) (bst sy lost r (ru, he, le)) = _; rw [show bst sy lost r (ru, he, le) = (ru, shH he, le) from if_pos hc]
      have e2 : bmb sy lost (n + 1) r (ru, he, le) be = bmb sy lost n (r + 1) (ru, shH he, le) be := by show bmb sy lost n (r + 1) (bst sy lost r (ru, he, le)) (bsb sy r (ru, he, le) be) = _; rw [show bst sy lost r (ru, he, le) = (ru, shH he, le) from if_pos hc, show bsb sy r (ru, he, le) be = be from if_pos hc]
      rw [e1, e2]
      exact ih (r + 1) (by omega) (by omega) ru (shH he) be le hle H locs ls (lv_sub hl [0, 1, 2] rfl) hw
    · refine ir_ald_n S dX0_buildRule_214 hl 0 rfl ?_
      refine ir_ild_n S dX0_buildRule_215 hl 3 rfl ?_
      refine ir_ild_n S dX0_buildRule_216 hl 2 rfl ?_
      refine ir_ild_n S dX0_buildRule_217 hl 1 rfl ?_
      refine c_lengthen S dX0_buildRule_218 (by decide) (by decide) hw hl (Nat.le_of_ble_eq_true rfl) hr1 (by omega) (by omega) hle (fun H locs hw => ?_)
      refine ir_inc (lv1 := [(0, .ref (ad 0)), (1, .int (nI lost)), (2, .int (nI (r + 1))), (3, .int (nI (gapF ru sy r).val))]) S dX0_buildRule_221 hl 2 rfl [1, 2, 0, 3] (by decide) rfl (fun ls hl => ?_)
      refine ir_goto 127 S dX0_buildRule_224 (by decide) ?_
      have e0 : bst sy lost r (ru, he, le) = (lgR (gapF ru sy r) ru (shH he), (lgP (gapF ru sy r) r lost ru (shH he) le).1, (lgP (gapF ru sy r) r lost ru (shH he) le).2) := if_neg hc
      have e1 : bmm sy lost (n + 1) r (ru, he, le) = bmm sy lost n (r + 1) (lgR (gapF ru sy r) ru (shH he), (lgP (gapF ru sy r) r lost ru (shH he) le).1, (lgP (gapF ru sy r) r lost ru (shH he) le).2) := by show bmm sy lost n (r + 1) (bst sy lost r (ru, he, le)) = _; rw [e0]
      have e2 : bmb sy lost (n + 1) r (ru, he, le) be = bmb sy lost n (r + 1) (lgR (gapF ru sy r) ru (shH he), (lgP (gapF ru sy r) r lost ru (shH he) le).1, (lgP (gapF ru sy r) r lost ru (shH he) le).2) ru := by show bmb sy lost n (r + 1) (bst sy lost r (ru, he, le)) (bsb sy r (ru, he, le) be) = _; rw [e0, show bsb sy r (ru, he, le) be = ru from if_neg hc]
      rw [e1, e2]
      exact ih (r + 1) (by omega) (by omega) _ _ _ _ (lgP_le (by omega) hle) H locs ls (lv_sub hl [0, 1, 2] rfl) hw
def bR (g : Nat → Bool) (sy : Nat → F8) (lost : Nat) : BS := bmm sy lost (4 - lost) (lost + 1) (eR g 7, eR g 7, lost)
def bB (g : Nat → Bool) (sy : Nat → F8) (lost : Nat) (be : Nat → F8) : Nat → F8 := bmb sy lost (4 - lost) (lost + 1) (eR g 7, eR g 7, lost) be
set_option maxHeartbeats 4000000 in
theorem ct_buildRule (l : Launch) (D : va_G) (dA dZ : ClassId) (ad : Nat → Nat) (w : Nat → F8) (g : Nat → Bool) (sy ru he be nu : Nat → F8) (le : Nat) (wh : Nat → F8) (di : Nat) (lost : Nat) (hlo : lost ≤ 4) : CtV l D dA dZ yX0_buildRule cX0_buildRule 5 none 2 [.ref (ad 0), .int (nI lost)] (wM dA dZ ad w g sy ru he be nu le wh di) (wM dA dZ ad w g sy ((bR g sy lost).1) ((bR g sy lost).2.1) (bB g sy lost be) nu ((bR g sy lost).2.2) wh di) := by
  refine CtV.of (by decide) (Nat.le_of_ble_eq_true rfl) ?_
  intro p e s m args below meth c A H locs ls S hr hlk hl hw
  have hl : lv_has ls 5 [(0, .ref (ad 0)), (1, .int (nI lost))] := hl
  refine ir_ic S dX0_buildRule_0 ((nI 0)) (by decide) ?_
  refine ir_st_n (lv1 := [(0, .ref (ad 0)), (1, .int (nI lost)), (2, .int (nI 0))]) S dX0_buildRule_1 hl [1, 2, 0] (by decide) rfl (fun ls hl => ?_)
  refine lo_bA S (fun H locs ls hl hw => ?_) 10 0 rfl _ _ ls hl (hw.cg (by rw [mx_0]))
  refine ir_ic S dX0_buildRule_29 ((nI 0)) (by decide) ?_
  refine ir_st_n (lv1 := [(0, .ref (ad 0)), (1, .int (nI lost)), (2, .int (nI 0))]) S dX0_buildRule_30 hl [1, 2, 0] (by decide) rfl (fun ls hl => ?_)
  refine lo_bB (ru := ru) S (fun H locs ls hl hw => ?_) 7 0 rfl _ _ ls hl hw
  refine ir_ic S dX0_buildRule_92 ((nI 0)) (by decide) ?_
  refine ir_st_n (lv1 := [(0, .ref (ad 0)), (1, .int (nI lost)), (2, .int (nI 0))]) S dX0_buildRule_93 hl [1, 2, 0] (by decide) rfl (fun ls hl => ?_)
  refine lo_bD S (fun H locs ls hl hw => ?_) 10 0 rfl _ _ ls hl (hw.cg (by rw [mx_0]))
  refine ir_ald_n S dX0_buildRule_118 hl 0 rfl ?_
  refine ir_ild_n S dX0_buildRule_119 hl 1 rfl ?_
  refine p0_length S dX0_buildRule_120 hw (fun H locs hw => ?_)
  refine ir_ild_n S dX0_buildRule_123 hl 1 rfl ?_
  refine ir_ic S dX0_buildRule_124 ((nI 1)) (by decide) ?_
  refine ir_add S dX0_buildRule_125 ?_
  refine ir_st_n (lv1 := [(0, .ref (ad 0)), (1, .int (nI lost)), (2, .int (nI (lost + 1)))]) S dX0_buildRule_126 hl [1, 2, 0] (by decide) rfl (fun ls hl => ?_)
  exact lo_bE hlo S hr hlk (4 - lost) (lost + 1) (by omega) (by omega) (eR g 7) (eR g 7) be lost (by omega) H locs ls hl hw
section C10
variable {p : Program} {l : Launch} {e : Env} {R : Room} {s : State} {m : MethodId} {args : Array Value} {below : List Frame} {meth : Method} {c : Code} {H : Heap} {locs : List Loc} {cells slots : Nat} {Q : State → Prop} {cc : ByteArray} {nL : Nat} {pc : Nat} {ls : Array Slot} {rest : List Value} {D : va_G} {dA dZ : ClassId} {A : Nat → Prop} {ad : Nat → Nat} {lv : List (Nat × Value)} {ws : va_W}
theorem c_buildRule {w : Nat → F8} {g : Nat → Bool} {sy ru he be nu : Nat → F8} {le : Nat} {wh : Nat → F8} {di : Nat} {lost : Nat} (S : CallFix p m c cc nL s args lw_all RX0) (hdg : decode cc pc = .ok (.invokevirtual 67, 3)) (hR : 3 ≤ R.frames ∧ 88 ≤ R.locals) (hf : cells ≤ R.cells ∧ slots ≤ R.slots) (hw : Wd D dA dZ A s (wM dA dZ ad w g sy ru he be nu le wh di) H locs) (hl : lv_has ls nL lv) (hroom : (rest.map fun v => v.category).sum ≤ 8) (hlo : lost ≤ 4) (kk : ∀ (H1 : Heap) (locs1 : List Loc), Wd D dA dZ A s (wM dA dZ ad w g sy ((bR g sy lost).1) ((bR g sy lost).2.1) (bB g sy lost be) nu ((bR g sy lost).2.2) wh di) H1 locs1 → W p l e R s m args below meth c H1 locs1 cells slots Q (F0 m (pc + 3) ls rest)) : W p l e R s m args below meth c H locs cells slots Q (F0 m pc ls (.int (nI lost) :: .ref (ad 0) :: rest)) :=
  ca_V (q0 := 0) (nA := 1) (ci := 0) (As := [.int (nI lost)]) (C := RX0) S hdg (ct_buildRule l D dA dZ ad w g sy ru he be nu le wh di lost hlo) (lw_V q108 q110 qs4 q17 q111) (by decide +kernel) rfl hR hf hw rfl rfl hl.1 rfl hroom kk
end C10
end
section
set_option maxRecDepth 100000
def sF (w : Nat → F8) : Nat → F8 := fun j => if j = 0 then 0 else hv w (pw j) 7 0
def mdW (w ru nu : Nat → F8) : Nat → F8 := fun i => gx (w i) (cor ru nu i)
abbrev ZS : Type := (Nat → F8) × (Nat → F8) × (Nat → F8) × (Nat → F8) × (Nat → F8) × Nat × (Nat → F8) × Nat
def fRu (w : Nat → F8) (g : Nat → Bool) : Nat → F8 := (bR g (sF w) (cn g 7)).1
def fWh (w : Nat → F8) (g : Nat → Bool) : Nat → F8 := mdW w (fRu w g) (nuF (fRu w g) (sF w))
def fwS (w : Nat → F8) (g : Nat → Bool) (z : ZS) : ZS := if cn g 7 ≤ 4 then (sF w, fRu w g, (bR g (sF w) (cn g 7)).2.1, bB g (sF w) (cn g 7) z.2.2.2.1, nuF (fRu w g) (sF w), (bR g (sF w) (cn g 7)).2.2, fWh w g, cn (dfF w g (fWh w g)) 7) else (z.1, z.2.1, z.2.2.1, z.2.2.2.1, z.2.2.2.2.1, z.2.2.2.2.2.1, w, z.2.2.2.2.2.2.2)
def fwB (w : Nat → F8) (g : Nat → Bool) : Bool := if cn g 7 ≤ 4 then isR w g (fWh w g) (cn g 7) else false
def wZ (dA dZ : ClassId) (ad : Nat → Nat) (w : Nat → F8) (g : Nat → Bool) (z : ZS) : va_W := wM dA dZ ad w g z.1 z.2.1 z.2.2.1 z.2.2.2.1 z.2.2.2.2.1 z.2.2.2.2.2.1 z.2.2.2.2.2.2.1 z.2.2.2.2.2.2.2
theorem sF_at {w : Nat → F8} {k : Nat} (h : ¬ k = 0) : hv w (pw k) 7 0 = sF w k := (if_neg h).symm
theorem mdx_up {α : Type} {k : Nat} {f g : Nat → α} {v : α} (h : v = f k) (hk : 1 ≤ k) (i : Nat) : va_up (md 1 k f g) k v i = md 1 (k + 1) f g i := by
  subst h
  simp only [va_up, md]
  by_cases h1 : i = k
  · subst h1
    simp [hk]
  · by_cases h2 : 1 ≤ i ∧ i < k
    · rw [if_neg h1, if_pos h2, if_pos (by omega)]
    · rw [if_neg h1, if_neg h2, if_neg (by omega)]
set_option maxHeartbeats 4000000 in
theorem lo_w1 {p : Program} {l : Launch} {e : Env} {s : State} {m : MethodId} {args : Array Value} {below : List Frame} {meth : Method} {c : Code} {Q : State → Prop} {D : va_G} {dA dZ : ClassId} {A : Nat → Prop} {ad : Nat → Nat} {w : Nat → F8} {g : Nat → Bool} {sy ru he be nu : Nat → F8} {le : Nat} {wh : Nat → F8} {di : Nat}  (S : CallFix p m c cX0_findWhole 3 s args lw_all RX0)  (kk : ∀ (H : Heap) (locs : List Loc) (ls : Array Slot), lv_has ls 3 [(0, .ref (ad 0)), (1, .int (nI (cn g 7)))] → Wd D dA dZ A s (wM dA dZ ad w g sy ru he be nu le w di) H locs → W p l e (rk 3) s m args below meth c H locs 0 0 Q (F0 m 45 ls [])) : ∀ (n k : Nat), k + n = 7 → ∀ (H : Heap) (locs : List Loc) (ls : Array Slot), lv_has ls 3 [(0, .ref (ad 0)), (1, .int (nI (cn g k))), (2, .int (nI k))] → Wd D dA dZ A s (wM dA dZ ad w g sy ru he be nu le (mx k w wh) di) H locs → W p l e (rk 3) s m args below meth c H locs 0 0 Q (F0 m 4 ls []) := by
  intro n
  induction n with
  | zero =>
    intro k hk H locs ls hl hw
    refine ir_ild_n S dX0_findWhole_4 hl 2 rfl ?_
    refine ir_bi S dX0_findWhole_5 ((nI 7)) (by decide) ?_
    refine ir_cge 45 S dX0_findWhole_7 (by decide) (by omega) (by omega) (fun hc => ?_) (fun hc => absurd hc (by omega))
    obtain rfl : k = 7 := by omega
    exact kk H locs ls (lv_sub hl [0, 1] rfl) (hw.cg (wM_eq e_rf e_rf e_rf e_rf e_rf e_rf e_rf (fun i hi => mx_lt hi)))
  | succ n ih =>
    intro k hk H locs ls hl hw
    refine ir_ild_n S dX0_findWhole_4 hl 2 rfl ?_
    refine ir_bi S dX0_findWhole_5 ((nI 7)) (by decide) ?_
    refine ir_cge 45 S dX0_findWhole_7 (by decide) (by omega) (by omega) (fun hc => absurd hc (by omega)) (fun hc => ?_)
    refine ir_ald_n S dX0_findWhole_10 hl 0 rfl ?_
    refine g0_whole S dX0_findWhole_11 hw ?_
    refine ir_ild_n S dX0_findWhole_14 hl 2 rfl ?_
    refine ir_ald_n S dX0_findWhole_15 hl 0 rfl ?_
    refine g0_word S dX0_findWhole_16 hw ?_
    refine ir_ild_n S dX0_findWhole_19 hl 2 rfl ?_
    refine ir_ia S dX0_findWhole_20 hw 1 rfl (by omega) (by decide) ?_
    refine ir_is (w1 := (wM dA dZ ad w g sy ru he be nu le (mx (k + 1) w wh) di)) S dX0_findWhole_21 hw 10 rfl (by omega) (by decide) (mx (k + 1) w wh) (fun i _ => mx_up rfl i) rfl (fun H locs hw => ?_)
    refine ir_ild_n S dX0_findWhole_22 hl 1 rfl ?_
    have k1 : ∀ v : Nat, v = (g k).toNat → W p l e (rk 3) s m args below meth c H locs 0 0 Q (F0 m 37 ls [.int (nI v), .int (nI (cn g k))]) := by
      intro v hv
      refine ir_add S dX0_findWhole_37 ?_
      have ed : cn g k + v = cn g (k + 1) := by rw [hv]; rfl
      rw [ed]
      refine ir_st_n (lv1 := [(0, .ref (ad 0)), (1, .int (nI (cn g (k + 1)))), (2, .int (nI k))]) S dX0_findWhole_38 hl [1, 0, 2] (by decide) rfl (fun ls hl => ?_)
      refine ir_inc (lv1 := [(0, .ref (ad 0)), (1, .int (nI (cn g (k + 1)))), (2, .int (nI (k + 1)))]) S dX0_findWhole_39 hl 2 rfl [1, 2, 0] (by decide) rfl (fun ls hl => ?_)
      refine ir_goto 4 S dX0_findWhole_42 (by decide) ?_
      exact ih (k + 1) (by omega) H locs ls hl hw
    refine ir_ald_n S dX0_findWhole_23 hl 0 rfl ?_
    refine g0_missing S dX0_findWhole_24 hw ?_
    refine ir_ild_n S dX0_findWhole_27 hl 2 rfl ?_
    refine ir_za S dX0_findWhole_28 hw 2 rfl (by omega) (by decide) ?_
    refine ir_eqB 36 S dX0_findWhole_29 (by decide)  (fun hc => ?_) (fun hc => ?_)
    · refine ir_ic S dX0_findWhole_36 ((nI 0)) (by decide) ?_
      exact k1 0 (by rw [hc]; rfl)
    · refine ir_ic S dX0_findWhole_32 ((nI 1)) (by decide) ?_
      refine ir_goto 37 S dX0_findWhole_33 (by decide) ?_
      exact k1 1 (by rw [hc]; rfl)
set_option maxHeartbeats 4000000 in
theorem lo_w2 {p : Program} {l : Launch} {e : Env} {s : State} {m : MethodId} {args : Array Value} {below : List Frame} {meth : Method} {c : Code} {Q : State → Prop} {D : va_G} {dA dZ : ClassId} {A : Nat → Prop} {ad : Nat → Nat} {w : Nat → F8} {g : Nat → Bool} {sy ru he be nu : Nat → F8} {le : Nat} {wh : Nat → F8} {di : Nat} {lost : Nat} (hsy : sy 0 = 0) (S : CallFix p m c cX0_findWhole 3 s args lw_all RX0) (kk : ∀ (H : Heap) (locs : List Loc) (ls : Array Slot), lv_has ls 3 [(0, .ref (ad 0)), (1, .int (nI lost))] → Wd D dA dZ A s (wM dA dZ ad w g (sF w) ru he be nu le wh di) H locs → W p l e (rk 3) s m args below meth c H locs 0 0 Q (F0 m 85 ls [])) : ∀ (n k : Nat), k + n = 5 → 1 ≤ k → ∀ (H : Heap) (locs : List Loc) (ls : Array Slot), lv_has ls 3 [(0, .ref (ad 0)), (1, .int (nI lost)), (2, .int (nI k))] → Wd D dA dZ A s (wM dA dZ ad w g (md 1 k (sF w) sy) ru he be nu le wh di) H locs → W p l e (rk 3) s m args below meth c H locs 0 0 Q (F0 m 54 ls []) := by
  intro n
  induction n with
  | zero =>
    intro k hk h1 H locs ls hl hw
    refine ir_ild_n S dX0_findWhole_54 hl 2 rfl ?_
    refine ir_ic S dX0_findWhole_55 ((nI 5)) (by decide) ?_
    refine ir_cge 85 S dX0_findWhole_56 (by decide) (by omega) (by omega) (fun hc => ?_) (fun hc => absurd hc (by omega))
    obtain rfl : k = 5 := by omega
    refine kk H locs ls (lv_sub hl [0, 1] rfl) (hw.cg (wM_eq e_rf e_rf (fun i hi => ?_) e_rf e_rf e_rf e_rf e_rf))
    by_cases h0 : i = 0
    · rw [h0, md_lo (by decide), hsy]; rfl
    · exact md_in (by omega) hi
  | succ n ih =>
    intro k hk h1 H locs ls hl hw
    refine ir_ild_n S dX0_findWhole_54 hl 2 rfl ?_
    refine ir_ic S dX0_findWhole_55 ((nI 5)) (by decide) ?_
    refine ir_cge 85 S dX0_findWhole_56 (by decide) (by omega) (by omega) (fun hc => absurd hc (by omega)) (fun hc => ?_)
    refine ir_ald_n S dX0_findWhole_59 hl 0 rfl ?_
    refine g0_syndrome S dX0_findWhole_60 hw ?_
    refine ir_ild_n S dX0_findWhole_63 hl 2 rfl ?_
    refine ir_ald_n S dX0_findWhole_64 hl 0 rfl ?_
    refine ir_ald_n S dX0_findWhole_65 hl 0 rfl ?_
    refine g0_word S dX0_findWhole_66 hw ?_
    refine ir_ald_n S dX0_findWhole_69 hl 0 rfl ?_
    refine g0_power S dX0_findWhole_70 hw ?_
    refine ir_ild_n S dX0_findWhole_73 hl 2 rfl ?_
    refine ir_ia S dX0_findWhole_74 hw 3 rfl (by omega) (by decide) ?_
    refine c_valueOf 1 S dX0_findWhole_75 (by decide) (by decide) hw hl (Nat.le_of_ble_eq_true rfl) rfl (fun H locs hw => ?_)
    refine ir_is (w1 := (wM dA dZ ad w g (md 1 (k + 1) (sF w) sy) ru he be nu le wh di)) S dX0_findWhole_78 hw 5 rfl (by omega) (by decide) (md 1 (k + 1) (sF w) sy) (fun i _ => mdx_up (sF_at (by omega)) h1 i) rfl (fun H locs hw => ?_)
    refine ir_inc (lv1 := [(0, .ref (ad 0)), (1, .int (nI lost)), (2, .int (nI (k + 1)))]) S dX0_findWhole_79 hl 2 rfl [1, 2, 0] (by decide) rfl (fun ls hl => ?_)
    refine ir_goto 54 S dX0_findWhole_82 (by decide) ?_
    exact ih (k + 1) (by omega) (by omega) H locs ls hl hw
set_option maxHeartbeats 4000000 in
theorem lo_w3 {p : Program} {l : Launch} {e : Env} {s : State} {m : MethodId} {args : Array Value} {below : List Frame} {meth : Method} {c : Code} {Q : State → Prop} {D : va_G} {dA dZ : ClassId} {A : Nat → Prop} {ad : Nat → Nat} {w : Nat → F8} {g : Nat → Bool} {sy ru he be nu : Nat → F8} {le : Nat} {wh : Nat → F8} {di : Nat} {lost : Nat} (S : CallFix p m c cX0_findWhole 3 s args lw_all RX0)  (kk : ∀ (H : Heap) (locs : List Loc) (ls : Array Slot), lv_has ls 3 [(0, .ref (ad 0)), (1, .int (nI lost))] → Wd D dA dZ A s (wM dA dZ ad w g sy ru he be nu le (mdW w ru nu) di) H locs → W p l e (rk 3) s m args below meth c H locs 0 0 Q (F0 m 113 ls [])) : ∀ (n k : Nat), k + n = 7 → ∀ (H : Heap) (locs : List Loc) (ls : Array Slot), lv_has ls 3 [(0, .ref (ad 0)), (1, .int (nI lost)), (2, .int (nI k))] → Wd D dA dZ A s (wM dA dZ ad w g sy ru he be nu le (mx k (mdW w ru nu) w) di) H locs → W p l e (rk 3) s m args below meth c H locs 0 0 Q (F0 m 96 ls []) := by
  intro n
  induction n with
  | zero =>
    intro k hk H locs ls hl hw
    refine ir_ild_n S dX0_findWhole_96 hl 2 rfl ?_
    refine ir_bi S dX0_findWhole_97 ((nI 7)) (by decide) ?_
    refine ir_cge 113 S dX0_findWhole_99 (by decide) (by omega) (by omega) (fun hc => ?_) (fun hc => absurd hc (by omega))
    obtain rfl : k = 7 := by omega
    exact kk H locs ls (lv_sub hl [0, 1] rfl) (hw.cg (wM_eq e_rf e_rf e_rf e_rf e_rf e_rf e_rf (fun i hi => mx_lt hi)))
  | succ n ih =>
    intro k hk H locs ls hl hw
    refine ir_ild_n S dX0_findWhole_96 hl 2 rfl ?_
    refine ir_bi S dX0_findWhole_97 ((nI 7)) (by decide) ?_
    refine ir_cge 113 S dX0_findWhole_99 (by decide) (by omega) (by omega) (fun hc => absurd hc (by omega)) (fun hc => ?_)
    refine ir_ald_n S dX0_findWhole_102 hl 0 rfl ?_
    refine ir_ild_n S dX0_findWhole_103 hl 2 rfl ?_
    refine c_correct S dX0_findWhole_104 (by decide) (by decide) hw hl (Nat.le_of_ble_eq_true rfl) (by omega) (fun H locs hw => ?_)
    refine ir_inc (lv1 := [(0, .ref (ad 0)), (1, .int (nI lost)), (2, .int (nI (k + 1)))]) S dX0_findWhole_107 hl 2 rfl [1, 2, 0] (by decide) rfl (fun ls hl => ?_)
    refine ir_goto 96 S dX0_findWhole_110 (by decide) ?_
    exact ih (k + 1) (by omega) H locs ls hl (hw.cg (wM_eq e_rf e_rf e_rf e_rf e_rf e_rf e_rf (fun i _ => mx_up (by rw [mx_ge (Nat.le_refl k)]; rfl) i)))
set_option maxHeartbeats 4000000 in
theorem ct_findWhole (l : Launch) (D : va_G) (dA dZ : ClassId) (ad : Nat → Nat) (w : Nat → F8) (g : Nat → Bool) (sy ru he be nu : Nat → F8) (le : Nat) (wh : Nat → F8) (di : Nat) (hsy : sy 0 = 0) : CtI l D dA dZ yX0_findWhole cX0_findWhole 3 (some .boolean) 3 [.ref (ad 0)] (wM dA dZ ad w g sy ru he be nu le wh di) (nI (fwB w g).toNat) (wZ dA dZ ad w g (fwS w g (sy, ru, he, be, nu, le, wh, di))) := by
  refine CtI.of (by decide) (Nat.le_of_ble_eq_true rfl) ?_
  intro p e s m args below meth c A H locs ls S hr hlk hl hw
  have hl : lv_has ls 3 [(0, .ref (ad 0))] := hl
  refine ir_ic S dX0_findWhole_0 ((nI 0)) (by decide) ?_
  refine ir_st_n (lv1 := [(0, .ref (ad 0)), (1, .int (nI 0))]) S dX0_findWhole_1 hl [1, 0] (by decide) rfl (fun ls hl => ?_)
  refine ir_ic S dX0_findWhole_2 ((nI 0)) (by decide) ?_
  refine ir_st_n (lv1 := [(0, .ref (ad 0)), (1, .int (nI 0)), (2, .int (nI 0))]) S dX0_findWhole_3 hl [1, 2, 0] (by decide) rfl (fun ls hl => ?_)
  refine lo_w1 (wh := wh) S (fun H locs ls hl hw => ?_) 7 0 rfl _ _ ls hl (hw.cg (by rw [mx_0]))
  have hc7 := cn_le g 7
  refine ir_ild_n S dX0_findWhole_45 hl 1 rfl ?_
  refine ir_ic S dX0_findWhole_46 ((nI 4)) (by decide) ?_
  refine ir_cle 52 S dX0_findWhole_47 (by decide) (by omega) (by omega) (fun hc => ?_) (fun hc => ?_)
  · refine ir_ic S dX0_findWhole_52 ((nI 1)) (by decide) ?_
    refine ir_st_n (lv1 := [(0, .ref (ad 0)), (1, .int (nI (cn g 7))), (2, .int (nI 1))]) S dX0_findWhole_53 hl [1, 2, 0] (by decide) rfl (fun ls hl => ?_)
    refine lo_w2 hsy S (fun H locs ls hl hw => ?_) 4 1 rfl (by decide) _ _ ls hl (hw.cg (by rw [md_e]))
    refine ir_ald_n S dX0_findWhole_85 hl 0 rfl ?_
    refine ir_ild_n S dX0_findWhole_86 hl 1 rfl ?_
    refine c_buildRule S dX0_findWhole_87 (by decide) (by decide) hw hl (Nat.le_of_ble_eq_true rfl) hc (fun H locs hw => ?_)
    refine ir_ald_n S dX0_findWhole_90 hl 0 rfl ?_
    refine c_findNumerator S dX0_findWhole_91 (by decide) (by decide) hw hl (Nat.le_of_ble_eq_true rfl) (fun H locs hw => ?_)
    refine ir_ic S dX0_findWhole_94 ((nI 0)) (by decide) ?_
    refine ir_st_n (lv1 := [(0, .ref (ad 0)), (1, .int (nI (cn g 7))), (2, .int (nI 0))]) S dX0_findWhole_95 hl [1, 2, 0] (by decide) rfl (fun ls hl => ?_)
    refine lo_w3 (wh := w) S (fun H locs ls hl hw => ?_) 7 0 rfl _ _ ls hl (hw.cg (by rw [mx_0]))
    refine ir_ald_n S dX0_findWhole_113 hl 0 rfl ?_
    refine ir_ild_n S dX0_findWhole_114 hl 1 rfl ?_
    refine c_isRight S dX0_findWhole_115 (by decide) (by decide) hw hl (Nat.le_of_ble_eq_true rfl) (by omega) (fun H locs hw => ?_)
    have e1 : fwB w g = isR w g (fWh w g) (cn g 7) := if_pos hc
    have e2 : fwS w g (sy, ru, he, be, nu, le, wh, di) = (sF w, fRu w g, (bR g (sF w) (cn g 7)).2.1, bB g (sF w) (cn g 7) be, nuF (fRu w g) (sF w), (bR g (sF w) (cn g 7)).2.2, fWh w g, cn (dfF w g (fWh w g)) 7) := if_pos hc
    rw [e1, e2]
    exact re_Z (b := isR w g (fWh w g) (cn g 7)) S dX0_findWhole_118 hr hlk hw rfl rfl
  · refine ir_ic S dX0_findWhole_50 ((nI false.toNat)) (by decide) ?_
    have e1 : fwB w g = false := if_neg (by omega)
    have e2 : fwS w g (sy, ru, he, be, nu, le, wh, di) = (sy, ru, he, be, nu, le, w, di) := if_neg (by omega)
    rw [e1, e2]
    exact re_Z (b := false) S dX0_findWhole_51 hr hlk hw rfl rfl
section C11
variable {p : Program} {l : Launch} {e : Env} {R : Room} {s : State} {m : MethodId} {args : Array Value} {below : List Frame} {meth : Method} {c : Code} {H : Heap} {locs : List Loc} {cells slots : Nat} {Q : State → Prop} {cc : ByteArray} {nL : Nat} {pc : Nat} {ls : Array Slot} {rest : List Value} {D : va_G} {dA dZ : ClassId} {A : Nat → Prop} {ad : Nat → Nat} {lv : List (Nat × Value)} {ws : va_W}
theorem c_findWhole {w : Nat → F8} {g : Nat → Bool} {sy ru he be nu : Nat → F8} {le : Nat} {wh : Nat → F8} {di : Nat}  (S : CallFix p m c cc nL s args lw_all RX0) (hdg : decode cc pc = .ok (.invokevirtual 51, 3)) (hR : 4 ≤ R.frames ∧ 118 ≤ R.locals) (hf : cells ≤ R.cells ∧ slots ≤ R.slots) (hw : Wd D dA dZ A s (wM dA dZ ad w g sy ru he be nu le wh di) H locs) (hl : lv_has ls nL lv) (hroom : (rest.map fun v => v.category).sum ≤ 8) (hsy : sy 0 = 0) (kk : ∀ (H1 : Heap) (locs1 : List Loc), Wd D dA dZ A s (wZ dA dZ ad w g (fwS w g (sy, ru, he, be, nu, le, wh, di))) H1 locs1 → W p l e R s m args below meth c H1 locs1 cells slots Q (F0 m (pc + 3) ls (.int (nI (fwB w g).toNat) :: rest))) : W p l e R s m args below meth c H locs cells slots Q (F0 m pc ls (.ref (ad 0) :: rest)) :=
  ca_I (q0 := 0) (nA := 0) (ci := 0) (As := []) (C := RX0) S hdg (ct_findWhole l D dA dZ ad w g sy ru he be nu le wh di hsy) (lw_V q100 q102 qs2 q17 q103) (by decide +kernel) rfl hR hf hw rfl rfl hl.1 rfl hroom kk
end C11
end
section
set_option maxRecDepth 100000
theorem okP_j : ∀ j : Fin 7, okP (nI j.val) = true := by decide +kernel
theorem okP_nI {j : Nat} (h : j < 7) : okP (nI j) = true := okP_j ⟨j, h⟩
theorem okS_nI : ∀ a : F8, okS (nI a.val) = true := by decide +kernel
theorem ex2 {x y : Bool} (h : (x && y) = false) (h1 : x = true) (h2 : y = true) : False := by rw [h1, h2] at h; cases h
theorem ex3 {x y z : Bool} (h : (x && y && z) = false) (h1 : x = true) (h2 : y = true) (h3 : z = true) : False := by rw [h1, h2, h3] at h; cases h
set_option maxHeartbeats 4000000 in
theorem ct_fits (l : Launch) (D : va_G) (dA dZ : ClassId) (ad : Nat → Nat) (w : Nat → F8) (g : Nat → Bool) (sy ru he be nu : Nat → F8) (le : Nat) (wh : Nat → F8) (di : Nat) (hsy : sy 0 = 0) : CtI l D dA dZ yX0_fits cX0_fits 1 (some .int) 4 [.ref (ad 0)] (wM dA dZ ad w g sy ru he be nu le wh di) (nI (fwB w g).toNat) (wZ dA dZ ad w g (fwS w g (sy, ru, he, be, nu, le, wh, di))) := by
  refine CtI.of (by decide) (Nat.le_of_ble_eq_true rfl) ?_
  intro p e s m args below meth c A H locs ls S hr hlk hl hw
  have hl : lv_has ls 1 [(0, .ref (ad 0))] := hl
  refine ir_ald_n S dX0_fits_0 hl 0 rfl ?_
  refine c_findWhole S dX0_fits_1 (by decide) (by decide) hw hl (Nat.le_of_ble_eq_true rfl) hsy (fun H locs hw => ?_)
  refine ir_eqB 11 S dX0_fits_4 (by decide)  (fun hc => ?_) (fun hc => ?_)
  · refine ir_ic S dX0_fits_11 ((nI false.toNat)) (by decide) ?_
    exact re_I S dX0_fits_12 hr hlk hw (by rw [hc])
  · refine ir_ic S dX0_fits_7 ((nI true.toNat)) (by decide) ?_
    refine ir_goto 12 S dX0_fits_8 (by decide) ?_
    exact re_I S dX0_fits_12 hr hlk hw (by rw [hc])
set_option maxHeartbeats 4000000 in
theorem ct_mendedN (l : Launch) (D : va_G) (dA dZ : ClassId) (ad : Nat → Nat) (w : Nat → F8) (g : Nat → Bool) (sy ru he be nu : Nat → F8) (le : Nat) (wh : Nat → F8) (di : Nat) (x : Int32) (hx : okP x = false) : CtI l D dA dZ yX0_mended cX0_mended 2 (some .int) 4 [.ref (ad 0), .int x] (wM dA dZ ad w g sy ru he be nu le wh di) (-1) (wM dA dZ ad w g sy ru he be nu le wh di) := by
  refine CtI.of (by decide) (Nat.le_of_ble_eq_true rfl) ?_
  intro p e s m args below meth c A H locs ls S hr hlk hl hw
  have hl : lv_has ls 2 [(0, .ref (ad 0)), (1, .int x)] := hl
  refine ir_ild_n S dX0_mended_0 hl 1 rfl ?_
  refine c_isPlace S dX0_mended_1 (by decide) (by decide) hw hl (Nat.le_of_ble_eq_true rfl) (fun H locs hw => ?_)
  refine ir_eqB 23 S dX0_mended_4 (by decide)  (fun hc => ?_) (fun hc => absurd (hx.symm.trans hc) (by decide))
  refine ir_ic S dX0_mended_23 (((-1))) (by decide) ?_
  exact re_I S dX0_mended_24 hr hlk hw rfl
set_option maxHeartbeats 4000000 in
theorem ct_mended (l : Launch) (D : va_G) (dA dZ : ClassId) (ad : Nat → Nat) (w : Nat → F8) (g : Nat → Bool) (sy ru he be nu : Nat → F8) (le : Nat) (wh : Nat → F8) (di : Nat) (hsy : sy 0 = 0) (j : Nat) (hj : j < 7) : CtI l D dA dZ yX0_mended cX0_mended 2 (some .int) 4 [.ref (ad 0), .int (nI j)] (wM dA dZ ad w g sy ru he be nu le wh di) (if fwB w g = true then nI ((fwS w g (sy, ru, he, be, nu, le, wh, di)).2.2.2.2.2.2.1 j).val else -1) (wZ dA dZ ad w g (fwS w g (sy, ru, he, be, nu, le, wh, di))) := by
  refine CtI.of (by decide) (Nat.le_of_ble_eq_true rfl) ?_
  intro p e s m args below meth c A H locs ls S hr hlk hl hw
  have hl : lv_has ls 2 [(0, .ref (ad 0)), (1, .int (nI j))] := hl
  refine ir_ild_n S dX0_mended_0 hl 1 rfl ?_
  refine c_isPlace S dX0_mended_1 (by decide) (by decide) hw hl (Nat.le_of_ble_eq_true rfl) (fun H locs hw => ?_)
  refine ir_eqB 23 S dX0_mended_4 (by decide)  (fun hc => absurd ((okP_nI hj).symm.trans hc) (by decide)) (fun hc => ?_)
  refine ir_ald_n S dX0_mended_7 hl 0 rfl ?_
  refine c_findWhole S dX0_mended_8 (by decide) (by decide) hw hl (Nat.le_of_ble_eq_true rfl) hsy (fun H locs hw => ?_)
  refine ir_eqB 23 S dX0_mended_11 (by decide)  (fun hc => ?_) (fun hc => ?_)
  · refine ir_ic S dX0_mended_23 (((-1))) (by decide) ?_
    exact re_I S dX0_mended_24 hr hlk hw (if_neg (by rw [hc]; decide)).symm
  · refine ir_ald_n S dX0_mended_14 hl 0 rfl ?_
    refine g0_whole S dX0_mended_15 hw ?_
    refine ir_ild_n S dX0_mended_18 hl 1 rfl ?_
    refine ir_ia S dX0_mended_19 hw 10 rfl (by omega) (by decide) ?_
    refine ir_goto 24 S dX0_mended_20 (by decide) ?_
    exact re_I S dX0_mended_24 hr hlk hw (if_pos hc).symm
set_option maxHeartbeats 4000000 in
theorem ct_wrong (l : Launch) (D : va_G) (dA dZ : ClassId) (ad : Nat → Nat) (w : Nat → F8) (g : Nat → Bool) (sy ru he be nu : Nat → F8) (le : Nat) (wh : Nat → F8) (di : Nat) (hsy : sy 0 = 0) : CtI l D dA dZ yX0_wrong cX0_wrong 1 (some .int) 4 [.ref (ad 0)] (wM dA dZ ad w g sy ru he be nu le wh di) (if fwB w g = true then nI (fwS w g (sy, ru, he, be, nu, le, wh, di)).2.2.2.2.2.2.2 else -1) (wZ dA dZ ad w g (fwS w g (sy, ru, he, be, nu, le, wh, di))) := by
  refine CtI.of (by decide) (Nat.le_of_ble_eq_true rfl) ?_
  intro p e s m args below meth c A H locs ls S hr hlk hl hw
  have hl : lv_has ls 1 [(0, .ref (ad 0))] := hl
  refine ir_ald_n S dX0_wrong_0 hl 0 rfl ?_
  refine c_findWhole S dX0_wrong_1 (by decide) (by decide) hw hl (Nat.le_of_ble_eq_true rfl) hsy (fun H locs hw => ?_)
  refine ir_eqB 14 S dX0_wrong_4 (by decide)  (fun hc => ?_) (fun hc => ?_)
  · refine ir_ic S dX0_wrong_14 (((-1))) (by decide) ?_
    exact re_I S dX0_wrong_15 hr hlk hw (if_neg (by rw [hc]; decide)).symm
  · refine ir_ald_n S dX0_wrong_7 hl 0 rfl ?_
    refine g0_differences S dX0_wrong_8 hw ?_
    refine ir_goto 15 S dX0_wrong_11 (by decide) ?_
    exact re_I S dX0_wrong_15 hr hlk hw (if_pos hc).symm
set_option maxHeartbeats 4000000 in
theorem lo_mend {p : Program} {l : Launch} {e : Env} {s : State} {m : MethodId} {args : Array Value} {below : List Frame} {meth : Method} {c : Code} {Q : State → Prop} {D : va_G} {dA dZ : ClassId} {A : Nat → Prop} {ad : Nat → Nat} {w : Nat → F8} {g : Nat → Bool} {sy ru he be nu : Nat → F8} {le : Nat} {wh : Nat → F8} {di : Nat}  (S : CallFix p m c cX0_mend 2 s args lw_all RX0)  (kk : ∀ (H : Heap) (locs : List Loc) (ls : Array Slot), lv_has ls 2 [(0, .ref (ad 0)), (1, .int (nI 7))] → Wd D dA dZ A s (wM dA dZ ad wh (fun _ => false) sy ru he be nu le wh di) H locs → W p l e (rk 4) s m args below meth c H locs 0 0 Q (F0 m 42 ls [])) : ∀ (n k : Nat), k + n = 7 → ∀ (H : Heap) (locs : List Loc) (ls : Array Slot), lv_has ls 2 [(0, .ref (ad 0)), (1, .int (nI k))] → Wd D dA dZ A s (wM dA dZ ad (mx k wh w) (mx k (fun _ => false) g) sy ru he be nu le wh di) H locs → W p l e (rk 4) s m args below meth c H locs 0 0 Q (F0 m 11 ls []) := by
  intro n
  induction n with
  | zero =>
    intro k hk H locs ls hl hw
    refine ir_ild_n S dX0_mend_11 hl 1 rfl ?_
    refine ir_bi S dX0_mend_12 ((nI 7)) (by decide) ?_
    refine ir_cge 42 S dX0_mend_14 (by decide) (by omega) (by omega) (fun hc => ?_) (fun hc => absurd hc (by omega))
    obtain rfl : k = 7 := by omega
    exact kk H locs ls hl (hw.cg (wM_eq (fun i hi => mx_lt hi) (fun i hi => mx_lt hi) e_rf e_rf e_rf e_rf e_rf e_rf))
  | succ n ih =>
    intro k hk H locs ls hl hw
    refine ir_ild_n S dX0_mend_11 hl 1 rfl ?_
    refine ir_bi S dX0_mend_12 ((nI 7)) (by decide) ?_
    refine ir_cge 42 S dX0_mend_14 (by decide) (by omega) (by omega) (fun hc => absurd hc (by omega)) (fun hc => ?_)
    refine ir_ald_n S dX0_mend_17 hl 0 rfl ?_
    refine g0_word S dX0_mend_18 hw ?_
    refine ir_ild_n S dX0_mend_21 hl 1 rfl ?_
    refine ir_ald_n S dX0_mend_22 hl 0 rfl ?_
    refine g0_whole S dX0_mend_23 hw ?_
    refine ir_ild_n S dX0_mend_26 hl 1 rfl ?_
    refine ir_ia S dX0_mend_27 hw 10 rfl (by omega) (by decide) ?_
    refine ir_is (w1 := (wM dA dZ ad (mx (k + 1) wh w) (mx k (fun _ => false) g) sy ru he be nu le wh di)) S dX0_mend_28 hw 1 rfl (by omega) (by decide) (mx (k + 1) wh w) (fun i _ => mx_up rfl i) rfl (fun H locs hw => ?_)
    refine ir_ald_n S dX0_mend_29 hl 0 rfl ?_
    refine g0_missing S dX0_mend_30 hw ?_
    refine ir_ild_n S dX0_mend_33 hl 1 rfl ?_
    refine ir_ic S dX0_mend_34 ((nI false.toNat)) (by decide) ?_
    refine ir_zs (w1 := (wM dA dZ ad (mx (k + 1) wh w) (mx (k + 1) (fun _ => false) g) sy ru he be nu le wh di)) S dX0_mend_35 hw 2 rfl (by omega) (by decide) (mx (k + 1) (fun _ => false) g) (fun i _ => mx_up rfl i) rfl (fun H locs hw => ?_)
    refine ir_inc (lv1 := [(0, .ref (ad 0)), (1, .int (nI (k + 1)))]) S dX0_mend_36 hl 1 rfl [1, 0] (by decide) rfl (fun ls hl => ?_)
    refine ir_goto 11 S dX0_mend_39 (by decide) ?_
    exact ih (k + 1) (by omega) H locs ls hl hw
set_option maxHeartbeats 4000000 in
theorem ct_mend (l : Launch) (D : va_G) (dA dZ : ClassId) (ad : Nat → Nat) (w : Nat → F8) (g : Nat → Bool) (sy ru he be nu : Nat → F8) (le : Nat) (wh : Nat → F8) (di : Nat) (hsy : sy 0 = 0) : CtI l D dA dZ yX0_mend cX0_mend 2 (some .int) 4 [.ref (ad 0)] (wM dA dZ ad w g sy ru he be nu le wh di) (nI (fwB w g).toNat) (wZ dA dZ ad (if fwB w g = true then (fwS w g (sy, ru, he, be, nu, le, wh, di)).2.2.2.2.2.2.1 else w) (if fwB w g = true then (fun _ => false) else g) (fwS w g (sy, ru, he, be, nu, le, wh, di))) := by
  refine CtI.of (by decide) (Nat.le_of_ble_eq_true rfl) ?_
  intro p e s m args below meth c A H locs ls S hr hlk hl hw
  have hl : lv_has ls 2 [(0, .ref (ad 0))] := hl
  refine ir_ald_n S dX0_mend_0 hl 0 rfl ?_
  refine c_findWhole S dX0_mend_1 (by decide) (by decide) hw hl (Nat.le_of_ble_eq_true rfl) hsy (fun H locs hw => ?_)
  refine ir_neB 9 S dX0_mend_4 (by decide)  (fun hc => ?_) (fun hc => ?_)
  · rw [hc, if_pos rfl, if_pos rfl]
    refine ir_ic S dX0_mend_9 ((nI 0)) (by decide) ?_
    refine ir_st_n (lv1 := [(0, .ref (ad 0)), (1, .int (nI 0))]) S dX0_mend_10 hl [1, 0] (by decide) rfl (fun ls hl => ?_)
    refine lo_mend S (fun H locs ls hl hw => ?_) 7 0 rfl _ _ ls hl (hw.cg (by rw [mx_0, mx_0]; rfl))
    refine ir_ic S dX0_mend_42 ((nI true.toNat)) (by decide) ?_
    exact re_I S dX0_mend_43 hr hlk hw rfl
  · rw [hc, if_neg (by decide), if_neg (by decide)]
    refine ir_ic S dX0_mend_7 ((nI false.toNat)) (by decide) ?_
    exact re_I S dX0_mend_8 hr hlk hw rfl
set_option maxHeartbeats 4000000 in
theorem ct_atN (l : Launch) (D : va_G) (dA dZ : ClassId) (ad : Nat → Nat) (w : Nat → F8) (g : Nat → Bool) (sy ru he be nu : Nat → F8) (le : Nat) (wh : Nat → F8) (di : Nat) (x : Int32) (hx : okP x = false) : CtI l D dA dZ yX0_at cX0_at 2 (some .int) 1 [.ref (ad 0), .int x] (wM dA dZ ad w g sy ru he be nu le wh di) (-1) (wM dA dZ ad w g sy ru he be nu le wh di) := by
  refine CtI.of (by decide) (Nat.le_of_ble_eq_true rfl) ?_
  intro p e s m args below meth c A H locs ls S hr hlk hl hw
  have hl : lv_has ls 2 [(0, .ref (ad 0)), (1, .int x)] := hl
  refine ir_ild_n S dX0_at_0 hl 1 rfl ?_
  refine c_isPlace S dX0_at_1 (by decide) (by decide) hw hl (Nat.le_of_ble_eq_true rfl) (fun H locs hw => ?_)
  refine ir_eqB 16 S dX0_at_4 (by decide)  (fun hc => ?_) (fun hc => absurd (hx.symm.trans hc) (by decide))
  refine ir_ic S dX0_at_16 (((-1))) (by decide) ?_
  exact re_I S dX0_at_17 hr hlk hw rfl
set_option maxHeartbeats 4000000 in
theorem ct_at (l : Launch) (D : va_G) (dA dZ : ClassId) (ad : Nat → Nat) (w : Nat → F8) (g : Nat → Bool) (sy ru he be nu : Nat → F8) (le : Nat) (wh : Nat → F8) (di : Nat) (j : Nat) (hj : j < 7) : CtI l D dA dZ yX0_at cX0_at 2 (some .int) 1 [.ref (ad 0), .int (nI j)] (wM dA dZ ad w g sy ru he be nu le wh di) (nI (w j).val) (wM dA dZ ad w g sy ru he be nu le wh di) := by
  refine CtI.of (by decide) (Nat.le_of_ble_eq_true rfl) ?_
  intro p e s m args below meth c A H locs ls S hr hlk hl hw
  have hl : lv_has ls 2 [(0, .ref (ad 0)), (1, .int (nI j))] := hl
  refine ir_ild_n S dX0_at_0 hl 1 rfl ?_
  refine c_isPlace S dX0_at_1 (by decide) (by decide) hw hl (Nat.le_of_ble_eq_true rfl) (fun H locs hw => ?_)
  refine ir_eqB 16 S dX0_at_4 (by decide)  (fun hc => absurd ((okP_nI hj).symm.trans hc) (by decide)) (fun hc => ?_)
  refine ir_ald_n S dX0_at_7 hl 0 rfl ?_
  refine g0_word S dX0_at_8 hw ?_
  refine ir_ild_n S dX0_at_11 hl 1 rfl ?_
  refine ir_ia S dX0_at_12 hw 1 rfl (by omega) (by decide) ?_
  refine ir_goto 17 S dX0_at_13 (by decide) ?_
  exact re_I S dX0_at_17 hr hlk hw rfl
set_option maxHeartbeats 4000000 in
theorem ct_changeN (l : Launch) (D : va_G) (dA dZ : ClassId) (ad : Nat → Nat) (w : Nat → F8) (g : Nat → Bool) (sy ru he be nu : Nat → F8) (le : Nat) (wh : Nat → F8) (di : Nat) (x y : Int32) (hx : (okP x && okS y) = false) : CtI l D dA dZ yX0_change cX0_change 4 (some .int) 1 [.ref (ad 0), .int x, .int y] (wM dA dZ ad w g sy ru he be nu le wh di) (-1) (wM dA dZ ad w g sy ru he be nu le wh di) := by
  refine CtI.of (by decide) (Nat.le_of_ble_eq_true rfl) ?_
  intro p e s m args below meth c A H locs ls S hr hlk hl hw
  have hl : lv_has ls 4 [(0, .ref (ad 0)), (1, .int x), (2, .int y)] := hl
  refine ir_ild_n S dX0_change_0 hl 1 rfl ?_
  refine c_isPlace S dX0_change_1 (by decide) (by decide) hw hl (Nat.le_of_ble_eq_true rfl) (fun H locs hw => ?_)
  refine ir_eqB 14 S dX0_change_4 (by decide)  (fun h1 => ?_) (fun h1 => ?_)
  · refine ir_ic S dX0_change_14 (((-1))) (by decide) ?_
    exact re_I S dX0_change_15 hr hlk hw rfl
  · refine ir_ild_n S dX0_change_7 hl 2 rfl ?_
    refine c_isSymbol S dX0_change_8 (by decide) (by decide) hw hl (Nat.le_of_ble_eq_true rfl) (fun H locs hw => ?_)
    refine ir_neB 16 S dX0_change_11 (by decide)  (fun h2 => (ex2 hx h1 h2).elim) (fun h2 => ?_)
    refine ir_ic S dX0_change_14 (((-1))) (by decide) ?_
    exact re_I S dX0_change_15 hr hlk hw rfl
set_option maxHeartbeats 4000000 in
theorem ct_change (l : Launch) (D : va_G) (dA dZ : ClassId) (ad : Nat → Nat) (w : Nat → F8) (g : Nat → Bool) (sy ru he be nu : Nat → F8) (le : Nat) (wh : Nat → F8) (di : Nat) (j : Nat) (hj : j < 7) (a : F8) : CtI l D dA dZ yX0_change cX0_change 4 (some .int) 1 [.ref (ad 0), .int (nI j), .int (nI a.val)] (wM dA dZ ad w g sy ru he be nu le wh di) (nI (w j).val) (wM dA dZ ad (va_up w j a) g sy ru he be nu le wh di) := by
  refine CtI.of (by decide) (Nat.le_of_ble_eq_true rfl) ?_
  intro p e s m args below meth c A H locs ls S hr hlk hl hw
  have hl : lv_has ls 4 [(0, .ref (ad 0)), (1, .int (nI j)), (2, .int (nI a.val))] := hl
  refine ir_ild_n S dX0_change_0 hl 1 rfl ?_
  refine c_isPlace S dX0_change_1 (by decide) (by decide) hw hl (Nat.le_of_ble_eq_true rfl) (fun H locs hw => ?_)
  refine ir_eqB 14 S dX0_change_4 (by decide)  (fun hc => absurd ((okP_nI hj).symm.trans hc) (by decide)) (fun h1 => ?_)
  refine ir_ild_n S dX0_change_7 hl 2 rfl ?_
  refine c_isSymbol S dX0_change_8 (by decide) (by decide) hw hl (Nat.le_of_ble_eq_true rfl) (fun H locs hw => ?_)
  refine ir_neB 16 S dX0_change_11 (by decide)  (fun h2 => ?_) (fun h2 => absurd ((okS_nI a).symm.trans h2) (by decide))
  refine ir_ald_n S dX0_change_16 hl 0 rfl ?_
  refine g0_word S dX0_change_17 hw ?_
  refine ir_ild_n S dX0_change_20 hl 1 rfl ?_
  refine ir_ia S dX0_change_21 hw 1 rfl (by omega) (by decide) ?_
  refine ir_st_n (lv1 := [(0, .ref (ad 0)), (1, .int (nI j)), (2, .int (nI a.val)), (3, .int (nI (w j).val))]) S dX0_change_22 hl [1, 2, 3, 0] (by decide) rfl (fun ls hl => ?_)
  refine ir_ald_n S dX0_change_23 hl 0 rfl ?_
  refine g0_word S dX0_change_24 hw ?_
  refine ir_ild_n S dX0_change_27 hl 1 rfl ?_
  refine ir_ild_n S dX0_change_28 hl 2 rfl ?_
  refine ir_is (w1 := (wM dA dZ ad (va_up w j a) g sy ru he be nu le wh di)) S dX0_change_29 hw 1 rfl (by omega) (by decide) (va_up w j a) (fun _ _ => rfl) rfl (fun H locs hw => ?_)
  refine ir_ild_n S dX0_change_30 hl 3 rfl ?_
  exact re_I S dX0_change_31 hr hlk hw rfl
set_option maxHeartbeats 4000000 in
theorem ct_loseN (l : Launch) (D : va_G) (dA dZ : ClassId) (ad : Nat → Nat) (w : Nat → F8) (g : Nat → Bool) (sy ru he be nu : Nat → F8) (le : Nat) (wh : Nat → F8) (di : Nat) (x : Int32) (b : Bool) (hx : okP x = false) : CtI l D dA dZ yX0_lose cX0_lose 4 (some .int) 1 [.ref (ad 0), .int x, .int (nI b.toNat)] (wM dA dZ ad w g sy ru he be nu le wh di) (-1) (wM dA dZ ad w g sy ru he be nu le wh di) := by
  refine CtI.of (by decide) (Nat.le_of_ble_eq_true rfl) ?_
  intro p e s m args below meth c A H locs ls S hr hlk hl hw
  have hl : lv_has ls 4 [(0, .ref (ad 0)), (1, .int x), (2, .int (nI b.toNat))] := hl
  refine ir_ild_n S dX0_lose_0 hl 1 rfl ?_
  refine c_isPlace S dX0_lose_1 (by decide) (by decide) hw hl (Nat.le_of_ble_eq_true rfl) (fun H locs hw => ?_)
  refine ir_neB 9 S dX0_lose_4 (by decide)  (fun hc => absurd (hx.symm.trans hc) (by decide)) (fun hc => ?_)
  refine ir_ic S dX0_lose_7 (((-1))) (by decide) ?_
  exact re_I S dX0_lose_8 hr hlk hw rfl
set_option maxHeartbeats 4000000 in
theorem ct_lose (l : Launch) (D : va_G) (dA dZ : ClassId) (ad : Nat → Nat) (w : Nat → F8) (g : Nat → Bool) (sy ru he be nu : Nat → F8) (le : Nat) (wh : Nat → F8) (di : Nat) (j : Nat) (hj : j < 7) (b : Bool) : CtI l D dA dZ yX0_lose cX0_lose 4 (some .int) 1 [.ref (ad 0), .int (nI j), .int (nI b.toNat)] (wM dA dZ ad w g sy ru he be nu le wh di) (nI (g j).toNat) (wM dA dZ ad w (va_up g j b) sy ru he be nu le wh di) := by
  refine CtI.of (by decide) (Nat.le_of_ble_eq_true rfl) ?_
  intro p e s m args below meth c A H locs ls S hr hlk hl hw
  have hl : lv_has ls 4 [(0, .ref (ad 0)), (1, .int (nI j)), (2, .int (nI b.toNat))] := hl
  refine ir_ild_n S dX0_lose_0 hl 1 rfl ?_
  refine c_isPlace S dX0_lose_1 (by decide) (by decide) hw hl (Nat.le_of_ble_eq_true rfl) (fun H locs hw => ?_)
  refine ir_neB 9 S dX0_lose_4 (by decide)  (fun hc => ?_) (fun hc => absurd ((okP_nI hj).symm.trans hc) (by decide))
  refine ir_ald_n S dX0_lose_9 hl 0 rfl ?_
  refine g0_missing S dX0_lose_10 hw ?_
  refine ir_ild_n S dX0_lose_13 hl 1 rfl ?_
  refine ir_za S dX0_lose_14 hw 2 rfl (by omega) (by decide) ?_
  have k1 : ∀ v : Bool, v = g j → W p l e (rk 1) s m args below meth c H locs 0 0 (EI D dA dZ (nI (g j).toNat) (wM dA dZ ad w (va_up g j b) sy ru he be nu le wh di) A below args s) (F0 m 23 ls [.int (nI v.toNat)]) := by
    intro v hv
    refine ir_st_n (lv1 := [(0, .ref (ad 0)), (1, .int (nI j)), (2, .int (nI b.toNat)), (3, .int (nI v.toNat))]) S dX0_lose_23 hl [1, 2, 3, 0] (by decide) rfl (fun ls hl => ?_)
    refine ir_ald_n S dX0_lose_24 hl 0 rfl ?_
    refine g0_missing S dX0_lose_25 hw ?_
    refine ir_ild_n S dX0_lose_28 hl 1 rfl ?_
    refine ir_ild_n S dX0_lose_29 hl 2 rfl ?_
    refine ir_zs (w1 := (wM dA dZ ad w (va_up g j b) sy ru he be nu le wh di)) S dX0_lose_30 hw 2 rfl (by omega) (by decide) (va_up g j b) (fun _ _ => rfl) rfl (fun H locs hw => ?_)
    refine ir_ild_n S dX0_lose_31 hl 3 rfl ?_
    exact re_I S dX0_lose_32 hr hlk hw (by rw [hv])
  refine ir_eqB 22 S dX0_lose_15 (by decide)  (fun hc => ?_) (fun hc => ?_)
  · refine ir_ic S dX0_lose_22 ((nI false.toNat)) (by decide) ?_
    exact k1 false hc.symm
  · refine ir_ic S dX0_lose_18 ((nI true.toNat)) (by decide) ?_
    refine ir_goto 23 S dX0_lose_19 (by decide) ?_
    exact k1 true hc.symm
set_option maxHeartbeats 4000000 in
theorem ct_productN (l : Launch) (D : va_G) (dA dZ : ClassId) (ad : Nat → Nat) (w : Nat → F8) (g : Nat → Bool) (sy ru he be nu : Nat → F8) (le : Nat) (wh : Nat → F8) (di : Nat) (x y : Int32) (hx : (okS x && okS y) = false) : CtI l D dA dZ yX0_product cX0_product 3 (some .int) 1 [.ref (ad 0), .int x, .int y] (wM dA dZ ad w g sy ru he be nu le wh di) (-1) (wM dA dZ ad w g sy ru he be nu le wh di) := by
  refine CtI.of (by decide) (Nat.le_of_ble_eq_true rfl) ?_
  intro p e s m args below meth c A H locs ls S hr hlk hl hw
  have hl : lv_has ls 3 [(0, .ref (ad 0)), (1, .int x), (2, .int y)] := hl
  refine ir_ild_n S dX0_product_0 hl 1 rfl ?_
  refine c_isSymbol S dX0_product_1 (by decide) (by decide) hw hl (Nat.le_of_ble_eq_true rfl) (fun H locs hw => ?_)
  refine ir_eqB 23 S dX0_product_4 (by decide)  (fun h1 => ?_) (fun h1 => ?_)
  · refine ir_ic S dX0_product_23 (((-1))) (by decide) ?_
    exact re_I S dX0_product_24 hr hlk hw rfl
  · refine ir_ild_n S dX0_product_7 hl 2 rfl ?_
    refine c_isSymbol S dX0_product_8 (by decide) (by decide) hw hl (Nat.le_of_ble_eq_true rfl) (fun H locs hw => ?_)
    refine ir_eqB 23 S dX0_product_11 (by decide)  (fun h2 => ?_) (fun h2 => (ex2 hx h1 h2).elim)
    refine ir_ic S dX0_product_23 (((-1))) (by decide) ?_
    exact re_I S dX0_product_24 hr hlk hw rfl
set_option maxHeartbeats 4000000 in
theorem ct_product (l : Launch) (D : va_G) (dA dZ : ClassId) (ad : Nat → Nat) (w : Nat → F8) (g : Nat → Bool) (sy ru he be nu : Nat → F8) (le : Nat) (wh : Nat → F8) (di : Nat) (a b : F8) : CtI l D dA dZ yX0_product cX0_product 3 (some .int) 1 [.ref (ad 0), .int (nI a.val), .int (nI b.val)] (wM dA dZ ad w g sy ru he be nu le wh di) (nI (gm a b).val) (wM dA dZ ad w g sy ru he be nu le wh di) := by
  refine CtI.of (by decide) (Nat.le_of_ble_eq_true rfl) ?_
  intro p e s m args below meth c A H locs ls S hr hlk hl hw
  have hl : lv_has ls 3 [(0, .ref (ad 0)), (1, .int (nI a.val)), (2, .int (nI b.val))] := hl
  refine ir_ild_n S dX0_product_0 hl 1 rfl ?_
  refine c_isSymbol S dX0_product_1 (by decide) (by decide) hw hl (Nat.le_of_ble_eq_true rfl) (fun H locs hw => ?_)
  refine ir_eqB 23 S dX0_product_4 (by decide)  (fun h2 => absurd ((okS_nI a).symm.trans h2) (by decide)) (fun h2 => ?_)
  refine ir_ild_n S dX0_product_7 hl 2 rfl ?_
  refine c_isSymbol S dX0_product_8 (by decide) (by decide) hw hl (Nat.le_of_ble_eq_true rfl) (fun H locs hw => ?_)
  refine ir_eqB 23 S dX0_product_11 (by decide)  (fun h2 => absurd ((okS_nI b).symm.trans h2) (by decide)) (fun h2 => ?_)
  refine ir_ald_n S dX0_product_14 hl 0 rfl ?_
  refine ir_ild_n S dX0_product_15 hl 1 rfl ?_
  refine ir_ild_n S dX0_product_16 hl 2 rfl ?_
  refine c_times  S dX0_product_17 (by decide) (by decide) hw hl (Nat.le_of_ble_eq_true rfl) (fun H locs hw => ?_)
  refine ir_goto 24 S dX0_product_20 (by decide) ?_
  exact re_I S dX0_product_24 hr hlk hw rfl
set_option maxHeartbeats 4000000 in
theorem ct_valueN (l : Launch) (D : va_G) (dA dZ : ClassId) (ad : Nat → Nat) (w : Nat → F8) (g : Nat → Bool) (sy ru he be nu : Nat → F8) (le : Nat) (wh : Nat → F8) (di : Nat) (x : Int32) (hx : okS x = false) : CtI l D dA dZ yX0_value cX0_value 2 (some .int) 2 [.ref (ad 0), .int x] (wM dA dZ ad w g sy ru he be nu le wh di) (-1) (wM dA dZ ad w g sy ru he be nu le wh di) := by
  refine CtI.of (by decide) (Nat.le_of_ble_eq_true rfl) ?_
  intro p e s m args below meth c A H locs ls S hr hlk hl hw
  have hl : lv_has ls 2 [(0, .ref (ad 0)), (1, .int x)] := hl
  refine ir_ild_n S dX0_value_0 hl 1 rfl ?_
  refine c_isSymbol S dX0_value_1 (by decide) (by decide) hw hl (Nat.le_of_ble_eq_true rfl) (fun H locs hw => ?_)
  refine ir_eqB 19 S dX0_value_4 (by decide)  (fun hc => ?_) (fun hc => absurd (hx.symm.trans hc) (by decide))
  refine ir_ic S dX0_value_19 (((-1))) (by decide) ?_
  exact re_I S dX0_value_20 hr hlk hw rfl
set_option maxHeartbeats 4000000 in
theorem ct_value (l : Launch) (D : va_G) (dA dZ : ClassId) (ad : Nat → Nat) (w : Nat → F8) (g : Nat → Bool) (sy ru he be nu : Nat → F8) (le : Nat) (wh : Nat → F8) (di : Nat) (a : F8) : CtI l D dA dZ yX0_value cX0_value 2 (some .int) 2 [.ref (ad 0), .int (nI a.val)] (wM dA dZ ad w g sy ru he be nu le wh di) (nI (hv w a 7 0).val) (wM dA dZ ad w g sy ru he be nu le wh di) := by
  refine CtI.of (by decide) (Nat.le_of_ble_eq_true rfl) ?_
  intro p e s m args below meth c A H locs ls S hr hlk hl hw
  have hl : lv_has ls 2 [(0, .ref (ad 0)), (1, .int (nI a.val))] := hl
  refine ir_ild_n S dX0_value_0 hl 1 rfl ?_
  refine c_isSymbol S dX0_value_1 (by decide) (by decide) hw hl (Nat.le_of_ble_eq_true rfl) (fun H locs hw => ?_)
  refine ir_eqB 19 S dX0_value_4 (by decide)  (fun h2 => absurd ((okS_nI a).symm.trans h2) (by decide)) (fun h2 => ?_)
  refine ir_ald_n S dX0_value_7 hl 0 rfl ?_
  refine ir_ald_n S dX0_value_8 hl 0 rfl ?_
  refine g0_word S dX0_value_9 hw ?_
  refine ir_ild_n S dX0_value_12 hl 1 rfl ?_
  refine c_valueOf 1 S dX0_value_13 (by decide) (by decide) hw hl (Nat.le_of_ble_eq_true rfl) rfl (fun H locs hw => ?_)
  refine ir_goto 20 S dX0_value_16 (by decide) ?_
  exact re_I S dX0_value_20 hr hlk hw rfl
set_option maxHeartbeats 4000000 in
theorem ct_sendN (l : Launch) (D : va_G) (dA dZ : ClassId) (ad : Nat → Nat) (w : Nat → F8) (g : Nat → Bool) (sy ru he be nu : Nat → F8) (le : Nat) (wh : Nat → F8) (di : Nat) (x y z : Int32) (hx : (okS x && okS y && okS z) = false) : CtI l D dA dZ yX0_send cX0_send 5 (some .int) 2 [.ref (ad 0), .int x, .int y, .int z] (wM dA dZ ad w g sy ru he be nu le wh di) (-1) (wM dA dZ ad w g sy ru he be nu le wh di) := by
  refine CtI.of (by decide) (Nat.le_of_ble_eq_true rfl) ?_
  intro p e s m args below meth c A H locs ls S hr hlk hl hw
  have hl : lv_has ls 5 [(0, .ref (ad 0)), (1, .int x), (2, .int y), (3, .int z)] := hl
  refine ir_ild_n S dX0_send_0 hl 1 rfl ?_
  refine c_isSymbol S dX0_send_1 (by decide) (by decide) hw hl (Nat.le_of_ble_eq_true rfl) (fun H locs hw => ?_)
  refine ir_eqB 21 S dX0_send_4 (by decide)  (fun h1 => ?_) (fun h1 => ?_)
  · refine ir_ic S dX0_send_21 (((-1))) (by decide) ?_
    exact re_I S dX0_send_22 hr hlk hw rfl
  · refine ir_ild_n S dX0_send_7 hl 2 rfl ?_
    refine c_isSymbol S dX0_send_8 (by decide) (by decide) hw hl (Nat.le_of_ble_eq_true rfl) (fun H locs hw => ?_)
    refine ir_eqB 21 S dX0_send_11 (by decide)  (fun h2 => ?_) (fun h2 => ?_)
    · refine ir_ic S dX0_send_21 (((-1))) (by decide) ?_
      exact re_I S dX0_send_22 hr hlk hw rfl
    · refine ir_ild_n S dX0_send_14 hl 3 rfl ?_
      refine c_isSymbol S dX0_send_15 (by decide) (by decide) hw hl (Nat.le_of_ble_eq_true rfl) (fun H locs hw => ?_)
      refine ir_neB 23 S dX0_send_18 (by decide)  (fun h3 => (ex3 hx h1 h2 h3).elim) (fun h3 => ?_)
      refine ir_ic S dX0_send_21 (((-1))) (by decide) ?_
      exact re_I S dX0_send_22 hr hlk hw rfl
def sw (x y z : F8) : Nat → F8 := fun p => if p = 4 then x else if p = 5 then y else if p = 6 then z else 0
set_option maxHeartbeats 4000000 in
theorem lo_send {p : Program} {l : Launch} {e : Env} {s : State} {m : MethodId} {args : Array Value} {below : List Frame} {meth : Method} {c : Code} {Q : State → Prop} {D : va_G} {dA dZ : ClassId} {A : Nat → Prop} {ad : Nat → Nat} {w : Nat → F8} {g : Nat → Bool} {sy ru he be nu : Nat → F8} {le : Nat} {wh : Nat → F8} {di : Nat} {x y z : F8} (S : CallFix p m c cX0_send 5 s args lw_all RX0)  (kk : ∀ (H : Heap) (locs : List Loc) (ls : Array Slot), lv_has ls 5 [(0, .ref (ad 0)), (1, .int (nI x.val)), (2, .int (nI y.val)), (3, .int (nI z.val))] → Wd D dA dZ A s (wM dA dZ ad (sw x y z) (fun _ => false) sy ru he be nu le wh di) H locs → W p l e (rk 2) s m args below meth c H locs 0 0 Q (F0 m 86 ls [])) : ∀ (n k : Nat), k + n = 7 → ∀ (H : Heap) (locs : List Loc) (ls : Array Slot), lv_has ls 5 [(0, .ref (ad 0)), (1, .int (nI x.val)), (2, .int (nI y.val)), (3, .int (nI z.val)), (4, .int (nI k))] → Wd D dA dZ A s (wM dA dZ ad (mx k (sw x y z) w) (mx k (fun _ => false) g) sy ru he be nu le wh di) H locs → W p l e (rk 2) s m args below meth c H locs 0 0 Q (F0 m 26 ls []) := by
  intro n
  induction n with
  | zero =>
    intro k hk H locs ls hl hw
    refine ir_ild S dX0_send_26 hl 4 rfl ?_
    refine ir_bi S dX0_send_28 ((nI 7)) (by decide) ?_
    refine ir_cge 86 S dX0_send_30 (by decide) (by omega) (by omega) (fun hc => ?_) (fun hc => absurd hc (by omega))
    obtain rfl : k = 7 := by omega
    exact kk H locs ls (lv_sub hl [0, 1, 2, 3] rfl) (hw.cg (wM_eq (fun i hi => mx_lt hi) (fun i hi => mx_lt hi) e_rf e_rf e_rf e_rf e_rf e_rf))
  | succ n ih =>
    intro k hk H locs ls hl hw
    refine ir_ild S dX0_send_26 hl 4 rfl ?_
    refine ir_bi S dX0_send_28 ((nI 7)) (by decide) ?_
    refine ir_cge 86 S dX0_send_30 (by decide) (by omega) (by omega) (fun hc => absurd hc (by omega)) (fun hc => ?_)
    refine ir_ald_n S dX0_send_33 hl 0 rfl ?_
    refine g0_word S dX0_send_34 hw ?_
    refine ir_ild S dX0_send_37 hl 4 rfl ?_
    have k1 : ∀ v : F8, v = sw x y z k → W p l e (rk 2) s m args below meth c H locs 0 0 Q (F0 m 71 ls [.int (nI v.val), .int (nI k), .ref (ad 1)]) := by
      intro v hv
      refine ir_is (w1 := (wM dA dZ ad (mx (k + 1) (sw x y z) w) (mx k (fun _ => false) g) sy ru he be nu le wh di)) S dX0_send_71 hw 1 rfl (by omega) (by decide) (mx (k + 1) (sw x y z) w) (fun i _ => mx_up hv i) rfl (fun H locs hw => ?_)
      refine ir_ald_n S dX0_send_72 hl 0 rfl ?_
      refine g0_missing S dX0_send_73 hw ?_
      refine ir_ild S dX0_send_76 hl 4 rfl ?_
      refine ir_ic S dX0_send_78 ((nI false.toNat)) (by decide) ?_
      refine ir_zs (w1 := (wM dA dZ ad (mx (k + 1) (sw x y z) w) (mx (k + 1) (fun _ => false) g) sy ru he be nu le wh di)) S dX0_send_79 hw 2 rfl (by omega) (by decide) (mx (k + 1) (fun _ => false) g) (fun i _ => mx_up rfl i) rfl (fun H locs hw => ?_)
      refine ir_inc (lv1 := [(0, .ref (ad 0)), (1, .int (nI x.val)), (2, .int (nI y.val)), (3, .int (nI z.val)), (4, .int (nI (k + 1)))]) S dX0_send_80 hl 4 rfl [1, 2, 3, 4, 0] (by decide) rfl (fun ls hl => ?_)
      refine ir_goto 26 S dX0_send_83 (by decide) ?_
      exact ih (k + 1) (by omega) H locs ls hl hw
    refine ir_ild S dX0_send_39 hl 4 rfl ?_
    refine ir_ic S dX0_send_41 ((nI 4)) (by decide) ?_
    refine ir_cne 49 S dX0_send_42 (by decide) (by omega) (by omega) (fun h4 => ?_) (fun h4 => ?_)
    · refine ir_ild S dX0_send_49 hl 4 rfl ?_
      refine ir_ic S dX0_send_51 ((nI 5)) (by decide) ?_
      refine ir_cne 59 S dX0_send_52 (by decide) (by omega) (by omega) (fun h5 => ?_) (fun h5 => ?_)
      · refine ir_ild S dX0_send_59 hl 4 rfl ?_
        refine ir_bi S dX0_send_61 ((nI 6)) (by decide) ?_
        refine ir_cne 70 S dX0_send_63 (by decide) (by omega) (by omega) (fun h6 => ?_) (fun h6 => ?_)
        · refine ir_ic S dX0_send_70 ((nI ((0 : F8)).val)) (by decide) ?_
          exact k1 0 (by simp only [sw]; rw [if_neg h4, if_neg h5, if_neg h6])
        · refine ir_ild_n S dX0_send_66 hl 3 rfl ?_
          refine ir_goto 71 S dX0_send_67 (by decide) ?_
          exact k1 z (by rw [h6]; rfl)
      · refine ir_ild_n S dX0_send_55 hl 2 rfl ?_
        refine ir_goto 71 S dX0_send_56 (by decide) ?_
        exact k1 y (by rw [h5]; rfl)
    · refine ir_ild_n S dX0_send_45 hl 1 rfl ?_
      refine ir_goto 71 S dX0_send_46 (by decide) ?_
      exact k1 x (by rw [h4]; rfl)
def snW (x y z : F8) : Nat → F8 := dw (sw x y z) (dv (sw x y z) 3 (0, 0, 0, 0))
set_option maxHeartbeats 4000000 in
theorem ct_send (l : Launch) (D : va_G) (dA dZ : ClassId) (ad : Nat → Nat) (w : Nat → F8) (g : Nat → Bool) (sy ru he be nu : Nat → F8) (le : Nat) (wh : Nat → F8) (di : Nat) (x y z : F8) : CtI l D dA dZ yX0_send cX0_send 5 (some .int) 2 [.ref (ad 0), .int (nI x.val), .int (nI y.val), .int (nI z.val)] (wM dA dZ ad w g sy ru he be nu le wh di) (nI 0) (wM dA dZ ad (snW x y z) (fun _ => false) sy ru he be nu le wh di) := by
  refine CtI.of (by decide) (Nat.le_of_ble_eq_true rfl) ?_
  intro p e s m args below meth c A H locs ls S hr hlk hl hw
  have hl : lv_has ls 5 [(0, .ref (ad 0)), (1, .int (nI x.val)), (2, .int (nI y.val)), (3, .int (nI z.val))] := hl
  refine ir_ild_n S dX0_send_0 hl 1 rfl ?_
  refine c_isSymbol S dX0_send_1 (by decide) (by decide) hw hl (Nat.le_of_ble_eq_true rfl) (fun H locs hw => ?_)
  refine ir_eqB 21 S dX0_send_4 (by decide)  (fun h2 => absurd ((okS_nI x).symm.trans h2) (by decide)) (fun h2 => ?_)
  refine ir_ild_n S dX0_send_7 hl 2 rfl ?_
  refine c_isSymbol S dX0_send_8 (by decide) (by decide) hw hl (Nat.le_of_ble_eq_true rfl) (fun H locs hw => ?_)
  refine ir_eqB 21 S dX0_send_11 (by decide)  (fun h2 => absurd ((okS_nI y).symm.trans h2) (by decide)) (fun h2 => ?_)
  refine ir_ild_n S dX0_send_14 hl 3 rfl ?_
  refine c_isSymbol S dX0_send_15 (by decide) (by decide) hw hl (Nat.le_of_ble_eq_true rfl) (fun H locs hw => ?_)
  refine ir_neB 23 S dX0_send_18 (by decide)  (fun h2 => ?_) (fun h2 => absurd ((okS_nI z).symm.trans h2) (by decide))
  refine ir_ic S dX0_send_23 ((nI 0)) (by decide) ?_
  refine ir_st (lv1 := [(0, .ref (ad 0)), (1, .int (nI x.val)), (2, .int (nI y.val)), (3, .int (nI z.val)), (4, .int (nI 0))]) S dX0_send_24 hl [1, 2, 3, 4, 0] (by decide) rfl (fun ls hl => ?_)
  refine lo_send S (fun H locs ls hl hw => ?_) 7 0 rfl _ _ ls hl (hw.cg (by rw [mx_0, mx_0]))
  refine ir_ald_n S dX0_send_86 hl 0 rfl ?_
  refine c_divideAway S dX0_send_87 (by decide) (by decide) hw hl (Nat.le_of_ble_eq_true rfl) (fun H locs hw => ?_)
  refine ir_ic S dX0_send_90 ((nI 0)) (by decide) ?_
  exact re_I S dX0_send_91 hr hlk hw rfl
end
section
set_option maxRecDepth 100000
theorem ct_badPlace (l : Launch) (D : va_G) (dA dZ : ClassId) (x : Int32) : CtI l D dA dZ yX1_badPlace cX1_badPlace 1 (some .boolean) 0 [.int x] [] (nI (!okP x).toNat) [] := by
  refine CtI.of (by decide) (Nat.le_of_ble_eq_true rfl) ?_
  intro p e s m args below meth c A H locs ls S hr hlk hl hw
  have hl : lv_has ls 1 [(0, .int x)] := hl
  refine ir_ild_n S dX1_badPlace_0 hl 0 rfl ?_
  refine lv_if_lt (tgt := 10) S.1 S.2.1 dX1_badPlace_1 (by decide) (fun h1 => ?_) (fun h1 => ?_)
  · refine ir_ic S dX1_badPlace_10 (nI true.toNat) (by decide) ?_
    refine ir_goto 15 S dX1_badPlace_11 (by decide) ?_
    exact re_Z S dX1_badPlace_15 hr hlk hw rfl (by rw [show okP x = false from decide_eq_false (fun q => q.1 h1)]; rfl)
  · refine ir_ild_n S dX1_badPlace_4 hl 0 rfl ?_
    refine ir_bi S dX1_badPlace_5 6 (by decide) ?_
    refine lv_icmp_le (tgt := 14) S.1 S.2.1 dX1_badPlace_7 (by decide) (fun h2 => ?_) (fun h2 => ?_)
    · refine ir_ic S dX1_badPlace_14 (nI false.toNat) (by decide) ?_
      exact re_Z S dX1_badPlace_15 hr hlk hw rfl (by rw [show okP x = true from decide_eq_true ⟨h1, Int32.not_lt.mpr h2⟩]; rfl)
    · refine ir_ic S dX1_badPlace_10 (nI true.toNat) (by decide) ?_
      refine ir_goto 15 S dX1_badPlace_11 (by decide) ?_
      exact re_Z S dX1_badPlace_15 hr hlk hw rfl (by rw [show okP x = false from decide_eq_false (fun q => h2 (Int32.not_lt.mp q.2))]; rfl)
theorem ct_badSymbol (l : Launch) (D : va_G) (dA dZ : ClassId) (x : Int32) : CtI l D dA dZ yX1_badSymbol cX1_badSymbol 1 (some .boolean) 0 [.int x] [] (nI (!okS x).toNat) [] := by
  refine CtI.of (by decide) (Nat.le_of_ble_eq_true rfl) ?_
  intro p e s m args below meth c A H locs ls S hr hlk hl hw
  have hl : lv_has ls 1 [(0, .int x)] := hl
  refine ir_ild_n S dX1_badSymbol_0 hl 0 rfl ?_
  refine lv_if_lt (tgt := 10) S.1 S.2.1 dX1_badSymbol_1 (by decide) (fun h1 => ?_) (fun h1 => ?_)
  · refine ir_ic S dX1_badSymbol_10 (nI true.toNat) (by decide) ?_
    refine ir_goto 15 S dX1_badSymbol_11 (by decide) ?_
    exact re_Z S dX1_badSymbol_15 hr hlk hw rfl (by rw [show okS x = false from decide_eq_false (fun q => q.1 h1)]; rfl)
  · refine ir_ild_n S dX1_badSymbol_4 hl 0 rfl ?_
    refine ir_bi S dX1_badSymbol_5 7 (by decide) ?_
    refine lv_icmp_le (tgt := 14) S.1 S.2.1 dX1_badSymbol_7 (by decide) (fun h2 => ?_) (fun h2 => ?_)
    · refine ir_ic S dX1_badSymbol_14 (nI false.toNat) (by decide) ?_
      exact re_Z S dX1_badSymbol_15 hr hlk hw rfl (by rw [show okS x = true from decide_eq_true ⟨h1, Int32.not_lt.mpr h2⟩]; rfl)
    · refine ir_ic S dX1_badSymbol_10 (nI true.toNat) (by decide) ?_
      refine ir_goto 15 S dX1_badSymbol_11 (by decide) ?_
      exact re_Z S dX1_badSymbol_15 hr hlk hw rfl (by rw [show okS x = false from decide_eq_false (fun q => h2 (Int32.not_lt.mp q.2))]; rfl)
def mr (a b : Int32) : Nat → Int32
  | 0 => 0
  | i + 1 => if (b >>> (nI i &&& 31)) &&& nI 1 = nI 1 then mr a b i ^^^ (a <<< (nI i &&& 31)) else mr a b i
def mf16 (r : Int32) : Int32 := if r &&& nI 16 = 0 then r else r ^^^ nI 16 ^^^ nI 6
def mf8 (r : Int32) : Int32 := if r &&& nI 8 = 0 then r else r ^^^ nI 8 ^^^ nI 3
theorem mr_gm : ∀ a b : F8, mf8 (mf16 (mr (nI a.val) (nI b.val) 3)) = nI (gm a b).val := by decide +kernel
set_option maxHeartbeats 4000000 in
theorem lo_mul {p : Program} {l : Launch} {e : Env} {s : State} {m : MethodId} {args : Array Value} {below : List Frame} {meth : Method} {c : Code} {Q : State → Prop} {H : Heap} {locs : List Loc} {a b : Int32} (S : CallFix p m c cX1_multiplied 4 s args lw_all RX1) (kk : ∀ (ls : Array Slot), lv_has ls 4 [(0, .int a), (1, .int b), (2, .int (mr a b 3))] → W p l e (rk 0) s m args below meth c H locs 0 0 Q (F0 m 30 ls [])) : ∀ (n k : Nat), k + n = 3 → ∀ (ls : Array Slot), lv_has ls 4 [(0, .int a), (1, .int b), (2, .int (mr a b k)), (3, .int (nI k))] → W p l e (rk 0) s m args below meth c H locs 0 0 Q (F0 m 4 ls []) := by
  intro n
  induction n with
  | zero =>
    intro k hk ls hl
    refine ir_ild_n S dX1_multiplied_4 hl 3 rfl ?_
    refine ir_ic S dX1_multiplied_5 ((nI 3)) (by decide) ?_
    refine ir_cge 30 S dX1_multiplied_6 (by decide) (by omega) (by omega) (fun hc => ?_) (fun hc => absurd hc (by omega))
    obtain rfl : k = 3 := by omega
    exact kk ls (lv_sub hl [0, 1, 2] rfl)
  | succ n ih =>
    intro k hk ls hl
    refine ir_ild_n S dX1_multiplied_4 hl 3 rfl ?_
    refine ir_ic S dX1_multiplied_5 ((nI 3)) (by decide) ?_
    refine ir_cge 30 S dX1_multiplied_6 (by decide) (by omega) (by omega) (fun hc => absurd hc (by omega)) (fun hc => ?_)
    refine ir_ild_n S dX1_multiplied_9 hl 1 rfl ?_
    refine ir_ild_n S dX1_multiplied_10 hl 3 rfl ?_
    refine lv_ishr S.1 S.2.1 dX1_multiplied_11 ?_
    refine ir_ic S dX1_multiplied_12 ((nI 1)) (by decide) ?_
    refine lv_iand S.1 S.2.1 dX1_multiplied_13 ?_
    refine ir_ic S dX1_multiplied_14 ((nI 1)) (by decide) ?_
    refine lv_icmp_ne (tgt := 24) S.1 S.2.1 dX1_multiplied_15 (by decide) (fun hc => ?_) (fun hc => ?_)
    · refine ir_inc (lv1 := [(0, .int a), (1, .int b), (2, .int (mr a b k)), (3, .int (nI (k + 1)))]) S dX1_multiplied_24 hl 3 rfl [1, 2, 3, 0] (by decide) rfl (fun ls hl => ?_)
      refine ir_goto 4 S dX1_multiplied_27 (by decide) ?_
      have e1 : mr a b (k + 1) = mr a b k := if_neg hc
      exact ih (k + 1) (by omega) ls (by rw [e1]; exact hl)
    · refine ir_ild_n S dX1_multiplied_18 hl 2 rfl ?_
      refine ir_ild_n S dX1_multiplied_19 hl 0 rfl ?_
      refine ir_ild_n S dX1_multiplied_20 hl 3 rfl ?_
      refine lv_ishl S.1 S.2.1 dX1_multiplied_21 ?_
      refine lv_ixor S.1 S.2.1 dX1_multiplied_22 ?_
      refine ir_st_n (lv1 := [(0, .int a), (1, .int b), (2, .int ((mr a b k) ^^^ (a <<< ((nI k) &&& 31)))), (3, .int (nI k))]) S dX1_multiplied_23 hl [1, 2, 0, 3] (by decide) rfl (fun ls hl => ?_)
      refine ir_inc (lv1 := [(0, .int a), (1, .int b), (2, .int ((mr a b k) ^^^ (a <<< ((nI k) &&& 31)))), (3, .int (nI (k + 1)))]) S dX1_multiplied_24 hl 3 rfl [1, 2, 3, 0] (by decide) rfl (fun ls hl => ?_)
      refine ir_goto 4 S dX1_multiplied_27 (by decide) ?_
      have e1 : mr a b (k + 1) = mr a b k ^^^ (a <<< (nI k &&& 31)) := if_pos hc
      exact ih (k + 1) (by omega) ls (by rw [e1]; exact hl)
set_option maxHeartbeats 4000000 in
theorem ct_multiplied (l : Launch) (D : va_G) (dA dZ : ClassId) (a b : F8) : CtI l D dA dZ yX1_multiplied cX1_multiplied 4 (some .int) 0 [.int (nI a.val), .int (nI b.val)] [] (nI (gm a b).val) [] := by
  refine CtI.of (by decide) (Nat.le_of_ble_eq_true rfl) ?_
  intro p e s m args below meth c A H locs ls S hr hlk hl hw
  have hl : lv_has ls 4 [(0, .int (nI a.val)), (1, .int (nI b.val))] := hl
  refine ir_ic S dX1_multiplied_0 (0) (by decide) ?_
  refine ir_st_n (lv1 := [(0, .int (nI a.val)), (1, .int (nI b.val)), (2, .int 0)]) S dX1_multiplied_1 hl [1, 2, 0] (by decide) rfl (fun ls hl => ?_)
  refine ir_ic S dX1_multiplied_2 ((nI 0)) (by decide) ?_
  refine ir_st_n (lv1 := [(0, .int (nI a.val)), (1, .int (nI b.val)), (2, .int 0), (3, .int (nI 0))]) S dX1_multiplied_3 hl [1, 2, 3, 0] (by decide) rfl (fun ls hl => ?_)
  rw [← mr_gm]
  refine lo_mul S (fun ls hl => ?_) 3 0 rfl ls hl
  generalize mr (nI a.val) (nI b.val) 3 = r at hl ⊢
  have key : ∀ (r1 : Int32) (ls : Array Slot), r1 = mf16 r → lv_has ls 4 [(0, .int (nI a.val)), (1, .int (nI b.val)), (2, .int r1)] → W p l e (rk 0) s m args below meth c H locs 0 0 (EI D dA dZ (mf8 (mf16 r)) [] A below args s) (F0 m 45 ls []) := by
    intro r1 ls h1 hl
    refine ir_ild_n S dX1_multiplied_45 hl 2 rfl ?_
    refine ir_bi S dX1_multiplied_46 ((nI 8)) (by decide) ?_
    refine lv_iand S.1 S.2.1 dX1_multiplied_48 ?_
    refine lv_if_eq (tgt := 59) S.1 S.2.1 dX1_multiplied_49 (by decide) (fun hc => ?_) (fun hc => ?_)
    · refine ir_ild_n S dX1_multiplied_59 hl 2 rfl ?_
      exact re_I S dX1_multiplied_60 hr hlk hw (by rw [← h1]; exact (if_pos hc).symm)
    · refine ir_ild_n S dX1_multiplied_52 hl 2 rfl ?_
      refine ir_bi S dX1_multiplied_53 ((nI 8)) (by decide) ?_
      refine lv_ixor S.1 S.2.1 dX1_multiplied_55 ?_
      refine ir_ic S dX1_multiplied_56 ((nI 3)) (by decide) ?_
      refine lv_ixor S.1 S.2.1 dX1_multiplied_57 ?_
      refine ir_st_n (lv1 := [(0, .int (nI a.val)), (1, .int (nI b.val)), (2, .int ((r1 ^^^ (nI 8)) ^^^ (nI 3)))]) S dX1_multiplied_58 hl [1, 2, 0] (by decide) rfl (fun ls hl => ?_)
      refine ir_ild_n S dX1_multiplied_59 hl 2 rfl ?_
      exact re_I S dX1_multiplied_60 hr hlk hw (by rw [← h1]; exact (if_neg hc).symm)
  refine ir_ild_n S dX1_multiplied_30 hl 2 rfl ?_
  refine ir_bi S dX1_multiplied_31 ((nI 16)) (by decide) ?_
  refine lv_iand S.1 S.2.1 dX1_multiplied_33 ?_
  refine lv_if_eq (tgt := 45) S.1 S.2.1 dX1_multiplied_34 (by decide) (fun hc => ?_) (fun hc => ?_)
  · exact key r ls (if_pos hc).symm hl
  · refine ir_ild_n S dX1_multiplied_37 hl 2 rfl ?_
    refine ir_bi S dX1_multiplied_38 ((nI 16)) (by decide) ?_
    refine lv_ixor S.1 S.2.1 dX1_multiplied_40 ?_
    refine ir_bi S dX1_multiplied_41 ((nI 6)) (by decide) ?_
    refine lv_ixor S.1 S.2.1 dX1_multiplied_43 ?_
    refine ir_st_n (lv1 := [(0, .int (nI a.val)), (1, .int (nI b.val)), (2, .int ((r ^^^ (nI 16)) ^^^ (nI 6)))]) S dX1_multiplied_44 hl [1, 2, 0] (by decide) rfl (fun ls hl => ?_)
    exact key _ ls (if_neg hc).symm hl
section D1
variable {p : Program} {l : Launch} {e : Env} {R : Room} {s : State} {m : MethodId} {args : Array Value} {below : List Frame} {meth : Method} {c : Code} {H : Heap} {locs : List Loc} {cells slots : Nat} {Q : State → Prop} {cc : ByteArray} {nL : Nat} {pc : Nat} {ls : Array Slot} {rest : List Value} {D : va_G} {dA dZ : ClassId} {A : Nat → Prop} {ad : Nat → Nat} {lv : List (Nat × Value)} {ws : va_W}
theorem c_badPlace {x : Int32} (S : CallFix p m c cc nL s args lw_all RX1) (hdg : decode cc pc = .ok (.invokestatic 41, 3)) (hR : 1 ≤ R.frames ∧ 20 ≤ R.locals) (hf : cells ≤ R.cells ∧ slots ≤ R.slots) (hw : Wd D dA dZ A s ws H locs) (hl : lv_has ls nL lv) (hroom : (rest.map fun v => v.category).sum ≤ 8) (kk : ∀ (H1 : Heap) (locs1 : List Loc), Wd D dA dZ A s ws H1 locs1 → W p l e R s m args below meth c H1 locs1 cells slots Q (F0 m (pc + 3) ls (.int (nI (!okP x).toNat) :: rest))) : W p l e R s m args below meth c H locs cells slots Q (F0 m pc ls (.int x :: rest)) :=
  ca_S (nA := 1) (As := [.int x]) S hdg (ct_badPlace l D dA dZ x) (lw_S q197 q198 q18 q199) (by decide +kernel) rfl hR hf hw hl.1 rfl hroom kk
theorem c_badSymbol {x : Int32} (S : CallFix p m c cc nL s args lw_all RX1) (hdg : decode cc pc = .ok (.invokestatic 31, 3)) (hR : 1 ≤ R.frames ∧ 20 ≤ R.locals) (hf : cells ≤ R.cells ∧ slots ≤ R.slots) (hw : Wd D dA dZ A s ws H locs) (hl : lv_has ls nL lv) (hroom : (rest.map fun v => v.category).sum ≤ 8) (kk : ∀ (H1 : Heap) (locs1 : List Loc), Wd D dA dZ A s ws H1 locs1 → W p l e R s m args below meth c H1 locs1 cells slots Q (F0 m (pc + 3) ls (.int (nI (!okS x).toNat) :: rest))) : W p l e R s m args below meth c H locs cells slots Q (F0 m pc ls (.int x :: rest)) :=
  ca_S (nA := 1) (As := [.int x]) S hdg (ct_badSymbol l D dA dZ x) (lw_S q182 q183 q18 q184) (by decide +kernel) rfl hR hf hw hl.1 rfl hroom kk
theorem c_mult {a b : F8} (S : CallFix p m c cc nL s args lw_all RX1) (hdg : decode cc pc = .ok (.invokestatic 27, 3)) (hR : 1 ≤ R.frames ∧ 23 ≤ R.locals) (hf : cells ≤ R.cells ∧ slots ≤ R.slots) (hw : Wd D dA dZ A s ws H locs) (hl : lv_has ls nL lv) (hroom : (rest.map fun v => v.category).sum ≤ 8) (kk : ∀ (H1 : Heap) (locs1 : List Loc), Wd D dA dZ A s ws H1 locs1 → W p l e R s m args below meth c H1 locs1 cells slots Q (F0 m (pc + 3) ls (.int (nI (gm a b).val) :: rest))) : W p l e R s m args below meth c H locs cells slots Q (F0 m pc ls (.int (nI b.val) :: .int (nI a.val) :: rest)) :=
  ca_S (nA := 2) (As := [.int (nI a.val), .int (nI b.val)]) S hdg (ct_multiplied l D dA dZ a b) (lw_S q162 q163 q18 q164) (by decide +kernel) rfl hR hf hw hl.1 rfl hroom kk
end D1
def tzF (ze : Nat → F8) (rt : F8) : Nat → F8 := fun i => gx (if i = 0 then 0 else ze (i - 1)) (gm (ze i) rt)
set_option maxHeartbeats 4000000 in
theorem lo_zt {p : Program} {l : Launch} {e : Env} {s : State} {m : MethodId} {args : Array Value} {below : List Frame} {meth : Method} {c : Code} {D : va_G} {dA dZ : ClassId} {A : Nat → Prop} {ad : Nat → Nat} {w : Nat → F8} {g : Nat → Bool} {ze ma : Nat → F8} {rt : F8} (S : CallFix p m c cX1_times 4 s args lw_all RX1) (hr : meth.sig.returnType = none) (hlk : meth.locks = false) : ∀ (n : Nat), n ≤ 5 → ∀ (H : Heap) (locs : List Loc) (ls : Array Slot), lv_has ls 4 [(0, .ref (ad 0)), (1, .int (nI rt.val)), (2, .int (dn n))] → Wd D dA dZ A s (wO dA dZ ad w g (md n 5 (tzF ze rt) ze) ma) H locs → W p l e (rk 1) s m args below meth c H locs 0 0 (EV D dA dZ (wO dA dZ ad w g (tzF ze rt) ma) A below args s) (F0 m 2 ls []) := by
  intro n
  induction n with
  | zero =>
    intro hn H locs ls hl hw
    refine ir_ild_n S dX1_times_2 hl 2 rfl ?_
    refine ir_lt0 47 S dX1_times_3 (by decide) ?_
    exact re_V S dX1_times_47 hr hlk (hw.cg (wO_eq e_rf e_rf (fun i hi => md_in (Nat.zero_le i) hi) e_rf))
  | succ n ih =>
    intro hn H locs ls hl hw
    refine ir_ild_n S dX1_times_2 hl 2 rfl ?_
    refine ir_ltS 47 S dX1_times_3 (by decide) (by omega) ?_
    have hl : lv_has ls 4 [(0, .ref (ad 0)), (1, .int (nI rt.val)), (2, .int (nI n))] := hl
    have k1 : ∀ v : F8, v = (if n = 0 then 0 else ze (n - 1)) → W p l e (rk 1) s m args below meth c H locs 0 0 (EV D dA dZ (wO dA dZ ad w g (tzF ze rt) ma) A below args s) (F0 m 22 ls [.int (nI v.val)]) := by
      intro v hv
      refine ir_st_n (lv1 := [(0, .ref (ad 0)), (1, .int (nI rt.val)), (2, .int (nI n)), (3, .int (nI v.val))]) S dX1_times_22 hl [1, 2, 3, 0] (by decide) rfl (fun ls hl => ?_)
      refine ir_ald_n S dX1_times_23 hl 0 rfl ?_
      refine g1_zeros S dX1_times_24 hw ?_
      refine ir_ild_n S dX1_times_27 hl 2 rfl ?_
      refine ir_ild_n S dX1_times_28 hl 3 rfl ?_
      refine ir_ald_n S dX1_times_29 hl 0 rfl ?_
      refine g1_zeros S dX1_times_30 hw ?_
      refine ir_ild_n S dX1_times_33 hl 2 rfl ?_
      refine ir_ia S dX1_times_34 hw 3 rfl (by omega) (by decide) ?_
      refine ir_ild_n S dX1_times_35 hl 1 rfl ?_
      refine c_mult S dX1_times_36 (by decide) (by decide) hw hl (Nat.le_of_ble_eq_true rfl) (fun H locs hw => ?_)
      refine ir_xor S dX1_times_39 ?_
      refine ir_is (w1 := (wO dA dZ ad w g (md n 5 (tzF ze rt) ze) ma)) S dX1_times_40 hw 3 rfl (by omega) (by decide) (md n 5 (tzF ze rt) ze) (fun i _ => md_up (by rw [hv, md_lo (by omega)]; rfl) (by omega) i) rfl (fun H locs hw => ?_)
      have hl : lv_has ls 4 [(0, .ref (ad 0)), (1, .int (nI rt.val)), (2, .int (dn (n + 1))), (3, .int (nI v.val))] := hl
      refine ir_dcd (lv1 := [(0, .ref (ad 0)), (1, .int (nI rt.val)), (2, .int (dn n)), (3, .int (nI v.val))]) S dX1_times_41 hl 2 rfl [1, 2, 0, 3] (by decide) rfl (fun ls hl => ?_)
      refine ir_goto 2 S dX1_times_44 (by decide) ?_
      exact ih (by omega) H locs ls (lv_sub hl [0, 1, 2] rfl) hw
    refine ir_ild_n S dX1_times_6 hl 2 rfl ?_
    refine ir_leN 21 S dX1_times_7 (by decide) (by omega) (fun hc => ?_) (fun hc => ?_)
    · refine ir_ic S dX1_times_21 ((nI ((0 : F8)).val)) (by decide) ?_
      exact k1 0 (if_pos hc).symm
    · refine ir_ald_n S dX1_times_10 hl 0 rfl ?_
      refine g1_zeros S dX1_times_11 hw ?_
      refine ir_ild_n S dX1_times_14 hl 2 rfl ?_
      refine ir_ic S dX1_times_15 ((nI 1)) (by decide) ?_
      refine ir_sub S dX1_times_16 (by omega) ?_
      refine ir_ia S dX1_times_17 hw 3 rfl (by omega) (by decide) ?_
      refine ir_goto 22 S dX1_times_18 (by decide) ?_
      exact k1 _ (by rw [if_neg (by omega), md_lo (by omega)])
set_option maxHeartbeats 4000000 in
theorem ct_ztimes (l : Launch) (D : va_G) (dA dZ : ClassId) (ad : Nat → Nat) (w : Nat → F8) (g : Nat → Bool) (ze ma : Nat → F8) (rt : F8) : CtV l D dA dZ yX1_times cX1_times 4 none 1 [.ref (ad 0), .int (nI rt.val)] (wO dA dZ ad w g ze ma) (wO dA dZ ad w g (tzF ze rt) ma) := by
  refine CtV.of (by decide) (Nat.le_of_ble_eq_true rfl) ?_
  intro p e s m args below meth c A H locs ls S hr hlk hl hw
  have hl : lv_has ls 4 [(0, .ref (ad 0)), (1, .int (nI rt.val))] := hl
  refine ir_ic S dX1_times_0 ((nI 4)) (by decide) ?_
  refine ir_st_n (lv1 := [(0, .ref (ad 0)), (1, .int (nI rt.val)), (2, .int (dn 5))]) S dX1_times_1 hl [1, 2, 0] (by decide) rfl (fun ls hl => ?_)
  exact lo_zt S hr hlk 5 (by omega) _ _ ls hl (hw.cg (by rw [md_e]))
section D2
variable {p : Program} {l : Launch} {e : Env} {R : Room} {s : State} {m : MethodId} {args : Array Value} {below : List Frame} {meth : Method} {c : Code} {H : Heap} {locs : List Loc} {cells slots : Nat} {Q : State → Prop} {cc : ByteArray} {nL : Nat} {pc : Nat} {ls : Array Slot} {rest : List Value} {D : va_G} {dA dZ : ClassId} {A : Nat → Prop} {ad : Nat → Nat} {lv : List (Nat × Value)} {ws : va_W}
theorem c_ztimes {w : Nat → F8} {g : Nat → Bool} {ze ma : Nat → F8} {rt : F8} (S : CallFix p m c cc nL s args lw_all RX1) (hdg : decode cc pc = .ok (.invokevirtual 23, 3)) (hR : 2 ≤ R.frames ∧ 55 ≤ R.locals) (hf : cells ≤ R.cells ∧ slots ≤ R.slots) (hw : Wd D dA dZ A s (wO dA dZ ad w g ze ma) H locs) (hl : lv_has ls nL lv) (hroom : (rest.map fun v => v.category).sum ≤ 8)  (kk : ∀ (H1 : Heap) (locs1 : List Loc), Wd D dA dZ A s (wO dA dZ ad w g (tzF ze rt) ma) H1 locs1 → W p l e R s m args below meth c H1 locs1 cells slots Q (F0 m (pc + 3) ls rest)) : W p l e R s m args below meth c H locs cells slots Q (F0 m pc ls (.int (nI rt.val) :: .ref (ad 0) :: rest)) :=
  ca_V (q0 := 0) (nA := 1) (ci := 1) (As := [.int (nI rt.val)]) (C := RX1) S hdg (ct_ztimes l D dA dZ ad w g ze ma rt) (lw_V q158 q160 qs10 q18 q161) (by decide +kernel) rfl hR hf hw rfl rfl hl.1 rfl hroom kk
end D2
def dg (N j : Nat) : F8 := ⟨N / 2 ^ (3 * j) % 8, Nat.mod_lt _ (by decide)⟩
theorem dg_at {N j : Nat} (hN : N < 512) (hj : j < 3) : (nI N >>> (nI (3 * j) &&& 31)) &&& nI 7 = nI (dg N j).val := by
  have h : ∀ j : Fin 3, ((nI (3 * j.val) &&& 31).toBitVec.smod 32).toNat = 3 * j.val := by decide +kernel
  rw [pk_shrN (by omega) _ (3 * j) (h ⟨j, hj⟩), pk_andN (Nat.lt_of_le_of_lt (Nat.div_le_self _ _) (by omega)) (m := nI 7) 3 (by decide)]
  rfl
def inn (ze : Nat → F8) (d : F8) (j : Nat) (M : Nat → F8) : Nat → Nat → F8
  | 0 => M
  | i + 1 => va_up (inn ze d j M i) (i + j) (gx (inn ze d j M i (i + j)) (gm (ze i) d))
def mkO (ze : Nat → F8) (N : Nat) : Nat → Nat → F8
  | 0 => fun _ => 0
  | j + 1 => inn ze (dg N j) j (mkO ze N j) 5
set_option maxHeartbeats 4000000 in
theorem lo_mk1 {p : Program} {l : Launch} {e : Env} {s : State} {m : MethodId} {args : Array Value} {below : List Frame} {meth : Method} {c : Code} {Q : State → Prop} {D : va_G} {dA dZ : ClassId} {A : Nat → Prop} {ad : Nat → Nat} {w : Nat → F8} {g : Nat → Bool} {ze ma : Nat → F8} {N : Nat} (S : CallFix p m c cX1_make 5 s args lw_all RX1)  (kk : ∀ (H : Heap) (locs : List Loc) (ls : Array Slot), lv_has ls 5 [(0, .ref (ad 0)), (1, .int (nI N))] → Wd D dA dZ A s (wO dA dZ ad w g ze (fun _ => 0)) H locs → W p l e (rk 1) s m args below meth c H locs 0 0 Q (F0 m 21 ls [])) : ∀ (n k : Nat), k + n = 7 → ∀ (H : Heap) (locs : List Loc) (ls : Array Slot), lv_has ls 5 [(0, .ref (ad 0)), (1, .int (nI N)), (2, .int (nI k))] → Wd D dA dZ A s (wO dA dZ ad w g ze (mx k (fun _ => 0) ma)) H locs → W p l e (rk 1) s m args below meth c H locs 0 0 Q (F0 m 2 ls []) := by
  intro n
  induction n with
  | zero =>
    intro k hk H locs ls hl hw
    refine ir_ild_n S dX1_make_2 hl 2 rfl ?_
    refine ir_bi S dX1_make_3 ((nI 7)) (by decide) ?_
    refine ir_cge 21 S dX1_make_5 (by decide) (by omega) (by omega) (fun hc => ?_) (fun hc => absurd hc (by omega))
    obtain rfl : k = 7 := by omega
    exact kk H locs ls (lv_sub hl [0, 1] rfl) (hw.cg (wO_eq e_rf e_rf e_rf (fun i hi => mx_lt hi)))
  | succ n ih =>
    intro k hk H locs ls hl hw
    refine ir_ild_n S dX1_make_2 hl 2 rfl ?_
    refine ir_bi S dX1_make_3 ((nI 7)) (by decide) ?_
    refine ir_cge 21 S dX1_make_5 (by decide) (by omega) (by omega) (fun hc => absurd hc (by omega)) (fun hc => ?_)
    refine ir_ald_n S dX1_make_8 hl 0 rfl ?_
    refine g1_made S dX1_make_9 hw ?_
    refine ir_ild_n S dX1_make_12 hl 2 rfl ?_
    refine ir_ic S dX1_make_13 ((nI ((0 : F8)).val)) (by decide) ?_
    refine ir_is (w1 := (wO dA dZ ad w g ze (mx (k + 1) (fun _ => 0) ma))) S dX1_make_14 hw 4 rfl (by omega) (by decide) (mx (k + 1) (fun _ => 0) ma) (fun i _ => mx_up rfl i) rfl (fun H locs hw => ?_)
    refine ir_inc (lv1 := [(0, .ref (ad 0)), (1, .int (nI N)), (2, .int (nI (k + 1)))]) S dX1_make_15 hl 2 rfl [1, 2, 0] (by decide) rfl (fun ls hl => ?_)
    refine ir_goto 2 S dX1_make_18 (by decide) ?_
    exact ih (k + 1) (by omega) H locs ls hl hw
set_option maxHeartbeats 4000000 in
theorem lo_mk2 {p : Program} {l : Launch} {e : Env} {s : State} {m : MethodId} {args : Array Value} {below : List Frame} {meth : Method} {c : Code} {Q : State → Prop} {D : va_G} {dA dZ : ClassId} {A : Nat → Prop} {ad : Nat → Nat} {w : Nat → F8} {g : Nat → Bool} {ze ma : Nat → F8} {N j : Nat} {d : F8} (hj : j < 3) (S : CallFix p m c cX1_make 5 s args lw_all RX1)  (kk : ∀ (H : Heap) (locs : List Loc) (ls : Array Slot), lv_has ls 5 [(0, .ref (ad 0)), (1, .int (nI N)), (2, .int (nI j))] → Wd D dA dZ A s (wO dA dZ ad w g ze (inn ze d j ma 5)) H locs → W p l e (rk 1) s m args below meth c H locs 0 0 Q (F0 m 75 ls [])) : ∀ (n k : Nat), k + n = 5 → ∀ (H : Heap) (locs : List Loc) (ls : Array Slot), lv_has ls 5 [(0, .ref (ad 0)), (1, .int (nI N)), (2, .int (nI j)), (3, .int (nI d.val)), (4, .int (nI k))] → Wd D dA dZ A s (wO dA dZ ad w g ze (inn ze d j ma k)) H locs → W p l e (rk 1) s m args below meth c H locs 0 0 Q (F0 m 40 ls []) := by
  intro n
  induction n with
  | zero =>
    intro k hk H locs ls hl hw
    refine ir_ild S dX1_make_40 hl 4 rfl ?_
    refine ir_ic S dX1_make_42 ((nI 5)) (by decide) ?_
    refine ir_cge 75 S dX1_make_43 (by decide) (by omega) (by omega) (fun hc => ?_) (fun hc => absurd hc (by omega))
    obtain rfl : k = 5 := by omega
    exact kk H locs ls (lv_sub hl [0, 1, 2] rfl) hw
  | succ n ih =>
    intro k hk H locs ls hl hw
    refine ir_ild S dX1_make_40 hl 4 rfl ?_
    refine ir_ic S dX1_make_42 ((nI 5)) (by decide) ?_
    refine ir_cge 75 S dX1_make_43 (by decide) (by omega) (by omega) (fun hc => absurd hc (by omega)) (fun hc => ?_)
    refine ir_ald_n S dX1_make_46 hl 0 rfl ?_
    refine g1_made S dX1_make_47 hw ?_
    refine ir_ild S dX1_make_50 hl 4 rfl ?_
    refine ir_ild_n S dX1_make_52 hl 2 rfl ?_
    refine ir_add S dX1_make_53 ?_
    refine ir_dup2 S dX1_make_54 rfl rfl ?_
    refine ir_ia S dX1_make_55 hw 4 rfl (by omega) (by decide) ?_
    refine ir_ald_n S dX1_make_56 hl 0 rfl ?_
    refine g1_zeros S dX1_make_57 hw ?_
    refine ir_ild S dX1_make_60 hl 4 rfl ?_
    refine ir_ia S dX1_make_62 hw 3 rfl (by omega) (by decide) ?_
    refine ir_ild_n S dX1_make_63 hl 3 rfl ?_
    refine c_mult S dX1_make_64 (by decide) (by decide) hw hl (Nat.le_of_ble_eq_true rfl) (fun H locs hw => ?_)
    refine ir_xor S dX1_make_67 ?_
    refine ir_is (w1 := (wO dA dZ ad w g ze (inn ze d j ma (k + 1)))) S dX1_make_68 hw 4 rfl (by omega) (by decide) (inn ze d j ma (k + 1)) (fun _ _ => rfl) rfl (fun H locs hw => ?_)
    refine ir_inc (lv1 := [(0, .ref (ad 0)), (1, .int (nI N)), (2, .int (nI j)), (3, .int (nI d.val)), (4, .int (nI (k + 1)))]) S dX1_make_69 hl 4 rfl [1, 2, 3, 4, 0] (by decide) rfl (fun ls hl => ?_)
    refine ir_goto 40 S dX1_make_72 (by decide) ?_
    exact ih (k + 1) (by omega) H locs ls hl hw
set_option maxHeartbeats 4000000 in
theorem lo_mk3 {p : Program} {l : Launch} {e : Env} {s : State} {m : MethodId} {args : Array Value} {below : List Frame} {meth : Method} {c : Code} {Q : State → Prop} {D : va_G} {dA dZ : ClassId} {A : Nat → Prop} {ad : Nat → Nat} {w : Nat → F8} {g : Nat → Bool} {ze ma : Nat → F8} {N : Nat} (hN : N < 512) (S : CallFix p m c cX1_make 5 s args lw_all RX1)  (kk : ∀ (H : Heap) (locs : List Loc) (ls : Array Slot), lv_has ls 5 [(0, .ref (ad 0)), (1, .int (nI N)), (2, .int (nI 3))] → Wd D dA dZ A s (wO dA dZ ad w g ze (mkO ze N 3)) H locs → W p l e (rk 1) s m args below meth c H locs 0 0 Q (F0 m 81 ls [])) : ∀ (n k : Nat), k + n = 3 → ∀ (H : Heap) (locs : List Loc) (ls : Array Slot), lv_has ls 5 [(0, .ref (ad 0)), (1, .int (nI N)), (2, .int (nI k))] → Wd D dA dZ A s (wO dA dZ ad w g ze (mkO ze N k)) H locs → W p l e (rk 1) s m args below meth c H locs 0 0 Q (F0 m 23 ls []) := by
  intro n
  induction n with
  | zero =>
    intro k hk H locs ls hl hw
    refine ir_ild_n S dX1_make_23 hl 2 rfl ?_
    refine ir_ic S dX1_make_24 ((nI 3)) (by decide) ?_
    refine ir_cge 81 S dX1_make_25 (by decide) (by omega) (by omega) (fun hc => ?_) (fun hc => absurd hc (by omega))
    obtain rfl : k = 3 := by omega
    exact kk H locs ls hl hw
  | succ n ih =>
    intro k hk H locs ls hl hw
    refine ir_ild_n S dX1_make_23 hl 2 rfl ?_
    refine ir_ic S dX1_make_24 ((nI 3)) (by decide) ?_
    refine ir_cge 81 S dX1_make_25 (by decide) (by omega) (by omega) (fun hc => absurd hc (by omega)) (fun hc => ?_)
    refine ir_ild_n S dX1_make_28 hl 1 rfl ?_
    refine ir_ic S dX1_make_29 ((nI 3)) (by decide) ?_
    refine ir_ild_n S dX1_make_30 hl 2 rfl ?_
    refine ir_mul S dX1_make_31 ?_
    refine lv_ishr S.1 S.2.1 dX1_make_32 ?_
    refine ir_bi S dX1_make_33 ((nI 7)) (by decide) ?_
    refine lv_iand S.1 S.2.1 dX1_make_35 ?_
    rw [dg_at hN (by omega)]
    refine ir_st_n (lv1 := [(0, .ref (ad 0)), (1, .int (nI N)), (2, .int (nI k)), (3, .int (nI (dg N k).val))]) S dX1_make_36 hl [1, 2, 3, 0] (by decide) rfl (fun ls hl => ?_)
    refine ir_ic S dX1_make_37 ((nI 0)) (by decide) ?_
    refine ir_st (lv1 := [(0, .ref (ad 0)), (1, .int (nI N)), (2, .int (nI k)), (3, .int (nI (dg N k).val)), (4, .int (nI 0))]) S dX1_make_38 hl [1, 2, 3, 4, 0] (by decide) rfl (fun ls hl => ?_)
    refine lo_mk2 (by omega) S (fun H locs ls hl hw => ?_) 5 0 rfl H locs ls hl hw
    refine ir_inc (lv1 := [(0, .ref (ad 0)), (1, .int (nI N)), (2, .int (nI (k + 1)))]) S dX1_make_75 hl 2 rfl [1, 2, 0] (by decide) rfl (fun ls hl => ?_)
    refine ir_goto 23 S dX1_make_78 (by decide) ?_
    exact ih (k + 1) (by omega) H locs ls hl hw
set_option maxHeartbeats 4000000 in
theorem ct_make (l : Launch) (D : va_G) (dA dZ : ClassId) (ad : Nat → Nat) (w : Nat → F8) (g : Nat → Bool) (ze ma : Nat → F8) (N : Nat) (hN : N < 512) : CtV l D dA dZ yX1_make cX1_make 5 none 1 [.ref (ad 0), .int (nI N)] (wO dA dZ ad w g ze ma) (wO dA dZ ad w g ze (mkO ze N 3)) := by
  refine CtV.of (by decide) (Nat.le_of_ble_eq_true rfl) ?_
  intro p e s m args below meth c A H locs ls S hr hlk hl hw
  have hl : lv_has ls 5 [(0, .ref (ad 0)), (1, .int (nI N))] := hl
  refine ir_ic S dX1_make_0 ((nI 0)) (by decide) ?_
  refine ir_st_n (lv1 := [(0, .ref (ad 0)), (1, .int (nI N)), (2, .int (nI 0))]) S dX1_make_1 hl [1, 2, 0] (by decide) rfl (fun ls hl => ?_)
  refine lo_mk1 S (fun H locs ls hl hw => ?_) 7 0 rfl _ _ ls hl (hw.cg (by rw [mx_0]))
  refine ir_ic S dX1_make_21 ((nI 0)) (by decide) ?_
  refine ir_st_n (lv1 := [(0, .ref (ad 0)), (1, .int (nI N)), (2, .int (nI 0))]) S dX1_make_22 hl [1, 2, 0] (by decide) rfl (fun ls hl => ?_)
  refine lo_mk3 (ma := ma) hN S (fun H locs ls hl hw => ?_) 3 0 rfl _ _ ls hl hw
  exact re_V S dX1_make_81 hr hlk hw
section D3
variable {p : Program} {l : Launch} {e : Env} {R : Room} {s : State} {m : MethodId} {args : Array Value} {below : List Frame} {meth : Method} {c : Code} {H : Heap} {locs : List Loc} {cells slots : Nat} {Q : State → Prop} {cc : ByteArray} {nL : Nat} {pc : Nat} {ls : Array Slot} {rest : List Value} {D : va_G} {dA dZ : ClassId} {A : Nat → Prop} {ad : Nat → Nat} {lv : List (Nat × Value)} {ws : va_W}
theorem c_make {w : Nat → F8} {g : Nat → Bool} {ze ma : Nat → F8} {N : Nat} (S : CallFix p m c cc nL s args lw_all RX1) (hdg : decode cc pc = .ok (.invokevirtual 35, 3)) (hR : 2 ≤ R.frames ∧ 56 ≤ R.locals) (hf : cells ≤ R.cells ∧ slots ≤ R.slots) (hw : Wd D dA dZ A s (wO dA dZ ad w g ze ma) H locs) (hl : lv_has ls nL lv) (hroom : (rest.map fun v => v.category).sum ≤ 8) (hN : N < 512) (kk : ∀ (H1 : Heap) (locs1 : List Loc), Wd D dA dZ A s (wO dA dZ ad w g ze (mkO ze N 3)) H1 locs1 → W p l e R s m args below meth c H1 locs1 cells slots Q (F0 m (pc + 3) ls rest)) : W p l e R s m args below meth c H locs cells slots Q (F0 m pc ls (.int (nI N) :: .ref (ad 0) :: rest)) :=
  ca_V (q0 := 0) (nA := 1) (ci := 1) (As := [.int (nI N)]) (C := RX1) S hdg (ct_make l D dA dZ ad w g ze ma N hN) (lw_V q185 q187 qs11 q18 q188) (by decide +kernel) rfl hR hf hw rfl rfl hl.1 rfl hroom kk
end D3
end
section
set_option maxRecDepth 100000
theorem nb_t {b : Bool} (h : (!b) = true) : b = false := by cases b <;> first | rfl | exact absurd h (by decide)
theorem nb_f {b : Bool} (h : (!b) = false) : b = true := by cases b <;> first | rfl | exact absurd h (by decide)
def mC (ze ma : Nat → F8) : Nat → Nat → F8
  | 0 => ma
  | n + 1 => mkO ze n 3
def sOw (ze : Nat → F8) (x y z : F8) (w : Nat → F8) : Nat → Nat → F8
  | 0 => w
  | n + 1 => if mkO ze n 3 4 = x ∧ mkO ze n 3 5 = y ∧ mkO ze n 3 6 = z then mkO ze n 3 else sOw ze x y z w n
def sOg (ze : Nat → F8) (x y z : F8) (g : Nat → Bool) : Nat → Nat → Bool
  | 0 => g
  | n + 1 => if mkO ze n 3 4 = x ∧ mkO ze n 3 5 = y ∧ mkO ze n 3 6 = z then (fun _ => false) else sOg ze x y z g n
def fs (P : Nat → Bool) : Nat → Nat → Nat
  | 0, k => k
  | n + 1, k => if P k = true then k else fs P n (k + 1)
def hO (w : Nat → F8) (g : Nat → Bool) (ze : Nat → F8) : Nat → Bool := fun k => decide (2 * cn (dfF w g (mkO ze k 3)) 7 + cn g 7 ≤ 4)
def fdI (w : Nat → F8) (g : Nat → Bool) (ze : Nat → F8) : Nat := fs (hO w g ze) 512 0
def fdB (w : Nat → F8) (g : Nat → Bool) (ze : Nat → F8) : Bool := decide (fdI w g ze < 512)
def fdM (w : Nat → F8) (g : Nat → Bool) (ze : Nat → F8) : Nat → F8 := mkO ze (min (fdI w g ze) 511) 3
def vOT (w : Nat → F8) (a : F8) : Nat → F8 := fun i => gm (w i) (gp a i)
set_option maxHeartbeats 4000000 in
theorem lp_take {p : Program} {l : Launch} {e : Env} {s : State} {m : MethodId} {args : Array Value} {below : List Frame} {meth : Method} {c : Code} {Q : State → Prop} {D : va_G} {dA dZ : ClassId} {A : Nat → Prop} {ad : Nat → Nat} {w : Nat → F8} {g : Nat → Bool} {ze ma : Nat → F8}  (S : CallFix p m c cX1_take 2 s args lw_all RX1)  (kk : ∀ (H : Heap) (locs : List Loc) (ls : Array Slot), lv_has ls 2 [(0, .ref (ad 0))] → Wd D dA dZ A s (wO dA dZ ad ma (fun _ => false) ze ma) H locs → W p l e (rk 0) s m args below meth c H locs 0 0 Q (F0 m 33 ls [])) : ∀ (n k : Nat), k + n = 7 → ∀ (H : Heap) (locs : List Loc) (ls : Array Slot), lv_has ls 2 [(0, .ref (ad 0)), (1, .int (nI k))] → Wd D dA dZ A s (wO dA dZ ad (mx k ma w) (mx k (fun _ => false) g) ze ma) H locs → W p l e (rk 0) s m args below meth c H locs 0 0 Q (F0 m 2 ls []) := by
  intro n
  induction n with
  | zero =>
    intro k hk H locs ls hl hw
    refine ir_ild_n S dX1_take_2 hl 1 rfl ?_
    refine ir_bi S dX1_take_3 ((nI 7)) (by decide) ?_
    refine ir_cge 33 S dX1_take_5 (by decide) (by omega) (by omega) (fun hc => ?_) (fun hc => absurd hc (by omega))
    obtain rfl : k = 7 := by omega
    exact kk H locs ls (lv_sub hl [0] rfl) (hw.cg (wO_eq (fun i hi => mx_lt hi) (fun i hi => mx_lt hi) e_rf e_rf))
  | succ n ih =>
    intro k hk H locs ls hl hw
    refine ir_ild_n S dX1_take_2 hl 1 rfl ?_
    refine ir_bi S dX1_take_3 ((nI 7)) (by decide) ?_
    refine ir_cge 33 S dX1_take_5 (by decide) (by omega) (by omega) (fun hc => absurd hc (by omega)) (fun hc => ?_)
    refine ir_ald_n S dX1_take_8 hl 0 rfl ?_
    refine g1_line S dX1_take_9 hw ?_
    refine ir_ild_n S dX1_take_12 hl 1 rfl ?_
    refine ir_ald_n S dX1_take_13 hl 0 rfl ?_
    refine g1_made S dX1_take_14 hw ?_
    refine ir_ild_n S dX1_take_17 hl 1 rfl ?_
    refine ir_ia S dX1_take_18 hw 4 rfl (by omega) (by decide) ?_
    refine ir_is (w1 := (wO dA dZ ad (mx (k + 1) ma w) (mx k (fun _ => false) g) ze ma)) S dX1_take_19 hw 1 rfl (by omega) (by decide) (mx (k + 1) ma w) (fun i _ => mx_up rfl i) rfl (fun H locs hw => ?_)
    refine ir_ald_n S dX1_take_20 hl 0 rfl ?_
    refine g1_missing S dX1_take_21 hw ?_
    refine ir_ild_n S dX1_take_24 hl 1 rfl ?_
    refine ir_ic S dX1_take_25 ((nI false.toNat)) (by decide) ?_
    refine ir_zs (w1 := (wO dA dZ ad (mx (k + 1) ma w) (mx (k + 1) (fun _ => false) g) ze ma)) S dX1_take_26 hw 2 rfl (by omega) (by decide) (mx (k + 1) (fun _ => false) g) (fun i _ => mx_up rfl i) rfl (fun H locs hw => ?_)
    refine ir_inc (lv1 := [(0, .ref (ad 0)), (1, .int (nI (k + 1)))]) S dX1_take_27 hl 1 rfl [1, 0] (by decide) rfl (fun ls hl => ?_)
    refine ir_goto 2 S dX1_take_30 (by decide) ?_
    exact ih (k + 1) (by omega) H locs ls hl hw
set_option maxHeartbeats 4000000 in
theorem co_take (l : Launch) (D : va_G) (dA dZ : ClassId) (ad : Nat → Nat) (w : Nat → F8) (g : Nat → Bool) (ze ma : Nat → F8)  : CtV l D dA dZ yX1_take cX1_take 2 none 0 [.ref (ad 0)] (wO dA dZ ad w g ze ma) (wO dA dZ ad ma (fun _ => false) ze ma) := by
  refine CtV.of (by decide) (Nat.le_of_ble_eq_true rfl) ?_
  intro p e s m args below meth c A H locs ls S hr hlk hl hw
  have hl : lv_has ls 2 [(0, .ref (ad 0))] := hl
  refine ir_ic S dX1_take_0 ((nI 0)) (by decide) ?_
  refine ir_st_n (lv1 := [(0, .ref (ad 0)), (1, .int (nI 0))]) S dX1_take_1 hl [1, 0] (by decide) rfl (fun ls hl => ?_)
  refine lp_take S (fun H locs ls hl hw => ?_) 7 0 rfl _ _ ls hl (hw.cg (by rw [mx_0, mx_0]))
  exact re_V S dX1_take_33 hr hlk hw
set_option maxHeartbeats 4000000 in
theorem lp_lost {p : Program} {l : Launch} {e : Env} {s : State} {m : MethodId} {args : Array Value} {below : List Frame} {meth : Method} {c : Code} {Q : State → Prop} {D : va_G} {dA dZ : ClassId} {A : Nat → Prop} {ad : Nat → Nat} {w : Nat → F8} {g : Nat → Bool} {ze ma : Nat → F8}  (S : CallFix p m c cX1_lost 3 s args lw_all RX1)  (kk : ∀ (H : Heap) (locs : List Loc) (ls : Array Slot), lv_has ls 3 [(0, .ref (ad 0)), (1, .int (nI (cn g 7)))] → Wd D dA dZ A s (wO dA dZ ad w g ze ma) H locs → W p l e (rk 0) s m args below meth c H locs 0 0 Q (F0 m 33 ls [])) : ∀ (n k : Nat), k + n = 7 → ∀ (H : Heap) (locs : List Loc) (ls : Array Slot), lv_has ls 3 [(0, .ref (ad 0)), (1, .int (nI (cn g k))), (2, .int (nI k))] → Wd D dA dZ A s (wO dA dZ ad w g ze ma) H locs → W p l e (rk 0) s m args below meth c H locs 0 0 Q (F0 m 4 ls []) := by
  intro n
  induction n with
  | zero =>
    intro k hk H locs ls hl hw
    refine ir_ild_n S dX1_lost_4 hl 2 rfl ?_
    refine ir_bi S dX1_lost_5 ((nI 7)) (by decide) ?_
    refine ir_cge 33 S dX1_lost_7 (by decide) (by omega) (by omega) (fun hc => ?_) (fun hc => absurd hc (by omega))
    obtain rfl : k = 7 := by omega
    exact kk H locs ls (lv_sub hl [0, 1] rfl) hw
  | succ n ih =>
    intro k hk H locs ls hl hw
    refine ir_ild_n S dX1_lost_4 hl 2 rfl ?_
    refine ir_bi S dX1_lost_5 ((nI 7)) (by decide) ?_
    refine ir_cge 33 S dX1_lost_7 (by decide) (by omega) (by omega) (fun hc => absurd hc (by omega)) (fun hc => ?_)
    refine ir_ild_n S dX1_lost_10 hl 1 rfl ?_
    have k1 : ∀ v : Nat, v = (g k).toNat → W p l e (rk 0) s m args below meth c H locs 0 0 Q (F0 m 25 ls [.int (nI v), .int (nI (cn g k))]) := by
      intro v hv
      refine ir_add S dX1_lost_25 ?_
      have ed : cn g k + v = cn g (k + 1) := by rw [hv]; rfl
      rw [ed]
      refine ir_st_n (lv1 := [(0, .ref (ad 0)), (1, .int (nI (cn g (k + 1)))), (2, .int (nI k))]) S dX1_lost_26 hl [1, 0, 2] (by decide) rfl (fun ls hl => ?_)
      refine ir_inc (lv1 := [(0, .ref (ad 0)), (1, .int (nI (cn g (k + 1)))), (2, .int (nI (k + 1)))]) S dX1_lost_27 hl 2 rfl [1, 2, 0] (by decide) rfl (fun ls hl => ?_)
      refine ir_goto 4 S dX1_lost_30 (by decide) ?_
      exact ih (k + 1) (by omega) H locs ls hl hw
    refine ir_ald_n S dX1_lost_11 hl 0 rfl ?_
    refine g1_missing S dX1_lost_12 hw ?_
    refine ir_ild_n S dX1_lost_15 hl 2 rfl ?_
    refine ir_za S dX1_lost_16 hw 2 rfl (by omega) (by decide) ?_
    refine ir_eqB 24 S dX1_lost_17 (by decide)  (fun hc => ?_) (fun hc => ?_)
    · refine ir_ic S dX1_lost_24 ((nI 0)) (by decide) ?_
      exact k1 0 (by rw [hc]; rfl)
    · refine ir_ic S dX1_lost_20 ((nI 1)) (by decide) ?_
      refine ir_goto 25 S dX1_lost_21 (by decide) ?_
      exact k1 1 (by rw [hc]; rfl)
set_option maxHeartbeats 4000000 in
theorem co_lost (l : Launch) (D : va_G) (dA dZ : ClassId) (ad : Nat → Nat) (w : Nat → F8) (g : Nat → Bool) (ze ma : Nat → F8)  : CtI l D dA dZ yX1_lost cX1_lost 3 (some .int) 0 [.ref (ad 0)] (wO dA dZ ad w g ze ma) (nI (cn g 7)) (wO dA dZ ad w g ze ma) := by
  refine CtI.of (by decide) (Nat.le_of_ble_eq_true rfl) ?_
  intro p e s m args below meth c A H locs ls S hr hlk hl hw
  have hl : lv_has ls 3 [(0, .ref (ad 0))] := hl
  refine ir_ic S dX1_lost_0 ((nI 0)) (by decide) ?_
  refine ir_st_n (lv1 := [(0, .ref (ad 0)), (1, .int (nI 0))]) S dX1_lost_1 hl [1, 0] (by decide) rfl (fun ls hl => ?_)
  refine ir_ic S dX1_lost_2 ((nI 0)) (by decide) ?_
  refine ir_st_n (lv1 := [(0, .ref (ad 0)), (1, .int (nI 0)), (2, .int (nI 0))]) S dX1_lost_3 hl [1, 2, 0] (by decide) rfl (fun ls hl => ?_)
  refine lp_lost S (fun H locs ls hl hw => ?_) 7 0 rfl _ _ ls hl hw
  refine ir_ild_n S dX1_lost_33 hl 1 rfl ?_
  exact re_I S dX1_lost_34 hr hlk hw rfl
theorem dz_0 {f : Nat → Bool} {k : Nat} (h : f k = false) : cn f (k + 1) = cn f k := by
  show cn f k + (f k).toNat = cn f k
  rw [h]; rfl
theorem dz_1 {f : Nat → Bool} {k : Nat} (h : f k = true) : cn f (k + 1) = cn f k + 1 := by
  show cn f k + (f k).toNat = cn f k + 1
  rw [h]; rfl
set_option maxHeartbeats 4000000 in
theorem lp_diff {p : Program} {l : Launch} {e : Env} {s : State} {m : MethodId} {args : Array Value} {below : List Frame} {meth : Method} {c : Code} {Q : State → Prop} {D : va_G} {dA dZ : ClassId} {A : Nat → Prop} {ad : Nat → Nat} {w : Nat → F8} {g : Nat → Bool} {ze ma : Nat → F8}  (S : CallFix p m c cX1_different 3 s args lw_all RX1)  (kk : ∀ (H : Heap) (locs : List Loc) (ls : Array Slot), lv_has ls 3 [(0, .ref (ad 0)), (1, .int (nI (cn (dfF w g ma) 7)))] → Wd D dA dZ A s (wO dA dZ ad w g ze ma) H locs → W p l e (rk 0) s m args below meth c H locs 0 0 Q (F0 m 43 ls [])) : ∀ (n k : Nat), k + n = 7 → ∀ (H : Heap) (locs : List Loc) (ls : Array Slot), lv_has ls 3 [(0, .ref (ad 0)), (1, .int (nI (cn (dfF w g ma) k))), (2, .int (nI k))] → Wd D dA dZ A s (wO dA dZ ad w g ze ma) H locs → W p l e (rk 0) s m args below meth c H locs 0 0 Q (F0 m 4 ls []) := by
  intro n
  induction n with
  | zero =>
    intro k hk H locs ls hl hw
    refine ir_ild_n S dX1_different_4 hl 2 rfl ?_
    refine ir_bi S dX1_different_5 ((nI 7)) (by decide) ?_
    refine ir_cge 43 S dX1_different_7 (by decide) (by omega) (by omega) (fun hc => ?_) (fun hc => absurd hc (by omega))
    obtain rfl : k = 7 := by omega
    exact kk H locs ls (lv_sub hl [0, 1] rfl) hw
  | succ n ih =>
    intro k hk H locs ls hl hw
    refine ir_ild_n S dX1_different_4 hl 2 rfl ?_
    refine ir_bi S dX1_different_5 ((nI 7)) (by decide) ?_
    refine ir_cge 43 S dX1_different_7 (by decide) (by omega) (by omega) (fun hc => absurd hc (by omega)) (fun hc => ?_)
    have k1 : ∀ ls : Array Slot, lv_has ls 3 [(0, .ref (ad 0)), (1, .int (nI (cn (dfF w g ma) (k + 1)))), (2, .int (nI k))] → W p l e (rk 0) s m args below meth c H locs 0 0 Q (F0 m 37 ls []) := by
      intro ls hl
      refine ir_inc (lv1 := [(0, .ref (ad 0)), (1, .int (nI (cn (dfF w g ma) (k + 1)))), (2, .int (nI (k + 1)))]) S dX1_different_37 hl 2 rfl [1, 2, 0] (by decide) rfl (fun ls hl => ?_)
      refine ir_goto 4 S dX1_different_40 (by decide) ?_
      exact ih (k + 1) (by omega) H locs ls hl hw
    refine ir_ald_n S dX1_different_10 hl 0 rfl ?_
    refine g1_missing S dX1_different_11 hw ?_
    refine ir_ild_n S dX1_different_14 hl 2 rfl ?_
    refine ir_za S dX1_different_15 hw 2 rfl (by omega) (by decide) ?_
    refine ir_neB 37 S dX1_different_16 (by decide)  (fun h1 => ?_) (fun h1 => ?_)
    · exact k1 ls (by rw [show cn (dfF w g ma) (k + 1) = cn (dfF w g ma) k from dz_0 (by simp [dfF, h1])]; exact hl)
    · refine ir_ald_n S dX1_different_19 hl 0 rfl ?_
      refine g1_line S dX1_different_20 hw ?_
      refine ir_ild_n S dX1_different_23 hl 2 rfl ?_
      refine ir_ia S dX1_different_24 hw 1 rfl (by omega) (by decide) ?_
      refine ir_ald_n S dX1_different_25 hl 0 rfl ?_
      refine g1_made S dX1_different_26 hw ?_
      refine ir_ild_n S dX1_different_29 hl 2 rfl ?_
      refine ir_ia S dX1_different_30 hw 4 rfl (by omega) (by decide) ?_
      refine ir_ceq8 37 S dX1_different_31 (by decide)  (fun h2 => ?_) (fun h2 => ?_)
      · exact k1 ls (by rw [show cn (dfF w g ma) (k + 1) = cn (dfF w g ma) k from dz_0 (by simp [dfF, h2])]; exact hl)
      · refine ir_inc (lv1 := [(0, .ref (ad 0)), (1, .int (nI (cn (dfF w g ma) k + 1))), (2, .int (nI k))]) S dX1_different_34 hl 1 rfl [1, 0, 2] (by decide) rfl (fun ls hl => ?_)
        exact k1 ls (by rw [show cn (dfF w g ma) (k + 1) = cn (dfF w g ma) k + 1 from dz_1 (by simp only [dfF, h1]; rw [decide_eq_false (fun q => h2 q.symm)]; rfl)]; exact hl)
set_option maxHeartbeats 4000000 in
theorem co_diff (l : Launch) (D : va_G) (dA dZ : ClassId) (ad : Nat → Nat) (w : Nat → F8) (g : Nat → Bool) (ze ma : Nat → F8)  : CtI l D dA dZ yX1_different cX1_different 3 (some .int) 0 [.ref (ad 0)] (wO dA dZ ad w g ze ma) (nI (cn (dfF w g ma) 7)) (wO dA dZ ad w g ze ma) := by
  refine CtI.of (by decide) (Nat.le_of_ble_eq_true rfl) ?_
  intro p e s m args below meth c A H locs ls S hr hlk hl hw
  have hl : lv_has ls 3 [(0, .ref (ad 0))] := hl
  refine ir_ic S dX1_different_0 ((nI 0)) (by decide) ?_
  refine ir_st_n (lv1 := [(0, .ref (ad 0)), (1, .int (nI 0))]) S dX1_different_1 hl [1, 0] (by decide) rfl (fun ls hl => ?_)
  refine ir_ic S dX1_different_2 ((nI 0)) (by decide) ?_
  refine ir_st_n (lv1 := [(0, .ref (ad 0)), (1, .int (nI 0)), (2, .int (nI 0))]) S dX1_different_3 hl [1, 2, 0] (by decide) rfl (fun ls hl => ?_)
  refine lp_diff S (fun H locs ls hl hw => ?_) 7 0 rfl _ _ ls hl hw
  refine ir_ild_n S dX1_different_43 hl 1 rfl ?_
  exact re_I S dX1_different_44 hr hlk hw rfl
section D4
variable {p : Program} {l : Launch} {e : Env} {R : Room} {s : State} {m : MethodId} {args : Array Value} {below : List Frame} {meth : Method} {c : Code} {H : Heap} {locs : List Loc} {cells slots : Nat} {Q : State → Prop} {cc : ByteArray} {nL : Nat} {pc : Nat} {ls : Array Slot} {rest : List Value} {D : va_G} {dA dZ : ClassId} {A : Nat → Prop} {ad : Nat → Nat} {lv : List (Nat × Value)} {ws : va_W}
theorem c_take {w : Nat → F8} {g : Nat → Bool} {ze ma : Nat → F8}  (S : CallFix p m c cc nL s args lw_all RX1) (hdg : decode cc pc = .ok (.invokevirtual 38, 3)) (hR : 1 ≤ R.frames ∧ 21 ≤ R.locals) (hf : cells ≤ R.cells ∧ slots ≤ R.slots) (hw : Wd D dA dZ A s (wO dA dZ ad w g ze ma) H locs) (hl : lv_has ls nL lv) (hroom : (rest.map fun v => v.category).sum ≤ 8)  (kk : ∀ (H1 : Heap) (locs1 : List Loc), Wd D dA dZ A s (wO dA dZ ad ma (fun _ => false) ze ma) H1 locs1 → W p l e R s m args below meth c H1 locs1 cells slots Q (F0 m (pc + 3) ls rest)) : W p l e R s m args below meth c H locs cells slots Q (F0 m pc ls (.ref (ad 0) :: rest)) :=
  ca_V (q0 := 0) (nA := 0) (ci := 1) (As := []) (C := RX1) S hdg (co_take l D dA dZ ad w g ze ma) (lw_V q189 q191 qs12 q18 q192) (by decide +kernel) rfl hR hf hw rfl rfl hl.1 rfl hroom kk
theorem c_lost {w : Nat → F8} {g : Nat → Bool} {ze ma : Nat → F8}  (S : CallFix p m c cc nL s args lw_all RX1) (hdg : decode cc pc = .ok (.invokevirtual 44, 3)) (hR : 1 ≤ R.frames ∧ 22 ≤ R.locals) (hf : cells ≤ R.cells ∧ slots ≤ R.slots) (hw : Wd D dA dZ A s (wO dA dZ ad w g ze ma) H locs) (hl : lv_has ls nL lv) (hroom : (rest.map fun v => v.category).sum ≤ 8)  (kk : ∀ (H1 : Heap) (locs1 : List Loc), Wd D dA dZ A s (wO dA dZ ad w g ze ma) H1 locs1 → W p l e R s m args below meth c H1 locs1 cells slots Q (F0 m (pc + 3) ls (.int (nI (cn g 7)) :: rest))) : W p l e R s m args below meth c H locs cells slots Q (F0 m pc ls (.ref (ad 0) :: rest)) :=
  ca_I (q0 := 0) (nA := 0) (ci := 1) (As := []) (C := RX1) S hdg (co_lost l D dA dZ ad w g ze ma) (lw_V q216 q218 qs14 q18 q219) (by decide +kernel) rfl hR hf hw rfl rfl hl.1 rfl hroom kk
theorem c_diff {w : Nat → F8} {g : Nat → Bool} {ze ma : Nat → F8}  (S : CallFix p m c cc nL s args lw_all RX1) (hdg : decode cc pc = .ok (.invokevirtual 48, 3)) (hR : 1 ≤ R.frames ∧ 22 ≤ R.locals) (hf : cells ≤ R.cells ∧ slots ≤ R.slots) (hw : Wd D dA dZ A s (wO dA dZ ad w g ze ma) H locs) (hl : lv_has ls nL lv) (hroom : (rest.map fun v => v.category).sum ≤ 8)  (kk : ∀ (H1 : Heap) (locs1 : List Loc), Wd D dA dZ A s (wO dA dZ ad w g ze ma) H1 locs1 → W p l e R s m args below meth c H1 locs1 cells slots Q (F0 m (pc + 3) ls (.int (nI (cn (dfF w g ma) 7)) :: rest))) : W p l e R s m args below meth c H locs cells slots Q (F0 m pc ls (.ref (ad 0) :: rest)) :=
  ca_I (q0 := 0) (nA := 0) (ci := 1) (As := []) (C := RX1) S hdg (co_diff l D dA dZ ad w g ze ma) (lw_V q220 q222 qs15 q18 q223) (by decide +kernel) rfl hR hf hw rfl rfl hl.1 rfl hroom kk
end D4
set_option maxHeartbeats 4000000 in
theorem lp_find {p : Program} {l : Launch} {e : Env} {s : State} {m : MethodId} {args : Array Value} {below : List Frame} {meth : Method} {c : Code} {D : va_G} {dA dZ : ClassId} {A : Nat → Prop} {ad : Nat → Nat} {w : Nat → F8} {g : Nat → Bool} {ze ma : Nat → F8} {I : Nat} (S : CallFix p m c cX1_find 3 s args lw_all RX1) (hr : meth.sig.returnType = some .boolean) (hlk : meth.locks = false) : ∀ (n k : Nat), k + n = 512 → fs (hO w g ze) n k = I → ∀ (H : Heap) (locs : List Loc) (ls : Array Slot), lv_has ls 3 [(0, .ref (ad 0)), (1, .int (nI (cn g 7))), (2, .int (nI k))] → Wd D dA dZ A s (wO dA dZ ad w g ze (mC ze ma k)) H locs → W p l e (rk 2) s m args below meth c H locs 0 0 (EI D dA dZ (nI (decide (I < 512)).toNat) (wO dA dZ ad w g ze (mkO ze (min I 511) 3)) A below args s) (F0 m 7 ls []) := by
  intro n
  induction n with
  | zero =>
    intro k hk hI H locs ls hl hw
    refine ir_ild_n S dX1_find_7 hl 2 rfl ?_
    refine ir_si S dX1_find_8 ((nI 512)) (by decide) ?_
    refine ir_cge 39 S dX1_find_11 (by decide) (by omega) (by omega) (fun hc => ?_) (fun hc => absurd hc (by omega))
    obtain rfl : k = 512 := by omega
    obtain rfl : 512 = I := hI
    refine ir_ic S dX1_find_39 ((nI false.toNat)) (by decide) ?_
    exact re_Z (b := false) S dX1_find_40 hr hlk hw rfl rfl
  | succ n ih =>
    intro k hk hI H locs ls hl hw
    refine ir_ild_n S dX1_find_7 hl 2 rfl ?_
    refine ir_si S dX1_find_8 ((nI 512)) (by decide) ?_
    refine ir_cge 39 S dX1_find_11 (by decide) (by omega) (by omega) (fun hc => absurd hc (by omega)) (fun hc => ?_)
    refine ir_ald_n S dX1_find_14 hl 0 rfl ?_
    refine ir_ild_n S dX1_find_15 hl 2 rfl ?_
    refine c_make S dX1_find_16 (by decide) (by decide) hw hl (Nat.le_of_ble_eq_true rfl) (by omega) (fun H locs hw => ?_)
    refine ir_ic S dX1_find_19 ((nI 2)) (by decide) ?_
    refine ir_ald_n S dX1_find_20 hl 0 rfl ?_
    refine c_diff S dX1_find_21 (by decide) (by decide) hw hl (Nat.le_of_ble_eq_true rfl) (fun H locs hw => ?_)
    refine ir_mul S dX1_find_24 ?_
    refine ir_ild_n S dX1_find_25 hl 1 rfl ?_
    refine ir_add S dX1_find_26 ?_
    refine ir_ic S dX1_find_27 ((nI 4)) (by decide) ?_
    have h7 := cn_le g 7
    have h8 := cn_le (dfF w g (mkO ze k 3)) 7
    refine ir_cgt 33 S dX1_find_28 (by decide) (by omega) (by omega) (fun hc => ?_) (fun hc => ?_)
    · have e1 : fs (hO w g ze) n (k + 1) = I := (if_neg (fun q => absurd (of_decide_eq_true q) (by omega))).symm.trans hI
      refine ir_inc (lv1 := [(0, .ref (ad 0)), (1, .int (nI (cn g 7))), (2, .int (nI (k + 1)))]) S dX1_find_33 hl 2 rfl [1, 2, 0] (by decide) rfl (fun ls hl => ?_)
      refine ir_goto 7 S dX1_find_36 (by decide) ?_
      exact ih (k + 1) (by omega) e1 H locs ls hl hw
    · have e1 : k = I := (if_pos (decide_eq_true hc)).symm.trans hI
      subst e1
      refine ir_ic S dX1_find_31 ((nI true.toNat)) (by decide) ?_
      exact re_Z (b := true) S dX1_find_32 hr hlk (hw.cg (by rw [Nat.min_eq_left (by omega)])) rfl (by rw [decide_eq_true (show k < 512 by omega)])
set_option maxHeartbeats 4000000 in
theorem co_find (l : Launch) (D : va_G) (dA dZ : ClassId) (ad : Nat → Nat) (w : Nat → F8) (g : Nat → Bool) (ze ma : Nat → F8)  : CtI l D dA dZ yX1_find cX1_find 3 (some .boolean) 2 [.ref (ad 0)] (wO dA dZ ad w g ze ma) (nI (fdB w g ze).toNat) (wO dA dZ ad w g ze (fdM w g ze)) := by
  refine CtI.of (by decide) (Nat.le_of_ble_eq_true rfl) ?_
  intro p e s m args below meth c A H locs ls S hr hlk hl hw
  have hl : lv_has ls 3 [(0, .ref (ad 0))] := hl
  refine ir_ald_n S dX1_find_0 hl 0 rfl ?_
  refine c_lost S dX1_find_1 (by decide) (by decide) hw hl (Nat.le_of_ble_eq_true rfl) (fun H locs hw => ?_)
  refine ir_st_n (lv1 := [(0, .ref (ad 0)), (1, .int (nI (cn g 7)))]) S dX1_find_4 hl [1, 0] (by decide) rfl (fun ls hl => ?_)
  refine ir_ic S dX1_find_5 ((nI 0)) (by decide) ?_
  refine ir_st_n (lv1 := [(0, .ref (ad 0)), (1, .int (nI (cn g 7))), (2, .int (nI 0))]) S dX1_find_6 hl [1, 2, 0] (by decide) rfl (fun ls hl => ?_)
  exact lp_find (I := fdI w g ze) S hr hlk 512 0 rfl rfl _ _ ls hl hw
section D5
variable {p : Program} {l : Launch} {e : Env} {R : Room} {s : State} {m : MethodId} {args : Array Value} {below : List Frame} {meth : Method} {c : Code} {H : Heap} {locs : List Loc} {cells slots : Nat} {Q : State → Prop} {cc : ByteArray} {nL : Nat} {pc : Nat} {ls : Array Slot} {rest : List Value} {D : va_G} {dA dZ : ClassId} {A : Nat → Prop} {ad : Nat → Nat} {lv : List (Nat × Value)} {ws : va_W}
theorem c_find {w : Nat → F8} {g : Nat → Bool} {ze ma : Nat → F8}  (S : CallFix p m c cc nL s args lw_all RX1) (hdg : decode cc pc = .ok (.invokevirtual 51, 3)) (hR : 3 ≤ R.frames ∧ 86 ≤ R.locals) (hf : cells ≤ R.cells ∧ slots ≤ R.slots) (hw : Wd D dA dZ A s (wO dA dZ ad w g ze ma) H locs) (hl : lv_has ls nL lv) (hroom : (rest.map fun v => v.category).sum ≤ 8)  (kk : ∀ (H1 : Heap) (locs1 : List Loc), Wd D dA dZ A s (wO dA dZ ad w g ze (fdM w g ze)) H1 locs1 → W p l e R s m args below meth c H1 locs1 cells slots Q (F0 m (pc + 3) ls (.int (nI (fdB w g ze).toNat) :: rest))) : W p l e R s m args below meth c H locs cells slots Q (F0 m pc ls (.ref (ad 0) :: rest)) :=
  ca_I (q0 := 0) (nA := 0) (ci := 1) (As := []) (C := RX1) S hdg (co_find l D dA dZ ad w g ze ma) (lw_V q212 q214 qs13 q18 q215) (by decide +kernel) rfl hR hf hw rfl rfl hl.1 rfl hroom kk
end D5
set_option maxHeartbeats 4000000 in
theorem co_fits (l : Launch) (D : va_G) (dA dZ : ClassId) (ad : Nat → Nat) (w : Nat → F8) (g : Nat → Bool) (ze ma : Nat → F8)  : CtI l D dA dZ yX1_fits cX1_fits 1 (some .int) 3 [.ref (ad 0)] (wO dA dZ ad w g ze ma) (nI (fdB w g ze).toNat) (wO dA dZ ad w g ze (fdM w g ze)) := by
  refine CtI.of (by decide) (Nat.le_of_ble_eq_true rfl) ?_
  intro p e s m args below meth c A H locs ls S hr hlk hl hw
  have hl : lv_has ls 1 [(0, .ref (ad 0))] := hl
  refine ir_ald_n S dX1_fits_0 hl 0 rfl ?_
  refine c_find S dX1_fits_1 (by decide) (by decide) hw hl (Nat.le_of_ble_eq_true rfl) (fun H locs hw => ?_)
  refine ir_eqB 11 S dX1_fits_4 (by decide)  (fun hc => ?_) (fun hc => ?_)
  · refine ir_ic S dX1_fits_11 ((nI false.toNat)) (by decide) ?_
    exact re_I S dX1_fits_12 hr hlk hw (by rw [hc])
  · refine ir_ic S dX1_fits_7 ((nI true.toNat)) (by decide) ?_
    refine ir_goto 12 S dX1_fits_8 (by decide) ?_
    exact re_I S dX1_fits_12 hr hlk hw (by rw [hc])
set_option maxHeartbeats 4000000 in
theorem co_mendedN (l : Launch) (D : va_G) (dA dZ : ClassId) (ad : Nat → Nat) (w : Nat → F8) (g : Nat → Bool) (ze ma : Nat → F8) (x : Int32) (hx : okP x = false) : CtI l D dA dZ yX1_mended cX1_mended 2 (some .int) 3 [.ref (ad 0), .int x] (wO dA dZ ad w g ze ma) (-1) (wO dA dZ ad w g ze ma) := by
  refine CtI.of (by decide) (Nat.le_of_ble_eq_true rfl) ?_
  intro p e s m args below meth c A H locs ls S hr hlk hl hw
  have hl : lv_has ls 2 [(0, .ref (ad 0)), (1, .int x)] := hl
  refine ir_ild_n S dX1_mended_0 hl 1 rfl ?_
  refine c_badPlace S dX1_mended_1 (by decide) (by decide) hw hl (Nat.le_of_ble_eq_true rfl) (fun H locs hw => ?_)
  refine ir_neB 14 S dX1_mended_4 (by decide)  (fun hc => ?_) (fun hc => absurd (hx.symm.trans (nb_f hc)) (by decide))
  refine ir_ic S dX1_mended_14 (((-1))) (by decide) ?_
  refine ir_goto 24 S dX1_mended_15 (by decide) ?_
  exact re_I S dX1_mended_24 hr hlk hw rfl
set_option maxHeartbeats 4000000 in
theorem co_mended (l : Launch) (D : va_G) (dA dZ : ClassId) (ad : Nat → Nat) (w : Nat → F8) (g : Nat → Bool) (ze ma : Nat → F8) (j : Nat) (hj : j < 7) : CtI l D dA dZ yX1_mended cX1_mended 2 (some .int) 3 [.ref (ad 0), .int (nI j)] (wO dA dZ ad w g ze ma) (if fdB w g ze = true then nI (fdM w g ze j).val else -1) (wO dA dZ ad w g ze (fdM w g ze)) := by
  refine CtI.of (by decide) (Nat.le_of_ble_eq_true rfl) ?_
  intro p e s m args below meth c A H locs ls S hr hlk hl hw
  have hl : lv_has ls 2 [(0, .ref (ad 0)), (1, .int (nI j))] := hl
  refine ir_ild_n S dX1_mended_0 hl 1 rfl ?_
  refine c_badPlace S dX1_mended_1 (by decide) (by decide) hw hl (Nat.le_of_ble_eq_true rfl) (fun H locs hw => ?_)
  refine ir_neB 14 S dX1_mended_4 (by decide)  (fun hc => absurd ((okP_nI hj).symm.trans (nb_t hc)) (by decide)) (fun hc => ?_)
  refine ir_ald_n S dX1_mended_7 hl 0 rfl ?_
  refine c_find S dX1_mended_8 (by decide) (by decide) hw hl (Nat.le_of_ble_eq_true rfl) (fun H locs hw => ?_)
  refine ir_neB 18 S dX1_mended_11 (by decide)  (fun hc => ?_) (fun hc => ?_)
  · refine ir_ald_n S dX1_mended_18 hl 0 rfl ?_
    refine g1_made S dX1_mended_19 hw ?_
    refine ir_ild_n S dX1_mended_22 hl 1 rfl ?_
    refine ir_ia S dX1_mended_23 hw 4 rfl (by omega) (by decide) ?_
    exact re_I S dX1_mended_24 hr hlk hw (if_pos hc).symm
  · refine ir_ic S dX1_mended_14 (((-1))) (by decide) ?_
    refine ir_goto 24 S dX1_mended_15 (by decide) ?_
    exact re_I S dX1_mended_24 hr hlk hw (if_neg (by rw [hc]; decide)).symm
set_option maxHeartbeats 4000000 in
theorem co_wrong (l : Launch) (D : va_G) (dA dZ : ClassId) (ad : Nat → Nat) (w : Nat → F8) (g : Nat → Bool) (ze ma : Nat → F8)  : CtI l D dA dZ yX1_wrong cX1_wrong 1 (some .int) 3 [.ref (ad 0)] (wO dA dZ ad w g ze ma) (if fdB w g ze = true then nI (cn (dfF w g (fdM w g ze)) 7) else -1) (wO dA dZ ad w g ze (fdM w g ze)) := by
  refine CtI.of (by decide) (Nat.le_of_ble_eq_true rfl) ?_
  intro p e s m args below meth c A H locs ls S hr hlk hl hw
  have hl : lv_has ls 1 [(0, .ref (ad 0))] := hl
  refine ir_ald_n S dX1_wrong_0 hl 0 rfl ?_
  refine c_find S dX1_wrong_1 (by decide) (by decide) hw hl (Nat.le_of_ble_eq_true rfl) (fun H locs hw => ?_)
  refine ir_eqB 14 S dX1_wrong_4 (by decide)  (fun hc => ?_) (fun hc => ?_)
  · refine ir_ic S dX1_wrong_14 (((-1))) (by decide) ?_
    exact re_I S dX1_wrong_15 hr hlk hw (if_neg (by rw [hc]; decide)).symm
  · refine ir_ald_n S dX1_wrong_7 hl 0 rfl ?_
    refine c_diff S dX1_wrong_8 (by decide) (by decide) hw hl (Nat.le_of_ble_eq_true rfl) (fun H locs hw => ?_)
    refine ir_goto 15 S dX1_wrong_11 (by decide) ?_
    exact re_I S dX1_wrong_15 hr hlk hw (if_pos hc).symm
set_option maxHeartbeats 4000000 in
theorem co_mend (l : Launch) (D : va_G) (dA dZ : ClassId) (ad : Nat → Nat) (w : Nat → F8) (g : Nat → Bool) (ze ma : Nat → F8)  : CtI l D dA dZ yX1_mend cX1_mend 1 (some .int) 3 [.ref (ad 0)] (wO dA dZ ad w g ze ma) (nI (fdB w g ze).toNat) (wO dA dZ ad (if fdB w g ze = true then fdM w g ze else w) (if fdB w g ze = true then (fun _ => false) else g) ze (fdM w g ze)) := by
  refine CtI.of (by decide) (Nat.le_of_ble_eq_true rfl) ?_
  intro p e s m args below meth c A H locs ls S hr hlk hl hw
  have hl : lv_has ls 1 [(0, .ref (ad 0))] := hl
  refine ir_ald_n S dX1_mend_0 hl 0 rfl ?_
  refine c_find S dX1_mend_1 (by decide) (by decide) hw hl (Nat.le_of_ble_eq_true rfl) (fun H locs hw => ?_)
  refine ir_neB 9 S dX1_mend_4 (by decide)  (fun hc => ?_) (fun hc => ?_)
  · rw [hc, if_pos rfl, if_pos rfl]
    refine ir_ald_n S dX1_mend_9 hl 0 rfl ?_
    refine c_take S dX1_mend_10 (by decide) (by decide) hw hl (Nat.le_of_ble_eq_true rfl) (fun H locs hw => ?_)
    refine ir_ic S dX1_mend_13 ((nI true.toNat)) (by decide) ?_
    exact re_I S dX1_mend_14 hr hlk hw rfl
  · rw [hc, if_neg (by decide), if_neg (by decide)]
    refine ir_ic S dX1_mend_7 ((nI false.toNat)) (by decide) ?_
    exact re_I S dX1_mend_8 hr hlk hw rfl
set_option maxHeartbeats 4000000 in
theorem co_atN (l : Launch) (D : va_G) (dA dZ : ClassId) (ad : Nat → Nat) (w : Nat → F8) (g : Nat → Bool) (ze ma : Nat → F8) (x : Int32) (hx : okP x = false) : CtI l D dA dZ yX1_at cX1_at 2 (some .int) 1 [.ref (ad 0), .int x] (wO dA dZ ad w g ze ma) (-1) (wO dA dZ ad w g ze ma) := by
  refine CtI.of (by decide) (Nat.le_of_ble_eq_true rfl) ?_
  intro p e s m args below meth c A H locs ls S hr hlk hl hw
  have hl : lv_has ls 2 [(0, .ref (ad 0)), (1, .int x)] := hl
  refine ir_ild_n S dX1_at_0 hl 1 rfl ?_
  refine c_badPlace S dX1_at_1 (by decide) (by decide) hw hl (Nat.le_of_ble_eq_true rfl) (fun H locs hw => ?_)
  refine ir_eqB 11 S dX1_at_4 (by decide)  (fun hc => absurd (hx.symm.trans (nb_f hc)) (by decide)) (fun hc => ?_)
  refine ir_ic S dX1_at_7 (((-1))) (by decide) ?_
  refine ir_goto 17 S dX1_at_8 (by decide) ?_
  exact re_I S dX1_at_17 hr hlk hw rfl
set_option maxHeartbeats 4000000 in
theorem co_at (l : Launch) (D : va_G) (dA dZ : ClassId) (ad : Nat → Nat) (w : Nat → F8) (g : Nat → Bool) (ze ma : Nat → F8) (j : Nat) (hj : j < 7) : CtI l D dA dZ yX1_at cX1_at 2 (some .int) 1 [.ref (ad 0), .int (nI j)] (wO dA dZ ad w g ze ma) (nI (w j).val) (wO dA dZ ad w g ze ma) := by
  refine CtI.of (by decide) (Nat.le_of_ble_eq_true rfl) ?_
  intro p e s m args below meth c A H locs ls S hr hlk hl hw
  have hl : lv_has ls 2 [(0, .ref (ad 0)), (1, .int (nI j))] := hl
  refine ir_ild_n S dX1_at_0 hl 1 rfl ?_
  refine c_badPlace S dX1_at_1 (by decide) (by decide) hw hl (Nat.le_of_ble_eq_true rfl) (fun H locs hw => ?_)
  refine ir_eqB 11 S dX1_at_4 (by decide)  (fun hc => ?_) (fun hc => absurd ((okP_nI hj).symm.trans (nb_t hc)) (by decide))
  refine ir_ald_n S dX1_at_11 hl 0 rfl ?_
  refine g1_line S dX1_at_12 hw ?_
  refine ir_ild_n S dX1_at_15 hl 1 rfl ?_
  refine ir_ia S dX1_at_16 hw 1 rfl (by omega) (by decide) ?_
  exact re_I S dX1_at_17 hr hlk hw rfl
set_option maxHeartbeats 4000000 in
theorem co_changeN (l : Launch) (D : va_G) (dA dZ : ClassId) (ad : Nat → Nat) (w : Nat → F8) (g : Nat → Bool) (ze ma : Nat → F8) (x y : Int32) (hx : (okP x && okS y) = false) : CtI l D dA dZ yX1_change cX1_change 4 (some .int) 1 [.ref (ad 0), .int x, .int y] (wO dA dZ ad w g ze ma) (-1) (wO dA dZ ad w g ze ma) := by
  refine CtI.of (by decide) (Nat.le_of_ble_eq_true rfl) ?_
  intro p e s m args below meth c A H locs ls S hr hlk hl hw
  have hl : lv_has ls 4 [(0, .ref (ad 0)), (1, .int x), (2, .int y)] := hl
  refine ir_ild_n S dX1_change_0 hl 1 rfl ?_
  refine c_badPlace S dX1_change_1 (by decide) (by decide) hw hl (Nat.le_of_ble_eq_true rfl) (fun H locs hw => ?_)
  refine ir_neB 14 S dX1_change_4 (by decide)  (fun h1 => ?_) (fun h1 => ?_)
  · refine ir_ic S dX1_change_14 (((-1))) (by decide) ?_
    exact re_I S dX1_change_15 hr hlk hw rfl
  · refine ir_ild_n S dX1_change_7 hl 2 rfl ?_
    refine c_badSymbol S dX1_change_8 (by decide) (by decide) hw hl (Nat.le_of_ble_eq_true rfl) (fun H locs hw => ?_)
    refine ir_eqB 16 S dX1_change_11 (by decide)  (fun h2 => (ex2 hx (nb_f h1) (nb_f h2)).elim) (fun h2 => ?_)
    refine ir_ic S dX1_change_14 (((-1))) (by decide) ?_
    exact re_I S dX1_change_15 hr hlk hw rfl
set_option maxHeartbeats 4000000 in
theorem co_change (l : Launch) (D : va_G) (dA dZ : ClassId) (ad : Nat → Nat) (w : Nat → F8) (g : Nat → Bool) (ze ma : Nat → F8) (j : Nat) (hj : j < 7) (a : F8) : CtI l D dA dZ yX1_change cX1_change 4 (some .int) 1 [.ref (ad 0), .int (nI j), .int (nI a.val)] (wO dA dZ ad w g ze ma) (nI (w j).val) (wO dA dZ ad (va_up w j a) g ze ma) := by
  refine CtI.of (by decide) (Nat.le_of_ble_eq_true rfl) ?_
  intro p e s m args below meth c A H locs ls S hr hlk hl hw
  have hl : lv_has ls 4 [(0, .ref (ad 0)), (1, .int (nI j)), (2, .int (nI a.val))] := hl
  refine ir_ild_n S dX1_change_0 hl 1 rfl ?_
  refine c_badPlace S dX1_change_1 (by decide) (by decide) hw hl (Nat.le_of_ble_eq_true rfl) (fun H locs hw => ?_)
  refine ir_neB 14 S dX1_change_4 (by decide)  (fun hc => absurd ((okP_nI hj).symm.trans (nb_t hc)) (by decide)) (fun h1 => ?_)
  refine ir_ild_n S dX1_change_7 hl 2 rfl ?_
  refine c_badSymbol S dX1_change_8 (by decide) (by decide) hw hl (Nat.le_of_ble_eq_true rfl) (fun H locs hw => ?_)
  refine ir_eqB 16 S dX1_change_11 (by decide)  (fun h2 => ?_) (fun hc => absurd ((okS_nI a).symm.trans (nb_t hc)) (by decide))
  refine ir_ald_n S dX1_change_16 hl 0 rfl ?_
  refine g1_line S dX1_change_17 hw ?_
  refine ir_ild_n S dX1_change_20 hl 1 rfl ?_
  refine ir_ia S dX1_change_21 hw 1 rfl (by omega) (by decide) ?_
  refine ir_st_n (lv1 := [(0, .ref (ad 0)), (1, .int (nI j)), (2, .int (nI a.val)), (3, .int (nI (w j).val))]) S dX1_change_22 hl [1, 2, 3, 0] (by decide) rfl (fun ls hl => ?_)
  refine ir_ald_n S dX1_change_23 hl 0 rfl ?_
  refine g1_line S dX1_change_24 hw ?_
  refine ir_ild_n S dX1_change_27 hl 1 rfl ?_
  refine ir_ild_n S dX1_change_28 hl 2 rfl ?_
  refine ir_is (w1 := (wO dA dZ ad (va_up w j a) g ze ma)) S dX1_change_29 hw 1 rfl (by omega) (by decide) (va_up w j a) (fun _ _ => rfl) rfl (fun H locs hw => ?_)
  refine ir_ild_n S dX1_change_30 hl 3 rfl ?_
  exact re_I S dX1_change_31 hr hlk hw rfl
set_option maxHeartbeats 4000000 in
theorem co_loseN (l : Launch) (D : va_G) (dA dZ : ClassId) (ad : Nat → Nat) (w : Nat → F8) (g : Nat → Bool) (ze ma : Nat → F8) (x : Int32) (b : Bool) (hx : okP x = false) : CtI l D dA dZ yX1_lose cX1_lose 4 (some .int) 1 [.ref (ad 0), .int x, .int (nI b.toNat)] (wO dA dZ ad w g ze ma) (-1) (wO dA dZ ad w g ze ma) := by
  refine CtI.of (by decide) (Nat.le_of_ble_eq_true rfl) ?_
  intro p e s m args below meth c A H locs ls S hr hlk hl hw
  have hl : lv_has ls 4 [(0, .ref (ad 0)), (1, .int x), (2, .int (nI b.toNat))] := hl
  refine ir_ild_n S dX1_lose_0 hl 1 rfl ?_
  refine c_badPlace S dX1_lose_1 (by decide) (by decide) hw hl (Nat.le_of_ble_eq_true rfl) (fun H locs hw => ?_)
  refine ir_eqB 9 S dX1_lose_4 (by decide)  (fun hc => absurd (hx.symm.trans (nb_f hc)) (by decide)) (fun hc => ?_)
  refine ir_ic S dX1_lose_7 (((-1))) (by decide) ?_
  exact re_I S dX1_lose_8 hr hlk hw rfl
set_option maxHeartbeats 4000000 in
theorem co_lose (l : Launch) (D : va_G) (dA dZ : ClassId) (ad : Nat → Nat) (w : Nat → F8) (g : Nat → Bool) (ze ma : Nat → F8) (j : Nat) (hj : j < 7) (b : Bool) : CtI l D dA dZ yX1_lose cX1_lose 4 (some .int) 1 [.ref (ad 0), .int (nI j), .int (nI b.toNat)] (wO dA dZ ad w g ze ma) (nI (g j).toNat) (wO dA dZ ad w (va_up g j b) ze ma) := by
  refine CtI.of (by decide) (Nat.le_of_ble_eq_true rfl) ?_
  intro p e s m args below meth c A H locs ls S hr hlk hl hw
  have hl : lv_has ls 4 [(0, .ref (ad 0)), (1, .int (nI j)), (2, .int (nI b.toNat))] := hl
  refine ir_ild_n S dX1_lose_0 hl 1 rfl ?_
  refine c_badPlace S dX1_lose_1 (by decide) (by decide) hw hl (Nat.le_of_ble_eq_true rfl) (fun H locs hw => ?_)
  refine ir_eqB 9 S dX1_lose_4 (by decide)  (fun hc => ?_) (fun hc => absurd ((okP_nI hj).symm.trans (nb_t hc)) (by decide))
  refine ir_ald_n S dX1_lose_9 hl 0 rfl ?_
  refine g1_missing S dX1_lose_10 hw ?_
  refine ir_ild_n S dX1_lose_13 hl 1 rfl ?_
  refine ir_za S dX1_lose_14 hw 2 rfl (by omega) (by decide) ?_
  refine ir_st_n (lv1 := [(0, .ref (ad 0)), (1, .int (nI j)), (2, .int (nI b.toNat)), (3, .int (nI (g j).toNat))]) S dX1_lose_15 hl [1, 2, 3, 0] (by decide) rfl (fun ls hl => ?_)
  refine ir_ald_n S dX1_lose_16 hl 0 rfl ?_
  refine g1_missing S dX1_lose_17 hw ?_
  refine ir_ild_n S dX1_lose_20 hl 1 rfl ?_
  refine ir_ild_n S dX1_lose_21 hl 2 rfl ?_
  refine ir_zs (w1 := (wO dA dZ ad w (va_up g j b) ze ma)) S dX1_lose_22 hw 2 rfl (by omega) (by decide) (va_up g j b) (fun _ _ => rfl) rfl (fun H locs hw => ?_)
  refine ir_ild_n S dX1_lose_23 hl 3 rfl ?_
  refine ir_eqB 31 S dX1_lose_24 (by decide)  (fun hc => ?_) (fun hc => ?_)
  · refine ir_ic S dX1_lose_31 ((nI false.toNat)) (by decide) ?_
    exact re_I S dX1_lose_32 hr hlk hw (by rw [hc])
  · refine ir_ic S dX1_lose_27 ((nI true.toNat)) (by decide) ?_
    refine ir_goto 32 S dX1_lose_28 (by decide) ?_
    exact re_I S dX1_lose_32 hr hlk hw (by rw [hc])
set_option maxHeartbeats 4000000 in
theorem co_productN (l : Launch) (D : va_G) (dA dZ : ClassId) (ad : Nat → Nat) (w : Nat → F8) (g : Nat → Bool) (ze ma : Nat → F8) (x y : Int32) (hx : (okS x && okS y) = false) : CtI l D dA dZ yX1_product cX1_product 3 (some .int) 1 [.ref (ad 0), .int x, .int y] (wO dA dZ ad w g ze ma) (-1) (wO dA dZ ad w g ze ma) := by
  refine CtI.of (by decide) (Nat.le_of_ble_eq_true rfl) ?_
  intro p e s m args below meth c A H locs ls S hr hlk hl hw
  have hl : lv_has ls 3 [(0, .ref (ad 0)), (1, .int x), (2, .int y)] := hl
  refine ir_ild_n S dX1_product_0 hl 1 rfl ?_
  refine c_badSymbol S dX1_product_1 (by decide) (by decide) hw hl (Nat.le_of_ble_eq_true rfl) (fun H locs hw => ?_)
  refine ir_neB 14 S dX1_product_4 (by decide)  (fun h1 => ?_) (fun h1 => ?_)
  · refine ir_ic S dX1_product_14 (((-1))) (by decide) ?_
    refine ir_goto 23 S dX1_product_15 (by decide) ?_
    exact re_I S dX1_product_23 hr hlk hw rfl
  · refine ir_ild_n S dX1_product_7 hl 2 rfl ?_
    refine c_badSymbol S dX1_product_8 (by decide) (by decide) hw hl (Nat.le_of_ble_eq_true rfl) (fun H locs hw => ?_)
    refine ir_eqB 18 S dX1_product_11 (by decide)  (fun h2 => (ex2 hx (nb_f h1) (nb_f h2)).elim) (fun h2 => ?_)
    refine ir_ic S dX1_product_14 (((-1))) (by decide) ?_
    refine ir_goto 23 S dX1_product_15 (by decide) ?_
    exact re_I S dX1_product_23 hr hlk hw rfl
set_option maxHeartbeats 4000000 in
theorem co_product (l : Launch) (D : va_G) (dA dZ : ClassId) (ad : Nat → Nat) (w : Nat → F8) (g : Nat → Bool) (ze ma : Nat → F8) (a b : F8) : CtI l D dA dZ yX1_product cX1_product 3 (some .int) 1 [.ref (ad 0), .int (nI a.val), .int (nI b.val)] (wO dA dZ ad w g ze ma) (nI (gm a b).val) (wO dA dZ ad w g ze ma) := by
  refine CtI.of (by decide) (Nat.le_of_ble_eq_true rfl) ?_
  intro p e s m args below meth c A H locs ls S hr hlk hl hw
  have hl : lv_has ls 3 [(0, .ref (ad 0)), (1, .int (nI a.val)), (2, .int (nI b.val))] := hl
  refine ir_ild_n S dX1_product_0 hl 1 rfl ?_
  refine c_badSymbol S dX1_product_1 (by decide) (by decide) hw hl (Nat.le_of_ble_eq_true rfl) (fun H locs hw => ?_)
  refine ir_neB 14 S dX1_product_4 (by decide)  (fun hc => absurd ((okS_nI a).symm.trans (nb_t hc)) (by decide)) (fun h1 => ?_)
  refine ir_ild_n S dX1_product_7 hl 2 rfl ?_
  refine c_badSymbol S dX1_product_8 (by decide) (by decide) hw hl (Nat.le_of_ble_eq_true rfl) (fun H locs hw => ?_)
  refine ir_eqB 18 S dX1_product_11 (by decide)  (fun h2 => ?_) (fun hc => absurd ((okS_nI b).symm.trans (nb_t hc)) (by decide))
  refine ir_ild_n S dX1_product_18 hl 1 rfl ?_
  refine ir_ild_n S dX1_product_19 hl 2 rfl ?_
  refine c_mult S dX1_product_20 (by decide) (by decide) hw hl (Nat.le_of_ble_eq_true rfl) (fun H locs hw => ?_)
  exact re_I S dX1_product_23 hr hlk hw rfl
set_option maxHeartbeats 4000000 in
theorem co_valueN (l : Launch) (D : va_G) (dA dZ : ClassId) (ad : Nat → Nat) (w : Nat → F8) (g : Nat → Bool) (ze ma : Nat → F8) (x : Int32) (hx : okS x = false) : CtI l D dA dZ yX1_value cX1_value 5 (some .int) 1 [.ref (ad 0), .int x] (wO dA dZ ad w g ze ma) (-1) (wO dA dZ ad w g ze ma) := by
  refine CtI.of (by decide) (Nat.le_of_ble_eq_true rfl) ?_
  intro p e s m args below meth c A H locs ls S hr hlk hl hw
  have hl : lv_has ls 5 [(0, .ref (ad 0)), (1, .int x)] := hl
  refine ir_ild_n S dX1_value_0 hl 1 rfl ?_
  refine c_badSymbol S dX1_value_1 (by decide) (by decide) hw hl (Nat.le_of_ble_eq_true rfl) (fun H locs hw => ?_)
  refine ir_eqB 9 S dX1_value_4 (by decide)  (fun hc => absurd (hx.symm.trans (nb_f hc)) (by decide)) (fun hc => ?_)
  refine ir_ic S dX1_value_7 (((-1))) (by decide) ?_
  exact re_I S dX1_value_8 hr hlk hw rfl
set_option maxHeartbeats 4000000 in
theorem lp_value {p : Program} {l : Launch} {e : Env} {s : State} {m : MethodId} {args : Array Value} {below : List Frame} {meth : Method} {c : Code} {Q : State → Prop} {D : va_G} {dA dZ : ClassId} {A : Nat → Prop} {ad : Nat → Nat} {w : Nat → F8} {g : Nat → Bool} {ze ma : Nat → F8} {a : F8} (S : CallFix p m c cX1_value 5 s args lw_all RX1)  (kk : ∀ (H : Heap) (locs : List Loc) (ls : Array Slot), lv_has ls 5 [(0, .ref (ad 0)), (1, .int (nI a.val)), (2, .int (nI (xs (vOT w a) 7).val))] → Wd D dA dZ A s (wO dA dZ ad w g ze ma) H locs → W p l e (rk 1) s m args below meth c H locs 0 0 Q (F0 m 49 ls [])) : ∀ (n k : Nat), k + n = 7 → ∀ (H : Heap) (locs : List Loc) (ls : Array Slot), lv_has ls 5 [(0, .ref (ad 0)), (1, .int (nI a.val)), (2, .int (nI (xs (vOT w a) k).val)), (3, .int (nI (gp a k).val)), (4, .int (nI k))] → Wd D dA dZ A s (wO dA dZ ad w g ze ma) H locs → W p l e (rk 1) s m args below meth c H locs 0 0 Q (F0 m 16 ls []) := by
  intro n
  induction n with
  | zero =>
    intro k hk H locs ls hl hw
    refine ir_ild S dX1_value_16 hl 4 rfl ?_
    refine ir_bi S dX1_value_18 ((nI 7)) (by decide) ?_
    refine ir_cge 49 S dX1_value_20 (by decide) (by omega) (by omega) (fun hc => ?_) (fun hc => absurd hc (by omega))
    obtain rfl : k = 7 := by omega
    exact kk H locs ls (lv_sub hl [0, 1, 2] rfl) hw
  | succ n ih =>
    intro k hk H locs ls hl hw
    refine ir_ild S dX1_value_16 hl 4 rfl ?_
    refine ir_bi S dX1_value_18 ((nI 7)) (by decide) ?_
    refine ir_cge 49 S dX1_value_20 (by decide) (by omega) (by omega) (fun hc => absurd hc (by omega)) (fun hc => ?_)
    refine ir_ild_n S dX1_value_23 hl 2 rfl ?_
    refine ir_ald_n S dX1_value_24 hl 0 rfl ?_
    refine g1_line S dX1_value_25 hw ?_
    refine ir_ild S dX1_value_28 hl 4 rfl ?_
    refine ir_ia S dX1_value_30 hw 1 rfl (by omega) (by decide) ?_
    refine ir_ild_n S dX1_value_31 hl 3 rfl ?_
    refine c_mult S dX1_value_32 (by decide) (by decide) hw hl (Nat.le_of_ble_eq_true rfl) (fun H locs hw => ?_)
    refine ir_xor S dX1_value_35 ?_
    have ed : gx (xs (vOT w a) k) (gm (w k) (gp a k)) = xs (vOT w a) (k + 1) := rfl
    rw [ed]
    refine ir_st_n (lv1 := [(0, .ref (ad 0)), (1, .int (nI a.val)), (2, .int (nI (xs (vOT w a) (k + 1)).val)), (3, .int (nI (gp a k).val)), (4, .int (nI k))]) S dX1_value_36 hl [1, 2, 0, 3, 4] (by decide) rfl (fun ls hl => ?_)
    refine ir_ild_n S dX1_value_37 hl 3 rfl ?_
    refine ir_ild_n S dX1_value_38 hl 1 rfl ?_
    refine c_mult S dX1_value_39 (by decide) (by decide) hw hl (Nat.le_of_ble_eq_true rfl) (fun H locs hw => ?_)
    have ee : gm (gp a k) a = gp a (k + 1) := rfl
    rw [ee]
    refine ir_st_n (lv1 := [(0, .ref (ad 0)), (1, .int (nI a.val)), (2, .int (nI (xs (vOT w a) (k + 1)).val)), (3, .int (nI (gp a (k + 1)).val)), (4, .int (nI k))]) S dX1_value_42 hl [1, 2, 3, 0, 4] (by decide) rfl (fun ls hl => ?_)
    refine ir_inc (lv1 := [(0, .ref (ad 0)), (1, .int (nI a.val)), (2, .int (nI (xs (vOT w a) (k + 1)).val)), (3, .int (nI (gp a (k + 1)).val)), (4, .int (nI (k + 1)))]) S dX1_value_43 hl 4 rfl [1, 2, 3, 4, 0] (by decide) rfl (fun ls hl => ?_)
    refine ir_goto 16 S dX1_value_46 (by decide) ?_
    exact ih (k + 1) (by omega) H locs ls hl hw
set_option maxHeartbeats 4000000 in
theorem co_value (l : Launch) (D : va_G) (dA dZ : ClassId) (ad : Nat → Nat) (w : Nat → F8) (g : Nat → Bool) (ze ma : Nat → F8) (a : F8) : CtI l D dA dZ yX1_value cX1_value 5 (some .int) 1 [.ref (ad 0), .int (nI a.val)] (wO dA dZ ad w g ze ma) (nI (xs (vOT w a) 7).val) (wO dA dZ ad w g ze ma) := by
  refine CtI.of (by decide) (Nat.le_of_ble_eq_true rfl) ?_
  intro p e s m args below meth c A H locs ls S hr hlk hl hw
  have hl : lv_has ls 5 [(0, .ref (ad 0)), (1, .int (nI a.val))] := hl
  refine ir_ild_n S dX1_value_0 hl 1 rfl ?_
  refine c_badSymbol S dX1_value_1 (by decide) (by decide) hw hl (Nat.le_of_ble_eq_true rfl) (fun H locs hw => ?_)
  refine ir_eqB 9 S dX1_value_4 (by decide)  (fun hc => ?_) (fun hc => absurd ((okS_nI a).symm.trans (nb_t hc)) (by decide))
  refine ir_ic S dX1_value_9 ((nI ((0 : F8)).val)) (by decide) ?_
  refine ir_st_n (lv1 := [(0, .ref (ad 0)), (1, .int (nI a.val)), (2, .int (nI ((0 : F8)).val))]) S dX1_value_10 hl [1, 2, 0] (by decide) rfl (fun ls hl => ?_)
  refine ir_ic S dX1_value_11 ((nI ((1 : F8)).val)) (by decide) ?_
  refine ir_st_n (lv1 := [(0, .ref (ad 0)), (1, .int (nI a.val)), (2, .int (nI ((0 : F8)).val)), (3, .int (nI ((1 : F8)).val))]) S dX1_value_12 hl [1, 2, 3, 0] (by decide) rfl (fun ls hl => ?_)
  refine ir_ic S dX1_value_13 ((nI 0)) (by decide) ?_
  refine ir_st (lv1 := [(0, .ref (ad 0)), (1, .int (nI a.val)), (2, .int (nI ((0 : F8)).val)), (3, .int (nI ((1 : F8)).val)), (4, .int (nI 0))]) S dX1_value_14 hl [1, 2, 3, 4, 0] (by decide) rfl (fun ls hl => ?_)
  refine lp_value S (fun H locs ls hl hw => ?_) 7 0 rfl _ _ ls hl hw
  refine ir_ild_n S dX1_value_49 hl 2 rfl ?_
  exact re_I S dX1_value_50 hr hlk hw rfl
set_option maxHeartbeats 4000000 in
theorem co_sendN (l : Launch) (D : va_G) (dA dZ : ClassId) (ad : Nat → Nat) (w : Nat → F8) (g : Nat → Bool) (ze ma : Nat → F8) (x y z : Int32) (hx : (okS x && okS y && okS z) = false) : CtI l D dA dZ yX1_send cX1_send 5 (some .int) 2 [.ref (ad 0), .int x, .int y, .int z] (wO dA dZ ad w g ze ma) (-1) (wO dA dZ ad w g ze ma) := by
  refine CtI.of (by decide) (Nat.le_of_ble_eq_true rfl) ?_
  intro p e s m args below meth c A H locs ls S hr hlk hl hw
  have hl : lv_has ls 5 [(0, .ref (ad 0)), (1, .int x), (2, .int y), (3, .int z)] := hl
  refine ir_ild_n S dX1_send_0 hl 1 rfl ?_
  refine c_badSymbol S dX1_send_1 (by decide) (by decide) hw hl (Nat.le_of_ble_eq_true rfl) (fun H locs hw => ?_)
  refine ir_neB 21 S dX1_send_4 (by decide)  (fun h1 => ?_) (fun h1 => ?_)
  · refine ir_ic S dX1_send_21 (((-1))) (by decide) ?_
    exact re_I S dX1_send_22 hr hlk hw rfl
  · refine ir_ild_n S dX1_send_7 hl 2 rfl ?_
    refine c_badSymbol S dX1_send_8 (by decide) (by decide) hw hl (Nat.le_of_ble_eq_true rfl) (fun H locs hw => ?_)
    refine ir_neB 21 S dX1_send_11 (by decide)  (fun h2 => ?_) (fun h2 => ?_)
    · refine ir_ic S dX1_send_21 (((-1))) (by decide) ?_
      exact re_I S dX1_send_22 hr hlk hw rfl
    · refine ir_ild_n S dX1_send_14 hl 3 rfl ?_
      refine c_badSymbol S dX1_send_15 (by decide) (by decide) hw hl (Nat.le_of_ble_eq_true rfl) (fun H locs hw => ?_)
      refine ir_eqB 23 S dX1_send_18 (by decide)  (fun h3 => (ex3 hx (nb_f h1) (nb_f h2) (nb_f h3)).elim) (fun h3 => ?_)
      refine ir_ic S dX1_send_21 (((-1))) (by decide) ?_
      exact re_I S dX1_send_22 hr hlk hw rfl
set_option maxHeartbeats 4000000 in
theorem lp_send {p : Program} {l : Launch} {e : Env} {s : State} {m : MethodId} {args : Array Value} {below : List Frame} {meth : Method} {c : Code} {Q : State → Prop} {D : va_G} {dA dZ : ClassId} {A : Nat → Prop} {ad : Nat → Nat} {w : Nat → F8} {g : Nat → Bool} {ze ma : Nat → F8} {x y z : F8} (S : CallFix p m c cX1_send 5 s args lw_all RX1)  (kk : ∀ (H : Heap) (locs : List Loc) (ls : Array Slot), lv_has ls 5 [(0, .ref (ad 0)), (1, .int (nI x.val)), (2, .int (nI y.val)), (3, .int (nI z.val))] → Wd D dA dZ A s (wO dA dZ ad (sOw ze x y z w 512) (sOg ze x y z g 512) ze (mC ze ma 512)) H locs → W p l e (rk 2) s m args below meth c H locs 0 0 Q (F0 m 81 ls [])) : ∀ (n k : Nat), k + n = 512 → ∀ (H : Heap) (locs : List Loc) (ls : Array Slot), lv_has ls 5 [(0, .ref (ad 0)), (1, .int (nI x.val)), (2, .int (nI y.val)), (3, .int (nI z.val)), (4, .int (nI k))] → Wd D dA dZ A s (wO dA dZ ad (sOw ze x y z w k) (sOg ze x y z g k) ze (mC ze ma k)) H locs → W p l e (rk 2) s m args below meth c H locs 0 0 Q (F0 m 26 ls []) := by
  intro n
  induction n with
  | zero =>
    intro k hk H locs ls hl hw
    refine ir_ild S dX1_send_26 hl 4 rfl ?_
    refine ir_si S dX1_send_28 ((nI 512)) (by decide) ?_
    refine ir_cge 81 S dX1_send_31 (by decide) (by omega) (by omega) (fun hc => ?_) (fun hc => absurd hc (by omega))
    obtain rfl : k = 512 := by omega
    exact kk H locs ls (lv_sub hl [0, 1, 2, 3] rfl) hw
  | succ n ih =>
    intro k hk H locs ls hl hw
    refine ir_ild S dX1_send_26 hl 4 rfl ?_
    refine ir_si S dX1_send_28 ((nI 512)) (by decide) ?_
    refine ir_cge 81 S dX1_send_31 (by decide) (by omega) (by omega) (fun hc => absurd hc (by omega)) (fun hc => ?_)
    refine ir_ald_n S dX1_send_34 hl 0 rfl ?_
    refine ir_ild S dX1_send_35 hl 4 rfl ?_
    refine c_make S dX1_send_37 (by decide) (by decide) hw hl (Nat.le_of_ble_eq_true rfl) (by omega) (fun H locs hw => ?_)
    refine ir_ald_n S dX1_send_40 hl 0 rfl ?_
    refine g1_made S dX1_send_41 hw ?_
    refine ir_ic S dX1_send_44 ((nI 4)) (by decide) ?_
    refine ir_ia S dX1_send_45 hw 4 rfl (by omega) (by decide) ?_
    refine ir_ild_n S dX1_send_46 hl 1 rfl ?_
    refine ir_cne8 75 S dX1_send_47 (by decide)  (fun h4 => ?_) (fun h4 => ?_)
    · refine ir_inc (lv1 := [(0, .ref (ad 0)), (1, .int (nI x.val)), (2, .int (nI y.val)), (3, .int (nI z.val)), (4, .int (nI (k + 1)))]) S dX1_send_75 hl 4 rfl [1, 2, 3, 4, 0] (by decide) rfl (fun ls hl => ?_)
      refine ir_goto 26 S dX1_send_78 (by decide) ?_
      have e1 : sOw ze x y z w (k + 1) = sOw ze x y z w k := if_neg (fun q => h4 q.1)
      have e2 : sOg ze x y z g (k + 1) = sOg ze x y z g k := if_neg (fun q => h4 q.1)
      exact ih (k + 1) (by omega) H locs ls hl (hw.cg (by rw [e1, e2]; rfl))
    · refine ir_ald_n S dX1_send_50 hl 0 rfl ?_
      refine g1_made S dX1_send_51 hw ?_
      refine ir_ic S dX1_send_54 ((nI 5)) (by decide) ?_
      refine ir_ia S dX1_send_55 hw 4 rfl (by omega) (by decide) ?_
      refine ir_ild_n S dX1_send_56 hl 2 rfl ?_
      refine ir_cne8 75 S dX1_send_57 (by decide)  (fun h5 => ?_) (fun h5 => ?_)
      · refine ir_inc (lv1 := [(0, .ref (ad 0)), (1, .int (nI x.val)), (2, .int (nI y.val)), (3, .int (nI z.val)), (4, .int (nI (k + 1)))]) S dX1_send_75 hl 4 rfl [1, 2, 3, 4, 0] (by decide) rfl (fun ls hl => ?_)
        refine ir_goto 26 S dX1_send_78 (by decide) ?_
        have e1 : sOw ze x y z w (k + 1) = sOw ze x y z w k := if_neg (fun q => h5 q.2.1)
        have e2 : sOg ze x y z g (k + 1) = sOg ze x y z g k := if_neg (fun q => h5 q.2.1)
        exact ih (k + 1) (by omega) H locs ls hl (hw.cg (by rw [e1, e2]; rfl))
      · refine ir_ald_n S dX1_send_60 hl 0 rfl ?_
        refine g1_made S dX1_send_61 hw ?_
        refine ir_bi S dX1_send_64 ((nI 6)) (by decide) ?_
        refine ir_ia S dX1_send_66 hw 4 rfl (by omega) (by decide) ?_
        refine ir_ild_n S dX1_send_67 hl 3 rfl ?_
        refine ir_cne8 75 S dX1_send_68 (by decide)  (fun h6 => ?_) (fun h6 => ?_)
        · refine ir_inc (lv1 := [(0, .ref (ad 0)), (1, .int (nI x.val)), (2, .int (nI y.val)), (3, .int (nI z.val)), (4, .int (nI (k + 1)))]) S dX1_send_75 hl 4 rfl [1, 2, 3, 4, 0] (by decide) rfl (fun ls hl => ?_)
          refine ir_goto 26 S dX1_send_78 (by decide) ?_
          have e1 : sOw ze x y z w (k + 1) = sOw ze x y z w k := if_neg (fun q => h6 q.2.2)
          have e2 : sOg ze x y z g (k + 1) = sOg ze x y z g k := if_neg (fun q => h6 q.2.2)
          exact ih (k + 1) (by omega) H locs ls hl (hw.cg (by rw [e1, e2]; rfl))
        · refine ir_ald_n S dX1_send_71 hl 0 rfl ?_
          refine c_take S dX1_send_72 (by decide) (by decide) hw hl (Nat.le_of_ble_eq_true rfl) (fun H locs hw => ?_)
          refine ir_inc (lv1 := [(0, .ref (ad 0)), (1, .int (nI x.val)), (2, .int (nI y.val)), (3, .int (nI z.val)), (4, .int (nI (k + 1)))]) S dX1_send_75 hl 4 rfl [1, 2, 3, 4, 0] (by decide) rfl (fun ls hl => ?_)
          refine ir_goto 26 S dX1_send_78 (by decide) ?_
          have e1 : sOw ze x y z w (k + 1) = mkO ze k 3 := if_pos ⟨h4, h5, h6⟩
          have e2 : sOg ze x y z g (k + 1) = fun _ => false := if_pos ⟨h4, h5, h6⟩
          exact ih (k + 1) (by omega) H locs ls hl (hw.cg (by rw [e1, e2]; rfl))
set_option maxHeartbeats 4000000 in
theorem co_send (l : Launch) (D : va_G) (dA dZ : ClassId) (ad : Nat → Nat) (w : Nat → F8) (g : Nat → Bool) (ze ma : Nat → F8) (x y z : F8) : CtI l D dA dZ yX1_send cX1_send 5 (some .int) 2 [.ref (ad 0), .int (nI x.val), .int (nI y.val), .int (nI z.val)] (wO dA dZ ad w g ze ma) (nI 0) (wO dA dZ ad (sOw ze x y z w 512) (sOg ze x y z g 512) ze (mC ze ma 512)) := by
  refine CtI.of (by decide) (Nat.le_of_ble_eq_true rfl) ?_
  intro p e s m args below meth c A H locs ls S hr hlk hl hw
  have hl : lv_has ls 5 [(0, .ref (ad 0)), (1, .int (nI x.val)), (2, .int (nI y.val)), (3, .int (nI z.val))] := hl
  refine ir_ild_n S dX1_send_0 hl 1 rfl ?_
  refine c_badSymbol S dX1_send_1 (by decide) (by decide) hw hl (Nat.le_of_ble_eq_true rfl) (fun H locs hw => ?_)
  refine ir_neB 21 S dX1_send_4 (by decide)  (fun hc => absurd ((okS_nI x).symm.trans (nb_t hc)) (by decide)) (fun hc => ?_)
  refine ir_ild_n S dX1_send_7 hl 2 rfl ?_
  refine c_badSymbol S dX1_send_8 (by decide) (by decide) hw hl (Nat.le_of_ble_eq_true rfl) (fun H locs hw => ?_)
  refine ir_neB 21 S dX1_send_11 (by decide)  (fun hc => absurd ((okS_nI y).symm.trans (nb_t hc)) (by decide)) (fun hc => ?_)
  refine ir_ild_n S dX1_send_14 hl 3 rfl ?_
  refine c_badSymbol S dX1_send_15 (by decide) (by decide) hw hl (Nat.le_of_ble_eq_true rfl) (fun H locs hw => ?_)
  refine ir_eqB 23 S dX1_send_18 (by decide)  (fun hc => ?_) (fun hc => absurd ((okS_nI z).symm.trans (nb_t hc)) (by decide))
  refine ir_ic S dX1_send_23 ((nI 0)) (by decide) ?_
  refine ir_st (lv1 := [(0, .ref (ad 0)), (1, .int (nI x.val)), (2, .int (nI y.val)), (3, .int (nI z.val)), (4, .int (nI 0))]) S dX1_send_24 hl [1, 2, 3, 4, 0] (by decide) rfl (fun ls hl => ?_)
  refine lp_send S (fun H locs ls hl hw => ?_) 512 0 rfl _ _ ls hl hw
  refine ir_ic S dX1_send_81 ((nI 0)) (by decide) ?_
  exact re_I S dX1_send_82 hr hlk hw rfl
end
section
set_option maxRecDepth 100000
/-- a constructor's contract: the world w0 (the bare object at h0) becomes P ad, with ad 0 = h0 -/
abbrev rN (k cl sl : Nat) : Room := { frames := k, cells := cl, slots := sl, locals := 32 * k }
def CtN (l : Launch) (D : va_G) (dA dZ : ClassId) (y : MethodName) (b : ByteArray) (n k cl sl h0 : Nat) (w0 : va_W) (P : (Nat → Nat) → va_W) : Prop :=
  ∀ sz : Nat, Met l y (ws_ y b n none) (rN k cl sl) (va_Pc [.ref h0] (fun U => U.heap.size = sz ∧ va_P D vwCl w0 U.heap ∧ va_K D vwCl (tyL dA dZ) U ∧ va_D (fun _ => True) w0)) (va_Qv (fun (ad : Nat → Nat) => ad 0 = h0) (fun ad t => va_P D vwCl (P ad) t.heap ∧ va_K D vwCl (tyL dA dZ) t ∧ va_D (va_A w0 sz) (P ad)) (va_A w0 sz)) cl sl (va_A w0 sz)
def EN (D : va_G) (dA dZ : ClassId) (h0 cl sl : Nat) (P : (Nat → Nat) → va_W) (A : Nat → Prop) (below : List Frame) (a : Array Value) (s : State) : State → Prop := MQ below (va_Qv (fun (ad : Nat → Nat) => ad 0 = h0) (fun ad t => va_P D vwCl (P ad) t.heap ∧ va_K D vwCl (tyL dA dZ) t ∧ va_D A (P ad)) A) a s cl sl A
theorem CtN.of {l : Launch} {D : va_G} {dA dZ : ClassId} {y : MethodName} {b : ByteArray} {n k cl sl h0 : Nat} {w0 : va_W} {P : (Nat → Nat) → va_W} (hy : plainName y.cls = true) (hyn : y.name = "<init>") (hn : (lg_sl [.ref h0]).length ≤ n)
    (body : ∀ (p : Program) (e : Env) (s : State) (m : MethodId) (args : Array Value) (below : List Frame) (meth : Method) (c : Code) (A : Nat → Prop) (H : Heap) (locs : List Loc) (ls : Array Slot), CallFix p m c b n s args lw_all y.cls → meth.name = "<init>" → meth.sig.returnType = none → meth.locks = false → lv_has ls n (lv_args 0 [.ref h0]) → Wd D dA dZ A s w0 H locs → W p l e (rN k cl sl) s m args below meth c H locs 0 0 (EN D dA dZ h0 cl sl P A below args s) (F0 m 0 ls [])) : CtN l D dA dZ y b n k cl sl h0 w0 P := by
  intro sz
  refine Met.ofW (cc := b) (maxL := n) (ret := none) hy rfl ?_
  intro p e s m args below meth c s₁ B hml hv
  obtain ⟨rfl, hsz, hP, hK, hD0⟩ := hv
  have hts := atoms_spec (ws := ws_ y b n none) B.pre
  have hts : ∀ w ∈ lw_all, w.before _ s = true := fun w h => hts w (List.mem_cons_of_mem _ h)
  have hown : s.vm.findClass y.cls = some m.cls := findClass_of_methodNamed B.named
  have hin : meth.name = "<init>" := (name_of_methodNamed B.named B.method).1.trans hyn
  subst hsz
  have hl := lv_entry [.ref h0] (n := n) hn
  rw [lg_entry_eq]
  generalize (lg_sl [.ref h0] ++ List.replicate (n - (lg_sl [.ref h0]).length) Slot.unset).toArray = ls at hl ⊢
  exact body p e s m [.ref h0].toArray below meth c (va_A w0 s.heap.size) s.heap [] ls ⟨B.exec, B.bytes, hml, hown, hts⟩ hin B.returns B.notSynchronized hl ⟨hK, hP, hD0.self, va_S.rf, fun q h => Or.inr h⟩
section I1
variable {p : Program} {l : Launch} {e : Env} {R : Room} {s : State} {m : MethodId} {args : Array Value} {below : List Frame} {meth : Method} {c : Code} {H : Heap} {locs : List Loc} {cells slots : Nat} {Q : State → Prop}
variable {cc : ByteArray} {nL : Nat} {own : String} {pc : Nat} {ls : Array Slot} {rest : List Value} {D : va_G} {dA dZ : ClassId} {A : Nat → Prop} {ws w1 : va_W} {lv : List (Nat × Value)}
theorem re_N {h0 cl sl : Nat} {P : (Nat → Nat) → va_W} (ad : Nat → Nat) (h0e : ad 0 = h0) (S : CallFix p m c cc nL s args lw_all own) (hdg : decode cc pc = .ok (.return_, 1)) (hr : meth.sig.returnType = none) (hlk : meth.locks = false) (hw : Wd D dA dZ A s (P ad) H locs) : W p l e R s m args below meth c H locs cl sl (EN D dA dZ h0 cl sl P A below args s) (F0 m pc ls []) :=
  W.vret S.1 S.2.1 hr (fun t ht hW => ⟨⟨ad, rfl, h0e, by rw [ht]; exact hw.2.1, va_K.moved hW.alike hw.1, hw.2.2.1⟩, hw.2.2.2.1.F ht⟩) hw.2.2.2.1.2.2 hdg hlk
theorem tyA {cA : ClassId} {tys : List (ClassId × FieldType)} (hK : va_K D vwCl (tyL dA dZ) s) (hK1 : va_K D vwCl (tyL dA dZ ++ [(cA, .int)]) s) : cA = dA := by
  have h1 : s.vm.findClass ("[" ++ FieldType.int.toString) = some dA := (hK.2 0 _ rfl).2
  have h2 : s.vm.findClass ("[" ++ FieldType.int.toString) = some cA := (hK1.2 2 _ rfl).2
  exact Option.some.inj (h2.symm.trans h1)
theorem tyZ {cA : ClassId} {tys : List (ClassId × FieldType)} (hK : va_K D vwCl (tyL dA dZ) s) (hK1 : va_K D vwCl (tyL dA dZ ++ [(cA, .boolean)]) s) : cA = dZ := by
  have h1 : s.vm.findClass ("[" ++ FieldType.boolean.toString) = some dZ := (hK.2 1 _ rfl).2
  have h2 : s.vm.findClass ("[" ++ FieldType.boolean.toString) = some cA := (hK1.2 2 _ rfl).2
  exact Option.some.inj (h2.symm.trans h1)
theorem nw_i (S : CallFix p m c cc nL s args lw_all own) (hdg : decode cc pc = .ok (.newarray .int, 2)) (hw : Wd D dA dZ A s ws H locs) {N : Nat} (hN : N ≤ 1000) (hc : cells + 1 ≤ R.cells) (hs : slots + N ≤ R.slots) (kk : ∀ (q : Nat) (H1 : Heap), Wd D dA dZ A s (ws ++ [(q, .inl (dA, N, .inl (aC N (fun _ => 0))))]) H1 locs → W p l e R s m args below meth c H1 locs (cells + 1) (slots + N) Q (F0 m (pc + 2) ls (.ref q :: rest))) : W p l e R s m args below meth c H locs cells slots Q (F0 m pc ls (.int (nI N) :: rest)) := by
  refine va_newa (atype := .int) (ty := .int) (a0 := (N, .inl (fun _ => 0))) (N' := N) S.1 S.2.1 (S.2.2.2.2 _ q64) rfl hw.1 hw.2.1 hw.2.2.1 hw.2.2.2.1 hw.2.2.2.2 (fun cA => rfl) (nI_pos (by omega)) (nI_clamp (by omega)) (by show N * 4 ≤ _; omega) hc hs hdg (fun q cA H1 hK1 hP1 hD1 hS1 => ?_)
  have hA := tyA (tys := []) hw.1 hK1
  subst hA
  refine kk q H1 ?_
  rw [aC_0]
  exact ⟨hw.1, hP1, hD1, hS1, hw.2.2.2.2⟩
theorem nw_z (S : CallFix p m c cc nL s args lw_all own) (hdg : decode cc pc = .ok (.newarray .boolean, 2)) (hw : Wd D dA dZ A s ws H locs) {N : Nat} (hN : N ≤ 1000) (hc : cells + 1 ≤ R.cells) (hs : slots + N ≤ R.slots) (kk : ∀ (q : Nat) (H1 : Heap), Wd D dA dZ A s (ws ++ [(q, .inl (dZ, N, .inl (aB N (fun _ => false))))]) H1 locs → W p l e R s m args below meth c H1 locs (cells + 1) (slots + N) Q (F0 m (pc + 2) ls (.ref q :: rest))) : W p l e R s m args below meth c H locs cells slots Q (F0 m pc ls (.int (nI N) :: rest)) := by
  refine va_newa (atype := .boolean) (ty := .boolean) (a0 := (N, .inl (fun _ => 0))) (N' := N) S.1 S.2.1 (S.2.2.2.2 _ q65) rfl hw.1 hw.2.1 hw.2.2.1 hw.2.2.2.1 hw.2.2.2.2 (fun cA => rfl) (nI_pos (by omega)) (nI_clamp (by omega)) (by show N * 1 ≤ _; omega) hc hs hdg (fun q cA H1 hK1 hP1 hD1 hS1 => ?_)
  have hA := tyZ (tys := []) hw.1 hK1
  subst hA
  refine kk q H1 ?_
  rw [aB_0]
  exact ⟨hw.1, hP1, hD1, hS1, hw.2.2.2.2⟩
theorem pf_0 {a q index : Nat} {fs : List Value} {ty : FieldType} (S : CallFix p m c cc nL s args lw_all RX0) (hin : meth.name = "<init>") (hdg : decode cc pc = .ok (.putfield index, 3)) (hw : Wd D dA dZ A s ws H locs) (he : ws[0]? = some (a, .inr (0, fs))) (k : Nat) (hk : k < 12) (hlink : (Cond.fieldLink RX0 index RX0 (TX0 k).2.1 (TX0 k).2.2.1) ∈ lw_all) (hfin : (TX0 k).2.2.2 = true) (hdc : (TX0 k).1 = RX0) (hd : parseFieldDescriptor (TX0 k).2.2.1 = some ty) (hn : narrow ty (.ref q) = .ref q) (hfit : fits ty (.ref q) = true) (hl : k < fs.length) (h1 : ws.set 0 (a, .inr (0, fs.set k (.ref q))) = w1) (kk : ∀ (H1 : Heap) (locs1 : List Loc), Wd D dA dZ A s w1 H1 locs1 → W p l e R s m args below meth c H1 locs1 cells slots Q (F0 m (pc + 3) ls rest)) : W p l e R s m args below meth c H locs cells slots Q (F0 m pc ls (.ref q :: .ref a :: rest)) := by
  subst h1
  exact va_putF (own := RX0) (ref := RX0) (C := RX0) (T := TX0) (N := 12) (ci := 0) (index := index) S.1 S.2.1 S.2.2.2.2 in_X0 tyX0 tyX0_ok nmX0 S.2.2.2.1 hw.1 hw.2.1 hw.2.2.1 hw.2.2.2.1 0 he rfl k hk (S.2.2.2.2 _ hlink) (by rw [hdc]; exact fun _ h => h) hfin hin hdc hd hn hfit hl hdg (fun H1 locs1 hP hD hS => kk H1 locs1 ⟨hw.1, hP, hD, hS, hw.2.2.2.2⟩)
theorem pf_1 {a q index : Nat} {fs : List Value} {ty : FieldType} (S : CallFix p m c cc nL s args lw_all RX1) (hin : meth.name = "<init>") (hdg : decode cc pc = .ok (.putfield index, 3)) (hw : Wd D dA dZ A s ws H locs) (he : ws[0]? = some (a, .inr (1, fs))) (k : Nat) (hk : k < 4) (hlink : (Cond.fieldLink RX1 index RX1 (TX1 k).2.1 (TX1 k).2.2.1) ∈ lw_all) (hfin : (TX1 k).2.2.2 = true) (hdc : (TX1 k).1 = RX1) (hd : parseFieldDescriptor (TX1 k).2.2.1 = some ty) (hn : narrow ty (.ref q) = .ref q) (hfit : fits ty (.ref q) = true) (hl : k < fs.length) (h1 : ws.set 0 (a, .inr (1, fs.set k (.ref q))) = w1) (kk : ∀ (H1 : Heap) (locs1 : List Loc), Wd D dA dZ A s w1 H1 locs1 → W p l e R s m args below meth c H1 locs1 cells slots Q (F0 m (pc + 3) ls rest)) : W p l e R s m args below meth c H locs cells slots Q (F0 m pc ls (.ref q :: .ref a :: rest)) := by
  subst h1
  exact va_putF (own := RX1) (ref := RX1) (C := RX1) (T := TX1) (N := 4) (ci := 1) (index := index) S.1 S.2.1 S.2.2.2.2 in_X1 tyX1 tyX1_ok nmX1 S.2.2.2.1 hw.1 hw.2.1 hw.2.2.1 hw.2.2.2.1 0 he rfl k hk (S.2.2.2.2 _ hlink) (by rw [hdc]; exact fun _ h => h) hfin hin hdc hd hn hfit hl hdg (fun H1 locs1 hP hD hS => kk H1 locs1 ⟨hw.1, hP, hD, hS, hw.2.2.2.2⟩)
end I1
def wI (dA dZ : ClassId) (ad : Nat → Nat) (P E : Nat → F8) : va_W :=
  [(ad 0, .inr (0, [.ref (ad 1), .ref (ad 2), .ref (ad 3), .ref (ad 4), .ref (ad 5), .ref (ad 6), .ref (ad 7), .ref (ad 8), .ref (ad 9), .int (nI 0), .ref (ad 10), .int (nI 0)])),
   (ad 1, .inl (dA, 7, .inl (aC 7 (fun _ => 0)))), (ad 2, .inl (dZ, 7, .inl (aB 7 (fun _ => false)))), (ad 3, .inl (dA, 14, .inl (aC 14 P))), (ad 4, .inl (dA, 8, .inl (aC 8 E))), (ad 5, .inl (dA, 5, .inl (aC 5 (fun _ => 0)))),
   (ad 6, .inl (dA, 10, .inl (aC 10 (fun _ => 0)))), (ad 7, .inl (dA, 10, .inl (aC 10 (fun _ => 0)))), (ad 8, .inl (dA, 10, .inl (aC 10 (fun _ => 0)))), (ad 9, .inl (dA, 4, .inl (aC 4 (fun _ => 0)))), (ad 10, .inl (dA, 7, .inl (aC 7 (fun _ => 0))))]
def adL (l : List Nat) : Nat → Nat := fun i => l.getD i 0
def nx (x : F8) : F8 := if 4 ≤ x.val then gx ⟨(2 * x.val - 8) % 8, Nat.mod_lt _ (by decide)⟩ 3 else ⟨2 * x.val % 8, Nat.mod_lt _ (by decide)⟩
def px : Nat → F8
  | 0 => 1
  | k + 1 => nx (px k)
def eW : Nat → Nat → F8
  | 0 => fun _ => 0
  | k + 1 => if h : k < 7 then va_up (eW k) (px k).val ⟨k, Nat.lt_trans h (by decide)⟩ else eW k
theorem nx_hi : ∀ x : F8, 4 ≤ x.val → nI (2 * x.val - 8) ^^^ nI 3 = nI (nx x).val := by decide +kernel
theorem nx_lo : ∀ x : F8, x.val < 4 → 2 * x.val = (nx x).val := by decide +kernel
theorem px_pw : ∀ k : Fin 14, px k.val = pw k.val := by decide +kernel
theorem eW_ex : ∀ i : Fin 8, eW 14 i.val = ex i.val := by decide +kernel
theorem wI_M (dA dZ : ClassId) (ad : Nat → Nat) : wI dA dZ ad px (eW 14) = wM dA dZ ad (fun _ => 0) (fun _ => false) (fun _ => 0) (fun _ => 0) (fun _ => 0) (fun _ => 0) (fun _ => 0) 0 (fun _ => 0) 0 := by
  unfold wI wM
  rw [aC_eq (n := 14) (X := px) (Y := pw) (fun i hi => px_pw ⟨i, hi⟩), aC_eq (n := 8) (X := eW 14) (Y := ex) (fun i hi => eW_ex ⟨i, hi⟩)]
section I2
variable {p : Program} {l : Launch} {e : Env} {R : Room} {s : State} {m : MethodId} {args : Array Value} {below : List Frame} {meth : Method} {c : Code} {H : Heap} {locs : List Loc} {cells slots : Nat} {Q : State → Prop} {cc : ByteArray} {nL : Nat} {pc : Nat} {ls : Array Slot} {rest : List Value} {D : va_G} {dA dZ : ClassId} {A : Nat → Prop} {ad : Nat → Nat} {P0 E0 : Nat → F8}
theorem gI_power (S : CallFix p m c cc nL s args lw_all RX0) (hdg : decode cc pc = .ok (.getfield 17, 3)) (hw : Wd D dA dZ A s (wI dA dZ ad P0 E0) H locs) (kk : W p l e R s m args below meth c H locs cells slots Q (F0 m (pc + 3) ls (.ref (ad 3) :: rest))) : W p l e R s m args below meth c H locs cells slots Q (F0 m pc ls (.ref (ad 0) :: rest)) := va_get (own := RX0) (ref := RX0) (C := RX0) (T := TX0) (N := 12) (ci := 0) (index := 17) S.1 S.2.1 S.2.2.2.2 in_X0 S.2.2.2.1 hw.1 hw.2.1 0 rfl rfl 2 (by decide) (S.2.2.2.2 _ q29) (fun _ h => h) rfl hdg kk
theorem gI_exponent (S : CallFix p m c cc nL s args lw_all RX0) (hdg : decode cc pc = .ok (.getfield 20, 3)) (hw : Wd D dA dZ A s (wI dA dZ ad P0 E0) H locs) (kk : W p l e R s m args below meth c H locs cells slots Q (F0 m (pc + 3) ls (.ref (ad 4) :: rest))) : W p l e R s m args below meth c H locs cells slots Q (F0 m pc ls (.ref (ad 0) :: rest)) := va_get (own := RX0) (ref := RX0) (C := RX0) (T := TX0) (N := 12) (ci := 0) (index := 20) S.1 S.2.1 S.2.2.2.2 in_X0 S.2.2.2.1 hw.1 hw.2.1 0 rfl rfl 3 (by decide) (S.2.2.2.2 _ q30) (fun _ h => h) rfl hdg kk
end I2
set_option maxHeartbeats 4000000 in
theorem lo_init {p : Program} {l : Launch} {e : Env} {s : State} {m : MethodId} {args : Array Value} {below : List Frame} {meth : Method} {c : Code} {Q : State → Prop} {D : va_G} {dA dZ : ClassId} {A : Nat → Prop} {ad : Nat → Nat} (S : CallFix p m c cX0_init 3 s args lw_all RX0) (kk : ∀ (H : Heap) (locs : List Loc) (ls : Array Slot), lv_has ls 3 [(0, .ref (ad 0))] → Wd D dA dZ A s (wI dA dZ ad (mx 14 px (fun _ => 0)) (eW 14)) H locs → W p l e (rN 1 10 82) s m args below meth c H locs 10 82 Q (F0 m 138 ls [])) : ∀ (n k : Nat), k + n = 14 → ∀ (H : Heap) (locs : List Loc) (ls : Array Slot), lv_has ls 3 [(0, .ref (ad 0)), (1, .int (nI ((px k).val))), (2, .int (nI k))] → Wd D dA dZ A s (wI dA dZ ad (mx k px (fun _ => 0)) (eW k)) H locs → W p l e (rN 1 10 82) s m args below meth c H locs 10 82 Q (F0 m 86 ls []) := by
  intro n
  induction n with
  | zero =>
    intro k hk H locs ls hl hw
    refine ir_ild_n S dX0_init_86 hl 2 rfl ?_
    refine ir_bi S dX0_init_87 ((nI 14)) (by decide) ?_
    refine ir_cge 138 S dX0_init_89 (by decide) (by omega) (by omega) (fun hc => ?_) (fun hc => absurd hc (by omega))
    obtain rfl : k = 14 := by omega
    exact kk H locs ls (lv_sub hl [0] rfl) hw
  | succ n ih =>
    intro k hk H locs ls hl hw
    refine ir_ild_n S dX0_init_86 hl 2 rfl ?_
    refine ir_bi S dX0_init_87 ((nI 14)) (by decide) ?_
    refine ir_cge 138 S dX0_init_89 (by decide) (by omega) (by omega) (fun hc => absurd hc (by omega)) (fun hc => ?_)
    refine ir_ald_n S dX0_init_92 hl 0 rfl ?_
    refine gI_power S dX0_init_93 hw ?_
    refine ir_ild_n S dX0_init_96 hl 2 rfl ?_
    refine ir_ild_n S dX0_init_97 hl 1 rfl ?_
    refine ir_is (v := px k) (w1 := wI dA dZ ad (mx (k + 1) px (fun _ => 0)) (eW k)) S dX0_init_98 hw 3 rfl (by omega) (by decide) (mx (k + 1) px (fun _ => 0)) (fun i _ => mx_up rfl i) rfl (fun H locs hw => ?_)
    have k2 : ∀ (H : Heap) (locs : List Loc), Wd D dA dZ A s (wI dA dZ ad (mx (k + 1) px (fun _ => 0)) (eW (k + 1))) H locs → W p l e (rN 1 10 82) s m args below meth c H locs 10 82 Q (F0 m 112 ls []) := by
      intro H locs hw
      have k3 : W p l e (rN 1 10 82) s m args below meth c H locs 10 82 Q (F0 m 131 ls [.int (nI (px (k + 1)).val)]) := by
        refine ir_st_n (lv1 := [(0, .ref (ad 0)), (1, .int (nI ((px (k + 1)).val))), (2, .int (nI k))]) S dX0_init_131 hl [1, 0, 2] (by decide) rfl (fun ls hl => ?_)
        refine ir_inc (lv1 := [(0, .ref (ad 0)), (1, .int (nI ((px (k + 1)).val))), (2, .int (nI (k + 1)))]) S dX0_init_132 hl 2 rfl [1, 2, 0] (by decide) rfl (fun ls hl => ?_)
        refine ir_goto 86 S dX0_init_135 (by decide) ?_
        exact ih (k + 1) (by omega) H locs ls hl hw
      refine ir_ild_n S dX0_init_112 hl 1 rfl ?_
      refine ir_ic S dX0_init_113 ((nI 4)) (by decide) ?_
      refine ir_clt 128 S dX0_init_114 (by decide) (by omega) (by omega) (fun hc => ?_) (fun hc => ?_)
      · refine ir_ic S dX0_init_128 ((nI 2)) (by decide) ?_
        refine ir_ild_n S dX0_init_129 hl 1 rfl ?_
        refine ir_mul S dX0_init_130 ?_
        rw [nx_lo _ hc]
        exact k3
      · refine ir_ic S dX0_init_117 ((nI 2)) (by decide) ?_
        refine ir_ild_n S dX0_init_118 hl 1 rfl ?_
        refine ir_mul S dX0_init_119 ?_
        refine ir_bi S dX0_init_120 ((nI 8)) (by decide) ?_
        refine ir_sub S dX0_init_122 (by omega) ?_
        refine ir_ic S dX0_init_123 ((nI 3)) (by decide) ?_
        refine lv_ixor S.1 S.2.1 dX0_init_124 ?_
        rw [nx_hi _ hc]
        refine ir_goto 131 S dX0_init_125 (by decide) ?_
        exact k3
    refine ir_ild_n S dX0_init_99 hl 2 rfl ?_
    refine ir_bi S dX0_init_100 ((nI 7)) (by decide) ?_
    refine ir_cge 112 S dX0_init_102 (by decide) (by omega) (by omega) (fun hc => ?_) (fun hc => ?_)
    · have e1 : eW (k + 1) = eW k := dif_neg (by omega)
      exact k2 H locs (hw.cg (by rw [e1]))
    · have e1 : eW (k + 1) = va_up (eW k) (px k).val ⟨k, Nat.lt_trans hc (by decide)⟩ := dif_pos hc
      refine ir_ald_n S dX0_init_105 hl 0 rfl ?_
      refine gI_exponent S dX0_init_106 hw ?_
      refine ir_ild_n S dX0_init_109 hl 1 rfl ?_
      refine ir_ild_n S dX0_init_110 hl 2 rfl ?_
      refine ir_is (v := ⟨k, Nat.lt_trans hc (by decide)⟩) (w1 := (wI dA dZ ad (mx (k + 1) px (fun _ => 0)) (eW (k + 1)))) S dX0_init_111 hw 4 rfl (px k).isLt (by decide) (eW (k + 1)) (fun i _ => by rw [e1]) rfl (fun H locs hw => ?_)
      exact k2 H locs hw
def wB0 (h0 : Nat) : va_W := [(h0, .inr (0, [.null, .null, .null, .null, .null, .null, .null, .null, .null, .int (nI 0), .null, .int (nI 0)]))]
set_option maxHeartbeats 4000000 in
theorem ct_init0 (l : Launch) (D : va_G) (dA dZ : ClassId) (h0 : Nat) : CtN l D dA dZ yX0_init cX0_init 3 1 10 82 h0 (wB0 h0) (fun ad => wM dA dZ ad (fun _ => 0) (fun _ => false) (fun _ => 0) (fun _ => 0) (fun _ => 0) (fun _ => 0) (fun _ => 0) 0 (fun _ => 0) 0) := by
  refine CtN.of (by decide) rfl (Nat.le_of_ble_eq_true rfl) ?_
  intro p e s m args below meth c A H locs ls S hin hr hlk hl hw
  have hl : lv_has ls 3 [(0, .ref h0)] := hl
  generalize hQ : EN D dA dZ h0 10 82 _ A below args s = Q
  refine ir_ald_n S dX0_init_0 hl 0 rfl ?_
  refine W.objInit S.1 S.2.1 S.2.2.2.1 (S.2.2.2.2 _ q24) (S.2.2.2.2 _ q25) (S.2.2.2.2 _ q26) rfl (by rw [S.2.2.1]; exact hl.1) rfl dX0_init_1 (Nat.le_of_ble_eq_true rfl) (Nat.le_of_ble_eq_true rfl) ?_
  refine W.eq (g2 := F0 m 4 ls []) rfl ?_
  refine ir_ald_n S dX0_init_4 hl 0 rfl ?_
  refine ir_bi S dX0_init_5 (nI 7) (by decide) ?_
  refine nw_i S dX0_init_7 hw (by decide) (Nat.le_of_ble_eq_true rfl) (Nat.le_of_ble_eq_true rfl) (fun a1 H hw => ?_)
  refine pf_0 (ty := .array .int) (w1 := [(h0, .inr (0, [.ref a1, .null, .null, .null, .null, .null, .null, .null, .null, .int (nI 0), .null, .int (nI 0)])), (a1, .inl (dA, 7, .inl (aC 7 (fun _ => 0))))]) S hin dX0_init_9 hw rfl 0 (by decide) q27 rfl rfl (by decide +kernel) rfl rfl (Nat.le_of_ble_eq_true rfl) rfl (fun H locs hw => ?_)
  refine ir_ald_n S dX0_init_12 hl 0 rfl ?_
  refine ir_bi S dX0_init_13 (nI 7) (by decide) ?_
  refine nw_z S dX0_init_15 hw (by decide) (Nat.le_of_ble_eq_true rfl) (Nat.le_of_ble_eq_true rfl) (fun a2 H hw => ?_)
  refine pf_0 (ty := .array .boolean) (w1 := [(h0, .inr (0, [.ref a1, .ref a2, .null, .null, .null, .null, .null, .null, .null, .int (nI 0), .null, .int (nI 0)])), (a1, .inl (dA, 7, .inl (aC 7 (fun _ => 0)))), (a2, .inl (dZ, 7, .inl (aB 7 (fun _ => false))))]) S hin dX0_init_17 hw rfl 1 (by decide) q28 rfl rfl (by decide +kernel) rfl rfl (Nat.le_of_ble_eq_true rfl) rfl (fun H locs hw => ?_)
  refine ir_ald_n S dX0_init_20 hl 0 rfl ?_
  refine ir_bi S dX0_init_21 (nI 14) (by decide) ?_
  refine nw_i S dX0_init_23 hw (by decide) (Nat.le_of_ble_eq_true rfl) (Nat.le_of_ble_eq_true rfl) (fun a3 H hw => ?_)
  refine pf_0 (ty := .array .int) (w1 := [(h0, .inr (0, [.ref a1, .ref a2, .ref a3, .null, .null, .null, .null, .null, .null, .int (nI 0), .null, .int (nI 0)])), (a1, .inl (dA, 7, .inl (aC 7 (fun _ => 0)))), (a2, .inl (dZ, 7, .inl (aB 7 (fun _ => false)))), (a3, .inl (dA, 14, .inl (aC 14 (fun _ => 0))))]) S hin dX0_init_25 hw rfl 2 (by decide) q29 rfl rfl (by decide +kernel) rfl rfl (Nat.le_of_ble_eq_true rfl) rfl (fun H locs hw => ?_)
  refine ir_ald_n S dX0_init_28 hl 0 rfl ?_
  refine ir_bi S dX0_init_29 (nI 8) (by decide) ?_
  refine nw_i S dX0_init_31 hw (by decide) (Nat.le_of_ble_eq_true rfl) (Nat.le_of_ble_eq_true rfl) (fun a4 H hw => ?_)
  refine pf_0 (ty := .array .int) (w1 := [(h0, .inr (0, [.ref a1, .ref a2, .ref a3, .ref a4, .null, .null, .null, .null, .null, .int (nI 0), .null, .int (nI 0)])), (a1, .inl (dA, 7, .inl (aC 7 (fun _ => 0)))), (a2, .inl (dZ, 7, .inl (aB 7 (fun _ => false)))), (a3, .inl (dA, 14, .inl (aC 14 (fun _ => 0)))), (a4, .inl (dA, 8, .inl (aC 8 (fun _ => 0))))]) S hin dX0_init_33 hw rfl 3 (by decide) q30 rfl rfl (by decide +kernel) rfl rfl (Nat.le_of_ble_eq_true rfl) rfl (fun H locs hw => ?_)
  refine ir_ald_n S dX0_init_36 hl 0 rfl ?_
  refine ir_ic S dX0_init_37 (nI 5) (by decide) ?_
  refine nw_i S dX0_init_38 hw (by decide) (Nat.le_of_ble_eq_true rfl) (Nat.le_of_ble_eq_true rfl) (fun a5 H hw => ?_)
  refine pf_0 (ty := .array .int) (w1 := [(h0, .inr (0, [.ref a1, .ref a2, .ref a3, .ref a4, .ref a5, .null, .null, .null, .null, .int (nI 0), .null, .int (nI 0)])), (a1, .inl (dA, 7, .inl (aC 7 (fun _ => 0)))), (a2, .inl (dZ, 7, .inl (aB 7 (fun _ => false)))), (a3, .inl (dA, 14, .inl (aC 14 (fun _ => 0)))), (a4, .inl (dA, 8, .inl (aC 8 (fun _ => 0)))), (a5, .inl (dA, 5, .inl (aC 5 (fun _ => 0))))]) S hin dX0_init_40 hw rfl 4 (by decide) q31 rfl rfl (by decide +kernel) rfl rfl (Nat.le_of_ble_eq_true rfl) rfl (fun H locs hw => ?_)
  refine ir_ald_n S dX0_init_43 hl 0 rfl ?_
  refine ir_bi S dX0_init_44 (nI 10) (by decide) ?_
  refine nw_i S dX0_init_46 hw (by decide) (Nat.le_of_ble_eq_true rfl) (Nat.le_of_ble_eq_true rfl) (fun a6 H hw => ?_)
  refine pf_0 (ty := .array .int) (w1 := [(h0, .inr (0, [.ref a1, .ref a2, .ref a3, .ref a4, .ref a5, .ref a6, .null, .null, .null, .int (nI 0), .null, .int (nI 0)])), (a1, .inl (dA, 7, .inl (aC 7 (fun _ => 0)))), (a2, .inl (dZ, 7, .inl (aB 7 (fun _ => false)))), (a3, .inl (dA, 14, .inl (aC 14 (fun _ => 0)))), (a4, .inl (dA, 8, .inl (aC 8 (fun _ => 0)))), (a5, .inl (dA, 5, .inl (aC 5 (fun _ => 0)))), (a6, .inl (dA, 10, .inl (aC 10 (fun _ => 0))))]) S hin dX0_init_48 hw rfl 5 (by decide) q32 rfl rfl (by decide +kernel) rfl rfl (Nat.le_of_ble_eq_true rfl) rfl (fun H locs hw => ?_)
  refine ir_ald_n S dX0_init_51 hl 0 rfl ?_
  refine ir_bi S dX0_init_52 (nI 10) (by decide) ?_
  refine nw_i S dX0_init_54 hw (by decide) (Nat.le_of_ble_eq_true rfl) (Nat.le_of_ble_eq_true rfl) (fun a7 H hw => ?_)
  refine pf_0 (ty := .array .int) (w1 := [(h0, .inr (0, [.ref a1, .ref a2, .ref a3, .ref a4, .ref a5, .ref a6, .ref a7, .null, .null, .int (nI 0), .null, .int (nI 0)])), (a1, .inl (dA, 7, .inl (aC 7 (fun _ => 0)))), (a2, .inl (dZ, 7, .inl (aB 7 (fun _ => false)))), (a3, .inl (dA, 14, .inl (aC 14 (fun _ => 0)))), (a4, .inl (dA, 8, .inl (aC 8 (fun _ => 0)))), (a5, .inl (dA, 5, .inl (aC 5 (fun _ => 0)))), (a6, .inl (dA, 10, .inl (aC 10 (fun _ => 0)))), (a7, .inl (dA, 10, .inl (aC 10 (fun _ => 0))))]) S hin dX0_init_56 hw rfl 6 (by decide) q33 rfl rfl (by decide +kernel) rfl rfl (Nat.le_of_ble_eq_true rfl) rfl (fun H locs hw => ?_)
  refine ir_ald_n S dX0_init_59 hl 0 rfl ?_
  refine ir_bi S dX0_init_60 (nI 10) (by decide) ?_
  refine nw_i S dX0_init_62 hw (by decide) (Nat.le_of_ble_eq_true rfl) (Nat.le_of_ble_eq_true rfl) (fun a8 H hw => ?_)
  refine pf_0 (ty := .array .int) (w1 := [(h0, .inr (0, [.ref a1, .ref a2, .ref a3, .ref a4, .ref a5, .ref a6, .ref a7, .ref a8, .null, .int (nI 0), .null, .int (nI 0)])), (a1, .inl (dA, 7, .inl (aC 7 (fun _ => 0)))), (a2, .inl (dZ, 7, .inl (aB 7 (fun _ => false)))), (a3, .inl (dA, 14, .inl (aC 14 (fun _ => 0)))), (a4, .inl (dA, 8, .inl (aC 8 (fun _ => 0)))), (a5, .inl (dA, 5, .inl (aC 5 (fun _ => 0)))), (a6, .inl (dA, 10, .inl (aC 10 (fun _ => 0)))), (a7, .inl (dA, 10, .inl (aC 10 (fun _ => 0)))), (a8, .inl (dA, 10, .inl (aC 10 (fun _ => 0))))]) S hin dX0_init_64 hw rfl 7 (by decide) q34 rfl rfl (by decide +kernel) rfl rfl (Nat.le_of_ble_eq_true rfl) rfl (fun H locs hw => ?_)
  refine ir_ald_n S dX0_init_67 hl 0 rfl ?_
  refine ir_ic S dX0_init_68 (nI 4) (by decide) ?_
  refine nw_i S dX0_init_69 hw (by decide) (Nat.le_of_ble_eq_true rfl) (Nat.le_of_ble_eq_true rfl) (fun a9 H hw => ?_)
  refine pf_0 (ty := .array .int) (w1 := [(h0, .inr (0, [.ref a1, .ref a2, .ref a3, .ref a4, .ref a5, .ref a6, .ref a7, .ref a8, .ref a9, .int (nI 0), .null, .int (nI 0)])), (a1, .inl (dA, 7, .inl (aC 7 (fun _ => 0)))), (a2, .inl (dZ, 7, .inl (aB 7 (fun _ => false)))), (a3, .inl (dA, 14, .inl (aC 14 (fun _ => 0)))), (a4, .inl (dA, 8, .inl (aC 8 (fun _ => 0)))), (a5, .inl (dA, 5, .inl (aC 5 (fun _ => 0)))), (a6, .inl (dA, 10, .inl (aC 10 (fun _ => 0)))), (a7, .inl (dA, 10, .inl (aC 10 (fun _ => 0)))), (a8, .inl (dA, 10, .inl (aC 10 (fun _ => 0)))), (a9, .inl (dA, 4, .inl (aC 4 (fun _ => 0))))]) S hin dX0_init_71 hw rfl 8 (by decide) q35 rfl rfl (by decide +kernel) rfl rfl (Nat.le_of_ble_eq_true rfl) rfl (fun H locs hw => ?_)
  refine ir_ald_n S dX0_init_74 hl 0 rfl ?_
  refine ir_bi S dX0_init_75 (nI 7) (by decide) ?_
  refine nw_i S dX0_init_77 hw (by decide) (Nat.le_of_ble_eq_true rfl) (Nat.le_of_ble_eq_true rfl) (fun a10 H hw => ?_)
  refine pf_0 (ty := .array .int) (w1 := [(h0, .inr (0, [.ref a1, .ref a2, .ref a3, .ref a4, .ref a5, .ref a6, .ref a7, .ref a8, .ref a9, .int (nI 0), .ref a10, .int (nI 0)])), (a1, .inl (dA, 7, .inl (aC 7 (fun _ => 0)))), (a2, .inl (dZ, 7, .inl (aB 7 (fun _ => false)))), (a3, .inl (dA, 14, .inl (aC 14 (fun _ => 0)))), (a4, .inl (dA, 8, .inl (aC 8 (fun _ => 0)))), (a5, .inl (dA, 5, .inl (aC 5 (fun _ => 0)))), (a6, .inl (dA, 10, .inl (aC 10 (fun _ => 0)))), (a7, .inl (dA, 10, .inl (aC 10 (fun _ => 0)))), (a8, .inl (dA, 10, .inl (aC 10 (fun _ => 0)))), (a9, .inl (dA, 4, .inl (aC 4 (fun _ => 0)))), (a10, .inl (dA, 7, .inl (aC 7 (fun _ => 0))))]) S hin dX0_init_79 hw rfl 10 (by decide) q37 rfl rfl (by decide +kernel) rfl rfl (Nat.le_of_ble_eq_true rfl) rfl (fun H locs hw => ?_)
  refine W.widen (k := 10) (n := 82) (Nat.le_of_ble_eq_true rfl) (Nat.le_of_ble_eq_true rfl) ?_
  have hw : Wd D dA dZ A s (wI dA dZ (adL [h0, a1, a2, a3, a4, a5, a6, a7, a8, a9, a10]) (fun _ => 0) (fun _ => 0)) H locs := hw
  generalize had : adL [h0, a1, a2, a3, a4, a5, a6, a7, a8, a9, a10] = ad at hw
  have h0e : ad 0 = h0 := by rw [← had]; rfl
  have hl : lv_has ls 3 [(0, .ref (ad 0))] := by rw [h0e]; exact hl
  refine ir_ic S dX0_init_82 ((nI 1)) (by decide) ?_
  refine ir_st_n (lv1 := [(0, .ref (ad 0)), (1, .int (nI ((px 0).val)))]) S dX0_init_83 hl [1, 0] (by decide) rfl (fun ls hl => ?_)
  refine ir_ic S dX0_init_84 ((nI 0)) (by decide) ?_
  refine ir_st_n (lv1 := [(0, .ref (ad 0)), (1, .int (nI ((px 0).val))), (2, .int (nI 0))]) S dX0_init_85 hl [1, 2, 0] (by decide) rfl (fun ls hl => ?_)
  refine lo_init S (fun H locs ls hl hw => ?_) 14 0 rfl _ _ ls hl (hw.cg (by rw [mx_0]; rfl))
  subst hQ
  have hw : Wd D dA dZ A s (wI dA dZ ad px (eW 14)) H locs := hw.cg (by unfold wI; rw [aC_eq (n := 14) (X := mx 14 px (fun _ => 0)) (Y := px) (fun i hi => mx_lt hi)])
  rw [wI_M] at hw
  exact re_N ad h0e S dX0_init_138 hr hlk hw
def on0 : Nat → F8 := fun i => if i = 0 then 1 else 0
def zeC : Nat → F8 := tzF (tzF (tzF (tzF (va_up (fun _ => 0) 0 1) 2) 4) 3) 6
def wB1 (h0 : Nat) : va_W := [(h0, .inr (1, [.null, .null, .null, .null]))]
set_option maxHeartbeats 4000000 in
theorem ct_init1 (l : Launch) (D : va_G) (dA dZ : ClassId) (h0 : Nat) : CtN l D dA dZ yX1_init cX1_init 1 2 4 26 h0 (wB1 h0) (fun ad => wO dA dZ ad (fun _ => 0) (fun _ => false) zeC (fun _ => 0)) := by
  refine CtN.of (by decide) rfl (Nat.le_of_ble_eq_true rfl) ?_
  intro p e s m args below meth c A H locs ls S hin hr hlk hl hw
  have hl : lv_has ls 1 [(0, .ref h0)] := hl
  generalize hQ : EN D dA dZ h0 4 26 _ A below args s = Q
  refine ir_ald_n S dX1_init_0 hl 0 rfl ?_
  refine W.objInit S.1 S.2.1 S.2.2.2.1 (S.2.2.2.2 _ q157) (S.2.2.2.2 _ q25) (S.2.2.2.2 _ q26) rfl (by rw [S.2.2.1]; exact hl.1) rfl dX1_init_1 (Nat.le_of_ble_eq_true rfl) (Nat.le_of_ble_eq_true rfl) ?_
  refine W.eq (g2 := F0 m 4 ls []) rfl ?_
  refine ir_ald_n S dX1_init_4 hl 0 rfl ?_
  refine ir_bi S dX1_init_5 (nI 7) (by decide) ?_
  refine nw_i S dX1_init_7 hw (by decide) (Nat.le_of_ble_eq_true rfl) (Nat.le_of_ble_eq_true rfl) (fun a1 H hw => ?_)
  refine pf_1 (ty := .array .int) (w1 := [(h0, .inr (1, [.ref a1, .null, .null, .null])), (a1, .inl (dA, 7, .inl (aC 7 (fun _ => 0))))]) S hin dX1_init_9 hw rfl 0 (by decide) q165 rfl rfl (by decide +kernel) rfl rfl (Nat.le_of_ble_eq_true rfl) rfl (fun H locs hw => ?_)
  refine ir_ald_n S dX1_init_12 hl 0 rfl ?_
  refine ir_bi S dX1_init_13 (nI 7) (by decide) ?_
  refine nw_z S dX1_init_15 hw (by decide) (Nat.le_of_ble_eq_true rfl) (Nat.le_of_ble_eq_true rfl) (fun a2 H hw => ?_)
  refine pf_1 (ty := .array .boolean) (w1 := [(h0, .inr (1, [.ref a1, .ref a2, .null, .null])), (a1, .inl (dA, 7, .inl (aC 7 (fun _ => 0)))), (a2, .inl (dZ, 7, .inl (aB 7 (fun _ => false))))]) S hin dX1_init_17 hw rfl 1 (by decide) q166 rfl rfl (by decide +kernel) rfl rfl (Nat.le_of_ble_eq_true rfl) rfl (fun H locs hw => ?_)
  refine ir_ald_n S dX1_init_20 hl 0 rfl ?_
  refine ir_ic S dX1_init_21 (nI 5) (by decide) ?_
  refine nw_i S dX1_init_22 hw (by decide) (Nat.le_of_ble_eq_true rfl) (Nat.le_of_ble_eq_true rfl) (fun a3 H hw => ?_)
  refine pf_1 (ty := .array .int) (w1 := [(h0, .inr (1, [.ref a1, .ref a2, .ref a3, .null])), (a1, .inl (dA, 7, .inl (aC 7 (fun _ => 0)))), (a2, .inl (dZ, 7, .inl (aB 7 (fun _ => false)))), (a3, .inl (dA, 5, .inl (aC 5 (fun _ => 0))))]) S hin dX1_init_24 hw rfl 2 (by decide) q167 rfl rfl (by decide +kernel) rfl rfl (Nat.le_of_ble_eq_true rfl) rfl (fun H locs hw => ?_)
  refine ir_ald_n S dX1_init_27 hl 0 rfl ?_
  refine ir_bi S dX1_init_28 (nI 7) (by decide) ?_
  refine nw_i S dX1_init_30 hw (by decide) (Nat.le_of_ble_eq_true rfl) (Nat.le_of_ble_eq_true rfl) (fun a4 H hw => ?_)
  refine pf_1 (ty := .array .int) (w1 := [(h0, .inr (1, [.ref a1, .ref a2, .ref a3, .ref a4])), (a1, .inl (dA, 7, .inl (aC 7 (fun _ => 0)))), (a2, .inl (dZ, 7, .inl (aB 7 (fun _ => false)))), (a3, .inl (dA, 5, .inl (aC 5 (fun _ => 0)))), (a4, .inl (dA, 7, .inl (aC 7 (fun _ => 0))))]) S hin dX1_init_32 hw rfl 3 (by decide) q168 rfl rfl (by decide +kernel) rfl rfl (Nat.le_of_ble_eq_true rfl) rfl (fun H locs hw => ?_)
  refine W.widen (k := 4) (n := 26) (Nat.le_of_ble_eq_true rfl) (Nat.le_of_ble_eq_true rfl) ?_
  have hw : Wd D dA dZ A s (wO dA dZ (adL [h0, a1, a2, a3, a4]) (fun _ => 0) (fun _ => false) (fun _ => 0) (fun _ => 0)) H locs := hw
  generalize had : adL [h0, a1, a2, a3, a4] = ad at hw
  have h0e : ad 0 = h0 := by rw [← had]; rfl
  have hl : lv_has ls 1 [(0, .ref (ad 0))] := by rw [h0e]; exact hl
  refine ir_ald_n S dX1_init_35 hl 0 rfl ?_
  refine g1_zeros S dX1_init_36 hw ?_
  refine ir_ic S dX1_init_39 ((nI 0)) (by decide) ?_
  refine ir_ic S dX1_init_40 ((nI ((1 : F8)).val)) (by decide) ?_
  refine ir_is (w1 := (wO dA dZ ad (fun _ => (0 : F8)) (fun _ => false) (va_up (fun _ => (0 : F8)) 0 ((1 : F8))) (fun _ => (0 : F8)))) S dX1_init_41 hw 3 rfl (by omega) (by decide) (va_up (fun _ => (0 : F8)) 0 ((1 : F8))) (fun _ _ => rfl) rfl (fun H locs hw => ?_)
  refine ir_ald_n S dX1_init_42 hl 0 rfl ?_
  refine ir_ic S dX1_init_43 ((nI ((2 : F8)).val)) (by decide) ?_
  refine c_ztimes S dX1_init_44 (by decide) (by decide) hw hl (Nat.le_of_ble_eq_true rfl) (fun H locs hw => ?_)
  refine ir_ald_n S dX1_init_47 hl 0 rfl ?_
  refine ir_ic S dX1_init_48 ((nI ((4 : F8)).val)) (by decide) ?_
  refine c_ztimes S dX1_init_49 (by decide) (by decide) hw hl (Nat.le_of_ble_eq_true rfl) (fun H locs hw => ?_)
  refine ir_ald_n S dX1_init_52 hl 0 rfl ?_
  refine ir_ic S dX1_init_53 ((nI ((3 : F8)).val)) (by decide) ?_
  refine c_ztimes S dX1_init_54 (by decide) (by decide) hw hl (Nat.le_of_ble_eq_true rfl) (fun H locs hw => ?_)
  refine ir_ald_n S dX1_init_57 hl 0 rfl ?_
  refine ir_bi S dX1_init_58 ((nI ((6 : F8)).val)) (by decide) ?_
  refine c_ztimes S dX1_init_60 (by decide) (by decide) hw hl (Nat.le_of_ble_eq_true rfl) (fun H locs hw => ?_)
  subst hQ
  exact re_N ad h0e S dX1_init_63 hr hlk hw
end
section
/-! the field's laws, sums, linear functionals, packed polynomials, the coded run of the rule's building -/
set_option maxRecDepth 100000
theorem gx_a : ∀ a b c : F8, gx (gx a b) c = gx a (gx b c) := by decide +kernel
theorem gx_c : ∀ a b : F8, gx a b = gx b a := by decide +kernel
theorem gx_s : ∀ a : F8, gx a a = 0 := by decide +kernel
theorem gx_z : ∀ a : F8, gx 0 a = a := by decide +kernel
theorem gx_k : ∀ a b : F8, gx a (gx a b) = b := by decide +kernel
theorem gx_e : ∀ a b : F8, decide (gx a b = 0) = decide (b = a) := by decide +kernel
theorem gm_c : ∀ a b : F8, gm a b = gm b a := by decide +kernel
theorem gm_a : ∀ a b c : F8, gm (gm a b) c = gm a (gm b c) := by decide +kernel
theorem gm_d : ∀ a b c : F8, gm (gx a b) c = gx (gm a c) (gm b c) := by decide +kernel
theorem gm_d2 : ∀ a b c : F8, gm a (gx b c) = gx (gm a b) (gm a c) := by decide +kernel
theorem gm_1 : ∀ a : F8, gm a 1 = a := by decide +kernel
theorem go_m : ∀ a b : F8, ¬ b = 0 → go (gm a b) b = a := by decide +kernel
theorem gm_n : ∀ a b : F8, ¬ a = 0 → ¬ b = 0 → ¬ gm a b = 0 := by decide +kernel
theorem pw_n : ∀ i : Fin 7, ¬ pw i.val = 0 := by decide +kernel
theorem gx_m (a b c d : F8) : gx (gx a b) (gx c d) = gx (gx a c) (gx b d) := by
  rw [gx_a a b, gx_a a c, ← gx_a b c d, gx_c b c, gx_a c b d]
theorem xs_eq {f h : Nat → F8} : ∀ n, (∀ i, i < n → f i = h i) → xs f n = xs h n := by
  intro n
  induction n with
  | zero => intro _; rfl
  | succ n ih =>
    intro hi
    show gx (xs f n) (f n) = gx (xs h n) (h n)
    rw [ih (fun i q => hi i (Nat.lt_succ_of_lt q)), hi n (Nat.lt_succ_self n)]
theorem xs_x (f h : Nat → F8) : ∀ n, xs (fun i => gx (f i) (h i)) n = gx (xs f n) (xs h n) := by
  intro n
  induction n with
  | zero => exact (gx_0 0).symm
  | succ n ih =>
    show gx (xs (fun i => gx (f i) (h i)) n) (gx (f n) (h n)) = gx (gx (xs f n) (f n)) (gx (xs h n) (h n))
    rw [ih, gx_m]
theorem xs_m (a : F8) (f : Nat → F8) : ∀ n, xs (fun i => gm a (f i)) n = gm a (xs f n) := by
  intro n
  induction n with
  | zero => exact (gm_z2 a).symm
  | succ n ih =>
    show gx (xs (fun i => gm a (f i)) n) (gm a (f n)) = gm a (gx (xs f n) (f n))
    rw [ih, gm_d2]
theorem xs_z {f : Nat → F8} : ∀ n, (∀ i, i < n → f i = 0) → xs f n = 0 := by
  intro n
  induction n with
  | zero => intro _; rfl
  | succ n ih =>
    intro hi
    show gx (xs f n) (f n) = 0
    rw [ih (fun i q => hi i (Nat.lt_succ_of_lt q)), hi n (Nat.lt_succ_self n)]
    exact gx_0 0
theorem xs_one {f : Nat → F8} {i : Nat} : ∀ n, i < n → (∀ j, j < n → j ≠ i → f j = 0) → xs f n = f i := by
  intro n
  induction n with
  | zero => intro h _; exact absurd h (Nat.not_lt_zero _)
  | succ n ih =>
    intro h hz
    show gx (xs f n) (f n) = f i
    by_cases hi : i = n
    · rw [xs_z n (fun j q => hz j (Nat.lt_succ_of_lt q) (by omega)), gx_z, hi]
    · rw [ih (by omega) (fun j q => hz j (Nat.lt_succ_of_lt q)), hz n (Nat.lt_succ_self n) (fun q => hi q.symm), gx_0]
theorem cn_eq {f h : Nat → Bool} : ∀ n, (∀ i, i < n → f i = h i) → cn f n = cn h n := by
  intro n
  induction n with
  | zero => intro _; rfl
  | succ n ih =>
    intro hi
    show cn f n + (f n).toNat = cn h n + (h n).toNat
    rw [ih (fun i q => hi i (Nat.lt_succ_of_lt q)), hi n (Nat.lt_succ_self n)]
theorem hv_xs (X : Nat → F8) (s : F8) : ∀ n a, hv X s n a = gx (gm a (gp s n)) (xs (vOT X s) n) := by
  intro n
  induction n with
  | zero =>
    intro a
    show a = gx (gm a 1) 0
    rw [gm_1, gx_0]
  | succ n ih =>
    intro a
    show hv X s n (gx (gm a s) (X n)) = gx (gm a (gm (gp s n) s)) (gx (xs (vOT X s) n) (gm (X n) (gp s n)))
    rw [ih, gm_d, gm_a, gm_c s (gp s n), gx_a, gx_c (gm (X n) (gp s n))]
theorem hv7 (X : Nat → F8) (s : F8) : hv X s 7 0 = xs (vOT X s) 7 := by rw [hv_xs, gm_z1, gx_z]
theorem hv_eq {X Y : Nat → F8} (s : F8) (h : ∀ i, i < 7 → X i = Y i) : hv X s 7 0 = hv Y s 7 0 := by
  rw [hv7, hv7]
  exact xs_eq 7 (fun i hi => by simp only [vOT]; rw [h i hi])
theorem hv_x (X Y : Nat → F8) (s : F8) : hv (fun i => gx (X i) (Y i)) s 7 0 = gx (hv X s 7 0) (hv Y s 7 0) := by
  rw [hv7, hv7, hv7, ← xs_x]
  exact xs_eq 7 (fun i _ => gm_d _ _ _)
theorem hv_m (a : F8) (X : Nat → F8) (s : F8) : hv (fun i => gm a (X i)) s 7 0 = gm a (hv X s 7 0) := by
  rw [hv7, hv7, ← xs_m]
  exact xs_eq 7 (fun i _ => gm_a _ _ _)
theorem zr4_eq {X Y : Nat → F8} (h : ∀ i, i < 7 → X i = Y i) (hz : zr4 X = true) : zr4 Y = true :=
  zr4_of (fun i hi => by rw [← hv_eq (pw (i + 1)) h]; exact zr4_at hz i hi)
theorem zr4_x {X Y : Nat → F8} (h1 : zr4 X = true) (h2 : zr4 Y = true) : zr4 (fun i => gx (X i) (Y i)) = true :=
  zr4_of (fun i hi => by rw [hv_x, zr4_at h1 i hi, zr4_at h2 i hi]; exact gx_0 0)
theorem sF_eq {X Y : Nat → F8} (h : ∀ i, i < 7 → X i = Y i) : sF X = sF Y := funext fun j => by
  simp only [sF]
  rw [hv_eq (pw j) h]
theorem sF_x (X Y : Nat → F8) : sF (fun i => gx (X i) (Y i)) = fun j => gx (sF X j) (sF Y j) := funext fun j => by
  simp only [sF]
  by_cases h : j = 0
  · rw [if_pos h, if_pos h, if_pos h]; exact (gx_0 0).symm
  · rw [if_neg h, if_neg h, if_neg h, hv_x]
theorem sF_m (a : F8) (X : Nat → F8) : sF (fun i => gm a (X i)) = fun j => gm a (sF X j) := funext fun j => by
  simp only [sF]
  by_cases h : j = 0
  · rw [if_pos h, if_pos h]; exact (gm_z2 a).symm
  · rw [if_neg h, if_neg h, hv_m]
theorem gm_s (a b c : F8) : gm a (gm b c) = gm b (gm a c) := by rw [← gm_a, gm_c a b, gm_a]
theorem gap_x (ru sy sz : Nat → F8) (r : Nat) : gapF ru (fun j => gx (sy j) (sz j)) r = gx (gapF ru sy r) (gapF ru sz r) := by
  unfold gapF
  rw [← xs_x]
  exact xs_eq r (fun i _ => gm_d2 _ _ _)
theorem gap_m (ru : Nat → F8) (a : F8) (sy : Nat → F8) (r : Nat) : gapF ru (fun j => gm a (sy j)) r = gm a (gapF ru sy r) := by
  unfold gapF
  rw [← xs_m]
  exact xs_eq r (fun i _ => gm_s _ _ _)
theorem gap_eq {ru rv sy sz : Nat → F8} {r : Nat} (h : ∀ k, k < r → ru k = rv k) (h2 : ∀ j, 1 ≤ j → j ≤ r → sy j = sz j) : gapF ru sy r = gapF rv sz r := by
  unfold gapF
  exact xs_eq r (fun i hi => by simp only [gapT]; rw [h i hi, h2 (r - i) (by omega) (by omega)])
/-! unit words, linear functionals -/
def sg (p : Nat) (a : F8) : Nat → F8 := fun i => if i = p then a else 0
def tr (n : Nat) (e : Nat → F8) : Nat → F8 := fun i => if i < n then e i else 0
theorem tr_s (e : Nat → F8) (n : Nat) : tr (n + 1) e = fun i => gx (tr n e i) (sg n (e n) i) := funext fun i => by
  simp only [tr, sg]
  by_cases h1 : i < n
  · rw [if_pos (by omega), if_pos h1, if_neg (by omega), gx_0]
  · by_cases h2 : i = n
    · subst h2
      rw [if_pos (by omega), if_neg h1, if_pos rfl, gx_z]
    · rw [if_neg (by omega), if_neg h1, if_neg h2, gx_0]
theorem sg_m (p : Nat) (a : F8) : sg p a = fun i => gm a (sg p 1 i) := funext fun i => by
  simp only [sg]
  by_cases h : i = p
  · rw [if_pos h, if_pos h, gm_1]
  · rw [if_neg h, if_neg h, gm_z2]
theorem lin7 {F : (Nat → F8) → F8} (hx : ∀ f h : Nat → F8, F (fun i => gx (f i) (h i)) = gx (F f) (F h)) (hm : ∀ (a : F8) (f : Nat → F8), F (fun i => gm a (f i)) = gm a (F f)) (he : ∀ f h : Nat → F8, (∀ i, i < 7 → f i = h i) → F f = F h) (e : Nat → F8) : F e = xs (fun j => gm (e j) (F (sg j 1))) 7 := by
  have h0 : F (fun _ => 0) = 0 := by
    have h := hm 0 (fun _ => 0)
    simp only [gm_z1] at h
    exact h
  have key : ∀ n, F (tr n e) = xs (fun j => gm (e j) (F (sg j 1))) n := by
    intro n
    induction n with
    | zero =>
      rw [show tr 0 e = fun _ => 0 from funext fun i => if_neg (Nat.not_lt_zero i), h0]
      rfl
    | succ n ih =>
      rw [tr_s, hx, ih, sg_m n (e n), hm]
      rfl
  rw [← key 7]
  exact he _ _ (fun i hi => (if_pos hi).symm)
theorem gap_h {ru h : Nat → F8} {g : Nat → Bool} {r : Nat} (hh : ∀ j, j < 7 → g j = false → h j = 0) (hz : ∀ j, j < 7 → g j = true → gapF ru (sF (sg j 1)) r = 0) : gapF ru (sF h) r = 0 := by
  rw [lin7 (F := fun e => gapF ru (sF e) r) (fun f h => by rw [sF_x, gap_x]) (fun a f => by rw [sF_m, gap_m]) (fun f h q => by rw [sF_eq q]) h]
  refine xs_z 7 (fun j hj => ?_)
  cases hg : g j with
  | true => rw [hz j hj hg, gm_z2]
  | false => rw [hh j hj hg, gm_z1]
/-! packed polynomials and masks -/
def un (c : Nat) : Nat → F8 := fun i => ⟨(c >>> (3 * i)) % 8, Nat.mod_lt _ (by decide)⟩
def f8 (c : Nat) : F8 := ⟨c % 8, Nat.mod_lt _ (by decide)⟩
theorem f8_v (x : F8) : f8 x.val = x := Fin.ext (Nat.mod_eq_of_lt x.isLt)
def pk (f : Nat → F8) : Nat := (f 0).val + 8 * (f 1).val + 64 * (f 2).val + 512 * (f 3).val + 4096 * (f 4).val + 32768 * (f 5).val + 262144 * (f 6).val + 2097152 * (f 7).val
def pk5 (f : Nat → F8) : Nat := (f 0).val + 8 * (f 1).val + 64 * (f 2).val + 512 * (f 3).val + 4096 * (f 4).val
theorem c8 {i : Nat} (h : i < 8) : i = 0 ∨ i = 1 ∨ i = 2 ∨ i = 3 ∨ i = 4 ∨ i = 5 ∨ i = 6 ∨ i = 7 := by omega
theorem c5 {i : Nat} (h : i < 5) : i = 0 ∨ i = 1 ∨ i = 2 ∨ i = 3 ∨ i = 4 := by omega
theorem c7 {i : Nat} (h : i < 7) : i = 0 ∨ i = 1 ∨ i = 2 ∨ i = 3 ∨ i = 4 ∨ i = 5 ∨ i = 6 := by omega
theorem un_pk (f : Nat → F8) {i : Nat} (hi : i < 8) : un (pk f) i = f i := by
  have h0 := (f 0).isLt
  have h1 := (f 1).isLt
  have h2 := (f 2).isLt
  have h3 := (f 3).isLt
  have h4 := (f 4).isLt
  have h5 := (f 5).isLt
  have h6 := (f 6).isLt
  have h7 := (f 7).isLt
  refine Fin.ext ?_
  rcases c8 hi with rfl | rfl | rfl | rfl | rfl | rfl | rfl | rfl <;> simp only [un, pk, Nat.shiftRight_eq_div_pow, Nat.reduceMul, Nat.reducePow] <;> omega
theorem un_pk5 (f : Nat → F8) {i : Nat} (hi : i < 5) : un (pk5 f) i = f i := by
  have h0 := (f 0).isLt
  have h1 := (f 1).isLt
  have h2 := (f 2).isLt
  have h3 := (f 3).isLt
  have h4 := (f 4).isLt
  refine Fin.ext ?_
  rcases c5 hi with rfl | rfl | rfl | rfl | rfl <;> simp only [un, pk5, Nat.shiftRight_eq_div_pow, Nat.reduceMul, Nat.reducePow] <;> omega
def bm (m : Nat) : Nat → Bool := fun i => Nat.beq ((m >>> i) % 2) 1
def mk7 (g : Nat → Bool) : Nat := (g 0).toNat + 2 * (g 1).toNat + 4 * (g 2).toNat + 8 * (g 3).toNat + 16 * (g 4).toNat + 32 * (g 5).toNat + 64 * (g 6).toNat
theorem bl_1 (b : Bool) : b.toNat ≤ 1 := by cases b <;> decide
theorem bq_1 (b : Bool) : Nat.beq b.toNat 1 = b := by cases b <;> rfl
theorem mk_lt (g : Nat → Bool) : mk7 g < 128 := by
  have h0 := bl_1 (g 0)
  have h1 := bl_1 (g 1)
  have h2 := bl_1 (g 2)
  have h3 := bl_1 (g 3)
  have h4 := bl_1 (g 4)
  have h5 := bl_1 (g 5)
  have h6 := bl_1 (g 6)
  unfold mk7
  omega
theorem bm_mk (g : Nat → Bool) {i : Nat} (hi : i < 7) : bm (mk7 g) i = g i := by
  have h0 := bl_1 (g 0)
  have h1 := bl_1 (g 1)
  have h2 := bl_1 (g 2)
  have h3 := bl_1 (g 3)
  have h4 := bl_1 (g 4)
  have h5 := bl_1 (g 5)
  have h6 := bl_1 (g 6)
  have key : (mk7 g >>> i) % 2 = (g i).toNat := by
    rcases c7 hi with rfl | rfl | rfl | rfl | rfl | rfl | rfl <;> simp only [mk7, Nat.shiftRight_eq_div_pow, Nat.reducePow] <;> omega
  simp only [bm]
  rw [key, bq_1]
theorem eR_eq {g h : Nat → Bool} : ∀ n, (∀ i, i < n → g i = h i) → eR g n = eR h n := by
  intro n
  induction n with
  | zero => intro _; rfl
  | succ n ih =>
    intro hi
    show (if g n = true then er n (eR g n) else eR g n) = (if h n = true then er n (eR h n) else eR h n)
    rw [ih (fun i q => hi i (Nat.lt_succ_of_lt q)), hi n (Nat.lt_succ_self n)]
/-! values are forced before they go on -/
def frc {α : Type} (n : Nat) (k : Nat → α) : α := match n with
  | 0 => k 0
  | Nat.succ m => k (Nat.succ m)
theorem frc_eq {α : Type} (n : Nat) (k : Nat → α) : frc n k = k n := by cases n <;> rfl
def aln (P : Nat → Bool) : Nat → Bool
  | 0 => true
  | n + 1 => P n && aln P n
theorem aln_at {P : Nat → Bool} : ∀ n, aln P n = true → ∀ i, i < n → P i = true := by
  intro n
  induction n with
  | zero => intro _ i hi; exact absurd hi (Nat.not_lt_zero _)
  | succ n ih =>
    intro h i hi
    have h : (P n && aln P n) = true := h
    rw [Bool.and_eq_true] at h
    by_cases hn : i = n
    · rw [hn]; exact h.1
    · exact ih h.2 i (by omega)
/-! one step of the building, by its gap -/
def bsG (gap : F8) (lost r : Nat) (st : BS) : BS := if gap = 0 then (st.1, shH st.2.1, st.2.2) else (lgR gap st.1 (shH st.2.1), (lgP gap r lost st.1 (shH st.2.1) st.2.2).1, (lgP gap r lost st.1 (shH st.2.1) st.2.2).2)
theorem shH_c {a b : Nat → F8} (h : ∀ i, i < 8 → a i = b i) : ∀ i, i < 8 → shH a i = shH b i := by
  intro i hi
  simp only [shH]
  by_cases h0 : i = 0
  · rw [if_pos h0, if_pos h0]
  · rw [if_neg h0, if_neg h0, h (i - 1) (by omega)]
theorem bsG_c {G : F8} {lost r : Nat} {st sv : BS} (h1 : ∀ i, i < 8 → st.1 i = sv.1 i) (h2 : ∀ i, i < 8 → st.2.1 i = sv.2.1 i) (h3 : st.2.2 = sv.2.2) : (∀ i, i < 8 → (bsG G lost r st).1 i = (bsG G lost r sv).1 i) ∧ (∀ i, i < 8 → (bsG G lost r st).2.1 i = (bsG G lost r sv).2.1 i) ∧ (bsG G lost r st).2.2 = (bsG G lost r sv).2.2 := by
  unfold bsG
  by_cases hG : G = 0
  · rw [if_pos hG, if_pos hG]
    exact ⟨h1, shH_c h2, h3⟩
  · rw [if_neg hG, if_neg hG]
    refine ⟨fun i hi => ?_, ?_⟩
    · show gx (st.1 i) (gm G (shH st.2.1 i)) = gx (sv.1 i) (gm G (shH sv.2.1 i))
      rw [h1 i hi, shH_c h2 i hi]
    · simp only [lgP, h3]
      by_cases hl : 2 * sv.2.2 ≤ r + lost - 1
      · rw [if_pos hl, if_pos hl]
        exact ⟨fun i hi => by simp only [lgH]; rw [h1 i hi], rfl⟩
      · rw [if_neg hl, if_neg hl]
        exact ⟨shH_c h2, rfl⟩
/-- the values of the unit words at the four roots, packed -/
def sDc (p : Nat) : Nat := (19619695533146133408910133432904 >>> (15 * p)) % 32768
theorem sD_ok : ∀ (p : Fin 7) (j : Fin 5), un (sDc p.val) j.val = sF (sg p.val 1) j.val := by decide +kernel
def ckz (m ru r : Nat) : Bool := aln (fun p => !(bm m p) || decide (gapF (un ru) (un (sDc p)) r = 0)) 7
def ckR (sy m lost : Nat) : Nat → Nat → Nat → Nat → Nat → Nat → Bool
  | 0, _, ru, _, _, res => Nat.beq ru res
  | n + 1, r, ru, he, le, res => ckz m ru r && frc (gapF (un ru) (un sy) r).val (fun gv => frc (pk (bsG (f8 gv) lost r (un ru, un he, le)).1) (fun ru1 => frc (pk (bsG (f8 gv) lost r (un ru, un he, le)).2.1) (fun he1 => frc (bsG (f8 gv) lost r (un ru, un he, le)).2.2 (fun le1 => ckR sy m lost n (r + 1) ru1 he1 le1 res))))
theorem ckz_at {m ru r : Nat} (h : ckz m ru r = true) (hr : r < 5) : ∀ j, j < 7 → bm m j = true → gapF (un ru) (sF (sg j 1)) r = 0 := by
  intro j hj hb
  have h1 := aln_at 7 h j hj
  simp only [hb, Bool.not_true, Bool.false_or] at h1
  rw [← of_decide_eq_true h1]
  exact gap_eq (fun _ _ => rfl) (fun i _ hi => (sD_ok ⟨j, hj⟩ ⟨i, by omega⟩).symm)
theorem ckR_ok {g : Nat → Bool} {f h SY : Nat → F8} {sy m lost res : Nat} (hg : ∀ p, p < 7 → bm m p = g p) (hsy : ∀ j, 1 ≤ j → j < 5 → un sy j = sF f j) (hh : ∀ j, j < 7 → g j = false → h j = 0) (hS : ∀ j, 1 ≤ j → j < 5 → SY j = sF (fun i => gx (f i) (h i)) j) :
    ∀ (n r ru he le : Nat) (st : BS), r + n = 5 → 1 ≤ r → (∀ i, i < 8 → st.1 i = un ru i) → (∀ i, i < 8 → st.2.1 i = un he i) → st.2.2 = le → ckR sy m lost n r ru he le res = true → ∀ i, i < 8 → (bmm SY lost n r st).1 i = un res i := by
  intro n
  induction n with
  | zero =>
    intro r ru he le st _ _ h1 _ _ hc i hi
    have hc : Nat.beq ru res = true := hc
    rw [← Nat.eq_of_beq_eq_true hc]
    exact h1 i hi
  | succ n ih =>
    intro r ru he le st hr hr1 h1 h2 h3 hc i hi
    have hc : (ckz m ru r && frc (gapF (un ru) (un sy) r).val (fun gv => frc (pk (bsG (f8 gv) lost r (un ru, un he, le)).1) (fun ru1 => frc (pk (bsG (f8 gv) lost r (un ru, un he, le)).2.1) (fun he1 => frc (bsG (f8 gv) lost r (un ru, un he, le)).2.2 (fun le1 => ckR sy m lost n (r + 1) ru1 he1 le1 res))))) = true := hc
    rw [Bool.and_eq_true] at hc
    obtain ⟨hz, hc⟩ := hc
    simp only [frc_eq, f8_v] at hc
    have hgap : gapF st.1 SY r = gapF (un ru) (un sy) r := by
      rw [gap_eq (rv := un ru) (sz := sF (fun i => gx (f i) (h i))) (fun k hk => h1 k (by omega)) (fun j j1 j2 => hS j j1 (by omega)), sF_x, gap_x, gap_h (g := g) hh (fun j hj hb => ckz_at hz (by omega) j hj (by rw [hg j hj]; exact hb)), gx_0]
      exact gap_eq (fun _ _ => rfl) (fun j j1 j2 => (hsy j j1 (by omega)).symm)
    have hst : bmm SY lost (n + 1) r st = bmm SY lost n (r + 1) (bsG (gapF st.1 SY r) lost r st) := rfl
    rw [hst, hgap]
    generalize gapF (un ru) (un sy) r = G at hc ⊢
    have hC := bsG_c (G := G) (lost := lost) (r := r) (st := st) (sv := (un ru, un he, le)) h1 h2 h3
    exact ih (r + 1) _ _ _ _ (by omega) (by omega) (fun i hi => (hC.1 i hi).trans (un_pk _ hi).symm) (fun i hi => (hC.2.1 i hi).trans (un_pk _ hi).symm) hC.2.2 hc i hi
end
section
/-! the finite checks, by the kernel -/
set_option maxRecDepth 100000
def tb (m : Nat) : Nat := (23627692796453184311585853791556004597226559506203502873800893426218578943586609052175183801550322272492835899374226596383902542458727189899810727584737245961450320888793797104297211366316250998424171978863010159632255430870572708113824818710992002169651238443647630381315255550892248433572193939104673418176785070917495456246750368089891170734306955486009413710802385844874124065895408558534967075156301953698200671554857362731902428062992510949378894135058537034477648673558539916481484211964995160484344942982030265179644334587153500386111808639549936958443912809664731200078144275961261133017676179920657464321880317555763045073574065581961127341375045083521584586499780212597957405716104886803970106804163811791975697872965483368706445447645803952521560964008253633624266475544721267787821150330173964121129504893246874404701326174010945978251970896221346891462344705 >>> (24 * m)) % 16777216
def zF : Nat → F8 := un 5715
def sp (p : Nat) (a : F8) (q : Nat) (b : F8) : Nat → F8 := fun i => gx (sg p a i) (sg q b i)
def enz (m : Nat) (f : Nat → F8) : Nat → Bool := fun i => bm m i || !(decide (f i = 0))
def ckT : Bool := aln (fun m => Nat.ble 5 (cn (bm m) 7) || Nat.beq (pk (eR (bm m) 7)) (tb m)) 128
def ck0 : Bool := aln (fun q => aln (fun p => aln (fun a => aln (fun b => frc (pk5 (sF (sp p (f8 a) q (f8 b)))) (fun sy => frc (tb 0) (fun t0 => frc (tb (mk7 (enz 0 (sp p (f8 a) q (f8 b))))) (fun res => ckR sy 0 0 4 1 t0 t0 0 res)))) 8) 8) q) 7
def ck1 : Bool := aln (fun m => frc (cn (bm m) 7) (fun lost => !(Nat.ble 1 lost && Nat.ble lost 2) || frc (tb m) (fun t0 => aln (fun p => aln (fun a => (bm m p && !(Nat.beq a 0)) || frc (pk5 (sF (sg p (f8 a)))) (fun sy => frc (tb (mk7 (enz m (sg p (f8 a))))) (fun res => ckR sy m lost (4 - lost) (lost + 1) t0 t0 lost res))) 8) 7))) 128
def ck2 : Bool := aln (fun m => frc (cn (bm m) 7) (fun lost => !(Nat.ble 3 lost && Nat.ble lost 4) || frc (tb m) (fun t0 => ckR 0 m lost (4 - lost) (lost + 1) t0 t0 lost t0))) 128
def ckD : Bool := aln (fun m => Nat.ble 5 (cn (bm m) 7) || frc (tb m) (fun ru => aln (fun i => frc (xs (coA (pw (7 - i)) (un ru)) 8).val (fun A => frc (xs (coO (pw (7 - i)) (un ru)) 8).val (fun O => if bm m i = true then Nat.beq A 0 && (!(Nat.beq O 0) && aln (fun j => !(bm m j) || decide (xs (coU (pw (7 - i)) (nuF (un ru) (un (sDc j)))) 8 = if i = j then gm (f8 O) (pw i) else 0)) 7) else !(Nat.beq A 0) || Nat.beq O 0))) 7)) 128
def ckC : Bool := aln (fun N => frc (pk (mkO zF N 3)) (fun c => zr4 (un c) && frc (un c 4).val (fun x => frc (un c 5).val (fun y => frc (un c 6).val (fun z => aln (fun i => decide (snW (f8 x) (f8 y) (f8 z) i = un c i)) 7))))) 512
def nN (x y z : F8) : Nat := (gx (gx x (gm 3 (gx y (gm 3 z)))) z).val + 8 * (gx y (gm 3 z)).val + 64 * z.val
def ckX : Bool := aln (fun x => aln (fun y => aln (fun z => frc (nN (f8 x) (f8 y) (f8 z)) (fun N => Nat.ble N 511 && (decide (mkO zF N 3 4 = f8 x) && (decide (mkO zF N 3 5 = f8 y) && decide (mkO zF N 3 6 = f8 z))))) 8) 8) 8
def q4 (a b c d : F8) : Nat → F8 := fun i => if i = 0 then a else if i = 1 then b else if i = 2 then c else if i = 3 then d else 0
def ckV : Bool := aln (fun a => aln (fun b => aln (fun c => aln (fun d => !(zr4 (q4 (f8 a) (f8 b) (f8 c) (f8 d))) || (Nat.beq a 0 && (Nat.beq b 0 && (Nat.beq c 0 && Nat.beq d 0)))) 8) 8) 8) 8
def ckS : Bool := aln (fun m => Nat.ble 3 (cn (bm m) 7) || !(aln (fun q => !(!(aln (fun p => !(aln (fun i => !(bm m i) || (Nat.beq i p || Nat.beq i q)) 7)) q))) 7)) 128
def ckU : Bool := aln (fun m => Nat.ble 2 (cn (bm m) 7) || !(aln (fun p => !(aln (fun i => !(bm m i) || Nat.beq i p) 7)) 7)) 128
theorem ckT_ok : ckT = true := by decide +kernel
theorem ck1_ok : ck1 = true := by decide +kernel
theorem ck2_ok : ck2 = true := by decide +kernel
theorem ckD_ok : ckD = true := by decide +kernel
theorem ckX_ok : ckX = true := by decide +kernel
theorem ckV_ok : ckV = true := by decide +kernel
theorem ckS_ok : ckS = true := by decide +kernel
theorem ckU_ok : ckU = true := by decide +kernel
theorem ckC_ok : ckC = true := by decide +kernel
theorem ck0_ok : ck0 = true := by decide +kernel
end
section
/-! the plain law: what the mender finds is what the model finds -/
set_option maxRecDepth 100000
theorem nb_b {a b : Bool} (h : (!a || b) = true) (ha : a = true) : b = true := by rw [ha] at h; exact h
theorem or_n {a b : Bool} (h : (a || b) = true) (ha : a = false) : b = true := by rw [ha] at h; exact h
theorem ble_f {a b : Nat} (h : b < a) : Nat.ble a b = false := by
  cases hb : Nat.ble a b with
  | false => rfl
  | true => exact absurd (Nat.le_of_ble_eq_true hb) (by omega)
theorem beq_f {a b : Nat} (h : Nat.beq a b = false) : ¬ a = b := fun e => by rw [e, Nat.beq_refl] at h; cases h
theorem v_0 {x : F8} (h : Nat.beq x.val 0 = true) : x = 0 := Fin.ext (Nat.eq_of_beq_eq_true h)
theorem v_n {x : F8} (h : Nat.beq x.val 0 = false) : ¬ x = 0 := fun e => by rw [e] at h; cases h
theorem tb_ok {m : Nat} (hm : m < 128) (hc : cn (bm m) 7 ≤ 4) : ∀ i, i < 8 → eR (bm m) 7 i = un (tb m) i := by
  intro i hi
  have h := or_n (aln_at 128 ckT_ok m hm) (ble_f (by omega))
  rw [← Nat.eq_of_beq_eq_true h]
  exact (un_pk _ hi).symm
theorem not_al {P : Nat → Bool} : ∀ n, aln (fun i => !(P i)) n = false → ∃ i, i < n ∧ P i = true := by
  intro n
  induction n with
  | zero => intro h; cases h
  | succ n ih =>
    intro h
    have h : (!(P n) && aln (fun i => !(P i)) n) = false := h
    cases hp : P n with
    | true => exact ⟨n, Nat.lt_succ_self n, hp⟩
    | false =>
      rw [hp] at h
      obtain ⟨i, h1, h2⟩ := ih h
      exact ⟨i, Nat.lt_succ_of_lt h1, h2⟩
theorem nt_f {b : Bool} (h : (!b) = true) : b = false := by cases b <;> first | rfl | cases h
theorem sup1 (o : Nat → Bool) (h : cn o 7 ≤ 1) : ∃ p, p < 7 ∧ ∀ i, i < 7 → o i = true → i = p := by
  have hm : ∀ i, i < 7 → bm (mk7 o) i = o i := fun i hi => bm_mk o hi
  have hc : cn (bm (mk7 o)) 7 ≤ 1 := by rw [cn_eq 7 hm]; exact h
  obtain ⟨p, hp, h1⟩ := not_al 7 (nt_f (or_n (aln_at 128 ckU_ok (mk7 o) (mk_lt o)) (ble_f (by omega))))
  exact ⟨p, hp, fun i hi ho => Nat.eq_of_beq_eq_true (nb_b (aln_at 7 h1 i hi) (by rw [hm i hi]; exact ho))⟩
theorem sup2 (o : Nat → Bool) (h : cn o 7 ≤ 2) : ∃ p q, p < q ∧ q < 7 ∧ ∀ i, i < 7 → o i = true → i = p ∨ i = q := by
  have hm : ∀ i, i < 7 → bm (mk7 o) i = o i := fun i hi => bm_mk o hi
  have hc : cn (bm (mk7 o)) 7 ≤ 2 := by rw [cn_eq 7 hm]; exact h
  obtain ⟨q, hq, h1⟩ := not_al 7 (nt_f (or_n (aln_at 128 ckS_ok (mk7 o) (mk_lt o)) (ble_f (by omega))))
  obtain ⟨p, hp, h2⟩ := not_al q (nt_f h1)
  refine ⟨p, q, hp, hq, fun i hi ho => ?_⟩
  have h3 := nb_b (aln_at 7 h2 i hi) (by rw [hm i hi]; exact ho)
  rw [Bool.or_eq_true] at h3
  exact h3.imp Nat.eq_of_beq_eq_true Nat.eq_of_beq_eq_true
theorem mk_eq {g h : Nat → Bool} (q : ∀ i, i < 7 → g i = h i) : mk7 g = mk7 h := by
  unfold mk7
  rw [q 0 (by decide), q 1 (by decide), q 2 (by decide), q 3 (by decide), q 4 (by decide), q 5 (by decide), q 6 (by decide)]
theorem bm_0 : ∀ i : Fin 7, bm 0 i.val = false := by decide +kernel
/-- the rule: the product over missing and wrong places -/
theorem rule_ok (g : Nat → Bool) (e SY : Nat → F8) (hS : ∀ j, 1 ≤ j → j < 5 → SY j = sF e j) (hb : 2 * cn (fun i => !(g i) && !(decide (e i = 0))) 7 + cn g 7 ≤ 4) :
    ∃ m, m < 128 ∧ (∀ i, i < 7 → bm m i = (g i || !(decide (e i = 0)))) ∧ ∀ i, i < 8 → (bR g SY (cn g 7)).1 i = un (tb m) i := by
  have hm : ∀ i, i < 7 → bm (mk7 g) i = g i := fun i hi => bm_mk g hi
  have hM := mk_lt g
  have hcg : cn (bm (mk7 g)) 7 = cn g 7 := cn_eq 7 hm
  have hE : ∀ i, i < 8 → eR g 7 i = un (tb (mk7 g)) i := by
    intro i hi
    rw [← eR_eq 7 hm]
    exact tb_ok hM (by omega) i hi
  have hhz : ∀ j, j < 7 → g j = false → (fun i => if g i = true then e i else 0) j = 0 := fun j _ hg => if_neg (by rw [hg]; decide)
  -- from a word f that stands for the wrong places outside
  have fin : ∀ (f : Nat → F8) (sy : Nat), (∀ i, i < 7 → f i = if g i = true then 0 else e i) → (∀ j, 1 ≤ j → j < 5 → un sy j = sF f j) → ckR sy (mk7 g) (cn g 7) (4 - cn g 7) (cn g 7 + 1) (tb (mk7 g)) (tb (mk7 g)) (cn g 7) (tb (mk7 (enz (mk7 g) f))) = true → ∃ m, m < 128 ∧ (∀ i, i < 7 → bm m i = (g i || !(decide (e i = 0)))) ∧ ∀ i, i < 8 → (bR g SY (cn g 7)).1 i = un (tb m) i := by
    intro f sy hf hsy hc
    refine ⟨mk7 (enz (mk7 g) f), mk_lt _, fun i hi => ?_, ?_⟩
    · rw [bm_mk _ hi]
      simp only [enz]
      rw [hm i hi, hf i hi]
      cases hg : g i with
      | true => rfl
      | false => rfl
    · refine ckR_ok (f := f) (h := fun i => if g i = true then e i else 0) hm hsy hhz (fun j j1 j2 => ?_) (4 - cn g 7) (cn g 7 + 1) (tb (mk7 g)) (tb (mk7 g)) (cn g 7) (eR g 7, eR g 7, cn g 7) (by omega) (by omega) hE hE rfl hc
      rw [hS j j1 j2]
      refine congrFun (sF_eq (fun i hi => ?_)) j
      rw [hf i hi]
      cases hg : g i with
      | true => exact (gx_z _).symm
      | false => exact (gx_0 _).symm
  by_cases h0 : cn g 7 = 0
  · obtain ⟨p, q, hpq, hq, ho⟩ := sup2 (fun i => !(g i) && !(decide (e i = 0))) (by omega)
    have hz : ∀ i, i < 7 → bm 0 i = bm (mk7 g) i := by
      intro i hi
      rw [hm i hi]
      have hk : ∀ n, cn g n = 0 → ∀ i, i < n → g i = false := by
        intro n
        induction n with
        | zero => intro _ i hi; exact absurd hi (Nat.not_lt_zero _)
        | succ n ih =>
          intro hn i hi
          have hn : cn g n + (g n).toNat = 0 := hn
          by_cases h : i = n
          · rw [h]
            cases hg : g n with
            | false => rfl
            | true => rw [hg] at hn; exact absurd hn (by show ¬ cn g n + 1 = 0; omega)
          · exact ih (by omega) i (by omega)
      rw [hk 7 h0 i hi]
      exact bm_0 ⟨i, hi⟩
    have hM0 : mk7 g = 0 := by
      have hg : ∀ i, i < 7 → g i = false := fun i hi => by rw [← hm i hi, ← hz i hi]; exact bm_0 ⟨i, hi⟩
      unfold mk7
      rw [hg 0 (by decide), hg 1 (by decide), hg 2 (by decide), hg 3 (by decide), hg 4 (by decide), hg 5 (by decide), hg 6 (by decide)]
      rfl
    have hfo : ∀ i, i < 7 → sp p (if g p = true then 0 else e p) q (if g q = true then 0 else e q) i = if g i = true then 0 else e i := by
      intro i hi
      simp only [sp, sg]
      by_cases h1 : i = p
      · rw [if_pos h1, if_neg (show ¬ i = q by omega), gx_0, h1]
      · by_cases h2 : i = q
        · rw [if_neg h1, if_pos h2, gx_z, h2]
        · rw [if_neg h1, if_neg h2, gx_0]
          by_cases hg : g i = true
          · rw [if_pos hg]
          · rw [if_neg hg]
            by_cases h3 : e i = 0
            · exact h3.symm
            · rcases ho i hi (by simp [hg, h3]) with h | h
              · exact absurd h h1
              · exact absurd h h2
    generalize (if g p = true then 0 else e p) = a at hfo
    generalize (if g q = true then 0 else e q) = b at hfo
    have hc := aln_at 8 (aln_at 8 (aln_at q (aln_at 7 ck0_ok q hq) p hpq) a.val a.isLt) b.val b.isLt
    simp only [frc_eq, f8_v] at hc
    refine fin (sp p a q b) _ hfo (fun j _ j2 => un_pk5 _ j2) ?_
    rw [h0, hM0]
    exact hc
  · by_cases h2 : cn g 7 ≤ 2
    · obtain ⟨p, hp, ho⟩ := sup1 (fun i => !(g i) && !(decide (e i = 0))) (by omega)
      have hfo : ∀ i, i < 7 → sg p (if g p = true then 0 else e p) i = if g i = true then 0 else e i := by
        intro i hi
        simp only [sg]
        by_cases h1 : i = p
        · rw [if_pos h1, h1]
        · rw [if_neg h1]
          by_cases hg : g i = true
          · rw [if_pos hg]
          · rw [if_neg hg]
            by_cases h3 : e i = 0
            · exact h3.symm
            · exact absurd (ho i hi (by simp [hg, h3])) h1
      have hap : g p = true → (if g p = true then (0 : F8) else e p) = 0 := fun h => if_pos h
      generalize (if g p = true then 0 else e p) = a at hfo hap
      have hc := aln_at 128 ck1_ok (mk7 g) hM
      rw [frc_eq, frc_eq, hcg] at hc
      have hc := nb_b hc (by rw [Bool.and_eq_true]; exact ⟨Nat.ble_eq_true_of_le (by omega), Nat.ble_eq_true_of_le h2⟩)
      have hc := or_n (aln_at 8 (aln_at 7 hc p hp) a.val a.isLt) (by
        rw [hm p hp]
        cases hg : g p with
        | false => rfl
        | true => rw [hap hg]; rfl)
      simp only [frc_eq, f8_v] at hc
      exact fin (sg p a) _ hfo (fun j _ j2 => un_pk5 _ j2) hc
    · have ho : cn (fun i => !(g i) && !(decide (e i = 0))) 7 ≤ 0 := by omega
      have hfo : ∀ i, i < 7 → (fun _ => (0 : F8)) i = if g i = true then 0 else e i := by
        intro i hi
        by_cases hg : g i = true
        · rw [if_pos hg]
        · rw [if_neg hg]
          have hk : ∀ (o : Nat → Bool) (n : Nat), cn o n ≤ 0 → ∀ i, i < n → o i = false := by
            intro o n
            induction n with
            | zero => intro _ i hi; exact absurd hi (Nat.not_lt_zero _)
            | succ n ih =>
              intro hn i hi
              have hn : cn o n + (o n).toNat ≤ 0 := hn
              by_cases h : i = n
              · rw [h]
                cases hg : o n with
                | false => rfl
                | true => rw [hg] at hn; exact absurd hn (by show ¬ cn o n + 1 ≤ 0; omega)
              · exact ih (by omega) i (by omega)
          have h3 := hk _ 7 ho i hi
          simp [hg] at h3
          exact h3.symm
      have hc := aln_at 128 ck2_ok (mk7 g) hM
      rw [frc_eq, frc_eq, hcg] at hc
      have hc := nb_b hc (by rw [Bool.and_eq_true]; exact ⟨Nat.ble_eq_true_of_le (by omega), Nat.ble_eq_true_of_le (by omega)⟩)
      have hen : mk7 (enz (mk7 g) (fun _ => 0)) = mk7 g := by
        have h : ∀ i, i < 7 → enz (mk7 g) (fun _ => 0) i = g i := fun i hi => by
          simp only [enz]
          rw [hm i hi]
          cases g i <;> rfl
        exact mk_eq h
      refine fin (fun _ => 0) 0 hfo (fun j j1 j2 => ?_) (by rw [hen]; exact hc)
      have hs : sF (fun _ => 0) j = 0 := by
        have h := congrFun (sF_m 0 (fun _ => 0)) j
        simp only [gm_z1] at h
        exact h
      rw [hs]
      simp [un]
theorem cor_c {ru rv sy sz : Nat → F8} {p : Nat} (h : ∀ i, i < 8 → ru i = rv i) (hs : ∀ j, 1 ≤ j → j < 5 → sy j = sz j) : cor ru (nuF ru sy) p = cor rv (nuF rv sz) p := by
  have e1 : xs (coA (pw (7 - p)) ru) 8 = xs (coA (pw (7 - p)) rv) 8 := xs_eq 8 (fun i hi => by simp only [coA]; rw [h i hi])
  have e2 : xs (coO (pw (7 - p)) ru) 8 = xs (coO (pw (7 - p)) rv) 8 := xs_eq 8 (fun i hi => by simp only [coO]; rw [h i hi])
  have e3 : xs (coU (pw (7 - p)) (nuF ru sy)) 8 = xs (coU (pw (7 - p)) (nuF rv sz)) 8 := xs_eq 8 (fun i hi => by
    simp only [coU]
    by_cases h4 : 4 ≤ i
    · rw [if_pos h4, if_pos h4]
    · rw [if_neg h4, if_neg h4]
      have e4 : nuF ru sy i = nuF rv sz i := by
        unfold nuF
        exact xs_eq (i + 1) (fun k hk => by simp only [nuT]; rw [h k (by omega), hs (i - k + 1) (by omega) (by omega)])
      rw [e4])
  unfold cor
  rw [e1, e2, e3]
theorem nu_x (ru f h : Nat → F8) (k : Nat) : nuF ru (fun j => gx (f j) (h j)) k = gx (nuF ru f k) (nuF ru h k) := by
  unfold nuF
  rw [← xs_x]
  exact xs_eq (k + 1) (fun i _ => gm_d2 _ _ _)
theorem nu_m (ru : Nat → F8) (a : F8) (f : Nat → F8) (k : Nat) : nuF ru (fun j => gm a (f j)) k = gm a (nuF ru f k) := by
  unfold nuF
  rw [← xs_m]
  exact xs_eq (k + 1) (fun i _ => gm_s _ _ _)
theorem cU_x (b : F8) (ru f h : Nat → F8) : xs (coU b (nuF ru (fun j => gx (f j) (h j)))) 8 = gx (xs (coU b (nuF ru f)) 8) (xs (coU b (nuF ru h)) 8) := by
  rw [← xs_x]
  refine xs_eq 8 (fun i _ => ?_)
  simp only [coU]
  by_cases h4 : 4 ≤ i
  · rw [if_pos h4, if_pos h4, if_pos h4]; exact (gx_0 0).symm
  · rw [if_neg h4, if_neg h4, if_neg h4, nu_x, gm_d]
theorem cU_m (b : F8) (ru : Nat → F8) (a : F8) (f : Nat → F8) : xs (coU b (nuF ru (fun j => gm a (f j)))) 8 = gm a (xs (coU b (nuF ru f)) 8) := by
  rw [← xs_m]
  refine xs_eq 8 (fun i _ => ?_)
  simp only [coU]
  by_cases h4 : 4 ≤ i
  · rw [if_pos h4, if_pos h4]; exact (gm_z2 a).symm
  · rw [if_neg h4, if_neg h4, nu_m, gm_a]
theorem cor_ok {m : Nat} (hm : m < 128) (hc : cn (bm m) 7 ≤ 4) {e : Nat → F8} (he : ∀ j, j < 7 → bm m j = false → e j = 0) {i : Nat} (hi : i < 7) : cor (un (tb m)) (nuF (un (tb m)) (sF e)) i = e i := by
  have hk := or_n (aln_at 128 ckD_ok m hm) (ble_f (by omega))
  rw [frc_eq] at hk
  have hk := aln_at 7 hk i hi
  simp only [frc_eq, f8_v] at hk
  generalize hru : un (tb m) = ru at hk ⊢
  cases hb : bm m i with
  | false =>
    rw [hb, if_neg (by decide), Bool.or_eq_true] at hk
    rw [he i hi hb]
    refine if_neg (fun q => ?_)
    rcases hk with h | h
    · rw [q.1] at h; cases h
    · exact q.2 (v_0 h)
  | true =>
    rw [hb, if_pos rfl, Bool.and_eq_true, Bool.and_eq_true] at hk
    obtain ⟨hA, hO, hU⟩ := hk
    have hA := v_0 hA
    have hO := v_n (nt_f hO)
    have hsum : xs (coU (pw (7 - i)) (nuF ru (sF e))) 8 = gm (e i) (gm (xs (coO (pw (7 - i)) ru) 8) (pw i)) := by
      rw [lin7 (F := fun e => xs (coU (pw (7 - i)) (nuF ru (sF e))) 8) (fun f h => by rw [sF_x, cU_x]) (fun a f => by rw [sF_m, cU_m]) (fun f h q => by rw [sF_eq q]) e]
      have hj : ∀ j, j < 7 → bm m j = true → xs (coU (pw (7 - i)) (nuF ru (sF (sg j 1)))) 8 = if i = j then gm (xs (coO (pw (7 - i)) ru) 8) (pw i) else 0 := by
        intro j hj hbj
        rw [← of_decide_eq_true (nb_b (aln_at 7 hU j hj) hbj)]
        refine xs_eq 8 (fun k _ => ?_)
        simp only [coU]
        by_cases h4 : 4 ≤ k
        · rw [if_pos h4, if_pos h4]
        · rw [if_neg h4, if_neg h4]
          have e4 : nuF ru (sF (sg j 1)) k = nuF ru (un (sDc j)) k := by
            unfold nuF
            exact xs_eq (k + 1) (fun t ht => by simp only [nuT]; rw [sD_ok ⟨j, hj⟩ ⟨k - t + 1, by omega⟩])
          rw [e4]
      rw [xs_one 7 hi (fun j hj7 hji => ?_)]
      · rw [hj i hi hb, if_pos rfl]
      · cases hbj : bm m j with
        | false => rw [he j hj7 hbj, gm_z1]
        | true => rw [hj j hj7 hbj, if_neg (fun q => hji q.symm), gm_z2]
    unfold cor
    rw [if_pos ⟨hA, hO⟩, hsum]
    exact go_m _ _ (gm_n _ _ hO (pw_n ⟨i, hi⟩))
theorem cn_or {a b : Nat → Bool} : ∀ n, cn (fun i => a i || b i) n ≤ cn a n + cn (fun i => !(a i) && b i) n := by
  intro n
  induction n with
  | zero => exact Nat.le_refl _
  | succ n ih =>
    show cn (fun i => a i || b i) n + (a n || b n).toNat ≤ cn a n + (a n).toNat + (cn (fun i => !(a i) && b i) n + (!(a n) && b n).toNat)
    cases a n <;> cases b n <;> simp only [Bool.or_false, Bool.or_true, Bool.not_true, Bool.not_false, Bool.and_false, Bool.and_true, Bool.toNat_true, Bool.toNat_false] <;> omega
/-- a code word that is near is what the mender makes -/
theorem near_ok {w c : Nat → F8} {g : Nat → Bool} (hz : zr4 c = true) (hb : 2 * cn (dfF w g c) 7 + cn g 7 ≤ 4) : ∀ i, i < 7 → fWh w g i = c i := by
  intro i hi
  have ho : cn (fun i => !(g i) && !(decide (gx (w i) (c i) = 0))) 7 = cn (dfF w g c) 7 := cn_eq 7 (fun i _ => by simp only [dfF]; rw [gx_e])
  have hS : ∀ j, 1 ≤ j → j < 5 → sF w j = sF (fun i => gx (w i) (c i)) j := by
    intro j j1 j2
    rw [sF_x]
    show sF w j = gx (sF w j) (sF c j)
    have h0 : sF c j = 0 := by
      have h := zr4_at hz (j - 1) (by omega)
      rw [show j - 1 + 1 = j by omega] at h
      exact (sF_at (by omega)).symm.trans h
    rw [h0, gx_0]
  obtain ⟨m, hm, hbm, hr⟩ := rule_ok g (fun i => gx (w i) (c i)) (sF w) hS (by show 2 * cn (fun i => !(g i) && !(decide (gx (w i) (c i) = 0))) 7 + cn g 7 ≤ 4; rw [ho]; exact hb)
  have hbm : ∀ i, i < 7 → bm m i = (g i || !(decide (gx (w i) (c i) = 0))) := hbm
  have hr : ∀ i, i < 8 → fRu w g i = un (tb m) i := hr
  have hcm : cn (bm m) 7 ≤ 4 := by
    rw [cn_eq 7 hbm]
    have h := cn_or (a := g) (b := fun i => !(decide (gx (w i) (c i) = 0))) 7
    rw [ho] at h
    omega
  show gx (w i) (cor (fRu w g) (nuF (fRu w g) (sF w)) i) = c i
  rw [cor_c (rv := un (tb m)) (sz := sF (fun i => gx (w i) (c i))) hr hS, cor_ok hm hcm (fun j hj h => ?_) hi, gx_k]
  rw [hbm j hj, Bool.or_eq_false_iff] at h
  show gx (w j) (c j) = 0
  exact of_decide_eq_true (by cases hd : decide (gx (w j) (c j) = 0) <;> first | rfl | (rw [hd] at h; exact absurd h.2 (by decide)))
theorem cw_ok {N : Nat} (hN : N < 512) : zr4 (mkO zF N 3) = true ∧ ∀ i, i < 7 → snW (mkO zF N 3 4) (mkO zF N 3 5) (mkO zF N 3 6) i = mkO zF N 3 i := by
  have h := aln_at 512 ckC_ok N hN
  simp only [frc_eq, f8_v] at h
  rw [Bool.and_eq_true] at h
  have hu : ∀ i, i < 8 → un (pk (mkO zF N 3)) i = mkO zF N 3 i := fun i hi => un_pk _ hi
  refine ⟨zr4_eq (fun i hi => hu i (by omega)) h.1, fun i hi => ?_⟩
  have h2 := of_decide_eq_true (aln_at 7 h.2 i hi)
  rw [hu 4 (by decide), hu 5 (by decide), hu 6 (by decide), hu i (by omega)] at h2
  exact h2
theorem nN_ok (x y z : F8) : nN x y z < 512 ∧ mkO zF (nN x y z) 3 4 = x ∧ mkO zF (nN x y z) 3 5 = y ∧ mkO zF (nN x y z) 3 6 = z := by
  have h := aln_at 8 (aln_at 8 (aln_at 8 ckX_ok x.val x.isLt) y.val y.isLt) z.val z.isLt
  simp only [frc_eq, f8_v, Bool.and_eq_true] at h
  exact ⟨Nat.lt_succ_of_le (Nat.le_of_ble_eq_true h.1), of_decide_eq_true h.2.1, of_decide_eq_true h.2.2.1, of_decide_eq_true h.2.2.2⟩
theorem gx_u {a b : F8} (h : gx a b = 0) : b = a := by
  have h1 := gx_e a b
  rw [decide_eq_true h] at h1
  exact of_decide_eq_true h1.symm
theorem v4_ok {a b c d : F8} (h : zr4 (q4 a b c d) = true) : a = 0 ∧ b = 0 ∧ c = 0 ∧ d = 0 := by
  have hk := aln_at 8 (aln_at 8 (aln_at 8 (aln_at 8 ckV_ok a.val a.isLt) b.val b.isLt) c.val c.isLt) d.val d.isLt
  simp only [f8_v] at hk
  have hk := nb_b hk h
  simp only [Bool.and_eq_true] at hk
  exact ⟨v_0 hk.1, v_0 hk.2.1, v_0 hk.2.2.1, v_0 hk.2.2.2⟩
theorem code_ok {X : Nat → F8} (hz : zr4 X = true) : ∃ N, N < 512 ∧ ∀ i, i < 7 → mkO zF N 3 i = X i := by
  obtain ⟨hN, h4, h5, h6⟩ := nN_ok (X 4) (X 5) (X 6)
  refine ⟨_, hN, ?_⟩
  have hw := zr4_x hz (cw_ok hN).1
  generalize mkO zF (nN (X 4) (X 5) (X 6)) 3 = Y at h4 h5 h6 hw ⊢
  have hq : ∀ i, i < 7 → (fun i => gx (X i) (Y i)) i = q4 (gx (X 0) (Y 0)) (gx (X 1) (Y 1)) (gx (X 2) (Y 2)) (gx (X 3) (Y 3)) i := by
    intro i hi
    rcases c7 hi with rfl | rfl | rfl | rfl | rfl | rfl | rfl
    · rfl
    · rfl
    · rfl
    · rfl
    · show gx (X 4) (Y 4) = 0
      rw [h4, gx_s]
    · show gx (X 5) (Y 5) = 0
      rw [h5, gx_s]
    · show gx (X 6) (Y 6) = 0
      rw [h6, gx_s]
  obtain ⟨h0, h1, h2, h3⟩ := v4_ok (zr4_eq hq hw)
  intro i hi
  rcases c7 hi with rfl | rfl | rfl | rfl | rfl | rfl | rfl
  · exact gx_u h0
  · exact gx_u h1
  · exact gx_u h2
  · exact gx_u h3
  · exact h4
  · exact h5
  · exact h6
theorem fs_at {P : Nat → Bool} : ∀ n k, fs P n k < k + n → P (fs P n k) = true := by
  intro n
  induction n with
  | zero => intro k h; exact absurd h (by show ¬ k < k + 0; omega)
  | succ n ih =>
    intro k h
    by_cases hp : P k = true
    · rw [show fs P (n + 1) k = k from if_pos hp]; exact hp
    · have e : fs P (n + 1) k = fs P n (k + 1) := if_neg hp
      rw [e] at h ⊢
      exact ih (k + 1) (by omega)
theorem fs_le {P : Nat → Bool} : ∀ n k j, k ≤ j → j < k + n → P j = true → fs P n k ≤ j := by
  intro n
  induction n with
  | zero => intro k j h1 h2; exact absurd h2 (by omega)
  | succ n ih =>
    intro k j h1 h2 hj
    by_cases hp : P k = true
    · rw [show fs P (n + 1) k = k from if_pos hp]; exact h1
    · rw [show fs P (n + 1) k = fs P n (k + 1) from if_neg hp]
      have hne : ¬ k = j := fun e => hp (by rw [e]; exact hj)
      exact ih (k + 1) j (by omega) (by omega) hj
theorem df_eq {w X Y : Nat → F8} {g : Nat → Bool} (h : ∀ i, i < 7 → X i = Y i) : cn (dfF w g X) 7 = cn (dfF w g Y) 7 := cn_eq 7 (fun i hi => by simp only [dfF]; rw [h i hi])
theorem hit_ok {w : Nat → F8} {g : Nat → Bool} {N : Nat} (hN : N < 512) (h : hO w g zF N = true) : fwB w g = true ∧ ∀ i, i < 7 → fWh w g i = mkO zF N 3 i := by
  have h := of_decide_eq_true h
  have hn := near_ok (cw_ok hN).1 h
  refine ⟨?_, hn⟩
  rw [show fwB w g = isR w g (fWh w g) (cn g 7) from if_pos (by omega)]
  refine decide_eq_true ⟨zr4_eq (fun i hi => (hn i hi).symm) (cw_ok hN).1, ?_⟩
  rw [df_eq hn]
  exact h
theorem fwB_sp {w : Nat → F8} {g : Nat → Bool} (h : fwB w g = true) : cn g 7 ≤ 4 ∧ zr4 (fWh w g) = true ∧ 2 * cn (dfF w g (fWh w g)) 7 + cn g 7 ≤ 4 := by
  by_cases hc : cn g 7 ≤ 4
  · rw [show fwB w g = isR w g (fWh w g) (cn g 7) from if_pos hc] at h
    exact ⟨hc, of_decide_eq_true h⟩
  · rw [show fwB w g = false from if_neg hc] at h
    cases h
theorem find_ok (w : Nat → F8) (g : Nat → Bool) : fdB w g zF = fwB w g ∧ (fwB w g = true → ∀ i, i < 7 → fWh w g i = fdM w g zF i) := by
  cases hf : fwB w g with
  | true =>
    obtain ⟨hc, hz, hb⟩ := fwB_sp hf
    obtain ⟨N, hN, hX⟩ := code_ok hz
    have hO1 : hO w g zF N = true := decide_eq_true (by rw [df_eq hX]; exact hb)
    have hle : fdI w g zF ≤ N := fs_le 512 0 N (Nat.zero_le _) (by omega) hO1
    have hlt : fdI w g zF < 512 := by omega
    have hh : hO w g zF (fdI w g zF) = true := fs_at 512 0 (by show fdI w g zF < 0 + 512; omega)
    refine ⟨decide_eq_true hlt, fun _ i hi => ?_⟩
    rw [(hit_ok hlt hh).2 i hi]
    unfold fdM
    rw [Nat.min_eq_left (by omega)]
  | false =>
    refine ⟨decide_eq_false (fun hlt => ?_), fun h => by cases h⟩
    have hh : hO w g zF (fdI w g zF) = true := fs_at 512 0 (by show fdI w g zF < 0 + 512; omega)
    rw [(hit_ok hlt hh).1] at hf
    cases hf
theorem send_ok (x y z : F8) (w : Nat → F8) (g : Nat → Bool) : ∀ i, i < 7 → sOw zF x y z w 512 i = snW x y z i ∧ sOg zF x y z g 512 i = false := by
  have key : ∀ n, n ≤ 512 → (∃ k, k < n ∧ mkO zF k 3 4 = x ∧ mkO zF k 3 5 = y ∧ mkO zF k 3 6 = z) → ∀ i, i < 7 → sOw zF x y z w n i = snW x y z i ∧ sOg zF x y z g n i = false := by
    intro n
    induction n with
    | zero => intro _ h; obtain ⟨k, hk, _⟩ := h; exact absurd hk (Nat.not_lt_zero _)
    | succ n ih =>
      intro hn h i hi
      by_cases hh : mkO zF n 3 4 = x ∧ mkO zF n 3 5 = y ∧ mkO zF n 3 6 = z
      · rw [show sOw zF x y z w (n + 1) = mkO zF n 3 from if_pos hh, show sOg zF x y z g (n + 1) = fun _ => false from if_pos hh]
        refine ⟨?_, rfl⟩
        have h2 := (cw_ok (N := n) (by omega)).2 i hi
        rw [hh.1, hh.2.1, hh.2.2] at h2
        exact h2.symm
      · rw [show sOw zF x y z w (n + 1) = sOw zF x y z w n from if_neg hh, show sOg zF x y z g (n + 1) = sOg zF x y z g n from if_neg hh]
        obtain ⟨k, hk, h3⟩ := h
        have hne : ¬ k = n := fun e => hh (by rw [← e]; exact h3)
        exact ih (by omega) ⟨k, by omega, h3⟩ i hi
  obtain ⟨hN, h3⟩ := nN_ok x y z
  exact key 512 (Nat.le_refl _) ⟨_, hN, h3⟩
theorem zeC_ok : ∀ i, i < 5 → zeC i = zF i := by
  have h : ∀ i : Fin 5, zeC i.val = zF i.val := by decide +kernel
  exact fun i hi => h ⟨i, hi⟩
theorem fwS_wh {w : Nat → F8} {g : Nat → Bool} (z : ZS) (h : fwB w g = true) : (fwS w g z).2.2.2.2.2.2.1 = fWh w g ∧ (fwS w g z).2.2.2.2.2.2.2 = cn (dfF w g (fWh w g)) 7 := by
  rw [show fwS w g z = _ from if_pos (fwB_sp h).1]
  exact ⟨rfl, rfl⟩
theorem fwS_sy {w : Nat → F8} {g : Nat → Bool} (z : ZS) (h : z.1 0 = 0) : (fwS w g z).1 0 = 0 := by
  by_cases hc : cn g 7 ≤ 4
  · rw [show fwS w g z = _ from if_pos hc]
    rfl
  · rw [show fwS w g z = _ from if_neg hc]
    exact h
end
section
set_option maxRecDepth 100000
/-! THE CLAIM OUT OF ONE WALK OF THE LAW'S BODY. Your part is whole_start (and what it stands on); all else here is the same for every law, but numbers. -/
def R_law : String := "SymbolMenderLaw"
def lw_P (b : Addr) (xs : List Int32) (args : Array Value) (s : State) : Prop := args = #[.ref b] ∧ s.IntsAt b xs ∧ xs.length ≤ 256 ∧ (Jvm.Cond.and given_1 narrow_1).before args s = true
def lw_Q (_ : Array Value) (s : State) (o : Outcome) (t : State) : Prop := o = .returned (some (.int 1)) ∧ Framed s o t [] 600000 7290000
def lw_Z (below : List Frame) (a : Array Value) (s : State) : State → Prop := fun t => ∃ o, t.status = .running ∧ Ended t below o ∧ lw_Q a s o t
/-- the law's own end, with 1 on the stack, nothing written that was there before, its room as the claim has it -/
theorem lw_ret {p : Program} {l : Launch} {e : Env} {s : State} {m : MethodId} {below : List Frame} {meth : Method} {c : Code} {b : Nat} (hx : p.tables.exec = Jvm.exec) (hb : c.code = code) (hr : meth.sig.returnType = ret) (hlocks : meth.locks = false) {pc : Nat} {H : Heap} {ls : Array Slot} (hdg : decode code pc = .ok (.ireturn, 1)) : W p l e room_1 s m #[Value.ref b] below meth c H [] 600000 7290000 (lw_Z below #[Value.ref b] s) (F0 m pc ls [.int 1]) := by
  intro T hT X
  obtain ⟨fs, hret, hrun, hended, hW, hframe⟩ := X.leave (v := some (.int 1)) (hlocks := hlocks) (fun h => by rw [hr] at h; cases h)
  have hmeth' : T.vm.method? m = some meth := X.method'
  refine ⟨T.setFrames fs, ?_, .returned (some (.int 1)), hrun, hended, rfl, ⟨_, rfl⟩, hW, hframe⟩
  jvm_step X.here [X.here.top, hx, hb, hdg, hmeth', hr, ret, narrow_b1]
  (try refine ⟨rfl, ?_⟩); (try refine ⟨rfl, ?_⟩)
  first | (intro acts; rw [hret _ acts rfl rfl rfl]) | rw [hret _ _ rfl rfl rfl]
  exact Steps.refl _
/-- what holds at the law's entry: the machine, the code, the tables' words (any of lw_tbl by 'hts w (by decide +kernel)'), the script of L ints xs at the cell b, what the Statement gives of the start (any of its parts by flat_of_before) -/
def lw_At (p : Program) (s : State) (m : MethodId) (meth : Method) (c : Code) (b L : Nat) (xs : Nat → Int32) : Prop :=
  p.tables.exec = Jvm.exec ∧ c.code = code ∧ meth.sig.returnType = ret ∧ c.maxLocals = 4 ∧ s.vm.findClass R_law = some m.cls ∧ (∀ w ∈ lw_tbl, w.before #[Value.ref b] s = true) ∧ va_X b L xs s s.heap ∧ b < s.heap.size ∧ meth.locks = false ∧ (Jvm.Cond.and given_1 narrow_1).before #[Value.ref b] s = true
end
section
set_option maxRecDepth 100000
section J1
variable {p : Program} {l : Launch} {e : Env} {R : Room} {s : State} {m : MethodId} {args : Array Value} {below : List Frame} {meth : Method} {c : Code} {H : Heap} {locs : List Loc} {cells slots : Nat} {Q : State → Prop}
variable {cc : ByteArray} {nL : Nat} {own : String} {pc : Nat} {ls : Array Slot} {rest : List Value} {D : va_G} {dA dZ : ClassId} {A : Nat → Prop} {ws wc wr w1 : va_W} {rv : Int32}
/-- a call of a method of one object of several: the rest comes first then -/
theorem cj_I {y : MethodName} {b : ByteArray} {n k a index q0 ci N nA : Nat} {r : Option FieldType} {As : List Value} {C : String} {T : u_T} {fs : List Value} {st0 : List Value} (S : CallFix p m c cc nL s args lw_all own) (hdg : decode cc pc = .ok (.invokevirtual index, 3)) (hM : CtI l D dA dZ y b n r k (.ref a :: As) wc rv w1) (hG : GoodIn lw_all (wsV own index C y (ws_ y b n r)))
    (hd : y.cls = C ∧ y.cls ≠ "java/lang/invoke/MethodHandle" ∧ y.cls ≠ "java/lang/invoke/VarHandle" ∧ (parseMethodDescriptor y.desc).map (fun d => d.parameters.length) = some nA) (hnA : As.length = nA) (hR : k + 1 ≤ R.frames ∧ 8 + (n + 11) + 32 * k ≤ R.locals) (hf : cells ≤ R.cells ∧ slots ≤ R.slots) (hw : Wd D dA dZ A s ws H locs) (isC isR : List Nat) (hC : isC.map (fun i => ws[i]?) = wc.map some) (hC2 : isC.filterMap (fun i => ws[i]?) = wc) (hCn : va_nd isC = true) (hRr : isR.map (fun i => ws[i]?) = wr.map some) (hRn : va_nd isR = true) (hdis : ∀ i ∈ isR, i ∉ isC) (he : wc[q0]? = some (a, .inr (ci, fs))) (hc : vwCl[ci]? = some (C, T, N)) (hl : ls.size = nL) (hst : st0 = As.reverse ++ .ref a :: rest) (hroom : (rest.map fun v => v.category).sum ≤ 8)
    (kk : ∀ (H1 : Heap) (locs1 : List Loc), Wd D dA dZ A s (wr ++ w1) H1 locs1 → W p l e R s m args below meth c H1 locs1 cells slots Q (F0 m (pc + 3) ls (.int rv :: rest))) : W p l e R s m args below meth c H locs cells slots Q (F0 m pc ls st0) := by
  obtain ⟨hK, hP, hD, hS, hA⟩ := hw
  have hPc := hP.sub isC hC2
  have hDc := hD.sub isC hCn hC
  have hF := va_free hD hS hA isC hC
  refine va_calli (va_runV (As := As) (rest := rest) S (hM H.size) (cwV nA S.2.2.2.2 hG rfl rfl rfl hd hR) ⟨fun v U g mk q => ?_, va_recv hK hPc hc he, fun U hU hW => ⟨rfl, by rw [hU], by rw [hU]; exact hPc, va_K.moved hW.alike hK, hDc.weaken (fun _ _ _ _ => trivial)⟩⟩ rfl hnA hl hst (lv_room hroom) hdg ⟨hf.1, hf.2⟩) hS (fun q _ h => hF q h) hF (fun x u t H1 locs1 ht hvm hx hB hz hk hS1 => ?_)
  · obtain ⟨q0, q1, qP, qK, qD⟩ := q
    exact ⟨q0, q1, qP, va_K.moved (u := U) (U := U.calling g mk v) (Vm.Alike.refl U.vm) qK, qD⟩
  · obtain ⟨hP1, hK1, hD1⟩ := hB
    rw [ht] at hP1
    have hx : x = rv := hx
    subst hx
    obtain ⟨hP2, hD2⟩ := va_join (wr := wr) (w1 := w1) hP hD isC isR hC hRr hRn hdis hk hF hP1 hD1
    exact kk H1 locs1 ⟨hK, hP2, hD2, hS1, hA⟩
/-- a constructor's call -/
theorem cj_N {y : MethodName} {b : ByteArray} {n k cl sl a index : Nat} {PW : (Nat → Nat) → va_W} {st0 : List Value} (S : CallFix p m c cc nL s args lw_all own) (hdg : decode cc pc = .ok (.invokespecial index, 3)) (hM : CtN l D dA dZ y b n k cl sl a wc PW) (hG : GoodIn lw_all (ws_ y b n none)) (hini : Cond.initialized y.cls ∈ lw_all) (hlk : Cond.methodLink own index y ∈ lw_all) (hin : Cond.instanceMethod y ∈ lw_all) (hy : y.name = "<init>")
    (hd : y.cls ≠ "java/lang/invoke/MethodHandle" ∧ y.cls ≠ "java/lang/invoke/VarHandle" ∧ (parseMethodDescriptor y.desc).map (fun d => d.parameters.length) = some 0) (hR : k + 1 ≤ R.frames ∧ 8 + (n + 11) + 32 * k ≤ R.locals) (hf : cells + cl ≤ R.cells ∧ slots + sl ≤ R.slots) (hw : Wd D dA dZ A s ws H locs) (isC isR : List Nat) (hC : isC.map (fun i => ws[i]?) = wc.map some) (hC2 : isC.filterMap (fun i => ws[i]?) = wc) (hCn : va_nd isC = true) (hRr : isR.map (fun i => ws[i]?) = wr.map some) (hRn : va_nd isR = true) (hdis : ∀ i ∈ isR, i ∉ isC) (hl : ls.size = nL) (hst : st0 = .ref a :: rest) (hroom : (rest.map fun v => v.category).sum ≤ 8)
    (kk : ∀ (ad : Nat → Nat) (H1 : Heap) (locs1 : List Loc), ad 0 = a → Wd D dA dZ A s (wr ++ PW ad) H1 locs1 → W p l e R s m args below meth c H1 locs1 (cells + cl) (slots + sl) Q (F0 m (pc + 3) ls rest)) : W p l e R s m args below meth c H locs cells slots Q (F0 m pc ls st0) := by
  obtain ⟨hK, hP, hD, hS, hA⟩ := hw
  have hPc := hP.sub isC hC2
  have hDc := hD.sub isC hCn hC
  have hF := va_free hD hS hA isC hC
  refine va_callv (va_runI (As := []) (rest := rest) S (hM H.size) (cwI 0 S.2.2.2.2 hG rfl rfl rfl (S.2.2.2.2 _ hini) (S.2.2.2.2 _ hlk) (S.2.2.2.2 _ hin) hy hd hR) ⟨fun v U g mk q => ?_, fun U hU hW => ⟨rfl, by rw [hU], by rw [hU]; exact hPc, va_K.moved hW.alike hK, hDc.weaken (fun _ _ _ _ => trivial)⟩⟩ rfl rfl hl hst (lv_room hroom) hdg hf) hS (fun q _ h => hF q h) hF (fun u t H1 locs1 ht hvm hx hB hz hk hS1 => ?_)
  · obtain ⟨q0, q1, qP, qK, qD⟩ := q
    exact ⟨q0, q1, qP, va_K.moved (u := U) (U := U.calling g mk v) (Vm.Alike.refl U.vm) qK, qD⟩
  · obtain ⟨hP1, hK1, hD1⟩ := hB
    rw [ht] at hP1
    obtain ⟨hP2, hD2⟩ := va_join (wr := wr) (w1 := PW u) hP hD isC isR hC hRr hRn hdis hk hF hP1 hD1
    exact kk u H1 locs1 hx ⟨hK, hP2, hD2, hS1, hA⟩
/-- the script is read -/
theorem sc_ld {b0 Ln k : Nat} {sc : Nat → Int32} {v : Int32} (S : CallFix p m c cc nL s args lw_all own) (hdg : decode cc pc = .ok (.iaload, 1)) (hX : va_X b0 Ln sc s s.heap) (hbl : b0 < s.heap.size) (hw : Wd D dA dZ (fun q => s.heap.size ≤ q) s ws H locs) (hL : Ln ≤ 256) (hk : k < Ln) (hv : sc k = v) (kk : W p l e R s m args below meth c H locs cells slots Q (F0 m (pc + 1) ls (.int v :: rest))) : W p l e R s m args below meth c H locs cells slots Q (F0 m pc ls (.int (nI k) :: .ref b0 :: rest)) :=
  va_sld S.1 S.2.1 hX hbl (Nat.not_le.mpr hbl) hw.2.2.2.1 (vp_in_nI hk (by omega)) hdg (by rw [nI_clamp (by omega), hv]; exact kk)
end J1
theorem bo_3 {a b c : Bool} (h : (a && b && c) = true) : a = true ∧ b = true ∧ c = true := by cases a <;> cases b <;> cases c <;> first | exact ⟨rfl, rfl, rfl⟩ | cases h
theorem bo_2 {a b : Bool} (h : (a && b) = true) : a = true ∧ b = true := by cases a <;> cases b <;> first | exact ⟨rfl, rfl⟩ | cases h
set_option maxHeartbeats 4000000 in
theorem la_0 {p : Program} {l : Launch} {e : Env} {s : State} {m : MethodId} {below : List Frame} {meth : Method} {c : Code} {b Ln : Nat} {sc : Nat → Int32} {D : va_G} {dA dZ : ClassId} {ad au : Nat → Nat} {i : Nat} {ls : Array Slot} {H : Heap} {locs : List Loc} {w : Nat → F8} {g : Nat → Bool} {sy ru he be nu : Nat → F8} {le : Nat} {wh : Nat → F8} {di : Nat} {ma : Nat → F8} (hL : Ln ≤ 256) (S : CallFix p m c cL_law 4 s #[Value.ref b] lw_all R_law) (hX : va_X b Ln sc s s.heap) (hbl : b < s.heap.size) (hi4 : i + 4 ≤ Ln) (hl : lv_has ls 4 [(0, .ref b), (1, .ref (ad 0)), (2, .ref (au 0)), (3, .int (nI i))]) (hsy : sy 0 = 0) (kk : ∀ (w : Nat → F8) (g : Nat → Bool) (sy ru he be nu : Nat → F8) (le : Nat) (wh : Nat → F8) (di : Nat) (ma : Nat → F8) (H : Heap) (locs : List Loc), sy 0 = 0 → Wd D dA dZ (fun q => s.heap.size ≤ q) s ((wM dA dZ ad w g sy ru he be nu le wh di) ++ (wO dA dZ au w g zF ma)) H locs → W p l e room_1 s m #[Value.ref b] below meth c H locs 16 124 (lw_Z below #[Value.ref b] s) (F0 m 354 ls [])) (hw : Wd D dA dZ (fun q => s.heap.size ≤ q) s ((wM dA dZ ad w g sy ru he be nu le wh di) ++ (wO dA dZ au w g zF ma)) H locs) : W p l e room_1 s m #[Value.ref b] below meth c H locs 16 124 (lw_Z below #[Value.ref b] s) (F0 m 88 ls []) := by
  cases hx : okS (sc (i + 1)) && okS (sc (i + 2)) && okS (sc (i + 3)) with
  | false =>
    refine ir_ald_n S dL_law_88 hl 1 rfl ?_
    refine ir_ald_n S dL_law_89 hl 0 rfl ?_
    refine ir_ild_n S dL_law_90 hl 3 rfl ?_
    refine ir_ic S dL_law_91 (nI 1) (by decide) ?_
    refine ir_add S dL_law_92 ?_
    refine sc_ld S dL_law_93 hX hbl hw hL (by omega) rfl ?_
    refine ir_ald_n S dL_law_94 hl 0 rfl ?_
    refine ir_ild_n S dL_law_95 hl 3 rfl ?_
    refine ir_ic S dL_law_96 (nI 2) (by decide) ?_
    refine ir_add S dL_law_97 ?_
    refine sc_ld S dL_law_98 hX hbl hw hL (by omega) rfl ?_
    refine ir_ald_n S dL_law_99 hl 0 rfl ?_
    refine ir_ild_n S dL_law_100 hl 3 rfl ?_
    refine ir_ic S dL_law_101 (nI 3) (by decide) ?_
    refine ir_add S dL_law_102 ?_
    refine sc_ld S dL_law_103 hX hbl hw hL (by omega) rfl ?_
    refine cj_I (ci := 0) (q0 := 0) (nA := 3) (As := [.int (sc (i + 1)), .int (sc (i + 2)), .int (sc (i + 3))]) (rest := []) (C := RX0) (wr := (wO dA dZ au w g zF ma)) S dL_law_104 (ct_sendN l D dA dZ ad w g sy ru he be nu le wh di _ _ _ hx) (lw_V q66 q67 q68 q17 q69) (by decide +kernel) rfl (by decide) (by decide) hw [0, 1, 2, 3, 4, 5, 6, 7, 8, 9, 10] [11, 12, 13, 14, 15] rfl rfl (by decide) rfl (by decide) (by decide) rfl rfl hl.1 rfl (Nat.le_of_ble_eq_true rfl) (fun H locs hw => ?_)
    refine ir_ald_n S dL_law_107 hl 2 rfl ?_
    refine ir_ald_n S dL_law_108 hl 0 rfl ?_
    refine ir_ild_n S dL_law_109 hl 3 rfl ?_
    refine ir_ic S dL_law_110 (nI 1) (by decide) ?_
    refine ir_add S dL_law_111 ?_
    refine sc_ld S dL_law_112 hX hbl hw hL (by omega) rfl ?_
    refine ir_ald_n S dL_law_113 hl 0 rfl ?_
    refine ir_ild_n S dL_law_114 hl 3 rfl ?_
    refine ir_ic S dL_law_115 (nI 2) (by decide) ?_
    refine ir_add S dL_law_116 ?_
    refine sc_ld S dL_law_117 hX hbl hw hL (by omega) rfl ?_
    refine ir_ald_n S dL_law_118 hl 0 rfl ?_
    refine ir_ild_n S dL_law_119 hl 3 rfl ?_
    refine ir_ic S dL_law_120 (nI 3) (by decide) ?_
    refine ir_add S dL_law_121 ?_
    refine sc_ld S dL_law_122 hX hbl hw hL (by omega) rfl ?_
    refine cj_I (ci := 1) (q0 := 0) (nA := 3) (As := [.int (sc (i + 1)), .int (sc (i + 2)), .int (sc (i + 3))]) (rest := [.int (-1)]) (C := RX1) (wr := (wM dA dZ ad w g sy ru he be nu le wh di)) S dL_law_123 (co_sendN l D dA dZ au w g zF ma _ _ _ hx) (lw_V q178 q179 q180 q18 q181) (by decide +kernel) rfl (by decide) (by decide) hw [0, 1, 2, 3, 4] [5, 6, 7, 8, 9, 10, 11, 12, 13, 14, 15] rfl rfl (by decide) rfl (by decide) (by decide) rfl rfl hl.1 rfl (Nat.le_of_ble_eq_true rfl) (fun H locs hw => ?_)
    refine lv_icmp_eq (tgt := 354) S.1 S.2.1 dL_law_126 (by decide) (fun _ => ?_) (fun hc => absurd (rfl) hc)
    exact kk w g sy ru he be nu le wh di ma H locs hsy hw
  | true =>
    obtain ⟨hx1, hx2, hx3⟩ := bo_3 hx
    obtain ⟨x, ex1⟩ := okS_of hx1
    obtain ⟨y, ex2⟩ := okS_of hx2
    obtain ⟨z, ex3⟩ := okS_of hx3
    refine ir_ald_n S dL_law_88 hl 1 rfl ?_
    refine ir_ald_n S dL_law_89 hl 0 rfl ?_
    refine ir_ild_n S dL_law_90 hl 3 rfl ?_
    refine ir_ic S dL_law_91 (nI 1) (by decide) ?_
    refine ir_add S dL_law_92 ?_
    refine sc_ld S dL_law_93 hX hbl hw hL (by omega) ex1 ?_
    refine ir_ald_n S dL_law_94 hl 0 rfl ?_
    refine ir_ild_n S dL_law_95 hl 3 rfl ?_
    refine ir_ic S dL_law_96 (nI 2) (by decide) ?_
    refine ir_add S dL_law_97 ?_
    refine sc_ld S dL_law_98 hX hbl hw hL (by omega) ex2 ?_
    refine ir_ald_n S dL_law_99 hl 0 rfl ?_
    refine ir_ild_n S dL_law_100 hl 3 rfl ?_
    refine ir_ic S dL_law_101 (nI 3) (by decide) ?_
    refine ir_add S dL_law_102 ?_
    refine sc_ld S dL_law_103 hX hbl hw hL (by omega) ex3 ?_
    refine cj_I (ci := 0) (q0 := 0) (nA := 3) (As := [.int (nI x.val), .int (nI y.val), .int (nI z.val)]) (rest := []) (C := RX0) (wr := (wO dA dZ au w g zF ma)) S dL_law_104 (ct_send l D dA dZ ad w g sy ru he be nu le wh di x y z) (lw_V q66 q67 q68 q17 q69) (by decide +kernel) rfl (by decide) (by decide) hw [0, 1, 2, 3, 4, 5, 6, 7, 8, 9, 10] [11, 12, 13, 14, 15] rfl rfl (by decide) rfl (by decide) (by decide) rfl rfl hl.1 rfl (Nat.le_of_ble_eq_true rfl) (fun H locs hw => ?_)
    refine ir_ald_n S dL_law_107 hl 2 rfl ?_
    refine ir_ald_n S dL_law_108 hl 0 rfl ?_
    refine ir_ild_n S dL_law_109 hl 3 rfl ?_
    refine ir_ic S dL_law_110 (nI 1) (by decide) ?_
    refine ir_add S dL_law_111 ?_
    refine sc_ld S dL_law_112 hX hbl hw hL (by omega) ex1 ?_
    refine ir_ald_n S dL_law_113 hl 0 rfl ?_
    refine ir_ild_n S dL_law_114 hl 3 rfl ?_
    refine ir_ic S dL_law_115 (nI 2) (by decide) ?_
    refine ir_add S dL_law_116 ?_
    refine sc_ld S dL_law_117 hX hbl hw hL (by omega) ex2 ?_
    refine ir_ald_n S dL_law_118 hl 0 rfl ?_
    refine ir_ild_n S dL_law_119 hl 3 rfl ?_
    refine ir_ic S dL_law_120 (nI 3) (by decide) ?_
    refine ir_add S dL_law_121 ?_
    refine sc_ld S dL_law_122 hX hbl hw hL (by omega) ex3 ?_
    refine cj_I (ci := 1) (q0 := 0) (nA := 3) (As := [.int (nI x.val), .int (nI y.val), .int (nI z.val)]) (rest := [.int (nI 0)]) (C := RX1) (wr := (wM dA dZ ad (snW x y z) (fun _ => false) sy ru he be nu le wh di)) S dL_law_123 (co_send l D dA dZ au w g zF ma x y z) (lw_V q178 q179 q180 q18 q181) (by decide +kernel) rfl (by decide) (by decide) hw [0, 1, 2, 3, 4] [5, 6, 7, 8, 9, 10, 11, 12, 13, 14, 15] rfl rfl (by decide) rfl (by decide) (by decide) rfl rfl hl.1 rfl (Nat.le_of_ble_eq_true rfl) (fun H locs hw => ?_)
    refine lv_icmp_eq (tgt := 354) S.1 S.2.1 dL_law_126 (by decide) (fun _ => ?_) (fun hc => absurd (rfl) hc)
    exact kk (snW x y z) (fun _ => false) sy ru he be nu le wh di (mC zF ma 512) H locs hsy (hw.cg (congrArg ((wM dA dZ ad (snW x y z) (fun _ => false) sy ru he be nu le wh di) ++ ·) (wO_eq (fun i hi => (send_ok x y z w g i hi).1) (fun i hi => (send_ok x y z w g i hi).2) e_rf e_rf)))
set_option maxHeartbeats 4000000 in
theorem la_1 {p : Program} {l : Launch} {e : Env} {s : State} {m : MethodId} {below : List Frame} {meth : Method} {c : Code} {b Ln : Nat} {sc : Nat → Int32} {D : va_G} {dA dZ : ClassId} {ad au : Nat → Nat} {i : Nat} {ls : Array Slot} {H : Heap} {locs : List Loc} {w : Nat → F8} {g : Nat → Bool} {sy ru he be nu : Nat → F8} {le : Nat} {wh : Nat → F8} {di : Nat} {ma : Nat → F8} (hL : Ln ≤ 256) (S : CallFix p m c cL_law 4 s #[Value.ref b] lw_all R_law) (hX : va_X b Ln sc s s.heap) (hbl : b < s.heap.size) (hi4 : i + 4 ≤ Ln) (hl : lv_has ls 4 [(0, .ref b), (1, .ref (ad 0)), (2, .ref (au 0)), (3, .int (nI i))]) (hsy : sy 0 = 0) (kk : ∀ (w : Nat → F8) (g : Nat → Bool) (sy ru he be nu : Nat → F8) (le : Nat) (wh : Nat → F8) (di : Nat) (ma : Nat → F8) (H : Heap) (locs : List Loc), sy 0 = 0 → Wd D dA dZ (fun q => s.heap.size ≤ q) s ((wM dA dZ ad w g sy ru he be nu le wh di) ++ (wO dA dZ au w g zF ma)) H locs → W p l e room_1 s m #[Value.ref b] below meth c H locs 16 124 (lw_Z below #[Value.ref b] s) (F0 m 354 ls [])) (hw : Wd D dA dZ (fun q => s.heap.size ≤ q) s ((wM dA dZ ad w g sy ru he be nu le wh di) ++ (wO dA dZ au w g zF ma)) H locs) : W p l e room_1 s m #[Value.ref b] below meth c H locs 16 124 (lw_Z below #[Value.ref b] s) (F0 m 131 ls []) := by
  cases hx : okP (sc (i + 1)) && okS (sc (i + 2)) with
  | false =>
    refine ir_ald_n S dL_law_131 hl 1 rfl ?_
    refine ir_ald_n S dL_law_132 hl 0 rfl ?_
    refine ir_ild_n S dL_law_133 hl 3 rfl ?_
    refine ir_ic S dL_law_134 (nI 1) (by decide) ?_
    refine ir_add S dL_law_135 ?_
    refine sc_ld S dL_law_136 hX hbl hw hL (by omega) rfl ?_
    refine ir_ald_n S dL_law_137 hl 0 rfl ?_
    refine ir_ild_n S dL_law_138 hl 3 rfl ?_
    refine ir_ic S dL_law_139 (nI 2) (by decide) ?_
    refine ir_add S dL_law_140 ?_
    refine sc_ld S dL_law_141 hX hbl hw hL (by omega) rfl ?_
    refine cj_I (ci := 0) (q0 := 0) (nA := 2) (As := [.int (sc (i + 1)), .int (sc (i + 2))]) (rest := []) (C := RX0) (wr := (wO dA dZ au w g zF ma)) S dL_law_142 (ct_changeN l D dA dZ ad w g sy ru he be nu le wh di _ _ hx) (lw_V q81 q82 q83 q17 q84) (by decide +kernel) rfl (by decide) (by decide) hw [0, 1, 2, 3, 4, 5, 6, 7, 8, 9, 10] [11, 12, 13, 14, 15] rfl rfl (by decide) rfl (by decide) (by decide) rfl rfl hl.1 rfl (Nat.le_of_ble_eq_true rfl) (fun H locs hw => ?_)
    refine ir_ald_n S dL_law_145 hl 2 rfl ?_
    refine ir_ald_n S dL_law_146 hl 0 rfl ?_
    refine ir_ild_n S dL_law_147 hl 3 rfl ?_
    refine ir_ic S dL_law_148 (nI 1) (by decide) ?_
    refine ir_add S dL_law_149 ?_
    refine sc_ld S dL_law_150 hX hbl hw hL (by omega) rfl ?_
    refine ir_ald_n S dL_law_151 hl 0 rfl ?_
    refine ir_ild_n S dL_law_152 hl 3 rfl ?_
    refine ir_ic S dL_law_153 (nI 2) (by decide) ?_
    refine ir_add S dL_law_154 ?_
    refine sc_ld S dL_law_155 hX hbl hw hL (by omega) rfl ?_
    refine cj_I (ci := 1) (q0 := 0) (nA := 2) (As := [.int (sc (i + 1)), .int (sc (i + 2))]) (rest := [.int (-1)]) (C := RX1) (wr := (wM dA dZ ad w g sy ru he be nu le wh di)) S dL_law_156 (co_changeN l D dA dZ au w g zF ma _ _ hx) (lw_V q193 q194 q195 q18 q196) (by decide +kernel) rfl (by decide) (by decide) hw [0, 1, 2, 3, 4] [5, 6, 7, 8, 9, 10, 11, 12, 13, 14, 15] rfl rfl (by decide) rfl (by decide) (by decide) rfl rfl hl.1 rfl (Nat.le_of_ble_eq_true rfl) (fun H locs hw => ?_)
    refine lv_icmp_eq (tgt := 354) S.1 S.2.1 dL_law_159 (by decide) (fun _ => ?_) (fun hc => absurd (rfl) hc)
    exact kk w g sy ru he be nu le wh di ma H locs hsy hw
  | true =>
    obtain ⟨hx1, hx2⟩ := bo_2 hx
    obtain ⟨j, hj, ex1⟩ := okP_of hx1
    obtain ⟨a, ex2⟩ := okS_of hx2
    refine ir_ald_n S dL_law_131 hl 1 rfl ?_
    refine ir_ald_n S dL_law_132 hl 0 rfl ?_
    refine ir_ild_n S dL_law_133 hl 3 rfl ?_
    refine ir_ic S dL_law_134 (nI 1) (by decide) ?_
    refine ir_add S dL_law_135 ?_
    refine sc_ld S dL_law_136 hX hbl hw hL (by omega) ex1 ?_
    refine ir_ald_n S dL_law_137 hl 0 rfl ?_
    refine ir_ild_n S dL_law_138 hl 3 rfl ?_
    refine ir_ic S dL_law_139 (nI 2) (by decide) ?_
    refine ir_add S dL_law_140 ?_
    refine sc_ld S dL_law_141 hX hbl hw hL (by omega) ex2 ?_
    refine cj_I (ci := 0) (q0 := 0) (nA := 2) (As := [.int (nI j), .int (nI a.val)]) (rest := []) (C := RX0) (wr := (wO dA dZ au w g zF ma)) S dL_law_142 (ct_change l D dA dZ ad w g sy ru he be nu le wh di j hj a) (lw_V q81 q82 q83 q17 q84) (by decide +kernel) rfl (by decide) (by decide) hw [0, 1, 2, 3, 4, 5, 6, 7, 8, 9, 10] [11, 12, 13, 14, 15] rfl rfl (by decide) rfl (by decide) (by decide) rfl rfl hl.1 rfl (Nat.le_of_ble_eq_true rfl) (fun H locs hw => ?_)
    refine ir_ald_n S dL_law_145 hl 2 rfl ?_
    refine ir_ald_n S dL_law_146 hl 0 rfl ?_
    refine ir_ild_n S dL_law_147 hl 3 rfl ?_
    refine ir_ic S dL_law_148 (nI 1) (by decide) ?_
    refine ir_add S dL_law_149 ?_
    refine sc_ld S dL_law_150 hX hbl hw hL (by omega) ex1 ?_
    refine ir_ald_n S dL_law_151 hl 0 rfl ?_
    refine ir_ild_n S dL_law_152 hl 3 rfl ?_
    refine ir_ic S dL_law_153 (nI 2) (by decide) ?_
    refine ir_add S dL_law_154 ?_
    refine sc_ld S dL_law_155 hX hbl hw hL (by omega) ex2 ?_
    refine cj_I (ci := 1) (q0 := 0) (nA := 2) (As := [.int (nI j), .int (nI a.val)]) (rest := [.int (nI (w j).val)]) (C := RX1) (wr := (wM dA dZ ad (va_up w j a) g sy ru he be nu le wh di)) S dL_law_156 (co_change l D dA dZ au w g zF ma j hj a) (lw_V q193 q194 q195 q18 q196) (by decide +kernel) rfl (by decide) (by decide) hw [0, 1, 2, 3, 4] [5, 6, 7, 8, 9, 10, 11, 12, 13, 14, 15] rfl rfl (by decide) rfl (by decide) (by decide) rfl rfl hl.1 rfl (Nat.le_of_ble_eq_true rfl) (fun H locs hw => ?_)
    refine lv_icmp_eq (tgt := 354) S.1 S.2.1 dL_law_159 (by decide) (fun _ => ?_) (fun hc => absurd (rfl) hc)
    exact kk (va_up w j a) g sy ru he be nu le wh di ma H locs hsy hw
set_option maxHeartbeats 4000000 in
theorem la_2 {p : Program} {l : Launch} {e : Env} {s : State} {m : MethodId} {below : List Frame} {meth : Method} {c : Code} {b Ln : Nat} {sc : Nat → Int32} {D : va_G} {dA dZ : ClassId} {ad au : Nat → Nat} {i : Nat} {ls : Array Slot} {H : Heap} {locs : List Loc} {w : Nat → F8} {g : Nat → Bool} {sy ru he be nu : Nat → F8} {le : Nat} {wh : Nat → F8} {di : Nat} {ma : Nat → F8} (hL : Ln ≤ 256) (S : CallFix p m c cL_law 4 s #[Value.ref b] lw_all R_law) (hX : va_X b Ln sc s s.heap) (hbl : b < s.heap.size) (hi4 : i + 4 ≤ Ln) (hl : lv_has ls 4 [(0, .ref b), (1, .ref (ad 0)), (2, .ref (au 0)), (3, .int (nI i))]) (hsy : sy 0 = 0) (kk : ∀ (w : Nat → F8) (g : Nat → Bool) (sy ru he be nu : Nat → F8) (le : Nat) (wh : Nat → F8) (di : Nat) (ma : Nat → F8) (H : Heap) (locs : List Loc), sy 0 = 0 → Wd D dA dZ (fun q => s.heap.size ≤ q) s ((wM dA dZ ad w g sy ru he be nu le wh di) ++ (wO dA dZ au w g zF ma)) H locs → W p l e room_1 s m #[Value.ref b] below meth c H locs 16 124 (lw_Z below #[Value.ref b] s) (F0 m 354 ls [])) (hw : Wd D dA dZ (fun q => s.heap.size ≤ q) s ((wM dA dZ ad w g sy ru he be nu le wh di) ++ (wO dA dZ au w g zF ma)) H locs) : W p l e room_1 s m #[Value.ref b] below meth c H locs 16 124 (lw_Z below #[Value.ref b] s) (F0 m 164 ls []) := by
  by_cases hb : sc (i + 2) = 0
  · cases hx : okP (sc (i + 1)) with
    | false =>
        refine ir_ald_n S dL_law_164 hl 1 rfl ?_
        refine ir_ald_n S dL_law_165 hl 0 rfl ?_
        refine ir_ild_n S dL_law_166 hl 3 rfl ?_
        refine ir_ic S dL_law_167 (nI 1) (by decide) ?_
        refine ir_add S dL_law_168 ?_
        refine sc_ld S dL_law_169 hX hbl hw hL (by omega) rfl ?_
        refine ir_ald_n S dL_law_170 hl 0 rfl ?_
        refine ir_ild_n S dL_law_171 hl 3 rfl ?_
        refine ir_ic S dL_law_172 (nI 2) (by decide) ?_
        refine ir_add S dL_law_173 ?_
        refine sc_ld S dL_law_174 hX hbl hw hL (by omega) rfl ?_
        refine lv_if_eq (tgt := 182) S.1 S.2.1 dL_law_175 (by decide) (fun _ => ?_) (fun hc => absurd hb hc)
        refine ir_ic S dL_law_182 (nI false.toNat) (by decide) ?_
        refine cj_I (ci := 0) (q0 := 0) (nA := 2) (As := [.int (sc (i + 1)), .int (nI false.toNat)]) (rest := []) (C := RX0) (wr := (wO dA dZ au w g zF ma)) S dL_law_183 (ct_loseN l D dA dZ ad w g sy ru he be nu le wh di _ false hx) (lw_V q88 q89 q90 q17 q91) (by decide +kernel) rfl (by decide) (by decide) hw [0, 1, 2, 3, 4, 5, 6, 7, 8, 9, 10] [11, 12, 13, 14, 15] rfl rfl (by decide) rfl (by decide) (by decide) rfl rfl hl.1 rfl (Nat.le_of_ble_eq_true rfl) (fun H locs hw => ?_)
        refine ir_ald_n S dL_law_186 hl 2 rfl ?_
        refine ir_ald_n S dL_law_187 hl 0 rfl ?_
        refine ir_ild_n S dL_law_188 hl 3 rfl ?_
        refine ir_ic S dL_law_189 (nI 1) (by decide) ?_
        refine ir_add S dL_law_190 ?_
        refine sc_ld S dL_law_191 hX hbl hw hL (by omega) rfl ?_
        refine ir_ald_n S dL_law_192 hl 0 rfl ?_
        refine ir_ild_n S dL_law_193 hl 3 rfl ?_
        refine ir_ic S dL_law_194 (nI 2) (by decide) ?_
        refine ir_add S dL_law_195 ?_
        refine sc_ld S dL_law_196 hX hbl hw hL (by omega) rfl ?_
        refine lv_if_eq (tgt := 204) S.1 S.2.1 dL_law_197 (by decide) (fun _ => ?_) (fun hc => absurd hb hc)
        refine ir_ic S dL_law_204 (nI false.toNat) (by decide) ?_
        refine cj_I (ci := 1) (q0 := 0) (nA := 2) (As := [.int (sc (i + 1)), .int (nI false.toNat)]) (rest := [.int (-1)]) (C := RX1) (wr := (wM dA dZ ad w g sy ru he be nu le wh di)) S dL_law_205 (co_loseN l D dA dZ au w g zF ma _ false hx) (lw_V q200 q201 q202 q18 q203) (by decide +kernel) rfl (by decide) (by decide) hw [0, 1, 2, 3, 4] [5, 6, 7, 8, 9, 10, 11, 12, 13, 14, 15] rfl rfl (by decide) rfl (by decide) (by decide) rfl rfl hl.1 rfl (Nat.le_of_ble_eq_true rfl) (fun H locs hw => ?_)
        refine lv_icmp_eq (tgt := 354) S.1 S.2.1 dL_law_208 (by decide) (fun _ => ?_) (fun hc => absurd (rfl) hc)
        exact kk w g sy ru he be nu le wh di ma H locs hsy hw
    | true =>
        obtain ⟨j, hj, ex1⟩ := okP_of hx
        refine ir_ald_n S dL_law_164 hl 1 rfl ?_
        refine ir_ald_n S dL_law_165 hl 0 rfl ?_
        refine ir_ild_n S dL_law_166 hl 3 rfl ?_
        refine ir_ic S dL_law_167 (nI 1) (by decide) ?_
        refine ir_add S dL_law_168 ?_
        refine sc_ld S dL_law_169 hX hbl hw hL (by omega) ex1 ?_
        refine ir_ald_n S dL_law_170 hl 0 rfl ?_
        refine ir_ild_n S dL_law_171 hl 3 rfl ?_
        refine ir_ic S dL_law_172 (nI 2) (by decide) ?_
        refine ir_add S dL_law_173 ?_
        refine sc_ld S dL_law_174 hX hbl hw hL (by omega) rfl ?_
        refine lv_if_eq (tgt := 182) S.1 S.2.1 dL_law_175 (by decide) (fun _ => ?_) (fun hc => absurd hb hc)
        refine ir_ic S dL_law_182 (nI false.toNat) (by decide) ?_
        refine cj_I (ci := 0) (q0 := 0) (nA := 2) (As := [.int (nI j), .int (nI false.toNat)]) (rest := []) (C := RX0) (wr := (wO dA dZ au w g zF ma)) S dL_law_183 (ct_lose l D dA dZ ad w g sy ru he be nu le wh di j hj false) (lw_V q88 q89 q90 q17 q91) (by decide +kernel) rfl (by decide) (by decide) hw [0, 1, 2, 3, 4, 5, 6, 7, 8, 9, 10] [11, 12, 13, 14, 15] rfl rfl (by decide) rfl (by decide) (by decide) rfl rfl hl.1 rfl (Nat.le_of_ble_eq_true rfl) (fun H locs hw => ?_)
        refine ir_ald_n S dL_law_186 hl 2 rfl ?_
        refine ir_ald_n S dL_law_187 hl 0 rfl ?_
        refine ir_ild_n S dL_law_188 hl 3 rfl ?_
        refine ir_ic S dL_law_189 (nI 1) (by decide) ?_
        refine ir_add S dL_law_190 ?_
        refine sc_ld S dL_law_191 hX hbl hw hL (by omega) ex1 ?_
        refine ir_ald_n S dL_law_192 hl 0 rfl ?_
        refine ir_ild_n S dL_law_193 hl 3 rfl ?_
        refine ir_ic S dL_law_194 (nI 2) (by decide) ?_
        refine ir_add S dL_law_195 ?_
        refine sc_ld S dL_law_196 hX hbl hw hL (by omega) rfl ?_
        refine lv_if_eq (tgt := 204) S.1 S.2.1 dL_law_197 (by decide) (fun _ => ?_) (fun hc => absurd hb hc)
        refine ir_ic S dL_law_204 (nI false.toNat) (by decide) ?_
        refine cj_I (ci := 1) (q0 := 0) (nA := 2) (As := [.int (nI j), .int (nI false.toNat)]) (rest := [.int (nI (g j).toNat)]) (C := RX1) (wr := (wM dA dZ ad w (va_up g j false) sy ru he be nu le wh di)) S dL_law_205 (co_lose l D dA dZ au w g zF ma j hj false) (lw_V q200 q201 q202 q18 q203) (by decide +kernel) rfl (by decide) (by decide) hw [0, 1, 2, 3, 4] [5, 6, 7, 8, 9, 10, 11, 12, 13, 14, 15] rfl rfl (by decide) rfl (by decide) (by decide) rfl rfl hl.1 rfl (Nat.le_of_ble_eq_true rfl) (fun H locs hw => ?_)
        refine lv_icmp_eq (tgt := 354) S.1 S.2.1 dL_law_208 (by decide) (fun _ => ?_) (fun hc => absurd (rfl) hc)
        exact kk w (va_up g j false) sy ru he be nu le wh di ma H locs hsy hw
  · cases hx : okP (sc (i + 1)) with
    | false =>
        refine ir_ald_n S dL_law_164 hl 1 rfl ?_
        refine ir_ald_n S dL_law_165 hl 0 rfl ?_
        refine ir_ild_n S dL_law_166 hl 3 rfl ?_
        refine ir_ic S dL_law_167 (nI 1) (by decide) ?_
        refine ir_add S dL_law_168 ?_
        refine sc_ld S dL_law_169 hX hbl hw hL (by omega) rfl ?_
        refine ir_ald_n S dL_law_170 hl 0 rfl ?_
        refine ir_ild_n S dL_law_171 hl 3 rfl ?_
        refine ir_ic S dL_law_172 (nI 2) (by decide) ?_
        refine ir_add S dL_law_173 ?_
        refine sc_ld S dL_law_174 hX hbl hw hL (by omega) rfl ?_
        refine lv_if_eq (tgt := 182) S.1 S.2.1 dL_law_175 (by decide) (fun hc => absurd hc hb) (fun _ => ?_)
        refine ir_ic S dL_law_178 (nI true.toNat) (by decide) ?_
        refine ir_goto 183 S dL_law_179 (by decide) ?_
        refine cj_I (ci := 0) (q0 := 0) (nA := 2) (As := [.int (sc (i + 1)), .int (nI true.toNat)]) (rest := []) (C := RX0) (wr := (wO dA dZ au w g zF ma)) S dL_law_183 (ct_loseN l D dA dZ ad w g sy ru he be nu le wh di _ true hx) (lw_V q88 q89 q90 q17 q91) (by decide +kernel) rfl (by decide) (by decide) hw [0, 1, 2, 3, 4, 5, 6, 7, 8, 9, 10] [11, 12, 13, 14, 15] rfl rfl (by decide) rfl (by decide) (by decide) rfl rfl hl.1 rfl (Nat.le_of_ble_eq_true rfl) (fun H locs hw => ?_)
        refine ir_ald_n S dL_law_186 hl 2 rfl ?_
        refine ir_ald_n S dL_law_187 hl 0 rfl ?_
        refine ir_ild_n S dL_law_188 hl 3 rfl ?_
        refine ir_ic S dL_law_189 (nI 1) (by decide) ?_
        refine ir_add S dL_law_190 ?_
        refine sc_ld S dL_law_191 hX hbl hw hL (by omega) rfl ?_
        refine ir_ald_n S dL_law_192 hl 0 rfl ?_
        refine ir_ild_n S dL_law_193 hl 3 rfl ?_
        refine ir_ic S dL_law_194 (nI 2) (by decide) ?_
        refine ir_add S dL_law_195 ?_
        refine sc_ld S dL_law_196 hX hbl hw hL (by omega) rfl ?_
        refine lv_if_eq (tgt := 204) S.1 S.2.1 dL_law_197 (by decide) (fun hc => absurd hc hb) (fun _ => ?_)
        refine ir_ic S dL_law_200 (nI true.toNat) (by decide) ?_
        refine ir_goto 205 S dL_law_201 (by decide) ?_
        refine cj_I (ci := 1) (q0 := 0) (nA := 2) (As := [.int (sc (i + 1)), .int (nI true.toNat)]) (rest := [.int (-1)]) (C := RX1) (wr := (wM dA dZ ad w g sy ru he be nu le wh di)) S dL_law_205 (co_loseN l D dA dZ au w g zF ma _ true hx) (lw_V q200 q201 q202 q18 q203) (by decide +kernel) rfl (by decide) (by decide) hw [0, 1, 2, 3, 4] [5, 6, 7, 8, 9, 10, 11, 12, 13, 14, 15] rfl rfl (by decide) rfl (by decide) (by decide) rfl rfl hl.1 rfl (Nat.le_of_ble_eq_true rfl) (fun H locs hw => ?_)
        refine lv_icmp_eq (tgt := 354) S.1 S.2.1 dL_law_208 (by decide) (fun _ => ?_) (fun hc => absurd (rfl) hc)
        exact kk w g sy ru he be nu le wh di ma H locs hsy hw
    | true =>
        obtain ⟨j, hj, ex1⟩ := okP_of hx
        refine ir_ald_n S dL_law_164 hl 1 rfl ?_
        refine ir_ald_n S dL_law_165 hl 0 rfl ?_
        refine ir_ild_n S dL_law_166 hl 3 rfl ?_
        refine ir_ic S dL_law_167 (nI 1) (by decide) ?_
        refine ir_add S dL_law_168 ?_
        refine sc_ld S dL_law_169 hX hbl hw hL (by omega) ex1 ?_
        refine ir_ald_n S dL_law_170 hl 0 rfl ?_
        refine ir_ild_n S dL_law_171 hl 3 rfl ?_
        refine ir_ic S dL_law_172 (nI 2) (by decide) ?_
        refine ir_add S dL_law_173 ?_
        refine sc_ld S dL_law_174 hX hbl hw hL (by omega) rfl ?_
        refine lv_if_eq (tgt := 182) S.1 S.2.1 dL_law_175 (by decide) (fun hc => absurd hc hb) (fun _ => ?_)
        refine ir_ic S dL_law_178 (nI true.toNat) (by decide) ?_
        refine ir_goto 183 S dL_law_179 (by decide) ?_
        refine cj_I (ci := 0) (q0 := 0) (nA := 2) (As := [.int (nI j), .int (nI true.toNat)]) (rest := []) (C := RX0) (wr := (wO dA dZ au w g zF ma)) S dL_law_183 (ct_lose l D dA dZ ad w g sy ru he be nu le wh di j hj true) (lw_V q88 q89 q90 q17 q91) (by decide +kernel) rfl (by decide) (by decide) hw [0, 1, 2, 3, 4, 5, 6, 7, 8, 9, 10] [11, 12, 13, 14, 15] rfl rfl (by decide) rfl (by decide) (by decide) rfl rfl hl.1 rfl (Nat.le_of_ble_eq_true rfl) (fun H locs hw => ?_)
        refine ir_ald_n S dL_law_186 hl 2 rfl ?_
        refine ir_ald_n S dL_law_187 hl 0 rfl ?_
        refine ir_ild_n S dL_law_188 hl 3 rfl ?_
        refine ir_ic S dL_law_189 (nI 1) (by decide) ?_
        refine ir_add S dL_law_190 ?_
        refine sc_ld S dL_law_191 hX hbl hw hL (by omega) ex1 ?_
        refine ir_ald_n S dL_law_192 hl 0 rfl ?_
        refine ir_ild_n S dL_law_193 hl 3 rfl ?_
        refine ir_ic S dL_law_194 (nI 2) (by decide) ?_
        refine ir_add S dL_law_195 ?_
        refine sc_ld S dL_law_196 hX hbl hw hL (by omega) rfl ?_
        refine lv_if_eq (tgt := 204) S.1 S.2.1 dL_law_197 (by decide) (fun hc => absurd hc hb) (fun _ => ?_)
        refine ir_ic S dL_law_200 (nI true.toNat) (by decide) ?_
        refine ir_goto 205 S dL_law_201 (by decide) ?_
        refine cj_I (ci := 1) (q0 := 0) (nA := 2) (As := [.int (nI j), .int (nI true.toNat)]) (rest := [.int (nI (g j).toNat)]) (C := RX1) (wr := (wM dA dZ ad w (va_up g j true) sy ru he be nu le wh di)) S dL_law_205 (co_lose l D dA dZ au w g zF ma j hj true) (lw_V q200 q201 q202 q18 q203) (by decide +kernel) rfl (by decide) (by decide) hw [0, 1, 2, 3, 4] [5, 6, 7, 8, 9, 10, 11, 12, 13, 14, 15] rfl rfl (by decide) rfl (by decide) (by decide) rfl rfl hl.1 rfl (Nat.le_of_ble_eq_true rfl) (fun H locs hw => ?_)
        refine lv_icmp_eq (tgt := 354) S.1 S.2.1 dL_law_208 (by decide) (fun _ => ?_) (fun hc => absurd (rfl) hc)
        exact kk w (va_up g j true) sy ru he be nu le wh di ma H locs hsy hw
set_option maxHeartbeats 4000000 in
theorem la_3 {p : Program} {l : Launch} {e : Env} {s : State} {m : MethodId} {below : List Frame} {meth : Method} {c : Code} {b Ln : Nat} {sc : Nat → Int32} {D : va_G} {dA dZ : ClassId} {ad au : Nat → Nat} {i : Nat} {ls : Array Slot} {H : Heap} {locs : List Loc} {w : Nat → F8} {g : Nat → Bool} {sy ru he be nu : Nat → F8} {le : Nat} {wh : Nat → F8} {di : Nat} {ma : Nat → F8} (hL : Ln ≤ 256) (S : CallFix p m c cL_law 4 s #[Value.ref b] lw_all R_law) (hX : va_X b Ln sc s s.heap) (hbl : b < s.heap.size) (hi4 : i + 4 ≤ Ln) (hl : lv_has ls 4 [(0, .ref b), (1, .ref (ad 0)), (2, .ref (au 0)), (3, .int (nI i))]) (hsy : sy 0 = 0) (kk : ∀ (w : Nat → F8) (g : Nat → Bool) (sy ru he be nu : Nat → F8) (le : Nat) (wh : Nat → F8) (di : Nat) (ma : Nat → F8) (H : Heap) (locs : List Loc), sy 0 = 0 → Wd D dA dZ (fun q => s.heap.size ≤ q) s ((wM dA dZ ad w g sy ru he be nu le wh di) ++ (wO dA dZ au w g zF ma)) H locs → W p l e room_1 s m #[Value.ref b] below meth c H locs 16 124 (lw_Z below #[Value.ref b] s) (F0 m 354 ls [])) (hw : Wd D dA dZ (fun q => s.heap.size ≤ q) s ((wM dA dZ ad w g sy ru he be nu le wh di) ++ (wO dA dZ au w g zF ma)) H locs) : W p l e room_1 s m #[Value.ref b] below meth c H locs 16 124 (lw_Z below #[Value.ref b] s) (F0 m 213 ls []) := by
  cases hx : okP (sc (i + 1)) with
  | false =>
    refine ir_ald_n S dL_law_213 hl 1 rfl ?_
    refine ir_ald_n S dL_law_214 hl 0 rfl ?_
    refine ir_ild_n S dL_law_215 hl 3 rfl ?_
    refine ir_ic S dL_law_216 (nI 1) (by decide) ?_
    refine ir_add S dL_law_217 ?_
    refine sc_ld S dL_law_218 hX hbl hw hL (by omega) rfl ?_
    refine cj_I (ci := 0) (q0 := 0) (nA := 1) (As := [.int (sc (i + 1))]) (rest := []) (C := RX0) (wr := (wO dA dZ au w g zF ma)) S dL_law_219 (ct_atN l D dA dZ ad w g sy ru he be nu le wh di _ hx) (lw_V q92 q93 q94 q17 q95) (by decide +kernel) rfl (by decide) (by decide) hw [0, 1, 2, 3, 4, 5, 6, 7, 8, 9, 10] [11, 12, 13, 14, 15] rfl rfl (by decide) rfl (by decide) (by decide) rfl rfl hl.1 rfl (Nat.le_of_ble_eq_true rfl) (fun H locs hw => ?_)
    refine ir_ald_n S dL_law_222 hl 2 rfl ?_
    refine ir_ald_n S dL_law_223 hl 0 rfl ?_
    refine ir_ild_n S dL_law_224 hl 3 rfl ?_
    refine ir_ic S dL_law_225 (nI 1) (by decide) ?_
    refine ir_add S dL_law_226 ?_
    refine sc_ld S dL_law_227 hX hbl hw hL (by omega) rfl ?_
    refine cj_I (ci := 1) (q0 := 0) (nA := 1) (As := [.int (sc (i + 1))]) (rest := [.int (-1)]) (C := RX1) (wr := (wM dA dZ ad w g sy ru he be nu le wh di)) S dL_law_228 (co_atN l D dA dZ au w g zF ma _ hx) (lw_V q204 q205 q206 q18 q207) (by decide +kernel) rfl (by decide) (by decide) hw [0, 1, 2, 3, 4] [5, 6, 7, 8, 9, 10, 11, 12, 13, 14, 15] rfl rfl (by decide) rfl (by decide) (by decide) rfl rfl hl.1 rfl (Nat.le_of_ble_eq_true rfl) (fun H locs hw => ?_)
    refine lv_icmp_eq (tgt := 354) S.1 S.2.1 dL_law_231 (by decide) (fun _ => ?_) (fun hc => absurd (rfl) hc)
    exact kk w g sy ru he be nu le wh di ma H locs hsy hw
  | true =>
    obtain ⟨j, hj, ex1⟩ := okP_of hx
    refine ir_ald_n S dL_law_213 hl 1 rfl ?_
    refine ir_ald_n S dL_law_214 hl 0 rfl ?_
    refine ir_ild_n S dL_law_215 hl 3 rfl ?_
    refine ir_ic S dL_law_216 (nI 1) (by decide) ?_
    refine ir_add S dL_law_217 ?_
    refine sc_ld S dL_law_218 hX hbl hw hL (by omega) ex1 ?_
    refine cj_I (ci := 0) (q0 := 0) (nA := 1) (As := [.int (nI j)]) (rest := []) (C := RX0) (wr := (wO dA dZ au w g zF ma)) S dL_law_219 (ct_at l D dA dZ ad w g sy ru he be nu le wh di j hj) (lw_V q92 q93 q94 q17 q95) (by decide +kernel) rfl (by decide) (by decide) hw [0, 1, 2, 3, 4, 5, 6, 7, 8, 9, 10] [11, 12, 13, 14, 15] rfl rfl (by decide) rfl (by decide) (by decide) rfl rfl hl.1 rfl (Nat.le_of_ble_eq_true rfl) (fun H locs hw => ?_)
    refine ir_ald_n S dL_law_222 hl 2 rfl ?_
    refine ir_ald_n S dL_law_223 hl 0 rfl ?_
    refine ir_ild_n S dL_law_224 hl 3 rfl ?_
    refine ir_ic S dL_law_225 (nI 1) (by decide) ?_
    refine ir_add S dL_law_226 ?_
    refine sc_ld S dL_law_227 hX hbl hw hL (by omega) ex1 ?_
    refine cj_I (ci := 1) (q0 := 0) (nA := 1) (As := [.int (nI j)]) (rest := [.int (nI (w j).val)]) (C := RX1) (wr := (wM dA dZ ad w g sy ru he be nu le wh di)) S dL_law_228 (co_at l D dA dZ au w g zF ma j hj) (lw_V q204 q205 q206 q18 q207) (by decide +kernel) rfl (by decide) (by decide) hw [0, 1, 2, 3, 4] [5, 6, 7, 8, 9, 10, 11, 12, 13, 14, 15] rfl rfl (by decide) rfl (by decide) (by decide) rfl rfl hl.1 rfl (Nat.le_of_ble_eq_true rfl) (fun H locs hw => ?_)
    refine lv_icmp_eq (tgt := 354) S.1 S.2.1 dL_law_231 (by decide) (fun _ => ?_) (fun hc => absurd (rfl) hc)
    exact kk w g sy ru he be nu le wh di ma H locs hsy hw
set_option maxHeartbeats 4000000 in
theorem la_4 {p : Program} {l : Launch} {e : Env} {s : State} {m : MethodId} {below : List Frame} {meth : Method} {c : Code} {b Ln : Nat} {sc : Nat → Int32} {D : va_G} {dA dZ : ClassId} {ad au : Nat → Nat} {i : Nat} {ls : Array Slot} {H : Heap} {locs : List Loc} {w : Nat → F8} {g : Nat → Bool} {sy ru he be nu : Nat → F8} {le : Nat} {wh : Nat → F8} {di : Nat} {ma : Nat → F8} (hL : Ln ≤ 256) (S : CallFix p m c cL_law 4 s #[Value.ref b] lw_all R_law) (hX : va_X b Ln sc s s.heap) (hbl : b < s.heap.size) (hi4 : i + 4 ≤ Ln) (hl : lv_has ls 4 [(0, .ref b), (1, .ref (ad 0)), (2, .ref (au 0)), (3, .int (nI i))]) (hsy : sy 0 = 0) (kk : ∀ (w : Nat → F8) (g : Nat → Bool) (sy ru he be nu : Nat → F8) (le : Nat) (wh : Nat → F8) (di : Nat) (ma : Nat → F8) (H : Heap) (locs : List Loc), sy 0 = 0 → Wd D dA dZ (fun q => s.heap.size ≤ q) s ((wM dA dZ ad w g sy ru he be nu le wh di) ++ (wO dA dZ au w g zF ma)) H locs → W p l e room_1 s m #[Value.ref b] below meth c H locs 16 124 (lw_Z below #[Value.ref b] s) (F0 m 354 ls [])) (hw : Wd D dA dZ (fun q => s.heap.size ≤ q) s ((wM dA dZ ad w g sy ru he be nu le wh di) ++ (wO dA dZ au w g zF ma)) H locs) : W p l e room_1 s m #[Value.ref b] below meth c H locs 16 124 (lw_Z below #[Value.ref b] s) (F0 m 236 ls []) := by
  refine ir_ald_n S dL_law_236 hl 1 rfl ?_
  refine cj_I (ci := 0) (q0 := 0) (nA := 0) (As := []) (rest := []) (C := RX0) (wr := (wO dA dZ au w g zF ma)) S dL_law_237 (ct_fits l D dA dZ ad w g sy ru he be nu le wh di hsy) (lw_V q96 q97 q98 q17 q99) (by decide +kernel) rfl (by decide) (by decide) hw [0, 1, 2, 3, 4, 5, 6, 7, 8, 9, 10] [11, 12, 13, 14, 15] rfl rfl (by decide) rfl (by decide) (by decide) rfl rfl hl.1 rfl (Nat.le_of_ble_eq_true rfl) (fun H locs hw => ?_)
  refine ir_ald_n S dL_law_240 hl 2 rfl ?_
  refine cj_I (ci := 1) (q0 := 0) (nA := 0) (As := []) (rest := [.int (nI (fwB w g).toNat)]) (C := RX1) (wr := (wZ dA dZ ad w g (fwS w g (sy, ru, he, be, nu, le, wh, di)))) S dL_law_241 (co_fits l D dA dZ au w g zF ma) (lw_V q208 q209 q210 q18 q211) (by decide +kernel) rfl (by decide) (by decide) hw [0, 1, 2, 3, 4] [5, 6, 7, 8, 9, 10, 11, 12, 13, 14, 15] rfl rfl (by decide) rfl (by decide) (by decide) rfl rfl hl.1 rfl (Nat.le_of_ble_eq_true rfl) (fun H locs hw => ?_)
  refine lv_icmp_eq (tgt := 354) S.1 S.2.1 dL_law_244 (by decide) (fun _ => ?_) (fun hc => absurd (by rw [(find_ok w g).1]) hc)
  exact kk w g (fwS w g (sy, ru, he, be, nu, le, wh, di)).1 (fwS w g (sy, ru, he, be, nu, le, wh, di)).2.1 (fwS w g (sy, ru, he, be, nu, le, wh, di)).2.2.1 (fwS w g (sy, ru, he, be, nu, le, wh, di)).2.2.2.1 (fwS w g (sy, ru, he, be, nu, le, wh, di)).2.2.2.2.1 (fwS w g (sy, ru, he, be, nu, le, wh, di)).2.2.2.2.2.1 (fwS w g (sy, ru, he, be, nu, le, wh, di)).2.2.2.2.2.2.1 (fwS w g (sy, ru, he, be, nu, le, wh, di)).2.2.2.2.2.2.2 (fdM w g zF) H locs (fwS_sy _ hsy) hw
theorem eq_mended {w : Nat → F8} {g : Nat → Bool} (z : ZS) {j : Nat} (hj : j < 7) : (if fwB w g = true then nI ((fwS w g z).2.2.2.2.2.2.1 j).val else -1) = (if fdB w g zF = true then nI (fdM w g zF j).val else -1) := by
  rw [(find_ok w g).1]
  by_cases h : fwB w g = true
  · rw [if_pos h, if_pos h, (fwS_wh z h).1, (find_ok w g).2 h j hj]
  · rw [if_neg h, if_neg h]
theorem eq_wrong {w : Nat → F8} {g : Nat → Bool} (z : ZS) : (if fwB w g = true then nI (fwS w g z).2.2.2.2.2.2.2 else -1) = (if fdB w g zF = true then nI (cn (dfF w g (fdM w g zF)) 7) else -1) := by
  rw [(find_ok w g).1]
  by_cases h : fwB w g = true
  · rw [if_pos h, if_pos h, (fwS_wh z h).2, df_eq ((find_ok w g).2 h)]
  · rw [if_neg h, if_neg h]
theorem eq_mend {w : Nat → F8} {g : Nat → Bool} (z : ZS) : ∀ i, i < 7 → (if fdB w g zF = true then fdM w g zF else w) i = (if fwB w g = true then (fwS w g z).2.2.2.2.2.2.1 else w) i := by
  intro i hi
  rw [(find_ok w g).1]
  by_cases h : fwB w g = true
  · rw [if_pos h, if_pos h, (fwS_wh z h).1, (find_ok w g).2 h i hi]
  · rw [if_neg h, if_neg h]
theorem eq_mendg {w : Nat → F8} {g : Nat → Bool} : ∀ i, i < 7 → (if fdB w g zF = true then (fun _ => false) else g) i = (if fwB w g = true then (fun _ => false) else g) i := by
  intro i hi
  rw [(find_ok w g).1]
set_option maxHeartbeats 4000000 in
theorem la_5 {p : Program} {l : Launch} {e : Env} {s : State} {m : MethodId} {below : List Frame} {meth : Method} {c : Code} {b Ln : Nat} {sc : Nat → Int32} {D : va_G} {dA dZ : ClassId} {ad au : Nat → Nat} {i : Nat} {ls : Array Slot} {H : Heap} {locs : List Loc} {w : Nat → F8} {g : Nat → Bool} {sy ru he be nu : Nat → F8} {le : Nat} {wh : Nat → F8} {di : Nat} {ma : Nat → F8} (hL : Ln ≤ 256) (S : CallFix p m c cL_law 4 s #[Value.ref b] lw_all R_law) (hX : va_X b Ln sc s s.heap) (hbl : b < s.heap.size) (hi4 : i + 4 ≤ Ln) (hl : lv_has ls 4 [(0, .ref b), (1, .ref (ad 0)), (2, .ref (au 0)), (3, .int (nI i))]) (hsy : sy 0 = 0) (kk : ∀ (w : Nat → F8) (g : Nat → Bool) (sy ru he be nu : Nat → F8) (le : Nat) (wh : Nat → F8) (di : Nat) (ma : Nat → F8) (H : Heap) (locs : List Loc), sy 0 = 0 → Wd D dA dZ (fun q => s.heap.size ≤ q) s ((wM dA dZ ad w g sy ru he be nu le wh di) ++ (wO dA dZ au w g zF ma)) H locs → W p l e room_1 s m #[Value.ref b] below meth c H locs 16 124 (lw_Z below #[Value.ref b] s) (F0 m 354 ls [])) (hw : Wd D dA dZ (fun q => s.heap.size ≤ q) s ((wM dA dZ ad w g sy ru he be nu le wh di) ++ (wO dA dZ au w g zF ma)) H locs) : W p l e room_1 s m #[Value.ref b] below meth c H locs 16 124 (lw_Z below #[Value.ref b] s) (F0 m 249 ls []) := by
  cases hx : okP (sc (i + 1)) with
  | false =>
    refine ir_ald_n S dL_law_249 hl 1 rfl ?_
    refine ir_ald_n S dL_law_250 hl 0 rfl ?_
    refine ir_ild_n S dL_law_251 hl 3 rfl ?_
    refine ir_ic S dL_law_252 (nI 1) (by decide) ?_
    refine ir_add S dL_law_253 ?_
    refine sc_ld S dL_law_254 hX hbl hw hL (by omega) rfl ?_
    refine cj_I (ci := 0) (q0 := 0) (nA := 1) (As := [.int (sc (i + 1))]) (rest := []) (C := RX0) (wr := (wO dA dZ au w g zF ma)) S dL_law_255 (ct_mendedN l D dA dZ ad w g sy ru he be nu le wh di _ hx) (lw_V q132 q133 q134 q17 q135) (by decide +kernel) rfl (by decide) (by decide) hw [0, 1, 2, 3, 4, 5, 6, 7, 8, 9, 10] [11, 12, 13, 14, 15] rfl rfl (by decide) rfl (by decide) (by decide) rfl rfl hl.1 rfl (Nat.le_of_ble_eq_true rfl) (fun H locs hw => ?_)
    refine ir_ald_n S dL_law_258 hl 2 rfl ?_
    refine ir_ald_n S dL_law_259 hl 0 rfl ?_
    refine ir_ild_n S dL_law_260 hl 3 rfl ?_
    refine ir_ic S dL_law_261 (nI 1) (by decide) ?_
    refine ir_add S dL_law_262 ?_
    refine sc_ld S dL_law_263 hX hbl hw hL (by omega) rfl ?_
    refine cj_I (ci := 1) (q0 := 0) (nA := 1) (As := [.int (sc (i + 1))]) (rest := [.int (-1)]) (C := RX1) (wr := (wM dA dZ ad w g sy ru he be nu le wh di)) S dL_law_264 (co_mendedN l D dA dZ au w g zF ma _ hx) (lw_V q224 q225 q226 q18 q227) (by decide +kernel) rfl (by decide) (by decide) hw [0, 1, 2, 3, 4] [5, 6, 7, 8, 9, 10, 11, 12, 13, 14, 15] rfl rfl (by decide) rfl (by decide) (by decide) rfl rfl hl.1 rfl (Nat.le_of_ble_eq_true rfl) (fun H locs hw => ?_)
    refine lv_icmp_eq (tgt := 354) S.1 S.2.1 dL_law_267 (by decide) (fun _ => ?_) (fun hc => absurd (rfl) hc)
    exact kk w g sy ru he be nu le wh di ma H locs hsy hw
  | true =>
    obtain ⟨j, hj, ex1⟩ := okP_of hx
    refine ir_ald_n S dL_law_249 hl 1 rfl ?_
    refine ir_ald_n S dL_law_250 hl 0 rfl ?_
    refine ir_ild_n S dL_law_251 hl 3 rfl ?_
    refine ir_ic S dL_law_252 (nI 1) (by decide) ?_
    refine ir_add S dL_law_253 ?_
    refine sc_ld S dL_law_254 hX hbl hw hL (by omega) ex1 ?_
    refine cj_I (ci := 0) (q0 := 0) (nA := 1) (As := [.int (nI j)]) (rest := []) (C := RX0) (wr := (wO dA dZ au w g zF ma)) S dL_law_255 (ct_mended l D dA dZ ad w g sy ru he be nu le wh di hsy j hj) (lw_V q132 q133 q134 q17 q135) (by decide +kernel) rfl (by decide) (by decide) hw [0, 1, 2, 3, 4, 5, 6, 7, 8, 9, 10] [11, 12, 13, 14, 15] rfl rfl (by decide) rfl (by decide) (by decide) rfl rfl hl.1 rfl (Nat.le_of_ble_eq_true rfl) (fun H locs hw => ?_)
    refine ir_ald_n S dL_law_258 hl 2 rfl ?_
    refine ir_ald_n S dL_law_259 hl 0 rfl ?_
    refine ir_ild_n S dL_law_260 hl 3 rfl ?_
    refine ir_ic S dL_law_261 (nI 1) (by decide) ?_
    refine ir_add S dL_law_262 ?_
    refine sc_ld S dL_law_263 hX hbl hw hL (by omega) ex1 ?_
    refine cj_I (ci := 1) (q0 := 0) (nA := 1) (As := [.int (nI j)]) (rest := [.int (if fwB w g = true then nI ((fwS w g (sy, ru, he, be, nu, le, wh, di)).2.2.2.2.2.2.1 j).val else -1)]) (C := RX1) (wr := (wZ dA dZ ad w g (fwS w g (sy, ru, he, be, nu, le, wh, di)))) S dL_law_264 (co_mended l D dA dZ au w g zF ma j hj) (lw_V q224 q225 q226 q18 q227) (by decide +kernel) rfl (by decide) (by decide) hw [0, 1, 2, 3, 4] [5, 6, 7, 8, 9, 10, 11, 12, 13, 14, 15] rfl rfl (by decide) rfl (by decide) (by decide) rfl rfl hl.1 rfl (Nat.le_of_ble_eq_true rfl) (fun H locs hw => ?_)
    refine lv_icmp_eq (tgt := 354) S.1 S.2.1 dL_law_267 (by decide) (fun _ => ?_) (fun hc => absurd (eq_mended _ hj) hc)
    exact kk w g (fwS w g (sy, ru, he, be, nu, le, wh, di)).1 (fwS w g (sy, ru, he, be, nu, le, wh, di)).2.1 (fwS w g (sy, ru, he, be, nu, le, wh, di)).2.2.1 (fwS w g (sy, ru, he, be, nu, le, wh, di)).2.2.2.1 (fwS w g (sy, ru, he, be, nu, le, wh, di)).2.2.2.2.1 (fwS w g (sy, ru, he, be, nu, le, wh, di)).2.2.2.2.2.1 (fwS w g (sy, ru, he, be, nu, le, wh, di)).2.2.2.2.2.2.1 (fwS w g (sy, ru, he, be, nu, le, wh, di)).2.2.2.2.2.2.2 (fdM w g zF) H locs (fwS_sy _ hsy) hw
set_option maxHeartbeats 4000000 in
theorem la_6 {p : Program} {l : Launch} {e : Env} {s : State} {m : MethodId} {below : List Frame} {meth : Method} {c : Code} {b Ln : Nat} {sc : Nat → Int32} {D : va_G} {dA dZ : ClassId} {ad au : Nat → Nat} {i : Nat} {ls : Array Slot} {H : Heap} {locs : List Loc} {w : Nat → F8} {g : Nat → Bool} {sy ru he be nu : Nat → F8} {le : Nat} {wh : Nat → F8} {di : Nat} {ma : Nat → F8} (hL : Ln ≤ 256) (S : CallFix p m c cL_law 4 s #[Value.ref b] lw_all R_law) (hX : va_X b Ln sc s s.heap) (hbl : b < s.heap.size) (hi4 : i + 4 ≤ Ln) (hl : lv_has ls 4 [(0, .ref b), (1, .ref (ad 0)), (2, .ref (au 0)), (3, .int (nI i))]) (hsy : sy 0 = 0) (kk : ∀ (w : Nat → F8) (g : Nat → Bool) (sy ru he be nu : Nat → F8) (le : Nat) (wh : Nat → F8) (di : Nat) (ma : Nat → F8) (H : Heap) (locs : List Loc), sy 0 = 0 → Wd D dA dZ (fun q => s.heap.size ≤ q) s ((wM dA dZ ad w g sy ru he be nu le wh di) ++ (wO dA dZ au w g zF ma)) H locs → W p l e room_1 s m #[Value.ref b] below meth c H locs 16 124 (lw_Z below #[Value.ref b] s) (F0 m 354 ls [])) (hw : Wd D dA dZ (fun q => s.heap.size ≤ q) s ((wM dA dZ ad w g sy ru he be nu le wh di) ++ (wO dA dZ au w g zF ma)) H locs) : W p l e room_1 s m #[Value.ref b] below meth c H locs 16 124 (lw_Z below #[Value.ref b] s) (F0 m 272 ls []) := by
  refine ir_ald_n S dL_law_272 hl 1 rfl ?_
  refine cj_I (ci := 0) (q0 := 0) (nA := 0) (As := []) (rest := []) (C := RX0) (wr := (wO dA dZ au w g zF ma)) S dL_law_273 (ct_wrong l D dA dZ ad w g sy ru he be nu le wh di hsy) (lw_V q136 q137 q138 q17 q139) (by decide +kernel) rfl (by decide) (by decide) hw [0, 1, 2, 3, 4, 5, 6, 7, 8, 9, 10] [11, 12, 13, 14, 15] rfl rfl (by decide) rfl (by decide) (by decide) rfl rfl hl.1 rfl (Nat.le_of_ble_eq_true rfl) (fun H locs hw => ?_)
  refine ir_ald_n S dL_law_276 hl 2 rfl ?_
  refine cj_I (ci := 1) (q0 := 0) (nA := 0) (As := []) (rest := [.int (if fwB w g = true then nI (fwS w g (sy, ru, he, be, nu, le, wh, di)).2.2.2.2.2.2.2 else -1)]) (C := RX1) (wr := (wZ dA dZ ad w g (fwS w g (sy, ru, he, be, nu, le, wh, di)))) S dL_law_277 (co_wrong l D dA dZ au w g zF ma) (lw_V q228 q229 q230 q18 q231) (by decide +kernel) rfl (by decide) (by decide) hw [0, 1, 2, 3, 4] [5, 6, 7, 8, 9, 10, 11, 12, 13, 14, 15] rfl rfl (by decide) rfl (by decide) (by decide) rfl rfl hl.1 rfl (Nat.le_of_ble_eq_true rfl) (fun H locs hw => ?_)
  refine lv_icmp_eq (tgt := 354) S.1 S.2.1 dL_law_280 (by decide) (fun _ => ?_) (fun hc => absurd (eq_wrong _) hc)
  exact kk w g (fwS w g (sy, ru, he, be, nu, le, wh, di)).1 (fwS w g (sy, ru, he, be, nu, le, wh, di)).2.1 (fwS w g (sy, ru, he, be, nu, le, wh, di)).2.2.1 (fwS w g (sy, ru, he, be, nu, le, wh, di)).2.2.2.1 (fwS w g (sy, ru, he, be, nu, le, wh, di)).2.2.2.2.1 (fwS w g (sy, ru, he, be, nu, le, wh, di)).2.2.2.2.2.1 (fwS w g (sy, ru, he, be, nu, le, wh, di)).2.2.2.2.2.2.1 (fwS w g (sy, ru, he, be, nu, le, wh, di)).2.2.2.2.2.2.2 (fdM w g zF) H locs (fwS_sy _ hsy) hw
set_option maxHeartbeats 4000000 in
theorem la_7 {p : Program} {l : Launch} {e : Env} {s : State} {m : MethodId} {below : List Frame} {meth : Method} {c : Code} {b Ln : Nat} {sc : Nat → Int32} {D : va_G} {dA dZ : ClassId} {ad au : Nat → Nat} {i : Nat} {ls : Array Slot} {H : Heap} {locs : List Loc} {w : Nat → F8} {g : Nat → Bool} {sy ru he be nu : Nat → F8} {le : Nat} {wh : Nat → F8} {di : Nat} {ma : Nat → F8} (hL : Ln ≤ 256) (S : CallFix p m c cL_law 4 s #[Value.ref b] lw_all R_law) (hX : va_X b Ln sc s s.heap) (hbl : b < s.heap.size) (hi4 : i + 4 ≤ Ln) (hl : lv_has ls 4 [(0, .ref b), (1, .ref (ad 0)), (2, .ref (au 0)), (3, .int (nI i))]) (hsy : sy 0 = 0) (kk : ∀ (w : Nat → F8) (g : Nat → Bool) (sy ru he be nu : Nat → F8) (le : Nat) (wh : Nat → F8) (di : Nat) (ma : Nat → F8) (H : Heap) (locs : List Loc), sy 0 = 0 → Wd D dA dZ (fun q => s.heap.size ≤ q) s ((wM dA dZ ad w g sy ru he be nu le wh di) ++ (wO dA dZ au w g zF ma)) H locs → W p l e room_1 s m #[Value.ref b] below meth c H locs 16 124 (lw_Z below #[Value.ref b] s) (F0 m 354 ls [])) (hw : Wd D dA dZ (fun q => s.heap.size ≤ q) s ((wM dA dZ ad w g sy ru he be nu le wh di) ++ (wO dA dZ au w g zF ma)) H locs) : W p l e room_1 s m #[Value.ref b] below meth c H locs 16 124 (lw_Z below #[Value.ref b] s) (F0 m 285 ls []) := by
  refine ir_ald_n S dL_law_285 hl 1 rfl ?_
  refine cj_I (ci := 0) (q0 := 0) (nA := 0) (As := []) (rest := []) (C := RX0) (wr := (wO dA dZ au w g zF ma)) S dL_law_286 (ct_mend l D dA dZ ad w g sy ru he be nu le wh di hsy) (lw_V q140 q141 q142 q17 q143) (by decide +kernel) rfl (by decide) (by decide) hw [0, 1, 2, 3, 4, 5, 6, 7, 8, 9, 10] [11, 12, 13, 14, 15] rfl rfl (by decide) rfl (by decide) (by decide) rfl rfl hl.1 rfl (Nat.le_of_ble_eq_true rfl) (fun H locs hw => ?_)
  refine ir_ald_n S dL_law_289 hl 2 rfl ?_
  refine cj_I (ci := 1) (q0 := 0) (nA := 0) (As := []) (rest := [.int (nI (fwB w g).toNat)]) (C := RX1) (wr := (wZ dA dZ ad (if fwB w g = true then (fwS w g (sy, ru, he, be, nu, le, wh, di)).2.2.2.2.2.2.1 else w) (if fwB w g = true then (fun _ => false) else g) (fwS w g (sy, ru, he, be, nu, le, wh, di)))) S dL_law_290 (co_mend l D dA dZ au w g zF ma) (lw_V q232 q233 q234 q18 q235) (by decide +kernel) rfl (by decide) (by decide) hw [0, 1, 2, 3, 4] [5, 6, 7, 8, 9, 10, 11, 12, 13, 14, 15] rfl rfl (by decide) rfl (by decide) (by decide) rfl rfl hl.1 rfl (Nat.le_of_ble_eq_true rfl) (fun H locs hw => ?_)
  refine lv_icmp_eq (tgt := 354) S.1 S.2.1 dL_law_293 (by decide) (fun _ => ?_) (fun hc => absurd (by rw [(find_ok w g).1]) hc)
  exact kk (if fwB w g = true then (fwS w g (sy, ru, he, be, nu, le, wh, di)).2.2.2.2.2.2.1 else w) (if fwB w g = true then (fun _ => false) else g) (fwS w g (sy, ru, he, be, nu, le, wh, di)).1 (fwS w g (sy, ru, he, be, nu, le, wh, di)).2.1 (fwS w g (sy, ru, he, be, nu, le, wh, di)).2.2.1 (fwS w g (sy, ru, he, be, nu, le, wh, di)).2.2.2.1 (fwS w g (sy, ru, he, be, nu, le, wh, di)).2.2.2.2.1 (fwS w g (sy, ru, he, be, nu, le, wh, di)).2.2.2.2.2.1 (fwS w g (sy, ru, he, be, nu, le, wh, di)).2.2.2.2.2.2.1 (fwS w g (sy, ru, he, be, nu, le, wh, di)).2.2.2.2.2.2.2 (fdM w g zF) H locs (fwS_sy _ hsy) (hw.cg (congrArg ((wZ dA dZ ad (if fwB w g = true then (fwS w g (sy, ru, he, be, nu, le, wh, di)).2.2.2.2.2.2.1 else w) (if fwB w g = true then (fun _ => false) else g) (fwS w g (sy, ru, he, be, nu, le, wh, di))) ++ ·) (wO_eq (eq_mend _) eq_mendg e_rf e_rf)))
set_option maxHeartbeats 4000000 in
theorem la_8 {p : Program} {l : Launch} {e : Env} {s : State} {m : MethodId} {below : List Frame} {meth : Method} {c : Code} {b Ln : Nat} {sc : Nat → Int32} {D : va_G} {dA dZ : ClassId} {ad au : Nat → Nat} {i : Nat} {ls : Array Slot} {H : Heap} {locs : List Loc} {w : Nat → F8} {g : Nat → Bool} {sy ru he be nu : Nat → F8} {le : Nat} {wh : Nat → F8} {di : Nat} {ma : Nat → F8} (hL : Ln ≤ 256) (S : CallFix p m c cL_law 4 s #[Value.ref b] lw_all R_law) (hX : va_X b Ln sc s s.heap) (hbl : b < s.heap.size) (hi4 : i + 4 ≤ Ln) (hl : lv_has ls 4 [(0, .ref b), (1, .ref (ad 0)), (2, .ref (au 0)), (3, .int (nI i))]) (hsy : sy 0 = 0) (kk : ∀ (w : Nat → F8) (g : Nat → Bool) (sy ru he be nu : Nat → F8) (le : Nat) (wh : Nat → F8) (di : Nat) (ma : Nat → F8) (H : Heap) (locs : List Loc), sy 0 = 0 → Wd D dA dZ (fun q => s.heap.size ≤ q) s ((wM dA dZ ad w g sy ru he be nu le wh di) ++ (wO dA dZ au w g zF ma)) H locs → W p l e room_1 s m #[Value.ref b] below meth c H locs 16 124 (lw_Z below #[Value.ref b] s) (F0 m 354 ls [])) (hw : Wd D dA dZ (fun q => s.heap.size ≤ q) s ((wM dA dZ ad w g sy ru he be nu le wh di) ++ (wO dA dZ au w g zF ma)) H locs) : W p l e room_1 s m #[Value.ref b] below meth c H locs 16 124 (lw_Z below #[Value.ref b] s) (F0 m 298 ls []) := by
  cases hx : okS (sc (i + 1)) && okS (sc (i + 2)) with
  | false =>
    refine ir_ald_n S dL_law_298 hl 1 rfl ?_
    refine ir_ald_n S dL_law_299 hl 0 rfl ?_
    refine ir_ild_n S dL_law_300 hl 3 rfl ?_
    refine ir_ic S dL_law_301 (nI 1) (by decide) ?_
    refine ir_add S dL_law_302 ?_
    refine sc_ld S dL_law_303 hX hbl hw hL (by omega) rfl ?_
    refine ir_ald_n S dL_law_304 hl 0 rfl ?_
    refine ir_ild_n S dL_law_305 hl 3 rfl ?_
    refine ir_ic S dL_law_306 (nI 2) (by decide) ?_
    refine ir_add S dL_law_307 ?_
    refine sc_ld S dL_law_308 hX hbl hw hL (by omega) rfl ?_
    refine cj_I (ci := 0) (q0 := 0) (nA := 2) (As := [.int (sc (i + 1)), .int (sc (i + 2))]) (rest := []) (C := RX0) (wr := (wO dA dZ au w g zF ma)) S dL_law_309 (ct_productN l D dA dZ ad w g sy ru he be nu le wh di _ _ hx) (lw_V q144 q145 q146 q17 q147) (by decide +kernel) rfl (by decide) (by decide) hw [0, 1, 2, 3, 4, 5, 6, 7, 8, 9, 10] [11, 12, 13, 14, 15] rfl rfl (by decide) rfl (by decide) (by decide) rfl rfl hl.1 rfl (Nat.le_of_ble_eq_true rfl) (fun H locs hw => ?_)
    refine ir_ald_n S dL_law_312 hl 2 rfl ?_
    refine ir_ald_n S dL_law_313 hl 0 rfl ?_
    refine ir_ild_n S dL_law_314 hl 3 rfl ?_
    refine ir_ic S dL_law_315 (nI 1) (by decide) ?_
    refine ir_add S dL_law_316 ?_
    refine sc_ld S dL_law_317 hX hbl hw hL (by omega) rfl ?_
    refine ir_ald_n S dL_law_318 hl 0 rfl ?_
    refine ir_ild_n S dL_law_319 hl 3 rfl ?_
    refine ir_ic S dL_law_320 (nI 2) (by decide) ?_
    refine ir_add S dL_law_321 ?_
    refine sc_ld S dL_law_322 hX hbl hw hL (by omega) rfl ?_
    refine cj_I (ci := 1) (q0 := 0) (nA := 2) (As := [.int (sc (i + 1)), .int (sc (i + 2))]) (rest := [.int (-1)]) (C := RX1) (wr := (wM dA dZ ad w g sy ru he be nu le wh di)) S dL_law_323 (co_productN l D dA dZ au w g zF ma _ _ hx) (lw_V q236 q237 q238 q18 q239) (by decide +kernel) rfl (by decide) (by decide) hw [0, 1, 2, 3, 4] [5, 6, 7, 8, 9, 10, 11, 12, 13, 14, 15] rfl rfl (by decide) rfl (by decide) (by decide) rfl rfl hl.1 rfl (Nat.le_of_ble_eq_true rfl) (fun H locs hw => ?_)
    refine lv_icmp_eq (tgt := 354) S.1 S.2.1 dL_law_326 (by decide) (fun _ => ?_) (fun hc => absurd (rfl) hc)
    exact kk w g sy ru he be nu le wh di ma H locs hsy hw
  | true =>
    obtain ⟨hx1, hx2⟩ := bo_2 hx
    obtain ⟨x, ex1⟩ := okS_of hx1
    obtain ⟨y, ex2⟩ := okS_of hx2
    refine ir_ald_n S dL_law_298 hl 1 rfl ?_
    refine ir_ald_n S dL_law_299 hl 0 rfl ?_
    refine ir_ild_n S dL_law_300 hl 3 rfl ?_
    refine ir_ic S dL_law_301 (nI 1) (by decide) ?_
    refine ir_add S dL_law_302 ?_
    refine sc_ld S dL_law_303 hX hbl hw hL (by omega) ex1 ?_
    refine ir_ald_n S dL_law_304 hl 0 rfl ?_
    refine ir_ild_n S dL_law_305 hl 3 rfl ?_
    refine ir_ic S dL_law_306 (nI 2) (by decide) ?_
    refine ir_add S dL_law_307 ?_
    refine sc_ld S dL_law_308 hX hbl hw hL (by omega) ex2 ?_
    refine cj_I (ci := 0) (q0 := 0) (nA := 2) (As := [.int (nI x.val), .int (nI y.val)]) (rest := []) (C := RX0) (wr := (wO dA dZ au w g zF ma)) S dL_law_309 (ct_product l D dA dZ ad w g sy ru he be nu le wh di x y) (lw_V q144 q145 q146 q17 q147) (by decide +kernel) rfl (by decide) (by decide) hw [0, 1, 2, 3, 4, 5, 6, 7, 8, 9, 10] [11, 12, 13, 14, 15] rfl rfl (by decide) rfl (by decide) (by decide) rfl rfl hl.1 rfl (Nat.le_of_ble_eq_true rfl) (fun H locs hw => ?_)
    refine ir_ald_n S dL_law_312 hl 2 rfl ?_
    refine ir_ald_n S dL_law_313 hl 0 rfl ?_
    refine ir_ild_n S dL_law_314 hl 3 rfl ?_
    refine ir_ic S dL_law_315 (nI 1) (by decide) ?_
    refine ir_add S dL_law_316 ?_
    refine sc_ld S dL_law_317 hX hbl hw hL (by omega) ex1 ?_
    refine ir_ald_n S dL_law_318 hl 0 rfl ?_
    refine ir_ild_n S dL_law_319 hl 3 rfl ?_
    refine ir_ic S dL_law_320 (nI 2) (by decide) ?_
    refine ir_add S dL_law_321 ?_
    refine sc_ld S dL_law_322 hX hbl hw hL (by omega) ex2 ?_
    refine cj_I (ci := 1) (q0 := 0) (nA := 2) (As := [.int (nI x.val), .int (nI y.val)]) (rest := [.int (nI (gm x y).val)]) (C := RX1) (wr := (wM dA dZ ad w g sy ru he be nu le wh di)) S dL_law_323 (co_product l D dA dZ au w g zF ma x y) (lw_V q236 q237 q238 q18 q239) (by decide +kernel) rfl (by decide) (by decide) hw [0, 1, 2, 3, 4] [5, 6, 7, 8, 9, 10, 11, 12, 13, 14, 15] rfl rfl (by decide) rfl (by decide) (by decide) rfl rfl hl.1 rfl (Nat.le_of_ble_eq_true rfl) (fun H locs hw => ?_)
    refine lv_icmp_eq (tgt := 354) S.1 S.2.1 dL_law_326 (by decide) (fun _ => ?_) (fun hc => absurd (rfl) hc)
    exact kk w g sy ru he be nu le wh di ma H locs hsy hw
set_option maxHeartbeats 4000000 in
theorem la_9 {p : Program} {l : Launch} {e : Env} {s : State} {m : MethodId} {below : List Frame} {meth : Method} {c : Code} {b Ln : Nat} {sc : Nat → Int32} {D : va_G} {dA dZ : ClassId} {ad au : Nat → Nat} {i : Nat} {ls : Array Slot} {H : Heap} {locs : List Loc} {w : Nat → F8} {g : Nat → Bool} {sy ru he be nu : Nat → F8} {le : Nat} {wh : Nat → F8} {di : Nat} {ma : Nat → F8} (hL : Ln ≤ 256) (S : CallFix p m c cL_law 4 s #[Value.ref b] lw_all R_law) (hX : va_X b Ln sc s s.heap) (hbl : b < s.heap.size) (hi4 : i + 4 ≤ Ln) (hl : lv_has ls 4 [(0, .ref b), (1, .ref (ad 0)), (2, .ref (au 0)), (3, .int (nI i))]) (hsy : sy 0 = 0) (kk : ∀ (w : Nat → F8) (g : Nat → Bool) (sy ru he be nu : Nat → F8) (le : Nat) (wh : Nat → F8) (di : Nat) (ma : Nat → F8) (H : Heap) (locs : List Loc), sy 0 = 0 → Wd D dA dZ (fun q => s.heap.size ≤ q) s ((wM dA dZ ad w g sy ru he be nu le wh di) ++ (wO dA dZ au w g zF ma)) H locs → W p l e room_1 s m #[Value.ref b] below meth c H locs 16 124 (lw_Z below #[Value.ref b] s) (F0 m 354 ls [])) (hw : Wd D dA dZ (fun q => s.heap.size ≤ q) s ((wM dA dZ ad w g sy ru he be nu le wh di) ++ (wO dA dZ au w g zF ma)) H locs) : W p l e room_1 s m #[Value.ref b] below meth c H locs 16 124 (lw_Z below #[Value.ref b] s) (F0 m 331 ls []) := by
  cases hx : okS (sc (i + 1)) with
  | false =>
    refine ir_ald_n S dL_law_331 hl 1 rfl ?_
    refine ir_ald_n S dL_law_332 hl 0 rfl ?_
    refine ir_ild_n S dL_law_333 hl 3 rfl ?_
    refine ir_ic S dL_law_334 (nI 1) (by decide) ?_
    refine ir_add S dL_law_335 ?_
    refine sc_ld S dL_law_336 hX hbl hw hL (by omega) rfl ?_
    refine cj_I (ci := 0) (q0 := 0) (nA := 1) (As := [.int (sc (i + 1))]) (rest := []) (C := RX0) (wr := (wO dA dZ au w g zF ma)) S dL_law_337 (ct_valueN l D dA dZ ad w g sy ru he be nu le wh di _ hx) (lw_V q148 q149 q150 q17 q151) (by decide +kernel) rfl (by decide) (by decide) hw [0, 1, 2, 3, 4, 5, 6, 7, 8, 9, 10] [11, 12, 13, 14, 15] rfl rfl (by decide) rfl (by decide) (by decide) rfl rfl hl.1 rfl (Nat.le_of_ble_eq_true rfl) (fun H locs hw => ?_)
    refine ir_ald_n S dL_law_340 hl 2 rfl ?_
    refine ir_ald_n S dL_law_341 hl 0 rfl ?_
    refine ir_ild_n S dL_law_342 hl 3 rfl ?_
    refine ir_ic S dL_law_343 (nI 1) (by decide) ?_
    refine ir_add S dL_law_344 ?_
    refine sc_ld S dL_law_345 hX hbl hw hL (by omega) rfl ?_
    refine cj_I (ci := 1) (q0 := 0) (nA := 1) (As := [.int (sc (i + 1))]) (rest := [.int (-1)]) (C := RX1) (wr := (wM dA dZ ad w g sy ru he be nu le wh di)) S dL_law_346 (co_valueN l D dA dZ au w g zF ma _ hx) (lw_V q240 q241 q242 q18 q243) (by decide +kernel) rfl (by decide) (by decide) hw [0, 1, 2, 3, 4] [5, 6, 7, 8, 9, 10, 11, 12, 13, 14, 15] rfl rfl (by decide) rfl (by decide) (by decide) rfl rfl hl.1 rfl (Nat.le_of_ble_eq_true rfl) (fun H locs hw => ?_)
    refine lv_icmp_eq (tgt := 354) S.1 S.2.1 dL_law_349 (by decide) (fun _ => ?_) (fun hc => absurd (rfl) hc)
    exact kk w g sy ru he be nu le wh di ma H locs hsy hw
  | true =>
    obtain ⟨x, ex1⟩ := okS_of hx
    refine ir_ald_n S dL_law_331 hl 1 rfl ?_
    refine ir_ald_n S dL_law_332 hl 0 rfl ?_
    refine ir_ild_n S dL_law_333 hl 3 rfl ?_
    refine ir_ic S dL_law_334 (nI 1) (by decide) ?_
    refine ir_add S dL_law_335 ?_
    refine sc_ld S dL_law_336 hX hbl hw hL (by omega) ex1 ?_
    refine cj_I (ci := 0) (q0 := 0) (nA := 1) (As := [.int (nI x.val)]) (rest := []) (C := RX0) (wr := (wO dA dZ au w g zF ma)) S dL_law_337 (ct_value l D dA dZ ad w g sy ru he be nu le wh di x) (lw_V q148 q149 q150 q17 q151) (by decide +kernel) rfl (by decide) (by decide) hw [0, 1, 2, 3, 4, 5, 6, 7, 8, 9, 10] [11, 12, 13, 14, 15] rfl rfl (by decide) rfl (by decide) (by decide) rfl rfl hl.1 rfl (Nat.le_of_ble_eq_true rfl) (fun H locs hw => ?_)
    refine ir_ald_n S dL_law_340 hl 2 rfl ?_
    refine ir_ald_n S dL_law_341 hl 0 rfl ?_
    refine ir_ild_n S dL_law_342 hl 3 rfl ?_
    refine ir_ic S dL_law_343 (nI 1) (by decide) ?_
    refine ir_add S dL_law_344 ?_
    refine sc_ld S dL_law_345 hX hbl hw hL (by omega) ex1 ?_
    refine cj_I (ci := 1) (q0 := 0) (nA := 1) (As := [.int (nI x.val)]) (rest := [.int (nI (hv w x 7 0).val)]) (C := RX1) (wr := (wM dA dZ ad w g sy ru he be nu le wh di)) S dL_law_346 (co_value l D dA dZ au w g zF ma x) (lw_V q240 q241 q242 q18 q243) (by decide +kernel) rfl (by decide) (by decide) hw [0, 1, 2, 3, 4] [5, 6, 7, 8, 9, 10, 11, 12, 13, 14, 15] rfl rfl (by decide) rfl (by decide) (by decide) rfl rfl hl.1 rfl (Nat.le_of_ble_eq_true rfl) (fun H locs hw => ?_)
    refine lv_icmp_eq (tgt := 354) S.1 S.2.1 dL_law_349 (by decide) (fun _ => ?_) (fun hc => absurd (by rw [hv7]) hc)
    exact kk w g sy ru he be nu le wh di ma H locs hsy hw
end
section
set_option maxRecDepth 100000
theorem lh_lt {i Ln : Nat} (hL : Ln ≤ 256) (hi : i ≤ 256) : nI Ln - nI 4 < nI i ↔ Ln < i + 4 := by
  have hz : ∀ k : Fin 4, nI k.val - nI 4 < 0 := by decide +kernel
  by_cases h : 4 ≤ Ln
  · rw [pk_sub h, nI_ltI (by omega) (by omega)]
    omega
  · refine ⟨fun _ => by omega, fun _ => ?_⟩
    exact Int32.lt_of_lt_of_le (hz ⟨Ln, by omega⟩) (nI_pos' (by omega))
theorem sw_out {v : Int32} (h0 : ¬ v = 0) (h1 : ¬ v = 1) (h2 : ¬ v = 2) (h3 : ¬ v = 3) (h4 : ¬ v = 4) (h5 : ¬ v = 5) (h6 : ¬ v = 6) (h7 : ¬ v = 7) (h8 : ¬ v = 8) (h9 : ¬ v = 9) : v.toInt < 0 ∨ 9 < v.toInt := by
  have q0 : ¬ v.toInt = 0 := fun h => h0 (Int32.toInt_inj.mp (h.trans (by decide)))
  have q1 : ¬ v.toInt = 1 := fun h => h1 (Int32.toInt_inj.mp (h.trans (by decide)))
  have q2 : ¬ v.toInt = 2 := fun h => h2 (Int32.toInt_inj.mp (h.trans (by decide)))
  have q3 : ¬ v.toInt = 3 := fun h => h3 (Int32.toInt_inj.mp (h.trans (by decide)))
  have q4 : ¬ v.toInt = 4 := fun h => h4 (Int32.toInt_inj.mp (h.trans (by decide)))
  have q5 : ¬ v.toInt = 5 := fun h => h5 (Int32.toInt_inj.mp (h.trans (by decide)))
  have q6 : ¬ v.toInt = 6 := fun h => h6 (Int32.toInt_inj.mp (h.trans (by decide)))
  have q7 : ¬ v.toInt = 7 := fun h => h7 (Int32.toInt_inj.mp (h.trans (by decide)))
  have q8 : ¬ v.toInt = 8 := fun h => h8 (Int32.toInt_inj.mp (h.trans (by decide)))
  have q9 : ¬ v.toInt = 9 := fun h => h9 (Int32.toInt_inj.mp (h.trans (by decide)))
  omega
set_option maxHeartbeats 4000000 in
theorem lw_loop {p : Program} {l : Launch} {e : Env} {s : State} {m : MethodId} {below : List Frame} {meth : Method} {c : Code} {b Ln : Nat} {sc : Nat → Int32} {D : va_G} {dA dZ : ClassId} {ad au : Nat → Nat} (hL : Ln ≤ 256) (S : CallFix p m c cL_law 4 s #[Value.ref b] lw_all R_law) (hr : meth.sig.returnType = ret) (hlk : meth.locks = false) (hX : va_X b Ln sc s s.heap) (hbl : b < s.heap.size) : ∀ (n i : Nat), Ln + 1 ≤ i + n → i ≤ 256 → ∀ (w : Nat → F8) (g : Nat → Bool) (sy ru he be nu : Nat → F8) (le : Nat) (wh : Nat → F8) (di : Nat) (ma : Nat → F8) (H : Heap) (locs : List Loc) (ls : Array Slot), lv_has ls 4 [(0, .ref b), (1, .ref (ad 0)), (2, .ref (au 0)), (3, .int (nI i))] → sy 0 = 0 → Wd D dA dZ (fun q => s.heap.size ≤ q) s ((wM dA dZ ad w g sy ru he be nu le wh di) ++ (wO dA dZ au w g zF ma)) H locs → W p l e room_1 s m #[Value.ref b] below meth c H locs 16 124 (lw_Z below #[Value.ref b] s) (F0 m 18 ls []) := by
  intro n
  induction n with
  | zero =>
    intro i hn hi w g sy ru he be nu le wh di ma H locs ls hl hsy hw
    refine ir_ild_n S dL_law_18 hl 3 rfl ?_
    refine ir_ald_n S dL_law_19 hl 0 rfl ?_
    refine va_slen S.1 S.2.1 hX hbl (Nat.not_le.mpr hbl) hw.2.2.2.1 dL_law_20 ?_
    refine ir_ic S dL_law_21 (nI 4) (by decide) ?_
    refine lv_isub S.1 S.2.1 dL_law_22 ?_
    refine lv_icmp_gt (tgt := 360) S.1 S.2.1 dL_law_23 (by decide) (fun hc => ?_) (fun hc => ?_)
    · refine ir_ic S dL_law_360 1 (by decide) ?_
      refine va_forget hw.2.2.2.1.2.2 ?_
      refine W.widen (k := 600000) (n := 7290000) (by decide) (by decide) ?_
      exact lw_ret S.1 S.2.1 hr hlk dL_law_361
    · exact absurd ((lh_lt hL hi).mpr (by omega)) hc
  | succ n ih =>
    intro i hn hi w g sy ru he be nu le wh di ma H locs ls hl hsy hw
    refine ir_ild_n S dL_law_18 hl 3 rfl ?_
    refine ir_ald_n S dL_law_19 hl 0 rfl ?_
    refine va_slen S.1 S.2.1 hX hbl (Nat.not_le.mpr hbl) hw.2.2.2.1 dL_law_20 ?_
    refine ir_ic S dL_law_21 (nI 4) (by decide) ?_
    refine lv_isub S.1 S.2.1 dL_law_22 ?_
    refine lv_icmp_gt (tgt := 360) S.1 S.2.1 dL_law_23 (by decide) (fun hc => ?_) (fun hc => ?_)
    · refine ir_ic S dL_law_360 1 (by decide) ?_
      refine va_forget hw.2.2.2.1.2.2 ?_
      refine W.widen (k := 600000) (n := 7290000) (by decide) (by decide) ?_
      exact lw_ret S.1 S.2.1 hr hlk dL_law_361
    · have hi4 : i + 4 ≤ Ln := Nat.not_lt.mp (fun q => hc ((lh_lt hL hi).mpr q))
      have k354 : ∀ (w : Nat → F8) (g : Nat → Bool) (sy ru he be nu : Nat → F8) (le : Nat) (wh : Nat → F8) (di : Nat) (ma : Nat → F8) (H : Heap) (locs : List Loc), sy 0 = 0 → Wd D dA dZ (fun q => s.heap.size ≤ q) s ((wM dA dZ ad w g sy ru he be nu le wh di) ++ (wO dA dZ au w g zF ma)) H locs → W p l e room_1 s m #[Value.ref b] below meth c H locs 16 124 (lw_Z below #[Value.ref b] s) (F0 m 354 ls []) := by
        intro w g sy ru he be nu le wh di ma H locs hsy hw
        refine ir_in4 (lv1 := [(0, .ref b), (1, .ref (ad 0)), (2, .ref (au 0)), (3, .int (nI (i + 4)))]) S dL_law_354 hl 3 rfl [1, 2, 3, 0] (by decide) rfl (fun ls hl => ?_)
        refine ir_goto 18 S dL_law_357 (by decide) ?_
        exact ih (i + 4) (by omega) (by omega) w g sy ru he be nu le wh di ma H locs ls hl hsy hw
      refine ir_ald_n S dL_law_26 hl 0 rfl ?_
      refine ir_ild_n S dL_law_27 hl 3 rfl ?_
      refine sc_ld S dL_law_28 hX hbl hw hL (by omega) rfl ?_
      refine ir_bi S dL_law_29 15 (by decide) ?_
      refine lv_iand S.1 S.2.1 dL_law_31 ?_
      generalize sc i &&& 15 = v
      by_cases h0 : v = 0
      · rw [h0]
        refine lv_tableIn (tgt := 88) (off := 56) S.1 S.2.1 dL_law_32 (by decide) (by decide) (by decide) (by decide) ?_
        exact la_0 hL S hX hbl hi4 hl hsy k354 hw
      by_cases h1 : v = 1
      · rw [h1]
        refine lv_tableIn (tgt := 131) (off := 99) S.1 S.2.1 dL_law_32 (by decide) (by decide) (by decide) (by decide) ?_
        exact la_1 hL S hX hbl hi4 hl hsy k354 hw
      by_cases h2 : v = 2
      · rw [h2]
        refine lv_tableIn (tgt := 164) (off := 132) S.1 S.2.1 dL_law_32 (by decide) (by decide) (by decide) (by decide) ?_
        exact la_2 hL S hX hbl hi4 hl hsy k354 hw
      by_cases h3 : v = 3
      · rw [h3]
        refine lv_tableIn (tgt := 213) (off := 181) S.1 S.2.1 dL_law_32 (by decide) (by decide) (by decide) (by decide) ?_
        exact la_3 hL S hX hbl hi4 hl hsy k354 hw
      by_cases h4 : v = 4
      · rw [h4]
        refine lv_tableIn (tgt := 236) (off := 204) S.1 S.2.1 dL_law_32 (by decide) (by decide) (by decide) (by decide) ?_
        exact la_4 hL S hX hbl hi4 hl hsy k354 hw
      by_cases h5 : v = 5
      · rw [h5]
        refine lv_tableIn (tgt := 249) (off := 217) S.1 S.2.1 dL_law_32 (by decide) (by decide) (by decide) (by decide) ?_
        exact la_5 hL S hX hbl hi4 hl hsy k354 hw
      by_cases h6 : v = 6
      · rw [h6]
        refine lv_tableIn (tgt := 272) (off := 240) S.1 S.2.1 dL_law_32 (by decide) (by decide) (by decide) (by decide) ?_
        exact la_6 hL S hX hbl hi4 hl hsy k354 hw
      by_cases h7 : v = 7
      · rw [h7]
        refine lv_tableIn (tgt := 285) (off := 253) S.1 S.2.1 dL_law_32 (by decide) (by decide) (by decide) (by decide) ?_
        exact la_7 hL S hX hbl hi4 hl hsy k354 hw
      by_cases h8 : v = 8
      · rw [h8]
        refine lv_tableIn (tgt := 298) (off := 266) S.1 S.2.1 dL_law_32 (by decide) (by decide) (by decide) (by decide) ?_
        exact la_8 hL S hX hbl hi4 hl hsy k354 hw
      by_cases h9 : v = 9
      · rw [h9]
        refine lv_tableIn (tgt := 331) (off := 299) S.1 S.2.1 dL_law_32 (by decide) (by decide) (by decide) (by decide) ?_
        exact la_9 hL S hX hbl hi4 hl hsy k354 hw
      exact lv_tableOut (tgt := 354) S.1 S.2.1 dL_law_32 (sw_out h0 h1 h2 h3 h4 h5 h6 h7 h8 h9) (by decide) (k354 w g sy ru he be nu le wh di ma H locs hsy hw)
end
section
set_option maxRecDepth 100000
set_option maxHeartbeats 4000000 in
theorem whole_start {p : Program} {e : Env} {s : State} {m : MethodId} {below : List Frame} {meth : Method} {c : Code} (l : Launch) {b L : Nat} {xs : Nat → Int32} (hL : L ≤ 256) (C0 : lw_At p s m meth c b L xs) : W p l e room_1 s m #[Value.ref b] below meth c s.heap [] 0 0 (lw_Z below #[Value.ref b] s) (entryFrame m ([Value.ref b] : List Value).toArray 4) := by
  obtain ⟨hx, hb, hr, hml, hown, hts0, hX, hbl, hlk, hgv⟩ := id C0
  have hts : ∀ w ∈ lw_all, w.before #[Value.ref b] s = true := fun w h => hts0 w (lw_all_tbl h)
  have S : CallFix p m c cL_law 4 s #[Value.ref b] lw_all R_law := ⟨hx, hb, hml, hown, hts⟩
  obtain ⟨c0, iS0, hKn0⟩ := u_known (C := RX0) (T := TX0) (N := 12) (n := 12) hts in_X0 (hts _ q20)
  obtain ⟨c1, iS1, hKn1⟩ := u_known (C := RX1) (T := TX1) (N := 4) (n := 4) hts in_X1 (hts _ q153)
  obtain ⟨D, hKc⟩ : ∃ D : va_G, ∀ (k : Nat) (q : vw_C), vwCl[k]? = some q → u_Kn s q.1 q.2.1 q.2.2 (D.1 k) (D.2 k) := by
    refine ⟨(fun k => if k = 0 then c0 else c1, fun k => if k = 0 then iS0 else iS1), ?_⟩
    intro k q hq
    match k, hq with
    | 0, hq => cases hq; exact hKn0
    | 1, hq => cases hq; exact hKn1
    | k + 2, hq => simp [vwCl] at hq
  obtain ⟨dA, kA, compA, a1, a2, a3⟩ := Cond.arrayClass_spec (hts _ q64)
  obtain ⟨dZ, kZ, compZ, z1, z2, z3⟩ := Cond.arrayClass_spec (hts _ q65)
  have hK : va_K D vwCl (tyL dA dZ) s := by
    refine ⟨hKc, fun k q hq => ?_⟩
    match k, hq with
    | 0, hq => cases hq; exact ⟨fun n z => ⟨fun k h => (by cases h), kA, a2, compA, a3⟩, a1⟩
    | 1, hq => cases hq; exact ⟨fun n z => ⟨fun k h => (by cases h), kZ, z2, compZ, z3⟩, z1⟩
    | k + 2, hq => simp at hq
  have hw : Wd D dA dZ (fun q => s.heap.size ≤ q) s [] s.heap [] := ⟨hK, fun k q hq => by simp at hq, ⟨fun i j p q hi => by simp at hi, fun k q hq => by simp at hq⟩, va_S.rf, fun _ h => h⟩
  have hl := lv_entry ([.ref b]) (n := 4) (Nat.le_of_ble_eq_true rfl)
  rw [lg_entry_eq]
  generalize (lg_sl ([.ref b]) ++ List.replicate (4 - (lg_sl ([.ref b])).length) Slot.unset).toArray = ls at hl ⊢
  have hl : lv_has ls 4 [(0, .ref b)] := hl
  refine va_new (ci := 0) (fs := [.null, .null, .null, .null, .null, .null, .null, .null, .null, .int (nI 0), .null, .int (nI 0)]) (C := RX0) (T := TX0) (N := 12) S.1 S.2.1 hts in_X0 tyX0 tyX0_ok hown (hts _ q19) (hts _ q20) (hts _ q17) hw.1 hw.2.1 hw.2.2.1 hw.2.2.2.1 hw.2.2.2.2 rfl (fun j hj => ?_) (by decide) (by decide) dL_law_0 (fun h0 H hP hD hS => ?_)
  · rcases (show j = 0 ∨ j = 1 ∨ j = 2 ∨ j = 3 ∨ j = 4 ∨ j = 5 ∨ j = 6 ∨ j = 7 ∨ j = 8 ∨ j = 9 ∨ j = 10 ∨ j = 11 by omega) with rfl | rfl | rfl | rfl | rfl | rfl | rfl | rfl | rfl | rfl | rfl | rfl <;> rfl
  have hw : Wd D dA dZ (fun q => s.heap.size ≤ q) s (wB0 h0) H [] := ⟨hK, hP, hD, hS, fun _ h => h⟩
  refine lv_dup S.1 S.2.1 dL_law_3 rfl ?_
  refine cj_N (rest := [.ref h0]) (wr := []) S dL_law_4 (ct_init0 l D dA dZ h0) (lw_meth q23) q17 q21 q22 rfl (by decide +kernel) (by decide) (by decide) hw [0] [] rfl rfl (by decide) rfl (by decide) (by decide) hl.1 rfl (Nat.le_of_ble_eq_true rfl) (fun ad H locs had hwN => ?_)
  subst had
  clear hw
  have hw := hwN
  refine ir_ast_n (lv1 := [(0, .ref b), (1, .ref (ad 0))]) S dL_law_7 hl [1, 0] (by decide) rfl (fun ls hl => ?_)
  refine va_new (ci := 1) (fs := [.null, .null, .null, .null]) (C := RX1) (T := TX1) (N := 4) S.1 S.2.1 hts in_X1 tyX1 tyX1_ok hown (hts _ q152) (hts _ q153) (hts _ q18) hw.1 hw.2.1 hw.2.2.1 hw.2.2.2.1 hw.2.2.2.2 rfl (fun j hj => ?_) (by decide) (by decide) dL_law_8 (fun h1 H hP hD hS => ?_)
  · rcases (show j = 0 ∨ j = 1 ∨ j = 2 ∨ j = 3 by omega) with rfl | rfl | rfl | rfl <;> rfl
  have hw : Wd D dA dZ (fun q => s.heap.size ≤ q) s (wM dA dZ ad (fun _ => 0) (fun _ => false) (fun _ => 0) (fun _ => 0) (fun _ => 0) (fun _ => 0) (fun _ => 0) 0 (fun _ => 0) 0 ++ wB1 h1) H locs := ⟨hK, hP, hD, hS, fun _ h => h⟩
  refine lv_dup S.1 S.2.1 dL_law_11 rfl ?_
  refine cj_N (rest := [.ref h1]) (wr := wM dA dZ ad (fun _ => 0) (fun _ => false) (fun _ => 0) (fun _ => 0) (fun _ => 0) (fun _ => 0) (fun _ => 0) 0 (fun _ => 0) 0) S dL_law_12 (ct_init1 l D dA dZ h1) (lw_meth q156) q18 q154 q155 rfl (by decide +kernel) (by decide) (by decide) hw [11] [0, 1, 2, 3, 4, 5, 6, 7, 8, 9, 10] rfl rfl (by decide) rfl (by decide) (by decide) hl.1 rfl (Nat.le_of_ble_eq_true rfl) (fun au H locs hau hwN => ?_)
  subst hau
  clear hw
  have hw := hwN
  refine ir_ast_n (lv1 := [(0, .ref b), (1, .ref (ad 0)), (2, .ref (au 0))]) S dL_law_15 hl [1, 2, 0] (by decide) rfl (fun ls hl => ?_)
  refine ir_ic S dL_law_16 (nI 0) (by decide) ?_
  refine ir_st_n (lv1 := [(0, .ref b), (1, .ref (ad 0)), (2, .ref (au 0)), (3, .int (nI 0))]) S dL_law_17 hl [1, 2, 3, 0] (by decide) rfl (fun ls hl => ?_)
  refine W.widen (k := 16) (n := 124) (by decide) (by decide) ?_
  exact lw_loop hL S hr hlk hX hbl 257 0 (by omega) (by omega) (fun _ => 0) (fun _ => false) (fun _ => 0) (fun _ => 0) (fun _ => 0) (fun _ => 0) (fun _ => 0) 0 (fun _ => 0) 0 (fun _ => 0) H locs ls hl rfl (hw.cg (congrArg (_ ++ ·) (wO_eq e_rf e_rf zeC_ok e_rf)))
set_option maxHeartbeats 4000000 in
theorem lw_walk (l : Launch) (b : Addr) (xs : List Int32) : MetFree l x (headSpec (Jvm.Cond.code x code maxLocals ret :: tables_1) room_1) (lw_P b xs) (fun _ _ _ _ _ => True) lw_Q := by
  refine MetFree.of_bodyS (code := code) (maxLocals := maxLocals) (ret := ret) (by decide) ?_ ?_
  · intro args s m h hn
    obtain ⟨meth, c, h1, h2, h3, h4, h5, h6, -, -⟩ := Cond.code_spec hn (atoms_spec (ws := Jvm.Cond.code x code maxLocals ret :: tables_1) h _ List.mem_cons_self)
    exact ⟨meth, c, h1, h2, h3, h4, h5, h6⟩
  · intro p e s m args below meth c s₁ B hml0 hP _
    obtain ⟨rfl, hx, hbd, hgv⟩ := hP
    obtain ⟨scr, harrAt, hlist, hof, hsmall⟩ := hx
    obtain ⟨hcb, hkn, -, -⟩ := State.arrayAt?_spec harrAt
    have hown : s.vm.findClass R_law = some m.cls := findClass_of_methodNamed B.named
    have hts0 : ∀ c ∈ (Jvm.Cond.code x code maxLocals ret :: tables_1), c.before #[Value.ref b] s = true := atoms_spec (ws := Jvm.Cond.code x code maxLocals ret :: tables_1) B.pre
    have hts : ∀ w ∈ lw_tbl, w.before #[Value.ref b] s = true := k2_hts_sels lw_privs (fun w hw => hts0 w (List.mem_cons_of_mem _ hw)) lw_privs_ok
    have hml : c.maxLocals = 4 := B.maxLocals_eq (hts0 _ List.mem_cons_self)
    have X₀ : Stand p l e room_1 s m #[Value.ref b] below meth c s₁ [] 0 0 := Stand.of_body B
    have hh0 : s₁.heap = s.heap := by rw [B.state]; rfl
    have hsz : scr.slots.size = xs.length := by rw [← Array.length_toList, hlist, List.length_map]
    have hval : ∀ j : Nat, j < xs.length → scr.slots[j]? = some (.int (xs.getD j 0)) := fun j hj => by
      rw [← Array.getElem?_toList, hlist]
      simp [hj]
    have hbl : b < s.heap.size := (Array.getElem?_eq_some_iff.mp hcb).1
    have hX : va_X b xs.length (fun j => xs.getD j 0) s s.heap := ⟨scr, hcb, hof, hkn, hsz, hval⟩
    have K : W p l e room_1 s m #[Value.ref b] below meth c s₁.heap [] 0 0 (lw_Z below #[Value.ref b] s) (entryFrame m ([Value.ref b] : List Value).toArray 4) := by
      rw [hh0]
      exact whole_start l hbd ⟨B.exec, B.bytes, B.returns, hml, hown, hts, hX, hbl, B.notSynchronized, hgv⟩
    obtain ⟨t, a1, o, b1, b2, b3⟩ := K s₁ rfl X₀
    exact ⟨t, o, a1, b1, b2, b3⟩
theorem lw_pre_spec {args : Array Value} {s : State} (h : (Jvm.Cond.and given_1 narrow_1).before args s = true) (hr : rest_1_c.before args s = true) : ∃ (b : Addr) (xs : List Int32), lw_P b xs args s := by
  have hs := flat_of_before _ h
  have hq := flat_of_before _ hr
  have hc : (Cond.count 1).before args s = true := hs _ (by decide +kernel)
  have harr : (Cond.arrayOf (.arg 0) .int).before args s = true := hs _ (by decide +kernel)
  have hle : (Cond.le (.length (.arg 0)) (.int 256)).before args s = true := hs _ (by decide +kernel)
  have hlen : (Cond.isInt (.length (.arg 0))).before args s = true := hq _ (by decide +kernel)
  have hall : (Cond.all (.arg 0) (.isInt (.elem (.arg 0) (.index 0)))).before args s = true := hq _ (by decide +kernel)
  obtain ⟨b, xs, hb, hx⟩ := State.ints_of_pre rfl harr hlen hall
  have hsm : xs.length < 2 ^ 31 := hx.choose_spec.2.2.2
  have hev : (Term.length (.arg 0)).eval args s none [] s = some (.int xs.length.toInt32) := hx.length_eval hb
  have hv := Cond.le_ints hev (show (Term.int 256).eval args s none [] s = some (.int 256) from rfl)
  have hd : xs.length.toInt32 ≤ 256 := by
    simpa [Cond.before, Cond.holds, hv] using hle
  have hN : xs.length ≤ 256 := (Int32.ofNat_le_ofNat hsm (by decide)).mp (show Int32.ofNat xs.length ≤ Int32.ofNat 256 from hd)
  exact ⟨b, xs, Cond.one_arg hc (show args[0]? = some (.ref b) from hb), hx, hN, h⟩
theorem lw_comes (l : Launch) : Comes l x (Jvm.Cond.code x code maxLocals ret :: tables_1) room_1 (fun tb e args s => Calls_1 tb e args s ∧ rest_1 tb e args s ∧ Pre_1 tb e args s)
    (fun _ _ args s o t => lw_Q args s o t) := by
  intro p e ha hc hk s m args below hf hfit hheap happ hpre
  obtain ⟨b, xs, hP⟩ := lw_pre_spec hpre.2.2 hpre.2.1
  obtain ⟨k, o, h1, h2, h3, hQ⟩ := lw_walk l b xs p e ha hc hk s m args below hf ((Spec.applies_iff_loose hf).mp happ).1 hP trivial
  exact ⟨k, o, h1, h2, h3, hQ⟩
theorem lw_frame {s t : State} {o : Outcome} {args : Array Value} (h : Framed s o t [] 600000 7290000) :
    Framed s o t (fieldLocs frame_1_writes args s ++ arrayLocs frame_1_arrays args s ++ staticLocs frame_1_statics s) 600000 7290000 := h
theorem lw_limb (L : Cond) (hL : ∀ (args : Array Value) (s t : State), L.after args s (.returned (some (.int 1))) t = true) :
    ArmFor flags0 classFile x code maxLocals ret World_1 tables_1 room_1 Calls_1 rest_1 Pre_1
      (fun tb e a s o t => postC L tb e a s o t ∧ Framed s o t (fieldLocs frame_1_writes a s ++ arrayLocs frame_1_arrays a s ++ staticLocs frame_1_statics s) 600000 7290000) := by
  intro l _ _ _ p e ha hc hk s m args below hf hfit hheap happ hpre
  obtain ⟨k, o, h1, h2, h3, rfl, hF⟩ := lw_comes l p e ha hc hk s m args below hf hfit hheap happ hpre
  exact ⟨k, _, h1, h2, h3, hL args s _, lw_frame hF⟩
theorem i_vc : Claimed_1_1 ∧ Claimed_1_2 := ⟨lw_limb limb_1_1 (fun args s t => by simp [limb_1_1, Cond.after, Cond.holds, Cond.value]), lw_limb limb_1_2 (fun args s t => Cond.after_iff.mpr (by
  first | (rw [show limb_1_2 = Cond.eq .result (.int 1) from rfl, Cond.eq_ints (x := 1) (y := 1) rfl rfl]; simp; done) | (simp [limb_1_2, Cond.value, Term.eval]; done)))⟩
end
