section
-- ===== PART A: goes FIRST, ahead of the names: the tables' words, and 'selects' of the private methods out of them =====
/-- a private method of a class that the tables say can be made, by its rows of tables_1 -/
def lw_okq (q : MethodName × Nat) : Prop := (q.1.cls ≠ "java/lang/invoke/MethodHandle" ∧ q.1.cls ≠ "java/lang/invoke/VarHandle") ∧ Cond.instantiable q.1.cls q.2 ∈ tables_1 ∧ Cond.privateMethod q.1 ∈ tables_1 ∧ Cond.instanceMethod q.1 ∈ tables_1
set_option maxRecDepth 100000
theorem lw_p0 : lw_okq (⟨"TightRange", "addOrSubtract", "(III)V"⟩, 4) := ⟨⟨by decide +kernel, by decide +kernel⟩, List.mem_of_getElem? (i := 4) rfl, List.mem_of_getElem? (i := 37) rfl, List.mem_of_getElem? (i := 38) rfl⟩
theorem lw_p1 : lw_okq (⟨"TightRange", "keep", "(II)V"⟩, 4) := ⟨⟨by decide +kernel, by decide +kernel⟩, List.mem_of_getElem? (i := 4) rfl, List.mem_of_getElem? (i := 41) rfl, List.mem_of_getElem? (i := 42) rfl⟩
theorem lw_p2 : lw_okq (⟨"TightRange", "bitwise", "(IIIII)V"⟩, 4) := ⟨⟨by decide +kernel, by decide +kernel⟩, List.mem_of_getElem? (i := 4) rfl, List.mem_of_getElem? (i := 45) rfl, List.mem_of_getElem? (i := 46) rfl⟩
theorem lw_p3 : lw_okq (⟨"TightRange", "multiplyOrDivide", "(III)V"⟩, 4) := ⟨⟨by decide +kernel, by decide +kernel⟩, List.mem_of_getElem? (i := 4) rfl, List.mem_of_getElem? (i := 67) rfl, List.mem_of_getElem? (i := 68) rfl⟩
theorem lw_p4 : lw_okq (⟨"TightRange", "distance", "(II)V"⟩, 4) := ⟨⟨by decide +kernel, by decide +kernel⟩, List.mem_of_getElem? (i := 4) rfl, List.mem_of_getElem? (i := 71) rfl, List.mem_of_getElem? (i := 72) rfl⟩
theorem lw_p5 : lw_okq (⟨"TightRange", "compareEnds", "(III)V"⟩, 4) := ⟨⟨by decide +kernel, by decide +kernel⟩, List.mem_of_getElem? (i := 4) rfl, List.mem_of_getElem? (i := 78) rfl, List.mem_of_getElem? (i := 79) rfl⟩
theorem lw_p6 : lw_okq (⟨"TightRange", "countOnes", "(II)V"⟩, 4) := ⟨⟨by decide +kernel, by decide +kernel⟩, List.mem_of_getElem? (i := 4) rfl, List.mem_of_getElem? (i := 89) rfl, List.mem_of_getElem? (i := 90) rfl⟩
theorem lw_p7 : lw_okq (⟨"TightRange", "doubled", "(II)V"⟩, 4) := ⟨⟨by decide +kernel, by decide +kernel⟩, List.mem_of_getElem? (i := 4) rfl, List.mem_of_getElem? (i := 102) rfl, List.mem_of_getElem? (i := 103) rfl⟩
theorem lw_p8 : lw_okq (⟨"TightRangeModel", "pair", "(III)V"⟩, 4) := ⟨⟨by decide +kernel, by decide +kernel⟩, List.mem_of_getElem? (i := 125) rfl, List.mem_of_getElem? (i := 155) rfl, List.mem_of_getElem? (i := 156) rfl⟩
theorem lw_p9 : lw_okq (⟨"TightRangeModel", "result", "(I)V"⟩, 4) := ⟨⟨by decide +kernel, by decide +kernel⟩, List.mem_of_getElem? (i := 125) rfl, List.mem_of_getElem? (i := 162) rfl, List.mem_of_getElem? (i := 163) rfl⟩
theorem lw_p10 : lw_okq (⟨"TightRangeModel", "keep", "(I)I"⟩, 4) := ⟨⟨by decide +kernel, by decide +kernel⟩, List.mem_of_getElem? (i := 125) rfl, List.mem_of_getElem? (i := 166) rfl, List.mem_of_getElem? (i := 167) rfl⟩
def lw_privs_1 : List (MethodName × Nat) := [(⟨"TightRange", "addOrSubtract", "(III)V"⟩, 4), (⟨"TightRange", "keep", "(II)V"⟩, 4), (⟨"TightRange", "bitwise", "(IIIII)V"⟩, 4), (⟨"TightRange", "multiplyOrDivide", "(III)V"⟩, 4), (⟨"TightRange", "distance", "(II)V"⟩, 4), (⟨"TightRange", "compareEnds", "(III)V"⟩, 4), (⟨"TightRange", "countOnes", "(II)V"⟩, 4), (⟨"TightRange", "doubled", "(II)V"⟩, 4), (⟨"TightRangeModel", "pair", "(III)V"⟩, 4), (⟨"TightRangeModel", "result", "(I)V"⟩, 4), (⟨"TightRangeModel", "keep", "(I)I"⟩, 4)]
theorem lw_r1 : ∀ q ∈ lw_privs_1, lw_okq q := List.forall_mem_cons.mpr ⟨lw_p0, List.forall_mem_cons.mpr ⟨lw_p1, List.forall_mem_cons.mpr ⟨lw_p2, List.forall_mem_cons.mpr ⟨lw_p3, List.forall_mem_cons.mpr ⟨lw_p4, List.forall_mem_cons.mpr ⟨lw_p5, List.forall_mem_cons.mpr ⟨lw_p6, List.forall_mem_cons.mpr ⟨lw_p7, List.forall_mem_cons.mpr ⟨lw_p8, List.forall_mem_cons.mpr ⟨lw_p9, List.forall_mem_cons.mpr ⟨lw_p10, fun _ h => absurd h List.not_mem_nil⟩⟩⟩⟩⟩⟩⟩⟩⟩⟩⟩
def lw_privs : List (MethodName × Nat) := lw_privs_1
def lw_tbl : List Cond := k2_sels lw_privs ++ tables_1
theorem lw_privs_ok : ∀ q ∈ lw_privs, lw_okq q := lw_r1
-- ===== ONE list of words for every method: the tables' words that hold all through a run =====
def lw_all : List Cond := lw_tbl.filter goodWord
/-- a word of the tables by its place: claim/WORDS.tsv -/
theorem lw_w {w : Cond} (i : Nat) (h : lw_tbl[i]? = some w) (g : goodWord w = true) : w ∈ lw_all := List.mem_filter.mpr ⟨List.mem_of_getElem? h, g⟩
theorem lw_all_tbl {w : Cond} (h : w ∈ lw_all) : w ∈ lw_tbl := (List.mem_filter.mp h).1
theorem lw_self : GoodIn lw_all lw_all := fun w h => ⟨h, good_of_word (List.mem_filter.mp h).2⟩
/-- a class's field words, by their places -/
theorem lw_in (ws : List Cond) (ps : List Nat) (hp : ws = ps.filterMap (fun i => lw_tbl[i]?)) (hg : ws.all goodWord = true) : ∀ w ∈ ws, w ∈ lw_all := by
  intro w h
  have h1 := List.all_eq_true.mp hg w h
  rw [hp] at h
  obtain ⟨i, -, hi⟩ := List.mem_filterMap.mp h
  exact lw_w i hi h1
/-- the words of a contract for the method y with code b, L locals, answer r -/
abbrev ws_ (y : MethodName) (b : ByteArray) (L : Nat) (r : Option FieldType) : List Cond := Cond.code y b L r :: lw_all
theorem lw_meth {y : MethodName} {b : ByteArray} {L : Nat} {r : Option FieldType} (h : Cond.code y b L r ∈ lw_all) : GoodIn lw_all (ws_ y b L r) := by
  intro w hw
  rcases List.mem_cons.mp hw with e | e
  · rw [e]
    exact lw_self _ h
  · exact lw_self _ e
theorem lw_app {a c : List Cond} (ha : ∀ w ∈ a, w ∈ lw_all) (hc : GoodIn lw_all c) : GoodIn lw_all (a ++ c) := by
  intro w hw
  rcases List.mem_append.mp hw with e | e
  · exact lw_self w (ha w e)
  · exact hc w e
/-- what a call through an object asks: cwV n hts (lw_V ..) -/
theorem lw_V {own : String} {idx : Nat} {C : String} {y : MethodName} {b : ByteArray} {L : Nat} {r : Option FieldType} (h1 : Cond.methodLink own idx y ∈ lw_all) (h2 : Cond.instanceMethod y ∈ lw_all) (h3 : Cond.selects C y y ∈ lw_all) (h4 : Cond.initialized C ∈ lw_all) (h5 : Cond.code y b L r ∈ lw_all) : GoodIn lw_all (wsV own idx C y (ws_ y b L r)) := by
  refine lw_app ?_ (lw_meth h5)
  intro w hw
  simp only [List.mem_cons, List.not_mem_nil, or_false] at hw
  rcases hw with e | e | e | e
  · rw [e]; exact h1
  · rw [e]; exact h2
  · rw [e]; exact h3
  · rw [e]; exact h4
/-- what a static call asks: va_cwS n hts (lw_S ..) -/
theorem lw_S {own : String} {idx : Nat} {y : MethodName} {b : ByteArray} {L : Nat} {r : Option FieldType} (h1 : Cond.methodLink own idx y ∈ lw_all) (h2 : Cond.static y ∈ lw_all) (h3 : Cond.initialized y.cls ∈ lw_all) (h4 : Cond.code y b L r ∈ lw_all) : GoodIn lw_all (va_wsS own idx y (ws_ y b L r)) := by
  refine lw_app ?_ (lw_meth h4)
  intro w hw
  simp only [List.mem_cons, List.not_mem_nil, or_false] at hw
  rcases hw with e | e | e
  · rw [e]; exact h1
  · rw [e]; exact h2
  · rw [e]; exact h3
/-- the words of a contract for a method WITH HANDLERS (hh: its table) -/
abbrev wsW_ (y : MethodName) (b : ByteArray) (L : Nat) (r : Option FieldType) (hh : List (Nat × Nat × Nat × Nat)) : List Cond := Cond.codeWith y b L r hh :: lw_all
theorem lw_methW {y : MethodName} {b : ByteArray} {L : Nat} {r : Option FieldType} {hh : List (Nat × Nat × Nat × Nat)} (h : Cond.codeWith y b L r hh ∈ lw_all) : GoodIn lw_all (wsW_ y b L r hh) := by
  intro w hw
  rcases List.mem_cons.mp hw with e | e
  · rw [e]
    exact lw_self _ h
  · exact lw_self _ e
/-- any list of words by their places (lw_in), good -/
theorem lw_good {ws : List Cond} (h : ∀ w ∈ ws, w ∈ lw_all) : GoodIn lw_all ws := fun w hw => lw_self w (h w hw)
/-- what a call of a method with handlers asks: vx_cwVW n hts (lw_VW ..), vx_cwSW n hts (lw_SW ..) -/
theorem lw_VW {own : String} {idx : Nat} {C : String} {y : MethodName} {b : ByteArray} {L : Nat} {r : Option FieldType} {hh : List (Nat × Nat × Nat × Nat)} (h1 : Cond.methodLink own idx y ∈ lw_all) (h2 : Cond.instanceMethod y ∈ lw_all) (h3 : Cond.selects C y y ∈ lw_all) (h4 : Cond.initialized C ∈ lw_all) (h5 : Cond.codeWith y b L r hh ∈ lw_all) : GoodIn lw_all (wsV own idx C y (wsW_ y b L r hh)) := by
  refine lw_app ?_ (lw_methW h5)
  intro w hw
  simp only [List.mem_cons, List.not_mem_nil, or_false] at hw
  rcases hw with e | e | e | e
  · rw [e]; exact h1
  · rw [e]; exact h2
  · rw [e]; exact h3
  · rw [e]; exact h4
theorem lw_SW {own : String} {idx : Nat} {y : MethodName} {b : ByteArray} {L : Nat} {r : Option FieldType} {hh : List (Nat × Nat × Nat × Nat)} (h1 : Cond.methodLink own idx y ∈ lw_all) (h2 : Cond.static y ∈ lw_all) (h3 : Cond.initialized y.cls ∈ lw_all) (h4 : Cond.codeWith y b L r hh ∈ lw_all) : GoodIn lw_all (va_wsS own idx y (wsW_ y b L r hh)) := by
  refine lw_app ?_ (lw_methW h4)
  intro w hw
  simp only [List.mem_cons, List.not_mem_nil, or_false] at hw
  rcases hw with e | e | e
  · rw [e]; exact h1
  · rw [e]; exact h2
  · rw [e]; exact h3
/-- a word by its place in its run of the tables -/
theorem lw_at {r : List Cond} (hr : ∀ w ∈ r, w ∈ lw_tbl) {w : Cond} (i : Nat) (h : r[i]? = some w) : w ∈ lw_tbl := hr w (List.mem_of_getElem? h)
theorem lw_g {w : Cond} (h : w ∈ lw_tbl) (g : goodWord w = true) : w ∈ lw_all := List.mem_filter.mpr ⟨h, g⟩
theorem lw_ms : ∀ w ∈ k2_sels lw_privs, w ∈ lw_tbl := fun w h => show w ∈ k2_sels lw_privs ++ tables_1 from List.mem_append_left _ h
theorem lw_m0 : ∀ w ∈ tables_1, w ∈ lw_tbl := fun w h => show w ∈ k2_sels lw_privs ++ tables_1 from List.mem_append_right (k2_sels lw_privs) h
theorem qs0 : (Cond.selects "TightRange" ⟨"TightRange", "addOrSubtract", "(III)V"⟩ ⟨"TightRange", "addOrSubtract", "(III)V"⟩) ∈ lw_all := lw_g (lw_at lw_ms 0 rfl) rfl
theorem qs1 : (Cond.selects "TightRange" ⟨"TightRange", "keep", "(II)V"⟩ ⟨"TightRange", "keep", "(II)V"⟩) ∈ lw_all := lw_g (lw_at lw_ms 1 rfl) rfl
theorem qs2 : (Cond.selects "TightRange" ⟨"TightRange", "bitwise", "(IIIII)V"⟩ ⟨"TightRange", "bitwise", "(IIIII)V"⟩) ∈ lw_all := lw_g (lw_at lw_ms 2 rfl) rfl
theorem qs3 : (Cond.selects "TightRange" ⟨"TightRange", "multiplyOrDivide", "(III)V"⟩ ⟨"TightRange", "multiplyOrDivide", "(III)V"⟩) ∈ lw_all := lw_g (lw_at lw_ms 3 rfl) rfl
theorem qs4 : (Cond.selects "TightRange" ⟨"TightRange", "distance", "(II)V"⟩ ⟨"TightRange", "distance", "(II)V"⟩) ∈ lw_all := lw_g (lw_at lw_ms 4 rfl) rfl
theorem qs5 : (Cond.selects "TightRange" ⟨"TightRange", "compareEnds", "(III)V"⟩ ⟨"TightRange", "compareEnds", "(III)V"⟩) ∈ lw_all := lw_g (lw_at lw_ms 5 rfl) rfl
theorem qs6 : (Cond.selects "TightRange" ⟨"TightRange", "countOnes", "(II)V"⟩ ⟨"TightRange", "countOnes", "(II)V"⟩) ∈ lw_all := lw_g (lw_at lw_ms 6 rfl) rfl
theorem qs7 : (Cond.selects "TightRange" ⟨"TightRange", "doubled", "(II)V"⟩ ⟨"TightRange", "doubled", "(II)V"⟩) ∈ lw_all := lw_g (lw_at lw_ms 7 rfl) rfl
theorem qs8 : (Cond.selects "TightRangeModel" ⟨"TightRangeModel", "pair", "(III)V"⟩ ⟨"TightRangeModel", "pair", "(III)V"⟩) ∈ lw_all := lw_g (lw_at lw_ms 8 rfl) rfl
theorem qs9 : (Cond.selects "TightRangeModel" ⟨"TightRangeModel", "result", "(I)V"⟩ ⟨"TightRangeModel", "result", "(I)V"⟩) ∈ lw_all := lw_g (lw_at lw_ms 9 rfl) rfl
theorem qs10 : (Cond.selects "TightRangeModel" ⟨"TightRangeModel", "keep", "(I)I"⟩ ⟨"TightRangeModel", "keep", "(I)I"⟩) ∈ lw_all := lw_g (lw_at lw_ms 10 rfl) rfl
end
section
/-! java/lang/Object -/
set_option maxRecDepth 100000
def RJ0 : String := "java/lang/Object"
abbrev cJ0_init : ByteArray := object_method_1_code
def yJ0_init : MethodName := ⟨RJ0, "<init>", "()V"⟩
theorem dJ0_init_0 : decode cJ0_init 0 = .ok (.return_, 1) := by decide +kernel
theorem q20 : (Jvm.Cond.instanceMethod ({ cls := "java/lang/Object", name := "<init>", desc := "()V" } : Jvm.MethodName)) ∈ lw_all := lw_g (lw_at lw_m0 9 rfl) rfl
theorem q21 : (Jvm.Cond.code ({ cls := "java/lang/Object", name := "<init>", desc := "()V" } : Jvm.MethodName) object_method_1_code (1 : Nat) (Option.none : Option Jvm.ClassFile.FieldType)) ∈ lw_all := lw_g (lw_at lw_m0 10 rfl) rfl
theorem q35 : (Jvm.Cond.arrayClass Jvm.ClassFile.FieldType.int) ∈ lw_all := lw_g (lw_at lw_m0 24 rfl) rfl
set_option maxRecDepth 100000
theorem q11 : (Jvm.Cond.initialized "TightRangeLaw") ∈ lw_all := lw_g (lw_at lw_m0 0 rfl) rfl
theorem q14 : (Jvm.Cond.classLink "TightRangeLaw" (7 : Nat) "TightRange") ∈ lw_all := lw_g (lw_at lw_m0 3 rfl) rfl
theorem q16 : (Jvm.Cond.methodLink "TightRangeLaw" (9 : Nat) ({ cls := "TightRange", name := "<init>", desc := "()V" } : Jvm.MethodName)) ∈ lw_all := lw_g (lw_at lw_m0 5 rfl) rfl
theorem q36 : (Jvm.Cond.methodLink "TightRangeLaw" (13 : Nat) ({ cls := "TightRange", name := "set", desc := "(III)I" } : Jvm.MethodName)) ∈ lw_all := lw_g (lw_at lw_m0 25 rfl) rfl
theorem q43 : (Jvm.Cond.methodLink "TightRangeLaw" (18 : Nat) ({ cls := "TightRange", name := "combine", desc := "(IIII)I" } : Jvm.MethodName)) ∈ lw_all := lw_g (lw_at lw_m0 32 rfl) rfl
theorem q95 : (Jvm.Cond.methodLink "TightRangeLaw" (23 : Nat) ({ cls := "TightRange", name := "apply", desc := "(III)I" } : Jvm.MethodName)) ∈ lw_all := lw_g (lw_at lw_m0 84 rfl) rfl
theorem q116 : (Jvm.Cond.methodLink "TightRangeLaw" (27 : Nat) ({ cls := "TightRange", name := "low", desc := "(I)I" } : Jvm.MethodName)) ∈ lw_all := lw_g (lw_at lw_m0 105 rfl) rfl
theorem q120 : (Jvm.Cond.methodLink "TightRangeLaw" (32 : Nat) ({ cls := "TightRange", name := "high", desc := "(I)I" } : Jvm.MethodName)) ∈ lw_all := lw_g (lw_at lw_m0 109 rfl) rfl
theorem q124 : (Jvm.Cond.methodLink "TightRangeLaw" (36 : Nat) ({ cls := "TightRange", name := "less", desc := "(II)I" } : Jvm.MethodName)) ∈ lw_all := lw_g (lw_at lw_m0 113 rfl) rfl
theorem q128 : (Jvm.Cond.methodLink "TightRangeLaw" (41 : Nat) ({ cls := "TightRange", name := "apart", desc := "(II)I" } : Jvm.MethodName)) ∈ lw_all := lw_g (lw_at lw_m0 117 rfl) rfl
theorem q135 : (Jvm.Cond.classLink "TightRangeLaw" (10 : Nat) "TightRangeModel") ∈ lw_all := lw_g (lw_at lw_m0 124 rfl) rfl
theorem q137 : (Jvm.Cond.methodLink "TightRangeLaw" (12 : Nat) ({ cls := "TightRangeModel", name := "<init>", desc := "()V" } : Jvm.MethodName)) ∈ lw_all := lw_g (lw_at lw_m0 126 rfl) rfl
theorem q154 : (Jvm.Cond.methodLink "TightRangeLaw" (17 : Nat) ({ cls := "TightRangeModel", name := "set", desc := "(III)I" } : Jvm.MethodName)) ∈ lw_all := lw_g (lw_at lw_m0 143 rfl) rfl
theorem q161 : (Jvm.Cond.methodLink "TightRangeLaw" (22 : Nat) ({ cls := "TightRangeModel", name := "combine", desc := "(IIII)I" } : Jvm.MethodName)) ∈ lw_all := lw_g (lw_at lw_m0 150 rfl) rfl
theorem q180 : (Jvm.Cond.methodLink "TightRangeLaw" (26 : Nat) ({ cls := "TightRangeModel", name := "apply", desc := "(III)I" } : Jvm.MethodName)) ∈ lw_all := lw_g (lw_at lw_m0 169 rfl) rfl
theorem q196 : (Jvm.Cond.methodLink "TightRangeLaw" (31 : Nat) ({ cls := "TightRangeModel", name := "low", desc := "(I)I" } : Jvm.MethodName)) ∈ lw_all := lw_g (lw_at lw_m0 185 rfl) rfl
theorem q200 : (Jvm.Cond.methodLink "TightRangeLaw" (35 : Nat) ({ cls := "TightRangeModel", name := "high", desc := "(I)I" } : Jvm.MethodName)) ∈ lw_all := lw_g (lw_at lw_m0 189 rfl) rfl
theorem q204 : (Jvm.Cond.methodLink "TightRangeLaw" (40 : Nat) ({ cls := "TightRangeModel", name := "less", desc := "(II)I" } : Jvm.MethodName)) ∈ lw_all := lw_g (lw_at lw_m0 193 rfl) rfl
theorem q208 : (Jvm.Cond.methodLink "TightRangeLaw" (44 : Nat) ({ cls := "TightRangeModel", name := "apart", desc := "(II)I" } : Jvm.MethodName)) ∈ lw_all := lw_g (lw_at lw_m0 197 rfl) rfl
end
section
/-! TightRangeModel -/
set_option maxRecDepth 100000
def RX1 : String := "TightRangeModel"
def TX1 : u_T := fun k => match k with
  | 0 => ("TightRangeModel", "lows", "[I", true)
  | 1 => ("TightRangeModel", "highs", "[I", true)
  | 2 => ("TightRangeModel", "least", "I", false)
  | _ => ("TightRangeModel", "most", "I", false)
def tyX1 : Nat → FieldType := fun k => match k with
  | 0 => .array .int
  | 1 => .array .int
  | 2 => .int
  | _ => .int
abbrev wsX10 : List Cond := u_ws RX1 TX1 4
theorem nmX1 : ∀ a, a < 4 → ∀ b, b < 4 → a ≠ b → (TX1 a).2.1 ≠ (TX1 b).2.1 := by decide +kernel
theorem tyX1_ok : ∀ k, k < 4 → parseFieldDescriptor (TX1 k).2.2.1 = some (tyX1 k) := by decide +kernel
abbrev cX1_init : ByteArray := prog_3_method_1_code
def yX1_init : MethodName := ⟨RX1, "<init>", "()V"⟩
theorem dX1_init_0 : decode cX1_init 0 = .ok (.aload_n 0, 1) := by decide +kernel
theorem dX1_init_1 : decode cX1_init 1 = .ok (.invokespecial 1, 3) := by decide +kernel
theorem dX1_init_4 : decode cX1_init 4 = .ok (.aload_n 0, 1) := by decide +kernel
theorem dX1_init_5 : decode cX1_init 5 = .ok (.bipush 6, 2) := by decide +kernel
theorem dX1_init_7 : decode cX1_init 7 = .ok (.newarray .int, 2) := by decide +kernel
theorem dX1_init_9 : decode cX1_init 9 = .ok (.putfield 7, 3) := by decide +kernel
theorem dX1_init_12 : decode cX1_init 12 = .ok (.aload_n 0, 1) := by decide +kernel
theorem dX1_init_13 : decode cX1_init 13 = .ok (.bipush 6, 2) := by decide +kernel
theorem dX1_init_15 : decode cX1_init 15 = .ok (.newarray .int, 2) := by decide +kernel
theorem dX1_init_17 : decode cX1_init 17 = .ok (.putfield 13, 3) := by decide +kernel
theorem dX1_init_20 : decode cX1_init 20 = .ok (.iconst 0, 1) := by decide +kernel
theorem dX1_init_21 : decode cX1_init 21 = .ok (.istore_n 1, 1) := by decide +kernel
theorem dX1_init_22 : decode cX1_init 22 = .ok (.iload_n 1, 1) := by decide +kernel
theorem dX1_init_23 : decode cX1_init 23 = .ok (.bipush 6, 2) := by decide +kernel
theorem dX1_init_25 : decode cX1_init 25 = .ok (.if_icmp .ge 17, 3) := by decide +kernel
theorem dX1_init_28 : decode cX1_init 28 = .ok (.aload_n 0, 1) := by decide +kernel
theorem dX1_init_29 : decode cX1_init 29 = .ok (.getfield 13, 3) := by decide +kernel
theorem dX1_init_32 : decode cX1_init 32 = .ok (.iload_n 1, 1) := by decide +kernel
theorem dX1_init_33 : decode cX1_init 33 = .ok (.bipush 127, 2) := by decide +kernel
theorem dX1_init_35 : decode cX1_init 35 = .ok (.iastore, 1) := by decide +kernel
theorem dX1_init_36 : decode cX1_init 36 = .ok (.iinc 1 1, 3) := by decide +kernel
theorem dX1_init_39 : decode cX1_init 39 = .ok (.goto (-17), 3) := by decide +kernel
theorem dX1_init_42 : decode cX1_init 42 = .ok (.return_, 1) := by decide +kernel
abbrev cX1_set : ByteArray := prog_3_method_3_code
def yX1_set : MethodName := ⟨RX1, "set", "(III)I"⟩
theorem dX1_set_0 : decode cX1_set 0 = .ok (.iload_n 1, 1) := by decide +kernel
theorem dX1_set_1 : decode cX1_set 1 = .ok (.invokestatic 16, 3) := by decide +kernel
theorem dX1_set_4 : decode cX1_set 4 = .ok (.ifCond .ne 18, 3) := by decide +kernel
theorem dX1_set_7 : decode cX1_set 7 = .ok (.iload_n 2, 1) := by decide +kernel
theorem dX1_set_8 : decode cX1_set 8 = .ok (.ifCond .lt 14, 3) := by decide +kernel
theorem dX1_set_11 : decode cX1_set 11 = .ok (.iload_n 2, 1) := by decide +kernel
theorem dX1_set_12 : decode cX1_set 12 = .ok (.iload_n 3, 1) := by decide +kernel
theorem dX1_set_13 : decode cX1_set 13 = .ok (.if_icmp .gt 9, 3) := by decide +kernel
theorem dX1_set_16 : decode cX1_set 16 = .ok (.iload_n 3, 1) := by decide +kernel
theorem dX1_set_17 : decode cX1_set 17 = .ok (.bipush 127, 2) := by decide +kernel
theorem dX1_set_19 : decode cX1_set 19 = .ok (.if_icmp .le 5, 3) := by decide +kernel
theorem dX1_set_22 : decode cX1_set 22 = .ok (.iconst (-1), 1) := by decide +kernel
theorem dX1_set_23 : decode cX1_set 23 = .ok (.ireturn, 1) := by decide +kernel
theorem dX1_set_24 : decode cX1_set 24 = .ok (.aload_n 0, 1) := by decide +kernel
theorem dX1_set_25 : decode cX1_set 25 = .ok (.getfield 7, 3) := by decide +kernel
theorem dX1_set_28 : decode cX1_set 28 = .ok (.iload_n 1, 1) := by decide +kernel
theorem dX1_set_29 : decode cX1_set 29 = .ok (.iload_n 2, 1) := by decide +kernel
theorem dX1_set_30 : decode cX1_set 30 = .ok (.iastore, 1) := by decide +kernel
theorem dX1_set_31 : decode cX1_set 31 = .ok (.aload_n 0, 1) := by decide +kernel
theorem dX1_set_32 : decode cX1_set 32 = .ok (.getfield 13, 3) := by decide +kernel
theorem dX1_set_35 : decode cX1_set 35 = .ok (.iload_n 1, 1) := by decide +kernel
theorem dX1_set_36 : decode cX1_set 36 = .ok (.iload_n 3, 1) := by decide +kernel
theorem dX1_set_37 : decode cX1_set 37 = .ok (.iastore, 1) := by decide +kernel
theorem dX1_set_38 : decode cX1_set 38 = .ok (.iconst 0, 1) := by decide +kernel
theorem dX1_set_39 : decode cX1_set 39 = .ok (.ireturn, 1) := by decide +kernel
abbrev cX1_bad : ByteArray := prog_3_method_2_code
def yX1_bad : MethodName := ⟨RX1, "bad", "(I)Z"⟩
theorem dX1_bad_0 : decode cX1_bad 0 = .ok (.iload_n 0, 1) := by decide +kernel
theorem dX1_bad_1 : decode cX1_bad 1 = .ok (.ifCond .lt 8, 3) := by decide +kernel
theorem dX1_bad_4 : decode cX1_bad 4 = .ok (.iload_n 0, 1) := by decide +kernel
theorem dX1_bad_5 : decode cX1_bad 5 = .ok (.iconst 5, 1) := by decide +kernel
theorem dX1_bad_6 : decode cX1_bad 6 = .ok (.if_icmp .le 7, 3) := by decide +kernel
theorem dX1_bad_9 : decode cX1_bad 9 = .ok (.iconst 1, 1) := by decide +kernel
theorem dX1_bad_10 : decode cX1_bad 10 = .ok (.goto 4, 3) := by decide +kernel
theorem dX1_bad_13 : decode cX1_bad 13 = .ok (.iconst 0, 1) := by decide +kernel
theorem dX1_bad_14 : decode cX1_bad 14 = .ok (.ireturn, 1) := by decide +kernel
abbrev cX1_combine : ByteArray := prog_3_method_8_code
def yX1_combine : MethodName := ⟨RX1, "combine", "(IIII)I"⟩
theorem dX1_combine_0 : decode cX1_combine 0 = .ok (.iload_n 1, 1) := by decide +kernel
theorem dX1_combine_1 : decode cX1_combine 1 = .ok (.invokestatic 16, 3) := by decide +kernel
theorem dX1_combine_4 : decode cX1_combine 4 = .ok (.ifCond .ne 28, 3) := by decide +kernel
theorem dX1_combine_7 : decode cX1_combine 7 = .ok (.iload_n 3, 1) := by decide +kernel
theorem dX1_combine_8 : decode cX1_combine 8 = .ok (.invokestatic 16, 3) := by decide +kernel
theorem dX1_combine_11 : decode cX1_combine 11 = .ok (.ifCond .ne 21, 3) := by decide +kernel
theorem dX1_combine_14 : decode cX1_combine 14 = .ok (.iload 4, 2) := by decide +kernel
theorem dX1_combine_16 : decode cX1_combine 16 = .ok (.invokestatic 16, 3) := by decide +kernel
theorem dX1_combine_19 : decode cX1_combine 19 = .ok (.ifCond .ne 13, 3) := by decide +kernel
theorem dX1_combine_22 : decode cX1_combine 22 = .ok (.iload_n 2, 1) := by decide +kernel
theorem dX1_combine_23 : decode cX1_combine 23 = .ok (.ifCond .lt 9, 3) := by decide +kernel
theorem dX1_combine_26 : decode cX1_combine 26 = .ok (.iload_n 2, 1) := by decide +kernel
theorem dX1_combine_27 : decode cX1_combine 27 = .ok (.bipush 10, 2) := by decide +kernel
theorem dX1_combine_29 : decode cX1_combine 29 = .ok (.if_icmp .le 5, 3) := by decide +kernel
theorem dX1_combine_32 : decode cX1_combine 32 = .ok (.iconst (-1), 1) := by decide +kernel
theorem dX1_combine_33 : decode cX1_combine 33 = .ok (.ireturn, 1) := by decide +kernel
theorem dX1_combine_34 : decode cX1_combine 34 = .ok (.aload_n 0, 1) := by decide +kernel
theorem dX1_combine_35 : decode cX1_combine 35 = .ok (.sipush 128, 3) := by decide +kernel
theorem dX1_combine_38 : decode cX1_combine 38 = .ok (.putfield 20, 3) := by decide +kernel
theorem dX1_combine_41 : decode cX1_combine 41 = .ok (.aload_n 0, 1) := by decide +kernel
theorem dX1_combine_42 : decode cX1_combine 42 = .ok (.iconst (-1), 1) := by decide +kernel
theorem dX1_combine_43 : decode cX1_combine 43 = .ok (.putfield 24, 3) := by decide +kernel
theorem dX1_combine_46 : decode cX1_combine 46 = .ok (.aload_n 0, 1) := by decide +kernel
theorem dX1_combine_47 : decode cX1_combine 47 = .ok (.getfield 7, 3) := by decide +kernel
theorem dX1_combine_50 : decode cX1_combine 50 = .ok (.iload_n 3, 1) := by decide +kernel
theorem dX1_combine_51 : decode cX1_combine 51 = .ok (.iaload, 1) := by decide +kernel
theorem dX1_combine_52 : decode cX1_combine 52 = .ok (.istore 5, 2) := by decide +kernel
theorem dX1_combine_54 : decode cX1_combine 54 = .ok (.iload 5, 2) := by decide +kernel
theorem dX1_combine_56 : decode cX1_combine 56 = .ok (.aload_n 0, 1) := by decide +kernel
theorem dX1_combine_57 : decode cX1_combine 57 = .ok (.getfield 13, 3) := by decide +kernel
theorem dX1_combine_60 : decode cX1_combine 60 = .ok (.iload_n 3, 1) := by decide +kernel
theorem dX1_combine_61 : decode cX1_combine 61 = .ok (.iaload, 1) := by decide +kernel
theorem dX1_combine_62 : decode cX1_combine 62 = .ok (.if_icmp .gt 45, 3) := by decide +kernel
theorem dX1_combine_65 : decode cX1_combine 65 = .ok (.aload_n 0, 1) := by decide +kernel
theorem dX1_combine_66 : decode cX1_combine 66 = .ok (.getfield 7, 3) := by decide +kernel
theorem dX1_combine_69 : decode cX1_combine 69 = .ok (.iload 4, 2) := by decide +kernel
theorem dX1_combine_71 : decode cX1_combine 71 = .ok (.iaload, 1) := by decide +kernel
theorem dX1_combine_72 : decode cX1_combine 72 = .ok (.istore 6, 2) := by decide +kernel
theorem dX1_combine_74 : decode cX1_combine 74 = .ok (.iload 6, 2) := by decide +kernel
theorem dX1_combine_76 : decode cX1_combine 76 = .ok (.aload_n 0, 1) := by decide +kernel
theorem dX1_combine_77 : decode cX1_combine 77 = .ok (.getfield 13, 3) := by decide +kernel
theorem dX1_combine_80 : decode cX1_combine 80 = .ok (.iload 4, 2) := by decide +kernel
theorem dX1_combine_82 : decode cX1_combine 82 = .ok (.iaload, 1) := by decide +kernel
theorem dX1_combine_83 : decode cX1_combine 83 = .ok (.if_icmp .gt 18, 3) := by decide +kernel
theorem dX1_combine_86 : decode cX1_combine 86 = .ok (.aload_n 0, 1) := by decide +kernel
theorem dX1_combine_87 : decode cX1_combine 87 = .ok (.iload_n 2, 1) := by decide +kernel
theorem dX1_combine_88 : decode cX1_combine 88 = .ok (.iload 5, 2) := by decide +kernel
theorem dX1_combine_90 : decode cX1_combine 90 = .ok (.iload 6, 2) := by decide +kernel
theorem dX1_combine_92 : decode cX1_combine 92 = .ok (.invokevirtual 35, 3) := by decide +kernel
theorem dX1_combine_95 : decode cX1_combine 95 = .ok (.iinc 6 1, 3) := by decide +kernel
theorem dX1_combine_98 : decode cX1_combine 98 = .ok (.goto (-24), 3) := by decide +kernel
theorem dX1_combine_101 : decode cX1_combine 101 = .ok (.iinc 5 1, 3) := by decide +kernel
theorem dX1_combine_104 : decode cX1_combine 104 = .ok (.goto (-50), 3) := by decide +kernel
theorem dX1_combine_107 : decode cX1_combine 107 = .ok (.aload_n 0, 1) := by decide +kernel
theorem dX1_combine_108 : decode cX1_combine 108 = .ok (.iload_n 1, 1) := by decide +kernel
theorem dX1_combine_109 : decode cX1_combine 109 = .ok (.invokevirtual 39, 3) := by decide +kernel
theorem dX1_combine_112 : decode cX1_combine 112 = .ok (.ireturn, 1) := by decide +kernel
abbrev cX1_pair : ByteArray := prog_3_method_6_code
def yX1_pair : MethodName := ⟨RX1, "pair", "(III)V"⟩
theorem dX1_pair_0 : decode cX1_pair 0 = .ok (.iload_n 1, 1) := by decide +kernel
theorem dX1_pair_1 : decode cX1_pair 1 = .ok (.bipush 8, 2) := by decide +kernel
theorem dX1_pair_3 : decode cX1_pair 3 = .ok (.if_icmp .gt 20, 3) := by decide +kernel
theorem dX1_pair_6 : decode cX1_pair 6 = .ok (.iload_n 1, 1) := by decide +kernel
theorem dX1_pair_7 : decode cX1_pair 7 = .ok (.iload_n 2, 1) := by decide +kernel
theorem dX1_pair_8 : decode cX1_pair 8 = .ok (.iload_n 3, 1) := by decide +kernel
theorem dX1_pair_9 : decode cX1_pair 9 = .ok (.invokestatic 27, 3) := by decide +kernel
theorem dX1_pair_12 : decode cX1_pair 12 = .ok (.istore 4, 2) := by decide +kernel
theorem dX1_pair_14 : decode cX1_pair 14 = .ok (.aload_n 0, 1) := by decide +kernel
theorem dX1_pair_15 : decode cX1_pair 15 = .ok (.iload 4, 2) := by decide +kernel
theorem dX1_pair_17 : decode cX1_pair 17 = .ok (.invokevirtual 31, 3) := by decide +kernel
theorem dX1_pair_20 : decode cX1_pair 20 = .ok (.goto 32, 3) := by decide +kernel
theorem dX1_pair_23 : decode cX1_pair 23 = .ok (.iload_n 1, 1) := by decide +kernel
theorem dX1_pair_24 : decode cX1_pair 24 = .ok (.bipush 9, 2) := by decide +kernel
theorem dX1_pair_26 : decode cX1_pair 26 = .ok (.if_icmp .ne 16, 3) := by decide +kernel
theorem dX1_pair_29 : decode cX1_pair 29 = .ok (.aload_n 0, 1) := by decide +kernel
theorem dX1_pair_30 : decode cX1_pair 30 = .ok (.iload_n 2, 1) := by decide +kernel
theorem dX1_pair_31 : decode cX1_pair 31 = .ok (.invokevirtual 31, 3) := by decide +kernel
theorem dX1_pair_34 : decode cX1_pair 34 = .ok (.aload_n 0, 1) := by decide +kernel
theorem dX1_pair_35 : decode cX1_pair 35 = .ok (.iload_n 3, 1) := by decide +kernel
theorem dX1_pair_36 : decode cX1_pair 36 = .ok (.invokevirtual 31, 3) := by decide +kernel
theorem dX1_pair_39 : decode cX1_pair 39 = .ok (.goto 13, 3) := by decide +kernel
theorem dX1_pair_42 : decode cX1_pair 42 = .ok (.iload_n 2, 1) := by decide +kernel
theorem dX1_pair_43 : decode cX1_pair 43 = .ok (.iload_n 3, 1) := by decide +kernel
theorem dX1_pair_44 : decode cX1_pair 44 = .ok (.if_icmp .ne 8, 3) := by decide +kernel
theorem dX1_pair_47 : decode cX1_pair 47 = .ok (.aload_n 0, 1) := by decide +kernel
theorem dX1_pair_48 : decode cX1_pair 48 = .ok (.iload_n 2, 1) := by decide +kernel
theorem dX1_pair_49 : decode cX1_pair 49 = .ok (.invokevirtual 31, 3) := by decide +kernel
theorem dX1_pair_52 : decode cX1_pair 52 = .ok (.return_, 1) := by decide +kernel
abbrev cX1_worked : ByteArray := prog_3_method_5_code
def yX1_worked : MethodName := ⟨RX1, "worked", "(III)I"⟩
theorem dX1_worked_0 : decode cX1_worked 0 = .ok (.iload_n 0, 1) := by decide +kernel
theorem dX1_worked_1 : decode cX1_worked 1 = .ok (.ifCond .ne 11, 3) := by decide +kernel
theorem dX1_worked_4 : decode cX1_worked 4 = .ok (.iload_n 1, 1) := by decide +kernel
theorem dX1_worked_5 : decode cX1_worked 5 = .ok (.iload_n 2, 1) := by decide +kernel
theorem dX1_worked_6 : decode cX1_worked 6 = .ok (.iadd, 1) := by decide +kernel
theorem dX1_worked_7 : decode cX1_worked 7 = .ok (.sipush 128, 3) := by decide +kernel
theorem dX1_worked_10 : decode cX1_worked 10 = .ok (.irem, 1) := by decide +kernel
theorem dX1_worked_11 : decode cX1_worked 11 = .ok (.ireturn, 1) := by decide +kernel
theorem dX1_worked_12 : decode cX1_worked 12 = .ok (.iload_n 0, 1) := by decide +kernel
theorem dX1_worked_13 : decode cX1_worked 13 = .ok (.iconst 1, 1) := by decide +kernel
theorem dX1_worked_14 : decode cX1_worked 14 = .ok (.if_icmp .ne 15, 3) := by decide +kernel
theorem dX1_worked_17 : decode cX1_worked 17 = .ok (.iload_n 1, 1) := by decide +kernel
theorem dX1_worked_18 : decode cX1_worked 18 = .ok (.iload_n 2, 1) := by decide +kernel
theorem dX1_worked_19 : decode cX1_worked 19 = .ok (.isub, 1) := by decide +kernel
theorem dX1_worked_20 : decode cX1_worked 20 = .ok (.sipush 128, 3) := by decide +kernel
theorem dX1_worked_23 : decode cX1_worked 23 = .ok (.iadd, 1) := by decide +kernel
theorem dX1_worked_24 : decode cX1_worked 24 = .ok (.sipush 128, 3) := by decide +kernel
theorem dX1_worked_27 : decode cX1_worked 27 = .ok (.irem, 1) := by decide +kernel
theorem dX1_worked_28 : decode cX1_worked 28 = .ok (.ireturn, 1) := by decide +kernel
theorem dX1_worked_29 : decode cX1_worked 29 = .ok (.iload_n 0, 1) := by decide +kernel
theorem dX1_worked_30 : decode cX1_worked 30 = .ok (.iconst 2, 1) := by decide +kernel
theorem dX1_worked_31 : decode cX1_worked 31 = .ok (.if_icmp .ne 7, 3) := by decide +kernel
theorem dX1_worked_34 : decode cX1_worked 34 = .ok (.iload_n 1, 1) := by decide +kernel
theorem dX1_worked_35 : decode cX1_worked 35 = .ok (.iload_n 2, 1) := by decide +kernel
theorem dX1_worked_36 : decode cX1_worked 36 = .ok (.iand, 1) := by decide +kernel
theorem dX1_worked_37 : decode cX1_worked 37 = .ok (.ireturn, 1) := by decide +kernel
theorem dX1_worked_38 : decode cX1_worked 38 = .ok (.iload_n 0, 1) := by decide +kernel
theorem dX1_worked_39 : decode cX1_worked 39 = .ok (.iconst 3, 1) := by decide +kernel
theorem dX1_worked_40 : decode cX1_worked 40 = .ok (.if_icmp .ne 7, 3) := by decide +kernel
theorem dX1_worked_43 : decode cX1_worked 43 = .ok (.iload_n 1, 1) := by decide +kernel
theorem dX1_worked_44 : decode cX1_worked 44 = .ok (.iload_n 2, 1) := by decide +kernel
theorem dX1_worked_45 : decode cX1_worked 45 = .ok (.ior, 1) := by decide +kernel
theorem dX1_worked_46 : decode cX1_worked 46 = .ok (.ireturn, 1) := by decide +kernel
theorem dX1_worked_47 : decode cX1_worked 47 = .ok (.iload_n 0, 1) := by decide +kernel
theorem dX1_worked_48 : decode cX1_worked 48 = .ok (.iconst 4, 1) := by decide +kernel
theorem dX1_worked_49 : decode cX1_worked 49 = .ok (.if_icmp .ne 7, 3) := by decide +kernel
theorem dX1_worked_52 : decode cX1_worked 52 = .ok (.iload_n 1, 1) := by decide +kernel
theorem dX1_worked_53 : decode cX1_worked 53 = .ok (.iload_n 2, 1) := by decide +kernel
theorem dX1_worked_54 : decode cX1_worked 54 = .ok (.ixor, 1) := by decide +kernel
theorem dX1_worked_55 : decode cX1_worked 55 = .ok (.ireturn, 1) := by decide +kernel
theorem dX1_worked_56 : decode cX1_worked 56 = .ok (.iload_n 0, 1) := by decide +kernel
theorem dX1_worked_57 : decode cX1_worked 57 = .ok (.iconst 5, 1) := by decide +kernel
theorem dX1_worked_58 : decode cX1_worked 58 = .ok (.if_icmp .ne 11, 3) := by decide +kernel
theorem dX1_worked_61 : decode cX1_worked 61 = .ok (.iload_n 1, 1) := by decide +kernel
theorem dX1_worked_62 : decode cX1_worked 62 = .ok (.iload_n 2, 1) := by decide +kernel
theorem dX1_worked_63 : decode cX1_worked 63 = .ok (.imul, 1) := by decide +kernel
theorem dX1_worked_64 : decode cX1_worked 64 = .ok (.sipush 128, 3) := by decide +kernel
theorem dX1_worked_67 : decode cX1_worked 67 = .ok (.idiv, 1) := by decide +kernel
theorem dX1_worked_68 : decode cX1_worked 68 = .ok (.ireturn, 1) := by decide +kernel
theorem dX1_worked_69 : decode cX1_worked 69 = .ok (.iload_n 0, 1) := by decide +kernel
theorem dX1_worked_70 : decode cX1_worked 70 = .ok (.bipush 6, 2) := by decide +kernel
theorem dX1_worked_72 : decode cX1_worked 72 = .ok (.if_icmp .ne 16, 3) := by decide +kernel
theorem dX1_worked_75 : decode cX1_worked 75 = .ok (.iload_n 2, 1) := by decide +kernel
theorem dX1_worked_76 : decode cX1_worked 76 = .ok (.ifCond .ne 8, 3) := by decide +kernel
theorem dX1_worked_79 : decode cX1_worked 79 = .ok (.bipush 127, 2) := by decide +kernel
theorem dX1_worked_81 : decode cX1_worked 81 = .ok (.goto 6, 3) := by decide +kernel
theorem dX1_worked_84 : decode cX1_worked 84 = .ok (.iload_n 1, 1) := by decide +kernel
theorem dX1_worked_85 : decode cX1_worked 85 = .ok (.iload_n 2, 1) := by decide +kernel
theorem dX1_worked_86 : decode cX1_worked 86 = .ok (.idiv, 1) := by decide +kernel
theorem dX1_worked_87 : decode cX1_worked 87 = .ok (.ireturn, 1) := by decide +kernel
theorem dX1_worked_88 : decode cX1_worked 88 = .ok (.iload_n 0, 1) := by decide +kernel
theorem dX1_worked_89 : decode cX1_worked 89 = .ok (.bipush 7, 2) := by decide +kernel
theorem dX1_worked_91 : decode cX1_worked 91 = .ok (.if_icmp .ne 14, 3) := by decide +kernel
theorem dX1_worked_94 : decode cX1_worked 94 = .ok (.iload_n 1, 1) := by decide +kernel
theorem dX1_worked_95 : decode cX1_worked 95 = .ok (.iload_n 2, 1) := by decide +kernel
theorem dX1_worked_96 : decode cX1_worked 96 = .ok (.if_icmp .le 7, 3) := by decide +kernel
theorem dX1_worked_99 : decode cX1_worked 99 = .ok (.iload_n 1, 1) := by decide +kernel
theorem dX1_worked_100 : decode cX1_worked 100 = .ok (.goto 4, 3) := by decide +kernel
theorem dX1_worked_103 : decode cX1_worked 103 = .ok (.iload_n 2, 1) := by decide +kernel
theorem dX1_worked_104 : decode cX1_worked 104 = .ok (.ireturn, 1) := by decide +kernel
theorem dX1_worked_105 : decode cX1_worked 105 = .ok (.iload_n 1, 1) := by decide +kernel
theorem dX1_worked_106 : decode cX1_worked 106 = .ok (.iload_n 2, 1) := by decide +kernel
theorem dX1_worked_107 : decode cX1_worked 107 = .ok (.if_icmp .le 9, 3) := by decide +kernel
theorem dX1_worked_110 : decode cX1_worked 110 = .ok (.iload_n 1, 1) := by decide +kernel
theorem dX1_worked_111 : decode cX1_worked 111 = .ok (.iload_n 2, 1) := by decide +kernel
theorem dX1_worked_112 : decode cX1_worked 112 = .ok (.isub, 1) := by decide +kernel
theorem dX1_worked_113 : decode cX1_worked 113 = .ok (.goto 6, 3) := by decide +kernel
theorem dX1_worked_116 : decode cX1_worked 116 = .ok (.iload_n 2, 1) := by decide +kernel
theorem dX1_worked_117 : decode cX1_worked 117 = .ok (.iload_n 1, 1) := by decide +kernel
theorem dX1_worked_118 : decode cX1_worked 118 = .ok (.isub, 1) := by decide +kernel
theorem dX1_worked_119 : decode cX1_worked 119 = .ok (.ireturn, 1) := by decide +kernel
abbrev cX1_result : ByteArray := prog_3_method_4_code
def yX1_result : MethodName := ⟨RX1, "result", "(I)V"⟩
theorem dX1_result_0 : decode cX1_result 0 = .ok (.iload_n 1, 1) := by decide +kernel
theorem dX1_result_1 : decode cX1_result 1 = .ok (.aload_n 0, 1) := by decide +kernel
theorem dX1_result_2 : decode cX1_result 2 = .ok (.getfield 20, 3) := by decide +kernel
theorem dX1_result_5 : decode cX1_result 5 = .ok (.if_icmp .ge 8, 3) := by decide +kernel
theorem dX1_result_8 : decode cX1_result 8 = .ok (.aload_n 0, 1) := by decide +kernel
theorem dX1_result_9 : decode cX1_result 9 = .ok (.iload_n 1, 1) := by decide +kernel
theorem dX1_result_10 : decode cX1_result 10 = .ok (.putfield 20, 3) := by decide +kernel
theorem dX1_result_13 : decode cX1_result 13 = .ok (.iload_n 1, 1) := by decide +kernel
theorem dX1_result_14 : decode cX1_result 14 = .ok (.aload_n 0, 1) := by decide +kernel
theorem dX1_result_15 : decode cX1_result 15 = .ok (.getfield 24, 3) := by decide +kernel
theorem dX1_result_18 : decode cX1_result 18 = .ok (.if_icmp .le 8, 3) := by decide +kernel
theorem dX1_result_21 : decode cX1_result 21 = .ok (.aload_n 0, 1) := by decide +kernel
theorem dX1_result_22 : decode cX1_result 22 = .ok (.iload_n 1, 1) := by decide +kernel
theorem dX1_result_23 : decode cX1_result 23 = .ok (.putfield 24, 3) := by decide +kernel
theorem dX1_result_26 : decode cX1_result 26 = .ok (.return_, 1) := by decide +kernel
abbrev cX1_keep : ByteArray := prog_3_method_7_code
def yX1_keep : MethodName := ⟨RX1, "keep", "(I)I"⟩
theorem dX1_keep_0 : decode cX1_keep 0 = .ok (.aload_n 0, 1) := by decide +kernel
theorem dX1_keep_1 : decode cX1_keep 1 = .ok (.getfield 20, 3) := by decide +kernel
theorem dX1_keep_4 : decode cX1_keep 4 = .ok (.aload_n 0, 1) := by decide +kernel
theorem dX1_keep_5 : decode cX1_keep 5 = .ok (.getfield 24, 3) := by decide +kernel
theorem dX1_keep_8 : decode cX1_keep 8 = .ok (.if_icmp .le 6, 3) := by decide +kernel
theorem dX1_keep_11 : decode cX1_keep 11 = .ok (.bipush (-2), 2) := by decide +kernel
theorem dX1_keep_13 : decode cX1_keep 13 = .ok (.ireturn, 1) := by decide +kernel
theorem dX1_keep_14 : decode cX1_keep 14 = .ok (.aload_n 0, 1) := by decide +kernel
theorem dX1_keep_15 : decode cX1_keep 15 = .ok (.getfield 7, 3) := by decide +kernel
theorem dX1_keep_18 : decode cX1_keep 18 = .ok (.iload_n 1, 1) := by decide +kernel
theorem dX1_keep_19 : decode cX1_keep 19 = .ok (.aload_n 0, 1) := by decide +kernel
theorem dX1_keep_20 : decode cX1_keep 20 = .ok (.getfield 20, 3) := by decide +kernel
theorem dX1_keep_23 : decode cX1_keep 23 = .ok (.iastore, 1) := by decide +kernel
theorem dX1_keep_24 : decode cX1_keep 24 = .ok (.aload_n 0, 1) := by decide +kernel
theorem dX1_keep_25 : decode cX1_keep 25 = .ok (.getfield 13, 3) := by decide +kernel
theorem dX1_keep_28 : decode cX1_keep 28 = .ok (.iload_n 1, 1) := by decide +kernel
theorem dX1_keep_29 : decode cX1_keep 29 = .ok (.aload_n 0, 1) := by decide +kernel
theorem dX1_keep_30 : decode cX1_keep 30 = .ok (.getfield 24, 3) := by decide +kernel
theorem dX1_keep_33 : decode cX1_keep 33 = .ok (.iastore, 1) := by decide +kernel
theorem dX1_keep_34 : decode cX1_keep 34 = .ok (.iconst 0, 1) := by decide +kernel
theorem dX1_keep_35 : decode cX1_keep 35 = .ok (.ireturn, 1) := by decide +kernel
abbrev cX1_apply : ByteArray := prog_3_method_13_code
def yX1_apply : MethodName := ⟨RX1, "apply", "(III)I"⟩
theorem dX1_apply_0 : decode cX1_apply 0 = .ok (.iload_n 1, 1) := by decide +kernel
theorem dX1_apply_1 : decode cX1_apply 1 = .ok (.invokestatic 16, 3) := by decide +kernel
theorem dX1_apply_4 : decode cX1_apply 4 = .ok (.ifCond .ne 19, 3) := by decide +kernel
theorem dX1_apply_7 : decode cX1_apply 7 = .ok (.iload_n 3, 1) := by decide +kernel
theorem dX1_apply_8 : decode cX1_apply 8 = .ok (.invokestatic 16, 3) := by decide +kernel
theorem dX1_apply_11 : decode cX1_apply 11 = .ok (.ifCond .ne 12, 3) := by decide +kernel
theorem dX1_apply_14 : decode cX1_apply 14 = .ok (.iload_n 2, 1) := by decide +kernel
theorem dX1_apply_15 : decode cX1_apply 15 = .ok (.ifCond .lt 8, 3) := by decide +kernel
theorem dX1_apply_18 : decode cX1_apply 18 = .ok (.iload_n 2, 1) := by decide +kernel
theorem dX1_apply_19 : decode cX1_apply 19 = .ok (.iconst 4, 1) := by decide +kernel
theorem dX1_apply_20 : decode cX1_apply 20 = .ok (.if_icmp .le 5, 3) := by decide +kernel
theorem dX1_apply_23 : decode cX1_apply 23 = .ok (.iconst (-1), 1) := by decide +kernel
theorem dX1_apply_24 : decode cX1_apply 24 = .ok (.ireturn, 1) := by decide +kernel
theorem dX1_apply_25 : decode cX1_apply 25 = .ok (.aload_n 0, 1) := by decide +kernel
theorem dX1_apply_26 : decode cX1_apply 26 = .ok (.sipush 128, 3) := by decide +kernel
theorem dX1_apply_29 : decode cX1_apply 29 = .ok (.putfield 20, 3) := by decide +kernel
theorem dX1_apply_32 : decode cX1_apply 32 = .ok (.aload_n 0, 1) := by decide +kernel
theorem dX1_apply_33 : decode cX1_apply 33 = .ok (.iconst (-1), 1) := by decide +kernel
theorem dX1_apply_34 : decode cX1_apply 34 = .ok (.putfield 24, 3) := by decide +kernel
theorem dX1_apply_37 : decode cX1_apply 37 = .ok (.aload_n 0, 1) := by decide +kernel
theorem dX1_apply_38 : decode cX1_apply 38 = .ok (.getfield 7, 3) := by decide +kernel
theorem dX1_apply_41 : decode cX1_apply 41 = .ok (.iload_n 3, 1) := by decide +kernel
theorem dX1_apply_42 : decode cX1_apply 42 = .ok (.iaload, 1) := by decide +kernel
theorem dX1_apply_43 : decode cX1_apply 43 = .ok (.istore 4, 2) := by decide +kernel
theorem dX1_apply_45 : decode cX1_apply 45 = .ok (.iload 4, 2) := by decide +kernel
theorem dX1_apply_47 : decode cX1_apply 47 = .ok (.aload_n 0, 1) := by decide +kernel
theorem dX1_apply_48 : decode cX1_apply 48 = .ok (.getfield 13, 3) := by decide +kernel
theorem dX1_apply_51 : decode cX1_apply 51 = .ok (.iload_n 3, 1) := by decide +kernel
theorem dX1_apply_52 : decode cX1_apply 52 = .ok (.iaload, 1) := by decide +kernel
theorem dX1_apply_53 : decode cX1_apply 53 = .ok (.if_icmp .gt 23, 3) := by decide +kernel
theorem dX1_apply_56 : decode cX1_apply 56 = .ok (.iload_n 2, 1) := by decide +kernel
theorem dX1_apply_57 : decode cX1_apply 57 = .ok (.iload 4, 2) := by decide +kernel
theorem dX1_apply_59 : decode cX1_apply 59 = .ok (.invokestatic 52, 3) := by decide +kernel
theorem dX1_apply_62 : decode cX1_apply 62 = .ok (.istore 5, 2) := by decide +kernel
theorem dX1_apply_64 : decode cX1_apply 64 = .ok (.aload_n 0, 1) := by decide +kernel
theorem dX1_apply_65 : decode cX1_apply 65 = .ok (.iload 5, 2) := by decide +kernel
theorem dX1_apply_67 : decode cX1_apply 67 = .ok (.invokevirtual 31, 3) := by decide +kernel
theorem dX1_apply_70 : decode cX1_apply 70 = .ok (.iinc 4 1, 3) := by decide +kernel
theorem dX1_apply_73 : decode cX1_apply 73 = .ok (.goto (-28), 3) := by decide +kernel
theorem dX1_apply_76 : decode cX1_apply 76 = .ok (.aload_n 0, 1) := by decide +kernel
theorem dX1_apply_77 : decode cX1_apply 77 = .ok (.iload_n 1, 1) := by decide +kernel
theorem dX1_apply_78 : decode cX1_apply 78 = .ok (.invokevirtual 39, 3) := by decide +kernel
theorem dX1_apply_81 : decode cX1_apply 81 = .ok (.ireturn, 1) := by decide +kernel
abbrev cX1_single : ByteArray := prog_3_method_12_code
def yX1_single : MethodName := ⟨RX1, "single", "(II)I"⟩
theorem dX1_single_0 : decode cX1_single 0 = .ok (.iload_n 0, 1) := by decide +kernel
theorem dX1_single_1 : decode cX1_single 1 = .ok (.ifCond .ne 8, 3) := by decide +kernel
theorem dX1_single_4 : decode cX1_single 4 = .ok (.bipush 127, 2) := by decide +kernel
theorem dX1_single_6 : decode cX1_single 6 = .ok (.iload_n 1, 1) := by decide +kernel
theorem dX1_single_7 : decode cX1_single 7 = .ok (.isub, 1) := by decide +kernel
theorem dX1_single_8 : decode cX1_single 8 = .ok (.ireturn, 1) := by decide +kernel
theorem dX1_single_9 : decode cX1_single 9 = .ok (.iload_n 0, 1) := by decide +kernel
theorem dX1_single_10 : decode cX1_single 10 = .ok (.iconst 1, 1) := by decide +kernel
theorem dX1_single_11 : decode cX1_single 11 = .ok (.if_icmp .ne 8, 3) := by decide +kernel
theorem dX1_single_14 : decode cX1_single 14 = .ok (.iload_n 1, 1) := by decide +kernel
theorem dX1_single_15 : decode cX1_single 15 = .ok (.invokestatic 43, 3) := by decide +kernel
theorem dX1_single_18 : decode cX1_single 18 = .ok (.ireturn, 1) := by decide +kernel
theorem dX1_single_19 : decode cX1_single 19 = .ok (.iload_n 0, 1) := by decide +kernel
theorem dX1_single_20 : decode cX1_single 20 = .ok (.iconst 2, 1) := by decide +kernel
theorem dX1_single_21 : decode cX1_single 21 = .ok (.if_icmp .ne 8, 3) := by decide +kernel
theorem dX1_single_24 : decode cX1_single 24 = .ok (.iload_n 1, 1) := by decide +kernel
theorem dX1_single_25 : decode cX1_single 25 = .ok (.invokestatic 46, 3) := by decide +kernel
theorem dX1_single_28 : decode cX1_single 28 = .ok (.ireturn, 1) := by decide +kernel
theorem dX1_single_29 : decode cX1_single 29 = .ok (.iload_n 0, 1) := by decide +kernel
theorem dX1_single_30 : decode cX1_single 30 = .ok (.iconst 3, 1) := by decide +kernel
theorem dX1_single_31 : decode cX1_single 31 = .ok (.if_icmp .ne 8, 3) := by decide +kernel
theorem dX1_single_34 : decode cX1_single 34 = .ok (.iload_n 1, 1) := by decide +kernel
theorem dX1_single_35 : decode cX1_single 35 = .ok (.invokestatic 49, 3) := by decide +kernel
theorem dX1_single_38 : decode cX1_single 38 = .ok (.ireturn, 1) := by decide +kernel
theorem dX1_single_39 : decode cX1_single 39 = .ok (.iconst 2, 1) := by decide +kernel
theorem dX1_single_40 : decode cX1_single 40 = .ok (.iload_n 1, 1) := by decide +kernel
theorem dX1_single_41 : decode cX1_single 41 = .ok (.imul, 1) := by decide +kernel
theorem dX1_single_42 : decode cX1_single 42 = .ok (.sipush 128, 3) := by decide +kernel
theorem dX1_single_45 : decode cX1_single 45 = .ok (.irem, 1) := by decide +kernel
theorem dX1_single_46 : decode cX1_single 46 = .ok (.ireturn, 1) := by decide +kernel
abbrev cX1_ones : ByteArray := prog_3_method_9_code
def yX1_ones : MethodName := ⟨RX1, "ones", "(I)I"⟩
theorem dX1_ones_0 : decode cX1_ones 0 = .ok (.iconst 0, 1) := by decide +kernel
theorem dX1_ones_1 : decode cX1_ones 1 = .ok (.istore_n 1, 1) := by decide +kernel
theorem dX1_ones_2 : decode cX1_ones 2 = .ok (.iconst 0, 1) := by decide +kernel
theorem dX1_ones_3 : decode cX1_ones 3 = .ok (.istore_n 2, 1) := by decide +kernel
theorem dX1_ones_4 : decode cX1_ones 4 = .ok (.iload_n 2, 1) := by decide +kernel
theorem dX1_ones_5 : decode cX1_ones 5 = .ok (.bipush 7, 2) := by decide +kernel
theorem dX1_ones_7 : decode cX1_ones 7 = .ok (.if_icmp .ge 17, 3) := by decide +kernel
theorem dX1_ones_10 : decode cX1_ones 10 = .ok (.iload_n 1, 1) := by decide +kernel
theorem dX1_ones_11 : decode cX1_ones 11 = .ok (.iload_n 0, 1) := by decide +kernel
theorem dX1_ones_12 : decode cX1_ones 12 = .ok (.iload_n 2, 1) := by decide +kernel
theorem dX1_ones_13 : decode cX1_ones 13 = .ok (.ishr, 1) := by decide +kernel
theorem dX1_ones_14 : decode cX1_ones 14 = .ok (.iconst 1, 1) := by decide +kernel
theorem dX1_ones_15 : decode cX1_ones 15 = .ok (.iand, 1) := by decide +kernel
theorem dX1_ones_16 : decode cX1_ones 16 = .ok (.iadd, 1) := by decide +kernel
theorem dX1_ones_17 : decode cX1_ones 17 = .ok (.istore_n 1, 1) := by decide +kernel
theorem dX1_ones_18 : decode cX1_ones 18 = .ok (.iinc 2 1, 3) := by decide +kernel
theorem dX1_ones_21 : decode cX1_ones 21 = .ok (.goto (-17), 3) := by decide +kernel
theorem dX1_ones_24 : decode cX1_ones 24 = .ok (.iload_n 1, 1) := by decide +kernel
theorem dX1_ones_25 : decode cX1_ones 25 = .ok (.ireturn, 1) := by decide +kernel
abbrev cX1_reversed : ByteArray := prog_3_method_10_code
def yX1_reversed : MethodName := ⟨RX1, "reversed", "(I)I"⟩
theorem dX1_reversed_0 : decode cX1_reversed 0 = .ok (.iconst 0, 1) := by decide +kernel
theorem dX1_reversed_1 : decode cX1_reversed 1 = .ok (.istore_n 1, 1) := by decide +kernel
theorem dX1_reversed_2 : decode cX1_reversed 2 = .ok (.iconst 0, 1) := by decide +kernel
theorem dX1_reversed_3 : decode cX1_reversed 3 = .ok (.istore_n 2, 1) := by decide +kernel
theorem dX1_reversed_4 : decode cX1_reversed 4 = .ok (.iload_n 2, 1) := by decide +kernel
theorem dX1_reversed_5 : decode cX1_reversed 5 = .ok (.bipush 7, 2) := by decide +kernel
theorem dX1_reversed_7 : decode cX1_reversed 7 = .ok (.if_icmp .ge 22, 3) := by decide +kernel
theorem dX1_reversed_10 : decode cX1_reversed 10 = .ok (.iload_n 1, 1) := by decide +kernel
theorem dX1_reversed_11 : decode cX1_reversed 11 = .ok (.iload_n 0, 1) := by decide +kernel
theorem dX1_reversed_12 : decode cX1_reversed 12 = .ok (.iload_n 2, 1) := by decide +kernel
theorem dX1_reversed_13 : decode cX1_reversed 13 = .ok (.ishr, 1) := by decide +kernel
theorem dX1_reversed_14 : decode cX1_reversed 14 = .ok (.iconst 1, 1) := by decide +kernel
theorem dX1_reversed_15 : decode cX1_reversed 15 = .ok (.iand, 1) := by decide +kernel
theorem dX1_reversed_16 : decode cX1_reversed 16 = .ok (.bipush 6, 2) := by decide +kernel
theorem dX1_reversed_18 : decode cX1_reversed 18 = .ok (.iload_n 2, 1) := by decide +kernel
theorem dX1_reversed_19 : decode cX1_reversed 19 = .ok (.isub, 1) := by decide +kernel
theorem dX1_reversed_20 : decode cX1_reversed 20 = .ok (.ishl, 1) := by decide +kernel
theorem dX1_reversed_21 : decode cX1_reversed 21 = .ok (.ior, 1) := by decide +kernel
theorem dX1_reversed_22 : decode cX1_reversed 22 = .ok (.istore_n 1, 1) := by decide +kernel
theorem dX1_reversed_23 : decode cX1_reversed 23 = .ok (.iinc 2 1, 3) := by decide +kernel
theorem dX1_reversed_26 : decode cX1_reversed 26 = .ok (.goto (-22), 3) := by decide +kernel
theorem dX1_reversed_29 : decode cX1_reversed 29 = .ok (.iload_n 1, 1) := by decide +kernel
theorem dX1_reversed_30 : decode cX1_reversed 30 = .ok (.ireturn, 1) := by decide +kernel
abbrev cX1_root : ByteArray := prog_3_method_11_code
def yX1_root : MethodName := ⟨RX1, "root", "(I)I"⟩
theorem dX1_root_0 : decode cX1_root 0 = .ok (.iconst 0, 1) := by decide +kernel
theorem dX1_root_1 : decode cX1_root 1 = .ok (.istore_n 1, 1) := by decide +kernel
theorem dX1_root_2 : decode cX1_root 2 = .ok (.iload_n 1, 1) := by decide +kernel
theorem dX1_root_3 : decode cX1_root 3 = .ok (.iconst 1, 1) := by decide +kernel
theorem dX1_root_4 : decode cX1_root 4 = .ok (.iadd, 1) := by decide +kernel
theorem dX1_root_5 : decode cX1_root 5 = .ok (.iload_n 1, 1) := by decide +kernel
theorem dX1_root_6 : decode cX1_root 6 = .ok (.iconst 1, 1) := by decide +kernel
theorem dX1_root_7 : decode cX1_root 7 = .ok (.iadd, 1) := by decide +kernel
theorem dX1_root_8 : decode cX1_root 8 = .ok (.imul, 1) := by decide +kernel
theorem dX1_root_9 : decode cX1_root 9 = .ok (.iload_n 0, 1) := by decide +kernel
theorem dX1_root_10 : decode cX1_root 10 = .ok (.if_icmp .gt 15, 3) := by decide +kernel
theorem dX1_root_13 : decode cX1_root 13 = .ok (.iload_n 1, 1) := by decide +kernel
theorem dX1_root_14 : decode cX1_root 14 = .ok (.bipush 12, 2) := by decide +kernel
theorem dX1_root_16 : decode cX1_root 16 = .ok (.if_icmp .ge 9, 3) := by decide +kernel
theorem dX1_root_19 : decode cX1_root 19 = .ok (.iinc 1 1, 3) := by decide +kernel
theorem dX1_root_22 : decode cX1_root 22 = .ok (.goto (-20), 3) := by decide +kernel
theorem dX1_root_25 : decode cX1_root 25 = .ok (.iload_n 1, 1) := by decide +kernel
theorem dX1_root_26 : decode cX1_root 26 = .ok (.ireturn, 1) := by decide +kernel
abbrev cX1_low : ByteArray := prog_3_method_14_code
def yX1_low : MethodName := ⟨RX1, "low", "(I)I"⟩
theorem dX1_low_0 : decode cX1_low 0 = .ok (.iload_n 1, 1) := by decide +kernel
theorem dX1_low_1 : decode cX1_low 1 = .ok (.invokestatic 16, 3) := by decide +kernel
theorem dX1_low_4 : decode cX1_low 4 = .ok (.ifCond .eq 7, 3) := by decide +kernel
theorem dX1_low_7 : decode cX1_low 7 = .ok (.iconst (-1), 1) := by decide +kernel
theorem dX1_low_8 : decode cX1_low 8 = .ok (.goto 9, 3) := by decide +kernel
theorem dX1_low_11 : decode cX1_low 11 = .ok (.aload_n 0, 1) := by decide +kernel
theorem dX1_low_12 : decode cX1_low 12 = .ok (.getfield 7, 3) := by decide +kernel
theorem dX1_low_15 : decode cX1_low 15 = .ok (.iload_n 1, 1) := by decide +kernel
theorem dX1_low_16 : decode cX1_low 16 = .ok (.iaload, 1) := by decide +kernel
theorem dX1_low_17 : decode cX1_low 17 = .ok (.ireturn, 1) := by decide +kernel
abbrev cX1_high : ByteArray := prog_3_method_15_code
def yX1_high : MethodName := ⟨RX1, "high", "(I)I"⟩
theorem dX1_high_0 : decode cX1_high 0 = .ok (.iload_n 1, 1) := by decide +kernel
theorem dX1_high_1 : decode cX1_high 1 = .ok (.invokestatic 16, 3) := by decide +kernel
theorem dX1_high_4 : decode cX1_high 4 = .ok (.ifCond .eq 7, 3) := by decide +kernel
theorem dX1_high_7 : decode cX1_high 7 = .ok (.iconst (-1), 1) := by decide +kernel
theorem dX1_high_8 : decode cX1_high 8 = .ok (.goto 9, 3) := by decide +kernel
theorem dX1_high_11 : decode cX1_high 11 = .ok (.aload_n 0, 1) := by decide +kernel
theorem dX1_high_12 : decode cX1_high 12 = .ok (.getfield 13, 3) := by decide +kernel
theorem dX1_high_15 : decode cX1_high 15 = .ok (.iload_n 1, 1) := by decide +kernel
theorem dX1_high_16 : decode cX1_high 16 = .ok (.iaload, 1) := by decide +kernel
theorem dX1_high_17 : decode cX1_high 17 = .ok (.ireturn, 1) := by decide +kernel
abbrev cX1_less : ByteArray := prog_3_method_16_code
def yX1_less : MethodName := ⟨RX1, "less", "(II)I"⟩
theorem dX1_less_0 : decode cX1_less 0 = .ok (.iload_n 1, 1) := by decide +kernel
theorem dX1_less_1 : decode cX1_less 1 = .ok (.invokestatic 16, 3) := by decide +kernel
theorem dX1_less_4 : decode cX1_less 4 = .ok (.ifCond .ne 10, 3) := by decide +kernel
theorem dX1_less_7 : decode cX1_less 7 = .ok (.iload_n 2, 1) := by decide +kernel
theorem dX1_less_8 : decode cX1_less 8 = .ok (.invokestatic 16, 3) := by decide +kernel
theorem dX1_less_11 : decode cX1_less 11 = .ok (.ifCond .eq 5, 3) := by decide +kernel
theorem dX1_less_14 : decode cX1_less 14 = .ok (.iconst (-1), 1) := by decide +kernel
theorem dX1_less_15 : decode cX1_less 15 = .ok (.ireturn, 1) := by decide +kernel
theorem dX1_less_16 : decode cX1_less 16 = .ok (.iconst 1, 1) := by decide +kernel
theorem dX1_less_17 : decode cX1_less 17 = .ok (.istore_n 3, 1) := by decide +kernel
theorem dX1_less_18 : decode cX1_less 18 = .ok (.iconst 0, 1) := by decide +kernel
theorem dX1_less_19 : decode cX1_less 19 = .ok (.istore 4, 2) := by decide +kernel
theorem dX1_less_21 : decode cX1_less 21 = .ok (.aload_n 0, 1) := by decide +kernel
theorem dX1_less_22 : decode cX1_less 22 = .ok (.getfield 7, 3) := by decide +kernel
theorem dX1_less_25 : decode cX1_less 25 = .ok (.iload_n 1, 1) := by decide +kernel
theorem dX1_less_26 : decode cX1_less 26 = .ok (.iaload, 1) := by decide +kernel
theorem dX1_less_27 : decode cX1_less 27 = .ok (.istore 5, 2) := by decide +kernel
theorem dX1_less_29 : decode cX1_less 29 = .ok (.iload 5, 2) := by decide +kernel
theorem dX1_less_31 : decode cX1_less 31 = .ok (.aload_n 0, 1) := by decide +kernel
theorem dX1_less_32 : decode cX1_less 32 = .ok (.getfield 13, 3) := by decide +kernel
theorem dX1_less_35 : decode cX1_less 35 = .ok (.iload_n 1, 1) := by decide +kernel
theorem dX1_less_36 : decode cX1_less 36 = .ok (.iaload, 1) := by decide +kernel
theorem dX1_less_37 : decode cX1_less 37 = .ok (.if_icmp .gt 49, 3) := by decide +kernel
theorem dX1_less_40 : decode cX1_less 40 = .ok (.aload_n 0, 1) := by decide +kernel
theorem dX1_less_41 : decode cX1_less 41 = .ok (.getfield 7, 3) := by decide +kernel
theorem dX1_less_44 : decode cX1_less 44 = .ok (.iload_n 2, 1) := by decide +kernel
theorem dX1_less_45 : decode cX1_less 45 = .ok (.iaload, 1) := by decide +kernel
theorem dX1_less_46 : decode cX1_less 46 = .ok (.istore 6, 2) := by decide +kernel
theorem dX1_less_48 : decode cX1_less 48 = .ok (.iload 6, 2) := by decide +kernel
theorem dX1_less_50 : decode cX1_less 50 = .ok (.aload_n 0, 1) := by decide +kernel
theorem dX1_less_51 : decode cX1_less 51 = .ok (.getfield 13, 3) := by decide +kernel
theorem dX1_less_54 : decode cX1_less 54 = .ok (.iload_n 2, 1) := by decide +kernel
theorem dX1_less_55 : decode cX1_less 55 = .ok (.iaload, 1) := by decide +kernel
theorem dX1_less_56 : decode cX1_less 56 = .ok (.if_icmp .gt 24, 3) := by decide +kernel
theorem dX1_less_59 : decode cX1_less 59 = .ok (.iload 5, 2) := by decide +kernel
theorem dX1_less_61 : decode cX1_less 61 = .ok (.iload 6, 2) := by decide +kernel
theorem dX1_less_63 : decode cX1_less 63 = .ok (.if_icmp .ge 9, 3) := by decide +kernel
theorem dX1_less_66 : decode cX1_less 66 = .ok (.iconst 1, 1) := by decide +kernel
theorem dX1_less_67 : decode cX1_less 67 = .ok (.istore 4, 2) := by decide +kernel
theorem dX1_less_69 : decode cX1_less 69 = .ok (.goto 5, 3) := by decide +kernel
theorem dX1_less_72 : decode cX1_less 72 = .ok (.iconst 0, 1) := by decide +kernel
theorem dX1_less_73 : decode cX1_less 73 = .ok (.istore_n 3, 1) := by decide +kernel
theorem dX1_less_74 : decode cX1_less 74 = .ok (.iinc 6 1, 3) := by decide +kernel
theorem dX1_less_77 : decode cX1_less 77 = .ok (.goto (-29), 3) := by decide +kernel
theorem dX1_less_80 : decode cX1_less 80 = .ok (.iinc 5 1, 3) := by decide +kernel
theorem dX1_less_83 : decode cX1_less 83 = .ok (.goto (-54), 3) := by decide +kernel
theorem dX1_less_86 : decode cX1_less 86 = .ok (.iload_n 3, 1) := by decide +kernel
theorem dX1_less_87 : decode cX1_less 87 = .ok (.ifCond .eq 7, 3) := by decide +kernel
theorem dX1_less_90 : decode cX1_less 90 = .ok (.iconst 1, 1) := by decide +kernel
theorem dX1_less_91 : decode cX1_less 91 = .ok (.goto 13, 3) := by decide +kernel
theorem dX1_less_94 : decode cX1_less 94 = .ok (.iload 4, 2) := by decide +kernel
theorem dX1_less_96 : decode cX1_less 96 = .ok (.ifCond .eq 7, 3) := by decide +kernel
theorem dX1_less_99 : decode cX1_less 99 = .ok (.iconst 2, 1) := by decide +kernel
theorem dX1_less_100 : decode cX1_less 100 = .ok (.goto 4, 3) := by decide +kernel
theorem dX1_less_103 : decode cX1_less 103 = .ok (.iconst 0, 1) := by decide +kernel
theorem dX1_less_104 : decode cX1_less 104 = .ok (.ireturn, 1) := by decide +kernel
abbrev cX1_apart : ByteArray := prog_3_method_17_code
def yX1_apart : MethodName := ⟨RX1, "apart", "(II)I"⟩
theorem dX1_apart_0 : decode cX1_apart 0 = .ok (.iload_n 1, 1) := by decide +kernel
theorem dX1_apart_1 : decode cX1_apart 1 = .ok (.invokestatic 16, 3) := by decide +kernel
theorem dX1_apart_4 : decode cX1_apart 4 = .ok (.ifCond .ne 10, 3) := by decide +kernel
theorem dX1_apart_7 : decode cX1_apart 7 = .ok (.iload_n 2, 1) := by decide +kernel
theorem dX1_apart_8 : decode cX1_apart 8 = .ok (.invokestatic 16, 3) := by decide +kernel
theorem dX1_apart_11 : decode cX1_apart 11 = .ok (.ifCond .eq 5, 3) := by decide +kernel
theorem dX1_apart_14 : decode cX1_apart 14 = .ok (.iconst (-1), 1) := by decide +kernel
theorem dX1_apart_15 : decode cX1_apart 15 = .ok (.ireturn, 1) := by decide +kernel
theorem dX1_apart_16 : decode cX1_apart 16 = .ok (.iconst 0, 1) := by decide +kernel
theorem dX1_apart_17 : decode cX1_apart 17 = .ok (.istore_n 3, 1) := by decide +kernel
theorem dX1_apart_18 : decode cX1_apart 18 = .ok (.aload_n 0, 1) := by decide +kernel
theorem dX1_apart_19 : decode cX1_apart 19 = .ok (.getfield 7, 3) := by decide +kernel
theorem dX1_apart_22 : decode cX1_apart 22 = .ok (.iload_n 1, 1) := by decide +kernel
theorem dX1_apart_23 : decode cX1_apart 23 = .ok (.iaload, 1) := by decide +kernel
theorem dX1_apart_24 : decode cX1_apart 24 = .ok (.istore 4, 2) := by decide +kernel
theorem dX1_apart_26 : decode cX1_apart 26 = .ok (.iload 4, 2) := by decide +kernel
theorem dX1_apart_28 : decode cX1_apart 28 = .ok (.aload_n 0, 1) := by decide +kernel
theorem dX1_apart_29 : decode cX1_apart 29 = .ok (.getfield 13, 3) := by decide +kernel
theorem dX1_apart_32 : decode cX1_apart 32 = .ok (.iload_n 1, 1) := by decide +kernel
theorem dX1_apart_33 : decode cX1_apart 33 = .ok (.iaload, 1) := by decide +kernel
theorem dX1_apart_34 : decode cX1_apart 34 = .ok (.if_icmp .gt 45, 3) := by decide +kernel
theorem dX1_apart_37 : decode cX1_apart 37 = .ok (.aload_n 0, 1) := by decide +kernel
theorem dX1_apart_38 : decode cX1_apart 38 = .ok (.getfield 7, 3) := by decide +kernel
theorem dX1_apart_41 : decode cX1_apart 41 = .ok (.iload_n 2, 1) := by decide +kernel
theorem dX1_apart_42 : decode cX1_apart 42 = .ok (.iaload, 1) := by decide +kernel
theorem dX1_apart_43 : decode cX1_apart 43 = .ok (.istore 5, 2) := by decide +kernel
theorem dX1_apart_45 : decode cX1_apart 45 = .ok (.iload 5, 2) := by decide +kernel
theorem dX1_apart_47 : decode cX1_apart 47 = .ok (.aload_n 0, 1) := by decide +kernel
theorem dX1_apart_48 : decode cX1_apart 48 = .ok (.getfield 13, 3) := by decide +kernel
theorem dX1_apart_51 : decode cX1_apart 51 = .ok (.iload_n 2, 1) := by decide +kernel
theorem dX1_apart_52 : decode cX1_apart 52 = .ok (.iaload, 1) := by decide +kernel
theorem dX1_apart_53 : decode cX1_apart 53 = .ok (.if_icmp .gt 20, 3) := by decide +kernel
theorem dX1_apart_56 : decode cX1_apart 56 = .ok (.iload 4, 2) := by decide +kernel
theorem dX1_apart_58 : decode cX1_apart 58 = .ok (.iload 5, 2) := by decide +kernel
theorem dX1_apart_60 : decode cX1_apart 60 = .ok (.iand, 1) := by decide +kernel
theorem dX1_apart_61 : decode cX1_apart 61 = .ok (.ifCond .ne 6, 3) := by decide +kernel
theorem dX1_apart_64 : decode cX1_apart 64 = .ok (.iinc 3 1, 3) := by decide +kernel
theorem dX1_apart_67 : decode cX1_apart 67 = .ok (.iinc 5 1, 3) := by decide +kernel
theorem dX1_apart_70 : decode cX1_apart 70 = .ok (.goto (-25), 3) := by decide +kernel
theorem dX1_apart_73 : decode cX1_apart 73 = .ok (.iinc 4 1, 3) := by decide +kernel
theorem dX1_apart_76 : decode cX1_apart 76 = .ok (.goto (-50), 3) := by decide +kernel
theorem dX1_apart_79 : decode cX1_apart 79 = .ok (.iload_n 3, 1) := by decide +kernel
theorem dX1_apart_80 : decode cX1_apart 80 = .ok (.ireturn, 1) := by decide +kernel
theorem q13 : (Jvm.Cond.initialized "TightRangeModel") ∈ lw_all := lw_g (lw_at lw_m0 2 rfl) rfl
theorem q136 : (Jvm.Cond.instantiable "TightRangeModel" (4 : Nat)) ∈ lw_all := lw_g (lw_at lw_m0 125 rfl) rfl
theorem q138 : (Jvm.Cond.instanceMethod ({ cls := "TightRangeModel", name := "<init>", desc := "()V" } : Jvm.MethodName)) ∈ lw_all := lw_g (lw_at lw_m0 127 rfl) rfl
theorem q139 : (Jvm.Cond.code ({ cls := "TightRangeModel", name := "<init>", desc := "()V" } : Jvm.MethodName) prog_3_method_1_code (2 : Nat) (Option.none : Option Jvm.ClassFile.FieldType)) ∈ lw_all := lw_g (lw_at lw_m0 128 rfl) rfl
theorem q140 : (Jvm.Cond.methodLink "TightRangeModel" (1 : Nat) ({ cls := "java/lang/Object", name := "<init>", desc := "()V" } : Jvm.MethodName)) ∈ lw_all := lw_g (lw_at lw_m0 129 rfl) rfl
theorem q141 : (Jvm.Cond.fieldLink "TightRangeModel" (7 : Nat) "TightRangeModel" "lows" "[I") ∈ lw_all := lw_g (lw_at lw_m0 130 rfl) rfl
theorem q142 : (Jvm.Cond.fieldLink "TightRangeModel" (13 : Nat) "TightRangeModel" "highs" "[I") ∈ lw_all := lw_g (lw_at lw_m0 131 rfl) rfl
theorem q143 : (Jvm.Cond.fieldLink "TightRangeModel" (20 : Nat) "TightRangeModel" "least" "I") ∈ lw_all := lw_g (lw_at lw_m0 132 rfl) rfl
theorem q144 : (Jvm.Cond.fieldLink "TightRangeModel" (24 : Nat) "TightRangeModel" "most" "I") ∈ lw_all := lw_g (lw_at lw_m0 133 rfl) rfl
theorem q145 : (Jvm.Cond.laysFinal "TightRangeModel" "TightRangeModel" "lows" "[I") ∈ lw_all := lw_g (lw_at lw_m0 134 rfl) rfl
theorem q146 : (Jvm.Cond.soleField "TightRangeModel" "lows") ∈ lw_all := lw_g (lw_at lw_m0 135 rfl) rfl
theorem q147 : (Jvm.Cond.laysFinal "TightRangeModel" "TightRangeModel" "highs" "[I") ∈ lw_all := lw_g (lw_at lw_m0 136 rfl) rfl
theorem q148 : (Jvm.Cond.soleField "TightRangeModel" "highs") ∈ lw_all := lw_g (lw_at lw_m0 137 rfl) rfl
theorem q149 : (Jvm.Cond.lays "TightRangeModel" "TightRangeModel" "least" "I") ∈ lw_all := lw_g (lw_at lw_m0 138 rfl) rfl
theorem q150 : (Jvm.Cond.soleField "TightRangeModel" "least") ∈ lw_all := lw_g (lw_at lw_m0 139 rfl) rfl
theorem q151 : (Jvm.Cond.lays "TightRangeModel" "TightRangeModel" "most" "I") ∈ lw_all := lw_g (lw_at lw_m0 140 rfl) rfl
theorem q152 : (Jvm.Cond.soleField "TightRangeModel" "most") ∈ lw_all := lw_g (lw_at lw_m0 141 rfl) rfl
theorem q153 : (Jvm.Cond.superclass "TightRangeModel" "java/lang/Object") ∈ lw_all := lw_g (lw_at lw_m0 142 rfl) rfl
theorem q155 : (Jvm.Cond.instanceMethod ({ cls := "TightRangeModel", name := "set", desc := "(III)I" } : Jvm.MethodName)) ∈ lw_all := lw_g (lw_at lw_m0 144 rfl) rfl
theorem q156 : (Jvm.Cond.selects "TightRangeModel" ({ cls := "TightRangeModel", name := "set", desc := "(III)I" } : Jvm.MethodName) ({ cls := "TightRangeModel", name := "set", desc := "(III)I" } : Jvm.MethodName)) ∈ lw_all := lw_g (lw_at lw_m0 145 rfl) rfl
theorem q157 : (Jvm.Cond.code ({ cls := "TightRangeModel", name := "set", desc := "(III)I" } : Jvm.MethodName) prog_3_method_3_code (4 : Nat) (Option.some Jvm.ClassFile.FieldType.int)) ∈ lw_all := lw_g (lw_at lw_m0 146 rfl) rfl
theorem q158 : (Jvm.Cond.methodLink "TightRangeModel" (16 : Nat) ({ cls := "TightRangeModel", name := "bad", desc := "(I)Z" } : Jvm.MethodName)) ∈ lw_all := lw_g (lw_at lw_m0 147 rfl) rfl
theorem q159 : (Jvm.Cond.static ({ cls := "TightRangeModel", name := "bad", desc := "(I)Z" } : Jvm.MethodName)) ∈ lw_all := lw_g (lw_at lw_m0 148 rfl) rfl
theorem q160 : (Jvm.Cond.code ({ cls := "TightRangeModel", name := "bad", desc := "(I)Z" } : Jvm.MethodName) prog_3_method_2_code (1 : Nat) (Option.some Jvm.ClassFile.FieldType.boolean)) ∈ lw_all := lw_g (lw_at lw_m0 149 rfl) rfl
theorem q162 : (Jvm.Cond.instanceMethod ({ cls := "TightRangeModel", name := "combine", desc := "(IIII)I" } : Jvm.MethodName)) ∈ lw_all := lw_g (lw_at lw_m0 151 rfl) rfl
theorem q163 : (Jvm.Cond.selects "TightRangeModel" ({ cls := "TightRangeModel", name := "combine", desc := "(IIII)I" } : Jvm.MethodName) ({ cls := "TightRangeModel", name := "combine", desc := "(IIII)I" } : Jvm.MethodName)) ∈ lw_all := lw_g (lw_at lw_m0 152 rfl) rfl
theorem q164 : (Jvm.Cond.code ({ cls := "TightRangeModel", name := "combine", desc := "(IIII)I" } : Jvm.MethodName) prog_3_method_8_code (7 : Nat) (Option.some Jvm.ClassFile.FieldType.int)) ∈ lw_all := lw_g (lw_at lw_m0 153 rfl) rfl
theorem q165 : (Jvm.Cond.methodLink "TightRangeModel" (35 : Nat) ({ cls := "TightRangeModel", name := "pair", desc := "(III)V" } : Jvm.MethodName)) ∈ lw_all := lw_g (lw_at lw_m0 154 rfl) rfl
theorem q166 : (Jvm.Cond.privateMethod ({ cls := "TightRangeModel", name := "pair", desc := "(III)V" } : Jvm.MethodName)) ∈ lw_tbl := lw_at lw_m0 155 rfl
theorem q167 : (Jvm.Cond.instanceMethod ({ cls := "TightRangeModel", name := "pair", desc := "(III)V" } : Jvm.MethodName)) ∈ lw_all := lw_g (lw_at lw_m0 156 rfl) rfl
theorem q168 : (Jvm.Cond.code ({ cls := "TightRangeModel", name := "pair", desc := "(III)V" } : Jvm.MethodName) prog_3_method_6_code (5 : Nat) (Option.none : Option Jvm.ClassFile.FieldType)) ∈ lw_all := lw_g (lw_at lw_m0 157 rfl) rfl
theorem q169 : (Jvm.Cond.methodLink "TightRangeModel" (27 : Nat) ({ cls := "TightRangeModel", name := "worked", desc := "(III)I" } : Jvm.MethodName)) ∈ lw_all := lw_g (lw_at lw_m0 158 rfl) rfl
theorem q170 : (Jvm.Cond.static ({ cls := "TightRangeModel", name := "worked", desc := "(III)I" } : Jvm.MethodName)) ∈ lw_all := lw_g (lw_at lw_m0 159 rfl) rfl
theorem q171 : (Jvm.Cond.code ({ cls := "TightRangeModel", name := "worked", desc := "(III)I" } : Jvm.MethodName) prog_3_method_5_code (3 : Nat) (Option.some Jvm.ClassFile.FieldType.int)) ∈ lw_all := lw_g (lw_at lw_m0 160 rfl) rfl
theorem q172 : (Jvm.Cond.methodLink "TightRangeModel" (31 : Nat) ({ cls := "TightRangeModel", name := "result", desc := "(I)V" } : Jvm.MethodName)) ∈ lw_all := lw_g (lw_at lw_m0 161 rfl) rfl
theorem q173 : (Jvm.Cond.privateMethod ({ cls := "TightRangeModel", name := "result", desc := "(I)V" } : Jvm.MethodName)) ∈ lw_tbl := lw_at lw_m0 162 rfl
theorem q174 : (Jvm.Cond.instanceMethod ({ cls := "TightRangeModel", name := "result", desc := "(I)V" } : Jvm.MethodName)) ∈ lw_all := lw_g (lw_at lw_m0 163 rfl) rfl
theorem q175 : (Jvm.Cond.code ({ cls := "TightRangeModel", name := "result", desc := "(I)V" } : Jvm.MethodName) prog_3_method_4_code (2 : Nat) (Option.none : Option Jvm.ClassFile.FieldType)) ∈ lw_all := lw_g (lw_at lw_m0 164 rfl) rfl
theorem q176 : (Jvm.Cond.methodLink "TightRangeModel" (39 : Nat) ({ cls := "TightRangeModel", name := "keep", desc := "(I)I" } : Jvm.MethodName)) ∈ lw_all := lw_g (lw_at lw_m0 165 rfl) rfl
theorem q177 : (Jvm.Cond.privateMethod ({ cls := "TightRangeModel", name := "keep", desc := "(I)I" } : Jvm.MethodName)) ∈ lw_tbl := lw_at lw_m0 166 rfl
theorem q178 : (Jvm.Cond.instanceMethod ({ cls := "TightRangeModel", name := "keep", desc := "(I)I" } : Jvm.MethodName)) ∈ lw_all := lw_g (lw_at lw_m0 167 rfl) rfl
theorem q179 : (Jvm.Cond.code ({ cls := "TightRangeModel", name := "keep", desc := "(I)I" } : Jvm.MethodName) prog_3_method_7_code (2 : Nat) (Option.some Jvm.ClassFile.FieldType.int)) ∈ lw_all := lw_g (lw_at lw_m0 168 rfl) rfl
theorem q181 : (Jvm.Cond.instanceMethod ({ cls := "TightRangeModel", name := "apply", desc := "(III)I" } : Jvm.MethodName)) ∈ lw_all := lw_g (lw_at lw_m0 170 rfl) rfl
theorem q182 : (Jvm.Cond.selects "TightRangeModel" ({ cls := "TightRangeModel", name := "apply", desc := "(III)I" } : Jvm.MethodName) ({ cls := "TightRangeModel", name := "apply", desc := "(III)I" } : Jvm.MethodName)) ∈ lw_all := lw_g (lw_at lw_m0 171 rfl) rfl
theorem q183 : (Jvm.Cond.code ({ cls := "TightRangeModel", name := "apply", desc := "(III)I" } : Jvm.MethodName) prog_3_method_13_code (6 : Nat) (Option.some Jvm.ClassFile.FieldType.int)) ∈ lw_all := lw_g (lw_at lw_m0 172 rfl) rfl
theorem q184 : (Jvm.Cond.methodLink "TightRangeModel" (52 : Nat) ({ cls := "TightRangeModel", name := "single", desc := "(II)I" } : Jvm.MethodName)) ∈ lw_all := lw_g (lw_at lw_m0 173 rfl) rfl
theorem q185 : (Jvm.Cond.static ({ cls := "TightRangeModel", name := "single", desc := "(II)I" } : Jvm.MethodName)) ∈ lw_all := lw_g (lw_at lw_m0 174 rfl) rfl
theorem q186 : (Jvm.Cond.code ({ cls := "TightRangeModel", name := "single", desc := "(II)I" } : Jvm.MethodName) prog_3_method_12_code (2 : Nat) (Option.some Jvm.ClassFile.FieldType.int)) ∈ lw_all := lw_g (lw_at lw_m0 175 rfl) rfl
theorem q187 : (Jvm.Cond.methodLink "TightRangeModel" (43 : Nat) ({ cls := "TightRangeModel", name := "ones", desc := "(I)I" } : Jvm.MethodName)) ∈ lw_all := lw_g (lw_at lw_m0 176 rfl) rfl
theorem q188 : (Jvm.Cond.static ({ cls := "TightRangeModel", name := "ones", desc := "(I)I" } : Jvm.MethodName)) ∈ lw_all := lw_g (lw_at lw_m0 177 rfl) rfl
theorem q189 : (Jvm.Cond.code ({ cls := "TightRangeModel", name := "ones", desc := "(I)I" } : Jvm.MethodName) prog_3_method_9_code (3 : Nat) (Option.some Jvm.ClassFile.FieldType.int)) ∈ lw_all := lw_g (lw_at lw_m0 178 rfl) rfl
theorem q190 : (Jvm.Cond.methodLink "TightRangeModel" (46 : Nat) ({ cls := "TightRangeModel", name := "reversed", desc := "(I)I" } : Jvm.MethodName)) ∈ lw_all := lw_g (lw_at lw_m0 179 rfl) rfl
theorem q191 : (Jvm.Cond.static ({ cls := "TightRangeModel", name := "reversed", desc := "(I)I" } : Jvm.MethodName)) ∈ lw_all := lw_g (lw_at lw_m0 180 rfl) rfl
theorem q192 : (Jvm.Cond.code ({ cls := "TightRangeModel", name := "reversed", desc := "(I)I" } : Jvm.MethodName) prog_3_method_10_code (3 : Nat) (Option.some Jvm.ClassFile.FieldType.int)) ∈ lw_all := lw_g (lw_at lw_m0 181 rfl) rfl
theorem q193 : (Jvm.Cond.methodLink "TightRangeModel" (49 : Nat) ({ cls := "TightRangeModel", name := "root", desc := "(I)I" } : Jvm.MethodName)) ∈ lw_all := lw_g (lw_at lw_m0 182 rfl) rfl
theorem q194 : (Jvm.Cond.static ({ cls := "TightRangeModel", name := "root", desc := "(I)I" } : Jvm.MethodName)) ∈ lw_all := lw_g (lw_at lw_m0 183 rfl) rfl
theorem q195 : (Jvm.Cond.code ({ cls := "TightRangeModel", name := "root", desc := "(I)I" } : Jvm.MethodName) prog_3_method_11_code (2 : Nat) (Option.some Jvm.ClassFile.FieldType.int)) ∈ lw_all := lw_g (lw_at lw_m0 184 rfl) rfl
theorem q197 : (Jvm.Cond.instanceMethod ({ cls := "TightRangeModel", name := "low", desc := "(I)I" } : Jvm.MethodName)) ∈ lw_all := lw_g (lw_at lw_m0 186 rfl) rfl
theorem q198 : (Jvm.Cond.selects "TightRangeModel" ({ cls := "TightRangeModel", name := "low", desc := "(I)I" } : Jvm.MethodName) ({ cls := "TightRangeModel", name := "low", desc := "(I)I" } : Jvm.MethodName)) ∈ lw_all := lw_g (lw_at lw_m0 187 rfl) rfl
theorem q199 : (Jvm.Cond.code ({ cls := "TightRangeModel", name := "low", desc := "(I)I" } : Jvm.MethodName) prog_3_method_14_code (2 : Nat) (Option.some Jvm.ClassFile.FieldType.int)) ∈ lw_all := lw_g (lw_at lw_m0 188 rfl) rfl
theorem q201 : (Jvm.Cond.instanceMethod ({ cls := "TightRangeModel", name := "high", desc := "(I)I" } : Jvm.MethodName)) ∈ lw_all := lw_g (lw_at lw_m0 190 rfl) rfl
theorem q202 : (Jvm.Cond.selects "TightRangeModel" ({ cls := "TightRangeModel", name := "high", desc := "(I)I" } : Jvm.MethodName) ({ cls := "TightRangeModel", name := "high", desc := "(I)I" } : Jvm.MethodName)) ∈ lw_all := lw_g (lw_at lw_m0 191 rfl) rfl
theorem q203 : (Jvm.Cond.code ({ cls := "TightRangeModel", name := "high", desc := "(I)I" } : Jvm.MethodName) prog_3_method_15_code (2 : Nat) (Option.some Jvm.ClassFile.FieldType.int)) ∈ lw_all := lw_g (lw_at lw_m0 192 rfl) rfl
theorem q205 : (Jvm.Cond.instanceMethod ({ cls := "TightRangeModel", name := "less", desc := "(II)I" } : Jvm.MethodName)) ∈ lw_all := lw_g (lw_at lw_m0 194 rfl) rfl
theorem q206 : (Jvm.Cond.selects "TightRangeModel" ({ cls := "TightRangeModel", name := "less", desc := "(II)I" } : Jvm.MethodName) ({ cls := "TightRangeModel", name := "less", desc := "(II)I" } : Jvm.MethodName)) ∈ lw_all := lw_g (lw_at lw_m0 195 rfl) rfl
theorem q207 : (Jvm.Cond.code ({ cls := "TightRangeModel", name := "less", desc := "(II)I" } : Jvm.MethodName) prog_3_method_16_code (7 : Nat) (Option.some Jvm.ClassFile.FieldType.int)) ∈ lw_all := lw_g (lw_at lw_m0 196 rfl) rfl
theorem q209 : (Jvm.Cond.instanceMethod ({ cls := "TightRangeModel", name := "apart", desc := "(II)I" } : Jvm.MethodName)) ∈ lw_all := lw_g (lw_at lw_m0 198 rfl) rfl
theorem q210 : (Jvm.Cond.selects "TightRangeModel" ({ cls := "TightRangeModel", name := "apart", desc := "(II)I" } : Jvm.MethodName) ({ cls := "TightRangeModel", name := "apart", desc := "(II)I" } : Jvm.MethodName)) ∈ lw_all := lw_g (lw_at lw_m0 199 rfl) rfl
theorem q211 : (Jvm.Cond.code ({ cls := "TightRangeModel", name := "apart", desc := "(II)I" } : Jvm.MethodName) prog_3_method_17_code (6 : Nat) (Option.some Jvm.ClassFile.FieldType.int)) ∈ lw_all := lw_g (lw_at lw_m0 200 rfl) rfl
theorem in_X1 : ∀ w ∈ wsX10, w ∈ lw_all := lw_in wsX10 [145, 147, 149, 151] (by decide +kernel) (by decide +kernel)
end
section
/-! TightRange -/
set_option maxRecDepth 100000
def RX0 : String := "TightRange"
def TX0 : u_T := fun k => match k with
  | 0 => ("TightRange", "low", "[I", true)
  | 1 => ("TightRange", "high", "[I", true)
  | 2 => ("TightRange", "newLow", "I", false)
  | _ => ("TightRange", "newHigh", "I", false)
def tyX0 : Nat → FieldType := fun k => match k with
  | 0 => .array .int
  | 1 => .array .int
  | 2 => .int
  | _ => .int
abbrev wsX00 : List Cond := u_ws RX0 TX0 4
theorem nmX0 : ∀ a, a < 4 → ∀ b, b < 4 → a ≠ b → (TX0 a).2.1 ≠ (TX0 b).2.1 := by decide +kernel
theorem tyX0_ok : ∀ k, k < 4 → parseFieldDescriptor (TX0 k).2.2.1 = some (tyX0 k) := by decide +kernel
abbrev cX0_init : ByteArray := prog_1_method_1_code
def yX0_init : MethodName := ⟨RX0, "<init>", "()V"⟩
theorem dX0_init_0 : decode cX0_init 0 = .ok (.aload_n 0, 1) := by decide +kernel
theorem dX0_init_1 : decode cX0_init 1 = .ok (.invokespecial 1, 3) := by decide +kernel
theorem dX0_init_4 : decode cX0_init 4 = .ok (.aload_n 0, 1) := by decide +kernel
theorem dX0_init_5 : decode cX0_init 5 = .ok (.bipush 6, 2) := by decide +kernel
theorem dX0_init_7 : decode cX0_init 7 = .ok (.newarray .int, 2) := by decide +kernel
theorem dX0_init_9 : decode cX0_init 9 = .ok (.putfield 7, 3) := by decide +kernel
theorem dX0_init_12 : decode cX0_init 12 = .ok (.aload_n 0, 1) := by decide +kernel
theorem dX0_init_13 : decode cX0_init 13 = .ok (.bipush 6, 2) := by decide +kernel
theorem dX0_init_15 : decode cX0_init 15 = .ok (.newarray .int, 2) := by decide +kernel
theorem dX0_init_17 : decode cX0_init 17 = .ok (.putfield 13, 3) := by decide +kernel
theorem dX0_init_20 : decode cX0_init 20 = .ok (.iconst 0, 1) := by decide +kernel
theorem dX0_init_21 : decode cX0_init 21 = .ok (.istore_n 1, 1) := by decide +kernel
theorem dX0_init_22 : decode cX0_init 22 = .ok (.iload_n 1, 1) := by decide +kernel
theorem dX0_init_23 : decode cX0_init 23 = .ok (.bipush 6, 2) := by decide +kernel
theorem dX0_init_25 : decode cX0_init 25 = .ok (.if_icmp .ge 17, 3) := by decide +kernel
theorem dX0_init_28 : decode cX0_init 28 = .ok (.aload_n 0, 1) := by decide +kernel
theorem dX0_init_29 : decode cX0_init 29 = .ok (.getfield 13, 3) := by decide +kernel
theorem dX0_init_32 : decode cX0_init 32 = .ok (.iload_n 1, 1) := by decide +kernel
theorem dX0_init_33 : decode cX0_init 33 = .ok (.bipush 127, 2) := by decide +kernel
theorem dX0_init_35 : decode cX0_init 35 = .ok (.iastore, 1) := by decide +kernel
theorem dX0_init_36 : decode cX0_init 36 = .ok (.iinc 1 1, 3) := by decide +kernel
theorem dX0_init_39 : decode cX0_init 39 = .ok (.goto (-17), 3) := by decide +kernel
theorem dX0_init_42 : decode cX0_init 42 = .ok (.return_, 1) := by decide +kernel
abbrev cX0_set : ByteArray := prog_1_method_2_code
def yX0_set : MethodName := ⟨RX0, "set", "(III)I"⟩
theorem dX0_set_0 : decode cX0_set 0 = .ok (.iload_n 1, 1) := by decide +kernel
theorem dX0_set_1 : decode cX0_set 1 = .ok (.invokestatic 16, 3) := by decide +kernel
theorem dX0_set_4 : decode cX0_set 4 = .ok (.ifCond .eq 18, 3) := by decide +kernel
theorem dX0_set_7 : decode cX0_set 7 = .ok (.iload_n 2, 1) := by decide +kernel
theorem dX0_set_8 : decode cX0_set 8 = .ok (.ifCond .lt 14, 3) := by decide +kernel
theorem dX0_set_11 : decode cX0_set 11 = .ok (.iload_n 2, 1) := by decide +kernel
theorem dX0_set_12 : decode cX0_set 12 = .ok (.iload_n 3, 1) := by decide +kernel
theorem dX0_set_13 : decode cX0_set 13 = .ok (.if_icmp .gt 9, 3) := by decide +kernel
theorem dX0_set_16 : decode cX0_set 16 = .ok (.iload_n 3, 1) := by decide +kernel
theorem dX0_set_17 : decode cX0_set 17 = .ok (.bipush 127, 2) := by decide +kernel
theorem dX0_set_19 : decode cX0_set 19 = .ok (.if_icmp .le 5, 3) := by decide +kernel
theorem dX0_set_22 : decode cX0_set 22 = .ok (.iconst (-1), 1) := by decide +kernel
theorem dX0_set_23 : decode cX0_set 23 = .ok (.ireturn, 1) := by decide +kernel
theorem dX0_set_24 : decode cX0_set 24 = .ok (.aload_n 0, 1) := by decide +kernel
theorem dX0_set_25 : decode cX0_set 25 = .ok (.getfield 7, 3) := by decide +kernel
theorem dX0_set_28 : decode cX0_set 28 = .ok (.iload_n 1, 1) := by decide +kernel
theorem dX0_set_29 : decode cX0_set 29 = .ok (.iload_n 2, 1) := by decide +kernel
theorem dX0_set_30 : decode cX0_set 30 = .ok (.iastore, 1) := by decide +kernel
theorem dX0_set_31 : decode cX0_set 31 = .ok (.aload_n 0, 1) := by decide +kernel
theorem dX0_set_32 : decode cX0_set 32 = .ok (.getfield 13, 3) := by decide +kernel
theorem dX0_set_35 : decode cX0_set 35 = .ok (.iload_n 1, 1) := by decide +kernel
theorem dX0_set_36 : decode cX0_set 36 = .ok (.iload_n 3, 1) := by decide +kernel
theorem dX0_set_37 : decode cX0_set 37 = .ok (.iastore, 1) := by decide +kernel
theorem dX0_set_38 : decode cX0_set 38 = .ok (.iconst 0, 1) := by decide +kernel
theorem dX0_set_39 : decode cX0_set 39 = .ok (.ireturn, 1) := by decide +kernel
abbrev cX0_isRegister : ByteArray := prog_1_method_9_code
def yX0_isRegister : MethodName := ⟨RX0, "isRegister", "(I)Z"⟩
theorem dX0_isRegister_0 : decode cX0_isRegister 0 = .ok (.iload_n 0, 1) := by decide +kernel
theorem dX0_isRegister_1 : decode cX0_isRegister 1 = .ok (.ifCond .lt 12, 3) := by decide +kernel
theorem dX0_isRegister_4 : decode cX0_isRegister 4 = .ok (.iload_n 0, 1) := by decide +kernel
theorem dX0_isRegister_5 : decode cX0_isRegister 5 = .ok (.iconst 5, 1) := by decide +kernel
theorem dX0_isRegister_6 : decode cX0_isRegister 6 = .ok (.if_icmp .gt 7, 3) := by decide +kernel
theorem dX0_isRegister_9 : decode cX0_isRegister 9 = .ok (.iconst 1, 1) := by decide +kernel
theorem dX0_isRegister_10 : decode cX0_isRegister 10 = .ok (.goto 4, 3) := by decide +kernel
theorem dX0_isRegister_13 : decode cX0_isRegister 13 = .ok (.iconst 0, 1) := by decide +kernel
theorem dX0_isRegister_14 : decode cX0_isRegister 14 = .ok (.ireturn, 1) := by decide +kernel
abbrev cX0_combine : ByteArray := prog_1_method_3_code
def yX0_combine : MethodName := ⟨RX0, "combine", "(IIII)I"⟩
theorem dX0_combine_0 : decode cX0_combine 0 = .ok (.iload_n 1, 1) := by decide +kernel
theorem dX0_combine_1 : decode cX0_combine 1 = .ok (.invokestatic 16, 3) := by decide +kernel
theorem dX0_combine_4 : decode cX0_combine 4 = .ok (.ifCond .eq 28, 3) := by decide +kernel
theorem dX0_combine_7 : decode cX0_combine 7 = .ok (.iload_n 3, 1) := by decide +kernel
theorem dX0_combine_8 : decode cX0_combine 8 = .ok (.invokestatic 16, 3) := by decide +kernel
theorem dX0_combine_11 : decode cX0_combine 11 = .ok (.ifCond .eq 21, 3) := by decide +kernel
theorem dX0_combine_14 : decode cX0_combine 14 = .ok (.iload 4, 2) := by decide +kernel
theorem dX0_combine_16 : decode cX0_combine 16 = .ok (.invokestatic 16, 3) := by decide +kernel
theorem dX0_combine_19 : decode cX0_combine 19 = .ok (.ifCond .eq 13, 3) := by decide +kernel
theorem dX0_combine_22 : decode cX0_combine 22 = .ok (.iload_n 2, 1) := by decide +kernel
theorem dX0_combine_23 : decode cX0_combine 23 = .ok (.ifCond .lt 9, 3) := by decide +kernel
theorem dX0_combine_26 : decode cX0_combine 26 = .ok (.iload_n 2, 1) := by decide +kernel
theorem dX0_combine_27 : decode cX0_combine 27 = .ok (.bipush 10, 2) := by decide +kernel
theorem dX0_combine_29 : decode cX0_combine 29 = .ok (.if_icmp .le 5, 3) := by decide +kernel
theorem dX0_combine_32 : decode cX0_combine 32 = .ok (.iconst (-1), 1) := by decide +kernel
theorem dX0_combine_33 : decode cX0_combine 33 = .ok (.ireturn, 1) := by decide +kernel
theorem dX0_combine_34 : decode cX0_combine 34 = .ok (.iload_n 2, 1) := by decide +kernel
theorem dX0_combine_35 : decode cX0_combine 35 = .ok (.iconst 1, 1) := by decide +kernel
theorem dX0_combine_36 : decode cX0_combine 36 = .ok (.if_icmp .gt 14, 3) := by decide +kernel
theorem dX0_combine_39 : decode cX0_combine 39 = .ok (.aload_n 0, 1) := by decide +kernel
theorem dX0_combine_40 : decode cX0_combine 40 = .ok (.iload_n 2, 1) := by decide +kernel
theorem dX0_combine_41 : decode cX0_combine 41 = .ok (.iload_n 3, 1) := by decide +kernel
theorem dX0_combine_42 : decode cX0_combine 42 = .ok (.iload 4, 2) := by decide +kernel
theorem dX0_combine_44 : decode cX0_combine 44 = .ok (.invokevirtual 20, 3) := by decide +kernel
theorem dX0_combine_47 : decode cX0_combine 47 = .ok (.goto 83, 3) := by decide +kernel
theorem dX0_combine_50 : decode cX0_combine 50 = .ok (.iload_n 2, 1) := by decide +kernel
theorem dX0_combine_51 : decode cX0_combine 51 = .ok (.iconst 4, 1) := by decide +kernel
theorem dX0_combine_52 : decode cX0_combine 52 = .ok (.if_icmp .gt 37, 3) := by decide +kernel
theorem dX0_combine_55 : decode cX0_combine 55 = .ok (.aload_n 0, 1) := by decide +kernel
theorem dX0_combine_56 : decode cX0_combine 56 = .ok (.iload_n 2, 1) := by decide +kernel
theorem dX0_combine_57 : decode cX0_combine 57 = .ok (.aload_n 0, 1) := by decide +kernel
theorem dX0_combine_58 : decode cX0_combine 58 = .ok (.getfield 7, 3) := by decide +kernel
theorem dX0_combine_61 : decode cX0_combine 61 = .ok (.iload_n 3, 1) := by decide +kernel
theorem dX0_combine_62 : decode cX0_combine 62 = .ok (.iaload, 1) := by decide +kernel
theorem dX0_combine_63 : decode cX0_combine 63 = .ok (.aload_n 0, 1) := by decide +kernel
theorem dX0_combine_64 : decode cX0_combine 64 = .ok (.getfield 13, 3) := by decide +kernel
theorem dX0_combine_67 : decode cX0_combine 67 = .ok (.iload_n 3, 1) := by decide +kernel
theorem dX0_combine_68 : decode cX0_combine 68 = .ok (.iaload, 1) := by decide +kernel
theorem dX0_combine_69 : decode cX0_combine 69 = .ok (.aload_n 0, 1) := by decide +kernel
theorem dX0_combine_70 : decode cX0_combine 70 = .ok (.getfield 7, 3) := by decide +kernel
theorem dX0_combine_73 : decode cX0_combine 73 = .ok (.iload 4, 2) := by decide +kernel
theorem dX0_combine_75 : decode cX0_combine 75 = .ok (.iaload, 1) := by decide +kernel
theorem dX0_combine_76 : decode cX0_combine 76 = .ok (.aload_n 0, 1) := by decide +kernel
theorem dX0_combine_77 : decode cX0_combine 77 = .ok (.getfield 13, 3) := by decide +kernel
theorem dX0_combine_80 : decode cX0_combine 80 = .ok (.iload 4, 2) := by decide +kernel
theorem dX0_combine_82 : decode cX0_combine 82 = .ok (.iaload, 1) := by decide +kernel
theorem dX0_combine_83 : decode cX0_combine 83 = .ok (.invokevirtual 24, 3) := by decide +kernel
theorem dX0_combine_86 : decode cX0_combine 86 = .ok (.goto 44, 3) := by decide +kernel
theorem dX0_combine_89 : decode cX0_combine 89 = .ok (.iload_n 2, 1) := by decide +kernel
theorem dX0_combine_90 : decode cX0_combine 90 = .ok (.bipush 6, 2) := by decide +kernel
theorem dX0_combine_92 : decode cX0_combine 92 = .ok (.if_icmp .gt 14, 3) := by decide +kernel
theorem dX0_combine_95 : decode cX0_combine 95 = .ok (.aload_n 0, 1) := by decide +kernel
theorem dX0_combine_96 : decode cX0_combine 96 = .ok (.iload_n 2, 1) := by decide +kernel
theorem dX0_combine_97 : decode cX0_combine 97 = .ok (.iload_n 3, 1) := by decide +kernel
theorem dX0_combine_98 : decode cX0_combine 98 = .ok (.iload 4, 2) := by decide +kernel
theorem dX0_combine_100 : decode cX0_combine 100 = .ok (.invokevirtual 28, 3) := by decide +kernel
theorem dX0_combine_103 : decode cX0_combine 103 = .ok (.goto 27, 3) := by decide +kernel
theorem dX0_combine_106 : decode cX0_combine 106 = .ok (.iload_n 2, 1) := by decide +kernel
theorem dX0_combine_107 : decode cX0_combine 107 = .ok (.bipush 8, 2) := by decide +kernel
theorem dX0_combine_109 : decode cX0_combine 109 = .ok (.if_icmp .ne 13, 3) := by decide +kernel
theorem dX0_combine_112 : decode cX0_combine 112 = .ok (.aload_n 0, 1) := by decide +kernel
theorem dX0_combine_113 : decode cX0_combine 113 = .ok (.iload_n 3, 1) := by decide +kernel
theorem dX0_combine_114 : decode cX0_combine 114 = .ok (.iload 4, 2) := by decide +kernel
theorem dX0_combine_116 : decode cX0_combine 116 = .ok (.invokevirtual 31, 3) := by decide +kernel
theorem dX0_combine_119 : decode cX0_combine 119 = .ok (.goto 11, 3) := by decide +kernel
theorem dX0_combine_122 : decode cX0_combine 122 = .ok (.aload_n 0, 1) := by decide +kernel
theorem dX0_combine_123 : decode cX0_combine 123 = .ok (.iload_n 2, 1) := by decide +kernel
theorem dX0_combine_124 : decode cX0_combine 124 = .ok (.iload_n 3, 1) := by decide +kernel
theorem dX0_combine_125 : decode cX0_combine 125 = .ok (.iload 4, 2) := by decide +kernel
theorem dX0_combine_127 : decode cX0_combine 127 = .ok (.invokevirtual 35, 3) := by decide +kernel
theorem dX0_combine_130 : decode cX0_combine 130 = .ok (.aload_n 0, 1) := by decide +kernel
theorem dX0_combine_131 : decode cX0_combine 131 = .ok (.getfield 38, 3) := by decide +kernel
theorem dX0_combine_134 : decode cX0_combine 134 = .ok (.aload_n 0, 1) := by decide +kernel
theorem dX0_combine_135 : decode cX0_combine 135 = .ok (.getfield 42, 3) := by decide +kernel
theorem dX0_combine_138 : decode cX0_combine 138 = .ok (.if_icmp .le 6, 3) := by decide +kernel
theorem dX0_combine_141 : decode cX0_combine 141 = .ok (.bipush (-2), 2) := by decide +kernel
theorem dX0_combine_143 : decode cX0_combine 143 = .ok (.ireturn, 1) := by decide +kernel
theorem dX0_combine_144 : decode cX0_combine 144 = .ok (.aload_n 0, 1) := by decide +kernel
theorem dX0_combine_145 : decode cX0_combine 145 = .ok (.getfield 7, 3) := by decide +kernel
theorem dX0_combine_148 : decode cX0_combine 148 = .ok (.iload_n 1, 1) := by decide +kernel
theorem dX0_combine_149 : decode cX0_combine 149 = .ok (.aload_n 0, 1) := by decide +kernel
theorem dX0_combine_150 : decode cX0_combine 150 = .ok (.getfield 38, 3) := by decide +kernel
theorem dX0_combine_153 : decode cX0_combine 153 = .ok (.iastore, 1) := by decide +kernel
theorem dX0_combine_154 : decode cX0_combine 154 = .ok (.aload_n 0, 1) := by decide +kernel
theorem dX0_combine_155 : decode cX0_combine 155 = .ok (.getfield 13, 3) := by decide +kernel
theorem dX0_combine_158 : decode cX0_combine 158 = .ok (.iload_n 1, 1) := by decide +kernel
theorem dX0_combine_159 : decode cX0_combine 159 = .ok (.aload_n 0, 1) := by decide +kernel
theorem dX0_combine_160 : decode cX0_combine 160 = .ok (.getfield 42, 3) := by decide +kernel
theorem dX0_combine_163 : decode cX0_combine 163 = .ok (.iastore, 1) := by decide +kernel
theorem dX0_combine_164 : decode cX0_combine 164 = .ok (.iconst 0, 1) := by decide +kernel
theorem dX0_combine_165 : decode cX0_combine 165 = .ok (.ireturn, 1) := by decide +kernel
abbrev cX0_addOrSubtract : ByteArray := prog_1_method_13_code
def yX0_addOrSubtract : MethodName := ⟨RX0, "addOrSubtract", "(III)V"⟩
theorem dX0_addOrSubtract_0 : decode cX0_addOrSubtract 0 = .ok (.iload_n 1, 1) := by decide +kernel
theorem dX0_addOrSubtract_1 : decode cX0_addOrSubtract 1 = .ok (.ifCond .ne 19, 3) := by decide +kernel
theorem dX0_addOrSubtract_4 : decode cX0_addOrSubtract 4 = .ok (.aload_n 0, 1) := by decide +kernel
theorem dX0_addOrSubtract_5 : decode cX0_addOrSubtract 5 = .ok (.getfield 7, 3) := by decide +kernel
theorem dX0_addOrSubtract_8 : decode cX0_addOrSubtract 8 = .ok (.iload_n 2, 1) := by decide +kernel
theorem dX0_addOrSubtract_9 : decode cX0_addOrSubtract 9 = .ok (.iaload, 1) := by decide +kernel
theorem dX0_addOrSubtract_10 : decode cX0_addOrSubtract 10 = .ok (.aload_n 0, 1) := by decide +kernel
theorem dX0_addOrSubtract_11 : decode cX0_addOrSubtract 11 = .ok (.getfield 7, 3) := by decide +kernel
theorem dX0_addOrSubtract_14 : decode cX0_addOrSubtract 14 = .ok (.iload_n 3, 1) := by decide +kernel
theorem dX0_addOrSubtract_15 : decode cX0_addOrSubtract 15 = .ok (.iaload, 1) := by decide +kernel
theorem dX0_addOrSubtract_16 : decode cX0_addOrSubtract 16 = .ok (.iadd, 1) := by decide +kernel
theorem dX0_addOrSubtract_17 : decode cX0_addOrSubtract 17 = .ok (.goto 20, 3) := by decide +kernel
theorem dX0_addOrSubtract_20 : decode cX0_addOrSubtract 20 = .ok (.aload_n 0, 1) := by decide +kernel
theorem dX0_addOrSubtract_21 : decode cX0_addOrSubtract 21 = .ok (.getfield 7, 3) := by decide +kernel
theorem dX0_addOrSubtract_24 : decode cX0_addOrSubtract 24 = .ok (.iload_n 2, 1) := by decide +kernel
theorem dX0_addOrSubtract_25 : decode cX0_addOrSubtract 25 = .ok (.iaload, 1) := by decide +kernel
theorem dX0_addOrSubtract_26 : decode cX0_addOrSubtract 26 = .ok (.aload_n 0, 1) := by decide +kernel
theorem dX0_addOrSubtract_27 : decode cX0_addOrSubtract 27 = .ok (.getfield 13, 3) := by decide +kernel
theorem dX0_addOrSubtract_30 : decode cX0_addOrSubtract 30 = .ok (.iload_n 3, 1) := by decide +kernel
theorem dX0_addOrSubtract_31 : decode cX0_addOrSubtract 31 = .ok (.iaload, 1) := by decide +kernel
theorem dX0_addOrSubtract_32 : decode cX0_addOrSubtract 32 = .ok (.isub, 1) := by decide +kernel
theorem dX0_addOrSubtract_33 : decode cX0_addOrSubtract 33 = .ok (.sipush 128, 3) := by decide +kernel
theorem dX0_addOrSubtract_36 : decode cX0_addOrSubtract 36 = .ok (.iadd, 1) := by decide +kernel
theorem dX0_addOrSubtract_37 : decode cX0_addOrSubtract 37 = .ok (.istore 4, 2) := by decide +kernel
theorem dX0_addOrSubtract_39 : decode cX0_addOrSubtract 39 = .ok (.iload_n 1, 1) := by decide +kernel
theorem dX0_addOrSubtract_40 : decode cX0_addOrSubtract 40 = .ok (.ifCond .ne 19, 3) := by decide +kernel
theorem dX0_addOrSubtract_43 : decode cX0_addOrSubtract 43 = .ok (.aload_n 0, 1) := by decide +kernel
theorem dX0_addOrSubtract_44 : decode cX0_addOrSubtract 44 = .ok (.getfield 13, 3) := by decide +kernel
theorem dX0_addOrSubtract_47 : decode cX0_addOrSubtract 47 = .ok (.iload_n 2, 1) := by decide +kernel
theorem dX0_addOrSubtract_48 : decode cX0_addOrSubtract 48 = .ok (.iaload, 1) := by decide +kernel
theorem dX0_addOrSubtract_49 : decode cX0_addOrSubtract 49 = .ok (.aload_n 0, 1) := by decide +kernel
theorem dX0_addOrSubtract_50 : decode cX0_addOrSubtract 50 = .ok (.getfield 13, 3) := by decide +kernel
theorem dX0_addOrSubtract_53 : decode cX0_addOrSubtract 53 = .ok (.iload_n 3, 1) := by decide +kernel
theorem dX0_addOrSubtract_54 : decode cX0_addOrSubtract 54 = .ok (.iaload, 1) := by decide +kernel
theorem dX0_addOrSubtract_55 : decode cX0_addOrSubtract 55 = .ok (.iadd, 1) := by decide +kernel
theorem dX0_addOrSubtract_56 : decode cX0_addOrSubtract 56 = .ok (.goto 20, 3) := by decide +kernel
theorem dX0_addOrSubtract_59 : decode cX0_addOrSubtract 59 = .ok (.aload_n 0, 1) := by decide +kernel
theorem dX0_addOrSubtract_60 : decode cX0_addOrSubtract 60 = .ok (.getfield 13, 3) := by decide +kernel
theorem dX0_addOrSubtract_63 : decode cX0_addOrSubtract 63 = .ok (.iload_n 2, 1) := by decide +kernel
theorem dX0_addOrSubtract_64 : decode cX0_addOrSubtract 64 = .ok (.iaload, 1) := by decide +kernel
theorem dX0_addOrSubtract_65 : decode cX0_addOrSubtract 65 = .ok (.aload_n 0, 1) := by decide +kernel
theorem dX0_addOrSubtract_66 : decode cX0_addOrSubtract 66 = .ok (.getfield 7, 3) := by decide +kernel
theorem dX0_addOrSubtract_69 : decode cX0_addOrSubtract 69 = .ok (.iload_n 3, 1) := by decide +kernel
theorem dX0_addOrSubtract_70 : decode cX0_addOrSubtract 70 = .ok (.iaload, 1) := by decide +kernel
theorem dX0_addOrSubtract_71 : decode cX0_addOrSubtract 71 = .ok (.isub, 1) := by decide +kernel
theorem dX0_addOrSubtract_72 : decode cX0_addOrSubtract 72 = .ok (.sipush 128, 3) := by decide +kernel
theorem dX0_addOrSubtract_75 : decode cX0_addOrSubtract 75 = .ok (.iadd, 1) := by decide +kernel
theorem dX0_addOrSubtract_76 : decode cX0_addOrSubtract 76 = .ok (.istore 5, 2) := by decide +kernel
theorem dX0_addOrSubtract_78 : decode cX0_addOrSubtract 78 = .ok (.iload 5, 2) := by decide +kernel
theorem dX0_addOrSubtract_80 : decode cX0_addOrSubtract 80 = .ok (.sipush 128, 3) := by decide +kernel
theorem dX0_addOrSubtract_83 : decode cX0_addOrSubtract 83 = .ok (.if_icmp .ge 14, 3) := by decide +kernel
theorem dX0_addOrSubtract_86 : decode cX0_addOrSubtract 86 = .ok (.aload_n 0, 1) := by decide +kernel
theorem dX0_addOrSubtract_87 : decode cX0_addOrSubtract 87 = .ok (.iload 4, 2) := by decide +kernel
theorem dX0_addOrSubtract_89 : decode cX0_addOrSubtract 89 = .ok (.iload 5, 2) := by decide +kernel
theorem dX0_addOrSubtract_91 : decode cX0_addOrSubtract 91 = .ok (.invokevirtual 45, 3) := by decide +kernel
theorem dX0_addOrSubtract_94 : decode cX0_addOrSubtract 94 = .ok (.goto 37, 3) := by decide +kernel
theorem dX0_addOrSubtract_97 : decode cX0_addOrSubtract 97 = .ok (.iload 4, 2) := by decide +kernel
theorem dX0_addOrSubtract_99 : decode cX0_addOrSubtract 99 = .ok (.sipush 128, 3) := by decide +kernel
theorem dX0_addOrSubtract_102 : decode cX0_addOrSubtract 102 = .ok (.if_icmp .lt 22, 3) := by decide +kernel
theorem dX0_addOrSubtract_105 : decode cX0_addOrSubtract 105 = .ok (.aload_n 0, 1) := by decide +kernel
theorem dX0_addOrSubtract_106 : decode cX0_addOrSubtract 106 = .ok (.iload 4, 2) := by decide +kernel
theorem dX0_addOrSubtract_108 : decode cX0_addOrSubtract 108 = .ok (.sipush 128, 3) := by decide +kernel
theorem dX0_addOrSubtract_111 : decode cX0_addOrSubtract 111 = .ok (.isub, 1) := by decide +kernel
theorem dX0_addOrSubtract_112 : decode cX0_addOrSubtract 112 = .ok (.iload 5, 2) := by decide +kernel
theorem dX0_addOrSubtract_114 : decode cX0_addOrSubtract 114 = .ok (.sipush 128, 3) := by decide +kernel
theorem dX0_addOrSubtract_117 : decode cX0_addOrSubtract 117 = .ok (.isub, 1) := by decide +kernel
theorem dX0_addOrSubtract_118 : decode cX0_addOrSubtract 118 = .ok (.invokevirtual 45, 3) := by decide +kernel
theorem dX0_addOrSubtract_121 : decode cX0_addOrSubtract 121 = .ok (.goto 10, 3) := by decide +kernel
theorem dX0_addOrSubtract_124 : decode cX0_addOrSubtract 124 = .ok (.aload_n 0, 1) := by decide +kernel
theorem dX0_addOrSubtract_125 : decode cX0_addOrSubtract 125 = .ok (.iconst 0, 1) := by decide +kernel
theorem dX0_addOrSubtract_126 : decode cX0_addOrSubtract 126 = .ok (.bipush 127, 2) := by decide +kernel
theorem dX0_addOrSubtract_128 : decode cX0_addOrSubtract 128 = .ok (.invokevirtual 45, 3) := by decide +kernel
theorem dX0_addOrSubtract_131 : decode cX0_addOrSubtract 131 = .ok (.return_, 1) := by decide +kernel
abbrev cX0_keep : ByteArray := prog_1_method_10_code
def yX0_keep : MethodName := ⟨RX0, "keep", "(II)V"⟩
theorem dX0_keep_0 : decode cX0_keep 0 = .ok (.aload_n 0, 1) := by decide +kernel
theorem dX0_keep_1 : decode cX0_keep 1 = .ok (.iload_n 1, 1) := by decide +kernel
theorem dX0_keep_2 : decode cX0_keep 2 = .ok (.putfield 38, 3) := by decide +kernel
theorem dX0_keep_5 : decode cX0_keep 5 = .ok (.aload_n 0, 1) := by decide +kernel
theorem dX0_keep_6 : decode cX0_keep 6 = .ok (.iload_n 2, 1) := by decide +kernel
theorem dX0_keep_7 : decode cX0_keep 7 = .ok (.putfield 42, 3) := by decide +kernel
theorem dX0_keep_10 : decode cX0_keep 10 = .ok (.return_, 1) := by decide +kernel
abbrev cX0_bitwise : ByteArray := prog_1_method_19_code
def yX0_bitwise : MethodName := ⟨RX0, "bitwise", "(IIIII)V"⟩
theorem dX0_bitwise_0 : decode cX0_bitwise 0 = .ok (.iload_n 1, 1) := by decide +kernel
theorem dX0_bitwise_1 : decode cX0_bitwise 1 = .ok (.iconst 3, 1) := by decide +kernel
theorem dX0_bitwise_2 : decode cX0_bitwise 2 = .ok (.if_icmp .ne 36, 3) := by decide +kernel
theorem dX0_bitwise_5 : decode cX0_bitwise 5 = .ok (.iload_n 2, 1) := by decide +kernel
theorem dX0_bitwise_6 : decode cX0_bitwise 6 = .ok (.iload_n 3, 1) := by decide +kernel
theorem dX0_bitwise_7 : decode cX0_bitwise 7 = .ok (.iload 4, 2) := by decide +kernel
theorem dX0_bitwise_9 : decode cX0_bitwise 9 = .ok (.iload 5, 2) := by decide +kernel
theorem dX0_bitwise_11 : decode cX0_bitwise 11 = .ok (.invokestatic 72, 3) := by decide +kernel
theorem dX0_bitwise_14 : decode cX0_bitwise 14 = .ok (.istore 6, 2) := by decide +kernel
theorem dX0_bitwise_16 : decode cX0_bitwise 16 = .ok (.iload_n 2, 1) := by decide +kernel
theorem dX0_bitwise_17 : decode cX0_bitwise 17 = .ok (.iload_n 3, 1) := by decide +kernel
theorem dX0_bitwise_18 : decode cX0_bitwise 18 = .ok (.iload 4, 2) := by decide +kernel
theorem dX0_bitwise_20 : decode cX0_bitwise 20 = .ok (.iload 5, 2) := by decide +kernel
theorem dX0_bitwise_22 : decode cX0_bitwise 22 = .ok (.invokestatic 76, 3) := by decide +kernel
theorem dX0_bitwise_25 : decode cX0_bitwise 25 = .ok (.istore 7, 2) := by decide +kernel
theorem dX0_bitwise_27 : decode cX0_bitwise 27 = .ok (.aload_n 0, 1) := by decide +kernel
theorem dX0_bitwise_28 : decode cX0_bitwise 28 = .ok (.iload 6, 2) := by decide +kernel
theorem dX0_bitwise_30 : decode cX0_bitwise 30 = .ok (.iload 7, 2) := by decide +kernel
theorem dX0_bitwise_32 : decode cX0_bitwise 32 = .ok (.invokevirtual 45, 3) := by decide +kernel
theorem dX0_bitwise_35 : decode cX0_bitwise 35 = .ok (.goto 101, 3) := by decide +kernel
theorem dX0_bitwise_38 : decode cX0_bitwise 38 = .ok (.iload_n 1, 1) := by decide +kernel
theorem dX0_bitwise_39 : decode cX0_bitwise 39 = .ok (.iconst 2, 1) := by decide +kernel
theorem dX0_bitwise_40 : decode cX0_bitwise 40 = .ok (.if_icmp .ne 66, 3) := by decide +kernel
theorem dX0_bitwise_43 : decode cX0_bitwise 43 = .ok (.bipush 127, 2) := by decide +kernel
theorem dX0_bitwise_45 : decode cX0_bitwise 45 = .ok (.iload_n 3, 1) := by decide +kernel
theorem dX0_bitwise_46 : decode cX0_bitwise 46 = .ok (.isub, 1) := by decide +kernel
theorem dX0_bitwise_47 : decode cX0_bitwise 47 = .ok (.bipush 127, 2) := by decide +kernel
theorem dX0_bitwise_49 : decode cX0_bitwise 49 = .ok (.iload_n 2, 1) := by decide +kernel
theorem dX0_bitwise_50 : decode cX0_bitwise 50 = .ok (.isub, 1) := by decide +kernel
theorem dX0_bitwise_51 : decode cX0_bitwise 51 = .ok (.bipush 127, 2) := by decide +kernel
theorem dX0_bitwise_53 : decode cX0_bitwise 53 = .ok (.iload 5, 2) := by decide +kernel
theorem dX0_bitwise_55 : decode cX0_bitwise 55 = .ok (.isub, 1) := by decide +kernel
theorem dX0_bitwise_56 : decode cX0_bitwise 56 = .ok (.bipush 127, 2) := by decide +kernel
theorem dX0_bitwise_58 : decode cX0_bitwise 58 = .ok (.iload 4, 2) := by decide +kernel
theorem dX0_bitwise_60 : decode cX0_bitwise 60 = .ok (.isub, 1) := by decide +kernel
theorem dX0_bitwise_61 : decode cX0_bitwise 61 = .ok (.invokestatic 72, 3) := by decide +kernel
theorem dX0_bitwise_64 : decode cX0_bitwise 64 = .ok (.istore 6, 2) := by decide +kernel
theorem dX0_bitwise_66 : decode cX0_bitwise 66 = .ok (.bipush 127, 2) := by decide +kernel
theorem dX0_bitwise_68 : decode cX0_bitwise 68 = .ok (.iload_n 3, 1) := by decide +kernel
theorem dX0_bitwise_69 : decode cX0_bitwise 69 = .ok (.isub, 1) := by decide +kernel
theorem dX0_bitwise_70 : decode cX0_bitwise 70 = .ok (.bipush 127, 2) := by decide +kernel
theorem dX0_bitwise_72 : decode cX0_bitwise 72 = .ok (.iload_n 2, 1) := by decide +kernel
theorem dX0_bitwise_73 : decode cX0_bitwise 73 = .ok (.isub, 1) := by decide +kernel
theorem dX0_bitwise_74 : decode cX0_bitwise 74 = .ok (.bipush 127, 2) := by decide +kernel
theorem dX0_bitwise_76 : decode cX0_bitwise 76 = .ok (.iload 5, 2) := by decide +kernel
theorem dX0_bitwise_78 : decode cX0_bitwise 78 = .ok (.isub, 1) := by decide +kernel
theorem dX0_bitwise_79 : decode cX0_bitwise 79 = .ok (.bipush 127, 2) := by decide +kernel
theorem dX0_bitwise_81 : decode cX0_bitwise 81 = .ok (.iload 4, 2) := by decide +kernel
theorem dX0_bitwise_83 : decode cX0_bitwise 83 = .ok (.isub, 1) := by decide +kernel
theorem dX0_bitwise_84 : decode cX0_bitwise 84 = .ok (.invokestatic 76, 3) := by decide +kernel
theorem dX0_bitwise_87 : decode cX0_bitwise 87 = .ok (.istore 7, 2) := by decide +kernel
theorem dX0_bitwise_89 : decode cX0_bitwise 89 = .ok (.aload_n 0, 1) := by decide +kernel
theorem dX0_bitwise_90 : decode cX0_bitwise 90 = .ok (.bipush 127, 2) := by decide +kernel
theorem dX0_bitwise_92 : decode cX0_bitwise 92 = .ok (.iload 7, 2) := by decide +kernel
theorem dX0_bitwise_94 : decode cX0_bitwise 94 = .ok (.isub, 1) := by decide +kernel
theorem dX0_bitwise_95 : decode cX0_bitwise 95 = .ok (.bipush 127, 2) := by decide +kernel
theorem dX0_bitwise_97 : decode cX0_bitwise 97 = .ok (.iload 6, 2) := by decide +kernel
theorem dX0_bitwise_99 : decode cX0_bitwise 99 = .ok (.isub, 1) := by decide +kernel
theorem dX0_bitwise_100 : decode cX0_bitwise 100 = .ok (.invokevirtual 45, 3) := by decide +kernel
theorem dX0_bitwise_103 : decode cX0_bitwise 103 = .ok (.goto 33, 3) := by decide +kernel
theorem dX0_bitwise_106 : decode cX0_bitwise 106 = .ok (.iload_n 2, 1) := by decide +kernel
theorem dX0_bitwise_107 : decode cX0_bitwise 107 = .ok (.iload_n 3, 1) := by decide +kernel
theorem dX0_bitwise_108 : decode cX0_bitwise 108 = .ok (.iload 4, 2) := by decide +kernel
theorem dX0_bitwise_110 : decode cX0_bitwise 110 = .ok (.iload 5, 2) := by decide +kernel
theorem dX0_bitwise_112 : decode cX0_bitwise 112 = .ok (.invokestatic 79, 3) := by decide +kernel
theorem dX0_bitwise_115 : decode cX0_bitwise 115 = .ok (.istore 6, 2) := by decide +kernel
theorem dX0_bitwise_117 : decode cX0_bitwise 117 = .ok (.iload_n 2, 1) := by decide +kernel
theorem dX0_bitwise_118 : decode cX0_bitwise 118 = .ok (.iload_n 3, 1) := by decide +kernel
theorem dX0_bitwise_119 : decode cX0_bitwise 119 = .ok (.iload 4, 2) := by decide +kernel
theorem dX0_bitwise_121 : decode cX0_bitwise 121 = .ok (.iload 5, 2) := by decide +kernel
theorem dX0_bitwise_123 : decode cX0_bitwise 123 = .ok (.invokestatic 82, 3) := by decide +kernel
theorem dX0_bitwise_126 : decode cX0_bitwise 126 = .ok (.istore 7, 2) := by decide +kernel
theorem dX0_bitwise_128 : decode cX0_bitwise 128 = .ok (.aload_n 0, 1) := by decide +kernel
theorem dX0_bitwise_129 : decode cX0_bitwise 129 = .ok (.iload 6, 2) := by decide +kernel
theorem dX0_bitwise_131 : decode cX0_bitwise 131 = .ok (.iload 7, 2) := by decide +kernel
theorem dX0_bitwise_133 : decode cX0_bitwise 133 = .ok (.invokevirtual 45, 3) := by decide +kernel
theorem dX0_bitwise_136 : decode cX0_bitwise 136 = .ok (.return_, 1) := by decide +kernel
abbrev cX0_leastOr : ByteArray := prog_1_method_22_code
def yX0_leastOr : MethodName := ⟨RX0, "leastOr", "(IIII)I"⟩
theorem dX0_leastOr_0 : decode cX0_leastOr 0 = .ok (.bipush 64, 2) := by decide +kernel
theorem dX0_leastOr_2 : decode cX0_leastOr 2 = .ok (.istore 4, 2) := by decide +kernel
theorem dX0_leastOr_4 : decode cX0_leastOr 4 = .ok (.iload 4, 2) := by decide +kernel
theorem dX0_leastOr_6 : decode cX0_leastOr 6 = .ok (.ifCond .le 75, 3) := by decide +kernel
theorem dX0_leastOr_9 : decode cX0_leastOr 9 = .ok (.iload_n 0, 1) := by decide +kernel
theorem dX0_leastOr_10 : decode cX0_leastOr 10 = .ok (.iconst (-1), 1) := by decide +kernel
theorem dX0_leastOr_11 : decode cX0_leastOr 11 = .ok (.ixor, 1) := by decide +kernel
theorem dX0_leastOr_12 : decode cX0_leastOr 12 = .ok (.iload_n 2, 1) := by decide +kernel
theorem dX0_leastOr_13 : decode cX0_leastOr 13 = .ok (.iand, 1) := by decide +kernel
theorem dX0_leastOr_14 : decode cX0_leastOr 14 = .ok (.iload 4, 2) := by decide +kernel
theorem dX0_leastOr_16 : decode cX0_leastOr 16 = .ok (.iand, 1) := by decide +kernel
theorem dX0_leastOr_17 : decode cX0_leastOr 17 = .ok (.ifCond .eq 25, 3) := by decide +kernel
theorem dX0_leastOr_20 : decode cX0_leastOr 20 = .ok (.iload_n 0, 1) := by decide +kernel
theorem dX0_leastOr_21 : decode cX0_leastOr 21 = .ok (.iload 4, 2) := by decide +kernel
theorem dX0_leastOr_23 : decode cX0_leastOr 23 = .ok (.invokestatic 85, 3) := by decide +kernel
theorem dX0_leastOr_26 : decode cX0_leastOr 26 = .ok (.istore 5, 2) := by decide +kernel
theorem dX0_leastOr_28 : decode cX0_leastOr 28 = .ok (.iload 5, 2) := by decide +kernel
theorem dX0_leastOr_30 : decode cX0_leastOr 30 = .ok (.iload_n 1, 1) := by decide +kernel
theorem dX0_leastOr_31 : decode cX0_leastOr 31 = .ok (.if_icmp .gt 8, 3) := by decide +kernel
theorem dX0_leastOr_34 : decode cX0_leastOr 34 = .ok (.iload 5, 2) := by decide +kernel
theorem dX0_leastOr_36 : decode cX0_leastOr 36 = .ok (.iload_n 2, 1) := by decide +kernel
theorem dX0_leastOr_37 : decode cX0_leastOr 37 = .ok (.ior, 1) := by decide +kernel
theorem dX0_leastOr_38 : decode cX0_leastOr 38 = .ok (.ireturn, 1) := by decide +kernel
theorem dX0_leastOr_39 : decode cX0_leastOr 39 = .ok (.goto 33, 3) := by decide +kernel
theorem dX0_leastOr_42 : decode cX0_leastOr 42 = .ok (.iload_n 0, 1) := by decide +kernel
theorem dX0_leastOr_43 : decode cX0_leastOr 43 = .ok (.iload_n 2, 1) := by decide +kernel
theorem dX0_leastOr_44 : decode cX0_leastOr 44 = .ok (.iconst (-1), 1) := by decide +kernel
theorem dX0_leastOr_45 : decode cX0_leastOr 45 = .ok (.ixor, 1) := by decide +kernel
theorem dX0_leastOr_46 : decode cX0_leastOr 46 = .ok (.iand, 1) := by decide +kernel
theorem dX0_leastOr_47 : decode cX0_leastOr 47 = .ok (.iload 4, 2) := by decide +kernel
theorem dX0_leastOr_49 : decode cX0_leastOr 49 = .ok (.iand, 1) := by decide +kernel
theorem dX0_leastOr_50 : decode cX0_leastOr 50 = .ok (.ifCond .eq 22, 3) := by decide +kernel
theorem dX0_leastOr_53 : decode cX0_leastOr 53 = .ok (.iload_n 2, 1) := by decide +kernel
theorem dX0_leastOr_54 : decode cX0_leastOr 54 = .ok (.iload 4, 2) := by decide +kernel
theorem dX0_leastOr_56 : decode cX0_leastOr 56 = .ok (.invokestatic 85, 3) := by decide +kernel
theorem dX0_leastOr_59 : decode cX0_leastOr 59 = .ok (.istore 5, 2) := by decide +kernel
theorem dX0_leastOr_61 : decode cX0_leastOr 61 = .ok (.iload 5, 2) := by decide +kernel
theorem dX0_leastOr_63 : decode cX0_leastOr 63 = .ok (.iload_n 3, 1) := by decide +kernel
theorem dX0_leastOr_64 : decode cX0_leastOr 64 = .ok (.if_icmp .gt 8, 3) := by decide +kernel
theorem dX0_leastOr_67 : decode cX0_leastOr 67 = .ok (.iload_n 0, 1) := by decide +kernel
theorem dX0_leastOr_68 : decode cX0_leastOr 68 = .ok (.iload 5, 2) := by decide +kernel
theorem dX0_leastOr_70 : decode cX0_leastOr 70 = .ok (.ior, 1) := by decide +kernel
theorem dX0_leastOr_71 : decode cX0_leastOr 71 = .ok (.ireturn, 1) := by decide +kernel
theorem dX0_leastOr_72 : decode cX0_leastOr 72 = .ok (.iload 4, 2) := by decide +kernel
theorem dX0_leastOr_74 : decode cX0_leastOr 74 = .ok (.iconst 2, 1) := by decide +kernel
theorem dX0_leastOr_75 : decode cX0_leastOr 75 = .ok (.idiv, 1) := by decide +kernel
theorem dX0_leastOr_76 : decode cX0_leastOr 76 = .ok (.istore 4, 2) := by decide +kernel
theorem dX0_leastOr_78 : decode cX0_leastOr 78 = .ok (.goto (-74), 3) := by decide +kernel
theorem dX0_leastOr_81 : decode cX0_leastOr 81 = .ok (.iload_n 0, 1) := by decide +kernel
theorem dX0_leastOr_82 : decode cX0_leastOr 82 = .ok (.iload_n 2, 1) := by decide +kernel
theorem dX0_leastOr_83 : decode cX0_leastOr 83 = .ok (.ior, 1) := by decide +kernel
theorem dX0_leastOr_84 : decode cX0_leastOr 84 = .ok (.ireturn, 1) := by decide +kernel
abbrev cX0_raised : ByteArray := prog_1_method_20_code
def yX0_raised : MethodName := ⟨RX0, "raised", "(II)I"⟩
theorem dX0_raised_0 : decode cX0_raised 0 = .ok (.iload_n 0, 1) := by decide +kernel
theorem dX0_raised_1 : decode cX0_raised 1 = .ok (.iload_n 1, 1) := by decide +kernel
theorem dX0_raised_2 : decode cX0_raised 2 = .ok (.ior, 1) := by decide +kernel
theorem dX0_raised_3 : decode cX0_raised 3 = .ok (.iload_n 1, 1) := by decide +kernel
theorem dX0_raised_4 : decode cX0_raised 4 = .ok (.ineg, 1) := by decide +kernel
theorem dX0_raised_5 : decode cX0_raised 5 = .ok (.iand, 1) := by decide +kernel
theorem dX0_raised_6 : decode cX0_raised 6 = .ok (.ireturn, 1) := by decide +kernel
end
section
set_option maxRecDepth 100000
abbrev cX0_greatestOr : ByteArray := prog_1_method_23_code
def yX0_greatestOr : MethodName := ⟨RX0, "greatestOr", "(IIII)I"⟩
theorem dX0_greatestOr_0 : decode cX0_greatestOr 0 = .ok (.bipush 64, 2) := by decide +kernel
theorem dX0_greatestOr_2 : decode cX0_greatestOr 2 = .ok (.istore 4, 2) := by decide +kernel
theorem dX0_greatestOr_4 : decode cX0_greatestOr 4 = .ok (.iload 4, 2) := by decide +kernel
theorem dX0_greatestOr_6 : decode cX0_greatestOr 6 = .ok (.ifCond .le 59, 3) := by decide +kernel
theorem dX0_greatestOr_9 : decode cX0_greatestOr 9 = .ok (.iload_n 1, 1) := by decide +kernel
theorem dX0_greatestOr_10 : decode cX0_greatestOr 10 = .ok (.iload_n 3, 1) := by decide +kernel
theorem dX0_greatestOr_11 : decode cX0_greatestOr 11 = .ok (.iand, 1) := by decide +kernel
theorem dX0_greatestOr_12 : decode cX0_greatestOr 12 = .ok (.iload 4, 2) := by decide +kernel
theorem dX0_greatestOr_14 : decode cX0_greatestOr 14 = .ok (.iand, 1) := by decide +kernel
theorem dX0_greatestOr_15 : decode cX0_greatestOr 15 = .ok (.ifCond .eq 41, 3) := by decide +kernel
theorem dX0_greatestOr_18 : decode cX0_greatestOr 18 = .ok (.iload_n 1, 1) := by decide +kernel
theorem dX0_greatestOr_19 : decode cX0_greatestOr 19 = .ok (.iload 4, 2) := by decide +kernel
theorem dX0_greatestOr_21 : decode cX0_greatestOr 21 = .ok (.invokestatic 88, 3) := by decide +kernel
theorem dX0_greatestOr_24 : decode cX0_greatestOr 24 = .ok (.istore 5, 2) := by decide +kernel
theorem dX0_greatestOr_26 : decode cX0_greatestOr 26 = .ok (.iload_n 3, 1) := by decide +kernel
theorem dX0_greatestOr_27 : decode cX0_greatestOr 27 = .ok (.iload 4, 2) := by decide +kernel
theorem dX0_greatestOr_29 : decode cX0_greatestOr 29 = .ok (.invokestatic 88, 3) := by decide +kernel
theorem dX0_greatestOr_32 : decode cX0_greatestOr 32 = .ok (.istore 6, 2) := by decide +kernel
theorem dX0_greatestOr_34 : decode cX0_greatestOr 34 = .ok (.iload 5, 2) := by decide +kernel
theorem dX0_greatestOr_36 : decode cX0_greatestOr 36 = .ok (.iload_n 0, 1) := by decide +kernel
theorem dX0_greatestOr_37 : decode cX0_greatestOr 37 = .ok (.if_icmp .lt 8, 3) := by decide +kernel
theorem dX0_greatestOr_40 : decode cX0_greatestOr 40 = .ok (.iload 5, 2) := by decide +kernel
theorem dX0_greatestOr_42 : decode cX0_greatestOr 42 = .ok (.iload_n 3, 1) := by decide +kernel
theorem dX0_greatestOr_43 : decode cX0_greatestOr 43 = .ok (.ior, 1) := by decide +kernel
theorem dX0_greatestOr_44 : decode cX0_greatestOr 44 = .ok (.ireturn, 1) := by decide +kernel
theorem dX0_greatestOr_45 : decode cX0_greatestOr 45 = .ok (.iload 6, 2) := by decide +kernel
theorem dX0_greatestOr_47 : decode cX0_greatestOr 47 = .ok (.iload_n 2, 1) := by decide +kernel
theorem dX0_greatestOr_48 : decode cX0_greatestOr 48 = .ok (.if_icmp .lt 8, 3) := by decide +kernel
theorem dX0_greatestOr_51 : decode cX0_greatestOr 51 = .ok (.iload_n 1, 1) := by decide +kernel
theorem dX0_greatestOr_52 : decode cX0_greatestOr 52 = .ok (.iload 6, 2) := by decide +kernel
theorem dX0_greatestOr_54 : decode cX0_greatestOr 54 = .ok (.ior, 1) := by decide +kernel
theorem dX0_greatestOr_55 : decode cX0_greatestOr 55 = .ok (.ireturn, 1) := by decide +kernel
theorem dX0_greatestOr_56 : decode cX0_greatestOr 56 = .ok (.iload 4, 2) := by decide +kernel
theorem dX0_greatestOr_58 : decode cX0_greatestOr 58 = .ok (.iconst 2, 1) := by decide +kernel
theorem dX0_greatestOr_59 : decode cX0_greatestOr 59 = .ok (.idiv, 1) := by decide +kernel
theorem dX0_greatestOr_60 : decode cX0_greatestOr 60 = .ok (.istore 4, 2) := by decide +kernel
theorem dX0_greatestOr_62 : decode cX0_greatestOr 62 = .ok (.goto (-58), 3) := by decide +kernel
theorem dX0_greatestOr_65 : decode cX0_greatestOr 65 = .ok (.iload_n 1, 1) := by decide +kernel
theorem dX0_greatestOr_66 : decode cX0_greatestOr 66 = .ok (.iload_n 3, 1) := by decide +kernel
theorem dX0_greatestOr_67 : decode cX0_greatestOr 67 = .ok (.ior, 1) := by decide +kernel
theorem dX0_greatestOr_68 : decode cX0_greatestOr 68 = .ok (.ireturn, 1) := by decide +kernel
abbrev cX0_lowered : ByteArray := prog_1_method_21_code
def yX0_lowered : MethodName := ⟨RX0, "lowered", "(II)I"⟩
theorem dX0_lowered_0 : decode cX0_lowered 0 = .ok (.iload_n 0, 1) := by decide +kernel
theorem dX0_lowered_1 : decode cX0_lowered 1 = .ok (.iload_n 1, 1) := by decide +kernel
theorem dX0_lowered_2 : decode cX0_lowered 2 = .ok (.isub, 1) := by decide +kernel
theorem dX0_lowered_3 : decode cX0_lowered 3 = .ok (.iload_n 1, 1) := by decide +kernel
theorem dX0_lowered_4 : decode cX0_lowered 4 = .ok (.iconst 1, 1) := by decide +kernel
theorem dX0_lowered_5 : decode cX0_lowered 5 = .ok (.isub, 1) := by decide +kernel
theorem dX0_lowered_6 : decode cX0_lowered 6 = .ok (.ior, 1) := by decide +kernel
theorem dX0_lowered_7 : decode cX0_lowered 7 = .ok (.ireturn, 1) := by decide +kernel
abbrev cX0_leastXor : ByteArray := prog_1_method_24_code
def yX0_leastXor : MethodName := ⟨RX0, "leastXor", "(IIII)I"⟩
theorem dX0_leastXor_0 : decode cX0_leastXor 0 = .ok (.iload_n 0, 1) := by decide +kernel
theorem dX0_leastXor_1 : decode cX0_leastXor 1 = .ok (.istore 4, 2) := by decide +kernel
theorem dX0_leastXor_3 : decode cX0_leastXor 3 = .ok (.iload_n 2, 1) := by decide +kernel
theorem dX0_leastXor_4 : decode cX0_leastXor 4 = .ok (.istore 5, 2) := by decide +kernel
theorem dX0_leastXor_6 : decode cX0_leastXor 6 = .ok (.bipush 64, 2) := by decide +kernel
theorem dX0_leastXor_8 : decode cX0_leastXor 8 = .ok (.istore 6, 2) := by decide +kernel
theorem dX0_leastXor_10 : decode cX0_leastXor 10 = .ok (.iload 6, 2) := by decide +kernel
theorem dX0_leastXor_12 : decode cX0_leastXor 12 = .ok (.ifCond .le 89, 3) := by decide +kernel
theorem dX0_leastXor_15 : decode cX0_leastXor 15 = .ok (.iload 4, 2) := by decide +kernel
theorem dX0_leastXor_17 : decode cX0_leastXor 17 = .ok (.iconst (-1), 1) := by decide +kernel
theorem dX0_leastXor_18 : decode cX0_leastXor 18 = .ok (.ixor, 1) := by decide +kernel
theorem dX0_leastXor_19 : decode cX0_leastXor 19 = .ok (.iload 5, 2) := by decide +kernel
theorem dX0_leastXor_21 : decode cX0_leastXor 21 = .ok (.iand, 1) := by decide +kernel
theorem dX0_leastXor_22 : decode cX0_leastXor 22 = .ok (.iload 6, 2) := by decide +kernel
theorem dX0_leastXor_24 : decode cX0_leastXor 24 = .ok (.iand, 1) := by decide +kernel
theorem dX0_leastXor_25 : decode cX0_leastXor 25 = .ok (.ifCond .eq 30, 3) := by decide +kernel
theorem dX0_leastXor_28 : decode cX0_leastXor 28 = .ok (.iload 4, 2) := by decide +kernel
theorem dX0_leastXor_30 : decode cX0_leastXor 30 = .ok (.iload 6, 2) := by decide +kernel
theorem dX0_leastXor_32 : decode cX0_leastXor 32 = .ok (.invokestatic 85, 3) := by decide +kernel
theorem dX0_leastXor_35 : decode cX0_leastXor 35 = .ok (.istore 7, 2) := by decide +kernel
theorem dX0_leastXor_37 : decode cX0_leastXor 37 = .ok (.iload 7, 2) := by decide +kernel
theorem dX0_leastXor_39 : decode cX0_leastXor 39 = .ok (.iload_n 1, 1) := by decide +kernel
theorem dX0_leastXor_40 : decode cX0_leastXor 40 = .ok (.if_icmp .gt 8, 3) := by decide +kernel
theorem dX0_leastXor_43 : decode cX0_leastXor 43 = .ok (.iload 7, 2) := by decide +kernel
theorem dX0_leastXor_45 : decode cX0_leastXor 45 = .ok (.goto 5, 3) := by decide +kernel
theorem dX0_leastXor_48 : decode cX0_leastXor 48 = .ok (.iload 4, 2) := by decide +kernel
theorem dX0_leastXor_50 : decode cX0_leastXor 50 = .ok (.istore 4, 2) := by decide +kernel
theorem dX0_leastXor_52 : decode cX0_leastXor 52 = .ok (.goto 40, 3) := by decide +kernel
theorem dX0_leastXor_55 : decode cX0_leastXor 55 = .ok (.iload 4, 2) := by decide +kernel
theorem dX0_leastXor_57 : decode cX0_leastXor 57 = .ok (.iload 5, 2) := by decide +kernel
theorem dX0_leastXor_59 : decode cX0_leastXor 59 = .ok (.iconst (-1), 1) := by decide +kernel
theorem dX0_leastXor_60 : decode cX0_leastXor 60 = .ok (.ixor, 1) := by decide +kernel
theorem dX0_leastXor_61 : decode cX0_leastXor 61 = .ok (.iand, 1) := by decide +kernel
theorem dX0_leastXor_62 : decode cX0_leastXor 62 = .ok (.iload 6, 2) := by decide +kernel
theorem dX0_leastXor_64 : decode cX0_leastXor 64 = .ok (.iand, 1) := by decide +kernel
theorem dX0_leastXor_65 : decode cX0_leastXor 65 = .ok (.ifCond .eq 27, 3) := by decide +kernel
theorem dX0_leastXor_68 : decode cX0_leastXor 68 = .ok (.iload 5, 2) := by decide +kernel
theorem dX0_leastXor_70 : decode cX0_leastXor 70 = .ok (.iload 6, 2) := by decide +kernel
theorem dX0_leastXor_72 : decode cX0_leastXor 72 = .ok (.invokestatic 85, 3) := by decide +kernel
theorem dX0_leastXor_75 : decode cX0_leastXor 75 = .ok (.istore 7, 2) := by decide +kernel
theorem dX0_leastXor_77 : decode cX0_leastXor 77 = .ok (.iload 7, 2) := by decide +kernel
theorem dX0_leastXor_79 : decode cX0_leastXor 79 = .ok (.iload_n 3, 1) := by decide +kernel
theorem dX0_leastXor_80 : decode cX0_leastXor 80 = .ok (.if_icmp .gt 8, 3) := by decide +kernel
theorem dX0_leastXor_83 : decode cX0_leastXor 83 = .ok (.iload 7, 2) := by decide +kernel
theorem dX0_leastXor_85 : decode cX0_leastXor 85 = .ok (.goto 5, 3) := by decide +kernel
theorem dX0_leastXor_88 : decode cX0_leastXor 88 = .ok (.iload 5, 2) := by decide +kernel
theorem dX0_leastXor_90 : decode cX0_leastXor 90 = .ok (.istore 5, 2) := by decide +kernel
theorem dX0_leastXor_92 : decode cX0_leastXor 92 = .ok (.iload 6, 2) := by decide +kernel
theorem dX0_leastXor_94 : decode cX0_leastXor 94 = .ok (.iconst 2, 1) := by decide +kernel
theorem dX0_leastXor_95 : decode cX0_leastXor 95 = .ok (.idiv, 1) := by decide +kernel
theorem dX0_leastXor_96 : decode cX0_leastXor 96 = .ok (.istore 6, 2) := by decide +kernel
theorem dX0_leastXor_98 : decode cX0_leastXor 98 = .ok (.goto (-88), 3) := by decide +kernel
theorem dX0_leastXor_101 : decode cX0_leastXor 101 = .ok (.iload 4, 2) := by decide +kernel
theorem dX0_leastXor_103 : decode cX0_leastXor 103 = .ok (.iload 5, 2) := by decide +kernel
theorem dX0_leastXor_105 : decode cX0_leastXor 105 = .ok (.ixor, 1) := by decide +kernel
theorem dX0_leastXor_106 : decode cX0_leastXor 106 = .ok (.ireturn, 1) := by decide +kernel
abbrev cX0_greatestXor : ByteArray := prog_1_method_25_code
def yX0_greatestXor : MethodName := ⟨RX0, "greatestXor", "(IIII)I"⟩
theorem dX0_greatestXor_0 : decode cX0_greatestXor 0 = .ok (.iload_n 1, 1) := by decide +kernel
theorem dX0_greatestXor_1 : decode cX0_greatestXor 1 = .ok (.istore 4, 2) := by decide +kernel
theorem dX0_greatestXor_3 : decode cX0_greatestXor 3 = .ok (.iload_n 3, 1) := by decide +kernel
theorem dX0_greatestXor_4 : decode cX0_greatestXor 4 = .ok (.istore 5, 2) := by decide +kernel
theorem dX0_greatestXor_6 : decode cX0_greatestXor 6 = .ok (.bipush 64, 2) := by decide +kernel
theorem dX0_greatestXor_8 : decode cX0_greatestXor 8 = .ok (.istore 6, 2) := by decide +kernel
theorem dX0_greatestXor_10 : decode cX0_greatestXor 10 = .ok (.iload 6, 2) := by decide +kernel
theorem dX0_greatestXor_12 : decode cX0_greatestXor 12 = .ok (.ifCond .le 64, 3) := by decide +kernel
theorem dX0_greatestXor_15 : decode cX0_greatestXor 15 = .ok (.iload 4, 2) := by decide +kernel
theorem dX0_greatestXor_17 : decode cX0_greatestXor 17 = .ok (.iload 5, 2) := by decide +kernel
theorem dX0_greatestXor_19 : decode cX0_greatestXor 19 = .ok (.iand, 1) := by decide +kernel
theorem dX0_greatestXor_20 : decode cX0_greatestXor 20 = .ok (.iload 6, 2) := by decide +kernel
theorem dX0_greatestXor_22 : decode cX0_greatestXor 22 = .ok (.iand, 1) := by decide +kernel
theorem dX0_greatestXor_23 : decode cX0_greatestXor 23 = .ok (.ifCond .eq 44, 3) := by decide +kernel
theorem dX0_greatestXor_26 : decode cX0_greatestXor 26 = .ok (.iload 4, 2) := by decide +kernel
theorem dX0_greatestXor_28 : decode cX0_greatestXor 28 = .ok (.iload 6, 2) := by decide +kernel
theorem dX0_greatestXor_30 : decode cX0_greatestXor 30 = .ok (.invokestatic 88, 3) := by decide +kernel
theorem dX0_greatestXor_33 : decode cX0_greatestXor 33 = .ok (.istore 7, 2) := by decide +kernel
theorem dX0_greatestXor_35 : decode cX0_greatestXor 35 = .ok (.iload 5, 2) := by decide +kernel
theorem dX0_greatestXor_37 : decode cX0_greatestXor 37 = .ok (.iload 6, 2) := by decide +kernel
theorem dX0_greatestXor_39 : decode cX0_greatestXor 39 = .ok (.invokestatic 88, 3) := by decide +kernel
theorem dX0_greatestXor_42 : decode cX0_greatestXor 42 = .ok (.istore 8, 2) := by decide +kernel
theorem dX0_greatestXor_44 : decode cX0_greatestXor 44 = .ok (.iload 7, 2) := by decide +kernel
theorem dX0_greatestXor_46 : decode cX0_greatestXor 46 = .ok (.iload_n 0, 1) := by decide +kernel
theorem dX0_greatestXor_47 : decode cX0_greatestXor 47 = .ok (.if_icmp .lt 10, 3) := by decide +kernel
theorem dX0_greatestXor_50 : decode cX0_greatestXor 50 = .ok (.iload 7, 2) := by decide +kernel
theorem dX0_greatestXor_52 : decode cX0_greatestXor 52 = .ok (.istore 4, 2) := by decide +kernel
theorem dX0_greatestXor_54 : decode cX0_greatestXor 54 = .ok (.goto 13, 3) := by decide +kernel
theorem dX0_greatestXor_57 : decode cX0_greatestXor 57 = .ok (.iload 8, 2) := by decide +kernel
theorem dX0_greatestXor_59 : decode cX0_greatestXor 59 = .ok (.iload_n 2, 1) := by decide +kernel
theorem dX0_greatestXor_60 : decode cX0_greatestXor 60 = .ok (.if_icmp .lt 7, 3) := by decide +kernel
theorem dX0_greatestXor_63 : decode cX0_greatestXor 63 = .ok (.iload 8, 2) := by decide +kernel
theorem dX0_greatestXor_65 : decode cX0_greatestXor 65 = .ok (.istore 5, 2) := by decide +kernel
theorem dX0_greatestXor_67 : decode cX0_greatestXor 67 = .ok (.iload 6, 2) := by decide +kernel
theorem dX0_greatestXor_69 : decode cX0_greatestXor 69 = .ok (.iconst 2, 1) := by decide +kernel
theorem dX0_greatestXor_70 : decode cX0_greatestXor 70 = .ok (.idiv, 1) := by decide +kernel
theorem dX0_greatestXor_71 : decode cX0_greatestXor 71 = .ok (.istore 6, 2) := by decide +kernel
theorem dX0_greatestXor_73 : decode cX0_greatestXor 73 = .ok (.goto (-63), 3) := by decide +kernel
theorem dX0_greatestXor_76 : decode cX0_greatestXor 76 = .ok (.iload 4, 2) := by decide +kernel
theorem dX0_greatestXor_78 : decode cX0_greatestXor 78 = .ok (.iload 5, 2) := by decide +kernel
theorem dX0_greatestXor_80 : decode cX0_greatestXor 80 = .ok (.ixor, 1) := by decide +kernel
theorem dX0_greatestXor_81 : decode cX0_greatestXor 81 = .ok (.ireturn, 1) := by decide +kernel
abbrev cX0_multiplyOrDivide : ByteArray := prog_1_method_14_code
def yX0_multiplyOrDivide : MethodName := ⟨RX0, "multiplyOrDivide", "(III)V"⟩
theorem dX0_multiplyOrDivide_0 : decode cX0_multiplyOrDivide 0 = .ok (.iload_n 1, 1) := by decide +kernel
theorem dX0_multiplyOrDivide_1 : decode cX0_multiplyOrDivide 1 = .ok (.iconst 5, 1) := by decide +kernel
theorem dX0_multiplyOrDivide_2 : decode cX0_multiplyOrDivide 2 = .ok (.if_icmp .ne 42, 3) := by decide +kernel
theorem dX0_multiplyOrDivide_5 : decode cX0_multiplyOrDivide 5 = .ok (.aload_n 0, 1) := by decide +kernel
theorem dX0_multiplyOrDivide_6 : decode cX0_multiplyOrDivide 6 = .ok (.aload_n 0, 1) := by decide +kernel
theorem dX0_multiplyOrDivide_7 : decode cX0_multiplyOrDivide 7 = .ok (.getfield 7, 3) := by decide +kernel
theorem dX0_multiplyOrDivide_10 : decode cX0_multiplyOrDivide 10 = .ok (.iload_n 2, 1) := by decide +kernel
theorem dX0_multiplyOrDivide_11 : decode cX0_multiplyOrDivide 11 = .ok (.iaload, 1) := by decide +kernel
theorem dX0_multiplyOrDivide_12 : decode cX0_multiplyOrDivide 12 = .ok (.aload_n 0, 1) := by decide +kernel
theorem dX0_multiplyOrDivide_13 : decode cX0_multiplyOrDivide 13 = .ok (.getfield 7, 3) := by decide +kernel
theorem dX0_multiplyOrDivide_16 : decode cX0_multiplyOrDivide 16 = .ok (.iload_n 3, 1) := by decide +kernel
theorem dX0_multiplyOrDivide_17 : decode cX0_multiplyOrDivide 17 = .ok (.iaload, 1) := by decide +kernel
theorem dX0_multiplyOrDivide_18 : decode cX0_multiplyOrDivide 18 = .ok (.imul, 1) := by decide +kernel
theorem dX0_multiplyOrDivide_19 : decode cX0_multiplyOrDivide 19 = .ok (.bipush 7, 2) := by decide +kernel
theorem dX0_multiplyOrDivide_21 : decode cX0_multiplyOrDivide 21 = .ok (.ishr, 1) := by decide +kernel
theorem dX0_multiplyOrDivide_22 : decode cX0_multiplyOrDivide 22 = .ok (.aload_n 0, 1) := by decide +kernel
theorem dX0_multiplyOrDivide_23 : decode cX0_multiplyOrDivide 23 = .ok (.getfield 13, 3) := by decide +kernel
theorem dX0_multiplyOrDivide_26 : decode cX0_multiplyOrDivide 26 = .ok (.iload_n 2, 1) := by decide +kernel
theorem dX0_multiplyOrDivide_27 : decode cX0_multiplyOrDivide 27 = .ok (.iaload, 1) := by decide +kernel
theorem dX0_multiplyOrDivide_28 : decode cX0_multiplyOrDivide 28 = .ok (.aload_n 0, 1) := by decide +kernel
theorem dX0_multiplyOrDivide_29 : decode cX0_multiplyOrDivide 29 = .ok (.getfield 13, 3) := by decide +kernel
theorem dX0_multiplyOrDivide_32 : decode cX0_multiplyOrDivide 32 = .ok (.iload_n 3, 1) := by decide +kernel
theorem dX0_multiplyOrDivide_33 : decode cX0_multiplyOrDivide 33 = .ok (.iaload, 1) := by decide +kernel
theorem dX0_multiplyOrDivide_34 : decode cX0_multiplyOrDivide 34 = .ok (.imul, 1) := by decide +kernel
theorem dX0_multiplyOrDivide_35 : decode cX0_multiplyOrDivide 35 = .ok (.bipush 7, 2) := by decide +kernel
theorem dX0_multiplyOrDivide_37 : decode cX0_multiplyOrDivide 37 = .ok (.ishr, 1) := by decide +kernel
theorem dX0_multiplyOrDivide_38 : decode cX0_multiplyOrDivide 38 = .ok (.invokevirtual 45, 3) := by decide +kernel
theorem dX0_multiplyOrDivide_41 : decode cX0_multiplyOrDivide 41 = .ok (.goto 71, 3) := by decide +kernel
theorem dX0_multiplyOrDivide_44 : decode cX0_multiplyOrDivide 44 = .ok (.aload_n 0, 1) := by decide +kernel
theorem dX0_multiplyOrDivide_45 : decode cX0_multiplyOrDivide 45 = .ok (.getfield 13, 3) := by decide +kernel
theorem dX0_multiplyOrDivide_48 : decode cX0_multiplyOrDivide 48 = .ok (.iload_n 3, 1) := by decide +kernel
theorem dX0_multiplyOrDivide_49 : decode cX0_multiplyOrDivide 49 = .ok (.iaload, 1) := by decide +kernel
theorem dX0_multiplyOrDivide_50 : decode cX0_multiplyOrDivide 50 = .ok (.ifCond .ne 14, 3) := by decide +kernel
theorem dX0_multiplyOrDivide_53 : decode cX0_multiplyOrDivide 53 = .ok (.aload_n 0, 1) := by decide +kernel
theorem dX0_multiplyOrDivide_54 : decode cX0_multiplyOrDivide 54 = .ok (.bipush 127, 2) := by decide +kernel
theorem dX0_multiplyOrDivide_56 : decode cX0_multiplyOrDivide 56 = .ok (.bipush 127, 2) := by decide +kernel
theorem dX0_multiplyOrDivide_58 : decode cX0_multiplyOrDivide 58 = .ok (.invokevirtual 45, 3) := by decide +kernel
theorem dX0_multiplyOrDivide_61 : decode cX0_multiplyOrDivide 61 = .ok (.goto 51, 3) := by decide +kernel
theorem dX0_multiplyOrDivide_64 : decode cX0_multiplyOrDivide 64 = .ok (.aload_n 0, 1) := by decide +kernel
theorem dX0_multiplyOrDivide_65 : decode cX0_multiplyOrDivide 65 = .ok (.getfield 13, 3) := by decide +kernel
theorem dX0_multiplyOrDivide_68 : decode cX0_multiplyOrDivide 68 = .ok (.iload_n 3, 1) := by decide +kernel
theorem dX0_multiplyOrDivide_69 : decode cX0_multiplyOrDivide 69 = .ok (.iaload, 1) := by decide +kernel
theorem dX0_multiplyOrDivide_70 : decode cX0_multiplyOrDivide 70 = .ok (.istore 4, 2) := by decide +kernel
theorem dX0_multiplyOrDivide_72 : decode cX0_multiplyOrDivide 72 = .ok (.aload_n 0, 1) := by decide +kernel
theorem dX0_multiplyOrDivide_73 : decode cX0_multiplyOrDivide 73 = .ok (.getfield 7, 3) := by decide +kernel
theorem dX0_multiplyOrDivide_76 : decode cX0_multiplyOrDivide 76 = .ok (.iload_n 3, 1) := by decide +kernel
theorem dX0_multiplyOrDivide_77 : decode cX0_multiplyOrDivide 77 = .ok (.iaload, 1) := by decide +kernel
theorem dX0_multiplyOrDivide_78 : decode cX0_multiplyOrDivide 78 = .ok (.istore 5, 2) := by decide +kernel
theorem dX0_multiplyOrDivide_80 : decode cX0_multiplyOrDivide 80 = .ok (.aload_n 0, 1) := by decide +kernel
theorem dX0_multiplyOrDivide_81 : decode cX0_multiplyOrDivide 81 = .ok (.aload_n 0, 1) := by decide +kernel
theorem dX0_multiplyOrDivide_82 : decode cX0_multiplyOrDivide 82 = .ok (.getfield 7, 3) := by decide +kernel
theorem dX0_multiplyOrDivide_85 : decode cX0_multiplyOrDivide 85 = .ok (.iload_n 2, 1) := by decide +kernel
theorem dX0_multiplyOrDivide_86 : decode cX0_multiplyOrDivide 86 = .ok (.iaload, 1) := by decide +kernel
theorem dX0_multiplyOrDivide_87 : decode cX0_multiplyOrDivide 87 = .ok (.iload 4, 2) := by decide +kernel
theorem dX0_multiplyOrDivide_89 : decode cX0_multiplyOrDivide 89 = .ok (.idiv, 1) := by decide +kernel
theorem dX0_multiplyOrDivide_90 : decode cX0_multiplyOrDivide 90 = .ok (.iload 5, 2) := by decide +kernel
theorem dX0_multiplyOrDivide_92 : decode cX0_multiplyOrDivide 92 = .ok (.ifCond .le 15, 3) := by decide +kernel
theorem dX0_multiplyOrDivide_95 : decode cX0_multiplyOrDivide 95 = .ok (.aload_n 0, 1) := by decide +kernel
theorem dX0_multiplyOrDivide_96 : decode cX0_multiplyOrDivide 96 = .ok (.getfield 13, 3) := by decide +kernel
theorem dX0_multiplyOrDivide_99 : decode cX0_multiplyOrDivide 99 = .ok (.iload_n 2, 1) := by decide +kernel
theorem dX0_multiplyOrDivide_100 : decode cX0_multiplyOrDivide 100 = .ok (.iaload, 1) := by decide +kernel
theorem dX0_multiplyOrDivide_101 : decode cX0_multiplyOrDivide 101 = .ok (.iload 5, 2) := by decide +kernel
theorem dX0_multiplyOrDivide_103 : decode cX0_multiplyOrDivide 103 = .ok (.idiv, 1) := by decide +kernel
theorem dX0_multiplyOrDivide_104 : decode cX0_multiplyOrDivide 104 = .ok (.goto 5, 3) := by decide +kernel
theorem dX0_multiplyOrDivide_107 : decode cX0_multiplyOrDivide 107 = .ok (.bipush 127, 2) := by decide +kernel
theorem dX0_multiplyOrDivide_109 : decode cX0_multiplyOrDivide 109 = .ok (.invokevirtual 45, 3) := by decide +kernel
theorem dX0_multiplyOrDivide_112 : decode cX0_multiplyOrDivide 112 = .ok (.return_, 1) := by decide +kernel
abbrev cX0_distance : ByteArray := prog_1_method_15_code
def yX0_distance : MethodName := ⟨RX0, "distance", "(II)V"⟩
theorem dX0_distance_0 : decode cX0_distance 0 = .ok (.aload_n 0, 1) := by decide +kernel
theorem dX0_distance_1 : decode cX0_distance 1 = .ok (.getfield 7, 3) := by decide +kernel
theorem dX0_distance_4 : decode cX0_distance 4 = .ok (.iload_n 1, 1) := by decide +kernel
theorem dX0_distance_5 : decode cX0_distance 5 = .ok (.iaload, 1) := by decide +kernel
theorem dX0_distance_6 : decode cX0_distance 6 = .ok (.aload_n 0, 1) := by decide +kernel
theorem dX0_distance_7 : decode cX0_distance 7 = .ok (.getfield 13, 3) := by decide +kernel
theorem dX0_distance_10 : decode cX0_distance 10 = .ok (.iload_n 2, 1) := by decide +kernel
theorem dX0_distance_11 : decode cX0_distance 11 = .ok (.iaload, 1) := by decide +kernel
theorem dX0_distance_12 : decode cX0_distance 12 = .ok (.isub, 1) := by decide +kernel
theorem dX0_distance_13 : decode cX0_distance 13 = .ok (.aload_n 0, 1) := by decide +kernel
theorem dX0_distance_14 : decode cX0_distance 14 = .ok (.getfield 7, 3) := by decide +kernel
theorem dX0_distance_17 : decode cX0_distance 17 = .ok (.iload_n 2, 1) := by decide +kernel
theorem dX0_distance_18 : decode cX0_distance 18 = .ok (.iaload, 1) := by decide +kernel
theorem dX0_distance_19 : decode cX0_distance 19 = .ok (.aload_n 0, 1) := by decide +kernel
theorem dX0_distance_20 : decode cX0_distance 20 = .ok (.getfield 13, 3) := by decide +kernel
theorem dX0_distance_23 : decode cX0_distance 23 = .ok (.iload_n 1, 1) := by decide +kernel
theorem dX0_distance_24 : decode cX0_distance 24 = .ok (.iaload, 1) := by decide +kernel
theorem dX0_distance_25 : decode cX0_distance 25 = .ok (.isub, 1) := by decide +kernel
theorem dX0_distance_26 : decode cX0_distance 26 = .ok (.invokestatic 66, 3) := by decide +kernel
theorem dX0_distance_29 : decode cX0_distance 29 = .ok (.istore_n 3, 1) := by decide +kernel
theorem dX0_distance_30 : decode cX0_distance 30 = .ok (.aload_n 0, 1) := by decide +kernel
theorem dX0_distance_31 : decode cX0_distance 31 = .ok (.getfield 13, 3) := by decide +kernel
theorem dX0_distance_34 : decode cX0_distance 34 = .ok (.iload_n 1, 1) := by decide +kernel
theorem dX0_distance_35 : decode cX0_distance 35 = .ok (.iaload, 1) := by decide +kernel
theorem dX0_distance_36 : decode cX0_distance 36 = .ok (.aload_n 0, 1) := by decide +kernel
theorem dX0_distance_37 : decode cX0_distance 37 = .ok (.getfield 7, 3) := by decide +kernel
theorem dX0_distance_40 : decode cX0_distance 40 = .ok (.iload_n 2, 1) := by decide +kernel
theorem dX0_distance_41 : decode cX0_distance 41 = .ok (.iaload, 1) := by decide +kernel
theorem dX0_distance_42 : decode cX0_distance 42 = .ok (.isub, 1) := by decide +kernel
theorem dX0_distance_43 : decode cX0_distance 43 = .ok (.aload_n 0, 1) := by decide +kernel
theorem dX0_distance_44 : decode cX0_distance 44 = .ok (.getfield 13, 3) := by decide +kernel
theorem dX0_distance_47 : decode cX0_distance 47 = .ok (.iload_n 2, 1) := by decide +kernel
theorem dX0_distance_48 : decode cX0_distance 48 = .ok (.iaload, 1) := by decide +kernel
theorem dX0_distance_49 : decode cX0_distance 49 = .ok (.aload_n 0, 1) := by decide +kernel
theorem dX0_distance_50 : decode cX0_distance 50 = .ok (.getfield 7, 3) := by decide +kernel
theorem dX0_distance_53 : decode cX0_distance 53 = .ok (.iload_n 1, 1) := by decide +kernel
theorem dX0_distance_54 : decode cX0_distance 54 = .ok (.iaload, 1) := by decide +kernel
theorem dX0_distance_55 : decode cX0_distance 55 = .ok (.isub, 1) := by decide +kernel
theorem dX0_distance_56 : decode cX0_distance 56 = .ok (.invokestatic 66, 3) := by decide +kernel
theorem dX0_distance_59 : decode cX0_distance 59 = .ok (.istore 4, 2) := by decide +kernel
theorem dX0_distance_61 : decode cX0_distance 61 = .ok (.aload_n 0, 1) := by decide +kernel
theorem dX0_distance_62 : decode cX0_distance 62 = .ok (.iload_n 3, 1) := by decide +kernel
theorem dX0_distance_63 : decode cX0_distance 63 = .ok (.iconst 0, 1) := by decide +kernel
theorem dX0_distance_64 : decode cX0_distance 64 = .ok (.invokestatic 66, 3) := by decide +kernel
theorem dX0_distance_67 : decode cX0_distance 67 = .ok (.iload 4, 2) := by decide +kernel
theorem dX0_distance_69 : decode cX0_distance 69 = .ok (.invokevirtual 45, 3) := by decide +kernel
theorem dX0_distance_72 : decode cX0_distance 72 = .ok (.return_, 1) := by decide +kernel
abbrev cX0_greater : ByteArray := prog_1_method_12_code
def yX0_greater : MethodName := ⟨RX0, "greater", "(II)I"⟩
theorem dX0_greater_0 : decode cX0_greater 0 = .ok (.iload_n 0, 1) := by decide +kernel
theorem dX0_greater_1 : decode cX0_greater 1 = .ok (.iload_n 1, 1) := by decide +kernel
theorem dX0_greater_2 : decode cX0_greater 2 = .ok (.if_icmp .le 7, 3) := by decide +kernel
theorem dX0_greater_5 : decode cX0_greater 5 = .ok (.iload_n 0, 1) := by decide +kernel
theorem dX0_greater_6 : decode cX0_greater 6 = .ok (.goto 4, 3) := by decide +kernel
theorem dX0_greater_9 : decode cX0_greater 9 = .ok (.iload_n 1, 1) := by decide +kernel
theorem dX0_greater_10 : decode cX0_greater 10 = .ok (.ireturn, 1) := by decide +kernel
abbrev cX0_compareEnds : ByteArray := prog_1_method_16_code
def yX0_compareEnds : MethodName := ⟨RX0, "compareEnds", "(III)V"⟩
theorem dX0_compareEnds_0 : decode cX0_compareEnds 0 = .ok (.iload_n 1, 1) := by decide +kernel
theorem dX0_compareEnds_1 : decode cX0_compareEnds 1 = .ok (.bipush 9, 2) := by decide +kernel
theorem dX0_compareEnds_3 : decode cX0_compareEnds 3 = .ok (.if_icmp .ne 40, 3) := by decide +kernel
theorem dX0_compareEnds_6 : decode cX0_compareEnds 6 = .ok (.aload_n 0, 1) := by decide +kernel
theorem dX0_compareEnds_7 : decode cX0_compareEnds 7 = .ok (.aload_n 0, 1) := by decide +kernel
theorem dX0_compareEnds_8 : decode cX0_compareEnds 8 = .ok (.getfield 7, 3) := by decide +kernel
theorem dX0_compareEnds_11 : decode cX0_compareEnds 11 = .ok (.iload_n 2, 1) := by decide +kernel
theorem dX0_compareEnds_12 : decode cX0_compareEnds 12 = .ok (.iaload, 1) := by decide +kernel
theorem dX0_compareEnds_13 : decode cX0_compareEnds 13 = .ok (.aload_n 0, 1) := by decide +kernel
theorem dX0_compareEnds_14 : decode cX0_compareEnds 14 = .ok (.getfield 7, 3) := by decide +kernel
theorem dX0_compareEnds_17 : decode cX0_compareEnds 17 = .ok (.iload_n 3, 1) := by decide +kernel
theorem dX0_compareEnds_18 : decode cX0_compareEnds 18 = .ok (.iaload, 1) := by decide +kernel
theorem dX0_compareEnds_19 : decode cX0_compareEnds 19 = .ok (.invokestatic 69, 3) := by decide +kernel
theorem dX0_compareEnds_22 : decode cX0_compareEnds 22 = .ok (.aload_n 0, 1) := by decide +kernel
theorem dX0_compareEnds_23 : decode cX0_compareEnds 23 = .ok (.getfield 13, 3) := by decide +kernel
theorem dX0_compareEnds_26 : decode cX0_compareEnds 26 = .ok (.iload_n 2, 1) := by decide +kernel
theorem dX0_compareEnds_27 : decode cX0_compareEnds 27 = .ok (.iaload, 1) := by decide +kernel
theorem dX0_compareEnds_28 : decode cX0_compareEnds 28 = .ok (.aload_n 0, 1) := by decide +kernel
theorem dX0_compareEnds_29 : decode cX0_compareEnds 29 = .ok (.getfield 13, 3) := by decide +kernel
theorem dX0_compareEnds_32 : decode cX0_compareEnds 32 = .ok (.iload_n 3, 1) := by decide +kernel
theorem dX0_compareEnds_33 : decode cX0_compareEnds 33 = .ok (.iaload, 1) := by decide +kernel
theorem dX0_compareEnds_34 : decode cX0_compareEnds 34 = .ok (.invokestatic 66, 3) := by decide +kernel
theorem dX0_compareEnds_37 : decode cX0_compareEnds 37 = .ok (.invokevirtual 45, 3) := by decide +kernel
theorem dX0_compareEnds_40 : decode cX0_compareEnds 40 = .ok (.goto 80, 3) := by decide +kernel
theorem dX0_compareEnds_43 : decode cX0_compareEnds 43 = .ok (.iload_n 1, 1) := by decide +kernel
theorem dX0_compareEnds_44 : decode cX0_compareEnds 44 = .ok (.bipush 10, 2) := by decide +kernel
theorem dX0_compareEnds_46 : decode cX0_compareEnds 46 = .ok (.if_icmp .ne 40, 3) := by decide +kernel
theorem dX0_compareEnds_49 : decode cX0_compareEnds 49 = .ok (.aload_n 0, 1) := by decide +kernel
theorem dX0_compareEnds_50 : decode cX0_compareEnds 50 = .ok (.aload_n 0, 1) := by decide +kernel
theorem dX0_compareEnds_51 : decode cX0_compareEnds 51 = .ok (.getfield 7, 3) := by decide +kernel
theorem dX0_compareEnds_54 : decode cX0_compareEnds 54 = .ok (.iload_n 2, 1) := by decide +kernel
theorem dX0_compareEnds_55 : decode cX0_compareEnds 55 = .ok (.iaload, 1) := by decide +kernel
theorem dX0_compareEnds_56 : decode cX0_compareEnds 56 = .ok (.aload_n 0, 1) := by decide +kernel
theorem dX0_compareEnds_57 : decode cX0_compareEnds 57 = .ok (.getfield 7, 3) := by decide +kernel
theorem dX0_compareEnds_60 : decode cX0_compareEnds 60 = .ok (.iload_n 3, 1) := by decide +kernel
theorem dX0_compareEnds_61 : decode cX0_compareEnds 61 = .ok (.iaload, 1) := by decide +kernel
theorem dX0_compareEnds_62 : decode cX0_compareEnds 62 = .ok (.invokestatic 66, 3) := by decide +kernel
theorem dX0_compareEnds_65 : decode cX0_compareEnds 65 = .ok (.aload_n 0, 1) := by decide +kernel
theorem dX0_compareEnds_66 : decode cX0_compareEnds 66 = .ok (.getfield 13, 3) := by decide +kernel
theorem dX0_compareEnds_69 : decode cX0_compareEnds 69 = .ok (.iload_n 2, 1) := by decide +kernel
theorem dX0_compareEnds_70 : decode cX0_compareEnds 70 = .ok (.iaload, 1) := by decide +kernel
theorem dX0_compareEnds_71 : decode cX0_compareEnds 71 = .ok (.aload_n 0, 1) := by decide +kernel
theorem dX0_compareEnds_72 : decode cX0_compareEnds 72 = .ok (.getfield 13, 3) := by decide +kernel
theorem dX0_compareEnds_75 : decode cX0_compareEnds 75 = .ok (.iload_n 3, 1) := by decide +kernel
theorem dX0_compareEnds_76 : decode cX0_compareEnds 76 = .ok (.iaload, 1) := by decide +kernel
theorem dX0_compareEnds_77 : decode cX0_compareEnds 77 = .ok (.invokestatic 69, 3) := by decide +kernel
theorem dX0_compareEnds_80 : decode cX0_compareEnds 80 = .ok (.invokevirtual 45, 3) := by decide +kernel
theorem dX0_compareEnds_83 : decode cX0_compareEnds 83 = .ok (.goto 37, 3) := by decide +kernel
theorem dX0_compareEnds_86 : decode cX0_compareEnds 86 = .ok (.aload_n 0, 1) := by decide +kernel
theorem dX0_compareEnds_87 : decode cX0_compareEnds 87 = .ok (.aload_n 0, 1) := by decide +kernel
theorem dX0_compareEnds_88 : decode cX0_compareEnds 88 = .ok (.getfield 7, 3) := by decide +kernel
theorem dX0_compareEnds_91 : decode cX0_compareEnds 91 = .ok (.iload_n 2, 1) := by decide +kernel
theorem dX0_compareEnds_92 : decode cX0_compareEnds 92 = .ok (.iaload, 1) := by decide +kernel
theorem dX0_compareEnds_93 : decode cX0_compareEnds 93 = .ok (.aload_n 0, 1) := by decide +kernel
theorem dX0_compareEnds_94 : decode cX0_compareEnds 94 = .ok (.getfield 7, 3) := by decide +kernel
theorem dX0_compareEnds_97 : decode cX0_compareEnds 97 = .ok (.iload_n 3, 1) := by decide +kernel
theorem dX0_compareEnds_98 : decode cX0_compareEnds 98 = .ok (.iaload, 1) := by decide +kernel
theorem dX0_compareEnds_99 : decode cX0_compareEnds 99 = .ok (.invokestatic 66, 3) := by decide +kernel
theorem dX0_compareEnds_102 : decode cX0_compareEnds 102 = .ok (.aload_n 0, 1) := by decide +kernel
theorem dX0_compareEnds_103 : decode cX0_compareEnds 103 = .ok (.getfield 13, 3) := by decide +kernel
theorem dX0_compareEnds_106 : decode cX0_compareEnds 106 = .ok (.iload_n 2, 1) := by decide +kernel
theorem dX0_compareEnds_107 : decode cX0_compareEnds 107 = .ok (.iaload, 1) := by decide +kernel
theorem dX0_compareEnds_108 : decode cX0_compareEnds 108 = .ok (.aload_n 0, 1) := by decide +kernel
theorem dX0_compareEnds_109 : decode cX0_compareEnds 109 = .ok (.getfield 13, 3) := by decide +kernel
theorem dX0_compareEnds_112 : decode cX0_compareEnds 112 = .ok (.iload_n 3, 1) := by decide +kernel
theorem dX0_compareEnds_113 : decode cX0_compareEnds 113 = .ok (.iaload, 1) := by decide +kernel
theorem dX0_compareEnds_114 : decode cX0_compareEnds 114 = .ok (.invokestatic 66, 3) := by decide +kernel
theorem dX0_compareEnds_117 : decode cX0_compareEnds 117 = .ok (.invokevirtual 45, 3) := by decide +kernel
theorem dX0_compareEnds_120 : decode cX0_compareEnds 120 = .ok (.return_, 1) := by decide +kernel
abbrev cX0_lesser : ByteArray := prog_1_method_11_code
def yX0_lesser : MethodName := ⟨RX0, "lesser", "(II)I"⟩
theorem dX0_lesser_0 : decode cX0_lesser 0 = .ok (.iload_n 0, 1) := by decide +kernel
theorem dX0_lesser_1 : decode cX0_lesser 1 = .ok (.iload_n 1, 1) := by decide +kernel
theorem dX0_lesser_2 : decode cX0_lesser 2 = .ok (.if_icmp .ge 7, 3) := by decide +kernel
theorem dX0_lesser_5 : decode cX0_lesser 5 = .ok (.iload_n 0, 1) := by decide +kernel
theorem dX0_lesser_6 : decode cX0_lesser 6 = .ok (.goto 4, 3) := by decide +kernel
theorem dX0_lesser_9 : decode cX0_lesser 9 = .ok (.iload_n 1, 1) := by decide +kernel
theorem dX0_lesser_10 : decode cX0_lesser 10 = .ok (.ireturn, 1) := by decide +kernel
end
section
set_option maxRecDepth 100000
abbrev cX0_apply : ByteArray := prog_1_method_4_code
def yX0_apply : MethodName := ⟨RX0, "apply", "(III)I"⟩
theorem dX0_apply_0 : decode cX0_apply 0 = .ok (.iload_n 1, 1) := by decide +kernel
theorem dX0_apply_1 : decode cX0_apply 1 = .ok (.invokestatic 16, 3) := by decide +kernel
theorem dX0_apply_4 : decode cX0_apply 4 = .ok (.ifCond .eq 19, 3) := by decide +kernel
theorem dX0_apply_7 : decode cX0_apply 7 = .ok (.iload_n 3, 1) := by decide +kernel
theorem dX0_apply_8 : decode cX0_apply 8 = .ok (.invokestatic 16, 3) := by decide +kernel
theorem dX0_apply_11 : decode cX0_apply 11 = .ok (.ifCond .eq 12, 3) := by decide +kernel
theorem dX0_apply_14 : decode cX0_apply 14 = .ok (.iload_n 2, 1) := by decide +kernel
theorem dX0_apply_15 : decode cX0_apply 15 = .ok (.ifCond .lt 8, 3) := by decide +kernel
theorem dX0_apply_18 : decode cX0_apply 18 = .ok (.iload_n 2, 1) := by decide +kernel
theorem dX0_apply_19 : decode cX0_apply 19 = .ok (.iconst 4, 1) := by decide +kernel
theorem dX0_apply_20 : decode cX0_apply 20 = .ok (.if_icmp .le 5, 3) := by decide +kernel
theorem dX0_apply_23 : decode cX0_apply 23 = .ok (.iconst (-1), 1) := by decide +kernel
theorem dX0_apply_24 : decode cX0_apply 24 = .ok (.ireturn, 1) := by decide +kernel
theorem dX0_apply_25 : decode cX0_apply 25 = .ok (.aload_n 0, 1) := by decide +kernel
theorem dX0_apply_26 : decode cX0_apply 26 = .ok (.getfield 7, 3) := by decide +kernel
theorem dX0_apply_29 : decode cX0_apply 29 = .ok (.iload_n 3, 1) := by decide +kernel
theorem dX0_apply_30 : decode cX0_apply 30 = .ok (.iaload, 1) := by decide +kernel
theorem dX0_apply_31 : decode cX0_apply 31 = .ok (.istore 4, 2) := by decide +kernel
theorem dX0_apply_33 : decode cX0_apply 33 = .ok (.aload_n 0, 1) := by decide +kernel
theorem dX0_apply_34 : decode cX0_apply 34 = .ok (.getfield 13, 3) := by decide +kernel
theorem dX0_apply_37 : decode cX0_apply 37 = .ok (.iload_n 3, 1) := by decide +kernel
theorem dX0_apply_38 : decode cX0_apply 38 = .ok (.iaload, 1) := by decide +kernel
theorem dX0_apply_39 : decode cX0_apply 39 = .ok (.istore 5, 2) := by decide +kernel
theorem dX0_apply_41 : decode cX0_apply 41 = .ok (.iload_n 2, 1) := by decide +kernel
theorem dX0_apply_42 : decode cX0_apply 42 = .ok (.ifCond .ne 20, 3) := by decide +kernel
theorem dX0_apply_45 : decode cX0_apply 45 = .ok (.aload_n 0, 1) := by decide +kernel
theorem dX0_apply_46 : decode cX0_apply 46 = .ok (.bipush 127, 2) := by decide +kernel
theorem dX0_apply_48 : decode cX0_apply 48 = .ok (.iload 5, 2) := by decide +kernel
theorem dX0_apply_50 : decode cX0_apply 50 = .ok (.isub, 1) := by decide +kernel
theorem dX0_apply_51 : decode cX0_apply 51 = .ok (.bipush 127, 2) := by decide +kernel
theorem dX0_apply_53 : decode cX0_apply 53 = .ok (.iload 4, 2) := by decide +kernel
theorem dX0_apply_55 : decode cX0_apply 55 = .ok (.isub, 1) := by decide +kernel
theorem dX0_apply_56 : decode cX0_apply 56 = .ok (.invokevirtual 45, 3) := by decide +kernel
theorem dX0_apply_59 : decode cX0_apply 59 = .ok (.goto 93, 3) := by decide +kernel
theorem dX0_apply_62 : decode cX0_apply 62 = .ok (.iload_n 2, 1) := by decide +kernel
theorem dX0_apply_63 : decode cX0_apply 63 = .ok (.iconst 1, 1) := by decide +kernel
theorem dX0_apply_64 : decode cX0_apply 64 = .ok (.if_icmp .ne 14, 3) := by decide +kernel
theorem dX0_apply_67 : decode cX0_apply 67 = .ok (.aload_n 0, 1) := by decide +kernel
theorem dX0_apply_68 : decode cX0_apply 68 = .ok (.iload 4, 2) := by decide +kernel
theorem dX0_apply_70 : decode cX0_apply 70 = .ok (.iload 5, 2) := by decide +kernel
theorem dX0_apply_72 : decode cX0_apply 72 = .ok (.invokevirtual 48, 3) := by decide +kernel
theorem dX0_apply_75 : decode cX0_apply 75 = .ok (.goto 77, 3) := by decide +kernel
theorem dX0_apply_78 : decode cX0_apply 78 = .ok (.iload_n 2, 1) := by decide +kernel
theorem dX0_apply_79 : decode cX0_apply 79 = .ok (.iconst 2, 1) := by decide +kernel
theorem dX0_apply_80 : decode cX0_apply 80 = .ok (.if_icmp .ne 34, 3) := by decide +kernel
theorem dX0_apply_83 : decode cX0_apply 83 = .ok (.iload 4, 2) := by decide +kernel
theorem dX0_apply_85 : decode cX0_apply 85 = .ok (.iload 5, 2) := by decide +kernel
theorem dX0_apply_87 : decode cX0_apply 87 = .ok (.iconst 0, 1) := by decide +kernel
theorem dX0_apply_88 : decode cX0_apply 88 = .ok (.invokestatic 51, 3) := by decide +kernel
theorem dX0_apply_91 : decode cX0_apply 91 = .ok (.istore 6, 2) := by decide +kernel
theorem dX0_apply_93 : decode cX0_apply 93 = .ok (.iload 4, 2) := by decide +kernel
theorem dX0_apply_95 : decode cX0_apply 95 = .ok (.iload 5, 2) := by decide +kernel
theorem dX0_apply_97 : decode cX0_apply 97 = .ok (.iconst 1, 1) := by decide +kernel
theorem dX0_apply_98 : decode cX0_apply 98 = .ok (.invokestatic 51, 3) := by decide +kernel
theorem dX0_apply_101 : decode cX0_apply 101 = .ok (.istore 7, 2) := by decide +kernel
theorem dX0_apply_103 : decode cX0_apply 103 = .ok (.aload_n 0, 1) := by decide +kernel
theorem dX0_apply_104 : decode cX0_apply 104 = .ok (.iload 6, 2) := by decide +kernel
theorem dX0_apply_106 : decode cX0_apply 106 = .ok (.iload 7, 2) := by decide +kernel
theorem dX0_apply_108 : decode cX0_apply 108 = .ok (.invokevirtual 45, 3) := by decide +kernel
theorem dX0_apply_111 : decode cX0_apply 111 = .ok (.goto 41, 3) := by decide +kernel
theorem dX0_apply_114 : decode cX0_apply 114 = .ok (.iload_n 2, 1) := by decide +kernel
theorem dX0_apply_115 : decode cX0_apply 115 = .ok (.iconst 3, 1) := by decide +kernel
theorem dX0_apply_116 : decode cX0_apply 116 = .ok (.if_icmp .ne 28, 3) := by decide +kernel
theorem dX0_apply_119 : decode cX0_apply 119 = .ok (.iload 4, 2) := by decide +kernel
theorem dX0_apply_121 : decode cX0_apply 121 = .ok (.invokestatic 55, 3) := by decide +kernel
theorem dX0_apply_124 : decode cX0_apply 124 = .ok (.istore 6, 2) := by decide +kernel
theorem dX0_apply_126 : decode cX0_apply 126 = .ok (.iload 5, 2) := by decide +kernel
theorem dX0_apply_128 : decode cX0_apply 128 = .ok (.invokestatic 55, 3) := by decide +kernel
theorem dX0_apply_131 : decode cX0_apply 131 = .ok (.istore 7, 2) := by decide +kernel
theorem dX0_apply_133 : decode cX0_apply 133 = .ok (.aload_n 0, 1) := by decide +kernel
theorem dX0_apply_134 : decode cX0_apply 134 = .ok (.iload 6, 2) := by decide +kernel
theorem dX0_apply_136 : decode cX0_apply 136 = .ok (.iload 7, 2) := by decide +kernel
theorem dX0_apply_138 : decode cX0_apply 138 = .ok (.invokevirtual 45, 3) := by decide +kernel
theorem dX0_apply_141 : decode cX0_apply 141 = .ok (.goto 11, 3) := by decide +kernel
theorem dX0_apply_144 : decode cX0_apply 144 = .ok (.aload_n 0, 1) := by decide +kernel
theorem dX0_apply_145 : decode cX0_apply 145 = .ok (.iload 4, 2) := by decide +kernel
theorem dX0_apply_147 : decode cX0_apply 147 = .ok (.iload 5, 2) := by decide +kernel
theorem dX0_apply_149 : decode cX0_apply 149 = .ok (.invokevirtual 59, 3) := by decide +kernel
theorem dX0_apply_152 : decode cX0_apply 152 = .ok (.aload_n 0, 1) := by decide +kernel
theorem dX0_apply_153 : decode cX0_apply 153 = .ok (.getfield 7, 3) := by decide +kernel
theorem dX0_apply_156 : decode cX0_apply 156 = .ok (.iload_n 1, 1) := by decide +kernel
theorem dX0_apply_157 : decode cX0_apply 157 = .ok (.aload_n 0, 1) := by decide +kernel
theorem dX0_apply_158 : decode cX0_apply 158 = .ok (.getfield 38, 3) := by decide +kernel
theorem dX0_apply_161 : decode cX0_apply 161 = .ok (.iastore, 1) := by decide +kernel
theorem dX0_apply_162 : decode cX0_apply 162 = .ok (.aload_n 0, 1) := by decide +kernel
theorem dX0_apply_163 : decode cX0_apply 163 = .ok (.getfield 13, 3) := by decide +kernel
theorem dX0_apply_166 : decode cX0_apply 166 = .ok (.iload_n 1, 1) := by decide +kernel
theorem dX0_apply_167 : decode cX0_apply 167 = .ok (.aload_n 0, 1) := by decide +kernel
theorem dX0_apply_168 : decode cX0_apply 168 = .ok (.getfield 42, 3) := by decide +kernel
theorem dX0_apply_171 : decode cX0_apply 171 = .ok (.iastore, 1) := by decide +kernel
theorem dX0_apply_172 : decode cX0_apply 172 = .ok (.iconst 0, 1) := by decide +kernel
theorem dX0_apply_173 : decode cX0_apply 173 = .ok (.ireturn, 1) := by decide +kernel
abbrev cX0_countOnes : ByteArray := prog_1_method_27_code
def yX0_countOnes : MethodName := ⟨RX0, "countOnes", "(II)V"⟩
theorem dX0_countOnes_0 : decode cX0_countOnes 0 = .ok (.iload_n 1, 1) := by decide +kernel
theorem dX0_countOnes_1 : decode cX0_countOnes 1 = .ok (.invokestatic 91, 3) := by decide +kernel
theorem dX0_countOnes_4 : decode cX0_countOnes 4 = .ok (.istore_n 3, 1) := by decide +kernel
theorem dX0_countOnes_5 : decode cX0_countOnes 5 = .ok (.iload_n 2, 1) := by decide +kernel
theorem dX0_countOnes_6 : decode cX0_countOnes 6 = .ok (.invokestatic 91, 3) := by decide +kernel
theorem dX0_countOnes_9 : decode cX0_countOnes 9 = .ok (.istore 4, 2) := by decide +kernel
theorem dX0_countOnes_11 : decode cX0_countOnes 11 = .ok (.bipush 64, 2) := by decide +kernel
theorem dX0_countOnes_13 : decode cX0_countOnes 13 = .ok (.istore 5, 2) := by decide +kernel
theorem dX0_countOnes_15 : decode cX0_countOnes 15 = .ok (.iload 5, 2) := by decide +kernel
theorem dX0_countOnes_17 : decode cX0_countOnes 17 = .ok (.ifCond .le 84, 3) := by decide +kernel
theorem dX0_countOnes_20 : decode cX0_countOnes 20 = .ok (.iload_n 1, 1) := by decide +kernel
theorem dX0_countOnes_21 : decode cX0_countOnes 21 = .ok (.iload 5, 2) := by decide +kernel
theorem dX0_countOnes_23 : decode cX0_countOnes 23 = .ok (.invokestatic 85, 3) := by decide +kernel
theorem dX0_countOnes_26 : decode cX0_countOnes 26 = .ok (.istore 6, 2) := by decide +kernel
theorem dX0_countOnes_28 : decode cX0_countOnes 28 = .ok (.iload_n 2, 1) := by decide +kernel
theorem dX0_countOnes_29 : decode cX0_countOnes 29 = .ok (.iload 5, 2) := by decide +kernel
theorem dX0_countOnes_31 : decode cX0_countOnes 31 = .ok (.invokestatic 88, 3) := by decide +kernel
theorem dX0_countOnes_34 : decode cX0_countOnes 34 = .ok (.istore 7, 2) := by decide +kernel
theorem dX0_countOnes_36 : decode cX0_countOnes 36 = .ok (.iload_n 1, 1) := by decide +kernel
theorem dX0_countOnes_37 : decode cX0_countOnes 37 = .ok (.iload 5, 2) := by decide +kernel
theorem dX0_countOnes_39 : decode cX0_countOnes 39 = .ok (.iand, 1) := by decide +kernel
theorem dX0_countOnes_40 : decode cX0_countOnes 40 = .ok (.ifCond .ne 23, 3) := by decide +kernel
theorem dX0_countOnes_43 : decode cX0_countOnes 43 = .ok (.iload 6, 2) := by decide +kernel
theorem dX0_countOnes_45 : decode cX0_countOnes 45 = .ok (.iload_n 2, 1) := by decide +kernel
theorem dX0_countOnes_46 : decode cX0_countOnes 46 = .ok (.if_icmp .gt 17, 3) := by decide +kernel
theorem dX0_countOnes_49 : decode cX0_countOnes 49 = .ok (.iload 6, 2) := by decide +kernel
theorem dX0_countOnes_51 : decode cX0_countOnes 51 = .ok (.invokestatic 91, 3) := by decide +kernel
theorem dX0_countOnes_54 : decode cX0_countOnes 54 = .ok (.istore 8, 2) := by decide +kernel
theorem dX0_countOnes_56 : decode cX0_countOnes 56 = .ok (.iload_n 3, 1) := by decide +kernel
theorem dX0_countOnes_57 : decode cX0_countOnes 57 = .ok (.iload 8, 2) := by decide +kernel
theorem dX0_countOnes_59 : decode cX0_countOnes 59 = .ok (.invokestatic 69, 3) := by decide +kernel
theorem dX0_countOnes_62 : decode cX0_countOnes 62 = .ok (.istore_n 3, 1) := by decide +kernel
theorem dX0_countOnes_63 : decode cX0_countOnes 63 = .ok (.iload_n 2, 1) := by decide +kernel
theorem dX0_countOnes_64 : decode cX0_countOnes 64 = .ok (.iload 5, 2) := by decide +kernel
theorem dX0_countOnes_66 : decode cX0_countOnes 66 = .ok (.iand, 1) := by decide +kernel
theorem dX0_countOnes_67 : decode cX0_countOnes 67 = .ok (.ifCond .eq 25, 3) := by decide +kernel
theorem dX0_countOnes_70 : decode cX0_countOnes 70 = .ok (.iload 7, 2) := by decide +kernel
theorem dX0_countOnes_72 : decode cX0_countOnes 72 = .ok (.iload_n 1, 1) := by decide +kernel
theorem dX0_countOnes_73 : decode cX0_countOnes 73 = .ok (.if_icmp .lt 19, 3) := by decide +kernel
theorem dX0_countOnes_76 : decode cX0_countOnes 76 = .ok (.iload 7, 2) := by decide +kernel
theorem dX0_countOnes_78 : decode cX0_countOnes 78 = .ok (.invokestatic 91, 3) := by decide +kernel
theorem dX0_countOnes_81 : decode cX0_countOnes 81 = .ok (.istore 8, 2) := by decide +kernel
theorem dX0_countOnes_83 : decode cX0_countOnes 83 = .ok (.iload 4, 2) := by decide +kernel
theorem dX0_countOnes_85 : decode cX0_countOnes 85 = .ok (.iload 8, 2) := by decide +kernel
theorem dX0_countOnes_87 : decode cX0_countOnes 87 = .ok (.invokestatic 66, 3) := by decide +kernel
theorem dX0_countOnes_90 : decode cX0_countOnes 90 = .ok (.istore 4, 2) := by decide +kernel
theorem dX0_countOnes_92 : decode cX0_countOnes 92 = .ok (.iload 5, 2) := by decide +kernel
theorem dX0_countOnes_94 : decode cX0_countOnes 94 = .ok (.iconst 2, 1) := by decide +kernel
theorem dX0_countOnes_95 : decode cX0_countOnes 95 = .ok (.idiv, 1) := by decide +kernel
theorem dX0_countOnes_96 : decode cX0_countOnes 96 = .ok (.istore 5, 2) := by decide +kernel
theorem dX0_countOnes_98 : decode cX0_countOnes 98 = .ok (.goto (-83), 3) := by decide +kernel
theorem dX0_countOnes_101 : decode cX0_countOnes 101 = .ok (.aload_n 0, 1) := by decide +kernel
theorem dX0_countOnes_102 : decode cX0_countOnes 102 = .ok (.iload_n 3, 1) := by decide +kernel
theorem dX0_countOnes_103 : decode cX0_countOnes 103 = .ok (.iload 4, 2) := by decide +kernel
theorem dX0_countOnes_105 : decode cX0_countOnes 105 = .ok (.invokevirtual 45, 3) := by decide +kernel
theorem dX0_countOnes_108 : decode cX0_countOnes 108 = .ok (.return_, 1) := by decide +kernel
abbrev cX0_ones : ByteArray := prog_1_method_26_code
def yX0_ones : MethodName := ⟨RX0, "ones", "(I)I"⟩
theorem dX0_ones_0 : decode cX0_ones 0 = .ok (.iconst 0, 1) := by decide +kernel
theorem dX0_ones_1 : decode cX0_ones 1 = .ok (.istore_n 1, 1) := by decide +kernel
theorem dX0_ones_2 : decode cX0_ones 2 = .ok (.iconst 0, 1) := by decide +kernel
theorem dX0_ones_3 : decode cX0_ones 3 = .ok (.istore_n 2, 1) := by decide +kernel
theorem dX0_ones_4 : decode cX0_ones 4 = .ok (.iload_n 2, 1) := by decide +kernel
theorem dX0_ones_5 : decode cX0_ones 5 = .ok (.bipush 7, 2) := by decide +kernel
theorem dX0_ones_7 : decode cX0_ones 7 = .ok (.if_icmp .ge 17, 3) := by decide +kernel
theorem dX0_ones_10 : decode cX0_ones 10 = .ok (.iload_n 1, 1) := by decide +kernel
theorem dX0_ones_11 : decode cX0_ones 11 = .ok (.iload_n 0, 1) := by decide +kernel
theorem dX0_ones_12 : decode cX0_ones 12 = .ok (.iload_n 2, 1) := by decide +kernel
theorem dX0_ones_13 : decode cX0_ones 13 = .ok (.iushr, 1) := by decide +kernel
theorem dX0_ones_14 : decode cX0_ones 14 = .ok (.iconst 1, 1) := by decide +kernel
theorem dX0_ones_15 : decode cX0_ones 15 = .ok (.iand, 1) := by decide +kernel
theorem dX0_ones_16 : decode cX0_ones 16 = .ok (.iadd, 1) := by decide +kernel
theorem dX0_ones_17 : decode cX0_ones 17 = .ok (.istore_n 1, 1) := by decide +kernel
theorem dX0_ones_18 : decode cX0_ones 18 = .ok (.iinc 2 1, 3) := by decide +kernel
theorem dX0_ones_21 : decode cX0_ones 21 = .ok (.goto (-17), 3) := by decide +kernel
theorem dX0_ones_24 : decode cX0_ones 24 = .ok (.iload_n 1, 1) := by decide +kernel
theorem dX0_ones_25 : decode cX0_ones 25 = .ok (.ireturn, 1) := by decide +kernel
abbrev cX0_reversed : ByteArray := prog_1_method_28_code
def yX0_reversed : MethodName := ⟨RX0, "reversed", "(III)I"⟩
theorem dX0_reversed_0 : decode cX0_reversed 0 = .ok (.iconst 0, 1) := by decide +kernel
theorem dX0_reversed_1 : decode cX0_reversed 1 = .ok (.istore_n 3, 1) := by decide +kernel
theorem dX0_reversed_2 : decode cX0_reversed 2 = .ok (.iconst 0, 1) := by decide +kernel
theorem dX0_reversed_3 : decode cX0_reversed 3 = .ok (.istore 4, 2) := by decide +kernel
theorem dX0_reversed_5 : decode cX0_reversed 5 = .ok (.iconst 0, 1) := by decide +kernel
theorem dX0_reversed_6 : decode cX0_reversed 6 = .ok (.istore 5, 2) := by decide +kernel
theorem dX0_reversed_8 : decode cX0_reversed 8 = .ok (.iload 5, 2) := by decide +kernel
theorem dX0_reversed_10 : decode cX0_reversed 10 = .ok (.bipush 7, 2) := by decide +kernel
theorem dX0_reversed_12 : decode cX0_reversed 12 = .ok (.if_icmp .ge 68, 3) := by decide +kernel
theorem dX0_reversed_15 : decode cX0_reversed 15 = .ok (.iconst 2, 1) := by decide +kernel
theorem dX0_reversed_16 : decode cX0_reversed 16 = .ok (.iload 5, 2) := by decide +kernel
theorem dX0_reversed_18 : decode cX0_reversed 18 = .ok (.ishl, 1) := by decide +kernel
theorem dX0_reversed_19 : decode cX0_reversed 19 = .ok (.istore 6, 2) := by decide +kernel
theorem dX0_reversed_21 : decode cX0_reversed 21 = .ok (.iload_n 3, 1) := by decide +kernel
theorem dX0_reversed_22 : decode cX0_reversed 22 = .ok (.iload_n 2, 1) := by decide +kernel
theorem dX0_reversed_23 : decode cX0_reversed 23 = .ok (.iload 5, 2) := by decide +kernel
theorem dX0_reversed_25 : decode cX0_reversed 25 = .ok (.ishl, 1) := by decide +kernel
theorem dX0_reversed_26 : decode cX0_reversed 26 = .ok (.ior, 1) := by decide +kernel
theorem dX0_reversed_27 : decode cX0_reversed 27 = .ok (.istore 7, 2) := by decide +kernel
theorem dX0_reversed_29 : decode cX0_reversed 29 = .ok (.iload_n 0, 1) := by decide +kernel
theorem dX0_reversed_30 : decode cX0_reversed 30 = .ok (.iload 7, 2) := by decide +kernel
theorem dX0_reversed_32 : decode cX0_reversed 32 = .ok (.iload_n 0, 1) := by decide +kernel
theorem dX0_reversed_33 : decode cX0_reversed 33 = .ok (.isub, 1) := by decide +kernel
theorem dX0_reversed_34 : decode cX0_reversed 34 = .ok (.iload 6, 2) := by decide +kernel
theorem dX0_reversed_36 : decode cX0_reversed 36 = .ok (.iconst 1, 1) := by decide +kernel
theorem dX0_reversed_37 : decode cX0_reversed 37 = .ok (.isub, 1) := by decide +kernel
theorem dX0_reversed_38 : decode cX0_reversed 38 = .ok (.iand, 1) := by decide +kernel
theorem dX0_reversed_39 : decode cX0_reversed 39 = .ok (.iadd, 1) := by decide +kernel
theorem dX0_reversed_40 : decode cX0_reversed 40 = .ok (.istore 8, 2) := by decide +kernel
theorem dX0_reversed_42 : decode cX0_reversed 42 = .ok (.iload 8, 2) := by decide +kernel
theorem dX0_reversed_44 : decode cX0_reversed 44 = .ok (.iload_n 1, 1) := by decide +kernel
theorem dX0_reversed_45 : decode cX0_reversed 45 = .ok (.if_icmp .gt 7, 3) := by decide +kernel
theorem dX0_reversed_48 : decode cX0_reversed 48 = .ok (.iload_n 2, 1) := by decide +kernel
theorem dX0_reversed_49 : decode cX0_reversed 49 = .ok (.goto 6, 3) := by decide +kernel
theorem dX0_reversed_52 : decode cX0_reversed 52 = .ok (.iconst 1, 1) := by decide +kernel
theorem dX0_reversed_53 : decode cX0_reversed 53 = .ok (.iload_n 2, 1) := by decide +kernel
theorem dX0_reversed_54 : decode cX0_reversed 54 = .ok (.isub, 1) := by decide +kernel
theorem dX0_reversed_55 : decode cX0_reversed 55 = .ok (.istore 9, 2) := by decide +kernel
theorem dX0_reversed_57 : decode cX0_reversed 57 = .ok (.iload_n 3, 1) := by decide +kernel
theorem dX0_reversed_58 : decode cX0_reversed 58 = .ok (.iload 9, 2) := by decide +kernel
theorem dX0_reversed_60 : decode cX0_reversed 60 = .ok (.iload 5, 2) := by decide +kernel
theorem dX0_reversed_62 : decode cX0_reversed 62 = .ok (.ishl, 1) := by decide +kernel
theorem dX0_reversed_63 : decode cX0_reversed 63 = .ok (.ior, 1) := by decide +kernel
theorem dX0_reversed_64 : decode cX0_reversed 64 = .ok (.istore_n 3, 1) := by decide +kernel
theorem dX0_reversed_65 : decode cX0_reversed 65 = .ok (.iconst 2, 1) := by decide +kernel
theorem dX0_reversed_66 : decode cX0_reversed 66 = .ok (.iload 4, 2) := by decide +kernel
theorem dX0_reversed_68 : decode cX0_reversed 68 = .ok (.imul, 1) := by decide +kernel
theorem dX0_reversed_69 : decode cX0_reversed 69 = .ok (.iload 9, 2) := by decide +kernel
theorem dX0_reversed_71 : decode cX0_reversed 71 = .ok (.iadd, 1) := by decide +kernel
theorem dX0_reversed_72 : decode cX0_reversed 72 = .ok (.istore 4, 2) := by decide +kernel
theorem dX0_reversed_74 : decode cX0_reversed 74 = .ok (.iinc 5 1, 3) := by decide +kernel
theorem dX0_reversed_77 : decode cX0_reversed 77 = .ok (.goto (-69), 3) := by decide +kernel
theorem dX0_reversed_80 : decode cX0_reversed 80 = .ok (.iload 4, 2) := by decide +kernel
theorem dX0_reversed_82 : decode cX0_reversed 82 = .ok (.ireturn, 1) := by decide +kernel
abbrev cX0_rootOf : ByteArray := prog_1_method_17_code
def yX0_rootOf : MethodName := ⟨RX0, "rootOf", "(I)I"⟩
theorem dX0_rootOf_0 : decode cX0_rootOf 0 = .ok (.iconst 0, 1) := by decide +kernel
theorem dX0_rootOf_1 : decode cX0_rootOf 1 = .ok (.istore_n 1, 1) := by decide +kernel
theorem dX0_rootOf_2 : decode cX0_rootOf 2 = .ok (.iconst 1, 1) := by decide +kernel
theorem dX0_rootOf_3 : decode cX0_rootOf 3 = .ok (.istore_n 2, 1) := by decide +kernel
theorem dX0_rootOf_4 : decode cX0_rootOf 4 = .ok (.iload_n 2, 1) := by decide +kernel
theorem dX0_rootOf_5 : decode cX0_rootOf 5 = .ok (.bipush 12, 2) := by decide +kernel
theorem dX0_rootOf_7 : decode cX0_rootOf 7 = .ok (.if_icmp .ge 22, 3) := by decide +kernel
theorem dX0_rootOf_10 : decode cX0_rootOf 10 = .ok (.iload_n 2, 1) := by decide +kernel
theorem dX0_rootOf_11 : decode cX0_rootOf 11 = .ok (.iload_n 2, 1) := by decide +kernel
theorem dX0_rootOf_12 : decode cX0_rootOf 12 = .ok (.imul, 1) := by decide +kernel
theorem dX0_rootOf_13 : decode cX0_rootOf 13 = .ok (.iload_n 0, 1) := by decide +kernel
theorem dX0_rootOf_14 : decode cX0_rootOf 14 = .ok (.if_icmp .gt 7, 3) := by decide +kernel
theorem dX0_rootOf_17 : decode cX0_rootOf 17 = .ok (.iload_n 2, 1) := by decide +kernel
theorem dX0_rootOf_18 : decode cX0_rootOf 18 = .ok (.goto 4, 3) := by decide +kernel
theorem dX0_rootOf_21 : decode cX0_rootOf 21 = .ok (.iload_n 1, 1) := by decide +kernel
theorem dX0_rootOf_22 : decode cX0_rootOf 22 = .ok (.istore_n 1, 1) := by decide +kernel
theorem dX0_rootOf_23 : decode cX0_rootOf 23 = .ok (.iinc 2 1, 3) := by decide +kernel
theorem dX0_rootOf_26 : decode cX0_rootOf 26 = .ok (.goto (-22), 3) := by decide +kernel
theorem dX0_rootOf_29 : decode cX0_rootOf 29 = .ok (.iload_n 1, 1) := by decide +kernel
theorem dX0_rootOf_30 : decode cX0_rootOf 30 = .ok (.ireturn, 1) := by decide +kernel
abbrev cX0_doubled : ByteArray := prog_1_method_18_code
def yX0_doubled : MethodName := ⟨RX0, "doubled", "(II)V"⟩
theorem dX0_doubled_0 : decode cX0_doubled 0 = .ok (.iload_n 2, 1) := by decide +kernel
theorem dX0_doubled_1 : decode cX0_doubled 1 = .ok (.bipush 64, 2) := by decide +kernel
theorem dX0_doubled_3 : decode cX0_doubled 3 = .ok (.if_icmp .ge 16, 3) := by decide +kernel
theorem dX0_doubled_6 : decode cX0_doubled 6 = .ok (.aload_n 0, 1) := by decide +kernel
theorem dX0_doubled_7 : decode cX0_doubled 7 = .ok (.iconst 2, 1) := by decide +kernel
theorem dX0_doubled_8 : decode cX0_doubled 8 = .ok (.iload_n 1, 1) := by decide +kernel
theorem dX0_doubled_9 : decode cX0_doubled 9 = .ok (.imul, 1) := by decide +kernel
theorem dX0_doubled_10 : decode cX0_doubled 10 = .ok (.iconst 2, 1) := by decide +kernel
theorem dX0_doubled_11 : decode cX0_doubled 11 = .ok (.iload_n 2, 1) := by decide +kernel
theorem dX0_doubled_12 : decode cX0_doubled 12 = .ok (.imul, 1) := by decide +kernel
theorem dX0_doubled_13 : decode cX0_doubled 13 = .ok (.invokevirtual 45, 3) := by decide +kernel
theorem dX0_doubled_16 : decode cX0_doubled 16 = .ok (.goto 37, 3) := by decide +kernel
theorem dX0_doubled_19 : decode cX0_doubled 19 = .ok (.iload_n 1, 1) := by decide +kernel
theorem dX0_doubled_20 : decode cX0_doubled 20 = .ok (.bipush 64, 2) := by decide +kernel
theorem dX0_doubled_22 : decode cX0_doubled 22 = .ok (.if_icmp .lt 24, 3) := by decide +kernel
theorem dX0_doubled_25 : decode cX0_doubled 25 = .ok (.aload_n 0, 1) := by decide +kernel
theorem dX0_doubled_26 : decode cX0_doubled 26 = .ok (.iconst 2, 1) := by decide +kernel
theorem dX0_doubled_27 : decode cX0_doubled 27 = .ok (.iload_n 1, 1) := by decide +kernel
theorem dX0_doubled_28 : decode cX0_doubled 28 = .ok (.imul, 1) := by decide +kernel
theorem dX0_doubled_29 : decode cX0_doubled 29 = .ok (.sipush 128, 3) := by decide +kernel
theorem dX0_doubled_32 : decode cX0_doubled 32 = .ok (.isub, 1) := by decide +kernel
theorem dX0_doubled_33 : decode cX0_doubled 33 = .ok (.iconst 2, 1) := by decide +kernel
theorem dX0_doubled_34 : decode cX0_doubled 34 = .ok (.iload_n 2, 1) := by decide +kernel
theorem dX0_doubled_35 : decode cX0_doubled 35 = .ok (.imul, 1) := by decide +kernel
theorem dX0_doubled_36 : decode cX0_doubled 36 = .ok (.sipush 128, 3) := by decide +kernel
theorem dX0_doubled_39 : decode cX0_doubled 39 = .ok (.isub, 1) := by decide +kernel
theorem dX0_doubled_40 : decode cX0_doubled 40 = .ok (.invokevirtual 45, 3) := by decide +kernel
theorem dX0_doubled_43 : decode cX0_doubled 43 = .ok (.goto 10, 3) := by decide +kernel
theorem dX0_doubled_46 : decode cX0_doubled 46 = .ok (.aload_n 0, 1) := by decide +kernel
theorem dX0_doubled_47 : decode cX0_doubled 47 = .ok (.iconst 0, 1) := by decide +kernel
theorem dX0_doubled_48 : decode cX0_doubled 48 = .ok (.bipush 126, 2) := by decide +kernel
theorem dX0_doubled_50 : decode cX0_doubled 50 = .ok (.invokevirtual 45, 3) := by decide +kernel
theorem dX0_doubled_53 : decode cX0_doubled 53 = .ok (.return_, 1) := by decide +kernel
abbrev cX0_low : ByteArray := prog_1_method_5_code
def yX0_low : MethodName := ⟨RX0, "low", "(I)I"⟩
theorem dX0_low_0 : decode cX0_low 0 = .ok (.iload_n 1, 1) := by decide +kernel
theorem dX0_low_1 : decode cX0_low 1 = .ok (.invokestatic 16, 3) := by decide +kernel
theorem dX0_low_4 : decode cX0_low 4 = .ok (.ifCond .eq 12, 3) := by decide +kernel
theorem dX0_low_7 : decode cX0_low 7 = .ok (.aload_n 0, 1) := by decide +kernel
theorem dX0_low_8 : decode cX0_low 8 = .ok (.getfield 7, 3) := by decide +kernel
theorem dX0_low_11 : decode cX0_low 11 = .ok (.iload_n 1, 1) := by decide +kernel
theorem dX0_low_12 : decode cX0_low 12 = .ok (.iaload, 1) := by decide +kernel
theorem dX0_low_13 : decode cX0_low 13 = .ok (.goto 4, 3) := by decide +kernel
theorem dX0_low_16 : decode cX0_low 16 = .ok (.iconst (-1), 1) := by decide +kernel
theorem dX0_low_17 : decode cX0_low 17 = .ok (.ireturn, 1) := by decide +kernel
abbrev cX0_high : ByteArray := prog_1_method_6_code
def yX0_high : MethodName := ⟨RX0, "high", "(I)I"⟩
theorem dX0_high_0 : decode cX0_high 0 = .ok (.iload_n 1, 1) := by decide +kernel
theorem dX0_high_1 : decode cX0_high 1 = .ok (.invokestatic 16, 3) := by decide +kernel
theorem dX0_high_4 : decode cX0_high 4 = .ok (.ifCond .eq 12, 3) := by decide +kernel
theorem dX0_high_7 : decode cX0_high 7 = .ok (.aload_n 0, 1) := by decide +kernel
theorem dX0_high_8 : decode cX0_high 8 = .ok (.getfield 13, 3) := by decide +kernel
theorem dX0_high_11 : decode cX0_high 11 = .ok (.iload_n 1, 1) := by decide +kernel
theorem dX0_high_12 : decode cX0_high 12 = .ok (.iaload, 1) := by decide +kernel
theorem dX0_high_13 : decode cX0_high 13 = .ok (.goto 4, 3) := by decide +kernel
theorem dX0_high_16 : decode cX0_high 16 = .ok (.iconst (-1), 1) := by decide +kernel
theorem dX0_high_17 : decode cX0_high 17 = .ok (.ireturn, 1) := by decide +kernel
abbrev cX0_less : ByteArray := prog_1_method_7_code
def yX0_less : MethodName := ⟨RX0, "less", "(II)I"⟩
theorem dX0_less_0 : decode cX0_less 0 = .ok (.iload_n 1, 1) := by decide +kernel
theorem dX0_less_1 : decode cX0_less 1 = .ok (.invokestatic 16, 3) := by decide +kernel
theorem dX0_less_4 : decode cX0_less 4 = .ok (.ifCond .eq 10, 3) := by decide +kernel
theorem dX0_less_7 : decode cX0_less 7 = .ok (.iload_n 2, 1) := by decide +kernel
theorem dX0_less_8 : decode cX0_less 8 = .ok (.invokestatic 16, 3) := by decide +kernel
theorem dX0_less_11 : decode cX0_less 11 = .ok (.ifCond .ne 5, 3) := by decide +kernel
theorem dX0_less_14 : decode cX0_less 14 = .ok (.iconst (-1), 1) := by decide +kernel
theorem dX0_less_15 : decode cX0_less 15 = .ok (.ireturn, 1) := by decide +kernel
theorem dX0_less_16 : decode cX0_less 16 = .ok (.aload_n 0, 1) := by decide +kernel
theorem dX0_less_17 : decode cX0_less 17 = .ok (.getfield 13, 3) := by decide +kernel
theorem dX0_less_20 : decode cX0_less 20 = .ok (.iload_n 1, 1) := by decide +kernel
theorem dX0_less_21 : decode cX0_less 21 = .ok (.iaload, 1) := by decide +kernel
theorem dX0_less_22 : decode cX0_less 22 = .ok (.aload_n 0, 1) := by decide +kernel
theorem dX0_less_23 : decode cX0_less 23 = .ok (.getfield 7, 3) := by decide +kernel
theorem dX0_less_26 : decode cX0_less 26 = .ok (.iload_n 2, 1) := by decide +kernel
theorem dX0_less_27 : decode cX0_less 27 = .ok (.iaload, 1) := by decide +kernel
theorem dX0_less_28 : decode cX0_less 28 = .ok (.if_icmp .ge 5, 3) := by decide +kernel
theorem dX0_less_31 : decode cX0_less 31 = .ok (.iconst 1, 1) := by decide +kernel
theorem dX0_less_32 : decode cX0_less 32 = .ok (.ireturn, 1) := by decide +kernel
theorem dX0_less_33 : decode cX0_less 33 = .ok (.aload_n 0, 1) := by decide +kernel
theorem dX0_less_34 : decode cX0_less 34 = .ok (.getfield 7, 3) := by decide +kernel
theorem dX0_less_37 : decode cX0_less 37 = .ok (.iload_n 1, 1) := by decide +kernel
theorem dX0_less_38 : decode cX0_less 38 = .ok (.iaload, 1) := by decide +kernel
theorem dX0_less_39 : decode cX0_less 39 = .ok (.aload_n 0, 1) := by decide +kernel
theorem dX0_less_40 : decode cX0_less 40 = .ok (.getfield 13, 3) := by decide +kernel
theorem dX0_less_43 : decode cX0_less 43 = .ok (.iload_n 2, 1) := by decide +kernel
theorem dX0_less_44 : decode cX0_less 44 = .ok (.iaload, 1) := by decide +kernel
theorem dX0_less_45 : decode cX0_less 45 = .ok (.if_icmp .lt 7, 3) := by decide +kernel
theorem dX0_less_48 : decode cX0_less 48 = .ok (.iconst 0, 1) := by decide +kernel
theorem dX0_less_49 : decode cX0_less 49 = .ok (.goto 4, 3) := by decide +kernel
theorem dX0_less_52 : decode cX0_less 52 = .ok (.iconst 2, 1) := by decide +kernel
theorem dX0_less_53 : decode cX0_less 53 = .ok (.ireturn, 1) := by decide +kernel
abbrev cX0_apart : ByteArray := prog_1_method_8_code
def yX0_apart : MethodName := ⟨RX0, "apart", "(II)I"⟩
theorem dX0_apart_0 : decode cX0_apart 0 = .ok (.iload_n 1, 1) := by decide +kernel
theorem dX0_apart_1 : decode cX0_apart 1 = .ok (.invokestatic 16, 3) := by decide +kernel
theorem dX0_apart_4 : decode cX0_apart 4 = .ok (.ifCond .eq 10, 3) := by decide +kernel
theorem dX0_apart_7 : decode cX0_apart 7 = .ok (.iload_n 2, 1) := by decide +kernel
theorem dX0_apart_8 : decode cX0_apart 8 = .ok (.invokestatic 16, 3) := by decide +kernel
theorem dX0_apart_11 : decode cX0_apart 11 = .ok (.ifCond .ne 5, 3) := by decide +kernel
theorem dX0_apart_14 : decode cX0_apart 14 = .ok (.iconst (-1), 1) := by decide +kernel
theorem dX0_apart_15 : decode cX0_apart 15 = .ok (.ireturn, 1) := by decide +kernel
theorem dX0_apart_16 : decode cX0_apart 16 = .ok (.aload_n 0, 1) := by decide +kernel
theorem dX0_apart_17 : decode cX0_apart 17 = .ok (.getfield 13, 3) := by decide +kernel
theorem dX0_apart_20 : decode cX0_apart 20 = .ok (.iload_n 1, 1) := by decide +kernel
theorem dX0_apart_21 : decode cX0_apart 21 = .ok (.iaload, 1) := by decide +kernel
theorem dX0_apart_22 : decode cX0_apart 22 = .ok (.aload_n 0, 1) := by decide +kernel
theorem dX0_apart_23 : decode cX0_apart 23 = .ok (.getfield 13, 3) := by decide +kernel
theorem dX0_apart_26 : decode cX0_apart 26 = .ok (.iload_n 2, 1) := by decide +kernel
theorem dX0_apart_27 : decode cX0_apart 27 = .ok (.iaload, 1) := by decide +kernel
theorem dX0_apart_28 : decode cX0_apart 28 = .ok (.invokestatic 62, 3) := by decide +kernel
theorem dX0_apart_31 : decode cX0_apart 31 = .ok (.aload_n 0, 1) := by decide +kernel
theorem dX0_apart_32 : decode cX0_apart 32 = .ok (.getfield 7, 3) := by decide +kernel
theorem dX0_apart_35 : decode cX0_apart 35 = .ok (.iload_n 1, 1) := by decide +kernel
theorem dX0_apart_36 : decode cX0_apart 36 = .ok (.iaload, 1) := by decide +kernel
theorem dX0_apart_37 : decode cX0_apart 37 = .ok (.iconst 1, 1) := by decide +kernel
theorem dX0_apart_38 : decode cX0_apart 38 = .ok (.isub, 1) := by decide +kernel
theorem dX0_apart_39 : decode cX0_apart 39 = .ok (.aload_n 0, 1) := by decide +kernel
theorem dX0_apart_40 : decode cX0_apart 40 = .ok (.getfield 7, 3) := by decide +kernel
theorem dX0_apart_43 : decode cX0_apart 43 = .ok (.iload_n 2, 1) := by decide +kernel
theorem dX0_apart_44 : decode cX0_apart 44 = .ok (.iaload, 1) := by decide +kernel
theorem dX0_apart_45 : decode cX0_apart 45 = .ok (.iconst 1, 1) := by decide +kernel
theorem dX0_apart_46 : decode cX0_apart 46 = .ok (.isub, 1) := by decide +kernel
theorem dX0_apart_47 : decode cX0_apart 47 = .ok (.invokestatic 62, 3) := by decide +kernel
theorem dX0_apart_50 : decode cX0_apart 50 = .ok (.iadd, 1) := by decide +kernel
theorem dX0_apart_51 : decode cX0_apart 51 = .ok (.istore_n 3, 1) := by decide +kernel
theorem dX0_apart_52 : decode cX0_apart 52 = .ok (.iload_n 3, 1) := by decide +kernel
theorem dX0_apart_53 : decode cX0_apart 53 = .ok (.aload_n 0, 1) := by decide +kernel
theorem dX0_apart_54 : decode cX0_apart 54 = .ok (.getfield 7, 3) := by decide +kernel
theorem dX0_apart_57 : decode cX0_apart 57 = .ok (.iload_n 1, 1) := by decide +kernel
theorem dX0_apart_58 : decode cX0_apart 58 = .ok (.iaload, 1) := by decide +kernel
theorem dX0_apart_59 : decode cX0_apart 59 = .ok (.iconst 1, 1) := by decide +kernel
theorem dX0_apart_60 : decode cX0_apart 60 = .ok (.isub, 1) := by decide +kernel
theorem dX0_apart_61 : decode cX0_apart 61 = .ok (.aload_n 0, 1) := by decide +kernel
theorem dX0_apart_62 : decode cX0_apart 62 = .ok (.getfield 13, 3) := by decide +kernel
theorem dX0_apart_65 : decode cX0_apart 65 = .ok (.iload_n 2, 1) := by decide +kernel
theorem dX0_apart_66 : decode cX0_apart 66 = .ok (.iaload, 1) := by decide +kernel
theorem dX0_apart_67 : decode cX0_apart 67 = .ok (.invokestatic 62, 3) := by decide +kernel
theorem dX0_apart_70 : decode cX0_apart 70 = .ok (.isub, 1) := by decide +kernel
theorem dX0_apart_71 : decode cX0_apart 71 = .ok (.aload_n 0, 1) := by decide +kernel
theorem dX0_apart_72 : decode cX0_apart 72 = .ok (.getfield 13, 3) := by decide +kernel
theorem dX0_apart_75 : decode cX0_apart 75 = .ok (.iload_n 1, 1) := by decide +kernel
theorem dX0_apart_76 : decode cX0_apart 76 = .ok (.iaload, 1) := by decide +kernel
theorem dX0_apart_77 : decode cX0_apart 77 = .ok (.aload_n 0, 1) := by decide +kernel
theorem dX0_apart_78 : decode cX0_apart 78 = .ok (.getfield 7, 3) := by decide +kernel
theorem dX0_apart_81 : decode cX0_apart 81 = .ok (.iload_n 2, 1) := by decide +kernel
theorem dX0_apart_82 : decode cX0_apart 82 = .ok (.iaload, 1) := by decide +kernel
theorem dX0_apart_83 : decode cX0_apart 83 = .ok (.iconst 1, 1) := by decide +kernel
theorem dX0_apart_84 : decode cX0_apart 84 = .ok (.isub, 1) := by decide +kernel
theorem dX0_apart_85 : decode cX0_apart 85 = .ok (.invokestatic 62, 3) := by decide +kernel
theorem dX0_apart_88 : decode cX0_apart 88 = .ok (.isub, 1) := by decide +kernel
theorem dX0_apart_89 : decode cX0_apart 89 = .ok (.ireturn, 1) := by decide +kernel
end
section
set_option maxRecDepth 100000
abbrev cX0_apartUpTo : ByteArray := prog_1_method_29_code
def yX0_apartUpTo : MethodName := ⟨RX0, "apartUpTo", "(II)I"⟩
theorem dX0_apartUpTo_0 : decode cX0_apartUpTo 0 = .ok (.iload_n 0, 1) := by decide +kernel
theorem dX0_apartUpTo_1 : decode cX0_apartUpTo 1 = .ok (.ifCond .lt 7, 3) := by decide +kernel
theorem dX0_apartUpTo_4 : decode cX0_apartUpTo 4 = .ok (.iload_n 1, 1) := by decide +kernel
theorem dX0_apartUpTo_5 : decode cX0_apartUpTo 5 = .ok (.ifCond .ge 5, 3) := by decide +kernel
theorem dX0_apartUpTo_8 : decode cX0_apartUpTo 8 = .ok (.iconst 0, 1) := by decide +kernel
theorem dX0_apartUpTo_9 : decode cX0_apartUpTo 9 = .ok (.ireturn, 1) := by decide +kernel
theorem dX0_apartUpTo_10 : decode cX0_apartUpTo 10 = .ok (.iconst 1, 1) := by decide +kernel
theorem dX0_apartUpTo_11 : decode cX0_apartUpTo 11 = .ok (.istore_n 2, 1) := by decide +kernel
theorem dX0_apartUpTo_12 : decode cX0_apartUpTo 12 = .ok (.iconst 0, 1) := by decide +kernel
theorem dX0_apartUpTo_13 : decode cX0_apartUpTo 13 = .ok (.istore_n 3, 1) := by decide +kernel
theorem dX0_apartUpTo_14 : decode cX0_apartUpTo 14 = .ok (.iconst 0, 1) := by decide +kernel
theorem dX0_apartUpTo_15 : decode cX0_apartUpTo 15 = .ok (.istore 4, 2) := by decide +kernel
theorem dX0_apartUpTo_17 : decode cX0_apartUpTo 17 = .ok (.iconst 0, 1) := by decide +kernel
theorem dX0_apartUpTo_18 : decode cX0_apartUpTo 18 = .ok (.istore 5, 2) := by decide +kernel
theorem dX0_apartUpTo_20 : decode cX0_apartUpTo 20 = .ok (.bipush 6, 2) := by decide +kernel
theorem dX0_apartUpTo_22 : decode cX0_apartUpTo 22 = .ok (.istore 6, 2) := by decide +kernel
theorem dX0_apartUpTo_24 : decode cX0_apartUpTo 24 = .ok (.iload 6, 2) := by decide +kernel
theorem dX0_apartUpTo_26 : decode cX0_apartUpTo 26 = .ok (.ifCond .lt 110, 3) := by decide +kernel
theorem dX0_apartUpTo_29 : decode cX0_apartUpTo 29 = .ok (.iload_n 0, 1) := by decide +kernel
theorem dX0_apartUpTo_30 : decode cX0_apartUpTo 30 = .ok (.iload 6, 2) := by decide +kernel
theorem dX0_apartUpTo_32 : decode cX0_apartUpTo 32 = .ok (.iushr, 1) := by decide +kernel
theorem dX0_apartUpTo_33 : decode cX0_apartUpTo 33 = .ok (.iconst 1, 1) := by decide +kernel
theorem dX0_apartUpTo_34 : decode cX0_apartUpTo 34 = .ok (.iand, 1) := by decide +kernel
theorem dX0_apartUpTo_35 : decode cX0_apartUpTo 35 = .ok (.istore 7, 2) := by decide +kernel
theorem dX0_apartUpTo_37 : decode cX0_apartUpTo 37 = .ok (.iload_n 1, 1) := by decide +kernel
theorem dX0_apartUpTo_38 : decode cX0_apartUpTo 38 = .ok (.iload 6, 2) := by decide +kernel
theorem dX0_apartUpTo_40 : decode cX0_apartUpTo 40 = .ok (.iushr, 1) := by decide +kernel
theorem dX0_apartUpTo_41 : decode cX0_apartUpTo 41 = .ok (.iconst 1, 1) := by decide +kernel
theorem dX0_apartUpTo_42 : decode cX0_apartUpTo 42 = .ok (.iand, 1) := by decide +kernel
theorem dX0_apartUpTo_43 : decode cX0_apartUpTo 43 = .ok (.istore 8, 2) := by decide +kernel
theorem dX0_apartUpTo_45 : decode cX0_apartUpTo 45 = .ok (.iconst 3, 1) := by decide +kernel
theorem dX0_apartUpTo_46 : decode cX0_apartUpTo 46 = .ok (.iload 5, 2) := by decide +kernel
theorem dX0_apartUpTo_48 : decode cX0_apartUpTo 48 = .ok (.imul, 1) := by decide +kernel
theorem dX0_apartUpTo_49 : decode cX0_apartUpTo 49 = .ok (.iconst 2, 1) := by decide +kernel
theorem dX0_apartUpTo_50 : decode cX0_apartUpTo 50 = .ok (.iload 7, 2) := by decide +kernel
theorem dX0_apartUpTo_52 : decode cX0_apartUpTo 52 = .ok (.imul, 1) := by decide +kernel
theorem dX0_apartUpTo_53 : decode cX0_apartUpTo 53 = .ok (.iload_n 3, 1) := by decide +kernel
theorem dX0_apartUpTo_54 : decode cX0_apartUpTo 54 = .ok (.imul, 1) := by decide +kernel
theorem dX0_apartUpTo_55 : decode cX0_apartUpTo 55 = .ok (.iadd, 1) := by decide +kernel
theorem dX0_apartUpTo_56 : decode cX0_apartUpTo 56 = .ok (.iconst 2, 1) := by decide +kernel
theorem dX0_apartUpTo_57 : decode cX0_apartUpTo 57 = .ok (.iload 8, 2) := by decide +kernel
theorem dX0_apartUpTo_59 : decode cX0_apartUpTo 59 = .ok (.imul, 1) := by decide +kernel
theorem dX0_apartUpTo_60 : decode cX0_apartUpTo 60 = .ok (.iload 4, 2) := by decide +kernel
theorem dX0_apartUpTo_62 : decode cX0_apartUpTo 62 = .ok (.imul, 1) := by decide +kernel
theorem dX0_apartUpTo_63 : decode cX0_apartUpTo 63 = .ok (.iadd, 1) := by decide +kernel
theorem dX0_apartUpTo_64 : decode cX0_apartUpTo 64 = .ok (.iload 7, 2) := by decide +kernel
theorem dX0_apartUpTo_66 : decode cX0_apartUpTo 66 = .ok (.iload 8, 2) := by decide +kernel
theorem dX0_apartUpTo_68 : decode cX0_apartUpTo 68 = .ok (.imul, 1) := by decide +kernel
theorem dX0_apartUpTo_69 : decode cX0_apartUpTo 69 = .ok (.iload_n 2, 1) := by decide +kernel
theorem dX0_apartUpTo_70 : decode cX0_apartUpTo 70 = .ok (.imul, 1) := by decide +kernel
theorem dX0_apartUpTo_71 : decode cX0_apartUpTo 71 = .ok (.iadd, 1) := by decide +kernel
theorem dX0_apartUpTo_72 : decode cX0_apartUpTo 72 = .ok (.istore 5, 2) := by decide +kernel
theorem dX0_apartUpTo_74 : decode cX0_apartUpTo 74 = .ok (.iload 7, 2) := by decide +kernel
theorem dX0_apartUpTo_76 : decode cX0_apartUpTo 76 = .ok (.iconst 1, 1) := by decide +kernel
theorem dX0_apartUpTo_77 : decode cX0_apartUpTo 77 = .ok (.if_icmp .ne 7, 3) := by decide +kernel
theorem dX0_apartUpTo_80 : decode cX0_apartUpTo 80 = .ok (.iload_n 3, 1) := by decide +kernel
theorem dX0_apartUpTo_81 : decode cX0_apartUpTo 81 = .ok (.goto 6, 3) := by decide +kernel
theorem dX0_apartUpTo_84 : decode cX0_apartUpTo 84 = .ok (.iconst 2, 1) := by decide +kernel
theorem dX0_apartUpTo_85 : decode cX0_apartUpTo 85 = .ok (.iload_n 3, 1) := by decide +kernel
theorem dX0_apartUpTo_86 : decode cX0_apartUpTo 86 = .ok (.imul, 1) := by decide +kernel
theorem dX0_apartUpTo_87 : decode cX0_apartUpTo 87 = .ok (.iload 8, 2) := by decide +kernel
theorem dX0_apartUpTo_89 : decode cX0_apartUpTo 89 = .ok (.iload_n 2, 1) := by decide +kernel
theorem dX0_apartUpTo_90 : decode cX0_apartUpTo 90 = .ok (.imul, 1) := by decide +kernel
theorem dX0_apartUpTo_91 : decode cX0_apartUpTo 91 = .ok (.iadd, 1) := by decide +kernel
theorem dX0_apartUpTo_92 : decode cX0_apartUpTo 92 = .ok (.istore_n 3, 1) := by decide +kernel
theorem dX0_apartUpTo_93 : decode cX0_apartUpTo 93 = .ok (.iload 8, 2) := by decide +kernel
theorem dX0_apartUpTo_95 : decode cX0_apartUpTo 95 = .ok (.iconst 1, 1) := by decide +kernel
theorem dX0_apartUpTo_96 : decode cX0_apartUpTo 96 = .ok (.if_icmp .ne 8, 3) := by decide +kernel
theorem dX0_apartUpTo_99 : decode cX0_apartUpTo 99 = .ok (.iload 4, 2) := by decide +kernel
theorem dX0_apartUpTo_101 : decode cX0_apartUpTo 101 = .ok (.goto 7, 3) := by decide +kernel
theorem dX0_apartUpTo_104 : decode cX0_apartUpTo 104 = .ok (.iconst 2, 1) := by decide +kernel
theorem dX0_apartUpTo_105 : decode cX0_apartUpTo 105 = .ok (.iload 4, 2) := by decide +kernel
theorem dX0_apartUpTo_107 : decode cX0_apartUpTo 107 = .ok (.imul, 1) := by decide +kernel
theorem dX0_apartUpTo_108 : decode cX0_apartUpTo 108 = .ok (.iload 7, 2) := by decide +kernel
theorem dX0_apartUpTo_110 : decode cX0_apartUpTo 110 = .ok (.iload_n 2, 1) := by decide +kernel
theorem dX0_apartUpTo_111 : decode cX0_apartUpTo 111 = .ok (.imul, 1) := by decide +kernel
theorem dX0_apartUpTo_112 : decode cX0_apartUpTo 112 = .ok (.iadd, 1) := by decide +kernel
theorem dX0_apartUpTo_113 : decode cX0_apartUpTo 113 = .ok (.istore 4, 2) := by decide +kernel
theorem dX0_apartUpTo_115 : decode cX0_apartUpTo 115 = .ok (.iload 7, 2) := by decide +kernel
theorem dX0_apartUpTo_117 : decode cX0_apartUpTo 117 = .ok (.iload 8, 2) := by decide +kernel
theorem dX0_apartUpTo_119 : decode cX0_apartUpTo 119 = .ok (.imul, 1) := by decide +kernel
theorem dX0_apartUpTo_120 : decode cX0_apartUpTo 120 = .ok (.iconst 1, 1) := by decide +kernel
theorem dX0_apartUpTo_121 : decode cX0_apartUpTo 121 = .ok (.if_icmp .ne 7, 3) := by decide +kernel
theorem dX0_apartUpTo_124 : decode cX0_apartUpTo 124 = .ok (.iconst 0, 1) := by decide +kernel
theorem dX0_apartUpTo_125 : decode cX0_apartUpTo 125 = .ok (.goto 4, 3) := by decide +kernel
theorem dX0_apartUpTo_128 : decode cX0_apartUpTo 128 = .ok (.iload_n 2, 1) := by decide +kernel
theorem dX0_apartUpTo_129 : decode cX0_apartUpTo 129 = .ok (.istore_n 2, 1) := by decide +kernel
theorem dX0_apartUpTo_130 : decode cX0_apartUpTo 130 = .ok (.iinc 6 (-1), 3) := by decide +kernel
theorem dX0_apartUpTo_133 : decode cX0_apartUpTo 133 = .ok (.goto (-109), 3) := by decide +kernel
theorem dX0_apartUpTo_136 : decode cX0_apartUpTo 136 = .ok (.iload_n 2, 1) := by decide +kernel
theorem dX0_apartUpTo_137 : decode cX0_apartUpTo 137 = .ok (.iload_n 3, 1) := by decide +kernel
theorem dX0_apartUpTo_138 : decode cX0_apartUpTo 138 = .ok (.iadd, 1) := by decide +kernel
theorem dX0_apartUpTo_139 : decode cX0_apartUpTo 139 = .ok (.iload 4, 2) := by decide +kernel
theorem dX0_apartUpTo_141 : decode cX0_apartUpTo 141 = .ok (.iadd, 1) := by decide +kernel
theorem dX0_apartUpTo_142 : decode cX0_apartUpTo 142 = .ok (.iload 5, 2) := by decide +kernel
theorem dX0_apartUpTo_144 : decode cX0_apartUpTo 144 = .ok (.iadd, 1) := by decide +kernel
theorem dX0_apartUpTo_145 : decode cX0_apartUpTo 145 = .ok (.ireturn, 1) := by decide +kernel
theorem q12 : (Jvm.Cond.initialized "TightRange") ∈ lw_all := lw_g (lw_at lw_m0 1 rfl) rfl
theorem q15 : (Jvm.Cond.instantiable "TightRange" (4 : Nat)) ∈ lw_all := lw_g (lw_at lw_m0 4 rfl) rfl
theorem q17 : (Jvm.Cond.instanceMethod ({ cls := "TightRange", name := "<init>", desc := "()V" } : Jvm.MethodName)) ∈ lw_all := lw_g (lw_at lw_m0 6 rfl) rfl
theorem q18 : (Jvm.Cond.code ({ cls := "TightRange", name := "<init>", desc := "()V" } : Jvm.MethodName) prog_1_method_1_code (2 : Nat) (Option.none : Option Jvm.ClassFile.FieldType)) ∈ lw_all := lw_g (lw_at lw_m0 7 rfl) rfl
theorem q19 : (Jvm.Cond.methodLink "TightRange" (1 : Nat) ({ cls := "java/lang/Object", name := "<init>", desc := "()V" } : Jvm.MethodName)) ∈ lw_all := lw_g (lw_at lw_m0 8 rfl) rfl
theorem q22 : (Jvm.Cond.fieldLink "TightRange" (7 : Nat) "TightRange" "low" "[I") ∈ lw_all := lw_g (lw_at lw_m0 11 rfl) rfl
theorem q23 : (Jvm.Cond.fieldLink "TightRange" (13 : Nat) "TightRange" "high" "[I") ∈ lw_all := lw_g (lw_at lw_m0 12 rfl) rfl
theorem q24 : (Jvm.Cond.fieldLink "TightRange" (38 : Nat) "TightRange" "newLow" "I") ∈ lw_all := lw_g (lw_at lw_m0 13 rfl) rfl
theorem q25 : (Jvm.Cond.fieldLink "TightRange" (42 : Nat) "TightRange" "newHigh" "I") ∈ lw_all := lw_g (lw_at lw_m0 14 rfl) rfl
theorem q26 : (Jvm.Cond.laysFinal "TightRange" "TightRange" "low" "[I") ∈ lw_all := lw_g (lw_at lw_m0 15 rfl) rfl
theorem q27 : (Jvm.Cond.soleField "TightRange" "low") ∈ lw_all := lw_g (lw_at lw_m0 16 rfl) rfl
theorem q28 : (Jvm.Cond.laysFinal "TightRange" "TightRange" "high" "[I") ∈ lw_all := lw_g (lw_at lw_m0 17 rfl) rfl
theorem q29 : (Jvm.Cond.soleField "TightRange" "high") ∈ lw_all := lw_g (lw_at lw_m0 18 rfl) rfl
theorem q30 : (Jvm.Cond.lays "TightRange" "TightRange" "newLow" "I") ∈ lw_all := lw_g (lw_at lw_m0 19 rfl) rfl
theorem q31 : (Jvm.Cond.soleField "TightRange" "newLow") ∈ lw_all := lw_g (lw_at lw_m0 20 rfl) rfl
theorem q32 : (Jvm.Cond.lays "TightRange" "TightRange" "newHigh" "I") ∈ lw_all := lw_g (lw_at lw_m0 21 rfl) rfl
theorem q33 : (Jvm.Cond.soleField "TightRange" "newHigh") ∈ lw_all := lw_g (lw_at lw_m0 22 rfl) rfl
theorem q34 : (Jvm.Cond.superclass "TightRange" "java/lang/Object") ∈ lw_all := lw_g (lw_at lw_m0 23 rfl) rfl
theorem q37 : (Jvm.Cond.instanceMethod ({ cls := "TightRange", name := "set", desc := "(III)I" } : Jvm.MethodName)) ∈ lw_all := lw_g (lw_at lw_m0 26 rfl) rfl
theorem q38 : (Jvm.Cond.selects "TightRange" ({ cls := "TightRange", name := "set", desc := "(III)I" } : Jvm.MethodName) ({ cls := "TightRange", name := "set", desc := "(III)I" } : Jvm.MethodName)) ∈ lw_all := lw_g (lw_at lw_m0 27 rfl) rfl
theorem q39 : (Jvm.Cond.code ({ cls := "TightRange", name := "set", desc := "(III)I" } : Jvm.MethodName) prog_1_method_2_code (4 : Nat) (Option.some Jvm.ClassFile.FieldType.int)) ∈ lw_all := lw_g (lw_at lw_m0 28 rfl) rfl
theorem q40 : (Jvm.Cond.methodLink "TightRange" (16 : Nat) ({ cls := "TightRange", name := "isRegister", desc := "(I)Z" } : Jvm.MethodName)) ∈ lw_all := lw_g (lw_at lw_m0 29 rfl) rfl
theorem q41 : (Jvm.Cond.static ({ cls := "TightRange", name := "isRegister", desc := "(I)Z" } : Jvm.MethodName)) ∈ lw_all := lw_g (lw_at lw_m0 30 rfl) rfl
theorem q42 : (Jvm.Cond.code ({ cls := "TightRange", name := "isRegister", desc := "(I)Z" } : Jvm.MethodName) prog_1_method_9_code (1 : Nat) (Option.some Jvm.ClassFile.FieldType.boolean)) ∈ lw_all := lw_g (lw_at lw_m0 31 rfl) rfl
theorem q44 : (Jvm.Cond.instanceMethod ({ cls := "TightRange", name := "combine", desc := "(IIII)I" } : Jvm.MethodName)) ∈ lw_all := lw_g (lw_at lw_m0 33 rfl) rfl
theorem q45 : (Jvm.Cond.selects "TightRange" ({ cls := "TightRange", name := "combine", desc := "(IIII)I" } : Jvm.MethodName) ({ cls := "TightRange", name := "combine", desc := "(IIII)I" } : Jvm.MethodName)) ∈ lw_all := lw_g (lw_at lw_m0 34 rfl) rfl
theorem q46 : (Jvm.Cond.code ({ cls := "TightRange", name := "combine", desc := "(IIII)I" } : Jvm.MethodName) prog_1_method_3_code (5 : Nat) (Option.some Jvm.ClassFile.FieldType.int)) ∈ lw_all := lw_g (lw_at lw_m0 35 rfl) rfl
theorem q47 : (Jvm.Cond.methodLink "TightRange" (20 : Nat) ({ cls := "TightRange", name := "addOrSubtract", desc := "(III)V" } : Jvm.MethodName)) ∈ lw_all := lw_g (lw_at lw_m0 36 rfl) rfl
theorem q48 : (Jvm.Cond.privateMethod ({ cls := "TightRange", name := "addOrSubtract", desc := "(III)V" } : Jvm.MethodName)) ∈ lw_tbl := lw_at lw_m0 37 rfl
theorem q49 : (Jvm.Cond.instanceMethod ({ cls := "TightRange", name := "addOrSubtract", desc := "(III)V" } : Jvm.MethodName)) ∈ lw_all := lw_g (lw_at lw_m0 38 rfl) rfl
theorem q50 : (Jvm.Cond.code ({ cls := "TightRange", name := "addOrSubtract", desc := "(III)V" } : Jvm.MethodName) prog_1_method_13_code (6 : Nat) (Option.none : Option Jvm.ClassFile.FieldType)) ∈ lw_all := lw_g (lw_at lw_m0 39 rfl) rfl
theorem q51 : (Jvm.Cond.methodLink "TightRange" (45 : Nat) ({ cls := "TightRange", name := "keep", desc := "(II)V" } : Jvm.MethodName)) ∈ lw_all := lw_g (lw_at lw_m0 40 rfl) rfl
theorem q52 : (Jvm.Cond.privateMethod ({ cls := "TightRange", name := "keep", desc := "(II)V" } : Jvm.MethodName)) ∈ lw_tbl := lw_at lw_m0 41 rfl
theorem q53 : (Jvm.Cond.instanceMethod ({ cls := "TightRange", name := "keep", desc := "(II)V" } : Jvm.MethodName)) ∈ lw_all := lw_g (lw_at lw_m0 42 rfl) rfl
theorem q54 : (Jvm.Cond.code ({ cls := "TightRange", name := "keep", desc := "(II)V" } : Jvm.MethodName) prog_1_method_10_code (3 : Nat) (Option.none : Option Jvm.ClassFile.FieldType)) ∈ lw_all := lw_g (lw_at lw_m0 43 rfl) rfl
theorem q55 : (Jvm.Cond.methodLink "TightRange" (24 : Nat) ({ cls := "TightRange", name := "bitwise", desc := "(IIIII)V" } : Jvm.MethodName)) ∈ lw_all := lw_g (lw_at lw_m0 44 rfl) rfl
theorem q56 : (Jvm.Cond.privateMethod ({ cls := "TightRange", name := "bitwise", desc := "(IIIII)V" } : Jvm.MethodName)) ∈ lw_tbl := lw_at lw_m0 45 rfl
theorem q57 : (Jvm.Cond.instanceMethod ({ cls := "TightRange", name := "bitwise", desc := "(IIIII)V" } : Jvm.MethodName)) ∈ lw_all := lw_g (lw_at lw_m0 46 rfl) rfl
theorem q58 : (Jvm.Cond.code ({ cls := "TightRange", name := "bitwise", desc := "(IIIII)V" } : Jvm.MethodName) prog_1_method_19_code (8 : Nat) (Option.none : Option Jvm.ClassFile.FieldType)) ∈ lw_all := lw_g (lw_at lw_m0 47 rfl) rfl
theorem q59 : (Jvm.Cond.methodLink "TightRange" (72 : Nat) ({ cls := "TightRange", name := "leastOr", desc := "(IIII)I" } : Jvm.MethodName)) ∈ lw_all := lw_g (lw_at lw_m0 48 rfl) rfl
theorem q60 : (Jvm.Cond.static ({ cls := "TightRange", name := "leastOr", desc := "(IIII)I" } : Jvm.MethodName)) ∈ lw_all := lw_g (lw_at lw_m0 49 rfl) rfl
theorem q61 : (Jvm.Cond.code ({ cls := "TightRange", name := "leastOr", desc := "(IIII)I" } : Jvm.MethodName) prog_1_method_22_code (6 : Nat) (Option.some Jvm.ClassFile.FieldType.int)) ∈ lw_all := lw_g (lw_at lw_m0 50 rfl) rfl
theorem q62 : (Jvm.Cond.methodLink "TightRange" (85 : Nat) ({ cls := "TightRange", name := "raised", desc := "(II)I" } : Jvm.MethodName)) ∈ lw_all := lw_g (lw_at lw_m0 51 rfl) rfl
theorem q63 : (Jvm.Cond.static ({ cls := "TightRange", name := "raised", desc := "(II)I" } : Jvm.MethodName)) ∈ lw_all := lw_g (lw_at lw_m0 52 rfl) rfl
theorem q64 : (Jvm.Cond.code ({ cls := "TightRange", name := "raised", desc := "(II)I" } : Jvm.MethodName) prog_1_method_20_code (2 : Nat) (Option.some Jvm.ClassFile.FieldType.int)) ∈ lw_all := lw_g (lw_at lw_m0 53 rfl) rfl
theorem q65 : (Jvm.Cond.methodLink "TightRange" (76 : Nat) ({ cls := "TightRange", name := "greatestOr", desc := "(IIII)I" } : Jvm.MethodName)) ∈ lw_all := lw_g (lw_at lw_m0 54 rfl) rfl
theorem q66 : (Jvm.Cond.static ({ cls := "TightRange", name := "greatestOr", desc := "(IIII)I" } : Jvm.MethodName)) ∈ lw_all := lw_g (lw_at lw_m0 55 rfl) rfl
theorem q67 : (Jvm.Cond.code ({ cls := "TightRange", name := "greatestOr", desc := "(IIII)I" } : Jvm.MethodName) prog_1_method_23_code (7 : Nat) (Option.some Jvm.ClassFile.FieldType.int)) ∈ lw_all := lw_g (lw_at lw_m0 56 rfl) rfl
theorem q68 : (Jvm.Cond.methodLink "TightRange" (88 : Nat) ({ cls := "TightRange", name := "lowered", desc := "(II)I" } : Jvm.MethodName)) ∈ lw_all := lw_g (lw_at lw_m0 57 rfl) rfl
theorem q69 : (Jvm.Cond.static ({ cls := "TightRange", name := "lowered", desc := "(II)I" } : Jvm.MethodName)) ∈ lw_all := lw_g (lw_at lw_m0 58 rfl) rfl
theorem q70 : (Jvm.Cond.code ({ cls := "TightRange", name := "lowered", desc := "(II)I" } : Jvm.MethodName) prog_1_method_21_code (2 : Nat) (Option.some Jvm.ClassFile.FieldType.int)) ∈ lw_all := lw_g (lw_at lw_m0 59 rfl) rfl
theorem q71 : (Jvm.Cond.methodLink "TightRange" (79 : Nat) ({ cls := "TightRange", name := "leastXor", desc := "(IIII)I" } : Jvm.MethodName)) ∈ lw_all := lw_g (lw_at lw_m0 60 rfl) rfl
theorem q72 : (Jvm.Cond.static ({ cls := "TightRange", name := "leastXor", desc := "(IIII)I" } : Jvm.MethodName)) ∈ lw_all := lw_g (lw_at lw_m0 61 rfl) rfl
theorem q73 : (Jvm.Cond.code ({ cls := "TightRange", name := "leastXor", desc := "(IIII)I" } : Jvm.MethodName) prog_1_method_24_code (8 : Nat) (Option.some Jvm.ClassFile.FieldType.int)) ∈ lw_all := lw_g (lw_at lw_m0 62 rfl) rfl
theorem q74 : (Jvm.Cond.methodLink "TightRange" (82 : Nat) ({ cls := "TightRange", name := "greatestXor", desc := "(IIII)I" } : Jvm.MethodName)) ∈ lw_all := lw_g (lw_at lw_m0 63 rfl) rfl
theorem q75 : (Jvm.Cond.static ({ cls := "TightRange", name := "greatestXor", desc := "(IIII)I" } : Jvm.MethodName)) ∈ lw_all := lw_g (lw_at lw_m0 64 rfl) rfl
theorem q76 : (Jvm.Cond.code ({ cls := "TightRange", name := "greatestXor", desc := "(IIII)I" } : Jvm.MethodName) prog_1_method_25_code (9 : Nat) (Option.some Jvm.ClassFile.FieldType.int)) ∈ lw_all := lw_g (lw_at lw_m0 65 rfl) rfl
theorem q77 : (Jvm.Cond.methodLink "TightRange" (28 : Nat) ({ cls := "TightRange", name := "multiplyOrDivide", desc := "(III)V" } : Jvm.MethodName)) ∈ lw_all := lw_g (lw_at lw_m0 66 rfl) rfl
theorem q78 : (Jvm.Cond.privateMethod ({ cls := "TightRange", name := "multiplyOrDivide", desc := "(III)V" } : Jvm.MethodName)) ∈ lw_tbl := lw_at lw_m0 67 rfl
theorem q79 : (Jvm.Cond.instanceMethod ({ cls := "TightRange", name := "multiplyOrDivide", desc := "(III)V" } : Jvm.MethodName)) ∈ lw_all := lw_g (lw_at lw_m0 68 rfl) rfl
theorem q80 : (Jvm.Cond.code ({ cls := "TightRange", name := "multiplyOrDivide", desc := "(III)V" } : Jvm.MethodName) prog_1_method_14_code (6 : Nat) (Option.none : Option Jvm.ClassFile.FieldType)) ∈ lw_all := lw_g (lw_at lw_m0 69 rfl) rfl
theorem q81 : (Jvm.Cond.methodLink "TightRange" (31 : Nat) ({ cls := "TightRange", name := "distance", desc := "(II)V" } : Jvm.MethodName)) ∈ lw_all := lw_g (lw_at lw_m0 70 rfl) rfl
theorem q82 : (Jvm.Cond.privateMethod ({ cls := "TightRange", name := "distance", desc := "(II)V" } : Jvm.MethodName)) ∈ lw_tbl := lw_at lw_m0 71 rfl
theorem q83 : (Jvm.Cond.instanceMethod ({ cls := "TightRange", name := "distance", desc := "(II)V" } : Jvm.MethodName)) ∈ lw_all := lw_g (lw_at lw_m0 72 rfl) rfl
theorem q84 : (Jvm.Cond.code ({ cls := "TightRange", name := "distance", desc := "(II)V" } : Jvm.MethodName) prog_1_method_15_code (5 : Nat) (Option.none : Option Jvm.ClassFile.FieldType)) ∈ lw_all := lw_g (lw_at lw_m0 73 rfl) rfl
theorem q85 : (Jvm.Cond.methodLink "TightRange" (66 : Nat) ({ cls := "TightRange", name := "greater", desc := "(II)I" } : Jvm.MethodName)) ∈ lw_all := lw_g (lw_at lw_m0 74 rfl) rfl
theorem q86 : (Jvm.Cond.static ({ cls := "TightRange", name := "greater", desc := "(II)I" } : Jvm.MethodName)) ∈ lw_all := lw_g (lw_at lw_m0 75 rfl) rfl
theorem q87 : (Jvm.Cond.code ({ cls := "TightRange", name := "greater", desc := "(II)I" } : Jvm.MethodName) prog_1_method_12_code (2 : Nat) (Option.some Jvm.ClassFile.FieldType.int)) ∈ lw_all := lw_g (lw_at lw_m0 76 rfl) rfl
theorem q88 : (Jvm.Cond.methodLink "TightRange" (35 : Nat) ({ cls := "TightRange", name := "compareEnds", desc := "(III)V" } : Jvm.MethodName)) ∈ lw_all := lw_g (lw_at lw_m0 77 rfl) rfl
theorem q89 : (Jvm.Cond.privateMethod ({ cls := "TightRange", name := "compareEnds", desc := "(III)V" } : Jvm.MethodName)) ∈ lw_tbl := lw_at lw_m0 78 rfl
theorem q90 : (Jvm.Cond.instanceMethod ({ cls := "TightRange", name := "compareEnds", desc := "(III)V" } : Jvm.MethodName)) ∈ lw_all := lw_g (lw_at lw_m0 79 rfl) rfl
theorem q91 : (Jvm.Cond.code ({ cls := "TightRange", name := "compareEnds", desc := "(III)V" } : Jvm.MethodName) prog_1_method_16_code (4 : Nat) (Option.none : Option Jvm.ClassFile.FieldType)) ∈ lw_all := lw_g (lw_at lw_m0 80 rfl) rfl
theorem q92 : (Jvm.Cond.methodLink "TightRange" (69 : Nat) ({ cls := "TightRange", name := "lesser", desc := "(II)I" } : Jvm.MethodName)) ∈ lw_all := lw_g (lw_at lw_m0 81 rfl) rfl
theorem q93 : (Jvm.Cond.static ({ cls := "TightRange", name := "lesser", desc := "(II)I" } : Jvm.MethodName)) ∈ lw_all := lw_g (lw_at lw_m0 82 rfl) rfl
theorem q94 : (Jvm.Cond.code ({ cls := "TightRange", name := "lesser", desc := "(II)I" } : Jvm.MethodName) prog_1_method_11_code (2 : Nat) (Option.some Jvm.ClassFile.FieldType.int)) ∈ lw_all := lw_g (lw_at lw_m0 83 rfl) rfl
theorem q96 : (Jvm.Cond.instanceMethod ({ cls := "TightRange", name := "apply", desc := "(III)I" } : Jvm.MethodName)) ∈ lw_all := lw_g (lw_at lw_m0 85 rfl) rfl
theorem q97 : (Jvm.Cond.selects "TightRange" ({ cls := "TightRange", name := "apply", desc := "(III)I" } : Jvm.MethodName) ({ cls := "TightRange", name := "apply", desc := "(III)I" } : Jvm.MethodName)) ∈ lw_all := lw_g (lw_at lw_m0 86 rfl) rfl
theorem q98 : (Jvm.Cond.code ({ cls := "TightRange", name := "apply", desc := "(III)I" } : Jvm.MethodName) prog_1_method_4_code (8 : Nat) (Option.some Jvm.ClassFile.FieldType.int)) ∈ lw_all := lw_g (lw_at lw_m0 87 rfl) rfl
theorem q99 : (Jvm.Cond.methodLink "TightRange" (48 : Nat) ({ cls := "TightRange", name := "countOnes", desc := "(II)V" } : Jvm.MethodName)) ∈ lw_all := lw_g (lw_at lw_m0 88 rfl) rfl
theorem q100 : (Jvm.Cond.privateMethod ({ cls := "TightRange", name := "countOnes", desc := "(II)V" } : Jvm.MethodName)) ∈ lw_tbl := lw_at lw_m0 89 rfl
theorem q101 : (Jvm.Cond.instanceMethod ({ cls := "TightRange", name := "countOnes", desc := "(II)V" } : Jvm.MethodName)) ∈ lw_all := lw_g (lw_at lw_m0 90 rfl) rfl
theorem q102 : (Jvm.Cond.code ({ cls := "TightRange", name := "countOnes", desc := "(II)V" } : Jvm.MethodName) prog_1_method_27_code (9 : Nat) (Option.none : Option Jvm.ClassFile.FieldType)) ∈ lw_all := lw_g (lw_at lw_m0 91 rfl) rfl
theorem q103 : (Jvm.Cond.methodLink "TightRange" (91 : Nat) ({ cls := "TightRange", name := "ones", desc := "(I)I" } : Jvm.MethodName)) ∈ lw_all := lw_g (lw_at lw_m0 92 rfl) rfl
theorem q104 : (Jvm.Cond.static ({ cls := "TightRange", name := "ones", desc := "(I)I" } : Jvm.MethodName)) ∈ lw_all := lw_g (lw_at lw_m0 93 rfl) rfl
theorem q105 : (Jvm.Cond.code ({ cls := "TightRange", name := "ones", desc := "(I)I" } : Jvm.MethodName) prog_1_method_26_code (3 : Nat) (Option.some Jvm.ClassFile.FieldType.int)) ∈ lw_all := lw_g (lw_at lw_m0 94 rfl) rfl
theorem q106 : (Jvm.Cond.methodLink "TightRange" (51 : Nat) ({ cls := "TightRange", name := "reversed", desc := "(III)I" } : Jvm.MethodName)) ∈ lw_all := lw_g (lw_at lw_m0 95 rfl) rfl
theorem q107 : (Jvm.Cond.static ({ cls := "TightRange", name := "reversed", desc := "(III)I" } : Jvm.MethodName)) ∈ lw_all := lw_g (lw_at lw_m0 96 rfl) rfl
theorem q108 : (Jvm.Cond.code ({ cls := "TightRange", name := "reversed", desc := "(III)I" } : Jvm.MethodName) prog_1_method_28_code (10 : Nat) (Option.some Jvm.ClassFile.FieldType.int)) ∈ lw_all := lw_g (lw_at lw_m0 97 rfl) rfl
theorem q109 : (Jvm.Cond.methodLink "TightRange" (55 : Nat) ({ cls := "TightRange", name := "rootOf", desc := "(I)I" } : Jvm.MethodName)) ∈ lw_all := lw_g (lw_at lw_m0 98 rfl) rfl
theorem q110 : (Jvm.Cond.static ({ cls := "TightRange", name := "rootOf", desc := "(I)I" } : Jvm.MethodName)) ∈ lw_all := lw_g (lw_at lw_m0 99 rfl) rfl
theorem q111 : (Jvm.Cond.code ({ cls := "TightRange", name := "rootOf", desc := "(I)I" } : Jvm.MethodName) prog_1_method_17_code (3 : Nat) (Option.some Jvm.ClassFile.FieldType.int)) ∈ lw_all := lw_g (lw_at lw_m0 100 rfl) rfl
theorem q112 : (Jvm.Cond.methodLink "TightRange" (59 : Nat) ({ cls := "TightRange", name := "doubled", desc := "(II)V" } : Jvm.MethodName)) ∈ lw_all := lw_g (lw_at lw_m0 101 rfl) rfl
theorem q113 : (Jvm.Cond.privateMethod ({ cls := "TightRange", name := "doubled", desc := "(II)V" } : Jvm.MethodName)) ∈ lw_tbl := lw_at lw_m0 102 rfl
theorem q114 : (Jvm.Cond.instanceMethod ({ cls := "TightRange", name := "doubled", desc := "(II)V" } : Jvm.MethodName)) ∈ lw_all := lw_g (lw_at lw_m0 103 rfl) rfl
theorem q115 : (Jvm.Cond.code ({ cls := "TightRange", name := "doubled", desc := "(II)V" } : Jvm.MethodName) prog_1_method_18_code (3 : Nat) (Option.none : Option Jvm.ClassFile.FieldType)) ∈ lw_all := lw_g (lw_at lw_m0 104 rfl) rfl
theorem q117 : (Jvm.Cond.instanceMethod ({ cls := "TightRange", name := "low", desc := "(I)I" } : Jvm.MethodName)) ∈ lw_all := lw_g (lw_at lw_m0 106 rfl) rfl
theorem q118 : (Jvm.Cond.selects "TightRange" ({ cls := "TightRange", name := "low", desc := "(I)I" } : Jvm.MethodName) ({ cls := "TightRange", name := "low", desc := "(I)I" } : Jvm.MethodName)) ∈ lw_all := lw_g (lw_at lw_m0 107 rfl) rfl
theorem q119 : (Jvm.Cond.code ({ cls := "TightRange", name := "low", desc := "(I)I" } : Jvm.MethodName) prog_1_method_5_code (2 : Nat) (Option.some Jvm.ClassFile.FieldType.int)) ∈ lw_all := lw_g (lw_at lw_m0 108 rfl) rfl
theorem q121 : (Jvm.Cond.instanceMethod ({ cls := "TightRange", name := "high", desc := "(I)I" } : Jvm.MethodName)) ∈ lw_all := lw_g (lw_at lw_m0 110 rfl) rfl
theorem q122 : (Jvm.Cond.selects "TightRange" ({ cls := "TightRange", name := "high", desc := "(I)I" } : Jvm.MethodName) ({ cls := "TightRange", name := "high", desc := "(I)I" } : Jvm.MethodName)) ∈ lw_all := lw_g (lw_at lw_m0 111 rfl) rfl
theorem q123 : (Jvm.Cond.code ({ cls := "TightRange", name := "high", desc := "(I)I" } : Jvm.MethodName) prog_1_method_6_code (2 : Nat) (Option.some Jvm.ClassFile.FieldType.int)) ∈ lw_all := lw_g (lw_at lw_m0 112 rfl) rfl
theorem q125 : (Jvm.Cond.instanceMethod ({ cls := "TightRange", name := "less", desc := "(II)I" } : Jvm.MethodName)) ∈ lw_all := lw_g (lw_at lw_m0 114 rfl) rfl
theorem q126 : (Jvm.Cond.selects "TightRange" ({ cls := "TightRange", name := "less", desc := "(II)I" } : Jvm.MethodName) ({ cls := "TightRange", name := "less", desc := "(II)I" } : Jvm.MethodName)) ∈ lw_all := lw_g (lw_at lw_m0 115 rfl) rfl
theorem q127 : (Jvm.Cond.code ({ cls := "TightRange", name := "less", desc := "(II)I" } : Jvm.MethodName) prog_1_method_7_code (3 : Nat) (Option.some Jvm.ClassFile.FieldType.int)) ∈ lw_all := lw_g (lw_at lw_m0 116 rfl) rfl
theorem q129 : (Jvm.Cond.instanceMethod ({ cls := "TightRange", name := "apart", desc := "(II)I" } : Jvm.MethodName)) ∈ lw_all := lw_g (lw_at lw_m0 118 rfl) rfl
theorem q130 : (Jvm.Cond.selects "TightRange" ({ cls := "TightRange", name := "apart", desc := "(II)I" } : Jvm.MethodName) ({ cls := "TightRange", name := "apart", desc := "(II)I" } : Jvm.MethodName)) ∈ lw_all := lw_g (lw_at lw_m0 119 rfl) rfl
theorem q131 : (Jvm.Cond.code ({ cls := "TightRange", name := "apart", desc := "(II)I" } : Jvm.MethodName) prog_1_method_8_code (4 : Nat) (Option.some Jvm.ClassFile.FieldType.int)) ∈ lw_all := lw_g (lw_at lw_m0 120 rfl) rfl
theorem q132 : (Jvm.Cond.methodLink "TightRange" (62 : Nat) ({ cls := "TightRange", name := "apartUpTo", desc := "(II)I" } : Jvm.MethodName)) ∈ lw_all := lw_g (lw_at lw_m0 121 rfl) rfl
theorem q133 : (Jvm.Cond.static ({ cls := "TightRange", name := "apartUpTo", desc := "(II)I" } : Jvm.MethodName)) ∈ lw_all := lw_g (lw_at lw_m0 122 rfl) rfl
theorem q134 : (Jvm.Cond.code ({ cls := "TightRange", name := "apartUpTo", desc := "(II)I" } : Jvm.MethodName) prog_1_method_29_code (9 : Nat) (Option.some Jvm.ClassFile.FieldType.int)) ∈ lw_all := lw_g (lw_at lw_m0 123 rfl) rfl
theorem in_X0 : ∀ w ∈ wsX00, w ∈ lw_all := lw_in wsX00 [26, 28, 30, 32] (by decide +kernel) (by decide +kernel)
end
section
/-! the law's own entry -/
set_option maxRecDepth 100000
abbrev cL_law : ByteArray := code
theorem dL_law_0 : decode cL_law 0 = .ok (.new 7, 3) := by decide +kernel
theorem dL_law_3 : decode cL_law 3 = .ok (.dup, 1) := by decide +kernel
theorem dL_law_4 : decode cL_law 4 = .ok (.invokespecial 9, 3) := by decide +kernel
theorem dL_law_7 : decode cL_law 7 = .ok (.astore_n 1, 1) := by decide +kernel
theorem dL_law_8 : decode cL_law 8 = .ok (.new 10, 3) := by decide +kernel
theorem dL_law_11 : decode cL_law 11 = .ok (.dup, 1) := by decide +kernel
theorem dL_law_12 : decode cL_law 12 = .ok (.invokespecial 12, 3) := by decide +kernel
theorem dL_law_15 : decode cL_law 15 = .ok (.astore_n 2, 1) := by decide +kernel
theorem dL_law_16 : decode cL_law 16 = .ok (.iconst 0, 1) := by decide +kernel
theorem dL_law_17 : decode cL_law 17 = .ok (.istore_n 3, 1) := by decide +kernel
theorem dL_law_18 : decode cL_law 18 = .ok (.iload_n 3, 1) := by decide +kernel
theorem dL_law_19 : decode cL_law 19 = .ok (.aload_n 0, 1) := by decide +kernel
theorem dL_law_20 : decode cL_law 20 = .ok (.arraylength, 1) := by decide +kernel
theorem dL_law_21 : decode cL_law 21 = .ok (.iconst 5, 1) := by decide +kernel
theorem dL_law_22 : decode cL_law 22 = .ok (.isub, 1) := by decide +kernel
theorem dL_law_23 : decode cL_law 23 = .ok (.if_icmp .gt 310, 3) := by decide +kernel
theorem dL_law_26 : decode cL_law 26 = .ok (.aload_n 0, 1) := by decide +kernel
theorem dL_law_27 : decode cL_law 27 = .ok (.iload_n 3, 1) := by decide +kernel
theorem dL_law_28 : decode cL_law 28 = .ok (.iaload, 1) := by decide +kernel
theorem dL_law_29 : decode cL_law 29 = .ok (.bipush 7, 2) := by decide +kernel
theorem dL_law_31 : decode cL_law 31 = .ok (.iand, 1) := by decide +kernel
theorem dL_law_32 : decode cL_law 32 = .ok (.tableswitch 295 0 6 #[44, 87, 140, 183, 206, 229, 262], 44) := by decide +kernel
theorem dL_law_76 : decode cL_law 76 = .ok (.aload_n 1, 1) := by decide +kernel
theorem dL_law_77 : decode cL_law 77 = .ok (.aload_n 0, 1) := by decide +kernel
theorem dL_law_78 : decode cL_law 78 = .ok (.iload_n 3, 1) := by decide +kernel
theorem dL_law_79 : decode cL_law 79 = .ok (.iconst 1, 1) := by decide +kernel
theorem dL_law_80 : decode cL_law 80 = .ok (.iadd, 1) := by decide +kernel
theorem dL_law_81 : decode cL_law 81 = .ok (.iaload, 1) := by decide +kernel
theorem dL_law_82 : decode cL_law 82 = .ok (.aload_n 0, 1) := by decide +kernel
theorem dL_law_83 : decode cL_law 83 = .ok (.iload_n 3, 1) := by decide +kernel
theorem dL_law_84 : decode cL_law 84 = .ok (.iconst 2, 1) := by decide +kernel
theorem dL_law_85 : decode cL_law 85 = .ok (.iadd, 1) := by decide +kernel
theorem dL_law_86 : decode cL_law 86 = .ok (.iaload, 1) := by decide +kernel
theorem dL_law_87 : decode cL_law 87 = .ok (.aload_n 0, 1) := by decide +kernel
theorem dL_law_88 : decode cL_law 88 = .ok (.iload_n 3, 1) := by decide +kernel
theorem dL_law_89 : decode cL_law 89 = .ok (.iconst 3, 1) := by decide +kernel
theorem dL_law_90 : decode cL_law 90 = .ok (.iadd, 1) := by decide +kernel
theorem dL_law_91 : decode cL_law 91 = .ok (.iaload, 1) := by decide +kernel
theorem dL_law_92 : decode cL_law 92 = .ok (.invokevirtual 13, 3) := by decide +kernel
theorem dL_law_95 : decode cL_law 95 = .ok (.aload_n 2, 1) := by decide +kernel
theorem dL_law_96 : decode cL_law 96 = .ok (.aload_n 0, 1) := by decide +kernel
theorem dL_law_97 : decode cL_law 97 = .ok (.iload_n 3, 1) := by decide +kernel
theorem dL_law_98 : decode cL_law 98 = .ok (.iconst 1, 1) := by decide +kernel
theorem dL_law_99 : decode cL_law 99 = .ok (.iadd, 1) := by decide +kernel
theorem dL_law_100 : decode cL_law 100 = .ok (.iaload, 1) := by decide +kernel
theorem dL_law_101 : decode cL_law 101 = .ok (.aload_n 0, 1) := by decide +kernel
theorem dL_law_102 : decode cL_law 102 = .ok (.iload_n 3, 1) := by decide +kernel
theorem dL_law_103 : decode cL_law 103 = .ok (.iconst 2, 1) := by decide +kernel
theorem dL_law_104 : decode cL_law 104 = .ok (.iadd, 1) := by decide +kernel
theorem dL_law_105 : decode cL_law 105 = .ok (.iaload, 1) := by decide +kernel
theorem dL_law_106 : decode cL_law 106 = .ok (.aload_n 0, 1) := by decide +kernel
theorem dL_law_107 : decode cL_law 107 = .ok (.iload_n 3, 1) := by decide +kernel
theorem dL_law_108 : decode cL_law 108 = .ok (.iconst 3, 1) := by decide +kernel
theorem dL_law_109 : decode cL_law 109 = .ok (.iadd, 1) := by decide +kernel
theorem dL_law_110 : decode cL_law 110 = .ok (.iaload, 1) := by decide +kernel
theorem dL_law_111 : decode cL_law 111 = .ok (.invokevirtual 17, 3) := by decide +kernel
theorem dL_law_114 : decode cL_law 114 = .ok (.if_icmp .eq 213, 3) := by decide +kernel
theorem dL_law_117 : decode cL_law 117 = .ok (.iconst 0, 1) := by decide +kernel
theorem dL_law_118 : decode cL_law 118 = .ok (.ireturn, 1) := by decide +kernel
theorem dL_law_119 : decode cL_law 119 = .ok (.aload_n 1, 1) := by decide +kernel
theorem dL_law_120 : decode cL_law 120 = .ok (.aload_n 0, 1) := by decide +kernel
theorem dL_law_121 : decode cL_law 121 = .ok (.iload_n 3, 1) := by decide +kernel
theorem dL_law_122 : decode cL_law 122 = .ok (.iconst 1, 1) := by decide +kernel
theorem dL_law_123 : decode cL_law 123 = .ok (.iadd, 1) := by decide +kernel
theorem dL_law_124 : decode cL_law 124 = .ok (.iaload, 1) := by decide +kernel
theorem dL_law_125 : decode cL_law 125 = .ok (.aload_n 0, 1) := by decide +kernel
theorem dL_law_126 : decode cL_law 126 = .ok (.iload_n 3, 1) := by decide +kernel
theorem dL_law_127 : decode cL_law 127 = .ok (.iconst 2, 1) := by decide +kernel
theorem dL_law_128 : decode cL_law 128 = .ok (.iadd, 1) := by decide +kernel
theorem dL_law_129 : decode cL_law 129 = .ok (.iaload, 1) := by decide +kernel
theorem dL_law_130 : decode cL_law 130 = .ok (.aload_n 0, 1) := by decide +kernel
theorem dL_law_131 : decode cL_law 131 = .ok (.iload_n 3, 1) := by decide +kernel
theorem dL_law_132 : decode cL_law 132 = .ok (.iconst 3, 1) := by decide +kernel
theorem dL_law_133 : decode cL_law 133 = .ok (.iadd, 1) := by decide +kernel
theorem dL_law_134 : decode cL_law 134 = .ok (.iaload, 1) := by decide +kernel
theorem dL_law_135 : decode cL_law 135 = .ok (.aload_n 0, 1) := by decide +kernel
theorem dL_law_136 : decode cL_law 136 = .ok (.iload_n 3, 1) := by decide +kernel
theorem dL_law_137 : decode cL_law 137 = .ok (.iconst 4, 1) := by decide +kernel
theorem dL_law_138 : decode cL_law 138 = .ok (.iadd, 1) := by decide +kernel
theorem dL_law_139 : decode cL_law 139 = .ok (.iaload, 1) := by decide +kernel
theorem dL_law_140 : decode cL_law 140 = .ok (.invokevirtual 18, 3) := by decide +kernel
theorem dL_law_143 : decode cL_law 143 = .ok (.aload_n 2, 1) := by decide +kernel
theorem dL_law_144 : decode cL_law 144 = .ok (.aload_n 0, 1) := by decide +kernel
theorem dL_law_145 : decode cL_law 145 = .ok (.iload_n 3, 1) := by decide +kernel
theorem dL_law_146 : decode cL_law 146 = .ok (.iconst 1, 1) := by decide +kernel
theorem dL_law_147 : decode cL_law 147 = .ok (.iadd, 1) := by decide +kernel
theorem dL_law_148 : decode cL_law 148 = .ok (.iaload, 1) := by decide +kernel
theorem dL_law_149 : decode cL_law 149 = .ok (.aload_n 0, 1) := by decide +kernel
theorem dL_law_150 : decode cL_law 150 = .ok (.iload_n 3, 1) := by decide +kernel
theorem dL_law_151 : decode cL_law 151 = .ok (.iconst 2, 1) := by decide +kernel
theorem dL_law_152 : decode cL_law 152 = .ok (.iadd, 1) := by decide +kernel
theorem dL_law_153 : decode cL_law 153 = .ok (.iaload, 1) := by decide +kernel
theorem dL_law_154 : decode cL_law 154 = .ok (.aload_n 0, 1) := by decide +kernel
theorem dL_law_155 : decode cL_law 155 = .ok (.iload_n 3, 1) := by decide +kernel
theorem dL_law_156 : decode cL_law 156 = .ok (.iconst 3, 1) := by decide +kernel
theorem dL_law_157 : decode cL_law 157 = .ok (.iadd, 1) := by decide +kernel
theorem dL_law_158 : decode cL_law 158 = .ok (.iaload, 1) := by decide +kernel
theorem dL_law_159 : decode cL_law 159 = .ok (.aload_n 0, 1) := by decide +kernel
theorem dL_law_160 : decode cL_law 160 = .ok (.iload_n 3, 1) := by decide +kernel
theorem dL_law_161 : decode cL_law 161 = .ok (.iconst 4, 1) := by decide +kernel
theorem dL_law_162 : decode cL_law 162 = .ok (.iadd, 1) := by decide +kernel
theorem dL_law_163 : decode cL_law 163 = .ok (.iaload, 1) := by decide +kernel
theorem dL_law_164 : decode cL_law 164 = .ok (.invokevirtual 22, 3) := by decide +kernel
theorem dL_law_167 : decode cL_law 167 = .ok (.if_icmp .eq 160, 3) := by decide +kernel
theorem dL_law_170 : decode cL_law 170 = .ok (.iconst 0, 1) := by decide +kernel
theorem dL_law_171 : decode cL_law 171 = .ok (.ireturn, 1) := by decide +kernel
theorem dL_law_172 : decode cL_law 172 = .ok (.aload_n 1, 1) := by decide +kernel
theorem dL_law_173 : decode cL_law 173 = .ok (.aload_n 0, 1) := by decide +kernel
theorem dL_law_174 : decode cL_law 174 = .ok (.iload_n 3, 1) := by decide +kernel
theorem dL_law_175 : decode cL_law 175 = .ok (.iconst 1, 1) := by decide +kernel
theorem dL_law_176 : decode cL_law 176 = .ok (.iadd, 1) := by decide +kernel
theorem dL_law_177 : decode cL_law 177 = .ok (.iaload, 1) := by decide +kernel
theorem dL_law_178 : decode cL_law 178 = .ok (.aload_n 0, 1) := by decide +kernel
theorem dL_law_179 : decode cL_law 179 = .ok (.iload_n 3, 1) := by decide +kernel
theorem dL_law_180 : decode cL_law 180 = .ok (.iconst 2, 1) := by decide +kernel
theorem dL_law_181 : decode cL_law 181 = .ok (.iadd, 1) := by decide +kernel
theorem dL_law_182 : decode cL_law 182 = .ok (.iaload, 1) := by decide +kernel
theorem dL_law_183 : decode cL_law 183 = .ok (.aload_n 0, 1) := by decide +kernel
theorem dL_law_184 : decode cL_law 184 = .ok (.iload_n 3, 1) := by decide +kernel
theorem dL_law_185 : decode cL_law 185 = .ok (.iconst 3, 1) := by decide +kernel
theorem dL_law_186 : decode cL_law 186 = .ok (.iadd, 1) := by decide +kernel
theorem dL_law_187 : decode cL_law 187 = .ok (.iaload, 1) := by decide +kernel
theorem dL_law_188 : decode cL_law 188 = .ok (.invokevirtual 23, 3) := by decide +kernel
theorem dL_law_191 : decode cL_law 191 = .ok (.aload_n 2, 1) := by decide +kernel
theorem dL_law_192 : decode cL_law 192 = .ok (.aload_n 0, 1) := by decide +kernel
theorem dL_law_193 : decode cL_law 193 = .ok (.iload_n 3, 1) := by decide +kernel
theorem dL_law_194 : decode cL_law 194 = .ok (.iconst 1, 1) := by decide +kernel
theorem dL_law_195 : decode cL_law 195 = .ok (.iadd, 1) := by decide +kernel
theorem dL_law_196 : decode cL_law 196 = .ok (.iaload, 1) := by decide +kernel
theorem dL_law_197 : decode cL_law 197 = .ok (.aload_n 0, 1) := by decide +kernel
theorem dL_law_198 : decode cL_law 198 = .ok (.iload_n 3, 1) := by decide +kernel
theorem dL_law_199 : decode cL_law 199 = .ok (.iconst 2, 1) := by decide +kernel
theorem dL_law_200 : decode cL_law 200 = .ok (.iadd, 1) := by decide +kernel
theorem dL_law_201 : decode cL_law 201 = .ok (.iaload, 1) := by decide +kernel
theorem dL_law_202 : decode cL_law 202 = .ok (.aload_n 0, 1) := by decide +kernel
theorem dL_law_203 : decode cL_law 203 = .ok (.iload_n 3, 1) := by decide +kernel
theorem dL_law_204 : decode cL_law 204 = .ok (.iconst 3, 1) := by decide +kernel
theorem dL_law_205 : decode cL_law 205 = .ok (.iadd, 1) := by decide +kernel
theorem dL_law_206 : decode cL_law 206 = .ok (.iaload, 1) := by decide +kernel
theorem dL_law_207 : decode cL_law 207 = .ok (.invokevirtual 26, 3) := by decide +kernel
theorem dL_law_210 : decode cL_law 210 = .ok (.if_icmp .eq 117, 3) := by decide +kernel
theorem dL_law_213 : decode cL_law 213 = .ok (.iconst 0, 1) := by decide +kernel
theorem dL_law_214 : decode cL_law 214 = .ok (.ireturn, 1) := by decide +kernel
theorem dL_law_215 : decode cL_law 215 = .ok (.aload_n 1, 1) := by decide +kernel
theorem dL_law_216 : decode cL_law 216 = .ok (.aload_n 0, 1) := by decide +kernel
theorem dL_law_217 : decode cL_law 217 = .ok (.iload_n 3, 1) := by decide +kernel
theorem dL_law_218 : decode cL_law 218 = .ok (.iconst 1, 1) := by decide +kernel
theorem dL_law_219 : decode cL_law 219 = .ok (.iadd, 1) := by decide +kernel
theorem dL_law_220 : decode cL_law 220 = .ok (.iaload, 1) := by decide +kernel
theorem dL_law_221 : decode cL_law 221 = .ok (.invokevirtual 27, 3) := by decide +kernel
theorem dL_law_224 : decode cL_law 224 = .ok (.aload_n 2, 1) := by decide +kernel
theorem dL_law_225 : decode cL_law 225 = .ok (.aload_n 0, 1) := by decide +kernel
theorem dL_law_226 : decode cL_law 226 = .ok (.iload_n 3, 1) := by decide +kernel
theorem dL_law_227 : decode cL_law 227 = .ok (.iconst 1, 1) := by decide +kernel
theorem dL_law_228 : decode cL_law 228 = .ok (.iadd, 1) := by decide +kernel
theorem dL_law_229 : decode cL_law 229 = .ok (.iaload, 1) := by decide +kernel
theorem dL_law_230 : decode cL_law 230 = .ok (.invokevirtual 31, 3) := by decide +kernel
theorem dL_law_233 : decode cL_law 233 = .ok (.if_icmp .eq 94, 3) := by decide +kernel
theorem dL_law_236 : decode cL_law 236 = .ok (.iconst 0, 1) := by decide +kernel
theorem dL_law_237 : decode cL_law 237 = .ok (.ireturn, 1) := by decide +kernel
theorem dL_law_238 : decode cL_law 238 = .ok (.aload_n 1, 1) := by decide +kernel
theorem dL_law_239 : decode cL_law 239 = .ok (.aload_n 0, 1) := by decide +kernel
theorem dL_law_240 : decode cL_law 240 = .ok (.iload_n 3, 1) := by decide +kernel
theorem dL_law_241 : decode cL_law 241 = .ok (.iconst 1, 1) := by decide +kernel
theorem dL_law_242 : decode cL_law 242 = .ok (.iadd, 1) := by decide +kernel
theorem dL_law_243 : decode cL_law 243 = .ok (.iaload, 1) := by decide +kernel
theorem dL_law_244 : decode cL_law 244 = .ok (.invokevirtual 32, 3) := by decide +kernel
theorem dL_law_247 : decode cL_law 247 = .ok (.aload_n 2, 1) := by decide +kernel
theorem dL_law_248 : decode cL_law 248 = .ok (.aload_n 0, 1) := by decide +kernel
theorem dL_law_249 : decode cL_law 249 = .ok (.iload_n 3, 1) := by decide +kernel
theorem dL_law_250 : decode cL_law 250 = .ok (.iconst 1, 1) := by decide +kernel
theorem dL_law_251 : decode cL_law 251 = .ok (.iadd, 1) := by decide +kernel
theorem dL_law_252 : decode cL_law 252 = .ok (.iaload, 1) := by decide +kernel
theorem dL_law_253 : decode cL_law 253 = .ok (.invokevirtual 35, 3) := by decide +kernel
theorem dL_law_256 : decode cL_law 256 = .ok (.if_icmp .eq 71, 3) := by decide +kernel
theorem dL_law_259 : decode cL_law 259 = .ok (.iconst 0, 1) := by decide +kernel
theorem dL_law_260 : decode cL_law 260 = .ok (.ireturn, 1) := by decide +kernel
theorem dL_law_261 : decode cL_law 261 = .ok (.aload_n 1, 1) := by decide +kernel
theorem dL_law_262 : decode cL_law 262 = .ok (.aload_n 0, 1) := by decide +kernel
theorem dL_law_263 : decode cL_law 263 = .ok (.iload_n 3, 1) := by decide +kernel
theorem dL_law_264 : decode cL_law 264 = .ok (.iconst 1, 1) := by decide +kernel
theorem dL_law_265 : decode cL_law 265 = .ok (.iadd, 1) := by decide +kernel
theorem dL_law_266 : decode cL_law 266 = .ok (.iaload, 1) := by decide +kernel
theorem dL_law_267 : decode cL_law 267 = .ok (.aload_n 0, 1) := by decide +kernel
theorem dL_law_268 : decode cL_law 268 = .ok (.iload_n 3, 1) := by decide +kernel
theorem dL_law_269 : decode cL_law 269 = .ok (.iconst 2, 1) := by decide +kernel
theorem dL_law_270 : decode cL_law 270 = .ok (.iadd, 1) := by decide +kernel
theorem dL_law_271 : decode cL_law 271 = .ok (.iaload, 1) := by decide +kernel
theorem dL_law_272 : decode cL_law 272 = .ok (.invokevirtual 36, 3) := by decide +kernel
theorem dL_law_275 : decode cL_law 275 = .ok (.aload_n 2, 1) := by decide +kernel
theorem dL_law_276 : decode cL_law 276 = .ok (.aload_n 0, 1) := by decide +kernel
theorem dL_law_277 : decode cL_law 277 = .ok (.iload_n 3, 1) := by decide +kernel
theorem dL_law_278 : decode cL_law 278 = .ok (.iconst 1, 1) := by decide +kernel
theorem dL_law_279 : decode cL_law 279 = .ok (.iadd, 1) := by decide +kernel
theorem dL_law_280 : decode cL_law 280 = .ok (.iaload, 1) := by decide +kernel
theorem dL_law_281 : decode cL_law 281 = .ok (.aload_n 0, 1) := by decide +kernel
theorem dL_law_282 : decode cL_law 282 = .ok (.iload_n 3, 1) := by decide +kernel
theorem dL_law_283 : decode cL_law 283 = .ok (.iconst 2, 1) := by decide +kernel
theorem dL_law_284 : decode cL_law 284 = .ok (.iadd, 1) := by decide +kernel
theorem dL_law_285 : decode cL_law 285 = .ok (.iaload, 1) := by decide +kernel
theorem dL_law_286 : decode cL_law 286 = .ok (.invokevirtual 40, 3) := by decide +kernel
theorem dL_law_289 : decode cL_law 289 = .ok (.if_icmp .eq 38, 3) := by decide +kernel
theorem dL_law_292 : decode cL_law 292 = .ok (.iconst 0, 1) := by decide +kernel
theorem dL_law_293 : decode cL_law 293 = .ok (.ireturn, 1) := by decide +kernel
theorem dL_law_294 : decode cL_law 294 = .ok (.aload_n 1, 1) := by decide +kernel
theorem dL_law_295 : decode cL_law 295 = .ok (.aload_n 0, 1) := by decide +kernel
theorem dL_law_296 : decode cL_law 296 = .ok (.iload_n 3, 1) := by decide +kernel
theorem dL_law_297 : decode cL_law 297 = .ok (.iconst 1, 1) := by decide +kernel
theorem dL_law_298 : decode cL_law 298 = .ok (.iadd, 1) := by decide +kernel
theorem dL_law_299 : decode cL_law 299 = .ok (.iaload, 1) := by decide +kernel
theorem dL_law_300 : decode cL_law 300 = .ok (.aload_n 0, 1) := by decide +kernel
theorem dL_law_301 : decode cL_law 301 = .ok (.iload_n 3, 1) := by decide +kernel
theorem dL_law_302 : decode cL_law 302 = .ok (.iconst 2, 1) := by decide +kernel
theorem dL_law_303 : decode cL_law 303 = .ok (.iadd, 1) := by decide +kernel
theorem dL_law_304 : decode cL_law 304 = .ok (.iaload, 1) := by decide +kernel
theorem dL_law_305 : decode cL_law 305 = .ok (.invokevirtual 41, 3) := by decide +kernel
theorem dL_law_308 : decode cL_law 308 = .ok (.aload_n 2, 1) := by decide +kernel
theorem dL_law_309 : decode cL_law 309 = .ok (.aload_n 0, 1) := by decide +kernel
theorem dL_law_310 : decode cL_law 310 = .ok (.iload_n 3, 1) := by decide +kernel
theorem dL_law_311 : decode cL_law 311 = .ok (.iconst 1, 1) := by decide +kernel
theorem dL_law_312 : decode cL_law 312 = .ok (.iadd, 1) := by decide +kernel
theorem dL_law_313 : decode cL_law 313 = .ok (.iaload, 1) := by decide +kernel
theorem dL_law_314 : decode cL_law 314 = .ok (.aload_n 0, 1) := by decide +kernel
theorem dL_law_315 : decode cL_law 315 = .ok (.iload_n 3, 1) := by decide +kernel
theorem dL_law_316 : decode cL_law 316 = .ok (.iconst 2, 1) := by decide +kernel
theorem dL_law_317 : decode cL_law 317 = .ok (.iadd, 1) := by decide +kernel
theorem dL_law_318 : decode cL_law 318 = .ok (.iaload, 1) := by decide +kernel
theorem dL_law_319 : decode cL_law 319 = .ok (.invokevirtual 44, 3) := by decide +kernel
theorem dL_law_322 : decode cL_law 322 = .ok (.if_icmp .eq 5, 3) := by decide +kernel
theorem dL_law_325 : decode cL_law 325 = .ok (.iconst 0, 1) := by decide +kernel
theorem dL_law_326 : decode cL_law 326 = .ok (.ireturn, 1) := by decide +kernel
theorem dL_law_327 : decode cL_law 327 = .ok (.iinc 3 5, 3) := by decide +kernel
theorem dL_law_330 : decode cL_law 330 = .ok (.goto (-312), 3) := by decide +kernel
theorem dL_law_333 : decode cL_law 333 = .ok (.iconst 1, 1) := by decide +kernel
theorem dL_law_334 : decode cL_law 334 = .ok (.ireturn, 1) := by decide +kernel
end
section
/-! helpers: the world of one object (either class), pure static calls, calls of object methods, leaves -/
abbrev vwCl : List vw_C := [(RX0, TX0, 4), (RX1, TX1, 4)]
def obW (ci h0 a1 a2 : Nat) (d1 d2 : ClassId) (lo hi : Nat → Int32) (x y : Int32) : va_W := [(h0, .inr (ci, [.ref a1, .ref a2, .int x, .int y])), (a1, .inl (d1, 6, .inl lo)), (a2, .inl (d2, 6, .inl hi))]
def ushr (x y : Int32) : Int32 := (x.toUInt32 >>> (y.toUInt32 &&& Int32.toUInt32 31)).toInt32
abbrev Qp (below : List Frame) (args : Array Value) (s : State) (V : Int32) : State → Prop := MQ below (va_Qi (fun (r : Int32) (_ : Unit) => r = V) (fun _ t => t.heap = s.heap) (fun _ => False)) args s 0 0 (fun _ => False)
abbrev PureI (l : Launch) (y : MethodName) (ws : List Cond) (rm : Room) (As : List Value) (v : Int32) : Prop := ∀ H0 : Heap, Met l y ws rm (va_Pc As (fun U => U.heap = H0)) (va_Qi (fun (r : Int32) (_ : Unit) => r = v) (fun _ t => t.heap = H0) (fun _ => False)) 0 0 (fun _ => False)
abbrev Qo (below : List Frame) (args : Array Value) (s : State) (D : va_G) (ci h0 a1 a2 : Nat) (d1 d2 : ClassId) (A : Nat → Prop) (V : Int32 × (Nat → Int32) × (Nat → Int32) × Int32 × Int32) : State → Prop := MQ below (va_Qi (fun (r : Int32) (_ : Unit) => r = V.1) (fun _ t => va_P D vwCl (obW ci h0 a1 a2 d1 d2 V.2.1 V.2.2.1 V.2.2.2.1 V.2.2.2.2) t.heap ∧ va_K D vwCl [(d1, .int), (d2, .int)] t ∧ va_D A (obW ci h0 a1 a2 d1 d2 V.2.1 V.2.2.1 V.2.2.2.1 V.2.2.2.2)) A) args s 0 0 A
abbrev Qov (below : List Frame) (args : Array Value) (s : State) (D : va_G) (ci h0 a1 a2 : Nat) (d1 d2 : ClassId) (A : Nat → Prop) (V : Int32 × (Nat → Int32) × (Nat → Int32) × Int32 × Int32) : State → Prop := MQ below (va_Qv (fun (_ : Unit) => True) (fun _ t => va_P D vwCl (obW ci h0 a1 a2 d1 d2 V.2.1 V.2.2.1 V.2.2.2.1 V.2.2.2.2) t.heap ∧ va_K D vwCl [(d1, .int), (d2, .int)] t ∧ va_D A (obW ci h0 a1 a2 d1 d2 V.2.1 V.2.2.1 V.2.2.2.1 V.2.2.2.2)) A) args s 0 0 A
/-- an object method with an int answer: its answer and the world behind it -/
abbrev ObI (l : Launch) (y : MethodName) (ws : List Cond) (rm : Room) (D : va_G) (ci h0 a1 a2 : Nat) (d1 d2 : ClassId) (As : List Value) (lo hi : Nat → Int32) (x z : Int32) (V : Int32 × (Nat → Int32) × (Nat → Int32) × Int32 × Int32) : Prop := ∀ sz : Nat, Met l y ws rm (va_Pc (.ref h0 :: As) (fun U => U.heap.size = sz ∧ va_P D vwCl (obW ci h0 a1 a2 d1 d2 lo hi x z) U.heap ∧ va_K D vwCl [(d1, .int), (d2, .int)] U ∧ va_D (fun _ => True) (obW ci h0 a1 a2 d1 d2 lo hi x z))) (va_Qi (fun (r : Int32) (_ : Unit) => r = V.1) (fun _ t => va_P D vwCl (obW ci h0 a1 a2 d1 d2 V.2.1 V.2.2.1 V.2.2.2.1 V.2.2.2.2) t.heap ∧ va_K D vwCl [(d1, .int), (d2, .int)] t ∧ va_D (va_A (obW ci h0 a1 a2 d1 d2 lo hi x z) sz) (obW ci h0 a1 a2 d1 d2 V.2.1 V.2.2.1 V.2.2.2.1 V.2.2.2.2)) (va_A (obW ci h0 a1 a2 d1 d2 lo hi x z) sz)) 0 0 (va_A (obW ci h0 a1 a2 d1 d2 lo hi x z) sz)
/-- an object method without an answer -/
abbrev ObV (l : Launch) (y : MethodName) (ws : List Cond) (rm : Room) (D : va_G) (ci h0 a1 a2 : Nat) (d1 d2 : ClassId) (As : List Value) (lo hi : Nat → Int32) (x z : Int32) (V : Int32 × (Nat → Int32) × (Nat → Int32) × Int32 × Int32) : Prop := ∀ sz : Nat, Met l y ws rm (va_Pc (.ref h0 :: As) (fun U => U.heap.size = sz ∧ va_P D vwCl (obW ci h0 a1 a2 d1 d2 lo hi x z) U.heap ∧ va_K D vwCl [(d1, .int), (d2, .int)] U ∧ va_D (fun _ => True) (obW ci h0 a1 a2 d1 d2 lo hi x z))) (va_Qv (fun (_ : Unit) => True) (fun _ t => va_P D vwCl (obW ci h0 a1 a2 d1 d2 V.2.1 V.2.2.1 V.2.2.2.1 V.2.2.2.2) t.heap ∧ va_K D vwCl [(d1, .int), (d2, .int)] t ∧ va_D (va_A (obW ci h0 a1 a2 d1 d2 lo hi x z) sz) (obW ci h0 a1 a2 d1 d2 V.2.1 V.2.2.1 V.2.2.2.1 V.2.2.2.2)) (va_A (obW ci h0 a1 a2 d1 d2 lo hi x z) sz)) 0 0 (va_A (obW ci h0 a1 a2 d1 d2 lo hi x z) sz)
section HELP
variable {p : Program} {l : Launch} {e : Env} {R : Room} {s : State} {m : MethodId} {args : Array Value} {below : List Frame} {meth : Method} {c : Code} {H : Heap} {locs : List Loc} {cells slots : Nat} {Q : State → Prop}
variable {cc bytes : ByteArray} {pc nL n index maxL : Nat} {ret : Option FieldType} {ls : Array Slot} {y : MethodName} {wsy : List Cond} {rm : Room} {own C : String} {As rest st0 : List Value} {v : Int32}
theorem pu_call (S : CallFix p m c cc nL s args lw_all own) (hM : PureI l y wsy rm As v) (cw : CallB R s args own index y bytes maxL ret wsy rm 0 0 n ∧ (Cond.static y).before args s = true) (hn : As.length = n) (hsize : ls.size = nL) (hstack : st0 = As.reverse ++ rest) (hW : (rest.map fun v => v.category).sum ≤ 8) (hdg : decode cc pc = .ok (.invokestatic index, 3)) (hf : cells ≤ R.cells ∧ slots ≤ R.slots)
    (kk : W p l e R s m args below meth c H locs cells slots Q (F0 m (pc + 3) ls (.int v :: rest))) : W p l e R s m args below meth c H locs cells slots Q (F0 m pc ls st0) := by
  have hr : va_Run p l e R s m args below meth c H locs cells slots 0 0 (F0 m pc ls st0) rest _ _ := va_runS S (hM H) cw ⟨fun a U g mk q => ⟨q.1, q.2⟩, fun U hU hW => ⟨rfl, hU⟩⟩ rfl hn hsize hstack (lv_room hW) hdg hf
  intro T hT X
  obtain ⟨v', st₀, t, T', L, h0, X', hL, e1, e2, ⟨⟨r, u, hv, hp, hb⟩, hz, hk⟩, st⟩ := hr T hT X
  cases hv
  have hp : r = v := hp
  subst hp
  obtain ⟨t2, a1, b1⟩ := kk T' (by rw [e1]; exact hb) (Stand.forget X' (fun q h => (hL q h).elim))
  exact ⟨t2, st t2 a1, b1⟩
theorem pu_iret {V : Int32} (hx : p.tables.exec = Jvm.exec) (hb : c.code = cc) (hr : meth.sig.returnType = some .int) (hlocks : meth.locks = false) (hV : v = V) (hdg : decode cc pc = .ok (.ireturn, 1)) : W p l e R s m args below meth c s.heap [] 0 0 (Qp below args s V) (F0 m pc ls [.int v]) := by
  subst hV
  exact W.iret hx hb hr (fun t ht hW => ⟨⟨v, (), rfl, rfl, ht⟩, va_S.F (locs := []) va_S.rf ht⟩) (fun q h => by cases h) hdg hlocks
theorem pu_zret {V : Int32} (hx : p.tables.exec = Jvm.exec) (hb : c.code = cc) (hr : meth.sig.returnType = some .boolean) (hlocks : meth.locks = false) (hn : narrow .boolean (.int v) = .int v) (hV : v = V) (hdg : decode cc pc = .ok (.ireturn, 1)) : W p l e R s m args below meth c s.heap [] 0 0 (Qp below args s V) (F0 m pc ls [.int v]) := by
  subst hV
  exact W.zret hx hb hr hn (fun t ht hW => ⟨⟨v, (), rfl, rfl, ht⟩, va_S.F (locs := []) va_S.rf ht⟩) (fun q h => by cases h) hdg hlocks
variable {D : va_G} {A : Nat → Prop} {ci h0 a1 a2 : Nat} {d1 d2 : ClassId} {lo hi : Nat → Int32} {x z : Int32} {V : Int32 × (Nat → Int32) × (Nat → Int32) × Int32 × Int32}
theorem ob_iret (hx : p.tables.exec = Jvm.exec) (hb : c.code = cc) (hr : meth.sig.returnType = some .int) (hlocks : meth.locks = false) (hK : va_K D vwCl [(d1, .int), (d2, .int)] s) (hP : va_P D vwCl (obW ci h0 a1 a2 d1 d2 lo hi x z) H) (hD : va_D A (obW ci h0 a1 a2 d1 d2 lo hi x z)) (hS : va_S A s.heap H locs) (hV : (v, lo, hi, x, z) = V) (hdg : decode cc pc = .ok (.ireturn, 1)) : W p l e R s m args below meth c H locs 0 0 (Qo below args s D ci h0 a1 a2 d1 d2 A V) (F0 m pc ls [.int v]) := by
  subst hV
  exact W.iret hx hb hr (fun t ht hW => ⟨⟨v, (), rfl, rfl, by rw [ht]; exact hP, va_K.moved hW.alike hK, hD⟩, hS.F ht⟩) hS.2.2 hdg hlocks
theorem ob_vret (hx : p.tables.exec = Jvm.exec) (hb : c.code = cc) (hr : meth.sig.returnType = none) (hlocks : meth.locks = false) (hK : va_K D vwCl [(d1, .int), (d2, .int)] s) (hP : va_P D vwCl (obW ci h0 a1 a2 d1 d2 lo hi x z) H) (hD : va_D A (obW ci h0 a1 a2 d1 d2 lo hi x z)) (hS : va_S A s.heap H locs) (hV : (v, lo, hi, x, z) = V) (hdg : decode cc pc = .ok (.return_, 1)) : W p l e R s m args below meth c H locs 0 0 (Qov below args s D ci h0 a1 a2 d1 d2 A V) (F0 m pc ls []) := by
  subst hV
  exact W.vret hx hb hr (fun t ht hW => ⟨⟨(), rfl, trivial, by rw [ht]; exact hP, va_K.moved hW.alike hK, hD⟩, hS.F ht⟩) hS.2.2 hdg hlocks
variable {ws wr : va_W} {H0 : Heap} {T : u_T} {N : Nat}
theorem ob_calli (S : CallFix p m c cc nL s args lw_all own) (hM : ObI l y wsy rm D ci h0 a1 a2 d1 d2 As lo hi x z V) (cw : CallW R s args own C index y bytes maxL ret wsy rm 0 0 n) (hcl : vwCl[ci]? = some (C, T, N)) (hn : As.length = n) (hsize : ls.size = nL) (hstack : st0 = As.reverse ++ .ref h0 :: rest) (hW : (rest.map fun v => v.category).sum ≤ 8) (hdg : decode cc pc = .ok (.invokevirtual index, 3)) (hf : cells ≤ R.cells ∧ slots ≤ R.slots)
    (hK : va_K D vwCl [(d1, .int), (d2, .int)] s) (hP : va_P D vwCl ws H) (hD : va_D A ws) (hS : va_S A H0 H locs) (hA : ∀ q : Nat, H0.size ≤ q → A q) (isC isR : List Nat) (hC : isC.map (fun i => ws[i]?) = (obW ci h0 a1 a2 d1 d2 lo hi x z).map some) (hR : isR.map (fun i => ws[i]?) = wr.map some) (hnC : va_nd isC = true) (hnR : va_nd isR = true) (hdis : ∀ i ∈ isR, i ∉ isC)
    (kk : ∀ (H1 : Heap) (locs1 : List Loc), va_P D vwCl (wr ++ obW ci h0 a1 a2 d1 d2 V.2.1 V.2.2.1 V.2.2.2.1 V.2.2.2.2) H1 → va_D A (wr ++ obW ci h0 a1 a2 d1 d2 V.2.1 V.2.2.1 V.2.2.2.1 V.2.2.2.2) → va_S A H0 H1 locs1 → W p l e R s m args below meth c H1 locs1 cells slots Q (F0 m (pc + 3) ls (.int V.1 :: rest))) : W p l e R s m args below meth c H locs cells slots Q (F0 m pc ls st0) := by
  have hPc : va_P D vwCl (obW ci h0 a1 a2 d1 d2 lo hi x z) H := by
    intro k q hq
    have h1 : (isC.map (fun i => ws[i]?))[k]? = some (some q) := by rw [hC, List.getElem?_map, hq]; rfl
    rw [List.getElem?_map] at h1
    cases hi : isC[k]? with
    | none => rw [hi] at h1; cases h1
    | some i => rw [hi] at h1; exact hP i q (Option.some.inj h1)
  have hDc : va_D A (obW ci h0 a1 a2 d1 d2 lo hi x z) := hD.sub isC hnC hC
  have hFc := va_free (wc := obW ci h0 a1 a2 d1 d2 lo hi x z) hD hS hA isC hC
  refine va_calli (va_runV (As := As) (rest := rest) S (hM H.size) cw ⟨fun a U g mk q => by obtain ⟨q0, q1, qP, qK, qD⟩ := q; exact ⟨q0, q1, qP, va_K.moved (u := U) (U := U.calling g mk a) (Vm.Alike.refl U.vm) qK, qD⟩, va_recv hK hPc (ci := ci) (q0 := 0) hcl rfl, fun U hU hW => ⟨rfl, by rw [hU], by rw [hU]; exact hPc, va_K.moved hW.alike hK, hDc.weaken (fun _ _ _ _ => trivial)⟩⟩ rfl hn hsize hstack (lv_room hW) hdg hf) hS (fun q _ h => hFc q h) hFc (fun r u t H1 locs1 ht hvm hw hB hz1 hk1 hS1 => ?_)
  have hw : r = V.1 := hw
  subst hw
  obtain ⟨hP1, hK1, hD1⟩ := hB
  rw [ht] at hP1
  obtain ⟨hP2, hD2⟩ := va_join (wr := wr) hP hD isC isR hC hR hnR hdis hk1 hFc hP1 hD1
  exact kk H1 locs1 hP2 hD2 hS1
theorem ob_callv (S : CallFix p m c cc nL s args lw_all own) (hM : ObV l y wsy rm D ci h0 a1 a2 d1 d2 As lo hi x z V) (cw : CallW R s args own C index y bytes maxL ret wsy rm 0 0 n) (hcl : vwCl[ci]? = some (C, T, N)) (hn : As.length = n) (hsize : ls.size = nL) (hstack : st0 = As.reverse ++ .ref h0 :: rest) (hW : (rest.map fun v => v.category).sum ≤ 8) (hdg : decode cc pc = .ok (.invokevirtual index, 3)) (hf : cells ≤ R.cells ∧ slots ≤ R.slots)
    (hK : va_K D vwCl [(d1, .int), (d2, .int)] s) (hP : va_P D vwCl ws H) (hD : va_D A ws) (hS : va_S A H0 H locs) (hA : ∀ q : Nat, H0.size ≤ q → A q) (isC isR : List Nat) (hC : isC.map (fun i => ws[i]?) = (obW ci h0 a1 a2 d1 d2 lo hi x z).map some) (hR : isR.map (fun i => ws[i]?) = wr.map some) (hnC : va_nd isC = true) (hnR : va_nd isR = true) (hdis : ∀ i ∈ isR, i ∉ isC)
    (kk : ∀ (H1 : Heap) (locs1 : List Loc), va_P D vwCl (wr ++ obW ci h0 a1 a2 d1 d2 V.2.1 V.2.2.1 V.2.2.2.1 V.2.2.2.2) H1 → va_D A (wr ++ obW ci h0 a1 a2 d1 d2 V.2.1 V.2.2.1 V.2.2.2.1 V.2.2.2.2) → va_S A H0 H1 locs1 → W p l e R s m args below meth c H1 locs1 cells slots Q (F0 m (pc + 3) ls rest)) : W p l e R s m args below meth c H locs cells slots Q (F0 m pc ls st0) := by
  have hPc : va_P D vwCl (obW ci h0 a1 a2 d1 d2 lo hi x z) H := by
    intro k q hq
    have h1 : (isC.map (fun i => ws[i]?))[k]? = some (some q) := by rw [hC, List.getElem?_map, hq]; rfl
    rw [List.getElem?_map] at h1
    cases hi : isC[k]? with
    | none => rw [hi] at h1; cases h1
    | some i => rw [hi] at h1; exact hP i q (Option.some.inj h1)
  have hDc : va_D A (obW ci h0 a1 a2 d1 d2 lo hi x z) := hD.sub isC hnC hC
  have hFc := va_free (wc := obW ci h0 a1 a2 d1 d2 lo hi x z) hD hS hA isC hC
  refine va_callv (va_runV (As := As) (rest := rest) S (hM H.size) cw ⟨fun a U g mk q => by obtain ⟨q0, q1, qP, qK, qD⟩ := q; exact ⟨q0, q1, qP, va_K.moved (u := U) (U := U.calling g mk a) (Vm.Alike.refl U.vm) qK, qD⟩, va_recv hK hPc (ci := ci) (q0 := 0) hcl rfl, fun U hU hW => ⟨rfl, by rw [hU], by rw [hU]; exact hPc, va_K.moved hW.alike hK, hDc.weaken (fun _ _ _ _ => trivial)⟩⟩ rfl hn hsize hstack (lv_room hW) hdg hf) hS (fun q _ h => hFc q h) hFc (fun u t H1 locs1 ht hvm hw hB hz1 hk1 hS1 => ?_)
  obtain ⟨hP1, hK1, hD1⟩ := hB
  rw [ht] at hP1
  obtain ⟨hP2, hD2⟩ := va_join (wr := wr) hP hD isC isR hC hR hnR hdis hk1 hFc hP1 hD1
  exact kk H1 locs1 hP2 hD2 hS1
end HELP
/-! the loops' counters -/
def bitv : Nat → Int32
  | 0 => 0
  | n + 1 => nI (2 ^ n)
def kup7 (n : Nat) : Int32 := nI (7 - n)
def kup12 (n : Nat) : Int32 := nI (12 - n)
def kup6 (n : Nat) : Int32 := nI (6 - n)
def kdn (n : Nat) : Int32 := nI n + (-1)
theorem bitv_t : ∀ n, n < 7 → ¬ bitv (n + 1) ≤ 0 := by decide +kernel
theorem bitv_s : ∀ n, n < 7 → bitv (n + 1) / 2 = bitv n := by decide +kernel
theorem kup7_t : ∀ n, n < 7 → ¬ (7 : Int32) ≤ kup7 (n + 1) := by decide +kernel
theorem kup7_s : ∀ n, n < 7 → kup7 (n + 1) + Int32.ofInt 1 = kup7 n := by decide +kernel
theorem kup12_t : ∀ n, n < 11 → ¬ (12 : Int32) ≤ kup12 (n + 1) := by decide +kernel
theorem kup12_s : ∀ n, n < 11 → kup12 (n + 1) + Int32.ofInt 1 = kup12 n := by decide +kernel
theorem kup6_t : ∀ n, n < 6 → ¬ (6 : Int32) ≤ kup6 (n + 1) := by decide +kernel
theorem kup6_s : ∀ n, n < 6 → kup6 (n + 1) + Int32.ofInt 1 = kup6 n := by decide +kernel
theorem kup6_in : ∀ n, n < 6 → vp_in (kup6 (n + 1)) 6 := fun n h => vp_in_iff.mpr ((show ∀ n, n < 6 → 0 ≤ (kup6 (n + 1)).toInt ∧ (kup6 (n + 1)).toInt < 6 by decide +kernel) n h)
theorem kdn_t : ∀ n, n < 7 → ¬ kdn (n + 1) < 0 := by decide +kernel
theorem kdn_s : ∀ n, n < 7 → kdn (n + 1) + Int32.ofInt (-1) = kdn n := by decide +kernel
theorem nle_nz {x : Int32} (h : ¬ x ≤ 0) : ¬ x = 0 := fun e => h (by rw [e]; decide)
end
section
/-! what the methods compute, as their bytecode says it (printed by my program) -/
def fX0_isRegister (p0 : Int32) : Int32 := if p0 < 0 then 0 else (if 5 < p0 then 0 else 1)
def fX0_lesser (p0 p1 : Int32) : Int32 := if p1 ≤ p0 then p1 else p0
def fX0_greater (p0 p1 : Int32) : Int32 := if p0 ≤ p1 then p1 else p0
def fX0_raised (p0 p1 : Int32) : Int32 := ((p0 ||| p1) &&& (-p1))
def fX0_lowered (p0 p1 : Int32) : Int32 := ((p0 - p1) ||| (p1 - 1))
def gX0_rootOf (p0 : Int32) : Nat → Int32 → Int32
  | 0, v1 => v1
  | n + 1, v1 => if p0 < ((kup12 (n + 1)) * (kup12 (n + 1))) then (gX0_rootOf p0 n v1) else (gX0_rootOf p0 n (kup12 (n + 1)))
def fX0_rootOf (p0 : Int32) : Int32 := (gX0_rootOf p0 11 0)
def gX0_leastOr (p0 p1 p2 p3 : Int32) : Nat → Int32
  | 0 => (p0 ||| p2)
  | n + 1 => if (((p0 ^^^ (-1)) &&& p2) &&& (bitv (n + 1))) = 0 then (if ((p0 &&& (p2 ^^^ (-1))) &&& (bitv (n + 1))) = 0 then (gX0_leastOr p0 p1 p2 p3 n) else (if p3 < (fX0_raised p2 (bitv (n + 1))) then (gX0_leastOr p0 p1 p2 p3 n) else (p0 ||| (fX0_raised p2 (bitv (n + 1)))))) else (if p1 < (fX0_raised p0 (bitv (n + 1))) then (gX0_leastOr p0 p1 p2 p3 n) else ((fX0_raised p0 (bitv (n + 1))) ||| p2))
def fX0_leastOr (p0 p1 p2 p3 : Int32) : Int32 := (gX0_leastOr p0 p1 p2 p3 7)
def gX0_greatestOr (p0 p1 p2 p3 : Int32) : Nat → Int32
  | 0 => (p1 ||| p3)
  | n + 1 => if ((p1 &&& p3) &&& (bitv (n + 1))) = 0 then (gX0_greatestOr p0 p1 p2 p3 n) else (if (fX0_lowered p1 (bitv (n + 1))) < p0 then (if (fX0_lowered p3 (bitv (n + 1))) < p2 then (gX0_greatestOr p0 p1 p2 p3 n) else (p1 ||| (fX0_lowered p3 (bitv (n + 1))))) else ((fX0_lowered p1 (bitv (n + 1))) ||| p3))
def fX0_greatestOr (p0 p1 p2 p3 : Int32) : Int32 := (gX0_greatestOr p0 p1 p2 p3 7)
def gX0_leastXor (p0 p1 p2 p3 : Int32) : Nat → Int32 → Int32 → Int32
  | 0, v4, v5 => (v4 ^^^ v5)
  | n + 1, v4, v5 => if (((v4 ^^^ (-1)) &&& v5) &&& (bitv (n + 1))) = 0 then (if ((v4 &&& (v5 ^^^ (-1))) &&& (bitv (n + 1))) = 0 then (gX0_leastXor p0 p1 p2 p3 n v4 v5) else (if p3 < (fX0_raised v5 (bitv (n + 1))) then (gX0_leastXor p0 p1 p2 p3 n v4 v5) else (gX0_leastXor p0 p1 p2 p3 n v4 (fX0_raised v5 (bitv (n + 1)))))) else (if p1 < (fX0_raised v4 (bitv (n + 1))) then (gX0_leastXor p0 p1 p2 p3 n v4 v5) else (gX0_leastXor p0 p1 p2 p3 n (fX0_raised v4 (bitv (n + 1))) v5))
def fX0_leastXor (p0 p1 p2 p3 : Int32) : Int32 := (gX0_leastXor p0 p1 p2 p3 7 p0 p2)
def gX0_greatestXor (p0 p1 p2 p3 : Int32) : Nat → Int32 → Int32 → Int32
  | 0, v4, v5 => (v4 ^^^ v5)
  | n + 1, v4, v5 => if ((v4 &&& v5) &&& (bitv (n + 1))) = 0 then (gX0_greatestXor p0 p1 p2 p3 n v4 v5) else (if (fX0_lowered v4 (bitv (n + 1))) < p0 then (if (fX0_lowered v5 (bitv (n + 1))) < p2 then (gX0_greatestXor p0 p1 p2 p3 n v4 v5) else (gX0_greatestXor p0 p1 p2 p3 n v4 (fX0_lowered v5 (bitv (n + 1))))) else (gX0_greatestXor p0 p1 p2 p3 n (fX0_lowered v4 (bitv (n + 1))) v5))
def fX0_greatestXor (p0 p1 p2 p3 : Int32) : Int32 := (gX0_greatestXor p0 p1 p2 p3 7 p1 p3)
def gX0_ones (p0 : Int32) : Nat → Int32 → Int32
  | 0, v1 => v1
  | n + 1, v1 => (gX0_ones p0 n (v1 + ((ushr p0 (kup7 (n + 1))) &&& 1)))
def fX0_ones (p0 : Int32) : Int32 := (gX0_ones p0 7 0)
def gX0_reversed (p0 p1 p2 : Int32) : Nat → Int32 → Int32 → Int32
  | 0, v3, v4 => v4
  | n + 1, v3, v4 => if p1 < (p0 + (((v3 ||| (p2 <<< ((kup7 (n + 1)) &&& 31))) - p0) &&& ((2 <<< ((kup7 (n + 1)) &&& 31)) - 1))) then (gX0_reversed p0 p1 p2 n (v3 ||| ((1 - p2) <<< ((kup7 (n + 1)) &&& 31))) ((2 * v4) + (1 - p2))) else (gX0_reversed p0 p1 p2 n (v3 ||| (p2 <<< ((kup7 (n + 1)) &&& 31))) ((2 * v4) + p2))
def fX0_reversed (p0 p1 p2 : Int32) : Int32 := (gX0_reversed p0 p1 p2 7 0 0)
def gX0_apartUpTo (p0 p1 : Int32) : Nat → Int32 → Int32 → Int32 → Int32 → Int32
  | 0, v2, v3, v4, v5 => (((v2 + v3) + v4) + v5)
  | n + 1, v2, v3, v4, v5 => if ((ushr p0 (kdn (n + 1))) &&& 1) = 1 then (if ((ushr p1 (kdn (n + 1))) &&& 1) = 1 then (if (((ushr p0 (kdn (n + 1))) &&& 1) * ((ushr p1 (kdn (n + 1))) &&& 1)) = 1 then (gX0_apartUpTo p0 p1 n 0 (v3 + (((ushr p1 (kdn (n + 1))) &&& 1) * v2)) (v4 + (((ushr p0 (kdn (n + 1))) &&& 1) * v2)) ((((3 * v5) + ((2 * ((ushr p0 (kdn (n + 1))) &&& 1)) * v3)) + ((2 * ((ushr p1 (kdn (n + 1))) &&& 1)) * v4)) + ((((ushr p0 (kdn (n + 1))) &&& 1) * ((ushr p1 (kdn (n + 1))) &&& 1)) * v2))) else (gX0_apartUpTo p0 p1 n v2 (v3 + (((ushr p1 (kdn (n + 1))) &&& 1) * v2)) (v4 + (((ushr p0 (kdn (n + 1))) &&& 1) * v2)) ((((3 * v5) + ((2 * ((ushr p0 (kdn (n + 1))) &&& 1)) * v3)) + ((2 * ((ushr p1 (kdn (n + 1))) &&& 1)) * v4)) + ((((ushr p0 (kdn (n + 1))) &&& 1) * ((ushr p1 (kdn (n + 1))) &&& 1)) * v2)))) else (if (((ushr p0 (kdn (n + 1))) &&& 1) * ((ushr p1 (kdn (n + 1))) &&& 1)) = 1 then (gX0_apartUpTo p0 p1 n 0 (v3 + (((ushr p1 (kdn (n + 1))) &&& 1) * v2)) ((2 * v4) + (((ushr p0 (kdn (n + 1))) &&& 1) * v2)) ((((3 * v5) + ((2 * ((ushr p0 (kdn (n + 1))) &&& 1)) * v3)) + ((2 * ((ushr p1 (kdn (n + 1))) &&& 1)) * v4)) + ((((ushr p0 (kdn (n + 1))) &&& 1) * ((ushr p1 (kdn (n + 1))) &&& 1)) * v2))) else (gX0_apartUpTo p0 p1 n v2 (v3 + (((ushr p1 (kdn (n + 1))) &&& 1) * v2)) ((2 * v4) + (((ushr p0 (kdn (n + 1))) &&& 1) * v2)) ((((3 * v5) + ((2 * ((ushr p0 (kdn (n + 1))) &&& 1)) * v3)) + ((2 * ((ushr p1 (kdn (n + 1))) &&& 1)) * v4)) + ((((ushr p0 (kdn (n + 1))) &&& 1) * ((ushr p1 (kdn (n + 1))) &&& 1)) * v2))))) else (if ((ushr p1 (kdn (n + 1))) &&& 1) = 1 then (if (((ushr p0 (kdn (n + 1))) &&& 1) * ((ushr p1 (kdn (n + 1))) &&& 1)) = 1 then (gX0_apartUpTo p0 p1 n 0 ((2 * v3) + (((ushr p1 (kdn (n + 1))) &&& 1) * v2)) (v4 + (((ushr p0 (kdn (n + 1))) &&& 1) * v2)) ((((3 * v5) + ((2 * ((ushr p0 (kdn (n + 1))) &&& 1)) * v3)) + ((2 * ((ushr p1 (kdn (n + 1))) &&& 1)) * v4)) + ((((ushr p0 (kdn (n + 1))) &&& 1) * ((ushr p1 (kdn (n + 1))) &&& 1)) * v2))) else (gX0_apartUpTo p0 p1 n v2 ((2 * v3) + (((ushr p1 (kdn (n + 1))) &&& 1) * v2)) (v4 + (((ushr p0 (kdn (n + 1))) &&& 1) * v2)) ((((3 * v5) + ((2 * ((ushr p0 (kdn (n + 1))) &&& 1)) * v3)) + ((2 * ((ushr p1 (kdn (n + 1))) &&& 1)) * v4)) + ((((ushr p0 (kdn (n + 1))) &&& 1) * ((ushr p1 (kdn (n + 1))) &&& 1)) * v2)))) else (if (((ushr p0 (kdn (n + 1))) &&& 1) * ((ushr p1 (kdn (n + 1))) &&& 1)) = 1 then (gX0_apartUpTo p0 p1 n 0 ((2 * v3) + (((ushr p1 (kdn (n + 1))) &&& 1) * v2)) ((2 * v4) + (((ushr p0 (kdn (n + 1))) &&& 1) * v2)) ((((3 * v5) + ((2 * ((ushr p0 (kdn (n + 1))) &&& 1)) * v3)) + ((2 * ((ushr p1 (kdn (n + 1))) &&& 1)) * v4)) + ((((ushr p0 (kdn (n + 1))) &&& 1) * ((ushr p1 (kdn (n + 1))) &&& 1)) * v2))) else (gX0_apartUpTo p0 p1 n v2 ((2 * v3) + (((ushr p1 (kdn (n + 1))) &&& 1) * v2)) ((2 * v4) + (((ushr p0 (kdn (n + 1))) &&& 1) * v2)) ((((3 * v5) + ((2 * ((ushr p0 (kdn (n + 1))) &&& 1)) * v3)) + ((2 * ((ushr p1 (kdn (n + 1))) &&& 1)) * v4)) + ((((ushr p0 (kdn (n + 1))) &&& 1) * ((ushr p1 (kdn (n + 1))) &&& 1)) * v2)))))
def fX0_apartUpTo (p0 p1 : Int32) : Int32 := if p0 < 0 then 0 else (if 0 ≤ p1 then (gX0_apartUpTo p0 p1 7 1 0 0 0) else 0)
def fX1_bad (p0 : Int32) : Int32 := if p0 < 0 then 1 else (if p0 ≤ 5 then 0 else 1)
def fX1_worked (p0 p1 p2 : Int32) : Int32 := if p0 = 0 then ((p1 + p2) - (p1 + p2) / 128 * 128) else (if p0 = 1 then (((p1 - p2) + 128) - ((p1 - p2) + 128) / 128 * 128) else (if p0 = 2 then (p1 &&& p2) else (if p0 = 3 then (p1 ||| p2) else (if p0 = 4 then (p1 ^^^ p2) else (if p0 = 5 then ((p1 * p2) / 128) else (if p0 = 6 then (if p2 = 0 then 127 else (p1 / p2)) else (if p0 = 7 then (if p1 ≤ p2 then p2 else p1) else (if p1 ≤ p2 then (p2 - p1) else (p1 - p2)))))))))
def gX1_ones (p0 : Int32) : Nat → Int32 → Int32
  | 0, v1 => v1
  | n + 1, v1 => (gX1_ones p0 n (v1 + ((p0 >>> ((kup7 (n + 1)) &&& 31)) &&& 1)))
def fX1_ones (p0 : Int32) : Int32 := (gX1_ones p0 7 0)
def gX1_reversed (p0 : Int32) : Nat → Int32 → Int32
  | 0, v1 => v1
  | n + 1, v1 => (gX1_reversed p0 n (v1 ||| (((p0 >>> ((kup7 (n + 1)) &&& 31)) &&& 1) <<< ((6 - (kup7 (n + 1))) &&& 31))))
def fX1_reversed (p0 : Int32) : Int32 := (gX1_reversed p0 7 0)
def fX0_addOrSubtract (p0 p1 p2 : Int32) (lo hi : Nat → Int32) : Int32 × Int32 := if p0 = 0 then (if p0 = 0 then (if 128 ≤ ((hi p1.toNatClampNeg) + (hi p2.toNatClampNeg)) then (if ((lo p1.toNatClampNeg) + (lo p2.toNatClampNeg)) < 128 then (0, 127) else ((((lo p1.toNatClampNeg) + (lo p2.toNatClampNeg)) - 128), (((hi p1.toNatClampNeg) + (hi p2.toNatClampNeg)) - 128))) else (((lo p1.toNatClampNeg) + (lo p2.toNatClampNeg)), ((hi p1.toNatClampNeg) + (hi p2.toNatClampNeg)))) else (if 128 ≤ (((hi p1.toNatClampNeg) - (lo p2.toNatClampNeg)) + 128) then (if ((lo p1.toNatClampNeg) + (lo p2.toNatClampNeg)) < 128 then (0, 127) else ((((lo p1.toNatClampNeg) + (lo p2.toNatClampNeg)) - 128), ((((hi p1.toNatClampNeg) - (lo p2.toNatClampNeg)) + 128) - 128))) else (((lo p1.toNatClampNeg) + (lo p2.toNatClampNeg)), (((hi p1.toNatClampNeg) - (lo p2.toNatClampNeg)) + 128)))) else (if p0 = 0 then (if 128 ≤ ((hi p1.toNatClampNeg) + (hi p2.toNatClampNeg)) then (if (((lo p1.toNatClampNeg) - (hi p2.toNatClampNeg)) + 128) < 128 then (0, 127) else (((((lo p1.toNatClampNeg) - (hi p2.toNatClampNeg)) + 128) - 128), (((hi p1.toNatClampNeg) + (hi p2.toNatClampNeg)) - 128))) else ((((lo p1.toNatClampNeg) - (hi p2.toNatClampNeg)) + 128), ((hi p1.toNatClampNeg) + (hi p2.toNatClampNeg)))) else (if 128 ≤ (((hi p1.toNatClampNeg) - (lo p2.toNatClampNeg)) + 128) then (if (((lo p1.toNatClampNeg) - (hi p2.toNatClampNeg)) + 128) < 128 then (0, 127) else (((((lo p1.toNatClampNeg) - (hi p2.toNatClampNeg)) + 128) - 128), ((((hi p1.toNatClampNeg) - (lo p2.toNatClampNeg)) + 128) - 128))) else ((((lo p1.toNatClampNeg) - (hi p2.toNatClampNeg)) + 128), (((hi p1.toNatClampNeg) - (lo p2.toNatClampNeg)) + 128))))
def fX0_multiplyOrDivide (p0 p1 p2 : Int32) (lo hi : Nat → Int32) : Int32 × Int32 := if p0 = 5 then ((((lo p1.toNatClampNeg) * (lo p2.toNatClampNeg)) >>> (7 &&& 31)), (((hi p1.toNatClampNeg) * (hi p2.toNatClampNeg)) >>> (7 &&& 31))) else (if (hi p2.toNatClampNeg) = 0 then (127, 127) else (if (lo p2.toNatClampNeg) ≤ 0 then (((lo p1.toNatClampNeg) / (hi p2.toNatClampNeg)), 127) else (((lo p1.toNatClampNeg) / (hi p2.toNatClampNeg)), ((hi p1.toNatClampNeg) / (lo p2.toNatClampNeg)))))
def fX0_distance (p0 p1 : Int32) (lo hi : Nat → Int32) : Int32 × Int32 := ((fX0_greater (fX0_greater ((lo p0.toNatClampNeg) - (hi p1.toNatClampNeg)) ((lo p1.toNatClampNeg) - (hi p0.toNatClampNeg))) 0), (fX0_greater ((hi p0.toNatClampNeg) - (lo p1.toNatClampNeg)) ((hi p1.toNatClampNeg) - (lo p0.toNatClampNeg))))
def fX0_compareEnds (p0 p1 p2 : Int32) (lo hi : Nat → Int32) : Int32 × Int32 := if p0 = 9 then ((fX0_lesser (lo p1.toNatClampNeg) (lo p2.toNatClampNeg)), (fX0_greater (hi p1.toNatClampNeg) (hi p2.toNatClampNeg))) else (if p0 = 10 then ((fX0_greater (lo p1.toNatClampNeg) (lo p2.toNatClampNeg)), (fX0_lesser (hi p1.toNatClampNeg) (hi p2.toNatClampNeg))) else ((fX0_greater (lo p1.toNatClampNeg) (lo p2.toNatClampNeg)), (fX0_greater (hi p1.toNatClampNeg) (hi p2.toNatClampNeg))))
def fX0_doubled (p0 p1 : Int32) : Int32 × Int32 := if 64 ≤ p1 then (if p0 < 64 then (0, 126) else (((2 * p0) - 128), ((2 * p1) - 128))) else ((2 * p0), (2 * p1))
def fX0_bitwise (p0 p1 p2 p3 p4 : Int32) : Int32 × Int32 := if p0 = 3 then ((fX0_leastOr p1 p2 p3 p4), (fX0_greatestOr p1 p2 p3 p4)) else (if p0 = 2 then ((127 - (fX0_greatestOr (127 - p2) (127 - p1) (127 - p4) (127 - p3))), (127 - (fX0_leastOr (127 - p2) (127 - p1) (127 - p4) (127 - p3)))) else ((fX0_leastXor p1 p2 p3 p4), (fX0_greatestXor p1 p2 p3 p4)))
def gX0_countOnes (p0 p1 : Int32) : Nat → Int32 → Int32 → Int32 × Int32
  | 0, v3, v4 => (v3, v4)
  | n + 1, v3, v4 => if (p0 &&& (bitv (n + 1))) = 0 then (if p1 < (fX0_raised p0 (bitv (n + 1))) then (if (p1 &&& (bitv (n + 1))) = 0 then (gX0_countOnes p0 p1 n v3 v4) else (if (fX0_lowered p1 (bitv (n + 1))) < p0 then (gX0_countOnes p0 p1 n v3 v4) else (gX0_countOnes p0 p1 n v3 (fX0_greater v4 (fX0_ones (fX0_lowered p1 (bitv (n + 1)))))))) else (if (p1 &&& (bitv (n + 1))) = 0 then (gX0_countOnes p0 p1 n (fX0_lesser v3 (fX0_ones (fX0_raised p0 (bitv (n + 1))))) v4) else (if (fX0_lowered p1 (bitv (n + 1))) < p0 then (gX0_countOnes p0 p1 n (fX0_lesser v3 (fX0_ones (fX0_raised p0 (bitv (n + 1))))) v4) else (gX0_countOnes p0 p1 n (fX0_lesser v3 (fX0_ones (fX0_raised p0 (bitv (n + 1))))) (fX0_greater v4 (fX0_ones (fX0_lowered p1 (bitv (n + 1))))))))) else (if (p1 &&& (bitv (n + 1))) = 0 then (gX0_countOnes p0 p1 n v3 v4) else (if (fX0_lowered p1 (bitv (n + 1))) < p0 then (gX0_countOnes p0 p1 n v3 v4) else (gX0_countOnes p0 p1 n v3 (fX0_greater v4 (fX0_ones (fX0_lowered p1 (bitv (n + 1))))))))
def fX0_countOnes (p0 p1 : Int32) : Int32 × Int32 := (gX0_countOnes p0 p1 7 (fX0_ones p0) (fX0_ones p1))
def fX0_set (p0 p1 p2 : Int32) (lo hi : Nat → Int32) (x y : Int32) : Int32 × (Nat → Int32) × (Nat → Int32) × Int32 × Int32 := if (fX0_isRegister p0) = 0 then ((-1), lo, hi, x, y) else (if p1 < 0 then ((-1), lo, hi, x, y) else (if p2 < p1 then ((-1), lo, hi, x, y) else (if p2 ≤ 127 then (0, (upd lo p0.toNatClampNeg p1), (upd hi p0.toNatClampNeg p2), x, y) else ((-1), lo, hi, x, y))))
def fX0_combine (p0 p1 p2 p3 : Int32) (lo hi : Nat → Int32) (x y : Int32) : Int32 × (Nat → Int32) × (Nat → Int32) × Int32 × Int32 := if (fX0_isRegister p0) = 0 then ((-1), lo, hi, x, y) else (if (fX0_isRegister p2) = 0 then ((-1), lo, hi, x, y) else (if (fX0_isRegister p3) = 0 then ((-1), lo, hi, x, y) else (if p1 < 0 then ((-1), lo, hi, x, y) else (if p1 ≤ 10 then (if 1 < p1 then (if 4 < p1 then (if 6 < p1 then (if p1 = 8 then (if ((fX0_distance p2 p3 lo hi).1) ≤ ((fX0_distance p2 p3 lo hi).2) then (0, (upd lo p0.toNatClampNeg ((fX0_distance p2 p3 lo hi).1)), (upd hi p0.toNatClampNeg ((fX0_distance p2 p3 lo hi).2)), (fX0_distance p2 p3 lo hi).1, (fX0_distance p2 p3 lo hi).2) else ((-2), lo, hi, (fX0_distance p2 p3 lo hi).1, (fX0_distance p2 p3 lo hi).2)) else (if ((fX0_compareEnds p1 p2 p3 lo hi).1) ≤ ((fX0_compareEnds p1 p2 p3 lo hi).2) then (0, (upd lo p0.toNatClampNeg ((fX0_compareEnds p1 p2 p3 lo hi).1)), (upd hi p0.toNatClampNeg ((fX0_compareEnds p1 p2 p3 lo hi).2)), (fX0_compareEnds p1 p2 p3 lo hi).1, (fX0_compareEnds p1 p2 p3 lo hi).2) else ((-2), lo, hi, (fX0_compareEnds p1 p2 p3 lo hi).1, (fX0_compareEnds p1 p2 p3 lo hi).2))) else (if ((fX0_multiplyOrDivide p1 p2 p3 lo hi).1) ≤ ((fX0_multiplyOrDivide p1 p2 p3 lo hi).2) then (0, (upd lo p0.toNatClampNeg ((fX0_multiplyOrDivide p1 p2 p3 lo hi).1)), (upd hi p0.toNatClampNeg ((fX0_multiplyOrDivide p1 p2 p3 lo hi).2)), (fX0_multiplyOrDivide p1 p2 p3 lo hi).1, (fX0_multiplyOrDivide p1 p2 p3 lo hi).2) else ((-2), lo, hi, (fX0_multiplyOrDivide p1 p2 p3 lo hi).1, (fX0_multiplyOrDivide p1 p2 p3 lo hi).2))) else (if ((fX0_bitwise p1 (lo p2.toNatClampNeg) (hi p2.toNatClampNeg) (lo p3.toNatClampNeg) (hi p3.toNatClampNeg)).1) ≤ ((fX0_bitwise p1 (lo p2.toNatClampNeg) (hi p2.toNatClampNeg) (lo p3.toNatClampNeg) (hi p3.toNatClampNeg)).2) then (0, (upd lo p0.toNatClampNeg ((fX0_bitwise p1 (lo p2.toNatClampNeg) (hi p2.toNatClampNeg) (lo p3.toNatClampNeg) (hi p3.toNatClampNeg)).1)), (upd hi p0.toNatClampNeg ((fX0_bitwise p1 (lo p2.toNatClampNeg) (hi p2.toNatClampNeg) (lo p3.toNatClampNeg) (hi p3.toNatClampNeg)).2)), (fX0_bitwise p1 (lo p2.toNatClampNeg) (hi p2.toNatClampNeg) (lo p3.toNatClampNeg) (hi p3.toNatClampNeg)).1, (fX0_bitwise p1 (lo p2.toNatClampNeg) (hi p2.toNatClampNeg) (lo p3.toNatClampNeg) (hi p3.toNatClampNeg)).2) else ((-2), lo, hi, (fX0_bitwise p1 (lo p2.toNatClampNeg) (hi p2.toNatClampNeg) (lo p3.toNatClampNeg) (hi p3.toNatClampNeg)).1, (fX0_bitwise p1 (lo p2.toNatClampNeg) (hi p2.toNatClampNeg) (lo p3.toNatClampNeg) (hi p3.toNatClampNeg)).2))) else (if ((fX0_addOrSubtract p1 p2 p3 lo hi).1) ≤ ((fX0_addOrSubtract p1 p2 p3 lo hi).2) then (0, (upd lo p0.toNatClampNeg ((fX0_addOrSubtract p1 p2 p3 lo hi).1)), (upd hi p0.toNatClampNeg ((fX0_addOrSubtract p1 p2 p3 lo hi).2)), (fX0_addOrSubtract p1 p2 p3 lo hi).1, (fX0_addOrSubtract p1 p2 p3 lo hi).2) else ((-2), lo, hi, (fX0_addOrSubtract p1 p2 p3 lo hi).1, (fX0_addOrSubtract p1 p2 p3 lo hi).2))) else ((-1), lo, hi, x, y)))))
def fX0_apply (p0 p1 p2 : Int32) (lo hi : Nat → Int32) (x y : Int32) : Int32 × (Nat → Int32) × (Nat → Int32) × Int32 × Int32 := if (fX0_isRegister p0) = 0 then ((-1), lo, hi, x, y) else (if (fX0_isRegister p2) = 0 then ((-1), lo, hi, x, y) else (if p1 < 0 then ((-1), lo, hi, x, y) else (if p1 ≤ 4 then (if p1 = 0 then (0, (upd lo p0.toNatClampNeg (127 - (hi p2.toNatClampNeg))), (upd hi p0.toNatClampNeg (127 - (lo p2.toNatClampNeg))), (127 - (hi p2.toNatClampNeg)), (127 - (lo p2.toNatClampNeg))) else (if p1 = 1 then (0, (upd lo p0.toNatClampNeg ((fX0_countOnes (lo p2.toNatClampNeg) (hi p2.toNatClampNeg)).1)), (upd hi p0.toNatClampNeg ((fX0_countOnes (lo p2.toNatClampNeg) (hi p2.toNatClampNeg)).2)), (fX0_countOnes (lo p2.toNatClampNeg) (hi p2.toNatClampNeg)).1, (fX0_countOnes (lo p2.toNatClampNeg) (hi p2.toNatClampNeg)).2) else (if p1 = 2 then (0, (upd lo p0.toNatClampNeg (fX0_reversed (lo p2.toNatClampNeg) (hi p2.toNatClampNeg) 0)), (upd hi p0.toNatClampNeg (fX0_reversed (lo p2.toNatClampNeg) (hi p2.toNatClampNeg) 1)), (fX0_reversed (lo p2.toNatClampNeg) (hi p2.toNatClampNeg) 0), (fX0_reversed (lo p2.toNatClampNeg) (hi p2.toNatClampNeg) 1)) else (if p1 = 3 then (0, (upd lo p0.toNatClampNeg (fX0_rootOf (lo p2.toNatClampNeg))), (upd hi p0.toNatClampNeg (fX0_rootOf (hi p2.toNatClampNeg))), (fX0_rootOf (lo p2.toNatClampNeg)), (fX0_rootOf (hi p2.toNatClampNeg))) else (0, (upd lo p0.toNatClampNeg ((fX0_doubled (lo p2.toNatClampNeg) (hi p2.toNatClampNeg)).1)), (upd hi p0.toNatClampNeg ((fX0_doubled (lo p2.toNatClampNeg) (hi p2.toNatClampNeg)).2)), (fX0_doubled (lo p2.toNatClampNeg) (hi p2.toNatClampNeg)).1, (fX0_doubled (lo p2.toNatClampNeg) (hi p2.toNatClampNeg)).2))))) else ((-1), lo, hi, x, y))))
def fX0_low (p0 : Int32) (lo hi : Nat → Int32) : Int32 := if (fX0_isRegister p0) = 0 then (-1) else (lo p0.toNatClampNeg)
def fX0_high (p0 : Int32) (lo hi : Nat → Int32) : Int32 := if (fX0_isRegister p0) = 0 then (-1) else (hi p0.toNatClampNeg)
def fX0_less (p0 p1 : Int32) (lo hi : Nat → Int32) : Int32 := if (fX0_isRegister p0) = 0 then (-1) else (if (fX0_isRegister p1) = 0 then (-1) else (if (lo p1.toNatClampNeg) ≤ (hi p0.toNatClampNeg) then (if (lo p0.toNatClampNeg) < (hi p1.toNatClampNeg) then 2 else 0) else 1))
def fX0_apart (p0 p1 : Int32) (lo hi : Nat → Int32) : Int32 := if (fX0_isRegister p0) = 0 then (-1) else (if (fX0_isRegister p1) = 0 then (-1) else ((((fX0_apartUpTo (hi p0.toNatClampNeg) (hi p1.toNatClampNeg)) + (fX0_apartUpTo ((lo p0.toNatClampNeg) - 1) ((lo p1.toNatClampNeg) - 1))) - (fX0_apartUpTo ((lo p0.toNatClampNeg) - 1) (hi p1.toNatClampNeg))) - (fX0_apartUpTo (hi p0.toNatClampNeg) ((lo p1.toNatClampNeg) - 1))))
def fX1_result (p0 : Int32) (x y : Int32) : Int32 × Int32 := if x ≤ p0 then (if p0 ≤ y then (x, y) else (x, p0)) else (if p0 ≤ y then (p0, y) else (p0, p0))
def fX1_pair (p0 p1 p2 : Int32) (x y : Int32) : Int32 × Int32 := if 8 < p0 then (if p0 = 9 then ((fX1_result p2 ((fX1_result p1 x y).1) ((fX1_result p1 x y).2)).1, (fX1_result p2 ((fX1_result p1 x y).1) ((fX1_result p1 x y).2)).2) else (if p1 = p2 then ((fX1_result p1 x y).1, (fX1_result p1 x y).2) else (x, y))) else ((fX1_result (fX1_worked p0 p1 p2) x y).1, (fX1_result (fX1_worked p0 p1 p2) x y).2)
def fX1_keep (p0 : Int32) (lo hi : Nat → Int32) (x y : Int32) : Int32 × (Nat → Int32) × (Nat → Int32) × Int32 × Int32 := if x ≤ y then (0, (upd lo p0.toNatClampNeg x), (upd hi p0.toNatClampNeg y), x, y) else ((-2), lo, hi, x, y)
def fX1_set (p0 p1 p2 : Int32) (lo hi : Nat → Int32) (x y : Int32) : Int32 × (Nat → Int32) × (Nat → Int32) × Int32 × Int32 := if (fX1_bad p0) = 0 then (if p1 < 0 then ((-1), lo, hi, x, y) else (if p2 < p1 then ((-1), lo, hi, x, y) else (if p2 ≤ 127 then (0, (upd lo p0.toNatClampNeg p1), (upd hi p0.toNatClampNeg p2), x, y) else ((-1), lo, hi, x, y)))) else ((-1), lo, hi, x, y)
def fX1_low (p0 : Int32) (lo hi : Nat → Int32) : Int32 := if (fX1_bad p0) = 0 then (lo p0.toNatClampNeg) else (-1)
def fX1_high (p0 : Int32) (lo hi : Nat → Int32) : Int32 := if (fX1_bad p0) = 0 then (hi p0.toNatClampNeg) else (-1)
def gX1_root (p0 : Int32) : Nat → Int32
  | 0 => if p0 < (((kup12 0) + 1) * ((kup12 0) + 1)) then (kup12 0) else (kup12 0)
  | n + 1 => if p0 < (((kup12 (n + 1)) + 1) * ((kup12 (n + 1)) + 1)) then (kup12 (n + 1)) else (gX1_root p0 n)
def fX1_root (p0 : Int32) : Int32 := (gX1_root p0 12)
def fX1_single (p0 p1 : Int32) : Int32 := if p0 = 0 then (127 - p1) else (if p0 = 1 then (fX1_ones p1) else (if p0 = 2 then (fX1_reversed p1) else (if p0 = 3 then (fX1_root p1) else ((2 * p1) - (2 * p1) / 128 * 128))))
def gX1_apply (p0 p1 p2 : Int32) (lo hi : Nat → Int32) : Nat → Nat → Int32 → Int32 → Int32 × (Nat → Int32) × (Nat → Int32) × Int32 × Int32
  | 0, i, x, y => ((fX1_keep p0 lo hi x y).1, (fX1_keep p0 lo hi x y).2.1, (fX1_keep p0 lo hi x y).2.2.1, (fX1_keep p0 lo hi x y).2.2.2.1, (fX1_keep p0 lo hi x y).2.2.2.2)
  | n + 1, i, x, y => (gX1_apply p0 p1 p2 lo hi n (i + 1) ((fX1_result (fX1_single p1 (nI i)) x y).1) ((fX1_result (fX1_single p1 (nI i)) x y).2))
def fX1_apply (p0 p1 p2 : Int32) (lo hi : Nat → Int32) (x y : Int32) (ka kb : Nat) : Int32 × (Nat → Int32) × (Nat → Int32) × Int32 × Int32 := if (fX1_bad p0) = 0 then (if (fX1_bad p2) = 0 then (if p1 < 0 then ((-1), lo, hi, x, y) else (if p1 ≤ 4 then (gX1_apply p0 p1 p2 lo hi (kb + 1 - ka) ka 128 (-1)) else ((-1), lo, hi, x, y))) else ((-1), lo, hi, x, y)) else ((-1), lo, hi, x, y)
def giX1_combine (p0 p1 p2 p3 : Int32) (i : Nat) : Nat → Nat → Int32 → Int32 → Int32 × Int32
  | 0, j, x, y => (x, y)
  | n + 1, j, x, y => (giX1_combine p0 p1 p2 p3 i n (j + 1) ((fX1_pair p1 (nI i) (nI j) x y).1) ((fX1_pair p1 (nI i) (nI j) x y).2))
def gX1_combine (p0 p1 p2 p3 : Int32) (lo hi : Nat → Int32) (k1 k2 : Nat) : Nat → Nat → Int32 → Int32 → Int32 × (Nat → Int32) × (Nat → Int32) × Int32 × Int32
  | 0, i, x, y => ((fX1_keep p0 lo hi x y).1, (fX1_keep p0 lo hi x y).2.1, (fX1_keep p0 lo hi x y).2.2.1, (fX1_keep p0 lo hi x y).2.2.2.1, (fX1_keep p0 lo hi x y).2.2.2.2)
  | n + 1, i, x, y => (gX1_combine p0 p1 p2 p3 lo hi k1 k2 n (i + 1) ((giX1_combine p0 p1 p2 p3 i (k2 + 1 - k1) k1 x y).1) ((giX1_combine p0 p1 p2 p3 i (k2 + 1 - k1) k1 x y).2))
def fX1_combine (p0 p1 p2 p3 : Int32) (lo hi : Nat → Int32) (x y : Int32) (ka kb k1 k2 : Nat) : Int32 × (Nat → Int32) × (Nat → Int32) × Int32 × Int32 := if (fX1_bad p0) = 0 then (if (fX1_bad p2) = 0 then (if (fX1_bad p3) = 0 then (if p1 < 0 then ((-1), lo, hi, x, y) else (if p1 ≤ 10 then (gX1_combine p0 p1 p2 p3 lo hi k1 k2 (kb + 1 - ka) ka 128 (-1)) else ((-1), lo, hi, x, y))) else ((-1), lo, hi, x, y)) else ((-1), lo, hi, x, y)) else ((-1), lo, hi, x, y)
def giX1_less (p0 p1 : Int32) (i : Nat) : Nat → Nat → Int32 → Int32 → Int32 × Int32
  | 0, j, v3, v4 => (v3, v4)
  | n + 1, j, v3, v4 => if (nI j) ≤ (nI i) then (giX1_less p0 p1 i n (j + 1) 0 v4) else (giX1_less p0 p1 i n (j + 1) v3 1)
def gX1_less (p0 p1 : Int32) (lo hi : Nat → Int32) (k1 k2 : Nat) : Nat → Nat → Int32 → Int32 → Int32
  | 0, i, v3, v4 => if v3 = 0 then (if v4 = 0 then 0 else 2) else 1
  | n + 1, i, v3, v4 => (gX1_less p0 p1 lo hi k1 k2 n (i + 1) ((giX1_less p0 p1 i (k2 + 1 - k1) k1 v3 v4).1) ((giX1_less p0 p1 i (k2 + 1 - k1) k1 v3 v4).2))
def fX1_less (p0 p1 : Int32) (lo hi : Nat → Int32) (ka kb k1 k2 : Nat) : Int32 := if (fX1_bad p0) = 0 then (if (fX1_bad p1) = 0 then (gX1_less p0 p1 lo hi k1 k2 (kb + 1 - ka) ka 1 0) else (-1)) else (-1)
def giX1_apart (p0 p1 : Int32) (i : Nat) : Nat → Nat → Int32 → Int32
  | 0, j, v3 => v3
  | n + 1, j, v3 => if ((nI i) &&& (nI j)) = 0 then (giX1_apart p0 p1 i n (j + 1) (v3 + 1)) else (giX1_apart p0 p1 i n (j + 1) v3)
def gX1_apart (p0 p1 : Int32) (lo hi : Nat → Int32) (k1 k2 : Nat) : Nat → Nat → Int32 → Int32
  | 0, i, v3 => v3
  | n + 1, i, v3 => (gX1_apart p0 p1 lo hi k1 k2 n (i + 1) (giX1_apart p0 p1 i (k2 + 1 - k1) k1 v3))
def fX1_apart (p0 p1 : Int32) (lo hi : Nat → Int32) (ka kb k1 k2 : Nat) : Int32 := if (fX1_bad p0) = 0 then (if (fX1_bad p1) = 0 then (gX1_apart p0 p1 lo hi k1 k2 (kb + 1 - ka) ka 0) else (-1)) else (-1)
theorem nI_inc (i : Nat) : nI i + Int32.ofInt 1 = nI (i + 1) := nI_1 i
theorem kupr_t : ∀ n, n < 12 → ¬ (12 : Int32) ≤ kup12 (n + 1) := by decide +kernel
theorem kupr_s : ∀ n, n < 12 → kup12 (n + 1) + Int32.ofInt 1 = kup12 n := by decide +kernel
theorem isReg_in {x : Int32} (h : ¬ fX0_isRegister x = 0) : vp_in x 6 := by
  unfold fX0_isRegister at h
  by_cases h1 : x < 0
  · rw [if_pos h1] at h; exact absurd rfl h
  · rw [if_neg h1] at h
    by_cases h2 : 5 < x
    · rw [if_pos h2] at h; exact absurd rfl h
    · have h3 : x ≤ 5 := Int32.not_lt.mp h2
      obtain ⟨j, hj, rfl⟩ := nI_of2 (n := 5) (by decide) h1 h3
      exact vp_in_nI (by omega) (by decide)
theorem bad_in {x : Int32} (h : fX1_bad x = 0) : vp_in x 6 := by
  unfold fX1_bad at h
  by_cases h1 : x < 0
  · rw [if_pos h1] at h; exact absurd h (by decide)
  · rw [if_neg h1] at h
    by_cases h2 : x ≤ 5
    · obtain ⟨j, hj, rfl⟩ := nI_of2 (n := 5) (by decide) h1 h2
      exact vp_in_nI (by omega) (by decide)
    · rw [if_neg h2] at h; exact absurd h (by decide)
end
section
/-! bits of small numbers -/
def bt (x : Int32) (i : Nat) : Bool := x.toBitVec.getLsbD i
theorem b_and (x y : Int32) (i : Nat) : bt (x &&& y) i = (bt x i && bt y i) := by unfold bt; rw [Int32.toBitVec_and, BitVec.getLsbD_and]
theorem b_xor (x y : Int32) (i : Nat) : bt (x ^^^ y) i = (bt x i ^^ bt y i) := by unfold bt; rw [Int32.toBitVec_xor, BitVec.getLsbD_xor]
theorem b_m1 : ∀ i, i < 32 → bt (-1) i = true := by decide +kernel
theorem nx_and (a b : Nat) : nI a &&& nI b = nI (a &&& b) := by
  apply Int32.toBitVec_inj.1
  show BitVec.ofNat 32 a &&& BitVec.ofNat 32 b = BitVec.ofNat 32 (a &&& b)
  apply BitVec.eq_of_getLsbD_eq
  intro i hi
  simp [hi]
theorem nx_or (a b : Nat) : nI a ||| nI b = nI (a ||| b) := by
  apply Int32.toBitVec_inj.1
  show BitVec.ofNat 32 a ||| BitVec.ofNat 32 b = BitVec.ofNat 32 (a ||| b)
  apply BitVec.eq_of_getLsbD_eq
  intro i hi
  simp [hi]
theorem nx_xor (a b : Nat) : nI a ^^^ nI b = nI (a ^^^ b) := by
  apply Int32.toBitVec_inj.1
  show BitVec.ofNat 32 a ^^^ BitVec.ofNat 32 b = BitVec.ofNat 32 (a ^^^ b)
  apply BitVec.eq_of_getLsbD_eq
  intro i hi
  simp [hi]
theorem bitv_tp : ∀ n, n < 7 → (bitv (n + 1)).toBitVec = BitVec.twoPow 32 n := by decide +kernel
theorem tp_nz : ∀ l, l < 7 → BitVec.twoPow 32 l ≠ 0#32 := by decide +kernel
theorem bz (x : Int32) {n : Nat} (hn : n < 7) : (x &&& bitv (n + 1)) = 0 ↔ bt x n = false := by
  rw [← Int32.toBitVec_inj, Int32.toBitVec_and, bitv_tp n hn, BitVec.and_twoPow]
  show _ = 0#32 ↔ x.toBitVec.getLsbD n = false
  cases hb : x.toBitVec.getLsbD n
  · exact ⟨fun _ => rfl, fun _ => by simp⟩
  · exact ⟨fun z => absurd ((if_pos rfl).symm.trans z) (tp_nz n hn), fun z => by cases z⟩
theorem bt_nI (x : Nat) {n : Nat} (hn : n < 7) : bt (nI x) n = decide (x / 2 ^ n % 2 = 1) := by
  show (BitVec.ofNat 32 x).getLsbD n = _
  rw [BitVec.getLsbD_ofNat, Nat.testBit_eq_decide_div_mod_eq]
  simp [show n < 32 by omega]
theorem t_b {a n : Nat} (hn : n < 7) : (nI a &&& bitv (n + 1)) = 0 ↔ a / 2 ^ n % 2 = 0 := by
  rw [bz _ hn, bt_nI _ hn, decide_eq_false_iff_not]
  omega
theorem t_bb {a c n : Nat} (hn : n < 7) : ((nI a &&& nI c) &&& bitv (n + 1)) = 0 ↔ ¬ (a / 2 ^ n % 2 = 1 ∧ c / 2 ^ n % 2 = 1) := by
  rw [bz _ hn, b_and, bt_nI _ hn, bt_nI _ hn]
  by_cases h1 : a / 2 ^ n % 2 = 1 <;> by_cases h2 : c / 2 ^ n % 2 = 1 <;> simp [h1, h2]
theorem t_lo {a c n : Nat} (hn : n < 7) : (((nI a ^^^ (-1)) &&& nI c) &&& bitv (n + 1)) = 0 ↔ ¬ (a / 2 ^ n % 2 = 0 ∧ c / 2 ^ n % 2 = 1) := by
  rw [bz _ hn, b_and, b_xor, b_m1 n (by omega), bt_nI _ hn, bt_nI _ hn]
  have h := Nat.mod_two_eq_zero_or_one (a / 2 ^ n)
  rcases h with h1 | h1 <;> by_cases h2 : c / 2 ^ n % 2 = 1 <;> simp [h1, h2]
theorem t_hi {a c n : Nat} (hn : n < 7) : ((nI a &&& (nI c ^^^ (-1))) &&& bitv (n + 1)) = 0 ↔ ¬ (a / 2 ^ n % 2 = 1 ∧ c / 2 ^ n % 2 = 0) := by
  rw [bz _ hn, b_and, b_xor, b_m1 n (by omega), bt_nI _ hn, bt_nI _ hn]
  have h := Nat.mod_two_eq_zero_or_one (c / 2 ^ n)
  rcases h with h1 | h1 <;> by_cases h2 : a / 2 ^ n % 2 = 1 <;> simp [h1, h2]
theorem raised_eq : ∀ n, n < 7 → ∀ x, x < 128 → x / 2 ^ n % 2 = 0 → fX0_raised (nI x) (bitv (n + 1)) = nI ((x / 2 ^ n + 1) * 2 ^ n) := by decide +kernel
theorem raised_lt : ∀ n, n < 7 → ∀ x, x < 128 → x / 2 ^ n % 2 = 0 → (x / 2 ^ n + 1) * 2 ^ n < 128 := by decide +kernel
theorem lowered_eq : ∀ n, n < 7 → ∀ x, x < 128 → x / 2 ^ n % 2 = 1 → fX0_lowered (nI x) (bitv (n + 1)) = nI ((x / 2 ^ n - 1) * 2 ^ n + (2 ^ n - 1)) := by decide +kernel
theorem lowered_lt : ∀ n, n < 7 → ∀ x, x < 128 → x / 2 ^ n % 2 = 1 → (x / 2 ^ n - 1) * 2 ^ n + (2 ^ n - 1) < 128 := by decide +kernel
theorem dvS (x n : Nat) : x / 2 ^ (n + 1) = x / 2 ^ n / 2 := by rw [Nat.pow_succ, Nat.div_div_eq_div_mul]
theorem le_dm {r z P : Nat} (h : r / P = z / P) (h2 : r % P ≤ z % P) : r ≤ z := by
  have h3 := Nat.div_add_mod r P
  have h4 := Nat.div_add_mod z P
  rw [h] at h3
  omega
theorem lt_dv {r z P : Nat} (h : r / P < z / P) : r < z := by
  rcases Nat.lt_or_ge r z with q | q
  · exact q
  · exact absurd (Nat.div_le_div_right (c := P) q) (by omega)
theorem mod_le_of {x z P : Nat} (h : x / P = z / P) (h2 : x ≤ z) : x % P ≤ z % P := by
  have h3 := Nat.div_add_mod x P
  have h4 := Nat.div_add_mod z P
  rw [h] at h3
  omega
theorem le_full {r z P : Nat} (hP : 0 < P) (h : z / P ≤ r / P) (h2 : P ≤ r % P + 1) : z ≤ r := by
  have h3 := Nat.div_add_mod r P
  have h4 := Nat.div_add_mod z P
  have h5 := Nat.mod_lt z hP
  have h6 := Nat.mul_le_mul_left P h
  omega
theorem up_dv (A : Nat) {P : Nat} (hP : 0 < P) : A * P / P = A := Nat.mul_div_cancel A hP
theorem up_md (A P : Nat) : A * P % P = 0 := Nat.mul_mod_left A P
theorem lt_up (a : Nat) {P : Nat} (hP : 0 < P) : a < (a / P + 1) * P := by
  rw [Nat.mul_comm]
  exact Nat.lt_mul_div_succ a hP
theorem up_le {x k P : Nat} (h : x / P = k) : k * P ≤ x := by rw [← h]; exact Nat.div_mul_le_self x P
theorem dn_dv (B : Nat) {P : Nat} (hP : 0 < P) : (B * P + (P - 1)) / P = B := by
  refine Nat.div_eq_of_lt_le (by omega) ?_
  rw [Nat.add_mul, Nat.one_mul]
  omega
theorem dn_md (B : Nat) {P : Nat} (hP : 0 < P) : (B * P + (P - 1)) % P = P - 1 := by
  have h := Nat.div_add_mod (B * P + (P - 1)) P
  rw [dn_dv B hP, Nat.mul_comm P B] at h
  omega
theorem le_dn {x B P : Nat} (hP : 0 < P) (h : x / P = B) : x ≤ B * P + (P - 1) := by
  have h3 := Nat.div_add_mod x P
  have h5 := Nat.mod_lt x hP
  rw [h, Nat.mul_comm] at h3
  omega
theorem odd_pos {B : Nat} (h : B % 2 = 1) : ∃ k, B = k + 1 := ⟨B - 1, by omega⟩
theorem dn_lt {b P : Nat} (hP : 0 < P) (h : b / P % 2 = 1) : (b / P - 1) * P + (P - 1) < b := by
  have h3 := Nat.div_add_mod b P
  obtain ⟨k, hk⟩ := odd_pos h
  rw [hk] at h3 ⊢
  rw [Nat.add_sub_cancel]
  rw [Nat.mul_comm, Nat.add_mul, Nat.one_mul] at h3
  omega
/-! parity of or, xor -/
theorem or_odd {X Y C : Nat} (h : X / 2 = Y / 2) (hc : C % 2 = 1) : X ||| C = Y ||| C := by
  have h1 : (X ||| C) / 2 = (Y ||| C) / 2 := by rw [Nat.or_div_two, Nat.or_div_two, h]
  have h2 : (X ||| C) % 2 = 1 := Nat.or_mod_two_eq_one.mpr (Or.inr hc)
  have h3 : (Y ||| C) % 2 = 1 := Nat.or_mod_two_eq_one.mpr (Or.inr hc)
  omega
theorem or_lt {A C X Y : Nat} (hX : X / 2 = A / 2) (hY : Y / 2 = C / 2) (hA : A % 2 = 0) (hC : C % 2 = 0) (h : X % 2 = 1 ∨ Y % 2 = 1) : A ||| C < X ||| Y := by
  have h1 : (A ||| C) / 2 = (X ||| Y) / 2 := by rw [Nat.or_div_two, Nat.or_div_two, hX, hY]
  have h2 : ¬ (A ||| C) % 2 = 1 := fun q => by rcases Nat.or_mod_two_eq_one.mp q with q | q <;> omega
  have h3 : (X ||| Y) % 2 = 1 := Nat.or_mod_two_eq_one.mpr h
  omega
theorem xor_half {A C X Y : Nat} (hX : X / 2 = A / 2) (hY : Y / 2 = C / 2) : (X ^^^ Y) / 2 = (A ^^^ C) / 2 := by rw [Nat.xor_div_two, Nat.xor_div_two, hX, hY]
theorem xor_o {A C : Nat} (h : A % 2 ≠ C % 2) : (A ^^^ C) % 2 = 1 := Nat.xor_mod_two_eq_one.mpr (by omega)
theorem xor_e {A C : Nat} (h : A % 2 = C % 2) : (A ^^^ C) % 2 = 0 := by
  have h2 : ¬ (A ^^^ C) % 2 = 1 := fun q => (Nat.xor_mod_two_eq_one.mp q) (by omega)
  omega
end
section
/-! the four searches from the highest bit down: what they find -/
theorem up1 {X A : Nat} (h : A ≤ X) (h2 : X / 2 = A / 2) (h3 : A % 2 = 1) : X = A := by omega
theorem up2 {X A : Nat} (h : A ≤ X) (h2 : X / 2 = A / 2) : X = A ∨ X = A + 1 := by omega
theorem dn1 {X B : Nat} (h : X ≤ B) (h2 : X / 2 = B / 2) (h3 : B % 2 = 0) : X = B := by omega
theorem dn2 {X B : Nat} (h : X ≤ B) (h2 : X / 2 = B / 2) (h3 : B % 2 = 1) : X = B ∨ X = B - 1 := by omega
set_option maxHeartbeats 4000000 in
theorem leastOr_spec {a b c d : Nat} (hab : a ≤ b) (hb : b < 128) (hcd : c ≤ d) (hd : d < 128) : ∀ n, n ≤ 7 → ∃ r, gX0_leastOr (nI a) (nI b) (nI c) (nI d) n = nI r ∧ r / 2 ^ n = (a ||| c) / 2 ^ n ∧ (∃ x y, a ≤ x ∧ x ≤ b ∧ c ≤ y ∧ y ≤ d ∧ x ||| y = r) ∧ ∀ x y, a ≤ x → x ≤ b → c ≤ y → y ≤ d → x / 2 ^ n = a / 2 ^ n → y / 2 ^ n = c / 2 ^ n → r ≤ x ||| y := by
  intro n
  induction n with
  | zero =>
    intro _
    refine ⟨a ||| c, by rw [gX0_leastOr, nx_or], rfl, ⟨a, c, Nat.le_refl _, hab, Nat.le_refl _, hcd, rfl⟩, ?_⟩
    intro x y _ _ _ _ h1 h2
    rw [Nat.pow_zero, Nat.div_one, Nat.div_one] at h1 h2
    rw [h1, h2]
    exact Nat.le_refl _
  | succ n ih =>
    intro hn
    obtain ⟨r, e, hpre, hach, hbd⟩ := ih (by omega)
    have hn7 : n < 7 := hn
    have hP : 0 < 2 ^ n := Nat.two_pow_pos n
    have cont : gX0_leastOr (nI a) (nI b) (nI c) (nI d) (n + 1) = gX0_leastOr (nI a) (nI b) (nI c) (nI d) n → (∀ x y, a ≤ x → x ≤ b → c ≤ y → y ≤ d → x / 2 ^ n / 2 = a / 2 ^ n / 2 → y / 2 ^ n / 2 = c / 2 ^ n / 2 → (x / 2 ^ n = a / 2 ^ n ∧ y / 2 ^ n = c / 2 ^ n) ∨ (a ||| c) / 2 ^ n < (x ||| y) / 2 ^ n) → ∃ r, gX0_leastOr (nI a) (nI b) (nI c) (nI d) (n + 1) = nI r ∧ r / 2 ^ (n + 1) = (a ||| c) / 2 ^ (n + 1) ∧ (∃ x y, a ≤ x ∧ x ≤ b ∧ c ≤ y ∧ y ≤ d ∧ x ||| y = r) ∧ ∀ x y, a ≤ x → x ≤ b → c ≤ y → y ≤ d → x / 2 ^ (n + 1) = a / 2 ^ (n + 1) → y / 2 ^ (n + 1) = c / 2 ^ (n + 1) → r ≤ x ||| y := by
      intro e1 hk
      refine ⟨r, e1.trans e, by rw [dvS, dvS, hpre], hach, ?_⟩
      intro x y h1 h2 h3 h4 h5 h6
      rw [dvS, dvS] at h5 h6
      rcases hk x y h1 h2 h3 h4 h5 h6 with ⟨q1, q2⟩ | q
      · exact hbd x y h1 h2 h3 h4 q1 q2
      · exact Nat.le_of_lt (lt_dv (P := 2 ^ n) (by rw [hpre]; exact q))
    have hAX : ∀ x, a ≤ x → a / 2 ^ n ≤ x / 2 ^ n := fun x h => Nat.div_le_div_right h
    have hCY : ∀ y, c ≤ y → c / 2 ^ n ≤ y / 2 ^ n := fun y h => Nat.div_le_div_right h
    rcases Nat.mod_two_eq_zero_or_one (a / 2 ^ n) with hA | hA <;> rcases Nat.mod_two_eq_zero_or_one (c / 2 ^ n) with hC | hC
    · refine cont ?_ ?_
      · rw [gX0_leastOr, if_pos ((t_lo hn7).mpr (by omega)), if_pos ((t_hi hn7).mpr (by omega))]
      · intro x y h1 h2 h3 h4 h5 h6
        rcases up2 (hAX x h1) h5 with q1 | q1 <;> rcases up2 (hCY y h3) h6 with q2 | q2
        · exact Or.inl ⟨q1, q2⟩
        · refine Or.inr ?_
          rw [Nat.or_div_two_pow, Nat.or_div_two_pow]
          exact or_lt h5 h6 hA hC (Or.inr (by omega))
        · refine Or.inr ?_
          rw [Nat.or_div_two_pow, Nat.or_div_two_pow]
          exact or_lt h5 h6 hA hC (Or.inl (by omega))
        · refine Or.inr ?_
          rw [Nat.or_div_two_pow, Nat.or_div_two_pow]
          exact or_lt h5 h6 hA hC (Or.inl (by omega))
    · have hRe := raised_eq n hn7 a (by omega) hA
      have hRl := raised_lt n hn7 a (by omega) hA
      have hRd := up_dv (a / 2 ^ n + 1) hP
      have hRm := up_md (a / 2 ^ n + 1) (2 ^ n)
      have haR := lt_up a hP
      generalize hR : (a / 2 ^ n + 1) * 2 ^ n = R at hRe hRl hRd hRm haR
      by_cases hbR : b < R
      · refine cont ?_ ?_
        · rw [gX0_leastOr, if_neg (fun q => (t_lo hn7).mp q ⟨hA, hC⟩), hRe, if_pos (nI_lt hbR (by omega))]
        · intro x y h1 h2 h3 h4 h5 h6
          refine Or.inl ⟨?_, up1 (hCY y h3) h6 hC⟩
          rcases up2 (hAX x h1) h5 with q1 | q1
          · exact q1
          · have := up_le q1
            omega
      · refine ⟨R ||| c, ?_, ?_, ⟨R, c, by omega, by omega, Nat.le_refl _, hcd, rfl⟩, ?_⟩
        · rw [gX0_leastOr, if_neg (fun q => (t_lo hn7).mp q ⟨hA, hC⟩), hRe, if_neg (nI_nlt (by omega) (by omega)), nx_or]
        · rw [dvS, dvS, Nat.or_div_two_pow, Nat.or_div_two_pow, hRd, Nat.or_div_two, Nat.or_div_two, show (a / 2 ^ n + 1) / 2 = a / 2 ^ n / 2 by omega]
        · intro x y h1 h2 h3 h4 h5 h6
          rw [dvS, dvS] at h5 h6
          have hY := up1 (hCY y h3) h6 hC
          refine le_dm (P := 2 ^ n) ?_ ?_
          · rw [Nat.or_div_two_pow, Nat.or_div_two_pow, hRd, hY]
            exact or_odd (by omega) hC
          · rw [Nat.or_mod_two_pow, Nat.or_mod_two_pow, hRm, Nat.zero_or]
            exact Nat.le_trans (mod_le_of hY.symm h3) Nat.right_le_or
    · have hRe := raised_eq n hn7 c (by omega) hC
      have hRl := raised_lt n hn7 c (by omega) hC
      have hRd := up_dv (c / 2 ^ n + 1) hP
      have hRm := up_md (c / 2 ^ n + 1) (2 ^ n)
      have haR := lt_up c hP
      generalize hR : (c / 2 ^ n + 1) * 2 ^ n = R at hRe hRl hRd hRm haR
      by_cases hbR : d < R
      · refine cont ?_ ?_
        · rw [gX0_leastOr, if_pos ((t_lo hn7).mpr (by omega)), if_neg (fun q => (t_hi hn7).mp q ⟨hA, hC⟩), hRe, if_pos (nI_lt hbR (by omega))]
        · intro x y h1 h2 h3 h4 h5 h6
          refine Or.inl ⟨up1 (hAX x h1) h5 hA, ?_⟩
          rcases up2 (hCY y h3) h6 with q1 | q1
          · exact q1
          · have := up_le q1
            omega
      · refine ⟨a ||| R, ?_, ?_, ⟨a, R, Nat.le_refl _, hab, by omega, by omega, rfl⟩, ?_⟩
        · rw [gX0_leastOr, if_pos ((t_lo hn7).mpr (by omega)), if_neg (fun q => (t_hi hn7).mp q ⟨hA, hC⟩), hRe, if_neg (nI_nlt (by omega) (by omega)), nx_or]
        · rw [dvS, dvS, Nat.or_div_two_pow, Nat.or_div_two_pow, hRd, Nat.or_div_two, Nat.or_div_two, show (c / 2 ^ n + 1) / 2 = c / 2 ^ n / 2 by omega]
        · intro x y h1 h2 h3 h4 h5 h6
          rw [dvS, dvS] at h5 h6
          have hX := up1 (hAX x h1) h5 hA
          refine le_dm (P := 2 ^ n) ?_ ?_
          · rw [Nat.or_div_two_pow, Nat.or_div_two_pow, hRd, hX, Nat.or_comm, Nat.or_comm (a / 2 ^ n)]
            exact or_odd (by omega) hA
          · rw [Nat.or_mod_two_pow, Nat.or_mod_two_pow, hRm, Nat.or_zero]
            exact Nat.le_trans (mod_le_of hX.symm h1) Nat.left_le_or
    · refine cont ?_ ?_
      · rw [gX0_leastOr, if_pos ((t_lo hn7).mpr (by omega)), if_pos ((t_hi hn7).mpr (by omega))]
      · intro x y h1 h2 h3 h4 h5 h6
        exact Or.inl ⟨up1 (hAX x h1) h5 hA, up1 (hCY y h3) h6 hC⟩
end
section
theorem half_odd {B : Nat} (h : B % 2 = 1) : (B - 1) / 2 = B / 2 := by omega
set_option maxHeartbeats 4000000 in
theorem greatestOr_spec {a b c d : Nat} (hab : a ≤ b) (hb : b < 128) (hcd : c ≤ d) (hd : d < 128) : ∀ n, n ≤ 7 → ∃ r, gX0_greatestOr (nI a) (nI b) (nI c) (nI d) n = nI r ∧ r / 2 ^ n = (b ||| d) / 2 ^ n ∧ (∃ x y, a ≤ x ∧ x ≤ b ∧ c ≤ y ∧ y ≤ d ∧ x ||| y = r) ∧ ∀ x y, a ≤ x → x ≤ b → c ≤ y → y ≤ d → x / 2 ^ n = b / 2 ^ n → y / 2 ^ n = d / 2 ^ n → x ||| y ≤ r := by
  intro n
  induction n with
  | zero =>
    intro _
    refine ⟨b ||| d, by rw [gX0_greatestOr, nx_or], rfl, ⟨b, d, hab, Nat.le_refl _, hcd, Nat.le_refl _, rfl⟩, ?_⟩
    intro x y _ _ _ _ h1 h2
    rw [Nat.pow_zero, Nat.div_one, Nat.div_one] at h1 h2
    rw [h1, h2]
    exact Nat.le_refl _
  | succ n ih =>
    intro hn
    obtain ⟨r, e, hpre, hach, hbd⟩ := ih (by omega)
    have hn7 : n < 7 := hn
    have hP : 0 < 2 ^ n := Nat.two_pow_pos n
    have cont : gX0_greatestOr (nI a) (nI b) (nI c) (nI d) (n + 1) = gX0_greatestOr (nI a) (nI b) (nI c) (nI d) n → (∀ x y, a ≤ x → x ≤ b → c ≤ y → y ≤ d → x / 2 ^ n / 2 = b / 2 ^ n / 2 → y / 2 ^ n / 2 = d / 2 ^ n / 2 → (x / 2 ^ n = b / 2 ^ n ∧ y / 2 ^ n = d / 2 ^ n) ∨ (x ||| y) / 2 ^ n < (b ||| d) / 2 ^ n) → ∃ r, gX0_greatestOr (nI a) (nI b) (nI c) (nI d) (n + 1) = nI r ∧ r / 2 ^ (n + 1) = (b ||| d) / 2 ^ (n + 1) ∧ (∃ x y, a ≤ x ∧ x ≤ b ∧ c ≤ y ∧ y ≤ d ∧ x ||| y = r) ∧ ∀ x y, a ≤ x → x ≤ b → c ≤ y → y ≤ d → x / 2 ^ (n + 1) = b / 2 ^ (n + 1) → y / 2 ^ (n + 1) = d / 2 ^ (n + 1) → x ||| y ≤ r := by
      intro e1 hk
      refine ⟨r, e1.trans e, by rw [dvS, dvS, hpre], hach, ?_⟩
      intro x y h1 h2 h3 h4 h5 h6
      rw [dvS, dvS] at h5 h6
      rcases hk x y h1 h2 h3 h4 h5 h6 with ⟨q1, q2⟩ | q
      · exact hbd x y h1 h2 h3 h4 q1 q2
      · exact Nat.le_of_lt (lt_dv (P := 2 ^ n) (by rw [hpre]; exact q))
    have hXB : ∀ x, x ≤ b → x / 2 ^ n ≤ b / 2 ^ n := fun x h => Nat.div_le_div_right h
    have hYD : ∀ y, y ≤ d → y / 2 ^ n ≤ d / 2 ^ n := fun y h => Nat.div_le_div_right h
    rcases Nat.mod_two_eq_zero_or_one (b / 2 ^ n) with hB | hB <;> rcases Nat.mod_two_eq_zero_or_one (d / 2 ^ n) with hC | hC
    · refine cont ?_ ?_
      · rw [gX0_greatestOr, if_pos ((t_bb hn7).mpr (by omega))]
      · intro x y h1 h2 h3 h4 h5 h6
        exact Or.inl ⟨dn1 (hXB x h2) h5 hB, dn1 (hYD y h4) h6 hC⟩
    · refine cont ?_ ?_
      · rw [gX0_greatestOr, if_pos ((t_bb hn7).mpr (by omega))]
      · intro x y h1 h2 h3 h4 h5 h6
        have q1 := dn1 (hXB x h2) h5 hB
        rcases dn2 (hYD y h4) h6 hC with q2 | q2
        · exact Or.inl ⟨q1, q2⟩
        · refine Or.inr ?_
          rw [Nat.or_div_two_pow, Nat.or_div_two_pow]
          exact or_lt h5.symm h6.symm (by omega) (by omega) (Or.inr hC)
    · refine cont ?_ ?_
      · rw [gX0_greatestOr, if_pos ((t_bb hn7).mpr (by omega))]
      · intro x y h1 h2 h3 h4 h5 h6
        have q2 := dn1 (hYD y h4) h6 hC
        rcases dn2 (hXB x h2) h5 hB with q1 | q1
        · exact Or.inl ⟨q1, q2⟩
        · refine Or.inr ?_
          rw [Nat.or_div_two_pow, Nat.or_div_two_pow]
          exact or_lt h5.symm h6.symm (by omega) (by omega) (Or.inl hB)
    · have hLe := lowered_eq n hn7 b hb hB
      have hLl := lowered_lt n hn7 b hb hB
      have hLd := dn_dv (b / 2 ^ n - 1) hP
      have hLm := dn_md (b / 2 ^ n - 1) hP
      have hLb := dn_lt hP hB
      have hLx : ∀ x, x / 2 ^ n = b / 2 ^ n - 1 → x ≤ (b / 2 ^ n - 1) * 2 ^ n + (2 ^ n - 1) := fun x h => le_dn hP h
      generalize hL : (b / 2 ^ n - 1) * 2 ^ n + (2 ^ n - 1) = Lb at hLe hLl hLd hLm hLb hLx
      have hMe := lowered_eq n hn7 d hd hC
      have hMl := lowered_lt n hn7 d hd hC
      have hMd := dn_dv (d / 2 ^ n - 1) hP
      have hMm := dn_md (d / 2 ^ n - 1) hP
      have hMb := dn_lt hP hC
      have hMx : ∀ x, x / 2 ^ n = d / 2 ^ n - 1 → x ≤ (d / 2 ^ n - 1) * 2 ^ n + (2 ^ n - 1) := fun x h => le_dn hP h
      generalize hM : (d / 2 ^ n - 1) * 2 ^ n + (2 ^ n - 1) = Md at hMe hMl hMd hMm hMb hMx
      have ht : ¬ ((nI b &&& nI d) &&& bitv (n + 1)) = 0 := fun q => (t_bb hn7).mp q ⟨hB, hC⟩
      by_cases hLa : Lb < a
      · by_cases hMc : Md < c
        · refine cont ?_ ?_
          · rw [gX0_greatestOr, if_neg ht, hLe, hMe, if_pos (nI_lt hLa (by omega)), if_pos (nI_lt hMc (by omega))]
          · intro x y h1 h2 h3 h4 h5 h6
            refine Or.inl ⟨?_, ?_⟩
            · rcases dn2 (hXB x h2) h5 hB with q | q
              · exact q
              · have := hLx x q
                omega
            · rcases dn2 (hYD y h4) h6 hC with q | q
              · exact q
              · have := hMx y q
                omega
        · refine ⟨b ||| Md, ?_, ?_, ⟨b, Md, hab, Nat.le_refl _, by omega, by omega, rfl⟩, ?_⟩
          · rw [gX0_greatestOr, if_neg ht, hLe, hMe, if_pos (nI_lt hLa (by omega)), if_neg (nI_nlt (by omega) (by omega)), nx_or]
          · rw [dvS, dvS, Nat.or_div_two_pow, Nat.or_div_two_pow, hMd, Nat.or_div_two, Nat.or_div_two, half_odd hC]
          · intro x y h1 h2 h3 h4 h5 h6
            rw [dvS, dvS] at h5 h6
            refine le_full hP ?_ ?_
            · have e1 : (x ||| y) / 2 ^ n / 2 = (b ||| Md) / 2 ^ n / 2 := by
                rw [Nat.or_div_two_pow, Nat.or_div_two_pow, hMd, Nat.or_div_two, Nat.or_div_two, h5, h6, half_odd hC]
              have e2 : (b ||| Md) / 2 ^ n % 2 = 1 := by
                rw [Nat.or_div_two_pow]
                exact Nat.or_mod_two_eq_one.mpr (Or.inl hB)
              generalize (x ||| y) / 2 ^ n = Z at e1 ⊢
              generalize (b ||| Md) / 2 ^ n = Y at e1 e2 ⊢
              omega
            · rw [Nat.or_mod_two_pow, hMm]
              have := @Nat.right_le_or (b % 2 ^ n) (2 ^ n - 1)
              omega
      · refine ⟨Lb ||| d, ?_, ?_, ⟨Lb, d, by omega, by omega, hcd, Nat.le_refl _, rfl⟩, ?_⟩
        · rw [gX0_greatestOr, if_neg ht, hLe, if_neg (nI_nlt (by omega) (by omega)), nx_or]
        · rw [dvS, dvS, Nat.or_div_two_pow, Nat.or_div_two_pow, hLd, Nat.or_div_two, Nat.or_div_two, half_odd hB]
        · intro x y h1 h2 h3 h4 h5 h6
          rw [dvS, dvS] at h5 h6
          refine le_full hP ?_ ?_
          · have e1 : (x ||| y) / 2 ^ n / 2 = (Lb ||| d) / 2 ^ n / 2 := by
              rw [Nat.or_div_two_pow, Nat.or_div_two_pow, hLd, Nat.or_div_two, Nat.or_div_two, h5, h6, half_odd hB]
            have e2 : (Lb ||| d) / 2 ^ n % 2 = 1 := by
              rw [Nat.or_div_two_pow]
              exact Nat.or_mod_two_eq_one.mpr (Or.inr hC)
            generalize (x ||| y) / 2 ^ n = Z at e1 ⊢
            generalize (Lb ||| d) / 2 ^ n = Y at e1 e2 ⊢
            omega
          · rw [Nat.or_mod_two_pow, hLm]
            have := @Nat.left_le_or (2 ^ n - 1) (d % 2 ^ n)
            omega
end
section
theorem le_dmx {r z P : Nat} (h : r / P / 2 = z / P / 2) (h1 : r / P % 2 = 0) (h2 : z / P % 2 = 1) : r < z := by
  refine lt_dv (P := P) ?_
  generalize r / P = A at h h1 ⊢
  generalize z / P = B at h h2 ⊢
  omega
set_option maxHeartbeats 4000000 in
theorem leastXor_spec {b d : Nat} (p0 p2 : Int32) (hb : b < 128) (hd : d < 128) : ∀ n, n ≤ 7 → ∀ u v, u ≤ b → v ≤ d → ∃ r, gX0_leastXor p0 (nI b) p2 (nI d) n (nI u) (nI v) = nI r ∧ r / 2 ^ n = (u ^^^ v) / 2 ^ n ∧ (∃ x y, u ≤ x ∧ x ≤ b ∧ v ≤ y ∧ y ≤ d ∧ x ^^^ y = r) ∧ ∀ x y, u ≤ x → x ≤ b → v ≤ y → y ≤ d → x / 2 ^ n = u / 2 ^ n → y / 2 ^ n = v / 2 ^ n → r ≤ x ^^^ y := by
  intro n
  induction n with
  | zero =>
    intro _ u v hu hv
    refine ⟨u ^^^ v, by rw [gX0_leastXor, nx_xor], rfl, ⟨u, v, Nat.le_refl _, hu, Nat.le_refl _, hv, rfl⟩, ?_⟩
    intro x y _ _ _ _ h1 h2
    rw [Nat.pow_zero, Nat.div_one, Nat.div_one] at h1 h2
    rw [h1, h2]
    exact Nat.le_refl _
  | succ n ih =>
    intro hn u v hu hv
    have hn7 : n < 7 := hn
    have hP : 0 < 2 ^ n := Nat.two_pow_pos n
    have hUX : ∀ x, u ≤ x → u / 2 ^ n ≤ x / 2 ^ n := fun x h => Nat.div_le_div_right h
    have hVY : ∀ y, v ≤ y → v / 2 ^ n ≤ y / 2 ^ n := fun y h => Nat.div_le_div_right h
    rcases Nat.mod_two_eq_zero_or_one (u / 2 ^ n) with hA | hA <;> rcases Nat.mod_two_eq_zero_or_one (v / 2 ^ n) with hC | hC
    · obtain ⟨r, e, hpre, ⟨x0, y0, hach⟩, hbd⟩ := ih (by omega) u v hu hv
      refine ⟨r, ?_, by rw [dvS, dvS, hpre], ⟨x0, y0, hach⟩, ?_⟩
      · rw [gX0_leastXor, if_pos ((t_lo hn7).mpr (by omega)), if_pos ((t_hi hn7).mpr (by omega)), e]
      · intro x y h1 h2 h3 h4 h5 h6
        rw [dvS, dvS] at h5 h6
        have hre : r / 2 ^ n % 2 = 0 := by rw [hpre, Nat.xor_div_two_pow]; exact xor_e (by omega)
        have hh : r / 2 ^ n / 2 = (x ^^^ y) / 2 ^ n / 2 := by rw [hpre, Nat.xor_div_two_pow, Nat.xor_div_two_pow]; exact (xor_half h5 h6).symm
        rcases up2 (hUX x h1) h5 with q1 | q1 <;> rcases up2 (hVY y h3) h6 with q2 | q2
        · exact hbd x y h1 h2 h3 h4 q1 q2
        · exact Nat.le_of_lt (le_dmx hh hre (by rw [Nat.xor_div_two_pow]; exact xor_o (by omega)))
        · exact Nat.le_of_lt (le_dmx hh hre (by rw [Nat.xor_div_two_pow]; exact xor_o (by omega)))
        · -- both numbers have left their lower ends: equal low parts are free
          have hux := up_le q1
          have hvy := up_le q2
          obtain ⟨w, hw, hw1, hw2⟩ : ∃ w, w < 2 ^ n ∧ u % 2 ^ n ≤ w ∧ v % 2 ^ n ≤ w := by
            have g1 := Nat.mod_lt u hP
            have g2 := Nat.mod_lt v hP
            rcases Nat.le_total (u % 2 ^ n) (v % 2 ^ n) with h | h
            · exact ⟨v % 2 ^ n, g2, h, Nat.le_refl _⟩
            · exact ⟨u % 2 ^ n, g1, Nat.le_refl _, h⟩
          have hu3 := Nat.div_add_mod u (2 ^ n)
          have hv3 := Nat.div_add_mod v (2 ^ n)
          rw [Nat.add_mul, Nat.one_mul] at hux hvy
          rw [Nat.mul_comm] at hu3 hv3
          have dU : (u / 2 ^ n * 2 ^ n + w) / 2 ^ n = u / 2 ^ n := Nat.div_eq_of_lt_le (by omega) (by rw [Nat.add_mul, Nat.one_mul]; omega)
          have dV : (v / 2 ^ n * 2 ^ n + w) / 2 ^ n = v / 2 ^ n := Nat.div_eq_of_lt_le (by omega) (by rw [Nat.add_mul, Nat.one_mul]; omega)
          have mU : (u / 2 ^ n * 2 ^ n + w) % 2 ^ n = w := by
            have h := Nat.div_add_mod (u / 2 ^ n * 2 ^ n + w) (2 ^ n)
            rw [dU, Nat.mul_comm] at h
            omega
          have mV : (v / 2 ^ n * 2 ^ n + w) % 2 ^ n = w := by
            have h := Nat.div_add_mod (v / 2 ^ n * 2 ^ n + w) (2 ^ n)
            rw [dV, Nat.mul_comm] at h
            omega
          refine Nat.le_trans (hbd (u / 2 ^ n * 2 ^ n + w) (v / 2 ^ n * 2 ^ n + w) (by omega) (by omega) (by omega) (by omega) dU dV) ?_
          refine le_dm (P := 2 ^ n) ?_ ?_
          · rw [Nat.xor_div_two_pow, Nat.xor_div_two_pow, dU, dV, q1, q2]
            have g1 := xor_half (A := u / 2 ^ n) (C := v / 2 ^ n) (X := u / 2 ^ n + 1) (Y := v / 2 ^ n + 1) (by omega) (by omega)
            have g2 : (u / 2 ^ n ^^^ v / 2 ^ n) % 2 = 0 := xor_e (by omega)
            have g3 : ((u / 2 ^ n + 1) ^^^ (v / 2 ^ n + 1)) % 2 = 0 := xor_e (by omega)
            omega
          · rw [Nat.xor_mod_two_pow, mU, mV, Nat.xor_self]
            exact Nat.zero_le _
    · have hRe := raised_eq n hn7 u (by omega) hA
      have hRl := raised_lt n hn7 u (by omega) hA
      have hRd := up_dv (u / 2 ^ n + 1) hP
      have haR := lt_up u hP
      have hRx : ∀ x, x / 2 ^ n = u / 2 ^ n + 1 → (u / 2 ^ n + 1) * 2 ^ n ≤ x := fun x h => up_le h
      generalize hR : (u / 2 ^ n + 1) * 2 ^ n = R at hRe hRl hRd haR hRx
      by_cases hbR : b < R
      · obtain ⟨r, e, hpre, ⟨x0, y0, hach⟩, hbd⟩ := ih (by omega) u v hu hv
        refine ⟨r, ?_, by rw [dvS, dvS, hpre], ⟨x0, y0, hach⟩, ?_⟩
        · rw [gX0_leastXor, if_neg (fun q => (t_lo hn7).mp q ⟨hA, hC⟩), hRe, if_pos (nI_lt hbR (by omega)), e]
        · intro x y h1 h2 h3 h4 h5 h6
          rw [dvS, dvS] at h5 h6
          refine hbd x y h1 h2 h3 h4 ?_ (up1 (hVY y h3) h6 hC)
          rcases up2 (hUX x h1) h5 with q1 | q1
          · exact q1
          · have := hRx x q1
            omega
      · obtain ⟨r, e, hpre, ⟨x0, y0, g1, g2, g3, g4, g5⟩, hbd⟩ := ih (by omega) R v (by omega) hv
        have hp2 : r / 2 ^ n / 2 = (u ^^^ v) / 2 ^ n / 2 := by
          rw [hpre, Nat.xor_div_two_pow, Nat.xor_div_two_pow, hRd]
          exact xor_half (by omega) rfl
        refine ⟨r, ?_, by rw [dvS, dvS, hp2], ⟨x0, y0, by omega, g2, g3, g4, g5⟩, ?_⟩
        · rw [gX0_leastXor, if_neg (fun q => (t_lo hn7).mp q ⟨hA, hC⟩), hRe, if_neg (nI_nlt (by omega) (by omega)), e]
        · intro x y h1 h2 h3 h4 h5 h6
          rw [dvS, dvS] at h5 h6
          have q2 := up1 (hVY y h3) h6 hC
          rcases up2 (hUX x h1) h5 with q1 | q1
          · refine Nat.le_of_lt (le_dmx (P := 2 ^ n) ?_ ?_ ?_)
            · rw [hp2, Nat.xor_div_two_pow, Nat.xor_div_two_pow]; exact (xor_half h5 h6).symm
            · rw [hpre, Nat.xor_div_two_pow, hRd]; exact xor_e (by omega)
            · rw [Nat.xor_div_two_pow]; exact xor_o (by omega)
          · exact hbd x y (hRx x q1) h2 h3 h4 (by rw [hRd, q1]) q2
    · have hRe := raised_eq n hn7 v (by omega) hC
      have hRl := raised_lt n hn7 v (by omega) hC
      have hRd := up_dv (v / 2 ^ n + 1) hP
      have haR := lt_up v hP
      have hRx : ∀ x, x / 2 ^ n = v / 2 ^ n + 1 → (v / 2 ^ n + 1) * 2 ^ n ≤ x := fun x h => up_le h
      generalize hR : (v / 2 ^ n + 1) * 2 ^ n = R at hRe hRl hRd haR hRx
      by_cases hbR : d < R
      · obtain ⟨r, e, hpre, ⟨x0, y0, hach⟩, hbd⟩ := ih (by omega) u v hu hv
        refine ⟨r, ?_, by rw [dvS, dvS, hpre], ⟨x0, y0, hach⟩, ?_⟩
        · rw [gX0_leastXor, if_pos ((t_lo hn7).mpr (by omega)), if_neg (fun q => (t_hi hn7).mp q ⟨hA, hC⟩), hRe, if_pos (nI_lt hbR (by omega)), e]
        · intro x y h1 h2 h3 h4 h5 h6
          rw [dvS, dvS] at h5 h6
          refine hbd x y h1 h2 h3 h4 (up1 (hUX x h1) h5 hA) ?_
          rcases up2 (hVY y h3) h6 with q1 | q1
          · exact q1
          · have := hRx y q1
            omega
      · obtain ⟨r, e, hpre, ⟨x0, y0, g1, g2, g3, g4, g5⟩, hbd⟩ := ih (by omega) u R hu (by omega)
        have hp2 : r / 2 ^ n / 2 = (u ^^^ v) / 2 ^ n / 2 := by
          rw [hpre, Nat.xor_div_two_pow, Nat.xor_div_two_pow, hRd]
          exact xor_half rfl (by omega)
        refine ⟨r, ?_, by rw [dvS, dvS, hp2], ⟨x0, y0, g1, g2, by omega, g4, g5⟩, ?_⟩
        · rw [gX0_leastXor, if_pos ((t_lo hn7).mpr (by omega)), if_neg (fun q => (t_hi hn7).mp q ⟨hA, hC⟩), hRe, if_neg (nI_nlt (by omega) (by omega)), e]
        · intro x y h1 h2 h3 h4 h5 h6
          rw [dvS, dvS] at h5 h6
          have q2 := up1 (hUX x h1) h5 hA
          rcases up2 (hVY y h3) h6 with q1 | q1
          · refine Nat.le_of_lt (le_dmx (P := 2 ^ n) ?_ ?_ ?_)
            · rw [hp2, Nat.xor_div_two_pow, Nat.xor_div_two_pow]; exact (xor_half h5 h6).symm
            · rw [hpre, Nat.xor_div_two_pow, hRd]; exact xor_e (by omega)
            · rw [Nat.xor_div_two_pow]; exact xor_o (by omega)
          · exact hbd x y h1 h2 (hRx y q1) h4 q2 (by rw [hRd, q1])
    · obtain ⟨r, e, hpre, ⟨x0, y0, hach⟩, hbd⟩ := ih (by omega) u v hu hv
      refine ⟨r, ?_, by rw [dvS, dvS, hpre], ⟨x0, y0, hach⟩, ?_⟩
      · rw [gX0_leastXor, if_pos ((t_lo hn7).mpr (by omega)), if_pos ((t_hi hn7).mpr (by omega)), e]
      · intro x y h1 h2 h3 h4 h5 h6
        rw [dvS, dvS] at h5 h6
        exact hbd x y h1 h2 h3 h4 (up1 (hUX x h1) h5 hA) (up1 (hVY y h3) h6 hC)
end
section
theorem dn2p {X B : Nat} (h : X ≤ B) (h2 : X / 2 = B / 2) (h3 : B % 2 = 1) : X = B ∨ (X + 1 = B ∧ X = B - 1) := by omega
theorem odd_m {B : Nat} (h : B % 2 = 1) : (B - 1) % 2 = 0 := by omega
set_option maxHeartbeats 4000000 in
theorem greatestXor_spec {a c : Nat} (p1 p3 : Int32) : ∀ n, n ≤ 7 → ∀ u v, a ≤ u → u < 128 → c ≤ v → v < 128 → ∃ r, gX0_greatestXor (nI a) p1 (nI c) p3 n (nI u) (nI v) = nI r ∧ r / 2 ^ n = (u ^^^ v) / 2 ^ n ∧ (∃ x y, a ≤ x ∧ x ≤ u ∧ c ≤ y ∧ y ≤ v ∧ x ^^^ y = r) ∧ ∀ x y, a ≤ x → x ≤ u → c ≤ y → y ≤ v → x / 2 ^ n = u / 2 ^ n → y / 2 ^ n = v / 2 ^ n → x ^^^ y ≤ r := by
  intro n
  induction n with
  | zero =>
    intro _ u v hu hu2 hv hv2
    refine ⟨u ^^^ v, by rw [gX0_greatestXor, nx_xor], rfl, ⟨u, v, hu, Nat.le_refl _, hv, Nat.le_refl _, rfl⟩, ?_⟩
    intro x y _ _ _ _ h1 h2
    rw [Nat.pow_zero, Nat.div_one, Nat.div_one] at h1 h2
    rw [h1, h2]
    exact Nat.le_refl _
  | succ n ih =>
    intro hn u v hu hu2 hv hv2
    have hn7 : n < 7 := hn
    have hP : 0 < 2 ^ n := Nat.two_pow_pos n
    have hXU : ∀ x, x ≤ u → x / 2 ^ n ≤ u / 2 ^ n := fun x h => Nat.div_le_div_right h
    have hYV : ∀ y, y ≤ v → y / 2 ^ n ≤ v / 2 ^ n := fun y h => Nat.div_le_div_right h
    rcases Nat.mod_two_eq_zero_or_one (u / 2 ^ n) with hA | hA <;> rcases Nat.mod_two_eq_zero_or_one (v / 2 ^ n) with hC | hC
    · obtain ⟨r, e, hpre, ⟨x0, y0, hach⟩, hbd⟩ := ih (by omega) u v hu hu2 hv hv2
      refine ⟨r, ?_, by rw [dvS, dvS, hpre], ⟨x0, y0, hach⟩, ?_⟩
      · rw [gX0_greatestXor, if_pos ((t_bb hn7).mpr (by omega)), e]
      · intro x y h1 h2 h3 h4 h5 h6
        rw [dvS, dvS] at h5 h6
        exact hbd x y h1 h2 h3 h4 (dn1 (hXU x h2) h5 hA) (dn1 (hYV y h4) h6 hC)
    · obtain ⟨r, e, hpre, ⟨x0, y0, hach⟩, hbd⟩ := ih (by omega) u v hu hu2 hv hv2
      refine ⟨r, ?_, by rw [dvS, dvS, hpre], ⟨x0, y0, hach⟩, ?_⟩
      · rw [gX0_greatestXor, if_pos ((t_bb hn7).mpr (by omega)), e]
      · intro x y h1 h2 h3 h4 h5 h6
        rw [dvS, dvS] at h5 h6
        have q1 := dn1 (hXU x h2) h5 hA
        rcases dn2p (hYV y h4) h6 hC with q2 | ⟨q2, q3⟩
        · exact hbd x y h1 h2 h3 h4 q1 q2
        · refine Nat.le_of_lt (le_dmx (P := 2 ^ n) ?_ ?_ ?_)
          · rw [hpre, Nat.xor_div_two_pow, Nat.xor_div_two_pow]; exact xor_half h5 h6
          · rw [Nat.xor_div_two_pow]; exact xor_e (by omega)
          · rw [hpre, Nat.xor_div_two_pow]; exact xor_o (by omega)
    · obtain ⟨r, e, hpre, ⟨x0, y0, hach⟩, hbd⟩ := ih (by omega) u v hu hu2 hv hv2
      refine ⟨r, ?_, by rw [dvS, dvS, hpre], ⟨x0, y0, hach⟩, ?_⟩
      · rw [gX0_greatestXor, if_pos ((t_bb hn7).mpr (by omega)), e]
      · intro x y h1 h2 h3 h4 h5 h6
        rw [dvS, dvS] at h5 h6
        have q1 := dn1 (hYV y h4) h6 hC
        rcases dn2p (hXU x h2) h5 hA with q2 | ⟨q2, q3⟩
        · exact hbd x y h1 h2 h3 h4 q2 q1
        · refine Nat.le_of_lt (le_dmx (P := 2 ^ n) ?_ ?_ ?_)
          · rw [hpre, Nat.xor_div_two_pow, Nat.xor_div_two_pow]; exact xor_half h5 h6
          · rw [Nat.xor_div_two_pow]; exact xor_e (by omega)
          · rw [hpre, Nat.xor_div_two_pow]; exact xor_o (by omega)
    · have hLe := lowered_eq n hn7 u hu2 hA
      have hLl := lowered_lt n hn7 u hu2 hA
      have hLd := dn_dv (u / 2 ^ n - 1) hP
      have hLm := dn_md (u / 2 ^ n - 1) hP
      have hLb := dn_lt hP hA
      have hLx : ∀ x, x / 2 ^ n = u / 2 ^ n - 1 → x ≤ (u / 2 ^ n - 1) * 2 ^ n + (2 ^ n - 1) := fun x h => le_dn hP h
      generalize hL : (u / 2 ^ n - 1) * 2 ^ n + (2 ^ n - 1) = Lu at hLe hLl hLd hLm hLb hLx
      have hMe := lowered_eq n hn7 v hv2 hC
      have hMl := lowered_lt n hn7 v hv2 hC
      have hMd := dn_dv (v / 2 ^ n - 1) hP
      have hMb := dn_lt hP hC
      have hMx : ∀ x, x / 2 ^ n = v / 2 ^ n - 1 → x ≤ (v / 2 ^ n - 1) * 2 ^ n + (2 ^ n - 1) := fun x h => le_dn hP h
      generalize hM : (v / 2 ^ n - 1) * 2 ^ n + (2 ^ n - 1) = Mv at hMe hMl hMd hMb hMx
      have ht : ¬ ((nI u &&& nI v) &&& bitv (n + 1)) = 0 := fun q => (t_bb hn7).mp q ⟨hA, hC⟩
      by_cases hLa : Lu < a
      · have hXe : ∀ x, a ≤ x → x ≤ u → x / 2 ^ n / 2 = u / 2 ^ n / 2 → x / 2 ^ n = u / 2 ^ n := by
          intro x h1 h2 h5
          rcases dn2 (hXU x h2) h5 hA with q | q
          · exact q
          · have := hLx x q
            omega
        by_cases hMc : Mv < c
        · obtain ⟨r, e, hpre, ⟨x0, y0, hach⟩, hbd⟩ := ih (by omega) u v hu hu2 hv hv2
          refine ⟨r, ?_, by rw [dvS, dvS, hpre], ⟨x0, y0, hach⟩, ?_⟩
          · rw [gX0_greatestXor, if_neg ht, hLe, hMe, if_pos (nI_lt hLa (by omega)), if_pos (nI_lt hMc (by omega)), e]
          · intro x y h1 h2 h3 h4 h5 h6
            rw [dvS, dvS] at h5 h6
            refine hbd x y h1 h2 h3 h4 (hXe x h1 h2 h5) ?_
            rcases dn2 (hYV y h4) h6 hC with q | q
            · exact q
            · have := hMx y q
              omega
        · obtain ⟨r, e, hpre, ⟨x0, y0, g1, g2, g3, g4, g5⟩, hbd⟩ := ih (by omega) u Mv hu hu2 (by omega) hMl
          have hp2 : r / 2 ^ n / 2 = (u ^^^ v) / 2 ^ n / 2 := by
            rw [hpre, Nat.xor_div_two_pow, Nat.xor_div_two_pow, hMd]
            exact xor_half rfl (half_odd hC)
          refine ⟨r, ?_, by rw [dvS, dvS, hp2], ⟨x0, y0, g1, g2, g3, by omega, g5⟩, ?_⟩
          · rw [gX0_greatestXor, if_neg ht, hLe, hMe, if_pos (nI_lt hLa (by omega)), if_neg (nI_nlt (by omega) (by omega)), e]
          · intro x y h1 h2 h3 h4 h5 h6
            rw [dvS, dvS] at h5 h6
            have q1 := hXe x h1 h2 h5
            rcases dn2p (hYV y h4) h6 hC with q2 | ⟨q2, q3⟩
            · refine Nat.le_of_lt (le_dmx (P := 2 ^ n) ?_ ?_ ?_)
              · rw [hp2, Nat.xor_div_two_pow, Nat.xor_div_two_pow]; exact xor_half h5 h6
              · rw [Nat.xor_div_two_pow]; exact xor_e (by omega)
              · rw [hpre, Nat.xor_div_two_pow, hMd]; exact xor_o (by rw [hA, odd_m hC]; decide)
            · exact hbd x y h1 h2 h3 (hMx y q3) q1 (by rw [hMd]; exact q3)
      · obtain ⟨r, e, hpre, ⟨x0, y0, g1, g2, g3, g4, g5⟩, hbd⟩ := ih (by omega) Lu v (by omega) hLl hv hv2
        have hp2 : r / 2 ^ n / 2 = (u ^^^ v) / 2 ^ n / 2 := by
          rw [hpre, Nat.xor_div_two_pow, Nat.xor_div_two_pow, hLd]
          exact xor_half (half_odd hA) rfl
        have hro : r / 2 ^ n % 2 = 1 := by
          rw [hpre, Nat.xor_div_two_pow, hLd]; exact xor_o (by rw [hC, odd_m hA]; decide)
        refine ⟨r, ?_, by rw [dvS, dvS, hp2], ⟨x0, y0, g1, by omega, g3, g4, g5⟩, ?_⟩
        · rw [gX0_greatestXor, if_neg ht, hLe, if_neg (nI_nlt (by omega) (by omega)), e]
        · intro x y h1 h2 h3 h4 h5 h6
          rw [dvS, dvS] at h5 h6
          have hh : (x ^^^ y) / 2 ^ n / 2 = r / 2 ^ n / 2 := by
            rw [hp2, Nat.xor_div_two_pow, Nat.xor_div_two_pow]; exact xor_half h5 h6
          rcases dn2p (hXU x h2) h5 hA with q1 | ⟨q1, q3⟩ <;> rcases dn2p (hYV y h4) h6 hC with q2 | ⟨q2, q4⟩
          · exact Nat.le_of_lt (le_dmx hh (by rw [Nat.xor_div_two_pow]; exact xor_e (by omega)) hro)
          · -- x keeps its bit, y drops it: the other way round is as good, with all low bits
            have hyV : y < v / 2 ^ n * 2 ^ n := by
              have h7 := Nat.div_add_mod y (2 ^ n)
              have h8 := Nat.mod_lt y hP
              rw [← q2, Nat.add_mul, Nat.one_mul, Nat.mul_comm]
              omega
            have hVv : v / 2 ^ n * 2 ^ n ≤ v := up_le rfl
            have dV := up_dv (v / 2 ^ n) hP
            have mV := up_md (v / 2 ^ n) (2 ^ n)
            refine Nat.le_trans ?_ (hbd Lu (v / 2 ^ n * 2 ^ n) (by omega) (Nat.le_refl _) (by omega) hVv rfl dV)
            refine le_full hP ?_ ?_
            · refine Nat.le_of_eq ?_
              rw [Nat.xor_div_two_pow, Nat.xor_div_two_pow, hLd, dV, q1, q4]
              have g1 := xor_half (A := u / 2 ^ n) (C := v / 2 ^ n) (X := u / 2 ^ n - 1) (Y := v / 2 ^ n) (half_odd hA) rfl
              have g2 := xor_half (A := u / 2 ^ n) (C := v / 2 ^ n) (X := u / 2 ^ n) (Y := v / 2 ^ n - 1) rfl (half_odd hC)
              have g3 : ((u / 2 ^ n - 1) ^^^ v / 2 ^ n) % 2 = 1 := xor_o (by rw [hC, odd_m hA]; decide)
              have g4 : (u / 2 ^ n ^^^ (v / 2 ^ n - 1)) % 2 = 1 := xor_o (by rw [hA, odd_m hC]; decide)
              generalize (u / 2 ^ n - 1) ^^^ v / 2 ^ n = Z at g1 g3 ⊢
              generalize u / 2 ^ n ^^^ (v / 2 ^ n - 1) = Y at g2 g4 ⊢
              omega
            · rw [Nat.xor_mod_two_pow, hLm, mV, Nat.xor_zero]
              omega
          · exact hbd x y h1 (hLx x q3) h3 h4 (by rw [hLd]; exact q3) q2
          · exact Nat.le_of_lt (le_dmx hh (by rw [Nat.xor_div_two_pow]; exact xor_e (by omega)) hro)
end
section
/-! what the model's folds find: least and greatest of the results so far -/
def RS (S : Nat → Prop) (l m : Int32) : Prop := (l = 128 ∧ m = -1 ∧ ∀ v, ¬ S v) ∨ (∃ a b, l = nI a ∧ m = nI b ∧ S a ∧ S b ∧ b ≤ 127 ∧ ∀ v, S v → a ≤ v ∧ v ≤ b)
theorem RS_congr {S S' : Nat → Prop} {l m : Int32} (h : ∀ v, S v ↔ S' v) (r : RS S l m) : RS S' l m := by
  have e : S = S' := funext fun v => propext (h v)
  rw [← e]; exact r
theorem RS_0 : RS (fun _ => False) 128 (-1) := Or.inl ⟨rfl, rfl, fun _ h => h⟩
theorem RS_add {S : Nat → Prop} {l m : Int32} {w : Nat} (h : RS S l m) (hw : w ≤ 127) : RS (fun v => S v ∨ v = w) (fX1_result (nI w) l m).1 (fX1_result (nI w) l m).2 := by
  rcases h with ⟨rfl, rfl, h⟩ | ⟨a, b, rfl, rfl, h1, h2, h3, h4⟩
  · have e : fX1_result (nI w) 128 (-1) = (nI w, nI w) := by
      rw [fX1_result, if_neg (show ¬ ((128 : Int32) ≤ nI w) from nI_ge (a := w) (b := 128) (by omega) (by omega)), if_neg]
      exact fun q => absurd q (by
        rw [Int32.le_iff_toInt_le, nI_toInt (by omega), show ((-1 : Int32)).toInt = -1 from by decide]
        omega)
    rw [e]
    exact Or.inr ⟨w, w, rfl, rfl, Or.inr rfl, Or.inr rfl, hw, fun v hv => by
      rcases hv with q | q
      · exact absurd q (h v)
      · omega⟩
  · have hb := (h4 a h1).2
    rw [fX1_result]
    by_cases ha : a ≤ w
    · rw [if_pos (nI_le ha (by omega))]
      by_cases hc : w ≤ b
      · rw [if_pos (nI_le hc (by omega))]
        exact Or.inr ⟨a, b, rfl, rfl, Or.inl h1, Or.inl h2, h3, fun v hv => by
          rcases hv with q | q
          · exact h4 v q
          · omega⟩
      · rw [if_neg (nI_ge (by omega) (by omega))]
        exact Or.inr ⟨a, w, rfl, rfl, Or.inl h1, Or.inr rfl, hw, fun v hv => by
          rcases hv with q | q
          · have := h4 v q
            omega
          · omega⟩
    · rw [if_neg (nI_ge (by omega) (by omega)), if_pos (nI_le (by omega) (by omega))]
      exact Or.inr ⟨w, b, rfl, rfl, Or.inr rfl, Or.inl h2, h3, fun v hv => by
        rcases hv with q | q
        · have := h4 v q
          omega
        · omega⟩
def wk (k x y : Nat) : Nat := if k = 0 then (x + y) % 128 else if k = 1 then (x + 128 - y) % 128 else if k = 2 then x &&& y else if k = 3 then x ||| y else if k = 4 then x ^^^ y else if k = 5 then x * y / 128 else if k = 6 then (if y = 0 then 127 else x / y) else if k = 7 then (if x ≤ y then y else x) else (if x ≤ y then y - x else x - y)
def Res (k x y v : Nat) : Prop := (k ≤ 8 ∧ v = wk k x y) ∨ (k = 9 ∧ (v = x ∨ v = y)) ∨ (k = 10 ∧ x = y ∧ v = x)
theorem nI_dif {x y : Nat} (hx : x ≤ 127) (hy : y ≤ 127) : nI x - nI y + 128 = nI (x + 128 - y) := by
  have h1 : nI (x + 128) - nI y = nI (x + 128 - y) := pk_sub (by omega)
  have h2 : nI x + 128 = nI (x + 128) := nI_add x 128
  rw [← h1, ← h2]
  grind
theorem rem128 {a : Nat} (ha : a < 2 ^ 31) : nI a - nI a / 128 * 128 = nI (a % 128) := pk_rem (d := 128) ha (by decide) (by decide)
theorem mul127 {x y : Nat} (hx : x ≤ 127) (hy : y ≤ 127) : x * y ≤ 16129 := Nat.le_trans (Nat.mul_le_mul hx hy) (by decide)
theorem worked_eq {k x y : Nat} (hk : k ≤ 8) (hx : x ≤ 127) (hy : y ≤ 127) : fX1_worked (nI k) (nI x) (nI y) = nI (wk k x y) ∧ wk k x y ≤ 127 := by
  rcases (show k = 0 ∨ k = 1 ∨ k = 2 ∨ k = 3 ∨ k = 4 ∨ k = 5 ∨ k = 6 ∨ k = 7 ∨ k = 8 by omega) with rfl | rfl | rfl | rfl | rfl | rfl | rfl | rfl | rfl
  · refine ⟨?_, ?_⟩
    · rw [fX1_worked, if_pos (by decide), nI_add, rem128 (by omega)]; rfl
    · show (x + y) % 128 ≤ 127; omega
  · refine ⟨?_, ?_⟩
    · rw [fX1_worked, if_neg (by decide), if_pos (by decide), nI_dif hx hy, rem128 (by omega)]; rfl
    · show (x + 128 - y) % 128 ≤ 127; omega
  · refine ⟨?_, ?_⟩
    · rw [fX1_worked, if_neg (by decide), if_neg (by decide), if_pos (by decide), nx_and]; rfl
    · show x &&& y ≤ 127
      have := @Nat.and_le_left x y
      omega
  · refine ⟨?_, ?_⟩
    · rw [fX1_worked, if_neg (by decide), if_neg (by decide), if_neg (by decide), if_pos (by decide), nx_or]; rfl
    · show x ||| y ≤ 127
      have := Nat.or_lt_two_pow (n := 7) (x := x) (y := y) (by omega) (by omega)
      omega
  · refine ⟨?_, ?_⟩
    · rw [fX1_worked, if_neg (by decide), if_neg (by decide), if_neg (by decide), if_neg (by decide), if_pos (by decide), nx_xor]; rfl
    · show x ^^^ y ≤ 127
      have := Nat.xor_lt_two_pow (n := 7) (x := x) (y := y) (by omega) (by omega)
      omega
  · have hm := mul127 hx hy
    refine ⟨?_, ?_⟩
    · rw [fX1_worked, if_neg (by decide), if_neg (by decide), if_neg (by decide), if_neg (by decide), if_neg (by decide), if_pos (by decide), pk_mul]
      exact pk_div (d := 128) (by omega) (by decide) (by decide)
    · show x * y / 128 ≤ 127; omega
  · refine ⟨?_, ?_⟩
    · rw [fX1_worked, if_neg (by decide), if_neg (by decide), if_neg (by decide), if_neg (by decide), if_neg (by decide), if_neg (by decide), if_pos (by decide)]
      by_cases h0 : y = 0
      · subst h0
        rw [if_pos nI_0]; rfl
      · rw [if_neg (nI_ne0 (by omega) (by omega)), pk_div (by omega) (by omega) (by omega)]
        show _ = nI (if y = 0 then 127 else x / y)
        rw [if_neg h0]
    · show (if y = 0 then 127 else x / y) ≤ 127
      have := Nat.div_le_self x y
      split <;> omega
  · refine ⟨?_, ?_⟩
    · rw [fX1_worked, if_neg (by decide), if_neg (by decide), if_neg (by decide), if_neg (by decide), if_neg (by decide), if_neg (by decide), if_neg (by decide), if_pos (by decide)]
      show _ = nI (if x ≤ y then y else x)
      by_cases h : x ≤ y
      · rw [if_pos (nI_le h (by omega)), if_pos h]
      · rw [if_neg (nI_ge (by omega) (by omega)), if_neg h]
    · show (if x ≤ y then y else x) ≤ 127
      split <;> omega
  · refine ⟨?_, ?_⟩
    · rw [fX1_worked, if_neg (by decide), if_neg (by decide), if_neg (by decide), if_neg (by decide), if_neg (by decide), if_neg (by decide), if_neg (by decide), if_neg (by decide)]
      show _ = nI (if x ≤ y then y - x else x - y)
      by_cases h : x ≤ y
      · rw [if_pos (nI_le h (by omega)), if_pos h, pk_sub h]
      · rw [if_neg (nI_ge (by omega) (by omega)), if_neg h, pk_sub (by omega)]
    · show (if x ≤ y then y - x else x - y) ≤ 127
      split <;> omega
theorem RS_pair {S : Nat → Prop} {l m : Int32} {k x y : Nat} (h : RS S l m) (hk : k ≤ 10) (hx : x ≤ 127) (hy : y ≤ 127) : RS (fun v => S v ∨ Res k x y v) (fX1_pair (nI k) (nI x) (nI y) l m).1 (fX1_pair (nI k) (nI x) (nI y) l m).2 := by
  by_cases h8 : k ≤ 8
  · obtain ⟨e1, e2⟩ := worked_eq h8 hx hy
    rw [fX1_pair, if_neg (show ¬ (8 : Int32) < nI k from nI_nlt (a := 8) (b := k) (by omega) (by omega)), e1]
    refine RS_congr (fun v => ?_) (RS_add h e2)
    unfold Res
    constructor
    · rintro (q | q)
      · exact Or.inl q
      · exact Or.inr (Or.inl ⟨h8, q⟩)
    · rintro (q | ⟨_, q⟩ | ⟨q, _⟩ | ⟨q, _⟩)
      · exact Or.inl q
      · exact Or.inr q
      · omega
      · omega
  · rcases (show k = 9 ∨ k = 10 by omega) with rfl | rfl
    · rw [fX1_pair, if_pos (by decide), if_pos (by decide)]
      refine RS_congr (fun v => ?_) (RS_add (RS_add h hx) hy)
      unfold Res
      constructor
      · rintro ((q | q) | q)
        · exact Or.inl q
        · exact Or.inr (Or.inr (Or.inl ⟨rfl, Or.inl q⟩))
        · exact Or.inr (Or.inr (Or.inl ⟨rfl, Or.inr q⟩))
      · rintro (q | ⟨q, _⟩ | ⟨_, q | q⟩ | ⟨q, _⟩)
        · exact Or.inl (Or.inl q)
        · omega
        · exact Or.inl (Or.inr q)
        · exact Or.inr q
        · omega
    · rw [fX1_pair, if_pos (by decide), if_neg (by decide)]
      by_cases he : x = y
      · rw [if_pos (by rw [he])]
        refine RS_congr (fun v => ?_) (RS_add h hx)
        unfold Res
        constructor
        · rintro (q | q)
          · exact Or.inl q
          · exact Or.inr (Or.inr (Or.inr ⟨rfl, he, q⟩))
        · rintro (q | ⟨q, _⟩ | ⟨q, _⟩ | ⟨_, _, q⟩)
          · exact Or.inl q
          · omega
          · omega
          · exact Or.inr q
      · rw [if_neg (fun q => he ((nI_eq (by omega) (by omega)).mp q))]
        refine RS_congr (fun v => ?_) h
        unfold Res
        constructor
        · exact fun q => Or.inl q
        · rintro (q | ⟨q, _⟩ | ⟨q, _⟩ | ⟨_, q, _⟩)
          · exact q
          · omega
          · omega
          · exact absurd q he
theorem RS_in (p0 p2 p3 : Int32) {k i : Nat} (hk : k ≤ 10) (hi : i ≤ 127) : ∀ (n j : Nat) (S : Nat → Prop) (l m : Int32), j + n ≤ 128 → RS S l m → RS (fun v => S v ∨ ∃ y, j ≤ y ∧ y < j + n ∧ Res k i y v) (giX1_combine p0 (nI k) p2 p3 i n j l m).1 (giX1_combine p0 (nI k) p2 p3 i n j l m).2 := by
  intro n
  induction n with
  | zero =>
    intro j S l m _ h
    rw [giX1_combine]
    refine RS_congr (fun v => ⟨fun q => Or.inl q, ?_⟩) h
    rintro (q | ⟨y, q1, q2, _⟩)
    · exact q
    · omega
  | succ n ih =>
    intro j S l m hj h
    rw [giX1_combine]
    refine RS_congr (fun v => ?_) (ih (j + 1) _ _ _ (by omega) (RS_pair h hk hi (y := j) (by omega)))
    constructor
    · rintro ((q | q) | ⟨y, q1, q2, q3⟩)
      · exact Or.inl q
      · exact Or.inr ⟨j, Nat.le_refl _, by omega, q⟩
      · exact Or.inr ⟨y, by omega, by omega, q3⟩
    · rintro (q | ⟨y, q1, q2, q3⟩)
      · exact Or.inl (Or.inl q)
      · rcases Nat.eq_or_lt_of_le q1 with e | e
        · subst e
          exact Or.inl (Or.inr q3)
        · exact Or.inr ⟨y, e, by omega, q3⟩
theorem RS_out (p0 p2 p3 : Int32) (lo hi : Nat → Int32) {k k1 k2 : Nat} (hk : k ≤ 10) (h12 : k1 ≤ k2) (h2 : k2 ≤ 127) : ∀ (n i : Nat) (S : Nat → Prop) (l m : Int32), i + n ≤ 128 → RS S l m → ∃ l' m', RS (fun v => S v ∨ ∃ x y, i ≤ x ∧ x < i + n ∧ k1 ≤ y ∧ y ≤ k2 ∧ Res k x y v) l' m' ∧ gX1_combine p0 (nI k) p2 p3 lo hi k1 k2 n i l m = fX1_keep p0 lo hi l' m' := by
  intro n
  induction n with
  | zero =>
    intro i S l m _ h
    refine ⟨l, m, RS_congr (fun v => ⟨fun q => Or.inl q, ?_⟩) h, ?_⟩
    · rintro (q | ⟨x, y, q1, q2, _⟩)
      · exact q
      · omega
    · rw [gX1_combine]
  | succ n ih =>
    intro i S l m hj h
    obtain ⟨l', m', hr, he⟩ := ih (i + 1) _ _ _ (by omega) (RS_in p0 p2 p3 hk (i := i) (by omega) (k2 + 1 - k1) k1 S l m (by omega) h)
    refine ⟨l', m', RS_congr (fun v => ?_) hr, ?_⟩
    · constructor
      · rintro ((q | ⟨y, q1, q2, q3⟩) | ⟨x, y, q1, q2, q3, q4, q5⟩)
        · exact Or.inl q
        · exact Or.inr ⟨i, y, Nat.le_refl _, by omega, q1, by omega, q3⟩
        · exact Or.inr ⟨x, y, by omega, by omega, q3, q4, q5⟩
      · rintro (q | ⟨x, y, q1, q2, q3, q4, q5⟩)
        · exact Or.inl (Or.inl q)
        · rcases Nat.eq_or_lt_of_le q1 with e | e
          · subst e
            exact Or.inl (Or.inr ⟨y, q3, by omega, q5⟩)
          · exact Or.inr ⟨x, y, e, by omega, q3, q4, q5⟩
    · rw [gX1_combine]
      exact he
def RSet (k ka kb k1 k2 v : Nat) : Prop := ∃ x y, ka ≤ x ∧ x ≤ kb ∧ k1 ≤ y ∧ y ≤ k2 ∧ Res k x y v
theorem RS_all (p0 p2 p3 : Int32) (lo hi : Nat → Int32) {k ka kb k1 k2 : Nat} (hk : k ≤ 10) (hab : ka ≤ kb) (hb : kb ≤ 127) (h12 : k1 ≤ k2) (h2 : k2 ≤ 127) : ∃ l m, RS (RSet k ka kb k1 k2) l m ∧ gX1_combine p0 (nI k) p2 p3 lo hi k1 k2 (kb + 1 - ka) ka 128 (-1) = fX1_keep p0 lo hi l m := by
  obtain ⟨l, m, h, e⟩ := RS_out p0 p2 p3 lo hi hk h12 h2 (kb + 1 - ka) ka _ _ _ (by omega) RS_0
  refine ⟨l, m, RS_congr (fun v => ?_) h, e⟩
  constructor
  · rintro (q | ⟨x, y, q1, q2, q3, q4, q5⟩)
    · exact q.elim
    · exact ⟨x, y, q1, by omega, q3, q4, q5⟩
  · rintro ⟨x, y, q1, q2, q3, q4, q5⟩
    exact Or.inr ⟨x, y, q1, by omega, q3, q4, q5⟩
end
section
/-! the class's own pairs: least and greatest of the same results -/
def PS (S : Nat → Prop) (P : Int32 × Int32) : Prop := (¬ P.1 ≤ P.2 ∧ ∀ v, ¬ S v) ∨ (∃ a b, P = (nI a, nI b) ∧ S a ∧ S b ∧ b ≤ 127 ∧ ∀ v, S v → a ≤ v ∧ v ≤ b)
theorem PS_of_RS {S : Nat → Prop} {l m : Int32} (h : RS S l m) : PS S (l, m) := by
  rcases h with ⟨rfl, rfl, h⟩ | ⟨a, b, rfl, rfl, h1, h2, h3, h4⟩
  · exact Or.inl ⟨by decide, h⟩
  · exact Or.inr ⟨a, b, rfl, h1, h2, h3, h4⟩
theorem PS_same {S : Nat → Prop} {P Q : Int32 × Int32} (h1 : PS S P) (h2 : PS S Q) : (P.1 ≤ P.2 ∧ Q = P ∧ ∃ a b, P = (nI a, nI b) ∧ a ≤ b ∧ b ≤ 127) ∨ (¬ P.1 ≤ P.2 ∧ ¬ Q.1 ≤ Q.2) := by
  rcases h1 with ⟨g1, g2⟩ | ⟨a, b, rfl, g1, g2, g3, g4⟩ <;> rcases h2 with ⟨f1, f2⟩ | ⟨a', b', rfl, f1, f2, f3, f4⟩
  · exact Or.inr ⟨g1, f1⟩
  · exact absurd f1 (g2 a')
  · exact absurd g1 (f2 a)
  · have e1 := g4 a' f1
    have e2 := g4 b' f2
    have e3 := f4 a g1
    have e4 := f4 b g2
    have ea : a' = a := by omega
    have eb : b' = b := by omega
    subst ea; subst eb
    exact Or.inl ⟨nI_le e1.2 (by omega), rfl, a', b', rfl, e1.2, g3⟩
theorem PS_wk {k ka kb k1 k2 r s : Nat} (hk : k ≤ 8) (hr : ∃ x y, ka ≤ x ∧ x ≤ kb ∧ k1 ≤ y ∧ y ≤ k2 ∧ wk k x y = r) (hs : ∃ x y, ka ≤ x ∧ x ≤ kb ∧ k1 ≤ y ∧ y ≤ k2 ∧ wk k x y = s) (h127 : s ≤ 127) (hb : ∀ x y, ka ≤ x → x ≤ kb → k1 ≤ y → y ≤ k2 → r ≤ wk k x y ∧ wk k x y ≤ s) : PS (RSet k ka kb k1 k2) (nI r, nI s) := by
  refine Or.inr ⟨r, s, rfl, ?_, ?_, h127, ?_⟩
  · obtain ⟨x, y, q1, q2, q3, q4, q5⟩ := hr
    exact ⟨x, y, q1, q2, q3, q4, Or.inl ⟨hk, q5.symm⟩⟩
  · obtain ⟨x, y, q1, q2, q3, q4, q5⟩ := hs
    exact ⟨x, y, q1, q2, q3, q4, Or.inl ⟨hk, q5.symm⟩⟩
  · rintro v ⟨x, y, q1, q2, q3, q4, ⟨_, q5⟩ | ⟨q5, _⟩ | ⟨q5, _⟩⟩
    · rw [q5]; exact hb x y q1 q2 q3 q4
    · omega
    · omega
theorem sum_hit {ka kb k1 k2 s : Nat} (hab : ka ≤ kb) (h12 : k1 ≤ k2) (h1 : ka + k1 ≤ s) (h2 : s ≤ kb + k2) : ∃ x y, ka ≤ x ∧ x ≤ kb ∧ k1 ≤ y ∧ y ≤ k2 ∧ x + y = s := by
  rcases Nat.le_total s (kb + k1) with h | h
  · exact ⟨s - k1, k1, by omega, by omega, by omega, by omega, by omega⟩
  · exact ⟨kb, s - kb, by omega, by omega, by omega, by omega, by omega⟩
theorem dif_hit {ka kb k1 k2 s : Nat} (hab : ka ≤ kb) (h12 : k1 ≤ k2) (hk : k2 ≤ 127) (h1 : ka + 128 - k2 ≤ s) (h2 : s ≤ kb + 128 - k1) : ∃ x y, ka ≤ x ∧ x ≤ kb ∧ k1 ≤ y ∧ y ≤ k2 ∧ x + 128 - y = s := by
  rcases Nat.le_total (s + k2) (kb + 128) with h | h
  · exact ⟨s + k2 - 128, k2, by omega, by omega, by omega, by omega, by omega⟩
  · exact ⟨kb, kb + 128 - s, by omega, by omega, by omega, by omega, by omega⟩
section KINDS
variable {ka kb k1 k2 : Nat} {p2 p3 : Int32} {lo hi : Nat → Int32}
theorem ps_0 (hab : ka ≤ kb) (hb : kb ≤ 127) (h12 : k1 ≤ k2) (h2 : k2 ≤ 127) (e1 : lo p2.toNatClampNeg = nI ka) (e2 : hi p2.toNatClampNeg = nI kb) (e3 : lo p3.toNatClampNeg = nI k1) (e4 : hi p3.toNatClampNeg = nI k2) : PS (RSet 0 ka kb k1 k2) (fX0_addOrSubtract (nI 0) p2 p3 lo hi) := by
  have w0 : ∀ x y, wk 0 x y = (x + y) % 128 := fun _ _ => rfl
  rw [fX0_addOrSubtract, if_pos (by decide), if_pos (by decide), e1, e2, e3, e4, nI_add, nI_add]
  by_cases g1 : kb + k2 < 128
  · rw [if_neg (show ¬ (128 : Int32) ≤ nI (kb + k2) from nI_ge (b := 128) (by omega) (by omega))]
    refine PS_wk (by decide) ⟨ka, k1, by omega, by omega, by omega, by omega, ?_⟩ ⟨kb, k2, by omega, by omega, by omega, by omega, ?_⟩ (by omega) ?_
    · rw [w0]; omega
    · rw [w0]; omega
    · intro x y _ _ _ _; rw [w0]; omega
  · rw [if_pos (show (128 : Int32) ≤ nI (kb + k2) from nI_le (a := 128) (by omega) (by omega))]
    by_cases g2 : ka + k1 < 128
    · rw [if_pos (show nI (ka + k1) < (128 : Int32) from nI_lt (b := 128) (by omega) (by omega))]
      obtain ⟨x1, y1, q1⟩ := sum_hit (s := 128) hab h12 (by omega) (by omega)
      obtain ⟨x2, y2, q2⟩ := sum_hit (s := 127) hab h12 (by omega) (by omega)
      refine PS_wk (r := 0) (s := 127) (by decide) ⟨x1, y1, by omega, by omega, by omega, by omega, ?_⟩ ⟨x2, y2, by omega, by omega, by omega, by omega, ?_⟩ (by omega) ?_
      · rw [w0]; omega
      · rw [w0]; omega
      · intro x y _ _ _ _; rw [w0]; omega
    · rw [if_neg (show ¬ nI (ka + k1) < (128 : Int32) from nI_nlt (b := 128) (by omega) (by omega)), show nI (ka + k1) - 128 = nI (ka + k1 - 128) from pk_sub (b := 128) (by omega), show nI (kb + k2) - 128 = nI (kb + k2 - 128) from pk_sub (b := 128) (by omega)]
      refine PS_wk (by decide) ⟨ka, k1, by omega, by omega, by omega, by omega, ?_⟩ ⟨kb, k2, by omega, by omega, by omega, by omega, ?_⟩ (by omega) ?_
      · rw [w0]; omega
      · rw [w0]; omega
      · intro x y _ _ _ _; rw [w0]; omega
theorem ps_1 (hab : ka ≤ kb) (hb : kb ≤ 127) (h12 : k1 ≤ k2) (h2 : k2 ≤ 127) (e1 : lo p2.toNatClampNeg = nI ka) (e2 : hi p2.toNatClampNeg = nI kb) (e3 : lo p3.toNatClampNeg = nI k1) (e4 : hi p3.toNatClampNeg = nI k2) : PS (RSet 1 ka kb k1 k2) (fX0_addOrSubtract (nI 1) p2 p3 lo hi) := by
  have w0 : ∀ x y, wk 1 x y = (x + 128 - y) % 128 := fun _ _ => rfl
  rw [fX0_addOrSubtract, if_neg (by decide), if_neg (by decide), e1, e2, e3, e4, nI_dif (by omega) (by omega), nI_dif (by omega) (by omega)]
  by_cases g1 : kb + 128 - k1 < 128
  · rw [if_neg (show ¬ (128 : Int32) ≤ nI (kb + 128 - k1) from nI_ge (b := 128) (by omega) (by omega))]
    refine PS_wk (by decide) ⟨ka, k2, by omega, by omega, by omega, by omega, ?_⟩ ⟨kb, k1, by omega, by omega, by omega, by omega, ?_⟩ (by omega) ?_
    · rw [w0]; omega
    · rw [w0]; omega
    · intro x y _ _ _ _; rw [w0]; omega
  · rw [if_pos (show (128 : Int32) ≤ nI (kb + 128 - k1) from nI_le (a := 128) (by omega) (by omega))]
    by_cases g2 : ka + 128 - k2 < 128
    · rw [if_pos (show nI (ka + 128 - k2) < (128 : Int32) from nI_lt (b := 128) (by omega) (by omega))]
      obtain ⟨x1, y1, q1⟩ := dif_hit (s := 128) hab h12 h2 (by omega) (by omega)
      obtain ⟨x2, y2, q2⟩ := dif_hit (s := 127) hab h12 h2 (by omega) (by omega)
      refine PS_wk (r := 0) (s := 127) (by decide) ⟨x1, y1, by omega, by omega, by omega, by omega, ?_⟩ ⟨x2, y2, by omega, by omega, by omega, by omega, ?_⟩ (by omega) ?_
      · rw [w0]; omega
      · rw [w0]; omega
      · intro x y _ _ _ _; rw [w0]; omega
    · rw [if_neg (show ¬ nI (ka + 128 - k2) < (128 : Int32) from nI_nlt (b := 128) (by omega) (by omega)), show nI (ka + 128 - k2) - 128 = nI (ka + 128 - k2 - 128) from pk_sub (b := 128) (by omega), show nI (kb + 128 - k1) - 128 = nI (kb + 128 - k1 - 128) from pk_sub (b := 128) (by omega)]
      refine PS_wk (by decide) ⟨ka, k2, by omega, by omega, by omega, by omega, ?_⟩ ⟨kb, k1, by omega, by omega, by omega, by omega, ?_⟩ (by omega) ?_
      · rw [w0]; omega
      · rw [w0]; omega
      · intro x y _ _ _ _; rw [w0]; omega
end KINDS
/-! the searches, whole -/
theorem leastOr_all {a b c d : Nat} (hab : a ≤ b) (hb : b ≤ 127) (hcd : c ≤ d) (hd : d ≤ 127) : ∃ r, fX0_leastOr (nI a) (nI b) (nI c) (nI d) = nI r ∧ (∃ x y, a ≤ x ∧ x ≤ b ∧ c ≤ y ∧ y ≤ d ∧ x ||| y = r) ∧ ∀ x y, a ≤ x → x ≤ b → c ≤ y → y ≤ d → r ≤ x ||| y := by
  obtain ⟨r, e, -, h1, h2⟩ := leastOr_spec hab (by omega) hcd (by omega) 7 (Nat.le_refl _)
  exact ⟨r, e, h1, fun x y q1 q2 q3 q4 => h2 x y q1 q2 q3 q4 (by rw [show (2 : Nat) ^ 7 = 128 from rfl]; omega) (by rw [show (2 : Nat) ^ 7 = 128 from rfl]; omega)⟩
theorem greatestOr_all {a b c d : Nat} (hab : a ≤ b) (hb : b ≤ 127) (hcd : c ≤ d) (hd : d ≤ 127) : ∃ r, fX0_greatestOr (nI a) (nI b) (nI c) (nI d) = nI r ∧ (∃ x y, a ≤ x ∧ x ≤ b ∧ c ≤ y ∧ y ≤ d ∧ x ||| y = r) ∧ ∀ x y, a ≤ x → x ≤ b → c ≤ y → y ≤ d → x ||| y ≤ r := by
  obtain ⟨r, e, -, h1, h2⟩ := greatestOr_spec hab (by omega) hcd (by omega) 7 (Nat.le_refl _)
  exact ⟨r, e, h1, fun x y q1 q2 q3 q4 => h2 x y q1 q2 q3 q4 (by rw [show (2 : Nat) ^ 7 = 128 from rfl]; omega) (by rw [show (2 : Nat) ^ 7 = 128 from rfl]; omega)⟩
theorem leastXor_all {a b c d : Nat} (hab : a ≤ b) (hb : b ≤ 127) (hcd : c ≤ d) (hd : d ≤ 127) : ∃ r, fX0_leastXor (nI a) (nI b) (nI c) (nI d) = nI r ∧ (∃ x y, a ≤ x ∧ x ≤ b ∧ c ≤ y ∧ y ≤ d ∧ x ^^^ y = r) ∧ ∀ x y, a ≤ x → x ≤ b → c ≤ y → y ≤ d → r ≤ x ^^^ y := by
  obtain ⟨r, e, -, h1, h2⟩ := leastXor_spec (nI a) (nI c) (b := b) (d := d) (by omega) (by omega) 7 (Nat.le_refl _) a c hab hcd
  exact ⟨r, e, h1, fun x y q1 q2 q3 q4 => h2 x y q1 q2 q3 q4 (by rw [show (2 : Nat) ^ 7 = 128 from rfl]; omega) (by rw [show (2 : Nat) ^ 7 = 128 from rfl]; omega)⟩
theorem greatestXor_all {a b c d : Nat} (hab : a ≤ b) (hb : b ≤ 127) (hcd : c ≤ d) (hd : d ≤ 127) : ∃ r, fX0_greatestXor (nI a) (nI b) (nI c) (nI d) = nI r ∧ (∃ x y, a ≤ x ∧ x ≤ b ∧ c ≤ y ∧ y ≤ d ∧ x ^^^ y = r) ∧ ∀ x y, a ≤ x → x ≤ b → c ≤ y → y ≤ d → x ^^^ y ≤ r := by
  obtain ⟨r, e, -, h1, h2⟩ := greatestXor_spec (a := a) (c := c) (nI b) (nI d) 7 (Nat.le_refl _) b d hab (by omega) hcd (by omega)
  exact ⟨r, e, h1, fun x y q1 q2 q3 q4 => h2 x y q1 q2 q3 q4 (by rw [show (2 : Nat) ^ 7 = 128 from rfl]; omega) (by rw [show (2 : Nat) ^ 7 = 128 from rfl]; omega)⟩
theorem and_or : ∀ x, x < 128 → ∀ y, y < 128 → (127 - x) ||| (127 - y) = 127 - (x &&& y) := by decide +kernel
theorem and_le {x y : Nat} (hx : x ≤ 127) : x &&& y ≤ 127 := by
  have := @Nat.and_le_left x y
  omega
section KIND2
variable {ka kb k1 k2 : Nat}
theorem ps_3 (hab : ka ≤ kb) (hb : kb ≤ 127) (h12 : k1 ≤ k2) (h2 : k2 ≤ 127) : PS (RSet 3 ka kb k1 k2) (fX0_bitwise (nI 3) (nI ka) (nI kb) (nI k1) (nI k2)) := by
  obtain ⟨r, e, q1, q2⟩ := leastOr_all hab hb h12 h2
  obtain ⟨s, e', q1', q2'⟩ := greatestOr_all hab hb h12 h2
  rw [fX0_bitwise, if_pos (by decide), e, e']
  refine PS_wk (by decide) q1 q1' ?_ (fun x y g1 g2 g3 g4 => ⟨q2 x y g1 g2 g3 g4, q2' x y g1 g2 g3 g4⟩)
  obtain ⟨x, y, g1, g2, g3, g4, g5⟩ := q1'
  rw [← g5]
  exact (worked_eq (k := 3) (by decide) (by omega) (by omega)).2
theorem ps_4 (hab : ka ≤ kb) (hb : kb ≤ 127) (h12 : k1 ≤ k2) (h2 : k2 ≤ 127) : PS (RSet 4 ka kb k1 k2) (fX0_bitwise (nI 4) (nI ka) (nI kb) (nI k1) (nI k2)) := by
  obtain ⟨r, e, q1, q2⟩ := leastXor_all hab hb h12 h2
  obtain ⟨s, e', q1', q2'⟩ := greatestXor_all hab hb h12 h2
  rw [fX0_bitwise, if_neg (by decide), if_neg (by decide), e, e']
  refine PS_wk (by decide) q1 q1' ?_ (fun x y g1 g2 g3 g4 => ⟨q2 x y g1 g2 g3 g4, q2' x y g1 g2 g3 g4⟩)
  obtain ⟨x, y, g1, g2, g3, g4, g5⟩ := q1'
  rw [← g5]
  exact (worked_eq (k := 4) (by decide) (by omega) (by omega)).2
theorem c127 {x : Nat} (h : x ≤ 127) : (127 : Int32) - nI x = nI (127 - x) := pk_sub (a := 127) h
theorem ps_2 (hab : ka ≤ kb) (hb : kb ≤ 127) (h12 : k1 ≤ k2) (h2 : k2 ≤ 127) : PS (RSet 2 ka kb k1 k2) (fX0_bitwise (nI 2) (nI ka) (nI kb) (nI k1) (nI k2)) := by
  have w0 : ∀ x y, wk 2 x y = x &&& y := fun _ _ => rfl
  obtain ⟨r, e, ⟨x, y, q1, q2, q3, q4, q5⟩, qb⟩ := leastOr_all (a := 127 - kb) (b := 127 - ka) (c := 127 - k2) (d := 127 - k1) (by omega) (by omega) (by omega) (by omega)
  obtain ⟨s, e', ⟨x', y', q1', q2', q3', q4', q5'⟩, qb'⟩ := greatestOr_all (a := 127 - kb) (b := 127 - ka) (c := 127 - k2) (d := 127 - k1) (by omega) (by omega) (by omega) (by omega)
  have hr : r ≤ 127 := by
    rw [← q5]
    exact (worked_eq (k := 3) (by decide) (by omega) (by omega)).2
  have hs : s ≤ 127 := by
    rw [← q5']
    exact (worked_eq (k := 3) (by decide) (by omega) (by omega)).2
  rw [fX0_bitwise, if_neg (by decide), if_pos (by decide), c127 (by omega), c127 (by omega), c127 (by omega), c127 (by omega), e, e', c127 hr, c127 hs]
  have ex : ∀ x y, x ≤ 127 → y ≤ 127 → (127 - x) &&& (127 - y) = 127 - (x ||| y) := by
    intro x y hx hy
    have h := and_or (127 - x) (by omega) (127 - y) (by omega)
    have h' := @and_le (127 - x) (127 - y) (by omega)
    rw [show 127 - (127 - x) = x by omega, show 127 - (127 - y) = y by omega] at h
    omega
  refine PS_wk (by decide) ⟨127 - x', 127 - y', by omega, by omega, by omega, by omega, ?_⟩ ⟨127 - x, 127 - y, by omega, by omega, by omega, by omega, ?_⟩ (by omega) ?_
  · rw [w0, ex x' y' (by omega) (by omega), q5']
  · rw [w0, ex x y (by omega) (by omega), q5]
  · intro u v g1 g2 g3 g4
    rw [w0]
    have f1 := qb (127 - u) (127 - v) (by omega) (by omega) (by omega) (by omega)
    have f2 := qb' (127 - u) (127 - v) (by omega) (by omega) (by omega) (by omega)
    rw [and_or u (by omega) v (by omega)] at f1 f2
    have := @and_le u v (by omega)
    omega
end KIND2
end
section
theorem shr7 {n : Nat} (h : n < 2 ^ 31) : nI n >>> ((7 : Int32) &&& 31) = nI (n / 128) := pk_shrN h _ 7 (by decide)
theorem gr_nI {a b : Nat} (ha : a ≤ 1000) (hb : b ≤ 1000) : fX0_greater (nI a) (nI b) = nI (if a ≤ b then b else a) := by
  rw [fX0_greater]
  by_cases h : a ≤ b
  · rw [if_pos (nI_le h (by omega)), if_pos h]
  · rw [if_neg (nI_ge (by omega) (by omega)), if_neg h]
theorem le_nI {a b : Nat} (ha : a ≤ 1000) (hb : b ≤ 1000) : fX0_lesser (nI a) (nI b) = nI (if b ≤ a then b else a) := by
  rw [fX0_lesser]
  by_cases h : b ≤ a
  · rw [if_pos (nI_le h (by omega)), if_pos h]
  · rw [if_neg (nI_ge (by omega) (by omega)), if_neg h]
theorem gr_neg {p q : Int32} (h : p.toInt ≤ q.toInt) : fX0_greater p q = q := by rw [fX0_greater, if_pos (Int32.le_iff_toInt_le.mpr h)]
theorem gr_pos {p q : Int32} (h : q.toInt < p.toInt) : fX0_greater p q = p := by rw [fX0_greater, if_neg (fun z => by have := Int32.le_iff_toInt_le.mp z; omega)]
theorem sbT {a b : Nat} (ha : a ≤ 127) (hb : b ≤ 127) : (nI a - nI b).toInt = (a : Int) - b := pk_sub_toInt (by omega) (by omega)
section KINDS
variable {ka kb k1 k2 : Nat} {p2 p3 : Int32} {lo hi : Nat → Int32}
theorem ps_5 (hab : ka ≤ kb) (hb : kb ≤ 127) (h12 : k1 ≤ k2) (h2 : k2 ≤ 127) (e1 : lo p2.toNatClampNeg = nI ka) (e2 : hi p2.toNatClampNeg = nI kb) (e3 : lo p3.toNatClampNeg = nI k1) (e4 : hi p3.toNatClampNeg = nI k2) : PS (RSet 5 ka kb k1 k2) (fX0_multiplyOrDivide (nI 5) p2 p3 lo hi) := by
  have w0 : ∀ x y, wk 5 x y = x * y / 128 := fun _ _ => rfl
  have m1 := mul127 (x := ka) (y := k1) (by omega) (by omega)
  have m2 := mul127 (x := kb) (y := k2) (by omega) (by omega)
  rw [fX0_multiplyOrDivide, if_pos (by decide), e1, e2, e3, e4, pk_mul, pk_mul, shr7 (by omega), shr7 (by omega)]
  refine PS_wk (by decide) ⟨ka, k1, by omega, by omega, by omega, by omega, rfl⟩ ⟨kb, k2, by omega, by omega, by omega, by omega, rfl⟩ (by omega) ?_
  intro x y g1 g2 g3 g4
  rw [w0]
  have f1 := Nat.mul_le_mul g1 g3
  have f2 := Nat.mul_le_mul g2 g4
  omega
theorem ps_6 (hab : ka ≤ kb) (hb : kb ≤ 127) (h12 : k1 ≤ k2) (h2 : k2 ≤ 127) (e1 : lo p2.toNatClampNeg = nI ka) (e2 : hi p2.toNatClampNeg = nI kb) (e3 : lo p3.toNatClampNeg = nI k1) (e4 : hi p3.toNatClampNeg = nI k2) : PS (RSet 6 ka kb k1 k2) (fX0_multiplyOrDivide (nI 6) p2 p3 lo hi) := by
  have w0 : ∀ x y, wk 6 x y = if y = 0 then 127 else x / y := fun _ _ => rfl
  rw [fX0_multiplyOrDivide, if_neg (by decide), e1, e2, e3, e4]
  by_cases g0 : k2 = 0
  · subst g0
    rw [if_pos nI_0]
    refine PS_wk (r := 127) (s := 127) (by decide) ⟨ka, 0, by omega, by omega, by omega, by omega, rfl⟩ ⟨ka, 0, by omega, by omega, by omega, by omega, rfl⟩ (by omega) ?_
    intro x y g1 g2 g3 g4
    rw [w0, if_pos (by omega)]
    omega
  · rw [if_neg (nI_ne0 (by omega) (by omega)), pk_div (by omega) (by omega) (by omega)]
    have lower : ∀ x y, ka ≤ x → y ≤ k2 → 0 < y → ka / k2 ≤ x / y := fun x y f1 f2 f3 => Nat.le_trans (Nat.div_le_div_right f1) (Nat.div_le_div_left f2 f3)
    have l127 : ∀ x y, x ≤ kb → x / y ≤ 127 := fun x y f1 => Nat.le_trans (Nat.div_le_self x y) (by omega)
    have rmin : ∃ x y, ka ≤ x ∧ x ≤ kb ∧ k1 ≤ y ∧ y ≤ k2 ∧ wk 6 x y = ka / k2 := ⟨ka, k2, by omega, by omega, by omega, by omega, by rw [w0, if_neg g0]⟩
    by_cases g5 : k1 = 0
    · subst g5
      rw [if_pos (show nI 0 ≤ 0 from by decide)]
      refine PS_wk (s := 127) (by decide) rmin ⟨ka, 0, by omega, by omega, by omega, by omega, rfl⟩ (by omega) ?_
      intro x y g1 g2 g3 g4
      rw [w0]
      by_cases h : y = 0
      · rw [if_pos h]; exact ⟨l127 ka k2 hab, Nat.le_refl _⟩
      · rw [if_neg h]; exact ⟨lower x y g1 g4 (by omega), l127 x y g2⟩
    · rw [if_neg (show ¬ nI k1 ≤ 0 from nI_nle (by omega) (by omega)), pk_div (by omega) (by omega) (by omega)]
      refine PS_wk (by decide) rmin ⟨kb, k1, by omega, by omega, by omega, by omega, by rw [w0, if_neg g5]⟩ (l127 kb k1 (Nat.le_refl _)) ?_
      intro x y g1 g2 g3 g4
      rw [w0, if_neg (by omega)]
      exact ⟨lower x y g1 g4 (by omega), Nat.le_trans (Nat.div_le_div_right g2) (Nat.div_le_div_left g3 (by omega))⟩
theorem ps_7 (hab : ka ≤ kb) (hb : kb ≤ 127) (h12 : k1 ≤ k2) (h2 : k2 ≤ 127) (e1 : lo p2.toNatClampNeg = nI ka) (e2 : hi p2.toNatClampNeg = nI kb) (e3 : lo p3.toNatClampNeg = nI k1) (e4 : hi p3.toNatClampNeg = nI k2) : PS (RSet 7 ka kb k1 k2) (fX0_compareEnds (nI 7) p2 p3 lo hi) := by
  have w0 : ∀ x y, wk 7 x y = if x ≤ y then y else x := fun _ _ => rfl
  rw [fX0_compareEnds, if_neg (by decide), if_neg (by decide), e1, e2, e3, e4, gr_nI (by omega) (by omega), gr_nI (by omega) (by omega)]
  refine PS_wk (by decide) ⟨ka, k1, by omega, by omega, by omega, by omega, rfl⟩ ⟨kb, k2, by omega, by omega, by omega, by omega, rfl⟩ (by split <;> omega) ?_
  intro x y g1 g2 g3 g4
  rw [w0]
  constructor
  · split <;> split <;> omega
  · split <;> split <;> omega
theorem ps_8 (hab : ka ≤ kb) (hb : kb ≤ 127) (h12 : k1 ≤ k2) (h2 : k2 ≤ 127) (e1 : lo p2.toNatClampNeg = nI ka) (e2 : hi p2.toNatClampNeg = nI kb) (e3 : lo p3.toNatClampNeg = nI k1) (e4 : hi p3.toNatClampNeg = nI k2) : PS (RSet 8 ka kb k1 k2) (fX0_distance p2 p3 lo hi) := by
  have w0 : ∀ x y, wk 8 x y = if x ≤ y then y - x else x - y := fun _ _ => rfl
  have t1 := sbT (a := ka) (b := k2) (by omega) (by omega)
  have t2 := sbT (a := k1) (b := kb) (by omega) (by omega)
  have t3 := sbT (a := kb) (b := k1) (by omega) (by omega)
  have t4 := sbT (a := k2) (b := ka) (by omega) (by omega)
  have t0 : (0 : Int32).toInt = 0 := by decide
  rw [fX0_distance, e1, e2, e3, e4]
  have hmost : fX0_greater (nI kb - nI k1) (nI k2 - nI ka) = nI (if kb + ka ≤ k2 + k1 then k2 - ka else kb - k1) := by
    by_cases h : kb + ka ≤ k2 + k1
    · rw [if_pos h, gr_neg (by rw [t3, t4]; omega), pk_sub (by omega)]
    · rw [if_neg h, gr_pos (by rw [t3, t4]; omega), pk_sub (by omega)]
  have hmin : fX0_greater (fX0_greater (nI ka - nI k2) (nI k1 - nI kb)) 0 = nI (if k2 < ka then ka - k2 else if kb < k1 then k1 - kb else 0) := by
    by_cases h : k2 < ka
    · rw [if_pos h, gr_pos (p := nI ka - nI k2) (by rw [t1, t2]; omega), gr_pos (by rw [t1, t0]; omega), pk_sub (by omega)]
    · rw [if_neg h]
      by_cases h' : kb < k1
      · rw [if_pos h', gr_neg (p := nI ka - nI k2) (by rw [t1, t2]; omega), gr_pos (by rw [t2, t0]; omega), pk_sub (by omega)]
      · rw [if_neg h']
        refine gr_neg ?_
        rw [t0, fX0_greater]
        split
        · rw [t2]; omega
        · rw [t1]; omega
  rw [hmost, hmin]
  refine PS_wk (by decide) ?_ ?_ (by split <;> omega) ?_
  · by_cases h : k2 < ka
    · exact ⟨ka, k2, by omega, by omega, by omega, by omega, by rw [w0, if_neg (by omega), if_pos h]⟩
    · by_cases h' : kb < k1
      · exact ⟨kb, k1, by omega, by omega, by omega, by omega, by rw [w0, if_pos (by omega), if_neg h, if_pos h']⟩
      · rcases Nat.le_total ka k1 with g | g
        · exact ⟨k1, k1, by omega, by omega, by omega, by omega, by rw [w0, if_pos (Nat.le_refl _), if_neg h, if_neg h']; omega⟩
        · exact ⟨ka, ka, by omega, by omega, by omega, by omega, by rw [w0, if_pos (Nat.le_refl _), if_neg h, if_neg h']; omega⟩
  · by_cases h : kb + ka ≤ k2 + k1
    · exact ⟨ka, k2, by omega, by omega, by omega, by omega, by rw [w0, if_pos (by omega), if_pos h]⟩
    · by_cases g : kb ≤ k1
      · omega
      · exact ⟨kb, k1, by omega, by omega, by omega, by omega, by rw [w0, if_neg g, if_neg h]⟩
  · intro x y g1 g2 g3 g4
    rw [w0]
    constructor
    · split <;> split <;> (try split) <;> omega
    · split <;> split <;> omega
theorem ps_9 (hab : ka ≤ kb) (hb : kb ≤ 127) (h12 : k1 ≤ k2) (h2 : k2 ≤ 127) (e1 : lo p2.toNatClampNeg = nI ka) (e2 : hi p2.toNatClampNeg = nI kb) (e3 : lo p3.toNatClampNeg = nI k1) (e4 : hi p3.toNatClampNeg = nI k2) : PS (RSet 9 ka kb k1 k2) (fX0_compareEnds (nI 9) p2 p3 lo hi) := by
  rw [fX0_compareEnds, if_pos (by decide), e1, e2, e3, e4, gr_nI (by omega) (by omega), le_nI (by omega) (by omega)]
  refine Or.inr ⟨_, _, rfl, ⟨ka, k1, by omega, by omega, by omega, by omega, Or.inr (Or.inl ⟨rfl, ?_⟩)⟩, ⟨kb, k2, by omega, by omega, by omega, by omega, Or.inr (Or.inl ⟨rfl, ?_⟩)⟩, by split <;> omega, ?_⟩
  · split
    · exact Or.inr rfl
    · exact Or.inl rfl
  · split
    · exact Or.inr rfl
    · exact Or.inl rfl
  · rintro v ⟨x, y, q1, q2, q3, q4, ⟨q5, _⟩ | ⟨_, q5⟩ | ⟨q5, _⟩⟩
    · omega
    · constructor
      · split <;> omega
      · split <;> omega
    · omega
theorem ps_10 (hab : ka ≤ kb) (hb : kb ≤ 127) (h12 : k1 ≤ k2) (h2 : k2 ≤ 127) (e1 : lo p2.toNatClampNeg = nI ka) (e2 : hi p2.toNatClampNeg = nI kb) (e3 : lo p3.toNatClampNeg = nI k1) (e4 : hi p3.toNatClampNeg = nI k2) : PS (RSet 10 ka kb k1 k2) (fX0_compareEnds (nI 10) p2 p3 lo hi) := by
  rw [fX0_compareEnds, if_neg (by decide), if_pos (by decide), e1, e2, e3, e4, gr_nI (by omega) (by omega), le_nI (by omega) (by omega)]
  generalize hg : (if ka ≤ k1 then k1 else ka) = g
  generalize hm : (if k2 ≤ kb then k2 else kb) = m
  have g1 : ka ≤ g ∧ k1 ≤ g ∧ (g = ka ∨ g = k1) := by
    rw [← hg]; split <;> omega
  have m1 : m ≤ kb ∧ m ≤ k2 ∧ (m = kb ∨ m = k2) := by
    rw [← hm]; split <;> omega
  by_cases h : g ≤ m
  · refine Or.inr ⟨g, m, rfl, ⟨g, g, by omega, by omega, by omega, by omega, Or.inr (Or.inr ⟨rfl, rfl, rfl⟩)⟩, ⟨m, m, by omega, by omega, by omega, by omega, Or.inr (Or.inr ⟨rfl, rfl, rfl⟩)⟩, by omega, ?_⟩
    rintro v ⟨x, y, q1, q2, q3, q4, ⟨q5, _⟩ | ⟨q5, _⟩ | ⟨_, q5, q6⟩⟩ <;> omega
  · refine Or.inl ⟨nI_ge (by omega) (by omega), ?_⟩
    rintro v ⟨x, y, q1, q2, q3, q4, ⟨q5, _⟩ | ⟨q5, _⟩ | ⟨_, q5, q6⟩⟩ <;> omega
end KINDS
end
section
/-! one range: what the model's fold finds, and the class's pairs -/
def sg (k x : Nat) : Nat := (fX1_single (nI k) (nI x)).toNatClampNeg
theorem sg_eq : ∀ k, k < 5 → ∀ x, x < 128 → fX1_single (nI k) (nI x) = nI (sg k x) ∧ sg k x ≤ 127 := by decide +kernel
def SSet (k ka kb v : Nat) : Prop := ∃ x, ka ≤ x ∧ x ≤ kb ∧ v = sg k x
theorem RS_one (p0 p2 : Int32) (lo hi : Nat → Int32) {k : Nat} (hk : k < 5) : ∀ (n i : Nat) (S : Nat → Prop) (l m : Int32), i + n ≤ 128 → RS S l m → ∃ l' m', RS (fun v => S v ∨ ∃ x, i ≤ x ∧ x < i + n ∧ v = sg k x) l' m' ∧ gX1_apply p0 (nI k) p2 lo hi n i l m = fX1_keep p0 lo hi l' m' := by
  intro n
  induction n with
  | zero =>
    intro i S l m _ h
    refine ⟨l, m, RS_congr (fun v => ⟨fun q => Or.inl q, ?_⟩) h, ?_⟩
    · rintro (q | ⟨x, q1, q2, _⟩)
      · exact q
      · omega
    · rw [gX1_apply]
  | succ n ih =>
    intro i S l m hj h
    obtain ⟨s1, s2⟩ := sg_eq k hk i (by omega)
    obtain ⟨l', m', hr, he⟩ := ih (i + 1) _ _ _ (by omega) (RS_add h s2)
    refine ⟨l', m', RS_congr (fun v => ?_) hr, ?_⟩
    · constructor
      · rintro ((q | q) | ⟨x, q1, q2, q3⟩)
        · exact Or.inl q
        · exact Or.inr ⟨i, Nat.le_refl _, by omega, q⟩
        · exact Or.inr ⟨x, by omega, by omega, q3⟩
      · rintro (q | ⟨x, q1, q2, q3⟩)
        · exact Or.inl (Or.inl q)
        · rcases Nat.eq_or_lt_of_le q1 with e | e
          · subst e
            exact Or.inl (Or.inr q3)
          · exact Or.inr ⟨x, e, by omega, q3⟩
    · rw [gX1_apply, s1]
      exact he
theorem RS_single (p0 p2 : Int32) (lo hi : Nat → Int32) {k ka kb : Nat} (hk : k < 5) (hab : ka ≤ kb) (hb : kb ≤ 127) : ∃ l m, RS (SSet k ka kb) l m ∧ gX1_apply p0 (nI k) p2 lo hi (kb + 1 - ka) ka 128 (-1) = fX1_keep p0 lo hi l m := by
  obtain ⟨l, m, h, e⟩ := RS_one p0 p2 lo hi hk (kb + 1 - ka) ka _ _ _ (by omega) RS_0
  refine ⟨l, m, RS_congr (fun v => ?_) h, e⟩
  constructor
  · rintro (q | ⟨x, q1, q2, q3⟩)
    · exact q.elim
    · exact ⟨x, q1, by omega, q3⟩
  · rintro ⟨x, q1, q2, q3⟩
    exact Or.inr ⟨x, q1, by omega, q3⟩
theorem PS_sg {k ka kb r s : Nat} (hr : ∃ x, ka ≤ x ∧ x ≤ kb ∧ sg k x = r) (hs : ∃ x, ka ≤ x ∧ x ≤ kb ∧ sg k x = s) (h127 : s ≤ 127) (hb : ∀ x, ka ≤ x → x ≤ kb → r ≤ sg k x ∧ sg k x ≤ s) : PS (SSet k ka kb) (nI r, nI s) := by
  refine Or.inr ⟨r, s, rfl, ?_, ?_, h127, ?_⟩
  · obtain ⟨x, q1, q2, q3⟩ := hr
    exact ⟨x, q1, q2, q3.symm⟩
  · obtain ⟨x, q1, q2, q3⟩ := hs
    exact ⟨x, q1, q2, q3.symm⟩
  · rintro v ⟨x, q1, q2, q3⟩
    rw [q3]; exact hb x q1 q2
theorem sg0 : ∀ x, x < 128 → sg 0 x = 127 - x := by decide +kernel
theorem sg4 : ∀ x, x < 128 → sg 4 x = 2 * x % 128 := by decide +kernel
theorem rt_eq : ∀ x, x < 128 → fX0_rootOf (nI x) = nI (sg 3 x) := by decide +kernel
theorem rt_mono1 : ∀ x, x < 127 → sg 3 x ≤ sg 3 (x + 1) := by decide +kernel
theorem rt_mono {x : Nat} : ∀ n, x + n < 128 → sg 3 x ≤ sg 3 (x + n) := by
  intro n
  induction n with
  | zero => exact fun _ => Nat.le_refl _
  | succ n ih => exact fun h => Nat.le_trans (ih (by omega)) (rt_mono1 (x + n) (by omega))
theorem rt_le {x y : Nat} (h : x ≤ y) (hy : y < 128) : sg 3 x ≤ sg 3 y := by
  have h2 := rt_mono (x := x) (y - x) (by omega)
  rw [show x + (y - x) = y by omega] at h2
  exact h2
section ONE
variable {ka kb : Nat}
theorem pq_0 (hab : ka ≤ kb) (hb : kb ≤ 127) : PS (SSet 0 ka kb) ((127 : Int32) - nI kb, (127 : Int32) - nI ka) := by
  rw [c127 (by omega), c127 (by omega)]
  refine PS_sg ⟨kb, hab, Nat.le_refl _, sg0 kb (by omega)⟩ ⟨ka, Nat.le_refl _, hab, sg0 ka (by omega)⟩ (by omega) ?_
  intro x g1 g2
  rw [sg0 x (by omega)]
  omega
theorem pq_3 (hab : ka ≤ kb) (hb : kb ≤ 127) : PS (SSet 3 ka kb) (fX0_rootOf (nI ka), fX0_rootOf (nI kb)) := by
  rw [rt_eq ka (by omega), rt_eq kb (by omega)]
  exact PS_sg ⟨ka, Nat.le_refl _, hab, rfl⟩ ⟨kb, hab, Nat.le_refl _, rfl⟩ (sg_eq 3 (by decide) kb (by omega)).2 (fun x g1 g2 => ⟨rt_le g1 (by omega), rt_le g2 (by omega)⟩)
theorem dbl {x : Nat} : (2 : Int32) * nI x = nI (2 * x) := pk_mul 2 x
theorem pq_4 (hab : ka ≤ kb) (hb : kb ≤ 127) : PS (SSet 4 ka kb) (fX0_doubled (nI ka) (nI kb)) := by
  rw [fX0_doubled]
  by_cases g1 : kb < 64
  · rw [if_neg (show ¬ (64 : Int32) ≤ nI kb from nI_ge (b := 64) (by omega) (by omega)), dbl, dbl]
    refine PS_sg ⟨ka, by omega, by omega, ?_⟩ ⟨kb, by omega, by omega, ?_⟩ (by omega) ?_
    · rw [sg4 ka (by omega)]; omega
    · rw [sg4 kb (by omega)]; omega
    · intro x _ _; rw [sg4 x (by omega)]; omega
  · rw [if_pos (show (64 : Int32) ≤ nI kb from nI_le (a := 64) (by omega) (by omega))]
    by_cases g2 : ka < 64
    · rw [if_pos (show nI ka < (64 : Int32) from nI_lt (b := 64) (by omega) (by omega))]
      refine PS_sg (r := 0) (s := 126) ⟨64, by omega, by omega, ?_⟩ ⟨63, by omega, by omega, ?_⟩ (by omega) ?_
      · rw [sg4 64 (by omega)]
      · rw [sg4 63 (by omega)]
      · intro x _ _; rw [sg4 x (by omega)]; omega
    · rw [if_neg (show ¬ nI ka < (64 : Int32) from nI_nlt (b := 64) (by omega) (by omega)), dbl, dbl, show nI (2 * ka) - 128 = nI (2 * ka - 128) from pk_sub (b := 128) (by omega), show nI (2 * kb) - 128 = nI (2 * kb - 128) from pk_sub (b := 128) (by omega)]
      refine PS_sg ⟨ka, by omega, by omega, ?_⟩ ⟨kb, by omega, by omega, ?_⟩ (by omega) ?_
      · rw [sg4 ka (by omega)]; omega
      · rw [sg4 kb (by omega)]; omega
      · intro x _ _; rw [sg4 x (by omega)]; omega
end ONE
/-! ones -/
def onN (x : Nat) : Nat := x % 2 + x / 2 % 2 + x / 4 % 2 + x / 8 % 2 + x / 16 % 2 + x / 32 % 2 + x / 64 % 2
theorem on_eq : ∀ x, x < 128 → fX0_ones (nI x) = nI (onN x) ∧ sg 1 x = onN x := by decide +kernel
theorem on_up : ∀ a, a < 128 → ∀ x, x < 128 → a < x → ∃ m, m < 7 ∧ (a / 2 ^ m % 2 = 0 ∧ (a / 2 ^ m + 1) * 2 ^ m ≤ x ∧ onN ((a / 2 ^ m + 1) * 2 ^ m) ≤ onN x) := by decide +kernel
theorem on_dn : ∀ b, b < 128 → ∀ x, x < 128 → x < b → ∃ m, m < 7 ∧ (b / 2 ^ m % 2 = 1 ∧ x ≤ (b / 2 ^ m - 1) * 2 ^ m + (2 ^ m - 1) ∧ onN x ≤ onN ((b / 2 ^ m - 1) * 2 ^ m + (2 ^ m - 1))) := by decide +kernel
end
section
/-! countOnes: the candidates that it goes through -/
theorem onN7 (x : Nat) : onN x ≤ 7 := by unfold onN; omega
theorem cnt_step {a b n : Nat} (ha : a < 128) (hb : b < 128) (hn : n < 7) (v3 v4 : Nat) (h3 : v3 ≤ 7) (h4 : v4 ≤ 7) : ∃ w3 w4, w3 ≤ 7 ∧ w4 ≤ 7 ∧ gX0_countOnes (nI a) (nI b) (n + 1) (nI v3) (nI v4) = gX0_countOnes (nI a) (nI b) n (nI w3) (nI w4) ∧ (w3 ≤ v3 ∧ (a / 2 ^ n % 2 = 0 → ((a / 2 ^ n + 1) * 2 ^ n) ≤ b → w3 ≤ onN ((a / 2 ^ n + 1) * 2 ^ n)) ∧ (w3 = v3 ∨ (a / 2 ^ n % 2 = 0 ∧ ((a / 2 ^ n + 1) * 2 ^ n) ≤ b ∧ w3 = onN ((a / 2 ^ n + 1) * 2 ^ n)))) ∧ (v4 ≤ w4 ∧ (b / 2 ^ n % 2 = 1 → a ≤ ((b / 2 ^ n - 1) * 2 ^ n + (2 ^ n - 1)) → onN ((b / 2 ^ n - 1) * 2 ^ n + (2 ^ n - 1)) ≤ w4) ∧ (w4 = v4 ∨ (b / 2 ^ n % 2 = 1 ∧ a ≤ ((b / 2 ^ n - 1) * 2 ^ n + (2 ^ n - 1)) ∧ w4 = onN ((b / 2 ^ n - 1) * 2 ^ n + (2 ^ n - 1))))) := by
  -- the lower side
  have lowA : ∃ w3, w3 ≤ 7 ∧ (w3 ≤ v3 ∧ (a / 2 ^ n % 2 = 0 → ((a / 2 ^ n + 1) * 2 ^ n) ≤ b → w3 ≤ onN ((a / 2 ^ n + 1) * 2 ^ n)) ∧ (w3 = v3 ∨ (a / 2 ^ n % 2 = 0 ∧ ((a / 2 ^ n + 1) * 2 ^ n) ≤ b ∧ w3 = onN ((a / 2 ^ n + 1) * 2 ^ n)))) ∧ ((a / 2 ^ n % 2 = 0 ∧ ((a / 2 ^ n + 1) * 2 ^ n) ≤ b ∧ fX0_lesser (nI v3) (fX0_ones (fX0_raised (nI a) (bitv (n + 1)))) = nI w3) ∨ (a / 2 ^ n % 2 = 0 ∧ b < ((a / 2 ^ n + 1) * 2 ^ n) ∧ w3 = v3) ∨ (a / 2 ^ n % 2 = 1 ∧ w3 = v3)) := by
    rcases Nat.mod_two_eq_zero_or_one (a / 2 ^ n) with hA | hA
    · by_cases hR : ((a / 2 ^ n + 1) * 2 ^ n) ≤ b
      · have e := raised_eq n hn a ha hA
        have l := raised_lt n hn a ha hA
        have o := onN7 ((a / 2 ^ n + 1) * 2 ^ n)
        refine ⟨if onN ((a / 2 ^ n + 1) * 2 ^ n) ≤ v3 then onN ((a / 2 ^ n + 1) * 2 ^ n) else v3, by split <;> omega, ⟨by split <;> omega, fun _ _ => by split <;> omega, ?_⟩, Or.inl ⟨hA, hR, ?_⟩⟩
        · split
          · exact Or.inr ⟨hA, hR, rfl⟩
          · exact Or.inl rfl
        · rw [e, (on_eq _ l).1, le_nI (by omega) (by omega)]
      · exact ⟨v3, h3, ⟨Nat.le_refl _, fun _ q => absurd q hR, Or.inl rfl⟩, Or.inr (Or.inl ⟨hA, by omega, rfl⟩)⟩
    · exact ⟨v3, h3, ⟨Nat.le_refl _, fun q => by omega, Or.inl rfl⟩, Or.inr (Or.inr ⟨hA, rfl⟩)⟩
  have upB : ∃ w4, w4 ≤ 7 ∧ (v4 ≤ w4 ∧ (b / 2 ^ n % 2 = 1 → a ≤ ((b / 2 ^ n - 1) * 2 ^ n + (2 ^ n - 1)) → onN ((b / 2 ^ n - 1) * 2 ^ n + (2 ^ n - 1)) ≤ w4) ∧ (w4 = v4 ∨ (b / 2 ^ n % 2 = 1 ∧ a ≤ ((b / 2 ^ n - 1) * 2 ^ n + (2 ^ n - 1)) ∧ w4 = onN ((b / 2 ^ n - 1) * 2 ^ n + (2 ^ n - 1))))) ∧ ((b / 2 ^ n % 2 = 1 ∧ a ≤ ((b / 2 ^ n - 1) * 2 ^ n + (2 ^ n - 1)) ∧ fX0_greater (nI v4) (fX0_ones (fX0_lowered (nI b) (bitv (n + 1)))) = nI w4) ∨ (b / 2 ^ n % 2 = 1 ∧ ((b / 2 ^ n - 1) * 2 ^ n + (2 ^ n - 1)) < a ∧ w4 = v4) ∨ (b / 2 ^ n % 2 = 0 ∧ w4 = v4)) := by
    rcases Nat.mod_two_eq_zero_or_one (b / 2 ^ n) with hB | hB
    · exact ⟨v4, h4, ⟨Nat.le_refl _, fun q => by omega, Or.inl rfl⟩, Or.inr (Or.inr ⟨hB, rfl⟩)⟩
    · have e := lowered_eq n hn b hb hB
      have l := lowered_lt n hn b hb hB
      have o := onN7 ((b / 2 ^ n - 1) * 2 ^ n + (2 ^ n - 1))
      generalize ((b / 2 ^ n - 1) * 2 ^ n + (2 ^ n - 1)) = Lw at e l o ⊢
      by_cases hL : a ≤ Lw
      · refine ⟨if v4 ≤ onN Lw then onN Lw else v4, by split <;> omega, ⟨by split <;> omega, fun _ _ => by split <;> omega, ?_⟩, Or.inl ⟨hB, hL, ?_⟩⟩
        · split
          · exact Or.inr ⟨hB, hL, rfl⟩
          · exact Or.inl rfl
        · rw [e, (on_eq _ l).1, gr_nI (by omega) (by omega)]
      · exact ⟨v4, h4, ⟨Nat.le_refl _, fun _ q => absurd q hL, Or.inl rfl⟩, Or.inr (Or.inl ⟨hB, by omega, rfl⟩)⟩
  obtain ⟨w3, g3, A, cA⟩ := lowA
  obtain ⟨w4, g4, B, cB⟩ := upB
  refine ⟨w3, w4, g3, g4, ?_, A, B⟩
  rcases cA with ⟨hA, hR, eA⟩ | ⟨hA, hR, eA⟩ | ⟨hA, eA⟩ <;> rcases cB with ⟨hB, hL, eB⟩ | ⟨hB, hL, eB⟩ | ⟨hB, eB⟩
  · have rl := raised_lt n hn a ha hA
    have ll := lowered_lt n hn b hb hB
    rw [gX0_countOnes, if_pos ((t_b hn).mpr hA), if_neg (show ¬ nI b < fX0_raised (nI a) (bitv (n + 1)) from by rw [raised_eq n hn a ha hA]; exact nI_nlt hR (by omega)), if_neg (fun q => by have := (t_b hn).mp q; omega), if_neg (show ¬ fX0_lowered (nI b) (bitv (n + 1)) < nI a from by rw [lowered_eq n hn b hb hB]; exact nI_nlt hL (by omega)), eA, eB]
  · have rl := raised_lt n hn a ha hA
    have ll := lowered_lt n hn b hb hB
    rw [gX0_countOnes, if_pos ((t_b hn).mpr hA), if_neg (show ¬ nI b < fX0_raised (nI a) (bitv (n + 1)) from by rw [raised_eq n hn a ha hA]; exact nI_nlt hR (by omega)), if_neg (fun q => by have := (t_b hn).mp q; omega), if_pos (show fX0_lowered (nI b) (bitv (n + 1)) < nI a from by rw [lowered_eq n hn b hb hB]; exact nI_lt hL (by omega)), eA, eB]
  · have rl := raised_lt n hn a ha hA
    rw [gX0_countOnes, if_pos ((t_b hn).mpr hA), if_neg (show ¬ nI b < fX0_raised (nI a) (bitv (n + 1)) from by rw [raised_eq n hn a ha hA]; exact nI_nlt hR (by omega)), if_pos ((t_b hn).mpr hB), eA, eB]
  · have rl := raised_lt n hn a ha hA
    have ll := lowered_lt n hn b hb hB
    rw [gX0_countOnes, if_pos ((t_b hn).mpr hA), if_pos (show nI b < fX0_raised (nI a) (bitv (n + 1)) from by rw [raised_eq n hn a ha hA]; exact nI_lt hR (by omega)), if_neg (fun q => by have := (t_b hn).mp q; omega), if_neg (show ¬ fX0_lowered (nI b) (bitv (n + 1)) < nI a from by rw [lowered_eq n hn b hb hB]; exact nI_nlt hL (by omega)), eA, eB]
  · have rl := raised_lt n hn a ha hA
    have ll := lowered_lt n hn b hb hB
    rw [gX0_countOnes, if_pos ((t_b hn).mpr hA), if_pos (show nI b < fX0_raised (nI a) (bitv (n + 1)) from by rw [raised_eq n hn a ha hA]; exact nI_lt hR (by omega)), if_neg (fun q => by have := (t_b hn).mp q; omega), if_pos (show fX0_lowered (nI b) (bitv (n + 1)) < nI a from by rw [lowered_eq n hn b hb hB]; exact nI_lt hL (by omega)), eA, eB]
  · have rl := raised_lt n hn a ha hA
    rw [gX0_countOnes, if_pos ((t_b hn).mpr hA), if_pos (show nI b < fX0_raised (nI a) (bitv (n + 1)) from by rw [raised_eq n hn a ha hA]; exact nI_lt hR (by omega)), if_pos ((t_b hn).mpr hB), eA, eB]
  · have ll := lowered_lt n hn b hb hB
    rw [gX0_countOnes, if_neg (fun q => by have := (t_b hn).mp q; omega), if_neg (fun q => by have := (t_b hn).mp q; omega), if_neg (show ¬ fX0_lowered (nI b) (bitv (n + 1)) < nI a from by rw [lowered_eq n hn b hb hB]; exact nI_nlt hL (by omega)), eA, eB]
  · have ll := lowered_lt n hn b hb hB
    rw [gX0_countOnes, if_neg (fun q => by have := (t_b hn).mp q; omega), if_neg (fun q => by have := (t_b hn).mp q; omega), if_pos (show fX0_lowered (nI b) (bitv (n + 1)) < nI a from by rw [lowered_eq n hn b hb hB]; exact nI_lt hL (by omega)), eA, eB]
  · rw [gX0_countOnes, if_neg (fun q => by have := (t_b hn).mp q; omega), if_pos ((t_b hn).mpr hB), eA, eB]
theorem cnt_spec {a b : Nat} (ha : a < 128) (hb : b < 128) : ∀ n, n ≤ 7 → ∀ v3 v4, v3 ≤ 7 → v4 ≤ 7 → ∃ r s, gX0_countOnes (nI a) (nI b) n (nI v3) (nI v4) = (nI r, nI s) ∧ s ≤ 7 ∧ (r ≤ v3 ∧ (∀ m, m < n → a / 2 ^ m % 2 = 0 → (a / 2 ^ m + 1) * 2 ^ m ≤ b → r ≤ onN ((a / 2 ^ m + 1) * 2 ^ m)) ∧ (r = v3 ∨ ∃ m, m < n ∧ a / 2 ^ m % 2 = 0 ∧ (a / 2 ^ m + 1) * 2 ^ m ≤ b ∧ r = onN ((a / 2 ^ m + 1) * 2 ^ m))) ∧ (v4 ≤ s ∧ (∀ m, m < n → b / 2 ^ m % 2 = 1 → a ≤ (b / 2 ^ m - 1) * 2 ^ m + (2 ^ m - 1) → onN ((b / 2 ^ m - 1) * 2 ^ m + (2 ^ m - 1)) ≤ s) ∧ (s = v4 ∨ ∃ m, m < n ∧ b / 2 ^ m % 2 = 1 ∧ a ≤ (b / 2 ^ m - 1) * 2 ^ m + (2 ^ m - 1) ∧ s = onN ((b / 2 ^ m - 1) * 2 ^ m + (2 ^ m - 1)))) := by
  intro n
  induction n with
  | zero =>
    intro _ v3 v4 h3 h4
    exact ⟨v3, v4, by rw [gX0_countOnes], h4, ⟨Nat.le_refl _, fun m q => by omega, Or.inl rfl⟩, ⟨Nat.le_refl _, fun m q => by omega, Or.inl rfl⟩⟩
  | succ n ih =>
    intro hn v3 v4 h3 h4
    obtain ⟨w3, w4, g3, g4, e, ⟨A1, A2, A3⟩, ⟨B1, B2, B3⟩⟩ := cnt_step ha hb hn v3 v4 h3 h4
    obtain ⟨r, s, e2, s7, ⟨C1, C2, C3⟩, ⟨D1, D2, D3⟩⟩ := ih (by omega) w3 w4 g3 g4
    refine ⟨r, s, e.trans e2, s7, ⟨Nat.le_trans C1 A1, ?_, ?_⟩, ⟨Nat.le_trans B1 D1, ?_, ?_⟩⟩
    · intro m hm q1 q2
      rcases Nat.lt_or_ge m n with h | h
      · exact C2 m h q1 q2
      · have hmn : m = n := by omega
        subst hmn
        exact Nat.le_trans C1 (A2 q1 q2)
    · rcases C3 with h | ⟨m, hm, h⟩
      · rcases A3 with q | ⟨q1, q2, q3⟩
        · exact Or.inl (h.trans q)
        · exact Or.inr ⟨n, by omega, q1, q2, h.trans q3⟩
      · exact Or.inr ⟨m, by omega, h⟩
    · intro m hm q1 q2
      rcases Nat.lt_or_ge m n with h | h
      · exact D2 m h q1 q2
      · have hmn : m = n := by omega
        subst hmn
        exact Nat.le_trans (B2 q1 q2) D1
    · rcases D3 with h | ⟨m, hm, h⟩
      · rcases B3 with q | ⟨q1, q2, q3⟩
        · exact Or.inl (h.trans q)
        · exact Or.inr ⟨n, by omega, q1, q2, h.trans q3⟩
      · exact Or.inr ⟨m, by omega, h⟩
theorem pq_1 {ka kb : Nat} (hab : ka ≤ kb) (hb : kb ≤ 127) : PS (SSet 1 ka kb) (fX0_countOnes (nI ka) (nI kb)) := by
  obtain ⟨r, s, e, s7, ⟨C1, C2, C3⟩, ⟨D1, D2, D3⟩⟩ := cnt_spec (a := ka) (b := kb) (by omega) (by omega) 7 (Nat.le_refl _) (onN ka) (onN kb) (onN7 _) (onN7 _)
  rw [fX0_countOnes, (on_eq ka (by omega)).1, (on_eq kb (by omega)).1, e]
  have sg1 : ∀ x, x < 128 → sg 1 x = onN x := fun x h => (on_eq x h).2
  refine PS_sg ?_ ?_ (by omega) ?_
  · rcases C3 with h | ⟨m, hm, q1, q2, q3⟩
    · exact ⟨ka, Nat.le_refl _, hab, by rw [sg1 ka (by omega), h]⟩
    · have h1 := lt_up ka (P := 2 ^ m) (Nat.two_pow_pos m)
      exact ⟨_, Nat.le_of_lt h1, q2, by rw [sg1 _ (by omega), q3]⟩
  · rcases D3 with h | ⟨m, hm, q1, q2, q3⟩
    · exact ⟨kb, hab, Nat.le_refl _, by rw [sg1 kb (by omega), h]⟩
    · have h1 := dn_lt (b := kb) (P := 2 ^ m) (Nat.two_pow_pos m) q1
      generalize (kb / 2 ^ m - 1) * 2 ^ m + (2 ^ m - 1) = Lw at h1 q2 q3
      exact ⟨Lw, q2, Nat.le_of_lt h1, by rw [sg1 Lw (by omega), q3]⟩
  · intro x g1 g2
    rw [sg1 x (by omega)]
    constructor
    · rcases Nat.eq_or_lt_of_le g1 with h | h
      · rw [← h]; exact C1
      · obtain ⟨m, hm, q1, q2, q3⟩ := on_up ka (by omega) x (by omega) h
        exact Nat.le_trans (C2 m hm q1 (Nat.le_trans q2 g2)) q3
    · rcases Nat.eq_or_lt_of_le g2 with h | h
      · rw [h]; exact D1
      · obtain ⟨m, hm, q1, q2, q3⟩ := on_dn kb (by omega) x (by omega) h
        exact Nat.le_trans q3 (D2 m hm q1 (Nat.le_trans g1 q2))
end
section
/-! less -/
def LsS (A B : Prop) (v3 v4 : Int32) : Prop := ((v3 = 0 ∧ A) ∨ (v3 = 1 ∧ ¬ A)) ∧ ((v4 = 1 ∧ B) ∨ (v4 = 0 ∧ ¬ B))
theorem LsS_congr {A B A' B' : Prop} {v3 v4 : Int32} (h1 : A ↔ A') (h2 : B ↔ B') (h : LsS A B v3 v4) : LsS A' B' v3 v4 := by
  rw [← propext h1, ← propext h2]; exact h
theorem LsS_in (p0 p1 : Int32) {i : Nat} (hi : i ≤ 127) : ∀ (n j : Nat) (A B : Prop) (v3 v4 : Int32), j + n ≤ 128 → LsS A B v3 v4 → LsS (A ∨ ∃ y, j ≤ y ∧ y < j + n ∧ y ≤ i) (B ∨ ∃ y, j ≤ y ∧ y < j + n ∧ i < y) (giX1_less p0 p1 i n j v3 v4).1 (giX1_less p0 p1 i n j v3 v4).2 := by
  intro n
  induction n with
  | zero =>
    intro j A B v3 v4 _ h
    rw [giX1_less]
    refine LsS_congr ⟨fun q => Or.inl q, ?_⟩ ⟨fun q => Or.inl q, ?_⟩ h
    · rintro (q | ⟨y, q1, q2, _⟩)
      · exact q
      · omega
    · rintro (q | ⟨y, q1, q2, _⟩)
      · exact q
      · omega
  | succ n ih =>
    intro j A B v3 v4 hj h
    rw [giX1_less]
    by_cases hle : j ≤ i
    · rw [if_pos (nI_le hle (by omega))]
      refine LsS_congr ?_ ?_ (ih (j + 1) True B 0 v4 (by omega) ⟨Or.inl ⟨rfl, trivial⟩, h.2⟩)
      · exact ⟨fun _ => Or.inr ⟨j, Nat.le_refl _, by omega, hle⟩, fun _ => Or.inl trivial⟩
      · constructor
        · rintro (q | ⟨y, q1, q2, q3⟩)
          · exact Or.inl q
          · exact Or.inr ⟨y, by omega, by omega, q3⟩
        · rintro (q | ⟨y, q1, q2, q3⟩)
          · exact Or.inl q
          · exact Or.inr ⟨y, by omega, by omega, q3⟩
    · rw [if_neg (nI_ge (by omega) (by omega))]
      refine LsS_congr ?_ ?_ (ih (j + 1) A True v3 1 (by omega) ⟨h.1, Or.inl ⟨rfl, trivial⟩⟩)
      · constructor
        · rintro (q | ⟨y, q1, q2, q3⟩)
          · exact Or.inl q
          · exact Or.inr ⟨y, by omega, by omega, q3⟩
        · rintro (q | ⟨y, q1, q2, q3⟩)
          · exact Or.inl q
          · exact Or.inr ⟨y, by omega, by omega, q3⟩
      · exact ⟨fun _ => Or.inr ⟨j, Nat.le_refl _, by omega, by omega⟩, fun _ => Or.inl trivial⟩
theorem LsS_out (p0 p1 : Int32) (lo hi : Nat → Int32) {k1 k2 : Nat} (h12 : k1 ≤ k2) (h2 : k2 ≤ 127) : ∀ (n i : Nat) (A B : Prop) (v3 v4 : Int32), i + n ≤ 128 → LsS A B v3 v4 → ∃ w3 w4, LsS (A ∨ ∃ x, i ≤ x ∧ x < i + n ∧ k1 ≤ x) (B ∨ ∃ x, i ≤ x ∧ x < i + n ∧ x < k2) w3 w4 ∧ gX1_less p0 p1 lo hi k1 k2 n i v3 v4 = if w3 = 0 then (if w4 = 0 then 0 else 2) else 1 := by
  intro n
  induction n with
  | zero =>
    intro i A B v3 v4 _ h
    refine ⟨v3, v4, LsS_congr ⟨fun q => Or.inl q, ?_⟩ ⟨fun q => Or.inl q, ?_⟩ h, by rw [gX1_less]⟩
    · rintro (q | ⟨y, q1, q2, _⟩)
      · exact q
      · omega
    · rintro (q | ⟨y, q1, q2, _⟩)
      · exact q
      · omega
  | succ n ih =>
    intro i A B v3 v4 hj h
    obtain ⟨w3, w4, hr, he⟩ := ih (i + 1) _ _ _ _ (by omega) (LsS_in p0 p1 (i := i) (by omega) (k2 + 1 - k1) k1 A B v3 v4 (by omega) h)
    refine ⟨w3, w4, LsS_congr ?_ ?_ hr, by rw [gX1_less]; exact he⟩
    · constructor
      · rintro ((q | ⟨y, q1, q2, q3⟩) | ⟨x, q1, q2, q3⟩)
        · exact Or.inl q
        · exact Or.inr ⟨i, Nat.le_refl _, by omega, by omega⟩
        · exact Or.inr ⟨x, by omega, by omega, q3⟩
      · rintro (q | ⟨x, q1, q2, q3⟩)
        · exact Or.inl (Or.inl q)
        · rcases Nat.eq_or_lt_of_le q1 with e | e
          · exact Or.inl (Or.inr ⟨k1, Nat.le_refl _, by omega, by omega⟩)
          · exact Or.inr ⟨x, e, by omega, q3⟩
    · constructor
      · rintro ((q | ⟨y, q1, q2, q3⟩) | ⟨x, q1, q2, q3⟩)
        · exact Or.inl q
        · exact Or.inr ⟨i, Nat.le_refl _, by omega, by omega⟩
        · exact Or.inr ⟨x, by omega, by omega, q3⟩
      · rintro (q | ⟨x, q1, q2, q3⟩)
        · exact Or.inl (Or.inl q)
        · rcases Nat.eq_or_lt_of_le q1 with e | e
          · exact Or.inl (Or.inr ⟨k2, h12, by omega, by omega⟩)
          · exact Or.inr ⟨x, e, by omega, q3⟩
theorem less_all (p0 p1 : Int32) (lo hi : Nat → Int32) {ka kb k1 k2 : Nat} (hab : ka ≤ kb) (hb : kb ≤ 127) (h12 : k1 ≤ k2) (h2 : k2 ≤ 127) : gX1_less p0 p1 lo hi k1 k2 (kb + 1 - ka) ka 1 0 = if nI k1 ≤ nI kb then (if nI ka < nI k2 then 2 else 0) else 1 := by
  obtain ⟨w3, w4, ⟨hA, hB⟩, he⟩ := LsS_out p0 p1 lo hi h12 h2 (kb + 1 - ka) ka False False 1 0 (by omega) ⟨Or.inr ⟨rfl, id⟩, Or.inr ⟨rfl, id⟩⟩
  rw [he]
  by_cases h : k1 ≤ kb
  · rw [if_pos (nI_le h (by omega))]
    have e3 : w3 = 0 := by
      rcases hA with ⟨q, _⟩ | ⟨_, q⟩
      · exact q
      · exact absurd (Or.inr ⟨kb, hab, by omega, h⟩) q
    rw [if_pos e3]
    by_cases h' : ka < k2
    · rw [if_pos (nI_lt h' (by omega))]
      rcases hB with ⟨q, _⟩ | ⟨_, q⟩
      · rw [q]; rfl
      · exact absurd (Or.inr ⟨ka, Nat.le_refl _, by omega, h'⟩) q
    · rw [if_neg (nI_nlt (by omega) (by omega))]
      rcases hB with ⟨_, q | ⟨x, q1, q2, q3⟩⟩ | ⟨q, _⟩
      · exact q.elim
      · omega
      · rw [if_pos q]
  · rw [if_neg (nI_ge (by omega) (by omega))]
    rcases hA with ⟨_, q | ⟨x, q1, q2, q3⟩⟩ | ⟨q, _⟩
    · exact q.elim
    · omega
    · rw [q]; rfl
/-! apart: pairs without a common bit -/
def zN (i j : Nat) : Nat := if i &&& j = 0 then 1 else 0
def rN (i : Nat) : Nat → Nat
  | 0 => 0
  | v + 1 => rN i v + zN i v
def cN (v : Nat) : Nat → Nat
  | 0 => 0
  | u + 1 => cN v u + rN u v
theorem z_comm (i j : Nat) : zN i j = zN j i := by unfold zN; rw [Nat.and_comm]
theorem and_bits {X Y p q : Nat} (hp : p < 2) (hq : q < 2) : ((2 * X + p) &&& (2 * Y + q)) = 0 ↔ (X &&& Y = 0 ∧ ¬ (p = 1 ∧ q = 1)) := by
  have h1 : ((2 * X + p) &&& (2 * Y + q)) / 2 = X &&& Y := by rw [Nat.and_div_two, show (2 * X + p) / 2 = X by omega, show (2 * Y + q) / 2 = Y by omega]
  have h2 : ((2 * X + p) &&& (2 * Y + q)) % 2 = 1 ↔ (2 * X + p) % 2 = 1 ∧ (2 * Y + q) % 2 = 1 := Nat.and_mod_two_eq_one
  generalize (2 * X + p) &&& (2 * Y + q) = Z at h1 h2
  constructor
  · intro h
    refine ⟨by omega, fun ⟨a, b⟩ => ?_⟩
    have := h2.mpr ⟨by omega, by omega⟩
    omega
  · rintro ⟨h3, h4⟩
    have : ¬ Z % 2 = 1 := fun h => h4 (by have := h2.mp h; omega)
    omega
theorem z_bits {X Y p q : Nat} (hp : p < 2) (hq : q < 2) : zN (2 * X + p) (2 * Y + q) = if p * q = 1 then 0 else zN X Y := by
  unfold zN
  simp only [and_bits hp hq]
  rcases (show p = 0 ∨ p = 1 by omega) with rfl | rfl <;> rcases (show q = 0 ∨ q = 1 by omega) with rfl | rfl <;> simp
theorem z00 (X Y : Nat) : zN (2 * X) (2 * Y) = zN X Y := z_bits (p := 0) (q := 0) (by decide) (by decide)
theorem z01 (X Y : Nat) : zN (2 * X) (2 * Y + 1) = zN X Y := z_bits (p := 0) (q := 1) (by decide) (by decide)
theorem z10 (X Y : Nat) : zN (2 * X + 1) (2 * Y) = zN X Y := z_bits (p := 1) (q := 0) (by decide) (by decide)
theorem z11 (X Y : Nat) : zN (2 * X + 1) (2 * Y + 1) = 0 := z_bits (p := 1) (q := 1) (by decide) (by decide)
theorem r_0 (X : Nat) : ∀ Y, rN (2 * X) (2 * Y) = 2 * rN X Y := by
  intro Y
  induction Y with
  | zero => rfl
  | succ Y ih =>
    show rN (2 * X) (2 * Y) + zN (2 * X) (2 * Y) + zN (2 * X) (2 * Y + 1) = 2 * (rN X Y + zN X Y)
    rw [ih, z00, z01]; omega
theorem r_1 (X : Nat) : ∀ Y, rN (2 * X + 1) (2 * Y) = rN X Y := by
  intro Y
  induction Y with
  | zero => rfl
  | succ Y ih =>
    show rN (2 * X + 1) (2 * Y) + zN (2 * X + 1) (2 * Y) + zN (2 * X + 1) (2 * Y + 1) = rN X Y + zN X Y
    rw [ih, z10, z11, Nat.add_zero]
theorem r_bits {X Y p q : Nat} (hp : p < 2) (hq : q < 2) : rN (2 * X + p) (2 * Y + q) = (if p = 1 then rN X Y else 2 * rN X Y) + q * zN X Y := by
  rcases (show p = 0 ∨ p = 1 by omega) with rfl | rfl <;> rcases (show q = 0 ∨ q = 1 by omega) with rfl | rfl
  · show rN (2 * X) (2 * Y) = _
    rw [r_0, if_neg (by decide), Nat.zero_mul]; rfl
  · show rN (2 * X) (2 * Y) + zN (2 * X) (2 * Y) = _
    rw [r_0, z00, if_neg (by decide), Nat.one_mul]
  · show rN (2 * X + 1) (2 * Y) = _
    rw [r_1, if_pos rfl, Nat.zero_mul]; rfl
  · show rN (2 * X + 1) (2 * Y) + zN (2 * X + 1) (2 * Y) = _
    rw [r_1, z10, if_pos rfl, Nat.one_mul]
theorem c_00 (Y : Nat) : ∀ X, cN (2 * Y) (2 * X) = 3 * cN Y X := by
  intro X
  induction X with
  | zero => rfl
  | succ X ih =>
    show cN (2 * Y) (2 * X) + rN (2 * X) (2 * Y) + rN (2 * X + 1) (2 * Y) = 3 * (cN Y X + rN X Y)
    rw [ih, r_0, r_1]; omega
/-- one column more -/
theorem c_col (v : Nat) : ∀ u, cN (v + 1) u = cN v u + rN v u := by
  intro u
  induction u with
  | zero => rfl
  | succ u ih =>
    show cN (v + 1) u + (rN u v + zN u v) = cN v u + rN u v + (rN v u + zN v u)
    rw [ih, z_comm u v]; omega
theorem c_bits {X Y p q : Nat} (hp : p < 2) (hq : q < 2) : cN (2 * Y + q) (2 * X + p) = 3 * cN Y X + 2 * p * rN X Y + 2 * q * rN Y X + p * q * zN X Y := by
  rcases (show p = 0 ∨ p = 1 by omega) with rfl | rfl <;> rcases (show q = 0 ∨ q = 1 by omega) with rfl | rfl
  · show cN (2 * Y) (2 * X) = _
    rw [c_00]; omega
  · show cN (2 * Y + 1) (2 * X) = _
    rw [c_col, c_00, r_0]; omega
  · show cN (2 * Y) (2 * X) + rN (2 * X) (2 * Y) = _
    rw [c_00, r_0]; omega
  · show cN (2 * Y + 1) (2 * X) + (rN (2 * X) (2 * Y) + zN (2 * X) (2 * Y)) = _
    rw [c_col, c_00, r_0, r_0, z00]; omega
theorem ap_p : ∀ n, n < 7 → ∀ x, x < 128 → (ushr (nI x) (kdn (n + 1)) &&& 1) = nI (x / 2 ^ n % 2) := by decide +kernel
theorem lt3m (c : Nat) : (3 : Int32) * nI c = nI (3 * c) := pk_mul 3 c
theorem apf (c p r q r' z : Nat) : (((3 * nI c) + ((2 * nI p) * nI r)) + ((2 * nI q) * nI r')) + ((nI p * nI q) * nI z) = nI (3 * c + 2 * p * r + 2 * q * r' + p * q * z) := by
  rw [lt3m, dbl, dbl, pk_mul, pk_mul, pk_mul, pk_mul, nI_add, nI_add, nI_add]
theorem bit_split {x X p : Nat} (h : x / 2 = X) (h2 : x % 2 = p) : x = 2 * X + p := by omega
theorem ap_spec {x y : Nat} (hx : x < 128) (hy : y < 128) : ∀ n, n ≤ 7 → gX0_apartUpTo (nI x) (nI y) n (nI (zN (x / 2 ^ n) (y / 2 ^ n))) (nI (rN (x / 2 ^ n) (y / 2 ^ n))) (nI (rN (y / 2 ^ n) (x / 2 ^ n))) (nI (cN (y / 2 ^ n) (x / 2 ^ n))) = nI (cN (y + 1) (x + 1)) := by
  intro n
  induction n with
  | zero =>
    intro _
    rw [gX0_apartUpTo, Nat.pow_zero, Nat.div_one, Nat.div_one, nI_add, nI_add, nI_add]
    refine congrArg nI ?_
    show zN x y + rN x y + rN y x + cN y x = cN (y + 1) x + (rN x y + zN x y)
    rw [c_col]; omega
  | succ n ih =>
    intro hn
    have ih := ih (by omega)
    have hn7 : n < 7 := hn
    have eX := bit_split (x := x / 2 ^ n) (dvS x n).symm rfl
    have eY := bit_split (x := y / 2 ^ n) (dvS y n).symm rfl
    have hp := Nat.mod_lt (x / 2 ^ n) (show 0 < 2 by decide)
    have hq := Nat.mod_lt (y / 2 ^ n) (show 0 < 2 by decide)
    have aP := ap_p n hn7 x hx
    have aQ := ap_p n hn7 y hy
    generalize x / 2 ^ (n + 1) = X at eX ⊢
    generalize y / 2 ^ (n + 1) = Y at eY ⊢
    generalize x / 2 ^ n % 2 = p at eX hp aP
    generalize y / 2 ^ n % 2 = q at eY hq aQ
    rw [eX, eY, z_bits hp hq, r_bits hp hq, r_bits hq hp, c_bits hp hq, z_comm Y X] at ih
    rw [← ih, gX0_apartUpTo, aP, aQ, apf]
    rcases (show p = 0 ∨ p = 1 by omega) with rfl | rfl <;> rcases (show q = 0 ∨ q = 1 by omega) with rfl | rfl
    · rw [if_neg (by decide), if_neg (by decide), if_neg (by decide), dbl, dbl, pk_mul, nI_add, nI_add]
      rfl
    · rw [if_neg (by decide), if_pos (by decide), if_neg (by decide), dbl, pk_mul, pk_mul, nI_add, nI_add]
      rfl
    · rw [if_pos (by decide), if_neg (by decide), if_neg (by decide), dbl, pk_mul, pk_mul, nI_add, nI_add]
      rfl
    · rw [if_pos (by decide), if_pos (by decide), if_pos (by decide), pk_mul, nI_add, nI_add]
      rfl
theorem c_v0 (v : Nat) : cN v 0 = 0 := rfl
theorem c_0u : ∀ u, cN 0 u = 0 := by
  intro u
  induction u with
  | zero => rfl
  | succ u ih =>
    show cN 0 u + 0 = 0
    rw [ih]
theorem ap_U {u v : Nat} (hu : u ≤ 128) (hv : v ≤ 128) : fX0_apartUpTo (nI u - 1) (nI v - 1) = nI (cN v u) := by
  rw [fX0_apartUpTo]
  rcases Nat.eq_zero_or_pos u with rfl | hu0
  · rw [if_pos (by decide), c_v0]; rfl
  · obtain ⟨x, rfl⟩ : ∃ x, u = x + 1 := ⟨u - 1, by omega⟩
    rw [nI_pred, if_neg (nI_pos (by omega))]
    rcases Nat.eq_zero_or_pos v with rfl | hv0
    · rw [if_neg (by decide), c_0u]; rfl
    · obtain ⟨y, rfl⟩ : ∃ y, v = y + 1 := ⟨v - 1, by omega⟩
      rw [nI_pred, if_pos (nI_pos' (by omega))]
      have h := ap_spec (x := x) (y := y) (by omega) (by omega) 7 (Nat.le_refl _)
      rw [show x / 2 ^ 7 = 0 by rw [show (2 : Nat) ^ 7 = 128 from rfl]; omega, show y / 2 ^ 7 = 0 by rw [show (2 : Nat) ^ 7 = 128 from rfl]; omega] at h
      exact h
theorem ap_in (p0 p1 : Int32) {i : Nat} (hi : i ≤ 127) : ∀ (n j v : Nat), j + n ≤ 128 → ∃ w, giX1_apart p0 p1 i n j (nI v) = nI w ∧ w + rN i j = v + rN i (j + n) := by
  intro n
  induction n with
  | zero =>
    intro j v _
    exact ⟨v, by rw [giX1_apart], rfl⟩
  | succ n ih =>
    intro j v hj
    rw [giX1_apart, nx_and]
    have e : rN i (j + 1) = rN i j + zN i j := rfl
    have hl : i &&& j ≤ 127 := and_le hi
    by_cases h : i &&& j = 0
    · obtain ⟨w, h1, h2⟩ := ih (j + 1) (v + 1) (by omega)
      refine ⟨w, by rw [if_pos (by rw [h]; rfl), nI_1, h1], ?_⟩
      have : zN i j = 1 := if_pos h
      rw [show j + (n + 1) = j + 1 + n by omega]
      omega
    · obtain ⟨w, h1, h2⟩ := ih (j + 1) v (by omega)
      refine ⟨w, by rw [if_neg (nI_ne0 (by omega) (by omega)), h1], ?_⟩
      have : zN i j = 0 := if_neg h
      rw [show j + (n + 1) = j + 1 + n by omega]
      omega
theorem ap_out (p0 p1 : Int32) (lo hi : Nat → Int32) {k1 k2 : Nat} (h12 : k1 ≤ k2) (h2 : k2 ≤ 127) : ∀ (n i v : Nat), i + n ≤ 128 → ∃ w, gX1_apart p0 p1 lo hi k1 k2 n i (nI v) = nI w ∧ w + cN (k2 + 1) i + cN k1 (i + n) = v + cN (k2 + 1) (i + n) + cN k1 i := by
  intro n
  induction n with
  | zero =>
    intro i v _
    exact ⟨v, by rw [gX1_apart], rfl⟩
  | succ n ih =>
    intro i v hj
    obtain ⟨w1, e1, e2⟩ := ap_in p0 p1 (i := i) (by omega) (k2 + 1 - k1) k1 v (by omega)
    obtain ⟨w, e3, e4⟩ := ih (i + 1) w1 (by omega)
    refine ⟨w, by rw [gX1_apart, e1, e3], ?_⟩
    rw [show k1 + (k2 + 1 - k1) = k2 + 1 by omega] at e2
    rw [show i + (n + 1) = i + 1 + n by omega]
    have f1 : cN (k2 + 1) (i + 1) = cN (k2 + 1) i + rN i (k2 + 1) := rfl
    have f2 : cN k1 (i + 1) = cN k1 i + rN i k1 := rfl
    omega
theorem apart_all (p0 p1 : Int32) (lo hi : Nat → Int32) {ka kb k1 k2 : Nat} (hab : ka ≤ kb) (hb : kb ≤ 127) (h12 : k1 ≤ k2) (h2 : k2 ≤ 127) : (((fX0_apartUpTo (nI kb) (nI k2)) + (fX0_apartUpTo (nI ka - 1) (nI k1 - 1))) - (fX0_apartUpTo (nI ka - 1) (nI k2))) - (fX0_apartUpTo (nI kb) (nI k1 - 1)) = gX1_apart p0 p1 lo hi k1 k2 (kb + 1 - ka) ka 0 := by
  obtain ⟨w, e1, e2⟩ := ap_out p0 p1 lo hi h12 h2 (kb + 1 - ka) ka 0 (by omega)
  rw [show ka + (kb + 1 - ka) = kb + 1 by omega] at e2
  have a1 := ap_U (u := kb + 1) (v := k2 + 1) (by omega) (by omega)
  have a2 := ap_U (u := ka) (v := k1) (by omega) (by omega)
  have a3 := ap_U (u := ka) (v := k2 + 1) (by omega) (by omega)
  have a4 := ap_U (u := kb + 1) (v := k1) (by omega) (by omega)
  rw [nI_pred, nI_pred] at a1
  rw [nI_pred] at a3 a4
  rw [a1, a2, a3, a4]
  refine Eq.trans ?_ e1.symm
  have e5 : nI w + nI (cN (k2 + 1) ka) + nI (cN k1 (kb + 1)) = nI (cN (k2 + 1) (kb + 1)) + nI (cN k1 ka) := by
    rw [nI_add, nI_add, nI_add, e2, Nat.zero_add]
  generalize nI (cN (k2 + 1) (kb + 1)) = c1 at e5 ⊢
  generalize nI (cN k1 ka) = c2 at e5 ⊢
  generalize nI (cN (k2 + 1) ka) = c3 at e5 ⊢
  generalize nI (cN k1 (kb + 1)) = c4 at e5 ⊢
  grind
end
section
/-! the reversed bits: from the lowest bit up -/
def rk (x : Nat) : Nat → Nat
  | 0 => 0
  | k + 1 => 2 * rk x k + x / 2 ^ k % 2
theorem sg2 : ∀ x, x < 128 → sg 2 x = rk x 7 := by decide +kernel
theorem rv_m : ∀ n, n < 7 → ((2 : Int32) <<< (kup7 (n + 1) &&& 31)) - 1 = nI (2 ^ (7 - n) - 1) := by decide +kernel
theorem rv_s : ∀ n, n < 7 → ∀ w, w < 2 → nI w <<< (kup7 (n + 1) &&& 31) = nI (w * 2 ^ (6 - n)) := by decide +kernel
theorem rv_o : ∀ n, n < 7 → ∀ w, w < 2 → ∀ B, B < 2 ^ (6 - n) → B ||| w * 2 ^ (6 - n) = B + w * 2 ^ (6 - n) := by decide +kernel
theorem rv_tn {n : Nat} (h : n < 2 ^ 32) : (nI n).toBitVec.toNat = n := pk_tn h
theorem rv_sub {t f : Nat} (ht : t < 256) (hf : f < 128) : (nI t - nI f).toBitVec.toNat = (4294967296 - f + t) % 4294967296 := by
  rw [Int32.toBitVec_sub, BitVec.toNat_sub, rv_tn (by omega), rv_tn (by omega)]
theorem rv_and {t f k : Nat} (ht : t < 256) (hf : f < 128) (hk : k ≤ 7) : (nI t - nI f) &&& nI (2 ^ k - 1) = nI ((4294967296 - f + t) % 2 ^ k) := by
  have hl : 2 ^ k ≤ 2 ^ 7 := Nat.pow_le_pow_right (by decide) hk
  rw [pk_and _ k (rv_tn (by omega)), rv_sub ht hf, Nat.mod_mod_of_dvd]
  exact Nat.pow_dvd_pow 2 (show k ≤ 32 by omega)
/-- the first number from a on that leaves t -/
theorem rv_first {a t k : Nat} (ha : a < 128) (hk : k ≤ 7) (ht : t < 2 ^ k) : (a + (4294967296 - a + t) % 2 ^ k) % 2 ^ k = t ∧ ∀ x, a ≤ x → x < 128 → x % 2 ^ k = t → a + (4294967296 - a + t) % 2 ^ k ≤ x := by
  rcases (show k = 0 ∨ k = 1 ∨ k = 2 ∨ k = 3 ∨ k = 4 ∨ k = 5 ∨ k = 6 ∨ k = 7 by omega) with rfl | rfl | rfl | rfl | rfl | rfl | rfl | rfl
  · rw [show (2 : Nat) ^ 0 = 1 from rfl] at ht ⊢
    exact ⟨by omega, fun x _ _ _ => by omega⟩
  · rw [show (2 : Nat) ^ 1 = 2 from rfl] at ht ⊢
    exact ⟨by omega, fun x _ _ _ => by omega⟩
  · rw [show (2 : Nat) ^ 2 = 4 from rfl] at ht ⊢
    exact ⟨by omega, fun x _ _ _ => by omega⟩
  · rw [show (2 : Nat) ^ 3 = 8 from rfl] at ht ⊢
    exact ⟨by omega, fun x _ _ _ => by omega⟩
  · rw [show (2 : Nat) ^ 4 = 16 from rfl] at ht ⊢
    exact ⟨by omega, fun x _ _ _ => by omega⟩
  · rw [show (2 : Nat) ^ 5 = 32 from rfl] at ht ⊢
    exact ⟨by omega, fun x _ _ _ => by omega⟩
  · rw [show (2 : Nat) ^ 6 = 64 from rfl] at ht ⊢
    exact ⟨by omega, fun x _ _ _ => by omega⟩
  · rw [show (2 : Nat) ^ 7 = 128 from rfl] at ht ⊢
    exact ⟨by omega, fun x _ _ _ => by omega⟩
theorem rv_bit (x k : Nat) : x % 2 ^ (k + 1) = x % 2 ^ k + 2 ^ k * (x / 2 ^ k % 2) := Nat.mod_pow_succ
theorem rv_mod {x z k : Nat} (h : x % 2 ^ (k + 1) = z % 2 ^ (k + 1)) : x % 2 ^ k = z % 2 ^ k ∧ x / 2 ^ k % 2 = z / 2 ^ k % 2 := by
  have hP : 0 < 2 ^ k := Nat.two_pow_pos k
  have a1 := Nat.mod_lt x hP
  have a2 := Nat.mod_lt z hP
  rw [rv_bit x k, rv_bit z k] at h
  generalize x % 2 ^ k = X at h a1 ⊢
  generalize z % 2 ^ k = Z at h a2 ⊢
  rcases Nat.mod_two_eq_zero_or_one (x / 2 ^ k) with b1 | b1 <;> rcases Nat.mod_two_eq_zero_or_one (z / 2 ^ k) with b2 | b2 <;> rw [b1, b2] at h ⊢ <;> omega
theorem rk_congr {x z : Nat} : ∀ k, x % 2 ^ k = z % 2 ^ k → rk x k = rk z k := by
  intro k
  induction k with
  | zero => exact fun _ => rfl
  | succ k ih =>
    intro h
    obtain ⟨h1, h2⟩ := rv_mod h
    show 2 * rk x k + x / 2 ^ k % 2 = 2 * rk z k + z / 2 ^ k % 2
    rw [ih h1, h2]
theorem rk_lt {x z k : Nat} (h : rk x k < rk z k) : ∀ j, rk x (k + j) < rk z (k + j) := by
  intro j
  induction j with
  | zero => exact h
  | succ j ih =>
    show 2 * rk x (k + j) + x / 2 ^ (k + j) % 2 < 2 * rk z (k + j) + z / 2 ^ (k + j) % 2
    have a1 := Nat.mod_lt (x / 2 ^ (k + j)) (show 0 < 2 by decide)
    generalize x / 2 ^ (k + j) % 2 = u at a1 ⊢
    generalize z / 2 ^ (k + j) % 2 = v
    omega
theorem rk_lt7 {x z k : Nat} (hk : k ≤ 7) (h : rk x k < rk z k) : rk x 7 < rk z 7 := by
  have h2 := rk_lt h (7 - k)
  rw [show k + (7 - k) = 7 by omega] at h2
  exact h2
theorem rk_app {B v k : Nat} (hB : B < 2 ^ k) (hv : v < 2) : rk (B + v * 2 ^ k) (k + 1) = 2 * rk B k + v := by
  have hP : 0 < 2 ^ k := Nat.two_pow_pos k
  have h1 : (B + v * 2 ^ k) % 2 ^ k = B % 2 ^ k := Nat.add_mul_mod_self_right B v (2 ^ k)
  have h2 : (B + v * 2 ^ k) / 2 ^ k = v := by rw [Nat.add_mul_div_right B v hP, Nat.div_eq_of_lt hB, Nat.zero_add]
  show 2 * rk (B + v * 2 ^ k) k + (B + v * 2 ^ k) / 2 ^ k % 2 = _
  rw [rk_congr k h1, h2, Nat.mod_eq_of_lt hv]
theorem rev_spec {a b w : Nat} (hb : b < 128) (hw : w < 2) : ∀ n, n ≤ 7 → ∀ B, B < 2 ^ (7 - n) → (∃ x, a ≤ x ∧ x ≤ b ∧ x % 2 ^ (7 - n) = B) → ∃ z, a ≤ z ∧ z ≤ b ∧ z % 2 ^ (7 - n) = B ∧ gX0_reversed (nI a) (nI b) (nI w) n (nI B) (nI (rk B (7 - n))) = nI (rk z 7) ∧ ∀ x, a ≤ x → x ≤ b → x % 2 ^ (7 - n) = B → (w = 0 → rk z 7 ≤ rk x 7) ∧ (w = 1 → rk x 7 ≤ rk z 7) := by
  intro n
  induction n with
  | zero =>
    intro _ B hB ⟨x, h1, h2, h3⟩
    rw [show 2 ^ (7 - 0) = 128 from rfl] at hB h3 ⊢
    have e : x = B := by omega
    subst e
    refine ⟨x, h1, h2, h3, by rw [gX0_reversed, Nat.sub_zero], ?_⟩
    intro y g1 g2 g3
    have e : y = x := by omega
    subst e
    exact ⟨fun _ => Nat.le_refl _, fun _ => Nat.le_refl _⟩
  | succ n ih =>
    intro hn B hB hex
    have hn7 : n < 7 := hn
    have sM := rv_m n hn7
    have sS := rv_s n hn7
    have sO := rv_o n hn7
    have ih := ih (by omega)
    obtain ⟨k, hk⟩ : ∃ k, k = 6 - n := ⟨_, rfl⟩
    have e1 : 7 - (n + 1) = k := by omega
    have e2 : 7 - n = k + 1 := by omega
    have e3 : 6 - n = k := by omega
    rw [e1] at hB hex ⊢
    rw [e2] at ih sM
    rw [e3] at sS sO
    have hk6 : k ≤ 6 := by omega
    have hl : 2 ^ (k + 1) ≤ 2 ^ 7 := Nat.pow_le_pow_right (by decide) (by omega)
    have cB : ∀ v, v < 2 → nI B ||| (nI v <<< (kup7 (n + 1) &&& 31)) = nI (B + v * 2 ^ k) := fun v hv => by rw [sS v hv, nx_or, sO v hv B hB]
    have cw : (1 : Int32) - nI w = nI (1 - w) := pk_sub (a := 1) (by omega)
    have cO : ∀ v, v < 2 → 2 * nI (rk B k) + nI v = nI (rk (B + v * 2 ^ k) (k + 1)) := fun v hv => by rw [dbl, nI_add, rk_app hB hv]
    have hbit : ∀ x, x % 2 ^ k = B → x % 2 ^ (k + 1) = B + (x / 2 ^ k % 2) * 2 ^ k := fun x h => by rw [rv_bit, h, Nat.mul_comm]
    have hB2 : ∀ v, v < 2 → B + v * 2 ^ k < 2 ^ (k + 1) := fun v hv => by
      rw [Nat.pow_succ]
      have := Nat.mul_le_mul_right (2 ^ k) (show v ≤ 1 by omega)
      omega
    have hlow : ∀ z v, z % 2 ^ (k + 1) = B + v * 2 ^ k → z % 2 ^ k = B := by
      intro z v h
      have h1 := Nat.mod_mod_of_dvd z (Nat.pow_dvd_pow 2 (show k ≤ k + 1 by omega))
      rw [h, Nat.add_mul_mod_self_right, Nat.mod_eq_of_lt hB] at h1
      exact h1.symm
    have ht := hB2 w hw
    have ha : a < 128 := by
      obtain ⟨x, g1, g2, _⟩ := hex
      omega
    obtain ⟨f1, f2⟩ := rv_first (a := a) (t := B + w * 2 ^ k) (k := k + 1) ha (by omega) ht
    have fA := rv_and (t := B + w * 2 ^ k) (f := a) (k := k + 1) (by omega) ha (by omega)
    have fL := Nat.mod_lt (4294967296 - a + (B + w * 2 ^ k)) (show 0 < 2 ^ (k + 1) from Nat.two_pow_pos _)
    generalize (4294967296 - a + (B + w * 2 ^ k)) % 2 ^ (k + 1) = G at f1 f2 fA fL
    have ev : gX0_reversed (nI a) (nI b) (nI w) (n + 1) (nI B) (nI (rk B k)) = if nI b < nI (a + G) then gX0_reversed (nI a) (nI b) (nI w) n (nI (B + (1 - w) * 2 ^ k)) (nI (rk (B + (1 - w) * 2 ^ k) (k + 1))) else gX0_reversed (nI a) (nI b) (nI w) n (nI (B + w * 2 ^ k)) (nI (rk (B + w * 2 ^ k) (k + 1))) := by
      rw [gX0_reversed, cw, cB w hw, cB (1 - w) (by omega), cO w hw, cO (1 - w) (by omega), sM, fA, nI_add]
    by_cases hF : b < a + G
    · have hall : ∀ x, a ≤ x → x ≤ b → x % 2 ^ k = B → x % 2 ^ (k + 1) = B + (1 - w) * 2 ^ k := by
        intro x g1 g2 g3
        have h := hbit x g3
        have hx2 := Nat.mod_lt (x / 2 ^ k) (show 0 < 2 by decide)
        by_cases q : x / 2 ^ k % 2 = w
        · rw [q] at h
          have := f2 x g1 (by omega) h
          omega
        · have q2 : x / 2 ^ k % 2 = 1 - w := by omega
          rw [q2] at h
          exact h
      obtain ⟨x, g1, g2, g3⟩ := hex
      obtain ⟨z, z1, z2, z3, z4, z5⟩ := ih (B + (1 - w) * 2 ^ k) (hB2 _ (by omega)) ⟨x, g1, g2, hall x g1 g2 g3⟩
      exact ⟨z, z1, z2, hlow z _ z3, by rw [ev, if_pos (nI_lt hF (by omega)), z4], fun y y1 y2 y3 => z5 y y1 y2 (hall y y1 y2 y3)⟩
    · obtain ⟨z, z1, z2, z3, z4, z5⟩ := ih (B + w * 2 ^ k) ht ⟨a + G, by omega, by omega, f1⟩
      refine ⟨z, z1, z2, hlow z w z3, by rw [ev, if_neg (nI_nlt (by omega) (by omega)), z4], ?_⟩
      intro y y1 y2 y3
      by_cases q : y / 2 ^ k % 2 = w
      · have h := hbit y y3
        rw [q] at h
        exact z5 y y1 y2 h
      · -- decided at this bit
        have hy : rk y (k + 1) = 2 * rk B k + y / 2 ^ k % 2 := by
          show 2 * rk y k + y / 2 ^ k % 2 = _
          rw [rk_congr (z := B) k (by rw [y3, Nat.mod_eq_of_lt hB])]
        have hz : rk z (k + 1) = 2 * rk B k + w := by
          rw [rk_congr (z := B + w * 2 ^ k) (k + 1) (by rw [z3, Nat.mod_eq_of_lt ht]), rk_app hB hw]
        have hy2 := Nat.mod_lt (y / 2 ^ k) (show 0 < 2 by decide)
        generalize y / 2 ^ k % 2 = v at q hy hy2
        constructor
        · intro w0
          exact Nat.le_of_lt (rk_lt7 (k := k + 1) (by omega) (by rw [hy, hz]; omega))
        · intro w1
          exact Nat.le_of_lt (rk_lt7 (k := k + 1) (by omega) (by rw [hy, hz]; omega))
theorem pq_2 {ka kb : Nat} (hab : ka ≤ kb) (hb : kb ≤ 127) : PS (SSet 2 ka kb) (fX0_reversed (nI ka) (nI kb) 0, fX0_reversed (nI ka) (nI kb) 1) := by
  obtain ⟨z, z1, z2, -, z4, z5⟩ := rev_spec (a := ka) (b := kb) (w := 0) (by omega) (by decide) 7 (Nat.le_refl _) 0 (by decide) ⟨ka, Nat.le_refl _, hab, Nat.mod_one _⟩
  obtain ⟨y, y1, y2, -, y4, y5⟩ := rev_spec (a := ka) (b := kb) (w := 1) (by omega) (by decide) 7 (Nat.le_refl _) 0 (by decide) ⟨ka, Nat.le_refl _, hab, Nat.mod_one _⟩
  have e0 : fX0_reversed (nI ka) (nI kb) 0 = nI (rk z 7) := z4
  have e1 : fX0_reversed (nI ka) (nI kb) 1 = nI (rk y 7) := y4
  rw [e0, e1]
  refine PS_sg ⟨z, z1, z2, sg2 z (by omega)⟩ ⟨y, y1, y2, sg2 y (by omega)⟩ ?_ ?_
  · rw [← sg2 y (by omega)]
    exact (sg_eq 2 (by decide) y (by omega)).2
  · intro x g1 g2
    rw [sg2 x (by omega)]
    exact ⟨(z5 x g1 g2 (Nat.mod_one _)).1 rfl, (y5 x g1 g2 (Nat.mod_one _)).2 rfl⟩
end
section
/-! the two sides agree: registers' ranges are the same in both -/
def Agree (lo hi lo' hi' : Nat → Int32) : Prop := ∀ j, j < 6 → ∃ a b : Nat, a ≤ b ∧ b ≤ 127 ∧ lo j = nI a ∧ hi j = nI b ∧ lo' j = nI a ∧ hi' j = nI b
theorem vp6 {p : Int32} (h : vp_in p 6) : p.toNatClampNeg < 6 := Nat.not_le.mp (fun q => h (Or.inr q))
theorem agree_at {lo hi lo' hi' : Nat → Int32} (h : Agree lo hi lo' hi') (p : Int32) : ∃ a b : Nat, a ≤ b ∧ b ≤ 127 ∧ (vp_in p 6 → lo p.toNatClampNeg = nI a) ∧ (vp_in p 6 → hi p.toNatClampNeg = nI b) ∧ (vp_in p 6 → lo' p.toNatClampNeg = nI a) ∧ (vp_in p 6 → hi' p.toNatClampNeg = nI b) := by
  by_cases hp : vp_in p 6
  · obtain ⟨a, b, h1, h2, h3, h4, h5, h6⟩ := h _ (vp6 hp)
    exact ⟨a, b, h1, h2, fun _ => h3, fun _ => h4, fun _ => h5, fun _ => h6⟩
  · exact ⟨0, 0, by decide, by decide, fun q => absurd q hp, fun q => absurd q hp, fun q => absurd q hp, fun q => absurd q hp⟩
theorem reg_bad {p : Int32} (h : fX0_isRegister p = 0) : ¬ fX1_bad p = 0 := by
  intro q
  unfold fX0_isRegister at h
  unfold fX1_bad at q
  by_cases h1 : p < 0
  · rw [if_pos h1] at q
    exact absurd q (by decide)
  · rw [if_neg h1] at h q
    by_cases h2 : p ≤ 5
    · rw [if_neg (Int32.not_lt.mpr h2)] at h
      exact absurd h (by decide)
    · rw [if_neg h2] at q
      exact absurd q (by decide)
theorem reg_ok {p : Int32} (h : ¬ fX0_isRegister p = 0) : fX1_bad p = 0 := by
  unfold fX0_isRegister at h
  unfold fX1_bad
  by_cases h1 : p < 0
  · rw [if_pos h1] at h
    exact absurd rfl h
  · rw [if_neg h1] at h ⊢
    by_cases h2 : p ≤ 5
    · rw [if_pos h2]
    · rw [if_pos (Int32.not_le.mp h2)] at h
      exact absurd rfl h
theorem set_rng {p1 p2 : Int32} (h1 : ¬ p1 < 0) (h2 : ¬ p2 < p1) (h3 : p2 ≤ 127) : ∃ a b : Nat, a ≤ b ∧ b ≤ 127 ∧ p1 = nI a ∧ p2 = nI b := by
  have h4 : p1 ≤ p2 := Int32.not_lt.mp h2
  have h5 : ¬ p2 < 0 := fun q => h1 (Int32.lt_of_le_of_lt h4 q)
  obtain ⟨b, hb, rfl⟩ := nI_of2 (n := 127) (by decide) h5 h3
  obtain ⟨a, ha, rfl⟩ := nI_of h1
  exact ⟨a, b, (nI_leI ha (by omega)).mp h4, hb, rfl, rfl⟩
def KP (p0 : Int32) (lo hi : Nat → Int32) (P : Int32 × Int32) : Int32 × (Nat → Int32) × (Nat → Int32) × Int32 × Int32 := if P.1 ≤ P.2 then (0, (upd lo p0.toNatClampNeg P.1), (upd hi p0.toNatClampNeg P.2), P.1, P.2) else ((-2), lo, hi, P.1, P.2)
section STEPS
variable {lo hi lo' hi' : Nat → Int32}
theorem agree_upd (hAg : Agree lo hi lo' hi') (r : Nat) {a b : Nat} (hab : a ≤ b) (hb : b ≤ 127) : Agree (upd lo r (nI a)) (upd hi r (nI b)) (upd lo' r (nI a)) (upd hi' r (nI b)) := by
  intro j hj
  by_cases h : j = r
  · subst h
    exact ⟨a, b, hab, hb, pk_us, pk_us, pk_us, pk_us⟩
  · obtain ⟨a', b', h1, h2, h3, h4, h5, h6⟩ := hAg j hj
    exact ⟨a', b', h1, h2, (pk_un h).trans h3, (pk_un h).trans h4, (pk_un h).trans h5, (pk_un h).trans h6⟩
theorem keep_step (hAg : Agree lo hi lo' hi') {S : Nat → Prop} {P : Int32 × Int32} {l m : Int32} (p0 : Int32) (hP : PS S P) (hR : RS S l m) : (KP p0 lo hi P).1 = (fX1_keep p0 lo' hi' l m).1 ∧ Agree (KP p0 lo hi P).2.1 (KP p0 lo hi P).2.2.1 (fX1_keep p0 lo' hi' l m).2.1 (fX1_keep p0 lo' hi' l m).2.2.1 := by
  rcases PS_same hP (PS_of_RS hR) with ⟨h1, h2, a, b, h3, h4, h5⟩ | ⟨h1, h2⟩
  · subst h3
    have e1 : l = nI a := congrArg Prod.fst h2
    have e2 : m = nI b := congrArg Prod.snd h2
    subst e1
    subst e2
    have hk : nI a ≤ nI b := h1
    rw [KP, if_pos h1, fX1_keep, if_pos hk]
    exact ⟨rfl, agree_upd hAg _ h4 h5⟩
  · have hk : ¬ l ≤ m := h2
    rw [KP, if_neg h1, fX1_keep, if_neg hk]
    exact ⟨rfl, hAg⟩
theorem keep_one (hAg : Agree lo hi lo' hi') {S : Nat → Prop} {P : Int32 × Int32} {l m : Int32} (p0 : Int32) (hP : PS S P) (hR : RS S l m) {v : Nat} (hv : S v) : (0 : Int32) = (fX1_keep p0 lo' hi' l m).1 ∧ Agree (upd lo p0.toNatClampNeg P.1) (upd hi p0.toNatClampNeg P.2) (fX1_keep p0 lo' hi' l m).2.1 (fX1_keep p0 lo' hi' l m).2.2.1 := by
  rcases PS_same hP (PS_of_RS hR) with ⟨h1, h2, a, b, h3, h4, h5⟩ | ⟨h1, h2⟩
  · subst h3
    have e1 : l = nI a := congrArg Prod.fst h2
    have e2 : m = nI b := congrArg Prod.snd h2
    subst e1
    subst e2
    have hk : nI a ≤ nI b := h1
    rw [fX1_keep, if_pos hk]
    exact ⟨rfl, agree_upd hAg _ h4 h5⟩
  · rcases hP with ⟨_, q⟩ | ⟨a, b, rfl, q1, q2, q3, q4⟩
    · exact absurd hv (q v)
    · exact absurd (nI_le (q4 a q1).2 (by omega)) h1
theorem st_set (hAg : Agree lo hi lo' hi') (p0 p1 p2 x y x' y' : Int32) : (fX0_set p0 p1 p2 lo hi x y).1 = (fX1_set p0 p1 p2 lo' hi' x' y').1 ∧ Agree (fX0_set p0 p1 p2 lo hi x y).2.1 (fX0_set p0 p1 p2 lo hi x y).2.2.1 (fX1_set p0 p1 p2 lo' hi' x' y').2.1 (fX1_set p0 p1 p2 lo' hi' x' y').2.2.1 := by
  unfold fX0_set fX1_set
  by_cases hr : fX0_isRegister p0 = 0
  · rw [if_pos hr, if_neg (reg_bad hr)]
    exact ⟨rfl, hAg⟩
  · rw [if_neg hr, if_pos (reg_ok hr)]
    by_cases h1 : p1 < 0
    · rw [if_pos h1, if_pos h1]
      exact ⟨rfl, hAg⟩
    · rw [if_neg h1, if_neg h1]
      by_cases h2 : p2 < p1
      · rw [if_pos h2, if_pos h2]
        exact ⟨rfl, hAg⟩
      · rw [if_neg h2, if_neg h2]
        by_cases h3 : p2 ≤ 127
        · rw [if_pos h3, if_pos h3]
          obtain ⟨a, b, q1, q2, rfl, rfl⟩ := set_rng h1 h2 h3
          exact ⟨rfl, agree_upd hAg _ q1 q2⟩
        · rw [if_neg h3, if_neg h3]
          exact ⟨rfl, hAg⟩
theorem st_combine (hAg : Agree lo hi lo' hi') (p0 p1 p2 p3 x y x' y' : Int32) (ka kb k1 k2 : Nat) (hab : ka ≤ kb) (h31 : kb ≤ 127) (eX1 : vp_in p2 6 → lo p2.toNatClampNeg = nI ka) (eX2 : vp_in p2 6 → hi p2.toNatClampNeg = nI kb) (eM1 : vp_in p2 6 → lo' p2.toNatClampNeg = nI ka) (eM2 : vp_in p2 6 → hi' p2.toNatClampNeg = nI kb) (h12 : k1 ≤ k2) (h312 : k2 ≤ 127) (fX1 : vp_in p3 6 → lo p3.toNatClampNeg = nI k1) (fX2 : vp_in p3 6 → hi p3.toNatClampNeg = nI k2) (fM1 : vp_in p3 6 → lo' p3.toNatClampNeg = nI k1) (fM2 : vp_in p3 6 → hi' p3.toNatClampNeg = nI k2) : (fX0_combine p0 p1 p2 p3 lo hi x y).1 = (fX1_combine p0 p1 p2 p3 lo' hi' x' y' ka kb k1 k2).1 ∧ Agree (fX0_combine p0 p1 p2 p3 lo hi x y).2.1 (fX0_combine p0 p1 p2 p3 lo hi x y).2.2.1 (fX1_combine p0 p1 p2 p3 lo' hi' x' y' ka kb k1 k2).2.1 (fX1_combine p0 p1 p2 p3 lo' hi' x' y' ka kb k1 k2).2.2.1 := by
  by_cases hr : fX0_isRegister p0 = 0
  · rw [fX0_combine, if_pos hr, fX1_combine, if_neg (reg_bad hr)]
    exact ⟨rfl, hAg⟩
  · by_cases hs : fX0_isRegister p2 = 0
    · rw [fX0_combine, if_neg hr, if_pos hs, fX1_combine, if_pos (reg_ok hr), if_neg (reg_bad hs)]
      exact ⟨rfl, hAg⟩
    · by_cases ht : fX0_isRegister p3 = 0
      · rw [fX0_combine, if_neg hr, if_neg hs, if_pos ht, fX1_combine, if_pos (reg_ok hr), if_pos (reg_ok hs), if_neg (reg_bad ht)]
        exact ⟨rfl, hAg⟩
      · by_cases h1 : p1 < 0
        · rw [fX0_combine, if_neg hr, if_neg hs, if_neg ht, if_pos h1, fX1_combine, if_pos (reg_ok hr), if_pos (reg_ok hs), if_pos (reg_ok ht), if_pos h1]
          exact ⟨rfl, hAg⟩
        · by_cases h10 : p1 ≤ 10
          · have i2 := isReg_in hs
            have i3 := isReg_in ht
            obtain ⟨k, hk, rfl⟩ := nI_of2 (n := 10) (by decide) h1 h10
            obtain ⟨l, m, hR, e⟩ := RS_all p0 p2 p3 lo' hi' (k := k) hk hab h31 h12 h312
            rw [fX1_combine, if_pos (reg_ok hr), if_pos (reg_ok hs), if_pos (reg_ok ht), if_neg h1, if_pos h10, e]
            have key : ∃ P, fX0_combine p0 (nI k) p2 p3 lo hi x y = KP p0 lo hi P ∧ PS (RSet k ka kb k1 k2) P := by
              clear e hR
              rcases (show k = 0 ∨ k = 1 ∨ k = 2 ∨ k = 3 ∨ k = 4 ∨ k = 5 ∨ k = 6 ∨ k = 7 ∨ k = 8 ∨ k = 9 ∨ k = 10 by omega) with rfl | rfl | rfl | rfl | rfl | rfl | rfl | rfl | rfl | rfl | rfl
              · refine ⟨_, ?_, ps_0 hab h31 h12 h312 (eX1 i2) (eX2 i2) (fX1 i3) (fX2 i3)⟩
                rw [fX0_combine, if_neg hr, if_neg hs, if_neg ht, if_neg h1, if_pos h10, if_neg (by decide)]
                rfl
              · refine ⟨_, ?_, ps_1 hab h31 h12 h312 (eX1 i2) (eX2 i2) (fX1 i3) (fX2 i3)⟩
                rw [fX0_combine, if_neg hr, if_neg hs, if_neg ht, if_neg h1, if_pos h10, if_neg (by decide)]
                rfl
              · refine ⟨_, ?_, ps_2 hab h31 h12 h312⟩
                rw [fX0_combine, if_neg hr, if_neg hs, if_neg ht, if_neg h1, if_pos h10, if_pos (by decide), if_neg (by decide), eX1 i2, eX2 i2, fX1 i3, fX2 i3]
                rfl
              · refine ⟨_, ?_, ps_3 hab h31 h12 h312⟩
                rw [fX0_combine, if_neg hr, if_neg hs, if_neg ht, if_neg h1, if_pos h10, if_pos (by decide), if_neg (by decide), eX1 i2, eX2 i2, fX1 i3, fX2 i3]
                rfl
              · refine ⟨_, ?_, ps_4 hab h31 h12 h312⟩
                rw [fX0_combine, if_neg hr, if_neg hs, if_neg ht, if_neg h1, if_pos h10, if_pos (by decide), if_neg (by decide), eX1 i2, eX2 i2, fX1 i3, fX2 i3]
                rfl
              · refine ⟨_, ?_, ps_5 hab h31 h12 h312 (eX1 i2) (eX2 i2) (fX1 i3) (fX2 i3)⟩
                rw [fX0_combine, if_neg hr, if_neg hs, if_neg ht, if_neg h1, if_pos h10, if_pos (by decide), if_pos (by decide), if_neg (by decide)]
                rfl
              · refine ⟨_, ?_, ps_6 hab h31 h12 h312 (eX1 i2) (eX2 i2) (fX1 i3) (fX2 i3)⟩
                rw [fX0_combine, if_neg hr, if_neg hs, if_neg ht, if_neg h1, if_pos h10, if_pos (by decide), if_pos (by decide), if_neg (by decide)]
                rfl
              · refine ⟨_, ?_, ps_7 hab h31 h12 h312 (eX1 i2) (eX2 i2) (fX1 i3) (fX2 i3)⟩
                rw [fX0_combine, if_neg hr, if_neg hs, if_neg ht, if_neg h1, if_pos h10, if_pos (by decide), if_pos (by decide), if_pos (by decide), if_neg (by decide)]
                rfl
              · refine ⟨_, ?_, ps_8 hab h31 h12 h312 (eX1 i2) (eX2 i2) (fX1 i3) (fX2 i3)⟩
                rw [fX0_combine, if_neg hr, if_neg hs, if_neg ht, if_neg h1, if_pos h10, if_pos (by decide), if_pos (by decide), if_pos (by decide), if_pos (by decide)]
                rfl
              · refine ⟨_, ?_, ps_9 hab h31 h12 h312 (eX1 i2) (eX2 i2) (fX1 i3) (fX2 i3)⟩
                rw [fX0_combine, if_neg hr, if_neg hs, if_neg ht, if_neg h1, if_pos h10, if_pos (by decide), if_pos (by decide), if_pos (by decide), if_neg (by decide)]
                rfl
              · refine ⟨_, ?_, ps_10 hab h31 h12 h312 (eX1 i2) (eX2 i2) (fX1 i3) (fX2 i3)⟩
                rw [fX0_combine, if_neg hr, if_neg hs, if_neg ht, if_neg h1, if_pos h10, if_pos (by decide), if_pos (by decide), if_pos (by decide), if_neg (by decide)]
                rfl
            obtain ⟨P, e0, hP⟩ := key
            rw [e0]
            exact keep_step hAg p0 hP hR
          · rw [fX0_combine, if_neg hr, if_neg hs, if_neg ht, if_neg h1, if_neg h10, fX1_combine, if_pos (reg_ok hr), if_pos (reg_ok hs), if_pos (reg_ok ht), if_neg h1, if_neg h10]
            exact ⟨rfl, hAg⟩
theorem st_apply (hAg : Agree lo hi lo' hi') (p0 p1 p2 x y x' y' : Int32) (ka kb : Nat) (hab : ka ≤ kb) (h31 : kb ≤ 127) (eX1 : vp_in p2 6 → lo p2.toNatClampNeg = nI ka) (eX2 : vp_in p2 6 → hi p2.toNatClampNeg = nI kb) (eM1 : vp_in p2 6 → lo' p2.toNatClampNeg = nI ka) (eM2 : vp_in p2 6 → hi' p2.toNatClampNeg = nI kb) : (fX0_apply p0 p1 p2 lo hi x y).1 = (fX1_apply p0 p1 p2 lo' hi' x' y' ka kb).1 ∧ Agree (fX0_apply p0 p1 p2 lo hi x y).2.1 (fX0_apply p0 p1 p2 lo hi x y).2.2.1 (fX1_apply p0 p1 p2 lo' hi' x' y' ka kb).2.1 (fX1_apply p0 p1 p2 lo' hi' x' y' ka kb).2.2.1 := by
  by_cases hr : fX0_isRegister p0 = 0
  · rw [fX0_apply, if_pos hr, fX1_apply, if_neg (reg_bad hr)]
    exact ⟨rfl, hAg⟩
  · by_cases hs : fX0_isRegister p2 = 0
    · rw [fX0_apply, if_neg hr, if_pos hs, fX1_apply, if_pos (reg_ok hr), if_neg (reg_bad hs)]
      exact ⟨rfl, hAg⟩
    · by_cases h1 : p1 < 0
      · rw [fX0_apply, if_neg hr, if_neg hs, if_pos h1, fX1_apply, if_pos (reg_ok hr), if_pos (reg_ok hs), if_pos h1]
        exact ⟨rfl, hAg⟩
      · by_cases h4 : p1 ≤ 4
        · have i2 := isReg_in hs
          obtain ⟨k, hk, rfl⟩ := nI_of2 (n := 4) (by decide) h1 h4
          obtain ⟨l, m, hR, e⟩ := RS_single p0 p2 lo' hi' (k := k) (by omega) hab h31
          have hv : SSet k ka kb (sg k ka) := ⟨ka, Nat.le_refl _, hab, rfl⟩
          rw [fX1_apply, if_pos (reg_ok hr), if_pos (reg_ok hs), if_neg h1, if_pos h4, e]
          clear e
          rcases (show k = 0 ∨ k = 1 ∨ k = 2 ∨ k = 3 ∨ k = 4 by omega) with rfl | rfl | rfl | rfl | rfl
          · rw [fX0_apply, if_neg hr, if_neg hs, if_neg h1, if_pos h4, if_pos (by decide), eX1 i2, eX2 i2]
            exact keep_one hAg p0 (pq_0 hab h31) hR hv
          · rw [fX0_apply, if_neg hr, if_neg hs, if_neg h1, if_pos h4, if_neg (by decide), if_pos (by decide), eX1 i2, eX2 i2]
            exact keep_one hAg p0 (pq_1 hab h31) hR hv
          · rw [fX0_apply, if_neg hr, if_neg hs, if_neg h1, if_pos h4, if_neg (by decide), if_neg (by decide), if_pos (by decide), eX1 i2, eX2 i2]
            exact keep_one hAg p0 (pq_2 hab h31) hR hv
          · rw [fX0_apply, if_neg hr, if_neg hs, if_neg h1, if_pos h4, if_neg (by decide), if_neg (by decide), if_neg (by decide), if_pos (by decide), eX1 i2, eX2 i2]
            exact keep_one hAg p0 (pq_3 hab h31) hR hv
          · rw [fX0_apply, if_neg hr, if_neg hs, if_neg h1, if_pos h4, if_neg (by decide), if_neg (by decide), if_neg (by decide), if_neg (by decide), eX1 i2, eX2 i2]
            exact keep_one hAg p0 (pq_4 hab h31) hR hv
        · rw [fX0_apply, if_neg hr, if_neg hs, if_neg h1, if_neg h4, fX1_apply, if_pos (reg_ok hr), if_pos (reg_ok hs), if_neg h1, if_neg h4]
          exact ⟨rfl, hAg⟩
theorem st_low (hAg : Agree lo hi lo' hi') (p0 : Int32) : fX0_low p0 lo hi = fX1_low p0 lo' hi' := by
  by_cases hr : fX0_isRegister p0 = 0
  · rw [fX0_low, if_pos hr, fX1_low, if_neg (reg_bad hr)]
  · obtain ⟨a, b, -, -, e1, -, e2, -⟩ := hAg _ (vp6 (isReg_in hr))
    rw [fX0_low, if_neg hr, fX1_low, if_pos (reg_ok hr), e1, e2]
theorem st_high (hAg : Agree lo hi lo' hi') (p0 : Int32) : fX0_high p0 lo hi = fX1_high p0 lo' hi' := by
  by_cases hr : fX0_isRegister p0 = 0
  · rw [fX0_high, if_pos hr, fX1_high, if_neg (reg_bad hr)]
  · obtain ⟨a, b, -, -, -, e1, -, e2⟩ := hAg _ (vp6 (isReg_in hr))
    rw [fX0_high, if_neg hr, fX1_high, if_pos (reg_ok hr), e1, e2]
theorem st_less (hAg : Agree lo hi lo' hi') (p0 p1 : Int32) (ka kb k1 k2 : Nat) (hab : ka ≤ kb) (h31 : kb ≤ 127) (eX1 : vp_in p0 6 → lo p0.toNatClampNeg = nI ka) (eX2 : vp_in p0 6 → hi p0.toNatClampNeg = nI kb) (eM1 : vp_in p0 6 → lo' p0.toNatClampNeg = nI ka) (eM2 : vp_in p0 6 → hi' p0.toNatClampNeg = nI kb) (h12 : k1 ≤ k2) (h312 : k2 ≤ 127) (fX1 : vp_in p1 6 → lo p1.toNatClampNeg = nI k1) (fX2 : vp_in p1 6 → hi p1.toNatClampNeg = nI k2) (fM1 : vp_in p1 6 → lo' p1.toNatClampNeg = nI k1) (fM2 : vp_in p1 6 → hi' p1.toNatClampNeg = nI k2) : fX0_less p0 p1 lo hi = fX1_less p0 p1 lo' hi' ka kb k1 k2 := by
  by_cases hr : fX0_isRegister p0 = 0
  · rw [fX0_less, if_pos hr, fX1_less, if_neg (reg_bad hr)]
  · by_cases hs : fX0_isRegister p1 = 0
    · rw [fX0_less, if_neg hr, if_pos hs, fX1_less, if_pos (reg_ok hr), if_neg (reg_bad hs)]
    · have i0 := isReg_in hr
      have i1 := isReg_in hs
      rw [fX0_less, if_neg hr, if_neg hs, fX1_less, if_pos (reg_ok hr), if_pos (reg_ok hs), less_all p0 p1 lo' hi' hab h31 h12 h312, eX1 i0, eX2 i0, fX1 i1, fX2 i1]
theorem st_apart (hAg : Agree lo hi lo' hi') (p0 p1 : Int32) (ka kb k1 k2 : Nat) (hab : ka ≤ kb) (h31 : kb ≤ 127) (eX1 : vp_in p0 6 → lo p0.toNatClampNeg = nI ka) (eX2 : vp_in p0 6 → hi p0.toNatClampNeg = nI kb) (eM1 : vp_in p0 6 → lo' p0.toNatClampNeg = nI ka) (eM2 : vp_in p0 6 → hi' p0.toNatClampNeg = nI kb) (h12 : k1 ≤ k2) (h312 : k2 ≤ 127) (fX1 : vp_in p1 6 → lo p1.toNatClampNeg = nI k1) (fX2 : vp_in p1 6 → hi p1.toNatClampNeg = nI k2) (fM1 : vp_in p1 6 → lo' p1.toNatClampNeg = nI k1) (fM2 : vp_in p1 6 → hi' p1.toNatClampNeg = nI k2) : fX0_apart p0 p1 lo hi = fX1_apart p0 p1 lo' hi' ka kb k1 k2 := by
  by_cases hr : fX0_isRegister p0 = 0
  · rw [fX0_apart, if_pos hr, fX1_apart, if_neg (reg_bad hr)]
  · by_cases hs : fX0_isRegister p1 = 0
    · rw [fX0_apart, if_neg hr, if_pos hs, fX1_apart, if_pos (reg_ok hr), if_neg (reg_bad hs)]
    · have i0 := isReg_in hr
      have i1 := isReg_in hs
      rw [fX0_apart, if_neg hr, if_neg hs, fX1_apart, if_pos (reg_ok hr), if_pos (reg_ok hs), eX1 i0, eX2 i0, fX1 i1, fX2 i1]
      exact apart_all p0 p1 lo' hi' hab h31 h12 h312
end STEPS
end
section
set_option maxHeartbeats 4000000 in
set_option maxRecDepth 100000 in
theorem meX0_isRegister (l : Launch) (p0 : Int32) : PureI l yX0_isRegister (ws_ yX0_isRegister cX0_isRegister 1 (some .boolean)) ({ frames := 0, cells := 0, slots := 0, locals := 0 } : Room) [.int p0] (fX0_isRegister p0) := by
  intro H0
  refine Met.ofW (cc := cX0_isRegister) (maxL := 1) (ret := (some .boolean)) (by decide) rfl ?_
  intro p e s m args below meth c s₁ B hml hv
  obtain ⟨rfl, rfl⟩ := hv
  have hx := B.exec
  have hb := B.bytes
  have hr := B.returns
  have hts := atoms_spec (ws := (ws_ yX0_isRegister cX0_isRegister 1 (some .boolean))) B.pre
  have hts : ∀ w ∈ lw_all, w.before _ s = true := fun w h => hts w (List.mem_cons_of_mem _ h)
  have hown : s.vm.findClass RX0 = some m.cls := findClass_of_methodNamed B.named
  have hlocks := B.notSynchronized
  have hl := lv_entry ([.int p0]) (n := 1) (Nat.le_of_ble_eq_true rfl)
  rw [lg_entry_eq]
  generalize (lg_sl ([.int p0]) ++ List.replicate (1 - (lg_sl ([.int p0])).length) Slot.unset).toArray = ls at hl ⊢
  have hl : lv_has ls 1 [(0, .int p0)] := hl
  generalize hV : fX0_isRegister p0 = V
  refine lv_iload_n hx hb dX0_isRegister_0 rfl (lv_at hl 0 rfl) ?_
  refine lv_if_lt (tgt := 13) hx hb dX0_isRegister_1 (by decide) (fun c_1 => ?_) (fun c_1 => ?_)
  · refine lv_iconst (v := 0) hx hb dX0_isRegister_13 (by decide) ?_
    exact pu_zret hx hb hr hlocks rfl (Eq.trans (Eq.symm (by rw [fX0_isRegister, if_pos c_1])) hV) dX0_isRegister_14
  · refine lv_iload_n hx hb dX0_isRegister_4 rfl (lv_at hl 0 rfl) ?_
    refine lv_iconst (v := 5) hx hb dX0_isRegister_5 (by decide) ?_
    refine lv_icmp_gt (tgt := 13) hx hb dX0_isRegister_6 (by decide) (fun c_2 => ?_) (fun c_2 => ?_)
    · refine lv_iconst (v := 0) hx hb dX0_isRegister_13 (by decide) ?_
      exact pu_zret hx hb hr hlocks rfl (Eq.trans (Eq.symm (by rw [fX0_isRegister, if_neg c_1, if_pos c_2])) hV) dX0_isRegister_14
    · refine lv_iconst (v := 1) hx hb dX0_isRegister_9 (by decide) ?_
      refine lv_goto (tgt := 14) hx hb dX0_isRegister_10 (by decide) ?_
      exact pu_zret hx hb hr hlocks rfl (Eq.trans (Eq.symm (by rw [fX0_isRegister, if_neg c_1, if_neg c_2])) hV) dX0_isRegister_14
set_option maxHeartbeats 4000000 in
set_option maxRecDepth 100000 in
theorem meX0_lesser (l : Launch) (p0 p1 : Int32) : PureI l yX0_lesser (ws_ yX0_lesser cX0_lesser 2 (some .int)) ({ frames := 0, cells := 0, slots := 0, locals := 0 } : Room) [.int p0, .int p1] (fX0_lesser p0 p1) := by
  intro H0
  refine Met.ofW (cc := cX0_lesser) (maxL := 2) (ret := (some .int)) (by decide) rfl ?_
  intro p e s m args below meth c s₁ B hml hv
  obtain ⟨rfl, rfl⟩ := hv
  have hx := B.exec
  have hb := B.bytes
  have hr := B.returns
  have hts := atoms_spec (ws := (ws_ yX0_lesser cX0_lesser 2 (some .int))) B.pre
  have hts : ∀ w ∈ lw_all, w.before _ s = true := fun w h => hts w (List.mem_cons_of_mem _ h)
  have hown : s.vm.findClass RX0 = some m.cls := findClass_of_methodNamed B.named
  have hlocks := B.notSynchronized
  have hl := lv_entry ([.int p0, .int p1]) (n := 2) (Nat.le_of_ble_eq_true rfl)
  rw [lg_entry_eq]
  generalize (lg_sl ([.int p0, .int p1]) ++ List.replicate (2 - (lg_sl ([.int p0, .int p1])).length) Slot.unset).toArray = ls at hl ⊢
  have hl : lv_has ls 2 [(0, .int p0), (1, .int p1)] := hl
  generalize hV : fX0_lesser p0 p1 = V
  refine lv_iload_n hx hb dX0_lesser_0 rfl (lv_at hl 0 rfl) ?_
  refine lv_iload_n hx hb dX0_lesser_1 rfl (lv_at hl 1 rfl) ?_
  refine lv_icmp_ge (tgt := 9) hx hb dX0_lesser_2 (by decide) (fun c_1 => ?_) (fun c_1 => ?_)
  · refine lv_iload_n hx hb dX0_lesser_9 rfl (lv_at hl 1 rfl) ?_
    exact pu_iret hx hb hr hlocks (Eq.trans (Eq.symm (by rw [fX0_lesser, if_pos c_1])) hV) dX0_lesser_10
  · refine lv_iload_n hx hb dX0_lesser_5 rfl (lv_at hl 0 rfl) ?_
    refine lv_goto (tgt := 10) hx hb dX0_lesser_6 (by decide) ?_
    exact pu_iret hx hb hr hlocks (Eq.trans (Eq.symm (by rw [fX0_lesser, if_neg c_1])) hV) dX0_lesser_10
set_option maxHeartbeats 4000000 in
set_option maxRecDepth 100000 in
theorem meX0_greater (l : Launch) (p0 p1 : Int32) : PureI l yX0_greater (ws_ yX0_greater cX0_greater 2 (some .int)) ({ frames := 0, cells := 0, slots := 0, locals := 0 } : Room) [.int p0, .int p1] (fX0_greater p0 p1) := by
  intro H0
  refine Met.ofW (cc := cX0_greater) (maxL := 2) (ret := (some .int)) (by decide) rfl ?_
  intro p e s m args below meth c s₁ B hml hv
  obtain ⟨rfl, rfl⟩ := hv
  have hx := B.exec
  have hb := B.bytes
  have hr := B.returns
  have hts := atoms_spec (ws := (ws_ yX0_greater cX0_greater 2 (some .int))) B.pre
  have hts : ∀ w ∈ lw_all, w.before _ s = true := fun w h => hts w (List.mem_cons_of_mem _ h)
  have hown : s.vm.findClass RX0 = some m.cls := findClass_of_methodNamed B.named
  have hlocks := B.notSynchronized
  have hl := lv_entry ([.int p0, .int p1]) (n := 2) (Nat.le_of_ble_eq_true rfl)
  rw [lg_entry_eq]
  generalize (lg_sl ([.int p0, .int p1]) ++ List.replicate (2 - (lg_sl ([.int p0, .int p1])).length) Slot.unset).toArray = ls at hl ⊢
  have hl : lv_has ls 2 [(0, .int p0), (1, .int p1)] := hl
  generalize hV : fX0_greater p0 p1 = V
  refine lv_iload_n hx hb dX0_greater_0 rfl (lv_at hl 0 rfl) ?_
  refine lv_iload_n hx hb dX0_greater_1 rfl (lv_at hl 1 rfl) ?_
  refine lv_icmp_le (tgt := 9) hx hb dX0_greater_2 (by decide) (fun c_1 => ?_) (fun c_1 => ?_)
  · refine lv_iload_n hx hb dX0_greater_9 rfl (lv_at hl 1 rfl) ?_
    exact pu_iret hx hb hr hlocks (Eq.trans (Eq.symm (by rw [fX0_greater, if_pos c_1])) hV) dX0_greater_10
  · refine lv_iload_n hx hb dX0_greater_5 rfl (lv_at hl 0 rfl) ?_
    refine lv_goto (tgt := 10) hx hb dX0_greater_6 (by decide) ?_
    exact pu_iret hx hb hr hlocks (Eq.trans (Eq.symm (by rw [fX0_greater, if_neg c_1])) hV) dX0_greater_10
set_option maxHeartbeats 4000000 in
set_option maxRecDepth 100000 in
theorem meX0_raised (l : Launch) (p0 p1 : Int32) : PureI l yX0_raised (ws_ yX0_raised cX0_raised 2 (some .int)) ({ frames := 0, cells := 0, slots := 0, locals := 0 } : Room) [.int p0, .int p1] (fX0_raised p0 p1) := by
  intro H0
  refine Met.ofW (cc := cX0_raised) (maxL := 2) (ret := (some .int)) (by decide) rfl ?_
  intro p e s m args below meth c s₁ B hml hv
  obtain ⟨rfl, rfl⟩ := hv
  have hx := B.exec
  have hb := B.bytes
  have hr := B.returns
  have hts := atoms_spec (ws := (ws_ yX0_raised cX0_raised 2 (some .int))) B.pre
  have hts : ∀ w ∈ lw_all, w.before _ s = true := fun w h => hts w (List.mem_cons_of_mem _ h)
  have hown : s.vm.findClass RX0 = some m.cls := findClass_of_methodNamed B.named
  have hlocks := B.notSynchronized
  have hl := lv_entry ([.int p0, .int p1]) (n := 2) (Nat.le_of_ble_eq_true rfl)
  rw [lg_entry_eq]
  generalize (lg_sl ([.int p0, .int p1]) ++ List.replicate (2 - (lg_sl ([.int p0, .int p1])).length) Slot.unset).toArray = ls at hl ⊢
  have hl : lv_has ls 2 [(0, .int p0), (1, .int p1)] := hl
  generalize hV : fX0_raised p0 p1 = V
  refine lv_iload_n hx hb dX0_raised_0 rfl (lv_at hl 0 rfl) ?_
  refine lv_iload_n hx hb dX0_raised_1 rfl (lv_at hl 1 rfl) ?_
  refine lv_ior hx hb dX0_raised_2 ?_
  refine lv_iload_n hx hb dX0_raised_3 rfl (lv_at hl 1 rfl) ?_
  refine lv_ineg hx hb dX0_raised_4 ?_
  refine lv_iand hx hb dX0_raised_5 ?_
  exact pu_iret hx hb hr hlocks (Eq.trans (Eq.symm (by rw [fX0_raised])) hV) dX0_raised_6
set_option maxHeartbeats 4000000 in
set_option maxRecDepth 100000 in
theorem meX0_lowered (l : Launch) (p0 p1 : Int32) : PureI l yX0_lowered (ws_ yX0_lowered cX0_lowered 2 (some .int)) ({ frames := 0, cells := 0, slots := 0, locals := 0 } : Room) [.int p0, .int p1] (fX0_lowered p0 p1) := by
  intro H0
  refine Met.ofW (cc := cX0_lowered) (maxL := 2) (ret := (some .int)) (by decide) rfl ?_
  intro p e s m args below meth c s₁ B hml hv
  obtain ⟨rfl, rfl⟩ := hv
  have hx := B.exec
  have hb := B.bytes
  have hr := B.returns
  have hts := atoms_spec (ws := (ws_ yX0_lowered cX0_lowered 2 (some .int))) B.pre
  have hts : ∀ w ∈ lw_all, w.before _ s = true := fun w h => hts w (List.mem_cons_of_mem _ h)
  have hown : s.vm.findClass RX0 = some m.cls := findClass_of_methodNamed B.named
  have hlocks := B.notSynchronized
  have hl := lv_entry ([.int p0, .int p1]) (n := 2) (Nat.le_of_ble_eq_true rfl)
  rw [lg_entry_eq]
  generalize (lg_sl ([.int p0, .int p1]) ++ List.replicate (2 - (lg_sl ([.int p0, .int p1])).length) Slot.unset).toArray = ls at hl ⊢
  have hl : lv_has ls 2 [(0, .int p0), (1, .int p1)] := hl
  generalize hV : fX0_lowered p0 p1 = V
  refine lv_iload_n hx hb dX0_lowered_0 rfl (lv_at hl 0 rfl) ?_
  refine lv_iload_n hx hb dX0_lowered_1 rfl (lv_at hl 1 rfl) ?_
  refine lv_isub hx hb dX0_lowered_2 ?_
  refine lv_iload_n hx hb dX0_lowered_3 rfl (lv_at hl 1 rfl) ?_
  refine lv_iconst (v := 1) hx hb dX0_lowered_4 (by decide) ?_
  refine lv_isub hx hb dX0_lowered_5 ?_
  refine lv_ior hx hb dX0_lowered_6 ?_
  exact pu_iret hx hb hr hlocks (Eq.trans (Eq.symm (by rw [fX0_lowered])) hV) dX0_lowered_7
set_option maxHeartbeats 4000000 in
set_option maxRecDepth 100000 in
theorem lpX0_rootOf {p : Program} {l : Launch} {e : Env} {s : State} {m : MethodId} {args : Array Value} {below : List Frame} {meth : Method} {c : Code} (hx : p.tables.exec = Jvm.exec) (hb : c.code = cX0_rootOf) (hr : meth.sig.returnType = some .int) (hlocks : meth.locks = false) (hml : c.maxLocals = 3) (hown : s.vm.findClass RX0 = some m.cls) (hts : ∀ w ∈ lw_all, w.before args s = true) (V : Int32) (p0 : Int32) :
    ∀ (n : Nat), n ≤ 11 → ∀ (v1 : Int32) (ls : Array Slot), gX0_rootOf p0 n v1 = V → lv_has ls 3 [(0, .int p0), (1, .int v1), (2, .int (kup12 n))] → W p l e (headSpec (ws_ yX0_rootOf cX0_rootOf 3 (some .int)) ({ frames := 0, cells := 0, slots := 0, locals := 0 } : Room)).room s m args below meth c s.heap [] 0 0 (Qp below args s V) (F0 m 4 ls []) := by
  intro n
  induction n with
  | zero =>
    intro hn v1 ls hV hl
    refine lv_iload_n hx hb dX0_rootOf_4 rfl (lv_at hl 2 rfl) ?_
    refine lv_bipush (v := 12) hx hb dX0_rootOf_5 (by decide) ?_
    refine lv_icmp_ge (tgt := 29) hx hb dX0_rootOf_7 (by decide) (fun c_1 => ?_) (fun c_1 => absurd (by decide : (12 : Int32) ≤ kup12 0) c_1)
    refine lv_iload_n hx hb dX0_rootOf_29 rfl (lv_at hl 1 rfl) ?_
    exact pu_iret hx hb hr hlocks (Eq.trans (Eq.symm (by rw [gX0_rootOf])) hV) dX0_rootOf_30
  | succ n ih =>
    intro hn v1 ls hV hl
    refine lv_iload_n hx hb dX0_rootOf_4 rfl (lv_at hl 2 rfl) ?_
    refine lv_bipush (v := 12) hx hb dX0_rootOf_5 (by decide) ?_
    refine lv_icmp_ge (tgt := 29) hx hb dX0_rootOf_7 (by decide) (fun c_1 => absurd c_1 (kup12_t n hn)) (fun c_1 => ?_)
    refine lv_iload_n hx hb dX0_rootOf_10 rfl (lv_at hl 2 rfl) ?_
    refine lv_iload_n hx hb dX0_rootOf_11 rfl (lv_at hl 2 rfl) ?_
    refine lv_imul hx hb dX0_rootOf_12 ?_
    refine lv_iload_n hx hb dX0_rootOf_13 rfl (lv_at hl 0 rfl) ?_
    refine lv_icmp_gt (tgt := 21) hx hb dX0_rootOf_14 (by decide) (fun c_2 => ?_) (fun c_2 => ?_)
    · refine lv_iload_n hx hb dX0_rootOf_21 rfl (lv_at hl 1 rfl) ?_
      refine lv_istore_n (lv' := [(1, .int v1), (0, .int p0), (2, .int (kup12 (n + 1)))]) hx hb dX0_rootOf_22 rfl hl (by decide) rfl (fun ls hl => ?_)
      refine lv_iinc (v := (kup12 n)) (lv' := [(2, .int (kup12 n)), (1, .int v1), (0, .int p0)]) hx hb dX0_rootOf_23 hl (k := 2) rfl (kup12_s n hn) (by decide) rfl (fun ls hl => ?_)
      refine lv_goto (tgt := 4) hx hb dX0_rootOf_26 (by decide) ?_
      exact ih (Nat.le_of_succ_le hn) v1 ls (Eq.trans (Eq.symm (by rw [gX0_rootOf, if_pos c_2])) hV) (lv_sub hl [2, 1, 0] rfl)
    · refine lv_iload_n hx hb dX0_rootOf_17 rfl (lv_at hl 2 rfl) ?_
      refine lv_goto (tgt := 22) hx hb dX0_rootOf_18 (by decide) ?_
      refine lv_istore_n (lv' := [(1, .int (kup12 (n + 1))), (0, .int p0), (2, .int (kup12 (n + 1)))]) hx hb dX0_rootOf_22 rfl hl (by decide) rfl (fun ls hl => ?_)
      refine lv_iinc (v := (kup12 n)) (lv' := [(2, .int (kup12 n)), (1, .int (kup12 (n + 1))), (0, .int p0)]) hx hb dX0_rootOf_23 hl (k := 2) rfl (kup12_s n hn) (by decide) rfl (fun ls hl => ?_)
      refine lv_goto (tgt := 4) hx hb dX0_rootOf_26 (by decide) ?_
      exact ih (Nat.le_of_succ_le hn) (kup12 (n + 1)) ls (Eq.trans (Eq.symm (by rw [gX0_rootOf, if_neg c_2])) hV) (lv_sub hl [2, 1, 0] rfl)
set_option maxHeartbeats 4000000 in
set_option maxRecDepth 100000 in
theorem meX0_rootOf (l : Launch) (p0 : Int32) : PureI l yX0_rootOf (ws_ yX0_rootOf cX0_rootOf 3 (some .int)) ({ frames := 0, cells := 0, slots := 0, locals := 0 } : Room) [.int p0] (fX0_rootOf p0) := by
  intro H0
  refine Met.ofW (cc := cX0_rootOf) (maxL := 3) (ret := (some .int)) (by decide) rfl ?_
  intro p e s m args below meth c s₁ B hml hv
  obtain ⟨rfl, rfl⟩ := hv
  have hx := B.exec
  have hb := B.bytes
  have hr := B.returns
  have hts := atoms_spec (ws := (ws_ yX0_rootOf cX0_rootOf 3 (some .int))) B.pre
  have hts : ∀ w ∈ lw_all, w.before _ s = true := fun w h => hts w (List.mem_cons_of_mem _ h)
  have hown : s.vm.findClass RX0 = some m.cls := findClass_of_methodNamed B.named
  have hlocks := B.notSynchronized
  have hl := lv_entry ([.int p0]) (n := 3) (Nat.le_of_ble_eq_true rfl)
  rw [lg_entry_eq]
  generalize (lg_sl ([.int p0]) ++ List.replicate (3 - (lg_sl ([.int p0])).length) Slot.unset).toArray = ls at hl ⊢
  have hl : lv_has ls 3 [(0, .int p0)] := hl
  generalize hV : fX0_rootOf p0 = V
  refine lv_iconst (v := 0) hx hb dX0_rootOf_0 (by decide) ?_
  refine lv_istore_n (lv' := [(1, .int 0), (0, .int p0)]) hx hb dX0_rootOf_1 rfl hl (by decide) rfl (fun ls hl => ?_)
  refine lv_iconst (v := 1) hx hb dX0_rootOf_2 (by decide) ?_
  refine lv_istore_n (lv' := [(2, .int 1), (1, .int 0), (0, .int p0)]) hx hb dX0_rootOf_3 rfl hl (by decide) rfl (fun ls hl => ?_)
  exact lpX0_rootOf hx hb hr hlocks hml hown hts V p0 11 (Nat.le_refl _) 0 ls (Eq.trans (Eq.symm (by rw [fX0_rootOf])) hV) (by rw [show kup12 11 = 1 from by decide]; exact lv_sub hl [2, 1, 0] rfl)
set_option maxHeartbeats 4000000 in
set_option maxRecDepth 100000 in
theorem lpX0_leastOr {p : Program} {l : Launch} {e : Env} {s : State} {m : MethodId} {args : Array Value} {below : List Frame} {meth : Method} {c : Code} (hx : p.tables.exec = Jvm.exec) (hb : c.code = cX0_leastOr) (hr : meth.sig.returnType = some .int) (hlocks : meth.locks = false) (hml : c.maxLocals = 6) (hown : s.vm.findClass RX0 = some m.cls) (hts : ∀ w ∈ lw_all, w.before args s = true) (V : Int32) (p0 p1 p2 p3 : Int32) :
    ∀ (n : Nat), n ≤ 7 → ∀ (ls : Array Slot), gX0_leastOr p0 p1 p2 p3 n = V → lv_has ls 6 [(0, .int p0), (1, .int p1), (2, .int p2), (3, .int p3), (4, .int (bitv n))] → W p l e (headSpec (ws_ yX0_leastOr cX0_leastOr 6 (some .int)) ({ frames := 1, cells := 0, slots := 0, locals := 21 } : Room)).room s m args below meth c s.heap [] 0 0 (Qp below args s V) (F0 m 4 ls []) := by
  intro n
  induction n with
  | zero =>
    intro hn ls hV hl
    refine lv_iload hx hb dX0_leastOr_4 (lv_at hl 4 rfl) ?_
    refine lv_if_le (tgt := 81) hx hb dX0_leastOr_6 (by decide) (fun c_1 => ?_) (fun c_1 => absurd (by decide : bitv 0 ≤ 0) c_1)
    refine lv_iload_n hx hb dX0_leastOr_81 rfl (lv_at hl 0 rfl) ?_
    refine lv_iload_n hx hb dX0_leastOr_82 rfl (lv_at hl 2 rfl) ?_
    refine lv_ior hx hb dX0_leastOr_83 ?_
    exact pu_iret hx hb hr hlocks (Eq.trans (Eq.symm (by rw [gX0_leastOr])) hV) dX0_leastOr_84
  | succ n ih =>
    intro hn ls hV hl
    refine lv_iload hx hb dX0_leastOr_4 (lv_at hl 4 rfl) ?_
    refine lv_if_le (tgt := 81) hx hb dX0_leastOr_6 (by decide) (fun c_1 => absurd c_1 (bitv_t n hn)) (fun c_1 => ?_)
    refine lv_iload_n hx hb dX0_leastOr_9 rfl (lv_at hl 0 rfl) ?_
    refine lv_iconst (v := (-1)) hx hb dX0_leastOr_10 (by decide) ?_
    refine lv_ixor hx hb dX0_leastOr_11 ?_
    refine lv_iload_n hx hb dX0_leastOr_12 rfl (lv_at hl 2 rfl) ?_
    refine lv_iand hx hb dX0_leastOr_13 ?_
    refine lv_iload hx hb dX0_leastOr_14 (lv_at hl 4 rfl) ?_
    refine lv_iand hx hb dX0_leastOr_16 ?_
    refine lv_if_eq (tgt := 42) hx hb dX0_leastOr_17 (by decide) (fun c_2 => ?_) (fun c_2 => ?_)
    · refine lv_iload_n hx hb dX0_leastOr_42 rfl (lv_at hl 0 rfl) ?_
      refine lv_iload_n hx hb dX0_leastOr_43 rfl (lv_at hl 2 rfl) ?_
      refine lv_iconst (v := (-1)) hx hb dX0_leastOr_44 (by decide) ?_
      refine lv_ixor hx hb dX0_leastOr_45 ?_
      refine lv_iand hx hb dX0_leastOr_46 ?_
      refine lv_iload hx hb dX0_leastOr_47 (lv_at hl 4 rfl) ?_
      refine lv_iand hx hb dX0_leastOr_49 ?_
      refine lv_if_eq (tgt := 72) hx hb dX0_leastOr_50 (by decide) (fun c_3 => ?_) (fun c_3 => ?_)
      · refine lv_iload hx hb dX0_leastOr_72 (lv_at hl 4 rfl) ?_
        refine lv_iconst (v := 2) hx hb dX0_leastOr_74 (by decide) ?_
        refine lv_idiv hx hb dX0_leastOr_75 (by decide) ?_
        rw [bitv_s n hn]
        refine lv_istore (lv' := [(4, .int (bitv n)), (0, .int p0), (1, .int p1), (2, .int p2), (3, .int p3)]) hx hb dX0_leastOr_76 hl (by decide) rfl (fun ls hl => ?_)
        refine lv_goto (tgt := 4) hx hb dX0_leastOr_78 (by decide) ?_
        exact ih (Nat.le_of_succ_le hn) ls (Eq.trans (Eq.symm (by rw [gX0_leastOr, if_pos c_2, if_pos c_3])) hV) (lv_sub hl [1, 2, 3, 4, 0] rfl)
      · refine lv_iload_n hx hb dX0_leastOr_53 rfl (lv_at hl 2 rfl) ?_
        refine lv_iload hx hb dX0_leastOr_54 (lv_at hl 4 rfl) ?_
        refine pu_call (As := [.int p2, .int (bitv (n + 1))]) (rest := []) ⟨hx, hb, hml, hown, hts⟩ (meX0_raised l p2 (bitv (n + 1))) (va_cwS 2 hts (lw_S q62 q63 q12 q64) rfl rfl rfl (by decide +kernel) ⟨Nat.le_of_ble_eq_true rfl, Nat.le_of_ble_eq_true rfl⟩) rfl hl.1 rfl (Nat.le_of_ble_eq_true rfl) dX0_leastOr_56 ⟨Nat.zero_le _, Nat.zero_le _⟩ ?_
        refine lv_istore (lv' := [(5, .int (fX0_raised p2 (bitv (n + 1)))), (0, .int p0), (1, .int p1), (2, .int p2), (3, .int p3), (4, .int (bitv (n + 1)))]) hx hb dX0_leastOr_59 hl (by decide) rfl (fun ls hl => ?_)
        refine lv_iload hx hb dX0_leastOr_61 (lv_at hl 0 rfl) ?_
        refine lv_iload_n hx hb dX0_leastOr_63 rfl (lv_at hl 4 rfl) ?_
        refine lv_icmp_gt (tgt := 72) hx hb dX0_leastOr_64 (by decide) (fun c_4 => ?_) (fun c_4 => ?_)
        · refine lv_iload hx hb dX0_leastOr_72 (lv_at hl 5 rfl) ?_
          refine lv_iconst (v := 2) hx hb dX0_leastOr_74 (by decide) ?_
          refine lv_idiv hx hb dX0_leastOr_75 (by decide) ?_
          rw [bitv_s n hn]
          refine lv_istore (lv' := [(4, .int (bitv n)), (5, .int (fX0_raised p2 (bitv (n + 1)))), (0, .int p0), (1, .int p1), (2, .int p2), (3, .int p3)]) hx hb dX0_leastOr_76 hl (by decide) rfl (fun ls hl => ?_)
          refine lv_goto (tgt := 4) hx hb dX0_leastOr_78 (by decide) ?_
          exact ih (Nat.le_of_succ_le hn) ls (Eq.trans (Eq.symm (by rw [gX0_leastOr, if_pos c_2, if_neg c_3, if_pos c_4])) hV) (lv_sub hl [2, 3, 4, 5, 0] rfl)
        · refine lv_iload_n hx hb dX0_leastOr_67 rfl (lv_at hl 1 rfl) ?_
          refine lv_iload hx hb dX0_leastOr_68 (lv_at hl 0 rfl) ?_
          refine lv_ior hx hb dX0_leastOr_70 ?_
          exact pu_iret hx hb hr hlocks (Eq.trans (Eq.symm (by rw [gX0_leastOr, if_pos c_2, if_neg c_3, if_neg c_4])) hV) dX0_leastOr_71
    · refine lv_iload_n hx hb dX0_leastOr_20 rfl (lv_at hl 0 rfl) ?_
      refine lv_iload hx hb dX0_leastOr_21 (lv_at hl 4 rfl) ?_
      refine pu_call (As := [.int p0, .int (bitv (n + 1))]) (rest := []) ⟨hx, hb, hml, hown, hts⟩ (meX0_raised l p0 (bitv (n + 1))) (va_cwS 2 hts (lw_S q62 q63 q12 q64) rfl rfl rfl (by decide +kernel) ⟨Nat.le_of_ble_eq_true rfl, Nat.le_of_ble_eq_true rfl⟩) rfl hl.1 rfl (Nat.le_of_ble_eq_true rfl) dX0_leastOr_23 ⟨Nat.zero_le _, Nat.zero_le _⟩ ?_
      refine lv_istore (lv' := [(5, .int (fX0_raised p0 (bitv (n + 1)))), (0, .int p0), (1, .int p1), (2, .int p2), (3, .int p3), (4, .int (bitv (n + 1)))]) hx hb dX0_leastOr_26 hl (by decide) rfl (fun ls hl => ?_)
      refine lv_iload hx hb dX0_leastOr_28 (lv_at hl 0 rfl) ?_
      refine lv_iload_n hx hb dX0_leastOr_30 rfl (lv_at hl 2 rfl) ?_
      refine lv_icmp_gt (tgt := 39) hx hb dX0_leastOr_31 (by decide) (fun c_5 => ?_) (fun c_5 => ?_)
      · refine lv_goto (tgt := 72) hx hb dX0_leastOr_39 (by decide) ?_
        refine lv_iload hx hb dX0_leastOr_72 (lv_at hl 5 rfl) ?_
        refine lv_iconst (v := 2) hx hb dX0_leastOr_74 (by decide) ?_
        refine lv_idiv hx hb dX0_leastOr_75 (by decide) ?_
        rw [bitv_s n hn]
        refine lv_istore (lv' := [(4, .int (bitv n)), (5, .int (fX0_raised p0 (bitv (n + 1)))), (0, .int p0), (1, .int p1), (2, .int p2), (3, .int p3)]) hx hb dX0_leastOr_76 hl (by decide) rfl (fun ls hl => ?_)
        refine lv_goto (tgt := 4) hx hb dX0_leastOr_78 (by decide) ?_
        exact ih (Nat.le_of_succ_le hn) ls (Eq.trans (Eq.symm (by rw [gX0_leastOr, if_neg c_2, if_pos c_5])) hV) (lv_sub hl [2, 3, 4, 5, 0] rfl)
      · refine lv_iload hx hb dX0_leastOr_34 (lv_at hl 0 rfl) ?_
        refine lv_iload_n hx hb dX0_leastOr_36 rfl (lv_at hl 3 rfl) ?_
        refine lv_ior hx hb dX0_leastOr_37 ?_
        exact pu_iret hx hb hr hlocks (Eq.trans (Eq.symm (by rw [gX0_leastOr, if_neg c_2, if_neg c_5])) hV) dX0_leastOr_38
set_option maxHeartbeats 4000000 in
set_option maxRecDepth 100000 in
theorem meX0_leastOr (l : Launch) (p0 p1 p2 p3 : Int32) : PureI l yX0_leastOr (ws_ yX0_leastOr cX0_leastOr 6 (some .int)) ({ frames := 1, cells := 0, slots := 0, locals := 21 } : Room) [.int p0, .int p1, .int p2, .int p3] (fX0_leastOr p0 p1 p2 p3) := by
  intro H0
  refine Met.ofW (cc := cX0_leastOr) (maxL := 6) (ret := (some .int)) (by decide) rfl ?_
  intro p e s m args below meth c s₁ B hml hv
  obtain ⟨rfl, rfl⟩ := hv
  have hx := B.exec
  have hb := B.bytes
  have hr := B.returns
  have hts := atoms_spec (ws := (ws_ yX0_leastOr cX0_leastOr 6 (some .int))) B.pre
  have hts : ∀ w ∈ lw_all, w.before _ s = true := fun w h => hts w (List.mem_cons_of_mem _ h)
  have hown : s.vm.findClass RX0 = some m.cls := findClass_of_methodNamed B.named
  have hlocks := B.notSynchronized
  have hl := lv_entry ([.int p0, .int p1, .int p2, .int p3]) (n := 6) (Nat.le_of_ble_eq_true rfl)
  rw [lg_entry_eq]
  generalize (lg_sl ([.int p0, .int p1, .int p2, .int p3]) ++ List.replicate (6 - (lg_sl ([.int p0, .int p1, .int p2, .int p3])).length) Slot.unset).toArray = ls at hl ⊢
  have hl : lv_has ls 6 [(0, .int p0), (1, .int p1), (2, .int p2), (3, .int p3)] := hl
  generalize hV : fX0_leastOr p0 p1 p2 p3 = V
  refine lv_bipush (v := 64) hx hb dX0_leastOr_0 (by decide) ?_
  refine lv_istore (lv' := [(4, .int 64), (0, .int p0), (1, .int p1), (2, .int p2), (3, .int p3)]) hx hb dX0_leastOr_2 hl (by decide) rfl (fun ls hl => ?_)
  exact lpX0_leastOr hx hb hr hlocks hml hown hts V p0 p1 p2 p3 7 (Nat.le_refl _) ls (Eq.trans (Eq.symm (by rw [fX0_leastOr])) hV) (by rw [show bitv 7 = 64 from by decide]; exact lv_sub hl [1, 2, 3, 4, 0] rfl)
set_option maxHeartbeats 4000000 in
set_option maxRecDepth 100000 in
theorem lpX0_greatestOr {p : Program} {l : Launch} {e : Env} {s : State} {m : MethodId} {args : Array Value} {below : List Frame} {meth : Method} {c : Code} (hx : p.tables.exec = Jvm.exec) (hb : c.code = cX0_greatestOr) (hr : meth.sig.returnType = some .int) (hlocks : meth.locks = false) (hml : c.maxLocals = 7) (hown : s.vm.findClass RX0 = some m.cls) (hts : ∀ w ∈ lw_all, w.before args s = true) (V : Int32) (p0 p1 p2 p3 : Int32) :
    ∀ (n : Nat), n ≤ 7 → ∀ (ls : Array Slot), gX0_greatestOr p0 p1 p2 p3 n = V → lv_has ls 7 [(0, .int p0), (1, .int p1), (2, .int p2), (3, .int p3), (4, .int (bitv n))] → W p l e (headSpec (ws_ yX0_greatestOr cX0_greatestOr 7 (some .int)) ({ frames := 1, cells := 0, slots := 0, locals := 21 } : Room)).room s m args below meth c s.heap [] 0 0 (Qp below args s V) (F0 m 4 ls []) := by
  intro n
  induction n with
  | zero =>
    intro hn ls hV hl
    refine lv_iload hx hb dX0_greatestOr_4 (lv_at hl 4 rfl) ?_
    refine lv_if_le (tgt := 65) hx hb dX0_greatestOr_6 (by decide) (fun c_1 => ?_) (fun c_1 => absurd (by decide : bitv 0 ≤ 0) c_1)
    refine lv_iload_n hx hb dX0_greatestOr_65 rfl (lv_at hl 1 rfl) ?_
    refine lv_iload_n hx hb dX0_greatestOr_66 rfl (lv_at hl 3 rfl) ?_
    refine lv_ior hx hb dX0_greatestOr_67 ?_
    exact pu_iret hx hb hr hlocks (Eq.trans (Eq.symm (by rw [gX0_greatestOr])) hV) dX0_greatestOr_68
  | succ n ih =>
    intro hn ls hV hl
    refine lv_iload hx hb dX0_greatestOr_4 (lv_at hl 4 rfl) ?_
    refine lv_if_le (tgt := 65) hx hb dX0_greatestOr_6 (by decide) (fun c_1 => absurd c_1 (bitv_t n hn)) (fun c_1 => ?_)
    refine lv_iload_n hx hb dX0_greatestOr_9 rfl (lv_at hl 1 rfl) ?_
    refine lv_iload_n hx hb dX0_greatestOr_10 rfl (lv_at hl 3 rfl) ?_
    refine lv_iand hx hb dX0_greatestOr_11 ?_
    refine lv_iload hx hb dX0_greatestOr_12 (lv_at hl 4 rfl) ?_
    refine lv_iand hx hb dX0_greatestOr_14 ?_
    refine lv_if_eq (tgt := 56) hx hb dX0_greatestOr_15 (by decide) (fun c_2 => ?_) (fun c_2 => ?_)
    · refine lv_iload hx hb dX0_greatestOr_56 (lv_at hl 4 rfl) ?_
      refine lv_iconst (v := 2) hx hb dX0_greatestOr_58 (by decide) ?_
      refine lv_idiv hx hb dX0_greatestOr_59 (by decide) ?_
      rw [bitv_s n hn]
      refine lv_istore (lv' := [(4, .int (bitv n)), (0, .int p0), (1, .int p1), (2, .int p2), (3, .int p3)]) hx hb dX0_greatestOr_60 hl (by decide) rfl (fun ls hl => ?_)
      refine lv_goto (tgt := 4) hx hb dX0_greatestOr_62 (by decide) ?_
      exact ih (Nat.le_of_succ_le hn) ls (Eq.trans (Eq.symm (by rw [gX0_greatestOr, if_pos c_2])) hV) (lv_sub hl [1, 2, 3, 4, 0] rfl)
    · refine lv_iload_n hx hb dX0_greatestOr_18 rfl (lv_at hl 1 rfl) ?_
      refine lv_iload hx hb dX0_greatestOr_19 (lv_at hl 4 rfl) ?_
      refine pu_call (As := [.int p1, .int (bitv (n + 1))]) (rest := []) ⟨hx, hb, hml, hown, hts⟩ (meX0_lowered l p1 (bitv (n + 1))) (va_cwS 2 hts (lw_S q68 q69 q12 q70) rfl rfl rfl (by decide +kernel) ⟨Nat.le_of_ble_eq_true rfl, Nat.le_of_ble_eq_true rfl⟩) rfl hl.1 rfl (Nat.le_of_ble_eq_true rfl) dX0_greatestOr_21 ⟨Nat.zero_le _, Nat.zero_le _⟩ ?_
      refine lv_istore (lv' := [(5, .int (fX0_lowered p1 (bitv (n + 1)))), (0, .int p0), (1, .int p1), (2, .int p2), (3, .int p3), (4, .int (bitv (n + 1)))]) hx hb dX0_greatestOr_24 hl (by decide) rfl (fun ls hl => ?_)
      refine lv_iload_n hx hb dX0_greatestOr_26 rfl (lv_at hl 4 rfl) ?_
      refine lv_iload hx hb dX0_greatestOr_27 (lv_at hl 5 rfl) ?_
      refine pu_call (As := [.int p3, .int (bitv (n + 1))]) (rest := []) ⟨hx, hb, hml, hown, hts⟩ (meX0_lowered l p3 (bitv (n + 1))) (va_cwS 2 hts (lw_S q68 q69 q12 q70) rfl rfl rfl (by decide +kernel) ⟨Nat.le_of_ble_eq_true rfl, Nat.le_of_ble_eq_true rfl⟩) rfl hl.1 rfl (Nat.le_of_ble_eq_true rfl) dX0_greatestOr_29 ⟨Nat.zero_le _, Nat.zero_le _⟩ ?_
      refine lv_istore (lv' := [(6, .int (fX0_lowered p3 (bitv (n + 1)))), (5, .int (fX0_lowered p1 (bitv (n + 1)))), (0, .int p0), (1, .int p1), (2, .int p2), (3, .int p3), (4, .int (bitv (n + 1)))]) hx hb dX0_greatestOr_32 hl (by decide) rfl (fun ls hl => ?_)
      refine lv_iload hx hb dX0_greatestOr_34 (lv_at hl 1 rfl) ?_
      refine lv_iload_n hx hb dX0_greatestOr_36 rfl (lv_at hl 2 rfl) ?_
      refine lv_icmp_lt (tgt := 45) hx hb dX0_greatestOr_37 (by decide) (fun c_3 => ?_) (fun c_3 => ?_)
      · refine lv_iload hx hb dX0_greatestOr_45 (lv_at hl 0 rfl) ?_
        refine lv_iload_n hx hb dX0_greatestOr_47 rfl (lv_at hl 4 rfl) ?_
        refine lv_icmp_lt (tgt := 56) hx hb dX0_greatestOr_48 (by decide) (fun c_4 => ?_) (fun c_4 => ?_)
        · refine lv_iload hx hb dX0_greatestOr_56 (lv_at hl 6 rfl) ?_
          refine lv_iconst (v := 2) hx hb dX0_greatestOr_58 (by decide) ?_
          refine lv_idiv hx hb dX0_greatestOr_59 (by decide) ?_
          rw [bitv_s n hn]
          refine lv_istore (lv' := [(4, .int (bitv n)), (6, .int (fX0_lowered p3 (bitv (n + 1)))), (5, .int (fX0_lowered p1 (bitv (n + 1)))), (0, .int p0), (1, .int p1), (2, .int p2), (3, .int p3)]) hx hb dX0_greatestOr_60 hl (by decide) rfl (fun ls hl => ?_)
          refine lv_goto (tgt := 4) hx hb dX0_greatestOr_62 (by decide) ?_
          exact ih (Nat.le_of_succ_le hn) ls (Eq.trans (Eq.symm (by rw [gX0_greatestOr, if_neg c_2, if_pos c_3, if_pos c_4])) hV) (lv_sub hl [3, 4, 5, 6, 0] rfl)
        · refine lv_iload_n hx hb dX0_greatestOr_51 rfl (lv_at hl 3 rfl) ?_
          refine lv_iload hx hb dX0_greatestOr_52 (lv_at hl 0 rfl) ?_
          refine lv_ior hx hb dX0_greatestOr_54 ?_
          exact pu_iret hx hb hr hlocks (Eq.trans (Eq.symm (by rw [gX0_greatestOr, if_neg c_2, if_pos c_3, if_neg c_4])) hV) dX0_greatestOr_55
      · refine lv_iload hx hb dX0_greatestOr_40 (lv_at hl 1 rfl) ?_
        refine lv_iload_n hx hb dX0_greatestOr_42 rfl (lv_at hl 5 rfl) ?_
        refine lv_ior hx hb dX0_greatestOr_43 ?_
        exact pu_iret hx hb hr hlocks (Eq.trans (Eq.symm (by rw [gX0_greatestOr, if_neg c_2, if_neg c_3])) hV) dX0_greatestOr_44
set_option maxHeartbeats 4000000 in
set_option maxRecDepth 100000 in
theorem meX0_greatestOr (l : Launch) (p0 p1 p2 p3 : Int32) : PureI l yX0_greatestOr (ws_ yX0_greatestOr cX0_greatestOr 7 (some .int)) ({ frames := 1, cells := 0, slots := 0, locals := 21 } : Room) [.int p0, .int p1, .int p2, .int p3] (fX0_greatestOr p0 p1 p2 p3) := by
  intro H0
  refine Met.ofW (cc := cX0_greatestOr) (maxL := 7) (ret := (some .int)) (by decide) rfl ?_
  intro p e s m args below meth c s₁ B hml hv
  obtain ⟨rfl, rfl⟩ := hv
  have hx := B.exec
  have hb := B.bytes
  have hr := B.returns
  have hts := atoms_spec (ws := (ws_ yX0_greatestOr cX0_greatestOr 7 (some .int))) B.pre
  have hts : ∀ w ∈ lw_all, w.before _ s = true := fun w h => hts w (List.mem_cons_of_mem _ h)
  have hown : s.vm.findClass RX0 = some m.cls := findClass_of_methodNamed B.named
  have hlocks := B.notSynchronized
  have hl := lv_entry ([.int p0, .int p1, .int p2, .int p3]) (n := 7) (Nat.le_of_ble_eq_true rfl)
  rw [lg_entry_eq]
  generalize (lg_sl ([.int p0, .int p1, .int p2, .int p3]) ++ List.replicate (7 - (lg_sl ([.int p0, .int p1, .int p2, .int p3])).length) Slot.unset).toArray = ls at hl ⊢
  have hl : lv_has ls 7 [(0, .int p0), (1, .int p1), (2, .int p2), (3, .int p3)] := hl
  generalize hV : fX0_greatestOr p0 p1 p2 p3 = V
  refine lv_bipush (v := 64) hx hb dX0_greatestOr_0 (by decide) ?_
  refine lv_istore (lv' := [(4, .int 64), (0, .int p0), (1, .int p1), (2, .int p2), (3, .int p3)]) hx hb dX0_greatestOr_2 hl (by decide) rfl (fun ls hl => ?_)
  exact lpX0_greatestOr hx hb hr hlocks hml hown hts V p0 p1 p2 p3 7 (Nat.le_refl _) ls (Eq.trans (Eq.symm (by rw [fX0_greatestOr])) hV) (by rw [show bitv 7 = 64 from by decide]; exact lv_sub hl [1, 2, 3, 4, 0] rfl)
end
section
set_option maxHeartbeats 4000000 in
set_option maxRecDepth 100000 in
theorem lpX0_leastXor {p : Program} {l : Launch} {e : Env} {s : State} {m : MethodId} {args : Array Value} {below : List Frame} {meth : Method} {c : Code} (hx : p.tables.exec = Jvm.exec) (hb : c.code = cX0_leastXor) (hr : meth.sig.returnType = some .int) (hlocks : meth.locks = false) (hml : c.maxLocals = 8) (hown : s.vm.findClass RX0 = some m.cls) (hts : ∀ w ∈ lw_all, w.before args s = true) (V : Int32) (p0 p1 p2 p3 : Int32) :
    ∀ (n : Nat), n ≤ 7 → ∀ (v4 v5 : Int32) (ls : Array Slot), gX0_leastXor p0 p1 p2 p3 n v4 v5 = V → lv_has ls 8 [(0, .int p0), (1, .int p1), (2, .int p2), (3, .int p3), (4, .int v4), (5, .int v5), (6, .int (bitv n))] → W p l e (headSpec (ws_ yX0_leastXor cX0_leastXor 8 (some .int)) ({ frames := 1, cells := 0, slots := 0, locals := 21 } : Room)).room s m args below meth c s.heap [] 0 0 (Qp below args s V) (F0 m 10 ls []) := by
  intro n
  induction n with
  | zero =>
    intro hn v4 v5 ls hV hl
    refine lv_iload hx hb dX0_leastXor_10 (lv_at hl 6 rfl) ?_
    refine lv_if_le (tgt := 101) hx hb dX0_leastXor_12 (by decide) (fun c_1 => ?_) (fun c_1 => absurd (by decide : bitv 0 ≤ 0) c_1)
    refine lv_iload hx hb dX0_leastXor_101 (lv_at hl 4 rfl) ?_
    refine lv_iload hx hb dX0_leastXor_103 (lv_at hl 5 rfl) ?_
    refine lv_ixor hx hb dX0_leastXor_105 ?_
    exact pu_iret hx hb hr hlocks (Eq.trans (Eq.symm (by rw [gX0_leastXor])) hV) dX0_leastXor_106
  | succ n ih =>
    intro hn v4 v5 ls hV hl
    refine lv_iload hx hb dX0_leastXor_10 (lv_at hl 6 rfl) ?_
    refine lv_if_le (tgt := 101) hx hb dX0_leastXor_12 (by decide) (fun c_1 => absurd c_1 (bitv_t n hn)) (fun c_1 => ?_)
    refine lv_iload hx hb dX0_leastXor_15 (lv_at hl 4 rfl) ?_
    refine lv_iconst (v := (-1)) hx hb dX0_leastXor_17 (by decide) ?_
    refine lv_ixor hx hb dX0_leastXor_18 ?_
    refine lv_iload hx hb dX0_leastXor_19 (lv_at hl 5 rfl) ?_
    refine lv_iand hx hb dX0_leastXor_21 ?_
    refine lv_iload hx hb dX0_leastXor_22 (lv_at hl 6 rfl) ?_
    refine lv_iand hx hb dX0_leastXor_24 ?_
    refine lv_if_eq (tgt := 55) hx hb dX0_leastXor_25 (by decide) (fun c_2 => ?_) (fun c_2 => ?_)
    · refine lv_iload hx hb dX0_leastXor_55 (lv_at hl 4 rfl) ?_
      refine lv_iload hx hb dX0_leastXor_57 (lv_at hl 5 rfl) ?_
      refine lv_iconst (v := (-1)) hx hb dX0_leastXor_59 (by decide) ?_
      refine lv_ixor hx hb dX0_leastXor_60 ?_
      refine lv_iand hx hb dX0_leastXor_61 ?_
      refine lv_iload hx hb dX0_leastXor_62 (lv_at hl 6 rfl) ?_
      refine lv_iand hx hb dX0_leastXor_64 ?_
      refine lv_if_eq (tgt := 92) hx hb dX0_leastXor_65 (by decide) (fun c_3 => ?_) (fun c_3 => ?_)
      · refine lv_iload hx hb dX0_leastXor_92 (lv_at hl 6 rfl) ?_
        refine lv_iconst (v := 2) hx hb dX0_leastXor_94 (by decide) ?_
        refine lv_idiv hx hb dX0_leastXor_95 (by decide) ?_
        rw [bitv_s n hn]
        refine lv_istore (lv' := [(6, .int (bitv n)), (0, .int p0), (1, .int p1), (2, .int p2), (3, .int p3), (4, .int v4), (5, .int v5)]) hx hb dX0_leastXor_96 hl (by decide) rfl (fun ls hl => ?_)
        refine lv_goto (tgt := 10) hx hb dX0_leastXor_98 (by decide) ?_
        exact ih (Nat.le_of_succ_le hn) v4 v5 ls (Eq.trans (Eq.symm (by rw [gX0_leastXor, if_pos c_2, if_pos c_3])) hV) (lv_sub hl [1, 2, 3, 4, 5, 6, 0] rfl)
      · refine lv_iload hx hb dX0_leastXor_68 (lv_at hl 5 rfl) ?_
        refine lv_iload hx hb dX0_leastXor_70 (lv_at hl 6 rfl) ?_
        refine pu_call (As := [.int v5, .int (bitv (n + 1))]) (rest := []) ⟨hx, hb, hml, hown, hts⟩ (meX0_raised l v5 (bitv (n + 1))) (va_cwS 2 hts (lw_S q62 q63 q12 q64) rfl rfl rfl (by decide +kernel) ⟨Nat.le_of_ble_eq_true rfl, Nat.le_of_ble_eq_true rfl⟩) rfl hl.1 rfl (Nat.le_of_ble_eq_true rfl) dX0_leastXor_72 ⟨Nat.zero_le _, Nat.zero_le _⟩ ?_
        refine lv_istore (lv' := [(7, .int (fX0_raised v5 (bitv (n + 1)))), (0, .int p0), (1, .int p1), (2, .int p2), (3, .int p3), (4, .int v4), (5, .int v5), (6, .int (bitv (n + 1)))]) hx hb dX0_leastXor_75 hl (by decide) rfl (fun ls hl => ?_)
        refine lv_iload hx hb dX0_leastXor_77 (lv_at hl 0 rfl) ?_
        refine lv_iload_n hx hb dX0_leastXor_79 rfl (lv_at hl 4 rfl) ?_
        refine lv_icmp_gt (tgt := 88) hx hb dX0_leastXor_80 (by decide) (fun c_4 => ?_) (fun c_4 => ?_)
        · refine lv_iload hx hb dX0_leastXor_88 (lv_at hl 6 rfl) ?_
          refine lv_istore (lv' := [(5, .int v5), (7, .int (fX0_raised v5 (bitv (n + 1)))), (0, .int p0), (1, .int p1), (2, .int p2), (3, .int p3), (4, .int v4), (6, .int (bitv (n + 1)))]) hx hb dX0_leastXor_90 hl (by decide) rfl (fun ls hl => ?_)
          refine lv_iload hx hb dX0_leastXor_92 (lv_at hl 7 rfl) ?_
          refine lv_iconst (v := 2) hx hb dX0_leastXor_94 (by decide) ?_
          refine lv_idiv hx hb dX0_leastXor_95 (by decide) ?_
          rw [bitv_s n hn]
          refine lv_istore (lv' := [(6, .int (bitv n)), (5, .int v5), (7, .int (fX0_raised v5 (bitv (n + 1)))), (0, .int p0), (1, .int p1), (2, .int p2), (3, .int p3), (4, .int v4)]) hx hb dX0_leastXor_96 hl (by decide) rfl (fun ls hl => ?_)
          refine lv_goto (tgt := 10) hx hb dX0_leastXor_98 (by decide) ?_
          exact ih (Nat.le_of_succ_le hn) v4 v5 ls (Eq.trans (Eq.symm (by rw [gX0_leastXor, if_pos c_2, if_neg c_3, if_pos c_4])) hV) (lv_sub hl [3, 4, 5, 6, 7, 1, 0] rfl)
        · refine lv_iload hx hb dX0_leastXor_83 (lv_at hl 0 rfl) ?_
          refine lv_goto (tgt := 90) hx hb dX0_leastXor_85 (by decide) ?_
          refine lv_istore (lv' := [(5, .int (fX0_raised v5 (bitv (n + 1)))), (7, .int (fX0_raised v5 (bitv (n + 1)))), (0, .int p0), (1, .int p1), (2, .int p2), (3, .int p3), (4, .int v4), (6, .int (bitv (n + 1)))]) hx hb dX0_leastXor_90 hl (by decide) rfl (fun ls hl => ?_)
          refine lv_iload hx hb dX0_leastXor_92 (lv_at hl 7 rfl) ?_
          refine lv_iconst (v := 2) hx hb dX0_leastXor_94 (by decide) ?_
          refine lv_idiv hx hb dX0_leastXor_95 (by decide) ?_
          rw [bitv_s n hn]
          refine lv_istore (lv' := [(6, .int (bitv n)), (5, .int (fX0_raised v5 (bitv (n + 1)))), (7, .int (fX0_raised v5 (bitv (n + 1)))), (0, .int p0), (1, .int p1), (2, .int p2), (3, .int p3), (4, .int v4)]) hx hb dX0_leastXor_96 hl (by decide) rfl (fun ls hl => ?_)
          refine lv_goto (tgt := 10) hx hb dX0_leastXor_98 (by decide) ?_
          exact ih (Nat.le_of_succ_le hn) v4 (fX0_raised v5 (bitv (n + 1))) ls (Eq.trans (Eq.symm (by rw [gX0_leastXor, if_pos c_2, if_neg c_3, if_neg c_4])) hV) (lv_sub hl [3, 4, 5, 6, 7, 1, 0] rfl)
    · refine lv_iload hx hb dX0_leastXor_28 (lv_at hl 4 rfl) ?_
      refine lv_iload hx hb dX0_leastXor_30 (lv_at hl 6 rfl) ?_
      refine pu_call (As := [.int v4, .int (bitv (n + 1))]) (rest := []) ⟨hx, hb, hml, hown, hts⟩ (meX0_raised l v4 (bitv (n + 1))) (va_cwS 2 hts (lw_S q62 q63 q12 q64) rfl rfl rfl (by decide +kernel) ⟨Nat.le_of_ble_eq_true rfl, Nat.le_of_ble_eq_true rfl⟩) rfl hl.1 rfl (Nat.le_of_ble_eq_true rfl) dX0_leastXor_32 ⟨Nat.zero_le _, Nat.zero_le _⟩ ?_
      refine lv_istore (lv' := [(7, .int (fX0_raised v4 (bitv (n + 1)))), (0, .int p0), (1, .int p1), (2, .int p2), (3, .int p3), (4, .int v4), (5, .int v5), (6, .int (bitv (n + 1)))]) hx hb dX0_leastXor_35 hl (by decide) rfl (fun ls hl => ?_)
      refine lv_iload hx hb dX0_leastXor_37 (lv_at hl 0 rfl) ?_
      refine lv_iload_n hx hb dX0_leastXor_39 rfl (lv_at hl 2 rfl) ?_
      refine lv_icmp_gt (tgt := 48) hx hb dX0_leastXor_40 (by decide) (fun c_5 => ?_) (fun c_5 => ?_)
      · refine lv_iload hx hb dX0_leastXor_48 (lv_at hl 5 rfl) ?_
        refine lv_istore (lv' := [(4, .int v4), (7, .int (fX0_raised v4 (bitv (n + 1)))), (0, .int p0), (1, .int p1), (2, .int p2), (3, .int p3), (5, .int v5), (6, .int (bitv (n + 1)))]) hx hb dX0_leastXor_50 hl (by decide) rfl (fun ls hl => ?_)
        refine lv_goto (tgt := 92) hx hb dX0_leastXor_52 (by decide) ?_
        refine lv_iload hx hb dX0_leastXor_92 (lv_at hl 7 rfl) ?_
        refine lv_iconst (v := 2) hx hb dX0_leastXor_94 (by decide) ?_
        refine lv_idiv hx hb dX0_leastXor_95 (by decide) ?_
        rw [bitv_s n hn]
        refine lv_istore (lv' := [(6, .int (bitv n)), (4, .int v4), (7, .int (fX0_raised v4 (bitv (n + 1)))), (0, .int p0), (1, .int p1), (2, .int p2), (3, .int p3), (5, .int v5)]) hx hb dX0_leastXor_96 hl (by decide) rfl (fun ls hl => ?_)
        refine lv_goto (tgt := 10) hx hb dX0_leastXor_98 (by decide) ?_
        exact ih (Nat.le_of_succ_le hn) v4 v5 ls (Eq.trans (Eq.symm (by rw [gX0_leastXor, if_neg c_2, if_pos c_5])) hV) (lv_sub hl [3, 4, 5, 6, 1, 7, 0] rfl)
      · refine lv_iload hx hb dX0_leastXor_43 (lv_at hl 0 rfl) ?_
        refine lv_goto (tgt := 50) hx hb dX0_leastXor_45 (by decide) ?_
        refine lv_istore (lv' := [(4, .int (fX0_raised v4 (bitv (n + 1)))), (7, .int (fX0_raised v4 (bitv (n + 1)))), (0, .int p0), (1, .int p1), (2, .int p2), (3, .int p3), (5, .int v5), (6, .int (bitv (n + 1)))]) hx hb dX0_leastXor_50 hl (by decide) rfl (fun ls hl => ?_)
        refine lv_goto (tgt := 92) hx hb dX0_leastXor_52 (by decide) ?_
        refine lv_iload hx hb dX0_leastXor_92 (lv_at hl 7 rfl) ?_
        refine lv_iconst (v := 2) hx hb dX0_leastXor_94 (by decide) ?_
        refine lv_idiv hx hb dX0_leastXor_95 (by decide) ?_
        rw [bitv_s n hn]
        refine lv_istore (lv' := [(6, .int (bitv n)), (4, .int (fX0_raised v4 (bitv (n + 1)))), (7, .int (fX0_raised v4 (bitv (n + 1)))), (0, .int p0), (1, .int p1), (2, .int p2), (3, .int p3), (5, .int v5)]) hx hb dX0_leastXor_96 hl (by decide) rfl (fun ls hl => ?_)
        refine lv_goto (tgt := 10) hx hb dX0_leastXor_98 (by decide) ?_
        exact ih (Nat.le_of_succ_le hn) (fX0_raised v4 (bitv (n + 1))) v5 ls (Eq.trans (Eq.symm (by rw [gX0_leastXor, if_neg c_2, if_neg c_5])) hV) (lv_sub hl [3, 4, 5, 6, 1, 7, 0] rfl)
set_option maxHeartbeats 4000000 in
set_option maxRecDepth 100000 in
theorem meX0_leastXor (l : Launch) (p0 p1 p2 p3 : Int32) : PureI l yX0_leastXor (ws_ yX0_leastXor cX0_leastXor 8 (some .int)) ({ frames := 1, cells := 0, slots := 0, locals := 21 } : Room) [.int p0, .int p1, .int p2, .int p3] (fX0_leastXor p0 p1 p2 p3) := by
  intro H0
  refine Met.ofW (cc := cX0_leastXor) (maxL := 8) (ret := (some .int)) (by decide) rfl ?_
  intro p e s m args below meth c s₁ B hml hv
  obtain ⟨rfl, rfl⟩ := hv
  have hx := B.exec
  have hb := B.bytes
  have hr := B.returns
  have hts := atoms_spec (ws := (ws_ yX0_leastXor cX0_leastXor 8 (some .int))) B.pre
  have hts : ∀ w ∈ lw_all, w.before _ s = true := fun w h => hts w (List.mem_cons_of_mem _ h)
  have hown : s.vm.findClass RX0 = some m.cls := findClass_of_methodNamed B.named
  have hlocks := B.notSynchronized
  have hl := lv_entry ([.int p0, .int p1, .int p2, .int p3]) (n := 8) (Nat.le_of_ble_eq_true rfl)
  rw [lg_entry_eq]
  generalize (lg_sl ([.int p0, .int p1, .int p2, .int p3]) ++ List.replicate (8 - (lg_sl ([.int p0, .int p1, .int p2, .int p3])).length) Slot.unset).toArray = ls at hl ⊢
  have hl : lv_has ls 8 [(0, .int p0), (1, .int p1), (2, .int p2), (3, .int p3)] := hl
  generalize hV : fX0_leastXor p0 p1 p2 p3 = V
  refine lv_iload_n hx hb dX0_leastXor_0 rfl (lv_at hl 0 rfl) ?_
  refine lv_istore (lv' := [(4, .int p0), (0, .int p0), (1, .int p1), (2, .int p2), (3, .int p3)]) hx hb dX0_leastXor_1 hl (by decide) rfl (fun ls hl => ?_)
  refine lv_iload_n hx hb dX0_leastXor_3 rfl (lv_at hl 3 rfl) ?_
  refine lv_istore (lv' := [(5, .int p2), (4, .int p0), (0, .int p0), (1, .int p1), (2, .int p2), (3, .int p3)]) hx hb dX0_leastXor_4 hl (by decide) rfl (fun ls hl => ?_)
  refine lv_bipush (v := 64) hx hb dX0_leastXor_6 (by decide) ?_
  refine lv_istore (lv' := [(6, .int 64), (5, .int p2), (4, .int p0), (0, .int p0), (1, .int p1), (2, .int p2), (3, .int p3)]) hx hb dX0_leastXor_8 hl (by decide) rfl (fun ls hl => ?_)
  exact lpX0_leastXor hx hb hr hlocks hml hown hts V p0 p1 p2 p3 7 (Nat.le_refl _) p0 p2 ls (Eq.trans (Eq.symm (by rw [fX0_leastXor])) hV) (by rw [show bitv 7 = 64 from by decide]; exact lv_sub hl [3, 4, 5, 6, 2, 1, 0] rfl)
set_option maxHeartbeats 4000000 in
set_option maxRecDepth 100000 in
theorem lpX0_greatestXor {p : Program} {l : Launch} {e : Env} {s : State} {m : MethodId} {args : Array Value} {below : List Frame} {meth : Method} {c : Code} (hx : p.tables.exec = Jvm.exec) (hb : c.code = cX0_greatestXor) (hr : meth.sig.returnType = some .int) (hlocks : meth.locks = false) (hml : c.maxLocals = 9) (hown : s.vm.findClass RX0 = some m.cls) (hts : ∀ w ∈ lw_all, w.before args s = true) (V : Int32) (p0 p1 p2 p3 : Int32) :
    ∀ (n : Nat), n ≤ 7 → ∀ (v4 v5 : Int32) (ls : Array Slot), gX0_greatestXor p0 p1 p2 p3 n v4 v5 = V → lv_has ls 9 [(0, .int p0), (1, .int p1), (2, .int p2), (3, .int p3), (4, .int v4), (5, .int v5), (6, .int (bitv n))] → W p l e (headSpec (ws_ yX0_greatestXor cX0_greatestXor 9 (some .int)) ({ frames := 1, cells := 0, slots := 0, locals := 21 } : Room)).room s m args below meth c s.heap [] 0 0 (Qp below args s V) (F0 m 10 ls []) := by
  intro n
  induction n with
  | zero =>
    intro hn v4 v5 ls hV hl
    refine lv_iload hx hb dX0_greatestXor_10 (lv_at hl 6 rfl) ?_
    refine lv_if_le (tgt := 76) hx hb dX0_greatestXor_12 (by decide) (fun c_1 => ?_) (fun c_1 => absurd (by decide : bitv 0 ≤ 0) c_1)
    refine lv_iload hx hb dX0_greatestXor_76 (lv_at hl 4 rfl) ?_
    refine lv_iload hx hb dX0_greatestXor_78 (lv_at hl 5 rfl) ?_
    refine lv_ixor hx hb dX0_greatestXor_80 ?_
    exact pu_iret hx hb hr hlocks (Eq.trans (Eq.symm (by rw [gX0_greatestXor])) hV) dX0_greatestXor_81
  | succ n ih =>
    intro hn v4 v5 ls hV hl
    refine lv_iload hx hb dX0_greatestXor_10 (lv_at hl 6 rfl) ?_
    refine lv_if_le (tgt := 76) hx hb dX0_greatestXor_12 (by decide) (fun c_1 => absurd c_1 (bitv_t n hn)) (fun c_1 => ?_)
    refine lv_iload hx hb dX0_greatestXor_15 (lv_at hl 4 rfl) ?_
    refine lv_iload hx hb dX0_greatestXor_17 (lv_at hl 5 rfl) ?_
    refine lv_iand hx hb dX0_greatestXor_19 ?_
    refine lv_iload hx hb dX0_greatestXor_20 (lv_at hl 6 rfl) ?_
    refine lv_iand hx hb dX0_greatestXor_22 ?_
    refine lv_if_eq (tgt := 67) hx hb dX0_greatestXor_23 (by decide) (fun c_2 => ?_) (fun c_2 => ?_)
    · refine lv_iload hx hb dX0_greatestXor_67 (lv_at hl 6 rfl) ?_
      refine lv_iconst (v := 2) hx hb dX0_greatestXor_69 (by decide) ?_
      refine lv_idiv hx hb dX0_greatestXor_70 (by decide) ?_
      rw [bitv_s n hn]
      refine lv_istore (lv' := [(6, .int (bitv n)), (0, .int p0), (1, .int p1), (2, .int p2), (3, .int p3), (4, .int v4), (5, .int v5)]) hx hb dX0_greatestXor_71 hl (by decide) rfl (fun ls hl => ?_)
      refine lv_goto (tgt := 10) hx hb dX0_greatestXor_73 (by decide) ?_
      exact ih (Nat.le_of_succ_le hn) v4 v5 ls (Eq.trans (Eq.symm (by rw [gX0_greatestXor, if_pos c_2])) hV) (lv_sub hl [1, 2, 3, 4, 5, 6, 0] rfl)
    · refine lv_iload hx hb dX0_greatestXor_26 (lv_at hl 4 rfl) ?_
      refine lv_iload hx hb dX0_greatestXor_28 (lv_at hl 6 rfl) ?_
      refine pu_call (As := [.int v4, .int (bitv (n + 1))]) (rest := []) ⟨hx, hb, hml, hown, hts⟩ (meX0_lowered l v4 (bitv (n + 1))) (va_cwS 2 hts (lw_S q68 q69 q12 q70) rfl rfl rfl (by decide +kernel) ⟨Nat.le_of_ble_eq_true rfl, Nat.le_of_ble_eq_true rfl⟩) rfl hl.1 rfl (Nat.le_of_ble_eq_true rfl) dX0_greatestXor_30 ⟨Nat.zero_le _, Nat.zero_le _⟩ ?_
      refine lv_istore (lv' := [(7, .int (fX0_lowered v4 (bitv (n + 1)))), (0, .int p0), (1, .int p1), (2, .int p2), (3, .int p3), (4, .int v4), (5, .int v5), (6, .int (bitv (n + 1)))]) hx hb dX0_greatestXor_33 hl (by decide) rfl (fun ls hl => ?_)
      refine lv_iload hx hb dX0_greatestXor_35 (lv_at hl 6 rfl) ?_
      refine lv_iload hx hb dX0_greatestXor_37 (lv_at hl 7 rfl) ?_
      refine pu_call (As := [.int v5, .int (bitv (n + 1))]) (rest := []) ⟨hx, hb, hml, hown, hts⟩ (meX0_lowered l v5 (bitv (n + 1))) (va_cwS 2 hts (lw_S q68 q69 q12 q70) rfl rfl rfl (by decide +kernel) ⟨Nat.le_of_ble_eq_true rfl, Nat.le_of_ble_eq_true rfl⟩) rfl hl.1 rfl (Nat.le_of_ble_eq_true rfl) dX0_greatestXor_39 ⟨Nat.zero_le _, Nat.zero_le _⟩ ?_
      refine lv_istore (lv' := [(8, .int (fX0_lowered v5 (bitv (n + 1)))), (7, .int (fX0_lowered v4 (bitv (n + 1)))), (0, .int p0), (1, .int p1), (2, .int p2), (3, .int p3), (4, .int v4), (5, .int v5), (6, .int (bitv (n + 1)))]) hx hb dX0_greatestXor_42 hl (by decide) rfl (fun ls hl => ?_)
      refine lv_iload hx hb dX0_greatestXor_44 (lv_at hl 1 rfl) ?_
      refine lv_iload_n hx hb dX0_greatestXor_46 rfl (lv_at hl 2 rfl) ?_
      refine lv_icmp_lt (tgt := 57) hx hb dX0_greatestXor_47 (by decide) (fun c_3 => ?_) (fun c_3 => ?_)
      · refine lv_iload hx hb dX0_greatestXor_57 (lv_at hl 0 rfl) ?_
        refine lv_iload_n hx hb dX0_greatestXor_59 rfl (lv_at hl 4 rfl) ?_
        refine lv_icmp_lt (tgt := 67) hx hb dX0_greatestXor_60 (by decide) (fun c_4 => ?_) (fun c_4 => ?_)
        · refine lv_iload hx hb dX0_greatestXor_67 (lv_at hl 8 rfl) ?_
          refine lv_iconst (v := 2) hx hb dX0_greatestXor_69 (by decide) ?_
          refine lv_idiv hx hb dX0_greatestXor_70 (by decide) ?_
          rw [bitv_s n hn]
          refine lv_istore (lv' := [(6, .int (bitv n)), (8, .int (fX0_lowered v5 (bitv (n + 1)))), (7, .int (fX0_lowered v4 (bitv (n + 1)))), (0, .int p0), (1, .int p1), (2, .int p2), (3, .int p3), (4, .int v4), (5, .int v5)]) hx hb dX0_greatestXor_71 hl (by decide) rfl (fun ls hl => ?_)
          refine lv_goto (tgt := 10) hx hb dX0_greatestXor_73 (by decide) ?_
          exact ih (Nat.le_of_succ_le hn) v4 v5 ls (Eq.trans (Eq.symm (by rw [gX0_greatestXor, if_neg c_2, if_pos c_3, if_pos c_4])) hV) (lv_sub hl [3, 4, 5, 6, 7, 8, 0] rfl)
        · refine lv_iload hx hb dX0_greatestXor_63 (lv_at hl 0 rfl) ?_
          refine lv_istore (lv' := [(5, .int (fX0_lowered v5 (bitv (n + 1)))), (8, .int (fX0_lowered v5 (bitv (n + 1)))), (7, .int (fX0_lowered v4 (bitv (n + 1)))), (0, .int p0), (1, .int p1), (2, .int p2), (3, .int p3), (4, .int v4), (6, .int (bitv (n + 1)))]) hx hb dX0_greatestXor_65 hl (by decide) rfl (fun ls hl => ?_)
          refine lv_iload hx hb dX0_greatestXor_67 (lv_at hl 8 rfl) ?_
          refine lv_iconst (v := 2) hx hb dX0_greatestXor_69 (by decide) ?_
          refine lv_idiv hx hb dX0_greatestXor_70 (by decide) ?_
          rw [bitv_s n hn]
          refine lv_istore (lv' := [(6, .int (bitv n)), (5, .int (fX0_lowered v5 (bitv (n + 1)))), (8, .int (fX0_lowered v5 (bitv (n + 1)))), (7, .int (fX0_lowered v4 (bitv (n + 1)))), (0, .int p0), (1, .int p1), (2, .int p2), (3, .int p3), (4, .int v4)]) hx hb dX0_greatestXor_71 hl (by decide) rfl (fun ls hl => ?_)
          refine lv_goto (tgt := 10) hx hb dX0_greatestXor_73 (by decide) ?_
          exact ih (Nat.le_of_succ_le hn) v4 (fX0_lowered v5 (bitv (n + 1))) ls (Eq.trans (Eq.symm (by rw [gX0_greatestXor, if_neg c_2, if_pos c_3, if_neg c_4])) hV) (lv_sub hl [4, 5, 6, 7, 8, 1, 0] rfl)
      · refine lv_iload hx hb dX0_greatestXor_50 (lv_at hl 1 rfl) ?_
        refine lv_istore (lv' := [(4, .int (fX0_lowered v4 (bitv (n + 1)))), (8, .int (fX0_lowered v5 (bitv (n + 1)))), (7, .int (fX0_lowered v4 (bitv (n + 1)))), (0, .int p0), (1, .int p1), (2, .int p2), (3, .int p3), (5, .int v5), (6, .int (bitv (n + 1)))]) hx hb dX0_greatestXor_52 hl (by decide) rfl (fun ls hl => ?_)
        refine lv_goto (tgt := 67) hx hb dX0_greatestXor_54 (by decide) ?_
        refine lv_iload hx hb dX0_greatestXor_67 (lv_at hl 8 rfl) ?_
        refine lv_iconst (v := 2) hx hb dX0_greatestXor_69 (by decide) ?_
        refine lv_idiv hx hb dX0_greatestXor_70 (by decide) ?_
        rw [bitv_s n hn]
        refine lv_istore (lv' := [(6, .int (bitv n)), (4, .int (fX0_lowered v4 (bitv (n + 1)))), (8, .int (fX0_lowered v5 (bitv (n + 1)))), (7, .int (fX0_lowered v4 (bitv (n + 1)))), (0, .int p0), (1, .int p1), (2, .int p2), (3, .int p3), (5, .int v5)]) hx hb dX0_greatestXor_71 hl (by decide) rfl (fun ls hl => ?_)
        refine lv_goto (tgt := 10) hx hb dX0_greatestXor_73 (by decide) ?_
        exact ih (Nat.le_of_succ_le hn) (fX0_lowered v4 (bitv (n + 1))) v5 ls (Eq.trans (Eq.symm (by rw [gX0_greatestXor, if_neg c_2, if_neg c_3])) hV) (lv_sub hl [4, 5, 6, 7, 1, 8, 0] rfl)
set_option maxHeartbeats 4000000 in
set_option maxRecDepth 100000 in
theorem meX0_greatestXor (l : Launch) (p0 p1 p2 p3 : Int32) : PureI l yX0_greatestXor (ws_ yX0_greatestXor cX0_greatestXor 9 (some .int)) ({ frames := 1, cells := 0, slots := 0, locals := 21 } : Room) [.int p0, .int p1, .int p2, .int p3] (fX0_greatestXor p0 p1 p2 p3) := by
  intro H0
  refine Met.ofW (cc := cX0_greatestXor) (maxL := 9) (ret := (some .int)) (by decide) rfl ?_
  intro p e s m args below meth c s₁ B hml hv
  obtain ⟨rfl, rfl⟩ := hv
  have hx := B.exec
  have hb := B.bytes
  have hr := B.returns
  have hts := atoms_spec (ws := (ws_ yX0_greatestXor cX0_greatestXor 9 (some .int))) B.pre
  have hts : ∀ w ∈ lw_all, w.before _ s = true := fun w h => hts w (List.mem_cons_of_mem _ h)
  have hown : s.vm.findClass RX0 = some m.cls := findClass_of_methodNamed B.named
  have hlocks := B.notSynchronized
  have hl := lv_entry ([.int p0, .int p1, .int p2, .int p3]) (n := 9) (Nat.le_of_ble_eq_true rfl)
  rw [lg_entry_eq]
  generalize (lg_sl ([.int p0, .int p1, .int p2, .int p3]) ++ List.replicate (9 - (lg_sl ([.int p0, .int p1, .int p2, .int p3])).length) Slot.unset).toArray = ls at hl ⊢
  have hl : lv_has ls 9 [(0, .int p0), (1, .int p1), (2, .int p2), (3, .int p3)] := hl
  generalize hV : fX0_greatestXor p0 p1 p2 p3 = V
  refine lv_iload_n hx hb dX0_greatestXor_0 rfl (lv_at hl 1 rfl) ?_
  refine lv_istore (lv' := [(4, .int p1), (0, .int p0), (1, .int p1), (2, .int p2), (3, .int p3)]) hx hb dX0_greatestXor_1 hl (by decide) rfl (fun ls hl => ?_)
  refine lv_iload_n hx hb dX0_greatestXor_3 rfl (lv_at hl 4 rfl) ?_
  refine lv_istore (lv' := [(5, .int p3), (4, .int p1), (0, .int p0), (1, .int p1), (2, .int p2), (3, .int p3)]) hx hb dX0_greatestXor_4 hl (by decide) rfl (fun ls hl => ?_)
  refine lv_bipush (v := 64) hx hb dX0_greatestXor_6 (by decide) ?_
  refine lv_istore (lv' := [(6, .int 64), (5, .int p3), (4, .int p1), (0, .int p0), (1, .int p1), (2, .int p2), (3, .int p3)]) hx hb dX0_greatestXor_8 hl (by decide) rfl (fun ls hl => ?_)
  exact lpX0_greatestXor hx hb hr hlocks hml hown hts V p0 p1 p2 p3 7 (Nat.le_refl _) p1 p3 ls (Eq.trans (Eq.symm (by rw [fX0_greatestXor])) hV) (by rw [show bitv 7 = 64 from by decide]; exact lv_sub hl [3, 4, 5, 6, 2, 1, 0] rfl)
set_option maxHeartbeats 4000000 in
set_option maxRecDepth 100000 in
theorem lpX0_ones {p : Program} {l : Launch} {e : Env} {s : State} {m : MethodId} {args : Array Value} {below : List Frame} {meth : Method} {c : Code} (hx : p.tables.exec = Jvm.exec) (hb : c.code = cX0_ones) (hr : meth.sig.returnType = some .int) (hlocks : meth.locks = false) (hml : c.maxLocals = 3) (hown : s.vm.findClass RX0 = some m.cls) (hts : ∀ w ∈ lw_all, w.before args s = true) (V : Int32) (p0 : Int32) :
    ∀ (n : Nat), n ≤ 7 → ∀ (v1 : Int32) (ls : Array Slot), gX0_ones p0 n v1 = V → lv_has ls 3 [(0, .int p0), (1, .int v1), (2, .int (kup7 n))] → W p l e (headSpec (ws_ yX0_ones cX0_ones 3 (some .int)) ({ frames := 0, cells := 0, slots := 0, locals := 0 } : Room)).room s m args below meth c s.heap [] 0 0 (Qp below args s V) (F0 m 4 ls []) := by
  intro n
  induction n with
  | zero =>
    intro hn v1 ls hV hl
    refine lv_iload_n hx hb dX0_ones_4 rfl (lv_at hl 2 rfl) ?_
    refine lv_bipush (v := 7) hx hb dX0_ones_5 (by decide) ?_
    refine lv_icmp_ge (tgt := 24) hx hb dX0_ones_7 (by decide) (fun c_1 => ?_) (fun c_1 => absurd (by decide : (7 : Int32) ≤ kup7 0) c_1)
    refine lv_iload_n hx hb dX0_ones_24 rfl (lv_at hl 1 rfl) ?_
    exact pu_iret hx hb hr hlocks (Eq.trans (Eq.symm (by rw [gX0_ones])) hV) dX0_ones_25
  | succ n ih =>
    intro hn v1 ls hV hl
    refine lv_iload_n hx hb dX0_ones_4 rfl (lv_at hl 2 rfl) ?_
    refine lv_bipush (v := 7) hx hb dX0_ones_5 (by decide) ?_
    refine lv_icmp_ge (tgt := 24) hx hb dX0_ones_7 (by decide) (fun c_1 => absurd c_1 (kup7_t n hn)) (fun c_1 => ?_)
    refine lv_iload_n hx hb dX0_ones_10 rfl (lv_at hl 1 rfl) ?_
    refine lv_iload_n hx hb dX0_ones_11 rfl (lv_at hl 0 rfl) ?_
    refine lv_iload_n hx hb dX0_ones_12 rfl (lv_at hl 2 rfl) ?_
    refine lv_iushr (v := (ushr p0 (kup7 (n + 1)))) hx hb dX0_ones_13 rfl ?_
    refine lv_iconst (v := 1) hx hb dX0_ones_14 (by decide) ?_
    refine lv_iand hx hb dX0_ones_15 ?_
    refine lv_iadd hx hb dX0_ones_16 ?_
    refine lv_istore_n (lv' := [(1, .int (v1 + ((ushr p0 (kup7 (n + 1))) &&& 1))), (0, .int p0), (2, .int (kup7 (n + 1)))]) hx hb dX0_ones_17 rfl hl (by decide) rfl (fun ls hl => ?_)
    refine lv_iinc (v := (kup7 n)) (lv' := [(2, .int (kup7 n)), (1, .int (v1 + ((ushr p0 (kup7 (n + 1))) &&& 1))), (0, .int p0)]) hx hb dX0_ones_18 hl (k := 2) rfl (kup7_s n hn) (by decide) rfl (fun ls hl => ?_)
    refine lv_goto (tgt := 4) hx hb dX0_ones_21 (by decide) ?_
    exact ih (Nat.le_of_succ_le hn) (v1 + ((ushr p0 (kup7 (n + 1))) &&& 1)) ls (Eq.trans (Eq.symm (by rw [gX0_ones])) hV) (lv_sub hl [2, 1, 0] rfl)
set_option maxHeartbeats 4000000 in
set_option maxRecDepth 100000 in
theorem meX0_ones (l : Launch) (p0 : Int32) : PureI l yX0_ones (ws_ yX0_ones cX0_ones 3 (some .int)) ({ frames := 0, cells := 0, slots := 0, locals := 0 } : Room) [.int p0] (fX0_ones p0) := by
  intro H0
  refine Met.ofW (cc := cX0_ones) (maxL := 3) (ret := (some .int)) (by decide) rfl ?_
  intro p e s m args below meth c s₁ B hml hv
  obtain ⟨rfl, rfl⟩ := hv
  have hx := B.exec
  have hb := B.bytes
  have hr := B.returns
  have hts := atoms_spec (ws := (ws_ yX0_ones cX0_ones 3 (some .int))) B.pre
  have hts : ∀ w ∈ lw_all, w.before _ s = true := fun w h => hts w (List.mem_cons_of_mem _ h)
  have hown : s.vm.findClass RX0 = some m.cls := findClass_of_methodNamed B.named
  have hlocks := B.notSynchronized
  have hl := lv_entry ([.int p0]) (n := 3) (Nat.le_of_ble_eq_true rfl)
  rw [lg_entry_eq]
  generalize (lg_sl ([.int p0]) ++ List.replicate (3 - (lg_sl ([.int p0])).length) Slot.unset).toArray = ls at hl ⊢
  have hl : lv_has ls 3 [(0, .int p0)] := hl
  generalize hV : fX0_ones p0 = V
  refine lv_iconst (v := 0) hx hb dX0_ones_0 (by decide) ?_
  refine lv_istore_n (lv' := [(1, .int 0), (0, .int p0)]) hx hb dX0_ones_1 rfl hl (by decide) rfl (fun ls hl => ?_)
  refine lv_iconst (v := 0) hx hb dX0_ones_2 (by decide) ?_
  refine lv_istore_n (lv' := [(2, .int 0), (1, .int 0), (0, .int p0)]) hx hb dX0_ones_3 rfl hl (by decide) rfl (fun ls hl => ?_)
  exact lpX0_ones hx hb hr hlocks hml hown hts V p0 7 (Nat.le_refl _) 0 ls (Eq.trans (Eq.symm (by rw [fX0_ones])) hV) (by rw [show kup7 7 = 0 from by decide]; exact lv_sub hl [2, 1, 0] rfl)
set_option maxHeartbeats 4000000 in
set_option maxRecDepth 100000 in
theorem lpX0_reversed {p : Program} {l : Launch} {e : Env} {s : State} {m : MethodId} {args : Array Value} {below : List Frame} {meth : Method} {c : Code} (hx : p.tables.exec = Jvm.exec) (hb : c.code = cX0_reversed) (hr : meth.sig.returnType = some .int) (hlocks : meth.locks = false) (hml : c.maxLocals = 10) (hown : s.vm.findClass RX0 = some m.cls) (hts : ∀ w ∈ lw_all, w.before args s = true) (V : Int32) (p0 p1 p2 : Int32) :
    ∀ (n : Nat), n ≤ 7 → ∀ (v3 v4 : Int32) (ls : Array Slot), gX0_reversed p0 p1 p2 n v3 v4 = V → lv_has ls 10 [(0, .int p0), (1, .int p1), (2, .int p2), (3, .int v3), (4, .int v4), (5, .int (kup7 n))] → W p l e (headSpec (ws_ yX0_reversed cX0_reversed 10 (some .int)) ({ frames := 0, cells := 0, slots := 0, locals := 0 } : Room)).room s m args below meth c s.heap [] 0 0 (Qp below args s V) (F0 m 8 ls []) := by
  intro n
  induction n with
  | zero =>
    intro hn v3 v4 ls hV hl
    refine lv_iload hx hb dX0_reversed_8 (lv_at hl 5 rfl) ?_
    refine lv_bipush (v := 7) hx hb dX0_reversed_10 (by decide) ?_
    refine lv_icmp_ge (tgt := 80) hx hb dX0_reversed_12 (by decide) (fun c_1 => ?_) (fun c_1 => absurd (by decide : (7 : Int32) ≤ kup7 0) c_1)
    refine lv_iload hx hb dX0_reversed_80 (lv_at hl 4 rfl) ?_
    exact pu_iret hx hb hr hlocks (Eq.trans (Eq.symm (by rw [gX0_reversed])) hV) dX0_reversed_82
  | succ n ih =>
    intro hn v3 v4 ls hV hl
    refine lv_iload hx hb dX0_reversed_8 (lv_at hl 5 rfl) ?_
    refine lv_bipush (v := 7) hx hb dX0_reversed_10 (by decide) ?_
    refine lv_icmp_ge (tgt := 80) hx hb dX0_reversed_12 (by decide) (fun c_1 => absurd c_1 (kup7_t n hn)) (fun c_1 => ?_)
    refine lv_iconst (v := 2) hx hb dX0_reversed_15 (by decide) ?_
    refine lv_iload hx hb dX0_reversed_16 (lv_at hl 5 rfl) ?_
    refine lv_ishl hx hb dX0_reversed_18 ?_
    refine lv_istore (lv' := [(6, .int (2 <<< ((kup7 (n + 1)) &&& 31))), (0, .int p0), (1, .int p1), (2, .int p2), (3, .int v3), (4, .int v4), (5, .int (kup7 (n + 1)))]) hx hb dX0_reversed_19 hl (by decide) rfl (fun ls hl => ?_)
    refine lv_iload_n hx hb dX0_reversed_21 rfl (lv_at hl 4 rfl) ?_
    refine lv_iload_n hx hb dX0_reversed_22 rfl (lv_at hl 3 rfl) ?_
    refine lv_iload hx hb dX0_reversed_23 (lv_at hl 6 rfl) ?_
    refine lv_ishl hx hb dX0_reversed_25 ?_
    refine lv_ior hx hb dX0_reversed_26 ?_
    refine lv_istore (lv' := [(7, .int (v3 ||| (p2 <<< ((kup7 (n + 1)) &&& 31)))), (6, .int (2 <<< ((kup7 (n + 1)) &&& 31))), (0, .int p0), (1, .int p1), (2, .int p2), (3, .int v3), (4, .int v4), (5, .int (kup7 (n + 1)))]) hx hb dX0_reversed_27 hl (by decide) rfl (fun ls hl => ?_)
    refine lv_iload_n hx hb dX0_reversed_29 rfl (lv_at hl 2 rfl) ?_
    refine lv_iload hx hb dX0_reversed_30 (lv_at hl 0 rfl) ?_
    refine lv_iload_n hx hb dX0_reversed_32 rfl (lv_at hl 2 rfl) ?_
    refine lv_isub hx hb dX0_reversed_33 ?_
    refine lv_iload hx hb dX0_reversed_34 (lv_at hl 1 rfl) ?_
    refine lv_iconst (v := 1) hx hb dX0_reversed_36 (by decide) ?_
    refine lv_isub hx hb dX0_reversed_37 ?_
    refine lv_iand hx hb dX0_reversed_38 ?_
    refine lv_iadd hx hb dX0_reversed_39 ?_
    refine lv_istore (lv' := [(8, .int (p0 + (((v3 ||| (p2 <<< ((kup7 (n + 1)) &&& 31))) - p0) &&& ((2 <<< ((kup7 (n + 1)) &&& 31)) - 1)))), (7, .int (v3 ||| (p2 <<< ((kup7 (n + 1)) &&& 31)))), (6, .int (2 <<< ((kup7 (n + 1)) &&& 31))), (0, .int p0), (1, .int p1), (2, .int p2), (3, .int v3), (4, .int v4), (5, .int (kup7 (n + 1)))]) hx hb dX0_reversed_40 hl (by decide) rfl (fun ls hl => ?_)
    refine lv_iload hx hb dX0_reversed_42 (lv_at hl 0 rfl) ?_
    refine lv_iload_n hx hb dX0_reversed_44 rfl (lv_at hl 4 rfl) ?_
    refine lv_icmp_gt (tgt := 52) hx hb dX0_reversed_45 (by decide) (fun c_2 => ?_) (fun c_2 => ?_)
    · refine lv_iconst (v := 1) hx hb dX0_reversed_52 (by decide) ?_
      refine lv_iload_n hx hb dX0_reversed_53 rfl (lv_at hl 5 rfl) ?_
      refine lv_isub hx hb dX0_reversed_54 ?_
      refine lv_istore (lv' := [(9, .int (1 - p2)), (8, .int (p0 + (((v3 ||| (p2 <<< ((kup7 (n + 1)) &&& 31))) - p0) &&& ((2 <<< ((kup7 (n + 1)) &&& 31)) - 1)))), (7, .int (v3 ||| (p2 <<< ((kup7 (n + 1)) &&& 31)))), (6, .int (2 <<< ((kup7 (n + 1)) &&& 31))), (0, .int p0), (1, .int p1), (2, .int p2), (3, .int v3), (4, .int v4), (5, .int (kup7 (n + 1)))]) hx hb dX0_reversed_55 hl (by decide) rfl (fun ls hl => ?_)
      refine lv_iload_n hx hb dX0_reversed_57 rfl (lv_at hl 7 rfl) ?_
      refine lv_iload hx hb dX0_reversed_58 (lv_at hl 0 rfl) ?_
      refine lv_iload hx hb dX0_reversed_60 (lv_at hl 9 rfl) ?_
      refine lv_ishl hx hb dX0_reversed_62 ?_
      refine lv_ior hx hb dX0_reversed_63 ?_
      refine lv_istore_n (lv' := [(3, .int (v3 ||| ((1 - p2) <<< ((kup7 (n + 1)) &&& 31)))), (9, .int (1 - p2)), (8, .int (p0 + (((v3 ||| (p2 <<< ((kup7 (n + 1)) &&& 31))) - p0) &&& ((2 <<< ((kup7 (n + 1)) &&& 31)) - 1)))), (7, .int (v3 ||| (p2 <<< ((kup7 (n + 1)) &&& 31)))), (6, .int (2 <<< ((kup7 (n + 1)) &&& 31))), (0, .int p0), (1, .int p1), (2, .int p2), (4, .int v4), (5, .int (kup7 (n + 1)))]) hx hb dX0_reversed_64 rfl hl (by decide) rfl (fun ls hl => ?_)
      refine lv_iconst (v := 2) hx hb dX0_reversed_65 (by decide) ?_
      refine lv_iload hx hb dX0_reversed_66 (lv_at hl 8 rfl) ?_
      refine lv_imul hx hb dX0_reversed_68 ?_
      refine lv_iload hx hb dX0_reversed_69 (lv_at hl 1 rfl) ?_
      refine lv_iadd hx hb dX0_reversed_71 ?_
      refine lv_istore (lv' := [(4, .int ((2 * v4) + (1 - p2))), (3, .int (v3 ||| ((1 - p2) <<< ((kup7 (n + 1)) &&& 31)))), (9, .int (1 - p2)), (8, .int (p0 + (((v3 ||| (p2 <<< ((kup7 (n + 1)) &&& 31))) - p0) &&& ((2 <<< ((kup7 (n + 1)) &&& 31)) - 1)))), (7, .int (v3 ||| (p2 <<< ((kup7 (n + 1)) &&& 31)))), (6, .int (2 <<< ((kup7 (n + 1)) &&& 31))), (0, .int p0), (1, .int p1), (2, .int p2), (5, .int (kup7 (n + 1)))]) hx hb dX0_reversed_72 hl (by decide) rfl (fun ls hl => ?_)
      refine lv_iinc (v := (kup7 n)) (lv' := [(5, .int (kup7 n)), (4, .int ((2 * v4) + (1 - p2))), (3, .int (v3 ||| ((1 - p2) <<< ((kup7 (n + 1)) &&& 31)))), (9, .int (1 - p2)), (8, .int (p0 + (((v3 ||| (p2 <<< ((kup7 (n + 1)) &&& 31))) - p0) &&& ((2 <<< ((kup7 (n + 1)) &&& 31)) - 1)))), (7, .int (v3 ||| (p2 <<< ((kup7 (n + 1)) &&& 31)))), (6, .int (2 <<< ((kup7 (n + 1)) &&& 31))), (0, .int p0), (1, .int p1), (2, .int p2)]) hx hb dX0_reversed_74 hl (k := 9) rfl (kup7_s n hn) (by decide) rfl (fun ls hl => ?_)
      refine lv_goto (tgt := 8) hx hb dX0_reversed_77 (by decide) ?_
      exact ih (Nat.le_of_succ_le hn) (v3 ||| ((1 - p2) <<< ((kup7 (n + 1)) &&& 31))) ((2 * v4) + (1 - p2)) ls (Eq.trans (Eq.symm (by rw [gX0_reversed, if_pos c_2])) hV) (lv_sub hl [7, 8, 9, 2, 1, 0] rfl)
    · refine lv_iload_n hx hb dX0_reversed_48 rfl (lv_at hl 5 rfl) ?_
      refine lv_goto (tgt := 55) hx hb dX0_reversed_49 (by decide) ?_
      refine lv_istore (lv' := [(9, .int p2), (8, .int (p0 + (((v3 ||| (p2 <<< ((kup7 (n + 1)) &&& 31))) - p0) &&& ((2 <<< ((kup7 (n + 1)) &&& 31)) - 1)))), (7, .int (v3 ||| (p2 <<< ((kup7 (n + 1)) &&& 31)))), (6, .int (2 <<< ((kup7 (n + 1)) &&& 31))), (0, .int p0), (1, .int p1), (2, .int p2), (3, .int v3), (4, .int v4), (5, .int (kup7 (n + 1)))]) hx hb dX0_reversed_55 hl (by decide) rfl (fun ls hl => ?_)
      refine lv_iload_n hx hb dX0_reversed_57 rfl (lv_at hl 7 rfl) ?_
      refine lv_iload hx hb dX0_reversed_58 (lv_at hl 0 rfl) ?_
      refine lv_iload hx hb dX0_reversed_60 (lv_at hl 9 rfl) ?_
      refine lv_ishl hx hb dX0_reversed_62 ?_
      refine lv_ior hx hb dX0_reversed_63 ?_
      refine lv_istore_n (lv' := [(3, .int (v3 ||| (p2 <<< ((kup7 (n + 1)) &&& 31)))), (9, .int p2), (8, .int (p0 + (((v3 ||| (p2 <<< ((kup7 (n + 1)) &&& 31))) - p0) &&& ((2 <<< ((kup7 (n + 1)) &&& 31)) - 1)))), (7, .int (v3 ||| (p2 <<< ((kup7 (n + 1)) &&& 31)))), (6, .int (2 <<< ((kup7 (n + 1)) &&& 31))), (0, .int p0), (1, .int p1), (2, .int p2), (4, .int v4), (5, .int (kup7 (n + 1)))]) hx hb dX0_reversed_64 rfl hl (by decide) rfl (fun ls hl => ?_)
      refine lv_iconst (v := 2) hx hb dX0_reversed_65 (by decide) ?_
      refine lv_iload hx hb dX0_reversed_66 (lv_at hl 8 rfl) ?_
      refine lv_imul hx hb dX0_reversed_68 ?_
      refine lv_iload hx hb dX0_reversed_69 (lv_at hl 1 rfl) ?_
      refine lv_iadd hx hb dX0_reversed_71 ?_
      refine lv_istore (lv' := [(4, .int ((2 * v4) + p2)), (3, .int (v3 ||| (p2 <<< ((kup7 (n + 1)) &&& 31)))), (9, .int p2), (8, .int (p0 + (((v3 ||| (p2 <<< ((kup7 (n + 1)) &&& 31))) - p0) &&& ((2 <<< ((kup7 (n + 1)) &&& 31)) - 1)))), (7, .int (v3 ||| (p2 <<< ((kup7 (n + 1)) &&& 31)))), (6, .int (2 <<< ((kup7 (n + 1)) &&& 31))), (0, .int p0), (1, .int p1), (2, .int p2), (5, .int (kup7 (n + 1)))]) hx hb dX0_reversed_72 hl (by decide) rfl (fun ls hl => ?_)
      refine lv_iinc (v := (kup7 n)) (lv' := [(5, .int (kup7 n)), (4, .int ((2 * v4) + p2)), (3, .int (v3 ||| (p2 <<< ((kup7 (n + 1)) &&& 31)))), (9, .int p2), (8, .int (p0 + (((v3 ||| (p2 <<< ((kup7 (n + 1)) &&& 31))) - p0) &&& ((2 <<< ((kup7 (n + 1)) &&& 31)) - 1)))), (7, .int (v3 ||| (p2 <<< ((kup7 (n + 1)) &&& 31)))), (6, .int (2 <<< ((kup7 (n + 1)) &&& 31))), (0, .int p0), (1, .int p1), (2, .int p2)]) hx hb dX0_reversed_74 hl (k := 9) rfl (kup7_s n hn) (by decide) rfl (fun ls hl => ?_)
      refine lv_goto (tgt := 8) hx hb dX0_reversed_77 (by decide) ?_
      exact ih (Nat.le_of_succ_le hn) (v3 ||| (p2 <<< ((kup7 (n + 1)) &&& 31))) ((2 * v4) + p2) ls (Eq.trans (Eq.symm (by rw [gX0_reversed, if_neg c_2])) hV) (lv_sub hl [7, 8, 9, 2, 1, 0] rfl)
set_option maxHeartbeats 4000000 in
set_option maxRecDepth 100000 in
theorem meX0_reversed (l : Launch) (p0 p1 p2 : Int32) : PureI l yX0_reversed (ws_ yX0_reversed cX0_reversed 10 (some .int)) ({ frames := 0, cells := 0, slots := 0, locals := 0 } : Room) [.int p0, .int p1, .int p2] (fX0_reversed p0 p1 p2) := by
  intro H0
  refine Met.ofW (cc := cX0_reversed) (maxL := 10) (ret := (some .int)) (by decide) rfl ?_
  intro p e s m args below meth c s₁ B hml hv
  obtain ⟨rfl, rfl⟩ := hv
  have hx := B.exec
  have hb := B.bytes
  have hr := B.returns
  have hts := atoms_spec (ws := (ws_ yX0_reversed cX0_reversed 10 (some .int))) B.pre
  have hts : ∀ w ∈ lw_all, w.before _ s = true := fun w h => hts w (List.mem_cons_of_mem _ h)
  have hown : s.vm.findClass RX0 = some m.cls := findClass_of_methodNamed B.named
  have hlocks := B.notSynchronized
  have hl := lv_entry ([.int p0, .int p1, .int p2]) (n := 10) (Nat.le_of_ble_eq_true rfl)
  rw [lg_entry_eq]
  generalize (lg_sl ([.int p0, .int p1, .int p2]) ++ List.replicate (10 - (lg_sl ([.int p0, .int p1, .int p2])).length) Slot.unset).toArray = ls at hl ⊢
  have hl : lv_has ls 10 [(0, .int p0), (1, .int p1), (2, .int p2)] := hl
  generalize hV : fX0_reversed p0 p1 p2 = V
  refine lv_iconst (v := 0) hx hb dX0_reversed_0 (by decide) ?_
  refine lv_istore_n (lv' := [(3, .int 0), (0, .int p0), (1, .int p1), (2, .int p2)]) hx hb dX0_reversed_1 rfl hl (by decide) rfl (fun ls hl => ?_)
  refine lv_iconst (v := 0) hx hb dX0_reversed_2 (by decide) ?_
  refine lv_istore (lv' := [(4, .int 0), (3, .int 0), (0, .int p0), (1, .int p1), (2, .int p2)]) hx hb dX0_reversed_3 hl (by decide) rfl (fun ls hl => ?_)
  refine lv_iconst (v := 0) hx hb dX0_reversed_5 (by decide) ?_
  refine lv_istore (lv' := [(5, .int 0), (4, .int 0), (3, .int 0), (0, .int p0), (1, .int p1), (2, .int p2)]) hx hb dX0_reversed_6 hl (by decide) rfl (fun ls hl => ?_)
  exact lpX0_reversed hx hb hr hlocks hml hown hts V p0 p1 p2 7 (Nat.le_refl _) 0 0 ls (Eq.trans (Eq.symm (by rw [fX0_reversed])) hV) (by rw [show kup7 7 = 0 from by decide]; exact lv_sub hl [3, 4, 5, 2, 1, 0] rfl)
set_option maxHeartbeats 4000000 in
set_option maxRecDepth 100000 in
theorem lpX0_apartUpTo {p : Program} {l : Launch} {e : Env} {s : State} {m : MethodId} {args : Array Value} {below : List Frame} {meth : Method} {c : Code} (hx : p.tables.exec = Jvm.exec) (hb : c.code = cX0_apartUpTo) (hr : meth.sig.returnType = some .int) (hlocks : meth.locks = false) (hml : c.maxLocals = 9) (hown : s.vm.findClass RX0 = some m.cls) (hts : ∀ w ∈ lw_all, w.before args s = true) (V : Int32) (p0 p1 : Int32) :
    ∀ (n : Nat), n ≤ 7 → ∀ (v2 v3 v4 v5 : Int32) (ls : Array Slot), gX0_apartUpTo p0 p1 n v2 v3 v4 v5 = V → lv_has ls 9 [(0, .int p0), (1, .int p1), (2, .int v2), (3, .int v3), (4, .int v4), (5, .int v5), (6, .int (kdn n))] → W p l e (headSpec (ws_ yX0_apartUpTo cX0_apartUpTo 9 (some .int)) ({ frames := 0, cells := 0, slots := 0, locals := 0 } : Room)).room s m args below meth c s.heap [] 0 0 (Qp below args s V) (F0 m 24 ls []) := by
  intro n
  induction n with
  | zero =>
    intro hn v2 v3 v4 v5 ls hV hl
    refine lv_iload hx hb dX0_apartUpTo_24 (lv_at hl 6 rfl) ?_
    refine lv_if_lt (tgt := 136) hx hb dX0_apartUpTo_26 (by decide) (fun c_1 => ?_) (fun c_1 => absurd (by decide : kdn 0 < 0) c_1)
    refine lv_iload_n hx hb dX0_apartUpTo_136 rfl (lv_at hl 2 rfl) ?_
    refine lv_iload_n hx hb dX0_apartUpTo_137 rfl (lv_at hl 3 rfl) ?_
    refine lv_iadd hx hb dX0_apartUpTo_138 ?_
    refine lv_iload hx hb dX0_apartUpTo_139 (lv_at hl 4 rfl) ?_
    refine lv_iadd hx hb dX0_apartUpTo_141 ?_
    refine lv_iload hx hb dX0_apartUpTo_142 (lv_at hl 5 rfl) ?_
    refine lv_iadd hx hb dX0_apartUpTo_144 ?_
    exact pu_iret hx hb hr hlocks (Eq.trans (Eq.symm (by rw [gX0_apartUpTo])) hV) dX0_apartUpTo_145
  | succ n ih =>
    intro hn v2 v3 v4 v5 ls hV hl
    refine lv_iload hx hb dX0_apartUpTo_24 (lv_at hl 6 rfl) ?_
    refine lv_if_lt (tgt := 136) hx hb dX0_apartUpTo_26 (by decide) (fun c_1 => absurd c_1 (kdn_t n hn)) (fun c_1 => ?_)
    refine lv_iload_n hx hb dX0_apartUpTo_29 rfl (lv_at hl 0 rfl) ?_
    refine lv_iload hx hb dX0_apartUpTo_30 (lv_at hl 6 rfl) ?_
    refine lv_iushr (v := (ushr p0 (kdn (n + 1)))) hx hb dX0_apartUpTo_32 rfl ?_
    refine lv_iconst (v := 1) hx hb dX0_apartUpTo_33 (by decide) ?_
    refine lv_iand hx hb dX0_apartUpTo_34 ?_
    refine lv_istore (lv' := [(7, .int ((ushr p0 (kdn (n + 1))) &&& 1)), (0, .int p0), (1, .int p1), (2, .int v2), (3, .int v3), (4, .int v4), (5, .int v5), (6, .int (kdn (n + 1)))]) hx hb dX0_apartUpTo_35 hl (by decide) rfl (fun ls hl => ?_)
    refine lv_iload_n hx hb dX0_apartUpTo_37 rfl (lv_at hl 2 rfl) ?_
    refine lv_iload hx hb dX0_apartUpTo_38 (lv_at hl 7 rfl) ?_
    refine lv_iushr (v := (ushr p1 (kdn (n + 1)))) hx hb dX0_apartUpTo_40 rfl ?_
    refine lv_iconst (v := 1) hx hb dX0_apartUpTo_41 (by decide) ?_
    refine lv_iand hx hb dX0_apartUpTo_42 ?_
    refine lv_istore (lv' := [(8, .int ((ushr p1 (kdn (n + 1))) &&& 1)), (7, .int ((ushr p0 (kdn (n + 1))) &&& 1)), (0, .int p0), (1, .int p1), (2, .int v2), (3, .int v3), (4, .int v4), (5, .int v5), (6, .int (kdn (n + 1)))]) hx hb dX0_apartUpTo_43 hl (by decide) rfl (fun ls hl => ?_)
    refine lv_iconst (v := 3) hx hb dX0_apartUpTo_45 (by decide) ?_
    refine lv_iload hx hb dX0_apartUpTo_46 (lv_at hl 7 rfl) ?_
    refine lv_imul hx hb dX0_apartUpTo_48 ?_
    refine lv_iconst (v := 2) hx hb dX0_apartUpTo_49 (by decide) ?_
    refine lv_iload hx hb dX0_apartUpTo_50 (lv_at hl 1 rfl) ?_
    refine lv_imul hx hb dX0_apartUpTo_52 ?_
    refine lv_iload_n hx hb dX0_apartUpTo_53 rfl (lv_at hl 5 rfl) ?_
    refine lv_imul hx hb dX0_apartUpTo_54 ?_
    refine lv_iadd hx hb dX0_apartUpTo_55 ?_
    refine lv_iconst (v := 2) hx hb dX0_apartUpTo_56 (by decide) ?_
    refine lv_iload hx hb dX0_apartUpTo_57 (lv_at hl 0 rfl) ?_
    refine lv_imul hx hb dX0_apartUpTo_59 ?_
    refine lv_iload hx hb dX0_apartUpTo_60 (lv_at hl 6 rfl) ?_
    refine lv_imul hx hb dX0_apartUpTo_62 ?_
    refine lv_iadd hx hb dX0_apartUpTo_63 ?_
    refine lv_iload hx hb dX0_apartUpTo_64 (lv_at hl 1 rfl) ?_
    refine lv_iload hx hb dX0_apartUpTo_66 (lv_at hl 0 rfl) ?_
    refine lv_imul hx hb dX0_apartUpTo_68 ?_
    refine lv_iload_n hx hb dX0_apartUpTo_69 rfl (lv_at hl 4 rfl) ?_
    refine lv_imul hx hb dX0_apartUpTo_70 ?_
    refine lv_iadd hx hb dX0_apartUpTo_71 ?_
    refine lv_istore (lv' := [(5, .int ((((3 * v5) + ((2 * ((ushr p0 (kdn (n + 1))) &&& 1)) * v3)) + ((2 * ((ushr p1 (kdn (n + 1))) &&& 1)) * v4)) + ((((ushr p0 (kdn (n + 1))) &&& 1) * ((ushr p1 (kdn (n + 1))) &&& 1)) * v2))), (8, .int ((ushr p1 (kdn (n + 1))) &&& 1)), (7, .int ((ushr p0 (kdn (n + 1))) &&& 1)), (0, .int p0), (1, .int p1), (2, .int v2), (3, .int v3), (4, .int v4), (6, .int (kdn (n + 1)))]) hx hb dX0_apartUpTo_72 hl (by decide) rfl (fun ls hl => ?_)
    refine lv_iload hx hb dX0_apartUpTo_74 (lv_at hl 2 rfl) ?_
    refine lv_iconst (v := 1) hx hb dX0_apartUpTo_76 (by decide) ?_
    refine lv_icmp_ne (tgt := 84) hx hb dX0_apartUpTo_77 (by decide) (fun c_2 => ?_) (fun c_2 => ?_)
    · refine lv_iconst (v := 2) hx hb dX0_apartUpTo_84 (by decide) ?_
      refine lv_iload_n hx hb dX0_apartUpTo_85 rfl (lv_at hl 6 rfl) ?_
      refine lv_imul hx hb dX0_apartUpTo_86 ?_
      refine lv_iload hx hb dX0_apartUpTo_87 (lv_at hl 1 rfl) ?_
      refine lv_iload_n hx hb dX0_apartUpTo_89 rfl (lv_at hl 5 rfl) ?_
      refine lv_imul hx hb dX0_apartUpTo_90 ?_
      refine lv_iadd hx hb dX0_apartUpTo_91 ?_
      refine lv_istore_n (lv' := [(3, .int ((2 * v3) + (((ushr p1 (kdn (n + 1))) &&& 1) * v2))), (5, .int ((((3 * v5) + ((2 * ((ushr p0 (kdn (n + 1))) &&& 1)) * v3)) + ((2 * ((ushr p1 (kdn (n + 1))) &&& 1)) * v4)) + ((((ushr p0 (kdn (n + 1))) &&& 1) * ((ushr p1 (kdn (n + 1))) &&& 1)) * v2))), (8, .int ((ushr p1 (kdn (n + 1))) &&& 1)), (7, .int ((ushr p0 (kdn (n + 1))) &&& 1)), (0, .int p0), (1, .int p1), (2, .int v2), (4, .int v4), (6, .int (kdn (n + 1)))]) hx hb dX0_apartUpTo_92 rfl hl (by decide) rfl (fun ls hl => ?_)
      refine lv_iload hx hb dX0_apartUpTo_93 (lv_at hl 2 rfl) ?_
      refine lv_iconst (v := 1) hx hb dX0_apartUpTo_95 (by decide) ?_
      refine lv_icmp_ne (tgt := 104) hx hb dX0_apartUpTo_96 (by decide) (fun c_3 => ?_) (fun c_3 => ?_)
      · refine lv_iconst (v := 2) hx hb dX0_apartUpTo_104 (by decide) ?_
        refine lv_iload hx hb dX0_apartUpTo_105 (lv_at hl 7 rfl) ?_
        refine lv_imul hx hb dX0_apartUpTo_107 ?_
        refine lv_iload hx hb dX0_apartUpTo_108 (lv_at hl 3 rfl) ?_
        refine lv_iload_n hx hb dX0_apartUpTo_110 rfl (lv_at hl 6 rfl) ?_
        refine lv_imul hx hb dX0_apartUpTo_111 ?_
        refine lv_iadd hx hb dX0_apartUpTo_112 ?_
        refine lv_istore (lv' := [(4, .int ((2 * v4) + (((ushr p0 (kdn (n + 1))) &&& 1) * v2))), (3, .int ((2 * v3) + (((ushr p1 (kdn (n + 1))) &&& 1) * v2))), (5, .int ((((3 * v5) + ((2 * ((ushr p0 (kdn (n + 1))) &&& 1)) * v3)) + ((2 * ((ushr p1 (kdn (n + 1))) &&& 1)) * v4)) + ((((ushr p0 (kdn (n + 1))) &&& 1) * ((ushr p1 (kdn (n + 1))) &&& 1)) * v2))), (8, .int ((ushr p1 (kdn (n + 1))) &&& 1)), (7, .int ((ushr p0 (kdn (n + 1))) &&& 1)), (0, .int p0), (1, .int p1), (2, .int v2), (6, .int (kdn (n + 1)))]) hx hb dX0_apartUpTo_113 hl (by decide) rfl (fun ls hl => ?_)
        refine lv_iload hx hb dX0_apartUpTo_115 (lv_at hl 4 rfl) ?_
        refine lv_iload hx hb dX0_apartUpTo_117 (lv_at hl 3 rfl) ?_
        refine lv_imul hx hb dX0_apartUpTo_119 ?_
        refine lv_iconst (v := 1) hx hb dX0_apartUpTo_120 (by decide) ?_
        refine lv_icmp_ne (tgt := 128) hx hb dX0_apartUpTo_121 (by decide) (fun c_4 => ?_) (fun c_4 => ?_)
        · refine lv_iload_n hx hb dX0_apartUpTo_128 rfl (lv_at hl 7 rfl) ?_
          refine lv_istore_n (lv' := [(2, .int v2), (4, .int ((2 * v4) + (((ushr p0 (kdn (n + 1))) &&& 1) * v2))), (3, .int ((2 * v3) + (((ushr p1 (kdn (n + 1))) &&& 1) * v2))), (5, .int ((((3 * v5) + ((2 * ((ushr p0 (kdn (n + 1))) &&& 1)) * v3)) + ((2 * ((ushr p1 (kdn (n + 1))) &&& 1)) * v4)) + ((((ushr p0 (kdn (n + 1))) &&& 1) * ((ushr p1 (kdn (n + 1))) &&& 1)) * v2))), (8, .int ((ushr p1 (kdn (n + 1))) &&& 1)), (7, .int ((ushr p0 (kdn (n + 1))) &&& 1)), (0, .int p0), (1, .int p1), (6, .int (kdn (n + 1)))]) hx hb dX0_apartUpTo_129 rfl hl (by decide) rfl (fun ls hl => ?_)
          refine lv_iinc (v := (kdn n)) (lv' := [(6, .int (kdn n)), (2, .int v2), (4, .int ((2 * v4) + (((ushr p0 (kdn (n + 1))) &&& 1) * v2))), (3, .int ((2 * v3) + (((ushr p1 (kdn (n + 1))) &&& 1) * v2))), (5, .int ((((3 * v5) + ((2 * ((ushr p0 (kdn (n + 1))) &&& 1)) * v3)) + ((2 * ((ushr p1 (kdn (n + 1))) &&& 1)) * v4)) + ((((ushr p0 (kdn (n + 1))) &&& 1) * ((ushr p1 (kdn (n + 1))) &&& 1)) * v2))), (8, .int ((ushr p1 (kdn (n + 1))) &&& 1)), (7, .int ((ushr p0 (kdn (n + 1))) &&& 1)), (0, .int p0), (1, .int p1)]) hx hb dX0_apartUpTo_130 hl (k := 8) rfl (kdn_s n hn) (by decide) rfl (fun ls hl => ?_)
          refine lv_goto (tgt := 24) hx hb dX0_apartUpTo_133 (by decide) ?_
          exact ih (Nat.le_of_succ_le hn) v2 ((2 * v3) + (((ushr p1 (kdn (n + 1))) &&& 1) * v2)) ((2 * v4) + (((ushr p0 (kdn (n + 1))) &&& 1) * v2)) ((((3 * v5) + ((2 * ((ushr p0 (kdn (n + 1))) &&& 1)) * v3)) + ((2 * ((ushr p1 (kdn (n + 1))) &&& 1)) * v4)) + ((((ushr p0 (kdn (n + 1))) &&& 1) * ((ushr p1 (kdn (n + 1))) &&& 1)) * v2)) ls (Eq.trans (Eq.symm (by rw [gX0_apartUpTo, if_neg c_2, if_neg c_3, if_neg c_4])) hV) (lv_sub hl [7, 8, 1, 3, 2, 4, 0] rfl)
        · refine lv_iconst (v := 0) hx hb dX0_apartUpTo_124 (by decide) ?_
          refine lv_goto (tgt := 129) hx hb dX0_apartUpTo_125 (by decide) ?_
          refine lv_istore_n (lv' := [(2, .int 0), (4, .int ((2 * v4) + (((ushr p0 (kdn (n + 1))) &&& 1) * v2))), (3, .int ((2 * v3) + (((ushr p1 (kdn (n + 1))) &&& 1) * v2))), (5, .int ((((3 * v5) + ((2 * ((ushr p0 (kdn (n + 1))) &&& 1)) * v3)) + ((2 * ((ushr p1 (kdn (n + 1))) &&& 1)) * v4)) + ((((ushr p0 (kdn (n + 1))) &&& 1) * ((ushr p1 (kdn (n + 1))) &&& 1)) * v2))), (8, .int ((ushr p1 (kdn (n + 1))) &&& 1)), (7, .int ((ushr p0 (kdn (n + 1))) &&& 1)), (0, .int p0), (1, .int p1), (6, .int (kdn (n + 1)))]) hx hb dX0_apartUpTo_129 rfl hl (by decide) rfl (fun ls hl => ?_)
          refine lv_iinc (v := (kdn n)) (lv' := [(6, .int (kdn n)), (2, .int 0), (4, .int ((2 * v4) + (((ushr p0 (kdn (n + 1))) &&& 1) * v2))), (3, .int ((2 * v3) + (((ushr p1 (kdn (n + 1))) &&& 1) * v2))), (5, .int ((((3 * v5) + ((2 * ((ushr p0 (kdn (n + 1))) &&& 1)) * v3)) + ((2 * ((ushr p1 (kdn (n + 1))) &&& 1)) * v4)) + ((((ushr p0 (kdn (n + 1))) &&& 1) * ((ushr p1 (kdn (n + 1))) &&& 1)) * v2))), (8, .int ((ushr p1 (kdn (n + 1))) &&& 1)), (7, .int ((ushr p0 (kdn (n + 1))) &&& 1)), (0, .int p0), (1, .int p1)]) hx hb dX0_apartUpTo_130 hl (k := 8) rfl (kdn_s n hn) (by decide) rfl (fun ls hl => ?_)
          refine lv_goto (tgt := 24) hx hb dX0_apartUpTo_133 (by decide) ?_
          exact ih (Nat.le_of_succ_le hn) 0 ((2 * v3) + (((ushr p1 (kdn (n + 1))) &&& 1) * v2)) ((2 * v4) + (((ushr p0 (kdn (n + 1))) &&& 1) * v2)) ((((3 * v5) + ((2 * ((ushr p0 (kdn (n + 1))) &&& 1)) * v3)) + ((2 * ((ushr p1 (kdn (n + 1))) &&& 1)) * v4)) + ((((ushr p0 (kdn (n + 1))) &&& 1) * ((ushr p1 (kdn (n + 1))) &&& 1)) * v2)) ls (Eq.trans (Eq.symm (by rw [gX0_apartUpTo, if_neg c_2, if_neg c_3, if_pos c_4])) hV) (lv_sub hl [7, 8, 1, 3, 2, 4, 0] rfl)
      · refine lv_iload hx hb dX0_apartUpTo_99 (lv_at hl 7 rfl) ?_
        refine lv_goto (tgt := 108) hx hb dX0_apartUpTo_101 (by decide) ?_
        refine lv_iload hx hb dX0_apartUpTo_108 (lv_at hl 3 rfl) ?_
        refine lv_iload_n hx hb dX0_apartUpTo_110 rfl (lv_at hl 6 rfl) ?_
        refine lv_imul hx hb dX0_apartUpTo_111 ?_
        refine lv_iadd hx hb dX0_apartUpTo_112 ?_
        refine lv_istore (lv' := [(4, .int (v4 + (((ushr p0 (kdn (n + 1))) &&& 1) * v2))), (3, .int ((2 * v3) + (((ushr p1 (kdn (n + 1))) &&& 1) * v2))), (5, .int ((((3 * v5) + ((2 * ((ushr p0 (kdn (n + 1))) &&& 1)) * v3)) + ((2 * ((ushr p1 (kdn (n + 1))) &&& 1)) * v4)) + ((((ushr p0 (kdn (n + 1))) &&& 1) * ((ushr p1 (kdn (n + 1))) &&& 1)) * v2))), (8, .int ((ushr p1 (kdn (n + 1))) &&& 1)), (7, .int ((ushr p0 (kdn (n + 1))) &&& 1)), (0, .int p0), (1, .int p1), (2, .int v2), (6, .int (kdn (n + 1)))]) hx hb dX0_apartUpTo_113 hl (by decide) rfl (fun ls hl => ?_)
        refine lv_iload hx hb dX0_apartUpTo_115 (lv_at hl 4 rfl) ?_
        refine lv_iload hx hb dX0_apartUpTo_117 (lv_at hl 3 rfl) ?_
        refine lv_imul hx hb dX0_apartUpTo_119 ?_
        refine lv_iconst (v := 1) hx hb dX0_apartUpTo_120 (by decide) ?_
        refine lv_icmp_ne (tgt := 128) hx hb dX0_apartUpTo_121 (by decide) (fun c_5 => ?_) (fun c_5 => ?_)
        · refine lv_iload_n hx hb dX0_apartUpTo_128 rfl (lv_at hl 7 rfl) ?_
          refine lv_istore_n (lv' := [(2, .int v2), (4, .int (v4 + (((ushr p0 (kdn (n + 1))) &&& 1) * v2))), (3, .int ((2 * v3) + (((ushr p1 (kdn (n + 1))) &&& 1) * v2))), (5, .int ((((3 * v5) + ((2 * ((ushr p0 (kdn (n + 1))) &&& 1)) * v3)) + ((2 * ((ushr p1 (kdn (n + 1))) &&& 1)) * v4)) + ((((ushr p0 (kdn (n + 1))) &&& 1) * ((ushr p1 (kdn (n + 1))) &&& 1)) * v2))), (8, .int ((ushr p1 (kdn (n + 1))) &&& 1)), (7, .int ((ushr p0 (kdn (n + 1))) &&& 1)), (0, .int p0), (1, .int p1), (6, .int (kdn (n + 1)))]) hx hb dX0_apartUpTo_129 rfl hl (by decide) rfl (fun ls hl => ?_)
          refine lv_iinc (v := (kdn n)) (lv' := [(6, .int (kdn n)), (2, .int v2), (4, .int (v4 + (((ushr p0 (kdn (n + 1))) &&& 1) * v2))), (3, .int ((2 * v3) + (((ushr p1 (kdn (n + 1))) &&& 1) * v2))), (5, .int ((((3 * v5) + ((2 * ((ushr p0 (kdn (n + 1))) &&& 1)) * v3)) + ((2 * ((ushr p1 (kdn (n + 1))) &&& 1)) * v4)) + ((((ushr p0 (kdn (n + 1))) &&& 1) * ((ushr p1 (kdn (n + 1))) &&& 1)) * v2))), (8, .int ((ushr p1 (kdn (n + 1))) &&& 1)), (7, .int ((ushr p0 (kdn (n + 1))) &&& 1)), (0, .int p0), (1, .int p1)]) hx hb dX0_apartUpTo_130 hl (k := 8) rfl (kdn_s n hn) (by decide) rfl (fun ls hl => ?_)
          refine lv_goto (tgt := 24) hx hb dX0_apartUpTo_133 (by decide) ?_
          exact ih (Nat.le_of_succ_le hn) v2 ((2 * v3) + (((ushr p1 (kdn (n + 1))) &&& 1) * v2)) (v4 + (((ushr p0 (kdn (n + 1))) &&& 1) * v2)) ((((3 * v5) + ((2 * ((ushr p0 (kdn (n + 1))) &&& 1)) * v3)) + ((2 * ((ushr p1 (kdn (n + 1))) &&& 1)) * v4)) + ((((ushr p0 (kdn (n + 1))) &&& 1) * ((ushr p1 (kdn (n + 1))) &&& 1)) * v2)) ls (Eq.trans (Eq.symm (by rw [gX0_apartUpTo, if_neg c_2, if_pos c_3, if_neg c_5])) hV) (lv_sub hl [7, 8, 1, 3, 2, 4, 0] rfl)
        · refine lv_iconst (v := 0) hx hb dX0_apartUpTo_124 (by decide) ?_
          refine lv_goto (tgt := 129) hx hb dX0_apartUpTo_125 (by decide) ?_
          refine lv_istore_n (lv' := [(2, .int 0), (4, .int (v4 + (((ushr p0 (kdn (n + 1))) &&& 1) * v2))), (3, .int ((2 * v3) + (((ushr p1 (kdn (n + 1))) &&& 1) * v2))), (5, .int ((((3 * v5) + ((2 * ((ushr p0 (kdn (n + 1))) &&& 1)) * v3)) + ((2 * ((ushr p1 (kdn (n + 1))) &&& 1)) * v4)) + ((((ushr p0 (kdn (n + 1))) &&& 1) * ((ushr p1 (kdn (n + 1))) &&& 1)) * v2))), (8, .int ((ushr p1 (kdn (n + 1))) &&& 1)), (7, .int ((ushr p0 (kdn (n + 1))) &&& 1)), (0, .int p0), (1, .int p1), (6, .int (kdn (n + 1)))]) hx hb dX0_apartUpTo_129 rfl hl (by decide) rfl (fun ls hl => ?_)
          refine lv_iinc (v := (kdn n)) (lv' := [(6, .int (kdn n)), (2, .int 0), (4, .int (v4 + (((ushr p0 (kdn (n + 1))) &&& 1) * v2))), (3, .int ((2 * v3) + (((ushr p1 (kdn (n + 1))) &&& 1) * v2))), (5, .int ((((3 * v5) + ((2 * ((ushr p0 (kdn (n + 1))) &&& 1)) * v3)) + ((2 * ((ushr p1 (kdn (n + 1))) &&& 1)) * v4)) + ((((ushr p0 (kdn (n + 1))) &&& 1) * ((ushr p1 (kdn (n + 1))) &&& 1)) * v2))), (8, .int ((ushr p1 (kdn (n + 1))) &&& 1)), (7, .int ((ushr p0 (kdn (n + 1))) &&& 1)), (0, .int p0), (1, .int p1)]) hx hb dX0_apartUpTo_130 hl (k := 8) rfl (kdn_s n hn) (by decide) rfl (fun ls hl => ?_)
          refine lv_goto (tgt := 24) hx hb dX0_apartUpTo_133 (by decide) ?_
          exact ih (Nat.le_of_succ_le hn) 0 ((2 * v3) + (((ushr p1 (kdn (n + 1))) &&& 1) * v2)) (v4 + (((ushr p0 (kdn (n + 1))) &&& 1) * v2)) ((((3 * v5) + ((2 * ((ushr p0 (kdn (n + 1))) &&& 1)) * v3)) + ((2 * ((ushr p1 (kdn (n + 1))) &&& 1)) * v4)) + ((((ushr p0 (kdn (n + 1))) &&& 1) * ((ushr p1 (kdn (n + 1))) &&& 1)) * v2)) ls (Eq.trans (Eq.symm (by rw [gX0_apartUpTo, if_neg c_2, if_pos c_3, if_pos c_5])) hV) (lv_sub hl [7, 8, 1, 3, 2, 4, 0] rfl)
    · refine lv_iload_n hx hb dX0_apartUpTo_80 rfl (lv_at hl 6 rfl) ?_
      refine lv_goto (tgt := 87) hx hb dX0_apartUpTo_81 (by decide) ?_
      refine lv_iload hx hb dX0_apartUpTo_87 (lv_at hl 1 rfl) ?_
      refine lv_iload_n hx hb dX0_apartUpTo_89 rfl (lv_at hl 5 rfl) ?_
      refine lv_imul hx hb dX0_apartUpTo_90 ?_
      refine lv_iadd hx hb dX0_apartUpTo_91 ?_
      refine lv_istore_n (lv' := [(3, .int (v3 + (((ushr p1 (kdn (n + 1))) &&& 1) * v2))), (5, .int ((((3 * v5) + ((2 * ((ushr p0 (kdn (n + 1))) &&& 1)) * v3)) + ((2 * ((ushr p1 (kdn (n + 1))) &&& 1)) * v4)) + ((((ushr p0 (kdn (n + 1))) &&& 1) * ((ushr p1 (kdn (n + 1))) &&& 1)) * v2))), (8, .int ((ushr p1 (kdn (n + 1))) &&& 1)), (7, .int ((ushr p0 (kdn (n + 1))) &&& 1)), (0, .int p0), (1, .int p1), (2, .int v2), (4, .int v4), (6, .int (kdn (n + 1)))]) hx hb dX0_apartUpTo_92 rfl hl (by decide) rfl (fun ls hl => ?_)
      refine lv_iload hx hb dX0_apartUpTo_93 (lv_at hl 2 rfl) ?_
      refine lv_iconst (v := 1) hx hb dX0_apartUpTo_95 (by decide) ?_
      refine lv_icmp_ne (tgt := 104) hx hb dX0_apartUpTo_96 (by decide) (fun c_6 => ?_) (fun c_6 => ?_)
      · refine lv_iconst (v := 2) hx hb dX0_apartUpTo_104 (by decide) ?_
        refine lv_iload hx hb dX0_apartUpTo_105 (lv_at hl 7 rfl) ?_
        refine lv_imul hx hb dX0_apartUpTo_107 ?_
        refine lv_iload hx hb dX0_apartUpTo_108 (lv_at hl 3 rfl) ?_
        refine lv_iload_n hx hb dX0_apartUpTo_110 rfl (lv_at hl 6 rfl) ?_
        refine lv_imul hx hb dX0_apartUpTo_111 ?_
        refine lv_iadd hx hb dX0_apartUpTo_112 ?_
        refine lv_istore (lv' := [(4, .int ((2 * v4) + (((ushr p0 (kdn (n + 1))) &&& 1) * v2))), (3, .int (v3 + (((ushr p1 (kdn (n + 1))) &&& 1) * v2))), (5, .int ((((3 * v5) + ((2 * ((ushr p0 (kdn (n + 1))) &&& 1)) * v3)) + ((2 * ((ushr p1 (kdn (n + 1))) &&& 1)) * v4)) + ((((ushr p0 (kdn (n + 1))) &&& 1) * ((ushr p1 (kdn (n + 1))) &&& 1)) * v2))), (8, .int ((ushr p1 (kdn (n + 1))) &&& 1)), (7, .int ((ushr p0 (kdn (n + 1))) &&& 1)), (0, .int p0), (1, .int p1), (2, .int v2), (6, .int (kdn (n + 1)))]) hx hb dX0_apartUpTo_113 hl (by decide) rfl (fun ls hl => ?_)
        refine lv_iload hx hb dX0_apartUpTo_115 (lv_at hl 4 rfl) ?_
        refine lv_iload hx hb dX0_apartUpTo_117 (lv_at hl 3 rfl) ?_
        refine lv_imul hx hb dX0_apartUpTo_119 ?_
        refine lv_iconst (v := 1) hx hb dX0_apartUpTo_120 (by decide) ?_
        refine lv_icmp_ne (tgt := 128) hx hb dX0_apartUpTo_121 (by decide) (fun c_7 => ?_) (fun c_7 => ?_)
        · refine lv_iload_n hx hb dX0_apartUpTo_128 rfl (lv_at hl 7 rfl) ?_
          refine lv_istore_n (lv' := [(2, .int v2), (4, .int ((2 * v4) + (((ushr p0 (kdn (n + 1))) &&& 1) * v2))), (3, .int (v3 + (((ushr p1 (kdn (n + 1))) &&& 1) * v2))), (5, .int ((((3 * v5) + ((2 * ((ushr p0 (kdn (n + 1))) &&& 1)) * v3)) + ((2 * ((ushr p1 (kdn (n + 1))) &&& 1)) * v4)) + ((((ushr p0 (kdn (n + 1))) &&& 1) * ((ushr p1 (kdn (n + 1))) &&& 1)) * v2))), (8, .int ((ushr p1 (kdn (n + 1))) &&& 1)), (7, .int ((ushr p0 (kdn (n + 1))) &&& 1)), (0, .int p0), (1, .int p1), (6, .int (kdn (n + 1)))]) hx hb dX0_apartUpTo_129 rfl hl (by decide) rfl (fun ls hl => ?_)
          refine lv_iinc (v := (kdn n)) (lv' := [(6, .int (kdn n)), (2, .int v2), (4, .int ((2 * v4) + (((ushr p0 (kdn (n + 1))) &&& 1) * v2))), (3, .int (v3 + (((ushr p1 (kdn (n + 1))) &&& 1) * v2))), (5, .int ((((3 * v5) + ((2 * ((ushr p0 (kdn (n + 1))) &&& 1)) * v3)) + ((2 * ((ushr p1 (kdn (n + 1))) &&& 1)) * v4)) + ((((ushr p0 (kdn (n + 1))) &&& 1) * ((ushr p1 (kdn (n + 1))) &&& 1)) * v2))), (8, .int ((ushr p1 (kdn (n + 1))) &&& 1)), (7, .int ((ushr p0 (kdn (n + 1))) &&& 1)), (0, .int p0), (1, .int p1)]) hx hb dX0_apartUpTo_130 hl (k := 8) rfl (kdn_s n hn) (by decide) rfl (fun ls hl => ?_)
          refine lv_goto (tgt := 24) hx hb dX0_apartUpTo_133 (by decide) ?_
          exact ih (Nat.le_of_succ_le hn) v2 (v3 + (((ushr p1 (kdn (n + 1))) &&& 1) * v2)) ((2 * v4) + (((ushr p0 (kdn (n + 1))) &&& 1) * v2)) ((((3 * v5) + ((2 * ((ushr p0 (kdn (n + 1))) &&& 1)) * v3)) + ((2 * ((ushr p1 (kdn (n + 1))) &&& 1)) * v4)) + ((((ushr p0 (kdn (n + 1))) &&& 1) * ((ushr p1 (kdn (n + 1))) &&& 1)) * v2)) ls (Eq.trans (Eq.symm (by rw [gX0_apartUpTo, if_pos c_2, if_neg c_6, if_neg c_7])) hV) (lv_sub hl [7, 8, 1, 3, 2, 4, 0] rfl)
        · refine lv_iconst (v := 0) hx hb dX0_apartUpTo_124 (by decide) ?_
          refine lv_goto (tgt := 129) hx hb dX0_apartUpTo_125 (by decide) ?_
          refine lv_istore_n (lv' := [(2, .int 0), (4, .int ((2 * v4) + (((ushr p0 (kdn (n + 1))) &&& 1) * v2))), (3, .int (v3 + (((ushr p1 (kdn (n + 1))) &&& 1) * v2))), (5, .int ((((3 * v5) + ((2 * ((ushr p0 (kdn (n + 1))) &&& 1)) * v3)) + ((2 * ((ushr p1 (kdn (n + 1))) &&& 1)) * v4)) + ((((ushr p0 (kdn (n + 1))) &&& 1) * ((ushr p1 (kdn (n + 1))) &&& 1)) * v2))), (8, .int ((ushr p1 (kdn (n + 1))) &&& 1)), (7, .int ((ushr p0 (kdn (n + 1))) &&& 1)), (0, .int p0), (1, .int p1), (6, .int (kdn (n + 1)))]) hx hb dX0_apartUpTo_129 rfl hl (by decide) rfl (fun ls hl => ?_)
          refine lv_iinc (v := (kdn n)) (lv' := [(6, .int (kdn n)), (2, .int 0), (4, .int ((2 * v4) + (((ushr p0 (kdn (n + 1))) &&& 1) * v2))), (3, .int (v3 + (((ushr p1 (kdn (n + 1))) &&& 1) * v2))), (5, .int ((((3 * v5) + ((2 * ((ushr p0 (kdn (n + 1))) &&& 1)) * v3)) + ((2 * ((ushr p1 (kdn (n + 1))) &&& 1)) * v4)) + ((((ushr p0 (kdn (n + 1))) &&& 1) * ((ushr p1 (kdn (n + 1))) &&& 1)) * v2))), (8, .int ((ushr p1 (kdn (n + 1))) &&& 1)), (7, .int ((ushr p0 (kdn (n + 1))) &&& 1)), (0, .int p0), (1, .int p1)]) hx hb dX0_apartUpTo_130 hl (k := 8) rfl (kdn_s n hn) (by decide) rfl (fun ls hl => ?_)
          refine lv_goto (tgt := 24) hx hb dX0_apartUpTo_133 (by decide) ?_
          exact ih (Nat.le_of_succ_le hn) 0 (v3 + (((ushr p1 (kdn (n + 1))) &&& 1) * v2)) ((2 * v4) + (((ushr p0 (kdn (n + 1))) &&& 1) * v2)) ((((3 * v5) + ((2 * ((ushr p0 (kdn (n + 1))) &&& 1)) * v3)) + ((2 * ((ushr p1 (kdn (n + 1))) &&& 1)) * v4)) + ((((ushr p0 (kdn (n + 1))) &&& 1) * ((ushr p1 (kdn (n + 1))) &&& 1)) * v2)) ls (Eq.trans (Eq.symm (by rw [gX0_apartUpTo, if_pos c_2, if_neg c_6, if_pos c_7])) hV) (lv_sub hl [7, 8, 1, 3, 2, 4, 0] rfl)
      · refine lv_iload hx hb dX0_apartUpTo_99 (lv_at hl 7 rfl) ?_
        refine lv_goto (tgt := 108) hx hb dX0_apartUpTo_101 (by decide) ?_
        refine lv_iload hx hb dX0_apartUpTo_108 (lv_at hl 3 rfl) ?_
        refine lv_iload_n hx hb dX0_apartUpTo_110 rfl (lv_at hl 6 rfl) ?_
        refine lv_imul hx hb dX0_apartUpTo_111 ?_
        refine lv_iadd hx hb dX0_apartUpTo_112 ?_
        refine lv_istore (lv' := [(4, .int (v4 + (((ushr p0 (kdn (n + 1))) &&& 1) * v2))), (3, .int (v3 + (((ushr p1 (kdn (n + 1))) &&& 1) * v2))), (5, .int ((((3 * v5) + ((2 * ((ushr p0 (kdn (n + 1))) &&& 1)) * v3)) + ((2 * ((ushr p1 (kdn (n + 1))) &&& 1)) * v4)) + ((((ushr p0 (kdn (n + 1))) &&& 1) * ((ushr p1 (kdn (n + 1))) &&& 1)) * v2))), (8, .int ((ushr p1 (kdn (n + 1))) &&& 1)), (7, .int ((ushr p0 (kdn (n + 1))) &&& 1)), (0, .int p0), (1, .int p1), (2, .int v2), (6, .int (kdn (n + 1)))]) hx hb dX0_apartUpTo_113 hl (by decide) rfl (fun ls hl => ?_)
        refine lv_iload hx hb dX0_apartUpTo_115 (lv_at hl 4 rfl) ?_
        refine lv_iload hx hb dX0_apartUpTo_117 (lv_at hl 3 rfl) ?_
        refine lv_imul hx hb dX0_apartUpTo_119 ?_
        refine lv_iconst (v := 1) hx hb dX0_apartUpTo_120 (by decide) ?_
        refine lv_icmp_ne (tgt := 128) hx hb dX0_apartUpTo_121 (by decide) (fun c_8 => ?_) (fun c_8 => ?_)
        · refine lv_iload_n hx hb dX0_apartUpTo_128 rfl (lv_at hl 7 rfl) ?_
          refine lv_istore_n (lv' := [(2, .int v2), (4, .int (v4 + (((ushr p0 (kdn (n + 1))) &&& 1) * v2))), (3, .int (v3 + (((ushr p1 (kdn (n + 1))) &&& 1) * v2))), (5, .int ((((3 * v5) + ((2 * ((ushr p0 (kdn (n + 1))) &&& 1)) * v3)) + ((2 * ((ushr p1 (kdn (n + 1))) &&& 1)) * v4)) + ((((ushr p0 (kdn (n + 1))) &&& 1) * ((ushr p1 (kdn (n + 1))) &&& 1)) * v2))), (8, .int ((ushr p1 (kdn (n + 1))) &&& 1)), (7, .int ((ushr p0 (kdn (n + 1))) &&& 1)), (0, .int p0), (1, .int p1), (6, .int (kdn (n + 1)))]) hx hb dX0_apartUpTo_129 rfl hl (by decide) rfl (fun ls hl => ?_)
          refine lv_iinc (v := (kdn n)) (lv' := [(6, .int (kdn n)), (2, .int v2), (4, .int (v4 + (((ushr p0 (kdn (n + 1))) &&& 1) * v2))), (3, .int (v3 + (((ushr p1 (kdn (n + 1))) &&& 1) * v2))), (5, .int ((((3 * v5) + ((2 * ((ushr p0 (kdn (n + 1))) &&& 1)) * v3)) + ((2 * ((ushr p1 (kdn (n + 1))) &&& 1)) * v4)) + ((((ushr p0 (kdn (n + 1))) &&& 1) * ((ushr p1 (kdn (n + 1))) &&& 1)) * v2))), (8, .int ((ushr p1 (kdn (n + 1))) &&& 1)), (7, .int ((ushr p0 (kdn (n + 1))) &&& 1)), (0, .int p0), (1, .int p1)]) hx hb dX0_apartUpTo_130 hl (k := 8) rfl (kdn_s n hn) (by decide) rfl (fun ls hl => ?_)
          refine lv_goto (tgt := 24) hx hb dX0_apartUpTo_133 (by decide) ?_
          exact ih (Nat.le_of_succ_le hn) v2 (v3 + (((ushr p1 (kdn (n + 1))) &&& 1) * v2)) (v4 + (((ushr p0 (kdn (n + 1))) &&& 1) * v2)) ((((3 * v5) + ((2 * ((ushr p0 (kdn (n + 1))) &&& 1)) * v3)) + ((2 * ((ushr p1 (kdn (n + 1))) &&& 1)) * v4)) + ((((ushr p0 (kdn (n + 1))) &&& 1) * ((ushr p1 (kdn (n + 1))) &&& 1)) * v2)) ls (Eq.trans (Eq.symm (by rw [gX0_apartUpTo, if_pos c_2, if_pos c_6, if_neg c_8])) hV) (lv_sub hl [7, 8, 1, 3, 2, 4, 0] rfl)
        · refine lv_iconst (v := 0) hx hb dX0_apartUpTo_124 (by decide) ?_
          refine lv_goto (tgt := 129) hx hb dX0_apartUpTo_125 (by decide) ?_
          refine lv_istore_n (lv' := [(2, .int 0), (4, .int (v4 + (((ushr p0 (kdn (n + 1))) &&& 1) * v2))), (3, .int (v3 + (((ushr p1 (kdn (n + 1))) &&& 1) * v2))), (5, .int ((((3 * v5) + ((2 * ((ushr p0 (kdn (n + 1))) &&& 1)) * v3)) + ((2 * ((ushr p1 (kdn (n + 1))) &&& 1)) * v4)) + ((((ushr p0 (kdn (n + 1))) &&& 1) * ((ushr p1 (kdn (n + 1))) &&& 1)) * v2))), (8, .int ((ushr p1 (kdn (n + 1))) &&& 1)), (7, .int ((ushr p0 (kdn (n + 1))) &&& 1)), (0, .int p0), (1, .int p1), (6, .int (kdn (n + 1)))]) hx hb dX0_apartUpTo_129 rfl hl (by decide) rfl (fun ls hl => ?_)
          refine lv_iinc (v := (kdn n)) (lv' := [(6, .int (kdn n)), (2, .int 0), (4, .int (v4 + (((ushr p0 (kdn (n + 1))) &&& 1) * v2))), (3, .int (v3 + (((ushr p1 (kdn (n + 1))) &&& 1) * v2))), (5, .int ((((3 * v5) + ((2 * ((ushr p0 (kdn (n + 1))) &&& 1)) * v3)) + ((2 * ((ushr p1 (kdn (n + 1))) &&& 1)) * v4)) + ((((ushr p0 (kdn (n + 1))) &&& 1) * ((ushr p1 (kdn (n + 1))) &&& 1)) * v2))), (8, .int ((ushr p1 (kdn (n + 1))) &&& 1)), (7, .int ((ushr p0 (kdn (n + 1))) &&& 1)), (0, .int p0), (1, .int p1)]) hx hb dX0_apartUpTo_130 hl (k := 8) rfl (kdn_s n hn) (by decide) rfl (fun ls hl => ?_)
          refine lv_goto (tgt := 24) hx hb dX0_apartUpTo_133 (by decide) ?_
          exact ih (Nat.le_of_succ_le hn) 0 (v3 + (((ushr p1 (kdn (n + 1))) &&& 1) * v2)) (v4 + (((ushr p0 (kdn (n + 1))) &&& 1) * v2)) ((((3 * v5) + ((2 * ((ushr p0 (kdn (n + 1))) &&& 1)) * v3)) + ((2 * ((ushr p1 (kdn (n + 1))) &&& 1)) * v4)) + ((((ushr p0 (kdn (n + 1))) &&& 1) * ((ushr p1 (kdn (n + 1))) &&& 1)) * v2)) ls (Eq.trans (Eq.symm (by rw [gX0_apartUpTo, if_pos c_2, if_pos c_6, if_pos c_8])) hV) (lv_sub hl [7, 8, 1, 3, 2, 4, 0] rfl)
set_option maxHeartbeats 4000000 in
set_option maxRecDepth 100000 in
theorem meX0_apartUpTo (l : Launch) (p0 p1 : Int32) : PureI l yX0_apartUpTo (ws_ yX0_apartUpTo cX0_apartUpTo 9 (some .int)) ({ frames := 0, cells := 0, slots := 0, locals := 0 } : Room) [.int p0, .int p1] (fX0_apartUpTo p0 p1) := by
  intro H0
  refine Met.ofW (cc := cX0_apartUpTo) (maxL := 9) (ret := (some .int)) (by decide) rfl ?_
  intro p e s m args below meth c s₁ B hml hv
  obtain ⟨rfl, rfl⟩ := hv
  have hx := B.exec
  have hb := B.bytes
  have hr := B.returns
  have hts := atoms_spec (ws := (ws_ yX0_apartUpTo cX0_apartUpTo 9 (some .int))) B.pre
  have hts : ∀ w ∈ lw_all, w.before _ s = true := fun w h => hts w (List.mem_cons_of_mem _ h)
  have hown : s.vm.findClass RX0 = some m.cls := findClass_of_methodNamed B.named
  have hlocks := B.notSynchronized
  have hl := lv_entry ([.int p0, .int p1]) (n := 9) (Nat.le_of_ble_eq_true rfl)
  rw [lg_entry_eq]
  generalize (lg_sl ([.int p0, .int p1]) ++ List.replicate (9 - (lg_sl ([.int p0, .int p1])).length) Slot.unset).toArray = ls at hl ⊢
  have hl : lv_has ls 9 [(0, .int p0), (1, .int p1)] := hl
  generalize hV : fX0_apartUpTo p0 p1 = V
  refine lv_iload_n hx hb dX0_apartUpTo_0 rfl (lv_at hl 0 rfl) ?_
  refine lv_if_lt (tgt := 8) hx hb dX0_apartUpTo_1 (by decide) (fun c_1 => ?_) (fun c_1 => ?_)
  · refine lv_iconst (v := 0) hx hb dX0_apartUpTo_8 (by decide) ?_
    exact pu_iret hx hb hr hlocks (Eq.trans (Eq.symm (by rw [fX0_apartUpTo, if_pos c_1])) hV) dX0_apartUpTo_9
  · refine lv_iload_n hx hb dX0_apartUpTo_4 rfl (lv_at hl 1 rfl) ?_
    refine lv_if_ge (tgt := 10) hx hb dX0_apartUpTo_5 (by decide) (fun c_2 => ?_) (fun c_2 => ?_)
    · refine lv_iconst (v := 1) hx hb dX0_apartUpTo_10 (by decide) ?_
      refine lv_istore_n (lv' := [(2, .int 1), (0, .int p0), (1, .int p1)]) hx hb dX0_apartUpTo_11 rfl hl (by decide) rfl (fun ls hl => ?_)
      refine lv_iconst (v := 0) hx hb dX0_apartUpTo_12 (by decide) ?_
      refine lv_istore_n (lv' := [(3, .int 0), (2, .int 1), (0, .int p0), (1, .int p1)]) hx hb dX0_apartUpTo_13 rfl hl (by decide) rfl (fun ls hl => ?_)
      refine lv_iconst (v := 0) hx hb dX0_apartUpTo_14 (by decide) ?_
      refine lv_istore (lv' := [(4, .int 0), (3, .int 0), (2, .int 1), (0, .int p0), (1, .int p1)]) hx hb dX0_apartUpTo_15 hl (by decide) rfl (fun ls hl => ?_)
      refine lv_iconst (v := 0) hx hb dX0_apartUpTo_17 (by decide) ?_
      refine lv_istore (lv' := [(5, .int 0), (4, .int 0), (3, .int 0), (2, .int 1), (0, .int p0), (1, .int p1)]) hx hb dX0_apartUpTo_18 hl (by decide) rfl (fun ls hl => ?_)
      refine lv_bipush (v := 6) hx hb dX0_apartUpTo_20 (by decide) ?_
      refine lv_istore (lv' := [(6, .int 6), (5, .int 0), (4, .int 0), (3, .int 0), (2, .int 1), (0, .int p0), (1, .int p1)]) hx hb dX0_apartUpTo_22 hl (by decide) rfl (fun ls hl => ?_)
      exact lpX0_apartUpTo hx hb hr hlocks hml hown hts V p0 p1 7 (Nat.le_refl _) 1 0 0 0 ls (Eq.trans (Eq.symm (by rw [fX0_apartUpTo, if_neg c_1, if_pos c_2])) hV) (by rw [show kdn 7 = 6 from by decide]; exact lv_sub hl [5, 6, 4, 3, 2, 1, 0] rfl)
    · refine lv_iconst (v := 0) hx hb dX0_apartUpTo_8 (by decide) ?_
      exact pu_iret hx hb hr hlocks (Eq.trans (Eq.symm (by rw [fX0_apartUpTo, if_neg c_1, if_neg c_2])) hV) dX0_apartUpTo_9
end
section
set_option maxHeartbeats 4000000 in
set_option maxRecDepth 100000 in
theorem meX1_bad (l : Launch) (p0 : Int32) : PureI l yX1_bad (ws_ yX1_bad cX1_bad 1 (some .boolean)) ({ frames := 0, cells := 0, slots := 0, locals := 0 } : Room) [.int p0] (fX1_bad p0) := by
  intro H0
  refine Met.ofW (cc := cX1_bad) (maxL := 1) (ret := (some .boolean)) (by decide) rfl ?_
  intro p e s m args below meth c s₁ B hml hv
  obtain ⟨rfl, rfl⟩ := hv
  have hx := B.exec
  have hb := B.bytes
  have hr := B.returns
  have hts := atoms_spec (ws := (ws_ yX1_bad cX1_bad 1 (some .boolean))) B.pre
  have hts : ∀ w ∈ lw_all, w.before _ s = true := fun w h => hts w (List.mem_cons_of_mem _ h)
  have hown : s.vm.findClass RX1 = some m.cls := findClass_of_methodNamed B.named
  have hlocks := B.notSynchronized
  have hl := lv_entry ([.int p0]) (n := 1) (Nat.le_of_ble_eq_true rfl)
  rw [lg_entry_eq]
  generalize (lg_sl ([.int p0]) ++ List.replicate (1 - (lg_sl ([.int p0])).length) Slot.unset).toArray = ls at hl ⊢
  have hl : lv_has ls 1 [(0, .int p0)] := hl
  generalize hV : fX1_bad p0 = V
  refine lv_iload_n hx hb dX1_bad_0 rfl (lv_at hl 0 rfl) ?_
  refine lv_if_lt (tgt := 9) hx hb dX1_bad_1 (by decide) (fun c_1 => ?_) (fun c_1 => ?_)
  · refine lv_iconst (v := 1) hx hb dX1_bad_9 (by decide) ?_
    refine lv_goto (tgt := 14) hx hb dX1_bad_10 (by decide) ?_
    exact pu_zret hx hb hr hlocks rfl (Eq.trans (Eq.symm (by rw [fX1_bad, if_pos c_1])) hV) dX1_bad_14
  · refine lv_iload_n hx hb dX1_bad_4 rfl (lv_at hl 0 rfl) ?_
    refine lv_iconst (v := 5) hx hb dX1_bad_5 (by decide) ?_
    refine lv_icmp_le (tgt := 13) hx hb dX1_bad_6 (by decide) (fun c_2 => ?_) (fun c_2 => ?_)
    · refine lv_iconst (v := 0) hx hb dX1_bad_13 (by decide) ?_
      exact pu_zret hx hb hr hlocks rfl (Eq.trans (Eq.symm (by rw [fX1_bad, if_neg c_1, if_pos c_2])) hV) dX1_bad_14
    · refine lv_iconst (v := 1) hx hb dX1_bad_9 (by decide) ?_
      refine lv_goto (tgt := 14) hx hb dX1_bad_10 (by decide) ?_
      exact pu_zret hx hb hr hlocks rfl (Eq.trans (Eq.symm (by rw [fX1_bad, if_neg c_1, if_neg c_2])) hV) dX1_bad_14
set_option maxHeartbeats 4000000 in
set_option maxRecDepth 100000 in
theorem meX1_worked (l : Launch) (p0 p1 p2 : Int32) : PureI l yX1_worked (ws_ yX1_worked cX1_worked 3 (some .int)) ({ frames := 0, cells := 0, slots := 0, locals := 0 } : Room) [.int p0, .int p1, .int p2] (fX1_worked p0 p1 p2) := by
  intro H0
  refine Met.ofW (cc := cX1_worked) (maxL := 3) (ret := (some .int)) (by decide) rfl ?_
  intro p e s m args below meth c s₁ B hml hv
  obtain ⟨rfl, rfl⟩ := hv
  have hx := B.exec
  have hb := B.bytes
  have hr := B.returns
  have hts := atoms_spec (ws := (ws_ yX1_worked cX1_worked 3 (some .int))) B.pre
  have hts : ∀ w ∈ lw_all, w.before _ s = true := fun w h => hts w (List.mem_cons_of_mem _ h)
  have hown : s.vm.findClass RX1 = some m.cls := findClass_of_methodNamed B.named
  have hlocks := B.notSynchronized
  have hl := lv_entry ([.int p0, .int p1, .int p2]) (n := 3) (Nat.le_of_ble_eq_true rfl)
  rw [lg_entry_eq]
  generalize (lg_sl ([.int p0, .int p1, .int p2]) ++ List.replicate (3 - (lg_sl ([.int p0, .int p1, .int p2])).length) Slot.unset).toArray = ls at hl ⊢
  have hl : lv_has ls 3 [(0, .int p0), (1, .int p1), (2, .int p2)] := hl
  generalize hV : fX1_worked p0 p1 p2 = V
  refine lv_iload_n hx hb dX1_worked_0 rfl (lv_at hl 0 rfl) ?_
  refine lv_if_ne (tgt := 12) hx hb dX1_worked_1 (by decide) (fun c_1 => ?_) (fun c_1 => ?_)
  · refine lv_iload_n hx hb dX1_worked_12 rfl (lv_at hl 0 rfl) ?_
    refine lv_iconst (v := 1) hx hb dX1_worked_13 (by decide) ?_
    refine lv_icmp_ne (tgt := 29) hx hb dX1_worked_14 (by decide) (fun c_2 => ?_) (fun c_2 => ?_)
    · refine lv_iload_n hx hb dX1_worked_29 rfl (lv_at hl 0 rfl) ?_
      refine lv_iconst (v := 2) hx hb dX1_worked_30 (by decide) ?_
      refine lv_icmp_ne (tgt := 38) hx hb dX1_worked_31 (by decide) (fun c_3 => ?_) (fun c_3 => ?_)
      · refine lv_iload_n hx hb dX1_worked_38 rfl (lv_at hl 0 rfl) ?_
        refine lv_iconst (v := 3) hx hb dX1_worked_39 (by decide) ?_
        refine lv_icmp_ne (tgt := 47) hx hb dX1_worked_40 (by decide) (fun c_4 => ?_) (fun c_4 => ?_)
        · refine lv_iload_n hx hb dX1_worked_47 rfl (lv_at hl 0 rfl) ?_
          refine lv_iconst (v := 4) hx hb dX1_worked_48 (by decide) ?_
          refine lv_icmp_ne (tgt := 56) hx hb dX1_worked_49 (by decide) (fun c_5 => ?_) (fun c_5 => ?_)
          · refine lv_iload_n hx hb dX1_worked_56 rfl (lv_at hl 0 rfl) ?_
            refine lv_iconst (v := 5) hx hb dX1_worked_57 (by decide) ?_
            refine lv_icmp_ne (tgt := 69) hx hb dX1_worked_58 (by decide) (fun c_6 => ?_) (fun c_6 => ?_)
            · refine lv_iload_n hx hb dX1_worked_69 rfl (lv_at hl 0 rfl) ?_
              refine lv_bipush (v := 6) hx hb dX1_worked_70 (by decide) ?_
              refine lv_icmp_ne (tgt := 88) hx hb dX1_worked_72 (by decide) (fun c_7 => ?_) (fun c_7 => ?_)
              · refine lv_iload_n hx hb dX1_worked_88 rfl (lv_at hl 0 rfl) ?_
                refine lv_bipush (v := 7) hx hb dX1_worked_89 (by decide) ?_
                refine lv_icmp_ne (tgt := 105) hx hb dX1_worked_91 (by decide) (fun c_8 => ?_) (fun c_8 => ?_)
                · refine lv_iload_n hx hb dX1_worked_105 rfl (lv_at hl 1 rfl) ?_
                  refine lv_iload_n hx hb dX1_worked_106 rfl (lv_at hl 2 rfl) ?_
                  refine lv_icmp_le (tgt := 116) hx hb dX1_worked_107 (by decide) (fun c_9 => ?_) (fun c_9 => ?_)
                  · refine lv_iload_n hx hb dX1_worked_116 rfl (lv_at hl 2 rfl) ?_
                    refine lv_iload_n hx hb dX1_worked_117 rfl (lv_at hl 1 rfl) ?_
                    refine lv_isub hx hb dX1_worked_118 ?_
                    exact pu_iret hx hb hr hlocks (Eq.trans (Eq.symm (by rw [fX1_worked, if_neg c_1, if_neg c_2, if_neg c_3, if_neg c_4, if_neg c_5, if_neg c_6, if_neg c_7, if_neg c_8, if_pos c_9])) hV) dX1_worked_119
                  · refine lv_iload_n hx hb dX1_worked_110 rfl (lv_at hl 1 rfl) ?_
                    refine lv_iload_n hx hb dX1_worked_111 rfl (lv_at hl 2 rfl) ?_
                    refine lv_isub hx hb dX1_worked_112 ?_
                    refine lv_goto (tgt := 119) hx hb dX1_worked_113 (by decide) ?_
                    exact pu_iret hx hb hr hlocks (Eq.trans (Eq.symm (by rw [fX1_worked, if_neg c_1, if_neg c_2, if_neg c_3, if_neg c_4, if_neg c_5, if_neg c_6, if_neg c_7, if_neg c_8, if_neg c_9])) hV) dX1_worked_119
                · refine lv_iload_n hx hb dX1_worked_94 rfl (lv_at hl 1 rfl) ?_
                  refine lv_iload_n hx hb dX1_worked_95 rfl (lv_at hl 2 rfl) ?_
                  refine lv_icmp_le (tgt := 103) hx hb dX1_worked_96 (by decide) (fun c_10 => ?_) (fun c_10 => ?_)
                  · refine lv_iload_n hx hb dX1_worked_103 rfl (lv_at hl 2 rfl) ?_
                    exact pu_iret hx hb hr hlocks (Eq.trans (Eq.symm (by rw [fX1_worked, if_neg c_1, if_neg c_2, if_neg c_3, if_neg c_4, if_neg c_5, if_neg c_6, if_neg c_7, if_pos c_8, if_pos c_10])) hV) dX1_worked_104
                  · refine lv_iload_n hx hb dX1_worked_99 rfl (lv_at hl 1 rfl) ?_
                    refine lv_goto (tgt := 104) hx hb dX1_worked_100 (by decide) ?_
                    exact pu_iret hx hb hr hlocks (Eq.trans (Eq.symm (by rw [fX1_worked, if_neg c_1, if_neg c_2, if_neg c_3, if_neg c_4, if_neg c_5, if_neg c_6, if_neg c_7, if_pos c_8, if_neg c_10])) hV) dX1_worked_104
              · refine lv_iload_n hx hb dX1_worked_75 rfl (lv_at hl 2 rfl) ?_
                refine lv_if_ne (tgt := 84) hx hb dX1_worked_76 (by decide) (fun c_11 => ?_) (fun c_11 => ?_)
                · refine lv_iload_n hx hb dX1_worked_84 rfl (lv_at hl 1 rfl) ?_
                  refine lv_iload_n hx hb dX1_worked_85 rfl (lv_at hl 2 rfl) ?_
                  refine lv_idiv hx hb dX1_worked_86 c_11 ?_
                  exact pu_iret hx hb hr hlocks (Eq.trans (Eq.symm (by rw [fX1_worked, if_neg c_1, if_neg c_2, if_neg c_3, if_neg c_4, if_neg c_5, if_neg c_6, if_pos c_7, if_neg c_11])) hV) dX1_worked_87
                · refine lv_bipush (v := 127) hx hb dX1_worked_79 (by decide) ?_
                  refine lv_goto (tgt := 87) hx hb dX1_worked_81 (by decide) ?_
                  exact pu_iret hx hb hr hlocks (Eq.trans (Eq.symm (by rw [fX1_worked, if_neg c_1, if_neg c_2, if_neg c_3, if_neg c_4, if_neg c_5, if_neg c_6, if_pos c_7, if_pos c_11])) hV) dX1_worked_87
            · refine lv_iload_n hx hb dX1_worked_61 rfl (lv_at hl 1 rfl) ?_
              refine lv_iload_n hx hb dX1_worked_62 rfl (lv_at hl 2 rfl) ?_
              refine lv_imul hx hb dX1_worked_63 ?_
              refine lv_sipush (v := 128) hx hb dX1_worked_64 (by decide) ?_
              refine lv_idiv hx hb dX1_worked_67 (by decide) ?_
              exact pu_iret hx hb hr hlocks (Eq.trans (Eq.symm (by rw [fX1_worked, if_neg c_1, if_neg c_2, if_neg c_3, if_neg c_4, if_neg c_5, if_pos c_6])) hV) dX1_worked_68
          · refine lv_iload_n hx hb dX1_worked_52 rfl (lv_at hl 1 rfl) ?_
            refine lv_iload_n hx hb dX1_worked_53 rfl (lv_at hl 2 rfl) ?_
            refine lv_ixor hx hb dX1_worked_54 ?_
            exact pu_iret hx hb hr hlocks (Eq.trans (Eq.symm (by rw [fX1_worked, if_neg c_1, if_neg c_2, if_neg c_3, if_neg c_4, if_pos c_5])) hV) dX1_worked_55
        · refine lv_iload_n hx hb dX1_worked_43 rfl (lv_at hl 1 rfl) ?_
          refine lv_iload_n hx hb dX1_worked_44 rfl (lv_at hl 2 rfl) ?_
          refine lv_ior hx hb dX1_worked_45 ?_
          exact pu_iret hx hb hr hlocks (Eq.trans (Eq.symm (by rw [fX1_worked, if_neg c_1, if_neg c_2, if_neg c_3, if_pos c_4])) hV) dX1_worked_46
      · refine lv_iload_n hx hb dX1_worked_34 rfl (lv_at hl 1 rfl) ?_
        refine lv_iload_n hx hb dX1_worked_35 rfl (lv_at hl 2 rfl) ?_
        refine lv_iand hx hb dX1_worked_36 ?_
        exact pu_iret hx hb hr hlocks (Eq.trans (Eq.symm (by rw [fX1_worked, if_neg c_1, if_neg c_2, if_pos c_3])) hV) dX1_worked_37
    · refine lv_iload_n hx hb dX1_worked_17 rfl (lv_at hl 1 rfl) ?_
      refine lv_iload_n hx hb dX1_worked_18 rfl (lv_at hl 2 rfl) ?_
      refine lv_isub hx hb dX1_worked_19 ?_
      refine lv_sipush (v := 128) hx hb dX1_worked_20 (by decide) ?_
      refine lv_iadd hx hb dX1_worked_23 ?_
      refine lv_sipush (v := 128) hx hb dX1_worked_24 (by decide) ?_
      refine lv_irem hx hb dX1_worked_27 (by decide) ?_
      exact pu_iret hx hb hr hlocks (Eq.trans (Eq.symm (by rw [fX1_worked, if_neg c_1, if_pos c_2])) hV) dX1_worked_28
  · refine lv_iload_n hx hb dX1_worked_4 rfl (lv_at hl 1 rfl) ?_
    refine lv_iload_n hx hb dX1_worked_5 rfl (lv_at hl 2 rfl) ?_
    refine lv_iadd hx hb dX1_worked_6 ?_
    refine lv_sipush (v := 128) hx hb dX1_worked_7 (by decide) ?_
    refine lv_irem hx hb dX1_worked_10 (by decide) ?_
    exact pu_iret hx hb hr hlocks (Eq.trans (Eq.symm (by rw [fX1_worked, if_pos c_1])) hV) dX1_worked_11
set_option maxHeartbeats 4000000 in
set_option maxRecDepth 100000 in
theorem lpX1_ones {p : Program} {l : Launch} {e : Env} {s : State} {m : MethodId} {args : Array Value} {below : List Frame} {meth : Method} {c : Code} (hx : p.tables.exec = Jvm.exec) (hb : c.code = cX1_ones) (hr : meth.sig.returnType = some .int) (hlocks : meth.locks = false) (hml : c.maxLocals = 3) (hown : s.vm.findClass RX1 = some m.cls) (hts : ∀ w ∈ lw_all, w.before args s = true) (V : Int32) (p0 : Int32) :
    ∀ (n : Nat), n ≤ 7 → ∀ (v1 : Int32) (ls : Array Slot), gX1_ones p0 n v1 = V → lv_has ls 3 [(0, .int p0), (1, .int v1), (2, .int (kup7 n))] → W p l e (headSpec (ws_ yX1_ones cX1_ones 3 (some .int)) ({ frames := 0, cells := 0, slots := 0, locals := 0 } : Room)).room s m args below meth c s.heap [] 0 0 (Qp below args s V) (F0 m 4 ls []) := by
  intro n
  induction n with
  | zero =>
    intro hn v1 ls hV hl
    refine lv_iload_n hx hb dX1_ones_4 rfl (lv_at hl 2 rfl) ?_
    refine lv_bipush (v := 7) hx hb dX1_ones_5 (by decide) ?_
    refine lv_icmp_ge (tgt := 24) hx hb dX1_ones_7 (by decide) (fun c_1 => ?_) (fun c_1 => absurd (by decide : (7 : Int32) ≤ kup7 0) c_1)
    refine lv_iload_n hx hb dX1_ones_24 rfl (lv_at hl 1 rfl) ?_
    exact pu_iret hx hb hr hlocks (Eq.trans (Eq.symm (by rw [gX1_ones])) hV) dX1_ones_25
  | succ n ih =>
    intro hn v1 ls hV hl
    refine lv_iload_n hx hb dX1_ones_4 rfl (lv_at hl 2 rfl) ?_
    refine lv_bipush (v := 7) hx hb dX1_ones_5 (by decide) ?_
    refine lv_icmp_ge (tgt := 24) hx hb dX1_ones_7 (by decide) (fun c_1 => absurd c_1 (kup7_t n hn)) (fun c_1 => ?_)
    refine lv_iload_n hx hb dX1_ones_10 rfl (lv_at hl 1 rfl) ?_
    refine lv_iload_n hx hb dX1_ones_11 rfl (lv_at hl 0 rfl) ?_
    refine lv_iload_n hx hb dX1_ones_12 rfl (lv_at hl 2 rfl) ?_
    refine lv_ishr hx hb dX1_ones_13 ?_
    refine lv_iconst (v := 1) hx hb dX1_ones_14 (by decide) ?_
    refine lv_iand hx hb dX1_ones_15 ?_
    refine lv_iadd hx hb dX1_ones_16 ?_
    refine lv_istore_n (lv' := [(1, .int (v1 + ((p0 >>> ((kup7 (n + 1)) &&& 31)) &&& 1))), (0, .int p0), (2, .int (kup7 (n + 1)))]) hx hb dX1_ones_17 rfl hl (by decide) rfl (fun ls hl => ?_)
    refine lv_iinc (v := (kup7 n)) (lv' := [(2, .int (kup7 n)), (1, .int (v1 + ((p0 >>> ((kup7 (n + 1)) &&& 31)) &&& 1))), (0, .int p0)]) hx hb dX1_ones_18 hl (k := 2) rfl (kup7_s n hn) (by decide) rfl (fun ls hl => ?_)
    refine lv_goto (tgt := 4) hx hb dX1_ones_21 (by decide) ?_
    exact ih (Nat.le_of_succ_le hn) (v1 + ((p0 >>> ((kup7 (n + 1)) &&& 31)) &&& 1)) ls (Eq.trans (Eq.symm (by rw [gX1_ones])) hV) (lv_sub hl [2, 1, 0] rfl)
set_option maxHeartbeats 4000000 in
set_option maxRecDepth 100000 in
theorem meX1_ones (l : Launch) (p0 : Int32) : PureI l yX1_ones (ws_ yX1_ones cX1_ones 3 (some .int)) ({ frames := 0, cells := 0, slots := 0, locals := 0 } : Room) [.int p0] (fX1_ones p0) := by
  intro H0
  refine Met.ofW (cc := cX1_ones) (maxL := 3) (ret := (some .int)) (by decide) rfl ?_
  intro p e s m args below meth c s₁ B hml hv
  obtain ⟨rfl, rfl⟩ := hv
  have hx := B.exec
  have hb := B.bytes
  have hr := B.returns
  have hts := atoms_spec (ws := (ws_ yX1_ones cX1_ones 3 (some .int))) B.pre
  have hts : ∀ w ∈ lw_all, w.before _ s = true := fun w h => hts w (List.mem_cons_of_mem _ h)
  have hown : s.vm.findClass RX1 = some m.cls := findClass_of_methodNamed B.named
  have hlocks := B.notSynchronized
  have hl := lv_entry ([.int p0]) (n := 3) (Nat.le_of_ble_eq_true rfl)
  rw [lg_entry_eq]
  generalize (lg_sl ([.int p0]) ++ List.replicate (3 - (lg_sl ([.int p0])).length) Slot.unset).toArray = ls at hl ⊢
  have hl : lv_has ls 3 [(0, .int p0)] := hl
  generalize hV : fX1_ones p0 = V
  refine lv_iconst (v := 0) hx hb dX1_ones_0 (by decide) ?_
  refine lv_istore_n (lv' := [(1, .int 0), (0, .int p0)]) hx hb dX1_ones_1 rfl hl (by decide) rfl (fun ls hl => ?_)
  refine lv_iconst (v := 0) hx hb dX1_ones_2 (by decide) ?_
  refine lv_istore_n (lv' := [(2, .int 0), (1, .int 0), (0, .int p0)]) hx hb dX1_ones_3 rfl hl (by decide) rfl (fun ls hl => ?_)
  exact lpX1_ones hx hb hr hlocks hml hown hts V p0 7 (Nat.le_refl _) 0 ls (Eq.trans (Eq.symm (by rw [fX1_ones])) hV) (by rw [show kup7 7 = 0 from by decide]; exact lv_sub hl [2, 1, 0] rfl)
set_option maxHeartbeats 4000000 in
set_option maxRecDepth 100000 in
theorem lpX1_reversed {p : Program} {l : Launch} {e : Env} {s : State} {m : MethodId} {args : Array Value} {below : List Frame} {meth : Method} {c : Code} (hx : p.tables.exec = Jvm.exec) (hb : c.code = cX1_reversed) (hr : meth.sig.returnType = some .int) (hlocks : meth.locks = false) (hml : c.maxLocals = 3) (hown : s.vm.findClass RX1 = some m.cls) (hts : ∀ w ∈ lw_all, w.before args s = true) (V : Int32) (p0 : Int32) :
    ∀ (n : Nat), n ≤ 7 → ∀ (v1 : Int32) (ls : Array Slot), gX1_reversed p0 n v1 = V → lv_has ls 3 [(0, .int p0), (1, .int v1), (2, .int (kup7 n))] → W p l e (headSpec (ws_ yX1_reversed cX1_reversed 3 (some .int)) ({ frames := 0, cells := 0, slots := 0, locals := 0 } : Room)).room s m args below meth c s.heap [] 0 0 (Qp below args s V) (F0 m 4 ls []) := by
  intro n
  induction n with
  | zero =>
    intro hn v1 ls hV hl
    refine lv_iload_n hx hb dX1_reversed_4 rfl (lv_at hl 2 rfl) ?_
    refine lv_bipush (v := 7) hx hb dX1_reversed_5 (by decide) ?_
    refine lv_icmp_ge (tgt := 29) hx hb dX1_reversed_7 (by decide) (fun c_1 => ?_) (fun c_1 => absurd (by decide : (7 : Int32) ≤ kup7 0) c_1)
    refine lv_iload_n hx hb dX1_reversed_29 rfl (lv_at hl 1 rfl) ?_
    exact pu_iret hx hb hr hlocks (Eq.trans (Eq.symm (by rw [gX1_reversed])) hV) dX1_reversed_30
  | succ n ih =>
    intro hn v1 ls hV hl
    refine lv_iload_n hx hb dX1_reversed_4 rfl (lv_at hl 2 rfl) ?_
    refine lv_bipush (v := 7) hx hb dX1_reversed_5 (by decide) ?_
    refine lv_icmp_ge (tgt := 29) hx hb dX1_reversed_7 (by decide) (fun c_1 => absurd c_1 (kup7_t n hn)) (fun c_1 => ?_)
    refine lv_iload_n hx hb dX1_reversed_10 rfl (lv_at hl 1 rfl) ?_
    refine lv_iload_n hx hb dX1_reversed_11 rfl (lv_at hl 0 rfl) ?_
    refine lv_iload_n hx hb dX1_reversed_12 rfl (lv_at hl 2 rfl) ?_
    refine lv_ishr hx hb dX1_reversed_13 ?_
    refine lv_iconst (v := 1) hx hb dX1_reversed_14 (by decide) ?_
    refine lv_iand hx hb dX1_reversed_15 ?_
    refine lv_bipush (v := 6) hx hb dX1_reversed_16 (by decide) ?_
    refine lv_iload_n hx hb dX1_reversed_18 rfl (lv_at hl 2 rfl) ?_
    refine lv_isub hx hb dX1_reversed_19 ?_
    refine lv_ishl hx hb dX1_reversed_20 ?_
    refine lv_ior hx hb dX1_reversed_21 ?_
    refine lv_istore_n (lv' := [(1, .int (v1 ||| (((p0 >>> ((kup7 (n + 1)) &&& 31)) &&& 1) <<< ((6 - (kup7 (n + 1))) &&& 31)))), (0, .int p0), (2, .int (kup7 (n + 1)))]) hx hb dX1_reversed_22 rfl hl (by decide) rfl (fun ls hl => ?_)
    refine lv_iinc (v := (kup7 n)) (lv' := [(2, .int (kup7 n)), (1, .int (v1 ||| (((p0 >>> ((kup7 (n + 1)) &&& 31)) &&& 1) <<< ((6 - (kup7 (n + 1))) &&& 31)))), (0, .int p0)]) hx hb dX1_reversed_23 hl (k := 2) rfl (kup7_s n hn) (by decide) rfl (fun ls hl => ?_)
    refine lv_goto (tgt := 4) hx hb dX1_reversed_26 (by decide) ?_
    exact ih (Nat.le_of_succ_le hn) (v1 ||| (((p0 >>> ((kup7 (n + 1)) &&& 31)) &&& 1) <<< ((6 - (kup7 (n + 1))) &&& 31))) ls (Eq.trans (Eq.symm (by rw [gX1_reversed])) hV) (lv_sub hl [2, 1, 0] rfl)
set_option maxHeartbeats 4000000 in
set_option maxRecDepth 100000 in
theorem meX1_reversed (l : Launch) (p0 : Int32) : PureI l yX1_reversed (ws_ yX1_reversed cX1_reversed 3 (some .int)) ({ frames := 0, cells := 0, slots := 0, locals := 0 } : Room) [.int p0] (fX1_reversed p0) := by
  intro H0
  refine Met.ofW (cc := cX1_reversed) (maxL := 3) (ret := (some .int)) (by decide) rfl ?_
  intro p e s m args below meth c s₁ B hml hv
  obtain ⟨rfl, rfl⟩ := hv
  have hx := B.exec
  have hb := B.bytes
  have hr := B.returns
  have hts := atoms_spec (ws := (ws_ yX1_reversed cX1_reversed 3 (some .int))) B.pre
  have hts : ∀ w ∈ lw_all, w.before _ s = true := fun w h => hts w (List.mem_cons_of_mem _ h)
  have hown : s.vm.findClass RX1 = some m.cls := findClass_of_methodNamed B.named
  have hlocks := B.notSynchronized
  have hl := lv_entry ([.int p0]) (n := 3) (Nat.le_of_ble_eq_true rfl)
  rw [lg_entry_eq]
  generalize (lg_sl ([.int p0]) ++ List.replicate (3 - (lg_sl ([.int p0])).length) Slot.unset).toArray = ls at hl ⊢
  have hl : lv_has ls 3 [(0, .int p0)] := hl
  generalize hV : fX1_reversed p0 = V
  refine lv_iconst (v := 0) hx hb dX1_reversed_0 (by decide) ?_
  refine lv_istore_n (lv' := [(1, .int 0), (0, .int p0)]) hx hb dX1_reversed_1 rfl hl (by decide) rfl (fun ls hl => ?_)
  refine lv_iconst (v := 0) hx hb dX1_reversed_2 (by decide) ?_
  refine lv_istore_n (lv' := [(2, .int 0), (1, .int 0), (0, .int p0)]) hx hb dX1_reversed_3 rfl hl (by decide) rfl (fun ls hl => ?_)
  exact lpX1_reversed hx hb hr hlocks hml hown hts V p0 7 (Nat.le_refl _) 0 ls (Eq.trans (Eq.symm (by rw [fX1_reversed])) hV) (by rw [show kup7 7 = 0 from by decide]; exact lv_sub hl [2, 1, 0] rfl)
end
section
set_option maxHeartbeats 4000000 in
set_option maxRecDepth 100000 in
theorem meX0_keep (l : Launch) (D : va_G) (h0 a1 a2 : Nat) (d1 d2 : ClassId) (p0 p1 : Int32) (lo hi : Nat → Int32) (x y : Int32) : ObV l yX0_keep (ws_ yX0_keep cX0_keep 3 none) ({ frames := 0, cells := 0, slots := 0, locals := 0 } : Room) D 0 h0 a1 a2 d1 d2 [.int p0, .int p1] lo hi x y ((0 : Int32), lo, hi, p0, p1) := by
  intro sz
  refine Met.ofW (cc := cX0_keep) (maxL := 3) (ret := none) (by decide) rfl ?_
  intro p e s m args below meth c s₁ B hml hv
  obtain ⟨rfl, hsz, hP, hK, hD0⟩ := hv
  have hx := B.exec
  have hb := B.bytes
  have hr := B.returns
  have hts := atoms_spec (ws := (ws_ yX0_keep cX0_keep 3 none)) B.pre
  have hts : ∀ w ∈ lw_all, w.before _ s = true := fun w h => hts w (List.mem_cons_of_mem _ h)
  have hown : s.vm.findClass RX0 = some m.cls := findClass_of_methodNamed B.named
  have hlocks := B.notSynchronized
  subst hsz
  have hD := hD0.self (sz := s.heap.size)
  generalize hAe : va_A (obW 0 h0 a1 a2 d1 d2 lo hi x y) s.heap.size = A at hD ⊢
  have hA : ∀ q : Nat, s.heap.size ≤ q → A q := fun q h => by rw [← hAe]; exact Or.inr h
  have hS : va_S A s.heap s.heap [] := va_S.rf
  have hP : va_P D vwCl (obW 0 h0 a1 a2 d1 d2 lo hi x y) s.heap := hP
  have hl := lv_entry ([.ref h0, .int p0, .int p1]) (n := 3) (Nat.le_of_ble_eq_true rfl)
  rw [lg_entry_eq]
  generalize (lg_sl ([.ref h0, .int p0, .int p1]) ++ List.replicate (3 - (lg_sl ([.ref h0, .int p0, .int p1])).length) Slot.unset).toArray = ls at hl ⊢
  have hl : lv_has ls 3 [(0, .ref h0), (1, .int p0), (2, .int p1)] := hl
  have hV : (p0, p1) = (p0, p1) := rfl
  refine lv_aload_n hx hb dX0_keep_0 rfl (lv_at hl 0 rfl) ?_
  refine lv_iload_n hx hb dX0_keep_1 rfl (lv_at hl 1 rfl) ?_
  refine va_put (D := D) (ci := 0) (v := .int p0) (ty := .int) (C := RX0) (T := TX0) (N := 4) hx hb hts in_X0 tyX0 tyX0_ok nmX0 hown hK hP hD hS 0 rfl rfl 2 (by decide) (hts _ q24) (fun _ h9 => h9) rfl (by decide +kernel) rfl rfl (Nat.le_of_ble_eq_true rfl) dX0_keep_2 (fun H locs hP hD hS => ?_)
  have hP : va_P D vwCl (obW 0 h0 a1 a2 d1 d2 lo hi p0 y) H := hP
  have hD : va_D A (obW 0 h0 a1 a2 d1 d2 lo hi p0 y) := hD
  refine lv_aload_n hx hb dX0_keep_5 rfl (lv_at hl 0 rfl) ?_
  refine lv_iload_n hx hb dX0_keep_6 rfl (lv_at hl 2 rfl) ?_
  refine va_put (D := D) (ci := 0) (v := .int p1) (ty := .int) (C := RX0) (T := TX0) (N := 4) hx hb hts in_X0 tyX0 tyX0_ok nmX0 hown hK hP hD hS 0 rfl rfl 3 (by decide) (hts _ q25) (fun _ h9 => h9) rfl (by decide +kernel) rfl rfl (Nat.le_of_ble_eq_true rfl) dX0_keep_7 (fun H locs hP hD hS => ?_)
  have hP : va_P D vwCl (obW 0 h0 a1 a2 d1 d2 lo hi p0 p1) H := hP
  have hD : va_D A (obW 0 h0 a1 a2 d1 d2 lo hi p0 p1) := hD
  exact ob_vret (v := 0) hx hb hr hlocks hK hP hD hS (congrArg (fun z : Int32 × Int32 => ((0 : Int32), lo, hi, z.1, z.2)) hV) dX0_keep_10
set_option maxHeartbeats 4000000 in
set_option maxRecDepth 100000 in
theorem meX0_addOrSubtract (l : Launch) (D : va_G) (h0 a1 a2 : Nat) (d1 d2 : ClassId) (p0 p1 p2 : Int32) (lo hi : Nat → Int32) (x y : Int32) (hi1 : vp_in p1 6) (hi2 : vp_in p2 6) : ObV l yX0_addOrSubtract (ws_ yX0_addOrSubtract cX0_addOrSubtract 6 none) ({ frames := 1, cells := 0, slots := 0, locals := 22 } : Room) D 0 h0 a1 a2 d1 d2 [.int p0, .int p1, .int p2] lo hi x y ((0 : Int32), lo, hi, (fX0_addOrSubtract p0 p1 p2 lo hi).1, (fX0_addOrSubtract p0 p1 p2 lo hi).2) := by
  intro sz
  refine Met.ofW (cc := cX0_addOrSubtract) (maxL := 6) (ret := none) (by decide) rfl ?_
  intro p e s m args below meth c s₁ B hml hv
  obtain ⟨rfl, hsz, hP, hK, hD0⟩ := hv
  have hx := B.exec
  have hb := B.bytes
  have hr := B.returns
  have hts := atoms_spec (ws := (ws_ yX0_addOrSubtract cX0_addOrSubtract 6 none)) B.pre
  have hts : ∀ w ∈ lw_all, w.before _ s = true := fun w h => hts w (List.mem_cons_of_mem _ h)
  have hown : s.vm.findClass RX0 = some m.cls := findClass_of_methodNamed B.named
  have hlocks := B.notSynchronized
  subst hsz
  have hD := hD0.self (sz := s.heap.size)
  generalize hAe : va_A (obW 0 h0 a1 a2 d1 d2 lo hi x y) s.heap.size = A at hD ⊢
  have hA : ∀ q : Nat, s.heap.size ≤ q → A q := fun q h => by rw [← hAe]; exact Or.inr h
  have hS : va_S A s.heap s.heap [] := va_S.rf
  have hP : va_P D vwCl (obW 0 h0 a1 a2 d1 d2 lo hi x y) s.heap := hP
  have hl := lv_entry ([.ref h0, .int p0, .int p1, .int p2]) (n := 6) (Nat.le_of_ble_eq_true rfl)
  rw [lg_entry_eq]
  generalize (lg_sl ([.ref h0, .int p0, .int p1, .int p2]) ++ List.replicate (6 - (lg_sl ([.ref h0, .int p0, .int p1, .int p2])).length) Slot.unset).toArray = ls at hl ⊢
  have hl : lv_has ls 6 [(0, .ref h0), (1, .int p0), (2, .int p1), (3, .int p2)] := hl
  generalize hV : fX0_addOrSubtract p0 p1 p2 lo hi = V
  refine lv_iload_n hx hb dX0_addOrSubtract_0 rfl (lv_at hl 1 rfl) ?_
  refine lv_if_ne (tgt := 20) hx hb dX0_addOrSubtract_1 (by decide) (fun c_1 => ?_) (fun c_1 => ?_)
  · refine lv_aload_n hx hb dX0_addOrSubtract_20 rfl (lv_at hl 0 rfl) ?_
    refine va_get (D := D) (ci := 0) (v := .ref a1) (C := RX0) (T := TX0) (N := 4) hx hb hts in_X0 hown hK hP 0 rfl rfl 0 (by decide) (hts _ q22) (fun _ h9 => h9) rfl dX0_addOrSubtract_21 ?_
    refine lv_iload_n hx hb dX0_addOrSubtract_24 rfl (lv_at hl 2 rfl) ?_
    refine va_iald hx hb hK hP 1 0 rfl rfl hi1 dX0_addOrSubtract_25 ?_
    refine lv_aload_n hx hb dX0_addOrSubtract_26 rfl (lv_at hl 0 rfl) ?_
    refine va_get (D := D) (ci := 0) (v := .ref a2) (C := RX0) (T := TX0) (N := 4) hx hb hts in_X0 hown hK hP 0 rfl rfl 1 (by decide) (hts _ q23) (fun _ h9 => h9) rfl dX0_addOrSubtract_27 ?_
    refine lv_iload_n hx hb dX0_addOrSubtract_30 rfl (lv_at hl 3 rfl) ?_
    refine va_iald hx hb hK hP 2 1 rfl rfl hi2 dX0_addOrSubtract_31 ?_
    refine lv_isub hx hb dX0_addOrSubtract_32 ?_
    refine lv_sipush (v := 128) hx hb dX0_addOrSubtract_33 (by decide) ?_
    refine lv_iadd hx hb dX0_addOrSubtract_36 ?_
    refine lv_istore (lv' := [(4, .int (((lo p1.toNatClampNeg) - (hi p2.toNatClampNeg)) + 128)), (0, .ref h0), (1, .int p0), (2, .int p1), (3, .int p2)]) hx hb dX0_addOrSubtract_37 hl (by decide) rfl (fun ls hl => ?_)
    refine lv_iload_n hx hb dX0_addOrSubtract_39 rfl (lv_at hl 2 rfl) ?_
    refine lv_if_ne (tgt := 59) hx hb dX0_addOrSubtract_40 (by decide) (fun c_2 => ?_) (fun c_2 => ?_)
    · refine lv_aload_n hx hb dX0_addOrSubtract_59 rfl (lv_at hl 1 rfl) ?_
      refine va_get (D := D) (ci := 0) (v := .ref a2) (C := RX0) (T := TX0) (N := 4) hx hb hts in_X0 hown hK hP 0 rfl rfl 1 (by decide) (hts _ q23) (fun _ h9 => h9) rfl dX0_addOrSubtract_60 ?_
      refine lv_iload_n hx hb dX0_addOrSubtract_63 rfl (lv_at hl 3 rfl) ?_
      refine va_iald hx hb hK hP 2 1 rfl rfl hi1 dX0_addOrSubtract_64 ?_
      refine lv_aload_n hx hb dX0_addOrSubtract_65 rfl (lv_at hl 1 rfl) ?_
      refine va_get (D := D) (ci := 0) (v := .ref a1) (C := RX0) (T := TX0) (N := 4) hx hb hts in_X0 hown hK hP 0 rfl rfl 0 (by decide) (hts _ q22) (fun _ h9 => h9) rfl dX0_addOrSubtract_66 ?_
      refine lv_iload_n hx hb dX0_addOrSubtract_69 rfl (lv_at hl 4 rfl) ?_
      refine va_iald hx hb hK hP 1 0 rfl rfl hi2 dX0_addOrSubtract_70 ?_
      refine lv_isub hx hb dX0_addOrSubtract_71 ?_
      refine lv_sipush (v := 128) hx hb dX0_addOrSubtract_72 (by decide) ?_
      refine lv_iadd hx hb dX0_addOrSubtract_75 ?_
      refine lv_istore (lv' := [(5, .int (((hi p1.toNatClampNeg) - (lo p2.toNatClampNeg)) + 128)), (4, .int (((lo p1.toNatClampNeg) - (hi p2.toNatClampNeg)) + 128)), (0, .ref h0), (1, .int p0), (2, .int p1), (3, .int p2)]) hx hb dX0_addOrSubtract_76 hl (by decide) rfl (fun ls hl => ?_)
      refine lv_iload hx hb dX0_addOrSubtract_78 (lv_at hl 0 rfl) ?_
      refine lv_sipush (v := 128) hx hb dX0_addOrSubtract_80 (by decide) ?_
      refine lv_icmp_ge (tgt := 97) hx hb dX0_addOrSubtract_83 (by decide) (fun c_3 => ?_) (fun c_3 => ?_)
      · refine lv_iload hx hb dX0_addOrSubtract_97 (lv_at hl 1 rfl) ?_
        refine lv_sipush (v := 128) hx hb dX0_addOrSubtract_99 (by decide) ?_
        refine lv_icmp_lt (tgt := 124) hx hb dX0_addOrSubtract_102 (by decide) (fun c_4 => ?_) (fun c_4 => ?_)
        · refine lv_aload_n hx hb dX0_addOrSubtract_124 rfl (lv_at hl 2 rfl) ?_
          refine lv_iconst (v := 0) hx hb dX0_addOrSubtract_125 (by decide) ?_
          refine lv_bipush (v := 127) hx hb dX0_addOrSubtract_126 (by decide) ?_
          refine ob_callv (ws := (obW 0 h0 a1 a2 d1 d2 lo hi x y)) (wr := []) (rest := []) (As := [.int 0, .int 127]) ⟨hx, hb, hml, hown, hts⟩ (meX0_keep l D h0 a1 a2 d1 d2 0 127 lo hi x y) (cwV 2 hts (lw_V q51 q53 qs1 q12 q54) rfl rfl rfl (by decide +kernel) ⟨Nat.le_of_ble_eq_true rfl, Nat.le_of_ble_eq_true rfl⟩) (show vwCl[0]? = some (RX0, TX0, 4) from rfl) rfl hl.1 rfl (Nat.le_of_ble_eq_true rfl) dX0_addOrSubtract_128 ⟨Nat.zero_le _, Nat.zero_le _⟩ hK hP hD hS hA [0, 1, 2] [] rfl rfl (by decide) (by decide) (by decide) (fun H locs hP hD hS => ?_)
          have hP : va_P D vwCl (obW 0 h0 a1 a2 d1 d2 lo hi 0 127) H := hP
          have hD : va_D A (obW 0 h0 a1 a2 d1 d2 lo hi 0 127) := hD
          exact ob_vret (v := 0) hx hb hr hlocks hK hP hD hS (congrArg (fun z : Int32 × Int32 => ((0 : Int32), lo, hi, z.1, z.2)) (Eq.trans (Eq.symm (by rw [fX0_addOrSubtract, if_neg c_1, if_neg c_2, if_pos c_3, if_pos c_4])) hV)) dX0_addOrSubtract_131
        · refine lv_aload_n hx hb dX0_addOrSubtract_105 rfl (lv_at hl 2 rfl) ?_
          refine lv_iload hx hb dX0_addOrSubtract_106 (lv_at hl 1 rfl) ?_
          refine lv_sipush (v := 128) hx hb dX0_addOrSubtract_108 (by decide) ?_
          refine lv_isub hx hb dX0_addOrSubtract_111 ?_
          refine lv_iload hx hb dX0_addOrSubtract_112 (lv_at hl 0 rfl) ?_
          refine lv_sipush (v := 128) hx hb dX0_addOrSubtract_114 (by decide) ?_
          refine lv_isub hx hb dX0_addOrSubtract_117 ?_
          refine ob_callv (ws := (obW 0 h0 a1 a2 d1 d2 lo hi x y)) (wr := []) (rest := []) (As := [.int ((((lo p1.toNatClampNeg) - (hi p2.toNatClampNeg)) + 128) - 128), .int ((((hi p1.toNatClampNeg) - (lo p2.toNatClampNeg)) + 128) - 128)]) ⟨hx, hb, hml, hown, hts⟩ (meX0_keep l D h0 a1 a2 d1 d2 ((((lo p1.toNatClampNeg) - (hi p2.toNatClampNeg)) + 128) - 128) ((((hi p1.toNatClampNeg) - (lo p2.toNatClampNeg)) + 128) - 128) lo hi x y) (cwV 2 hts (lw_V q51 q53 qs1 q12 q54) rfl rfl rfl (by decide +kernel) ⟨Nat.le_of_ble_eq_true rfl, Nat.le_of_ble_eq_true rfl⟩) (show vwCl[0]? = some (RX0, TX0, 4) from rfl) rfl hl.1 rfl (Nat.le_of_ble_eq_true rfl) dX0_addOrSubtract_118 ⟨Nat.zero_le _, Nat.zero_le _⟩ hK hP hD hS hA [0, 1, 2] [] rfl rfl (by decide) (by decide) (by decide) (fun H locs hP hD hS => ?_)
          have hP : va_P D vwCl (obW 0 h0 a1 a2 d1 d2 lo hi ((((lo p1.toNatClampNeg) - (hi p2.toNatClampNeg)) + 128) - 128) ((((hi p1.toNatClampNeg) - (lo p2.toNatClampNeg)) + 128) - 128)) H := hP
          have hD : va_D A (obW 0 h0 a1 a2 d1 d2 lo hi ((((lo p1.toNatClampNeg) - (hi p2.toNatClampNeg)) + 128) - 128) ((((hi p1.toNatClampNeg) - (lo p2.toNatClampNeg)) + 128) - 128)) := hD
          refine lv_goto (tgt := 131) hx hb dX0_addOrSubtract_121 (by decide) ?_
          exact ob_vret (v := 0) hx hb hr hlocks hK hP hD hS (congrArg (fun z : Int32 × Int32 => ((0 : Int32), lo, hi, z.1, z.2)) (Eq.trans (Eq.symm (by rw [fX0_addOrSubtract, if_neg c_1, if_neg c_2, if_pos c_3, if_neg c_4])) hV)) dX0_addOrSubtract_131
      · refine lv_aload_n hx hb dX0_addOrSubtract_86 rfl (lv_at hl 2 rfl) ?_
        refine lv_iload hx hb dX0_addOrSubtract_87 (lv_at hl 1 rfl) ?_
        refine lv_iload hx hb dX0_addOrSubtract_89 (lv_at hl 0 rfl) ?_
        refine ob_callv (ws := (obW 0 h0 a1 a2 d1 d2 lo hi x y)) (wr := []) (rest := []) (As := [.int (((lo p1.toNatClampNeg) - (hi p2.toNatClampNeg)) + 128), .int (((hi p1.toNatClampNeg) - (lo p2.toNatClampNeg)) + 128)]) ⟨hx, hb, hml, hown, hts⟩ (meX0_keep l D h0 a1 a2 d1 d2 (((lo p1.toNatClampNeg) - (hi p2.toNatClampNeg)) + 128) (((hi p1.toNatClampNeg) - (lo p2.toNatClampNeg)) + 128) lo hi x y) (cwV 2 hts (lw_V q51 q53 qs1 q12 q54) rfl rfl rfl (by decide +kernel) ⟨Nat.le_of_ble_eq_true rfl, Nat.le_of_ble_eq_true rfl⟩) (show vwCl[0]? = some (RX0, TX0, 4) from rfl) rfl hl.1 rfl (Nat.le_of_ble_eq_true rfl) dX0_addOrSubtract_91 ⟨Nat.zero_le _, Nat.zero_le _⟩ hK hP hD hS hA [0, 1, 2] [] rfl rfl (by decide) (by decide) (by decide) (fun H locs hP hD hS => ?_)
        have hP : va_P D vwCl (obW 0 h0 a1 a2 d1 d2 lo hi (((lo p1.toNatClampNeg) - (hi p2.toNatClampNeg)) + 128) (((hi p1.toNatClampNeg) - (lo p2.toNatClampNeg)) + 128)) H := hP
        have hD : va_D A (obW 0 h0 a1 a2 d1 d2 lo hi (((lo p1.toNatClampNeg) - (hi p2.toNatClampNeg)) + 128) (((hi p1.toNatClampNeg) - (lo p2.toNatClampNeg)) + 128)) := hD
        refine lv_goto (tgt := 131) hx hb dX0_addOrSubtract_94 (by decide) ?_
        exact ob_vret (v := 0) hx hb hr hlocks hK hP hD hS (congrArg (fun z : Int32 × Int32 => ((0 : Int32), lo, hi, z.1, z.2)) (Eq.trans (Eq.symm (by rw [fX0_addOrSubtract, if_neg c_1, if_neg c_2, if_neg c_3])) hV)) dX0_addOrSubtract_131
    · refine lv_aload_n hx hb dX0_addOrSubtract_43 rfl (lv_at hl 1 rfl) ?_
      refine va_get (D := D) (ci := 0) (v := .ref a2) (C := RX0) (T := TX0) (N := 4) hx hb hts in_X0 hown hK hP 0 rfl rfl 1 (by decide) (hts _ q23) (fun _ h9 => h9) rfl dX0_addOrSubtract_44 ?_
      refine lv_iload_n hx hb dX0_addOrSubtract_47 rfl (lv_at hl 3 rfl) ?_
      refine va_iald hx hb hK hP 2 1 rfl rfl hi1 dX0_addOrSubtract_48 ?_
      refine lv_aload_n hx hb dX0_addOrSubtract_49 rfl (lv_at hl 1 rfl) ?_
      refine va_get (D := D) (ci := 0) (v := .ref a2) (C := RX0) (T := TX0) (N := 4) hx hb hts in_X0 hown hK hP 0 rfl rfl 1 (by decide) (hts _ q23) (fun _ h9 => h9) rfl dX0_addOrSubtract_50 ?_
      refine lv_iload_n hx hb dX0_addOrSubtract_53 rfl (lv_at hl 4 rfl) ?_
      refine va_iald hx hb hK hP 2 1 rfl rfl hi2 dX0_addOrSubtract_54 ?_
      refine lv_iadd hx hb dX0_addOrSubtract_55 ?_
      refine lv_goto (tgt := 76) hx hb dX0_addOrSubtract_56 (by decide) ?_
      refine lv_istore (lv' := [(5, .int ((hi p1.toNatClampNeg) + (hi p2.toNatClampNeg))), (4, .int (((lo p1.toNatClampNeg) - (hi p2.toNatClampNeg)) + 128)), (0, .ref h0), (1, .int p0), (2, .int p1), (3, .int p2)]) hx hb dX0_addOrSubtract_76 hl (by decide) rfl (fun ls hl => ?_)
      refine lv_iload hx hb dX0_addOrSubtract_78 (lv_at hl 0 rfl) ?_
      refine lv_sipush (v := 128) hx hb dX0_addOrSubtract_80 (by decide) ?_
      refine lv_icmp_ge (tgt := 97) hx hb dX0_addOrSubtract_83 (by decide) (fun c_5 => ?_) (fun c_5 => ?_)
      · refine lv_iload hx hb dX0_addOrSubtract_97 (lv_at hl 1 rfl) ?_
        refine lv_sipush (v := 128) hx hb dX0_addOrSubtract_99 (by decide) ?_
        refine lv_icmp_lt (tgt := 124) hx hb dX0_addOrSubtract_102 (by decide) (fun c_6 => ?_) (fun c_6 => ?_)
        · refine lv_aload_n hx hb dX0_addOrSubtract_124 rfl (lv_at hl 2 rfl) ?_
          refine lv_iconst (v := 0) hx hb dX0_addOrSubtract_125 (by decide) ?_
          refine lv_bipush (v := 127) hx hb dX0_addOrSubtract_126 (by decide) ?_
          refine ob_callv (ws := (obW 0 h0 a1 a2 d1 d2 lo hi x y)) (wr := []) (rest := []) (As := [.int 0, .int 127]) ⟨hx, hb, hml, hown, hts⟩ (meX0_keep l D h0 a1 a2 d1 d2 0 127 lo hi x y) (cwV 2 hts (lw_V q51 q53 qs1 q12 q54) rfl rfl rfl (by decide +kernel) ⟨Nat.le_of_ble_eq_true rfl, Nat.le_of_ble_eq_true rfl⟩) (show vwCl[0]? = some (RX0, TX0, 4) from rfl) rfl hl.1 rfl (Nat.le_of_ble_eq_true rfl) dX0_addOrSubtract_128 ⟨Nat.zero_le _, Nat.zero_le _⟩ hK hP hD hS hA [0, 1, 2] [] rfl rfl (by decide) (by decide) (by decide) (fun H locs hP hD hS => ?_)
          have hP : va_P D vwCl (obW 0 h0 a1 a2 d1 d2 lo hi 0 127) H := hP
          have hD : va_D A (obW 0 h0 a1 a2 d1 d2 lo hi 0 127) := hD
          exact ob_vret (v := 0) hx hb hr hlocks hK hP hD hS (congrArg (fun z : Int32 × Int32 => ((0 : Int32), lo, hi, z.1, z.2)) (Eq.trans (Eq.symm (by rw [fX0_addOrSubtract, if_neg c_1, if_pos c_2, if_pos c_5, if_pos c_6])) hV)) dX0_addOrSubtract_131
        · refine lv_aload_n hx hb dX0_addOrSubtract_105 rfl (lv_at hl 2 rfl) ?_
          refine lv_iload hx hb dX0_addOrSubtract_106 (lv_at hl 1 rfl) ?_
          refine lv_sipush (v := 128) hx hb dX0_addOrSubtract_108 (by decide) ?_
          refine lv_isub hx hb dX0_addOrSubtract_111 ?_
          refine lv_iload hx hb dX0_addOrSubtract_112 (lv_at hl 0 rfl) ?_
          refine lv_sipush (v := 128) hx hb dX0_addOrSubtract_114 (by decide) ?_
          refine lv_isub hx hb dX0_addOrSubtract_117 ?_
          refine ob_callv (ws := (obW 0 h0 a1 a2 d1 d2 lo hi x y)) (wr := []) (rest := []) (As := [.int ((((lo p1.toNatClampNeg) - (hi p2.toNatClampNeg)) + 128) - 128), .int (((hi p1.toNatClampNeg) + (hi p2.toNatClampNeg)) - 128)]) ⟨hx, hb, hml, hown, hts⟩ (meX0_keep l D h0 a1 a2 d1 d2 ((((lo p1.toNatClampNeg) - (hi p2.toNatClampNeg)) + 128) - 128) (((hi p1.toNatClampNeg) + (hi p2.toNatClampNeg)) - 128) lo hi x y) (cwV 2 hts (lw_V q51 q53 qs1 q12 q54) rfl rfl rfl (by decide +kernel) ⟨Nat.le_of_ble_eq_true rfl, Nat.le_of_ble_eq_true rfl⟩) (show vwCl[0]? = some (RX0, TX0, 4) from rfl) rfl hl.1 rfl (Nat.le_of_ble_eq_true rfl) dX0_addOrSubtract_118 ⟨Nat.zero_le _, Nat.zero_le _⟩ hK hP hD hS hA [0, 1, 2] [] rfl rfl (by decide) (by decide) (by decide) (fun H locs hP hD hS => ?_)
          have hP : va_P D vwCl (obW 0 h0 a1 a2 d1 d2 lo hi ((((lo p1.toNatClampNeg) - (hi p2.toNatClampNeg)) + 128) - 128) (((hi p1.toNatClampNeg) + (hi p2.toNatClampNeg)) - 128)) H := hP
          have hD : va_D A (obW 0 h0 a1 a2 d1 d2 lo hi ((((lo p1.toNatClampNeg) - (hi p2.toNatClampNeg)) + 128) - 128) (((hi p1.toNatClampNeg) + (hi p2.toNatClampNeg)) - 128)) := hD
          refine lv_goto (tgt := 131) hx hb dX0_addOrSubtract_121 (by decide) ?_
          exact ob_vret (v := 0) hx hb hr hlocks hK hP hD hS (congrArg (fun z : Int32 × Int32 => ((0 : Int32), lo, hi, z.1, z.2)) (Eq.trans (Eq.symm (by rw [fX0_addOrSubtract, if_neg c_1, if_pos c_2, if_pos c_5, if_neg c_6])) hV)) dX0_addOrSubtract_131
      · refine lv_aload_n hx hb dX0_addOrSubtract_86 rfl (lv_at hl 2 rfl) ?_
        refine lv_iload hx hb dX0_addOrSubtract_87 (lv_at hl 1 rfl) ?_
        refine lv_iload hx hb dX0_addOrSubtract_89 (lv_at hl 0 rfl) ?_
        refine ob_callv (ws := (obW 0 h0 a1 a2 d1 d2 lo hi x y)) (wr := []) (rest := []) (As := [.int (((lo p1.toNatClampNeg) - (hi p2.toNatClampNeg)) + 128), .int ((hi p1.toNatClampNeg) + (hi p2.toNatClampNeg))]) ⟨hx, hb, hml, hown, hts⟩ (meX0_keep l D h0 a1 a2 d1 d2 (((lo p1.toNatClampNeg) - (hi p2.toNatClampNeg)) + 128) ((hi p1.toNatClampNeg) + (hi p2.toNatClampNeg)) lo hi x y) (cwV 2 hts (lw_V q51 q53 qs1 q12 q54) rfl rfl rfl (by decide +kernel) ⟨Nat.le_of_ble_eq_true rfl, Nat.le_of_ble_eq_true rfl⟩) (show vwCl[0]? = some (RX0, TX0, 4) from rfl) rfl hl.1 rfl (Nat.le_of_ble_eq_true rfl) dX0_addOrSubtract_91 ⟨Nat.zero_le _, Nat.zero_le _⟩ hK hP hD hS hA [0, 1, 2] [] rfl rfl (by decide) (by decide) (by decide) (fun H locs hP hD hS => ?_)
        have hP : va_P D vwCl (obW 0 h0 a1 a2 d1 d2 lo hi (((lo p1.toNatClampNeg) - (hi p2.toNatClampNeg)) + 128) ((hi p1.toNatClampNeg) + (hi p2.toNatClampNeg))) H := hP
        have hD : va_D A (obW 0 h0 a1 a2 d1 d2 lo hi (((lo p1.toNatClampNeg) - (hi p2.toNatClampNeg)) + 128) ((hi p1.toNatClampNeg) + (hi p2.toNatClampNeg))) := hD
        refine lv_goto (tgt := 131) hx hb dX0_addOrSubtract_94 (by decide) ?_
        exact ob_vret (v := 0) hx hb hr hlocks hK hP hD hS (congrArg (fun z : Int32 × Int32 => ((0 : Int32), lo, hi, z.1, z.2)) (Eq.trans (Eq.symm (by rw [fX0_addOrSubtract, if_neg c_1, if_pos c_2, if_neg c_5])) hV)) dX0_addOrSubtract_131
  · refine lv_aload_n hx hb dX0_addOrSubtract_4 rfl (lv_at hl 0 rfl) ?_
    refine va_get (D := D) (ci := 0) (v := .ref a1) (C := RX0) (T := TX0) (N := 4) hx hb hts in_X0 hown hK hP 0 rfl rfl 0 (by decide) (hts _ q22) (fun _ h9 => h9) rfl dX0_addOrSubtract_5 ?_
    refine lv_iload_n hx hb dX0_addOrSubtract_8 rfl (lv_at hl 2 rfl) ?_
    refine va_iald hx hb hK hP 1 0 rfl rfl hi1 dX0_addOrSubtract_9 ?_
    refine lv_aload_n hx hb dX0_addOrSubtract_10 rfl (lv_at hl 0 rfl) ?_
    refine va_get (D := D) (ci := 0) (v := .ref a1) (C := RX0) (T := TX0) (N := 4) hx hb hts in_X0 hown hK hP 0 rfl rfl 0 (by decide) (hts _ q22) (fun _ h9 => h9) rfl dX0_addOrSubtract_11 ?_
    refine lv_iload_n hx hb dX0_addOrSubtract_14 rfl (lv_at hl 3 rfl) ?_
    refine va_iald hx hb hK hP 1 0 rfl rfl hi2 dX0_addOrSubtract_15 ?_
    refine lv_iadd hx hb dX0_addOrSubtract_16 ?_
    refine lv_goto (tgt := 37) hx hb dX0_addOrSubtract_17 (by decide) ?_
    refine lv_istore (lv' := [(4, .int ((lo p1.toNatClampNeg) + (lo p2.toNatClampNeg))), (0, .ref h0), (1, .int p0), (2, .int p1), (3, .int p2)]) hx hb dX0_addOrSubtract_37 hl (by decide) rfl (fun ls hl => ?_)
    refine lv_iload_n hx hb dX0_addOrSubtract_39 rfl (lv_at hl 2 rfl) ?_
    refine lv_if_ne (tgt := 59) hx hb dX0_addOrSubtract_40 (by decide) (fun c_7 => ?_) (fun c_7 => ?_)
    · refine lv_aload_n hx hb dX0_addOrSubtract_59 rfl (lv_at hl 1 rfl) ?_
      refine va_get (D := D) (ci := 0) (v := .ref a2) (C := RX0) (T := TX0) (N := 4) hx hb hts in_X0 hown hK hP 0 rfl rfl 1 (by decide) (hts _ q23) (fun _ h9 => h9) rfl dX0_addOrSubtract_60 ?_
      refine lv_iload_n hx hb dX0_addOrSubtract_63 rfl (lv_at hl 3 rfl) ?_
      refine va_iald hx hb hK hP 2 1 rfl rfl hi1 dX0_addOrSubtract_64 ?_
      refine lv_aload_n hx hb dX0_addOrSubtract_65 rfl (lv_at hl 1 rfl) ?_
      refine va_get (D := D) (ci := 0) (v := .ref a1) (C := RX0) (T := TX0) (N := 4) hx hb hts in_X0 hown hK hP 0 rfl rfl 0 (by decide) (hts _ q22) (fun _ h9 => h9) rfl dX0_addOrSubtract_66 ?_
      refine lv_iload_n hx hb dX0_addOrSubtract_69 rfl (lv_at hl 4 rfl) ?_
      refine va_iald hx hb hK hP 1 0 rfl rfl hi2 dX0_addOrSubtract_70 ?_
      refine lv_isub hx hb dX0_addOrSubtract_71 ?_
      refine lv_sipush (v := 128) hx hb dX0_addOrSubtract_72 (by decide) ?_
      refine lv_iadd hx hb dX0_addOrSubtract_75 ?_
      refine lv_istore (lv' := [(5, .int (((hi p1.toNatClampNeg) - (lo p2.toNatClampNeg)) + 128)), (4, .int ((lo p1.toNatClampNeg) + (lo p2.toNatClampNeg))), (0, .ref h0), (1, .int p0), (2, .int p1), (3, .int p2)]) hx hb dX0_addOrSubtract_76 hl (by decide) rfl (fun ls hl => ?_)
      refine lv_iload hx hb dX0_addOrSubtract_78 (lv_at hl 0 rfl) ?_
      refine lv_sipush (v := 128) hx hb dX0_addOrSubtract_80 (by decide) ?_
      refine lv_icmp_ge (tgt := 97) hx hb dX0_addOrSubtract_83 (by decide) (fun c_8 => ?_) (fun c_8 => ?_)
      · refine lv_iload hx hb dX0_addOrSubtract_97 (lv_at hl 1 rfl) ?_
        refine lv_sipush (v := 128) hx hb dX0_addOrSubtract_99 (by decide) ?_
        refine lv_icmp_lt (tgt := 124) hx hb dX0_addOrSubtract_102 (by decide) (fun c_9 => ?_) (fun c_9 => ?_)
        · refine lv_aload_n hx hb dX0_addOrSubtract_124 rfl (lv_at hl 2 rfl) ?_
          refine lv_iconst (v := 0) hx hb dX0_addOrSubtract_125 (by decide) ?_
          refine lv_bipush (v := 127) hx hb dX0_addOrSubtract_126 (by decide) ?_
          refine ob_callv (ws := (obW 0 h0 a1 a2 d1 d2 lo hi x y)) (wr := []) (rest := []) (As := [.int 0, .int 127]) ⟨hx, hb, hml, hown, hts⟩ (meX0_keep l D h0 a1 a2 d1 d2 0 127 lo hi x y) (cwV 2 hts (lw_V q51 q53 qs1 q12 q54) rfl rfl rfl (by decide +kernel) ⟨Nat.le_of_ble_eq_true rfl, Nat.le_of_ble_eq_true rfl⟩) (show vwCl[0]? = some (RX0, TX0, 4) from rfl) rfl hl.1 rfl (Nat.le_of_ble_eq_true rfl) dX0_addOrSubtract_128 ⟨Nat.zero_le _, Nat.zero_le _⟩ hK hP hD hS hA [0, 1, 2] [] rfl rfl (by decide) (by decide) (by decide) (fun H locs hP hD hS => ?_)
          have hP : va_P D vwCl (obW 0 h0 a1 a2 d1 d2 lo hi 0 127) H := hP
          have hD : va_D A (obW 0 h0 a1 a2 d1 d2 lo hi 0 127) := hD
          exact ob_vret (v := 0) hx hb hr hlocks hK hP hD hS (congrArg (fun z : Int32 × Int32 => ((0 : Int32), lo, hi, z.1, z.2)) (Eq.trans (Eq.symm (by rw [fX0_addOrSubtract, if_pos c_1, if_neg c_7, if_pos c_8, if_pos c_9])) hV)) dX0_addOrSubtract_131
        · refine lv_aload_n hx hb dX0_addOrSubtract_105 rfl (lv_at hl 2 rfl) ?_
          refine lv_iload hx hb dX0_addOrSubtract_106 (lv_at hl 1 rfl) ?_
          refine lv_sipush (v := 128) hx hb dX0_addOrSubtract_108 (by decide) ?_
          refine lv_isub hx hb dX0_addOrSubtract_111 ?_
          refine lv_iload hx hb dX0_addOrSubtract_112 (lv_at hl 0 rfl) ?_
          refine lv_sipush (v := 128) hx hb dX0_addOrSubtract_114 (by decide) ?_
          refine lv_isub hx hb dX0_addOrSubtract_117 ?_
          refine ob_callv (ws := (obW 0 h0 a1 a2 d1 d2 lo hi x y)) (wr := []) (rest := []) (As := [.int (((lo p1.toNatClampNeg) + (lo p2.toNatClampNeg)) - 128), .int ((((hi p1.toNatClampNeg) - (lo p2.toNatClampNeg)) + 128) - 128)]) ⟨hx, hb, hml, hown, hts⟩ (meX0_keep l D h0 a1 a2 d1 d2 (((lo p1.toNatClampNeg) + (lo p2.toNatClampNeg)) - 128) ((((hi p1.toNatClampNeg) - (lo p2.toNatClampNeg)) + 128) - 128) lo hi x y) (cwV 2 hts (lw_V q51 q53 qs1 q12 q54) rfl rfl rfl (by decide +kernel) ⟨Nat.le_of_ble_eq_true rfl, Nat.le_of_ble_eq_true rfl⟩) (show vwCl[0]? = some (RX0, TX0, 4) from rfl) rfl hl.1 rfl (Nat.le_of_ble_eq_true rfl) dX0_addOrSubtract_118 ⟨Nat.zero_le _, Nat.zero_le _⟩ hK hP hD hS hA [0, 1, 2] [] rfl rfl (by decide) (by decide) (by decide) (fun H locs hP hD hS => ?_)
          have hP : va_P D vwCl (obW 0 h0 a1 a2 d1 d2 lo hi (((lo p1.toNatClampNeg) + (lo p2.toNatClampNeg)) - 128) ((((hi p1.toNatClampNeg) - (lo p2.toNatClampNeg)) + 128) - 128)) H := hP
          have hD : va_D A (obW 0 h0 a1 a2 d1 d2 lo hi (((lo p1.toNatClampNeg) + (lo p2.toNatClampNeg)) - 128) ((((hi p1.toNatClampNeg) - (lo p2.toNatClampNeg)) + 128) - 128)) := hD
          refine lv_goto (tgt := 131) hx hb dX0_addOrSubtract_121 (by decide) ?_
          exact ob_vret (v := 0) hx hb hr hlocks hK hP hD hS (congrArg (fun z : Int32 × Int32 => ((0 : Int32), lo, hi, z.1, z.2)) (Eq.trans (Eq.symm (by rw [fX0_addOrSubtract, if_pos c_1, if_neg c_7, if_pos c_8, if_neg c_9])) hV)) dX0_addOrSubtract_131
      · refine lv_aload_n hx hb dX0_addOrSubtract_86 rfl (lv_at hl 2 rfl) ?_
        refine lv_iload hx hb dX0_addOrSubtract_87 (lv_at hl 1 rfl) ?_
        refine lv_iload hx hb dX0_addOrSubtract_89 (lv_at hl 0 rfl) ?_
        refine ob_callv (ws := (obW 0 h0 a1 a2 d1 d2 lo hi x y)) (wr := []) (rest := []) (As := [.int ((lo p1.toNatClampNeg) + (lo p2.toNatClampNeg)), .int (((hi p1.toNatClampNeg) - (lo p2.toNatClampNeg)) + 128)]) ⟨hx, hb, hml, hown, hts⟩ (meX0_keep l D h0 a1 a2 d1 d2 ((lo p1.toNatClampNeg) + (lo p2.toNatClampNeg)) (((hi p1.toNatClampNeg) - (lo p2.toNatClampNeg)) + 128) lo hi x y) (cwV 2 hts (lw_V q51 q53 qs1 q12 q54) rfl rfl rfl (by decide +kernel) ⟨Nat.le_of_ble_eq_true rfl, Nat.le_of_ble_eq_true rfl⟩) (show vwCl[0]? = some (RX0, TX0, 4) from rfl) rfl hl.1 rfl (Nat.le_of_ble_eq_true rfl) dX0_addOrSubtract_91 ⟨Nat.zero_le _, Nat.zero_le _⟩ hK hP hD hS hA [0, 1, 2] [] rfl rfl (by decide) (by decide) (by decide) (fun H locs hP hD hS => ?_)
        have hP : va_P D vwCl (obW 0 h0 a1 a2 d1 d2 lo hi ((lo p1.toNatClampNeg) + (lo p2.toNatClampNeg)) (((hi p1.toNatClampNeg) - (lo p2.toNatClampNeg)) + 128)) H := hP
        have hD : va_D A (obW 0 h0 a1 a2 d1 d2 lo hi ((lo p1.toNatClampNeg) + (lo p2.toNatClampNeg)) (((hi p1.toNatClampNeg) - (lo p2.toNatClampNeg)) + 128)) := hD
        refine lv_goto (tgt := 131) hx hb dX0_addOrSubtract_94 (by decide) ?_
        exact ob_vret (v := 0) hx hb hr hlocks hK hP hD hS (congrArg (fun z : Int32 × Int32 => ((0 : Int32), lo, hi, z.1, z.2)) (Eq.trans (Eq.symm (by rw [fX0_addOrSubtract, if_pos c_1, if_neg c_7, if_neg c_8])) hV)) dX0_addOrSubtract_131
    · refine lv_aload_n hx hb dX0_addOrSubtract_43 rfl (lv_at hl 1 rfl) ?_
      refine va_get (D := D) (ci := 0) (v := .ref a2) (C := RX0) (T := TX0) (N := 4) hx hb hts in_X0 hown hK hP 0 rfl rfl 1 (by decide) (hts _ q23) (fun _ h9 => h9) rfl dX0_addOrSubtract_44 ?_
      refine lv_iload_n hx hb dX0_addOrSubtract_47 rfl (lv_at hl 3 rfl) ?_
      refine va_iald hx hb hK hP 2 1 rfl rfl hi1 dX0_addOrSubtract_48 ?_
      refine lv_aload_n hx hb dX0_addOrSubtract_49 rfl (lv_at hl 1 rfl) ?_
      refine va_get (D := D) (ci := 0) (v := .ref a2) (C := RX0) (T := TX0) (N := 4) hx hb hts in_X0 hown hK hP 0 rfl rfl 1 (by decide) (hts _ q23) (fun _ h9 => h9) rfl dX0_addOrSubtract_50 ?_
      refine lv_iload_n hx hb dX0_addOrSubtract_53 rfl (lv_at hl 4 rfl) ?_
      refine va_iald hx hb hK hP 2 1 rfl rfl hi2 dX0_addOrSubtract_54 ?_
      refine lv_iadd hx hb dX0_addOrSubtract_55 ?_
      refine lv_goto (tgt := 76) hx hb dX0_addOrSubtract_56 (by decide) ?_
      refine lv_istore (lv' := [(5, .int ((hi p1.toNatClampNeg) + (hi p2.toNatClampNeg))), (4, .int ((lo p1.toNatClampNeg) + (lo p2.toNatClampNeg))), (0, .ref h0), (1, .int p0), (2, .int p1), (3, .int p2)]) hx hb dX0_addOrSubtract_76 hl (by decide) rfl (fun ls hl => ?_)
      refine lv_iload hx hb dX0_addOrSubtract_78 (lv_at hl 0 rfl) ?_
      refine lv_sipush (v := 128) hx hb dX0_addOrSubtract_80 (by decide) ?_
      refine lv_icmp_ge (tgt := 97) hx hb dX0_addOrSubtract_83 (by decide) (fun c_10 => ?_) (fun c_10 => ?_)
      · refine lv_iload hx hb dX0_addOrSubtract_97 (lv_at hl 1 rfl) ?_
        refine lv_sipush (v := 128) hx hb dX0_addOrSubtract_99 (by decide) ?_
        refine lv_icmp_lt (tgt := 124) hx hb dX0_addOrSubtract_102 (by decide) (fun c_11 => ?_) (fun c_11 => ?_)
        · refine lv_aload_n hx hb dX0_addOrSubtract_124 rfl (lv_at hl 2 rfl) ?_
          refine lv_iconst (v := 0) hx hb dX0_addOrSubtract_125 (by decide) ?_
          refine lv_bipush (v := 127) hx hb dX0_addOrSubtract_126 (by decide) ?_
          refine ob_callv (ws := (obW 0 h0 a1 a2 d1 d2 lo hi x y)) (wr := []) (rest := []) (As := [.int 0, .int 127]) ⟨hx, hb, hml, hown, hts⟩ (meX0_keep l D h0 a1 a2 d1 d2 0 127 lo hi x y) (cwV 2 hts (lw_V q51 q53 qs1 q12 q54) rfl rfl rfl (by decide +kernel) ⟨Nat.le_of_ble_eq_true rfl, Nat.le_of_ble_eq_true rfl⟩) (show vwCl[0]? = some (RX0, TX0, 4) from rfl) rfl hl.1 rfl (Nat.le_of_ble_eq_true rfl) dX0_addOrSubtract_128 ⟨Nat.zero_le _, Nat.zero_le _⟩ hK hP hD hS hA [0, 1, 2] [] rfl rfl (by decide) (by decide) (by decide) (fun H locs hP hD hS => ?_)
          have hP : va_P D vwCl (obW 0 h0 a1 a2 d1 d2 lo hi 0 127) H := hP
          have hD : va_D A (obW 0 h0 a1 a2 d1 d2 lo hi 0 127) := hD
          exact ob_vret (v := 0) hx hb hr hlocks hK hP hD hS (congrArg (fun z : Int32 × Int32 => ((0 : Int32), lo, hi, z.1, z.2)) (Eq.trans (Eq.symm (by rw [fX0_addOrSubtract, if_pos c_1, if_pos c_7, if_pos c_10, if_pos c_11])) hV)) dX0_addOrSubtract_131
        · refine lv_aload_n hx hb dX0_addOrSubtract_105 rfl (lv_at hl 2 rfl) ?_
          refine lv_iload hx hb dX0_addOrSubtract_106 (lv_at hl 1 rfl) ?_
          refine lv_sipush (v := 128) hx hb dX0_addOrSubtract_108 (by decide) ?_
          refine lv_isub hx hb dX0_addOrSubtract_111 ?_
          refine lv_iload hx hb dX0_addOrSubtract_112 (lv_at hl 0 rfl) ?_
          refine lv_sipush (v := 128) hx hb dX0_addOrSubtract_114 (by decide) ?_
          refine lv_isub hx hb dX0_addOrSubtract_117 ?_
          refine ob_callv (ws := (obW 0 h0 a1 a2 d1 d2 lo hi x y)) (wr := []) (rest := []) (As := [.int (((lo p1.toNatClampNeg) + (lo p2.toNatClampNeg)) - 128), .int (((hi p1.toNatClampNeg) + (hi p2.toNatClampNeg)) - 128)]) ⟨hx, hb, hml, hown, hts⟩ (meX0_keep l D h0 a1 a2 d1 d2 (((lo p1.toNatClampNeg) + (lo p2.toNatClampNeg)) - 128) (((hi p1.toNatClampNeg) + (hi p2.toNatClampNeg)) - 128) lo hi x y) (cwV 2 hts (lw_V q51 q53 qs1 q12 q54) rfl rfl rfl (by decide +kernel) ⟨Nat.le_of_ble_eq_true rfl, Nat.le_of_ble_eq_true rfl⟩) (show vwCl[0]? = some (RX0, TX0, 4) from rfl) rfl hl.1 rfl (Nat.le_of_ble_eq_true rfl) dX0_addOrSubtract_118 ⟨Nat.zero_le _, Nat.zero_le _⟩ hK hP hD hS hA [0, 1, 2] [] rfl rfl (by decide) (by decide) (by decide) (fun H locs hP hD hS => ?_)
          have hP : va_P D vwCl (obW 0 h0 a1 a2 d1 d2 lo hi (((lo p1.toNatClampNeg) + (lo p2.toNatClampNeg)) - 128) (((hi p1.toNatClampNeg) + (hi p2.toNatClampNeg)) - 128)) H := hP
          have hD : va_D A (obW 0 h0 a1 a2 d1 d2 lo hi (((lo p1.toNatClampNeg) + (lo p2.toNatClampNeg)) - 128) (((hi p1.toNatClampNeg) + (hi p2.toNatClampNeg)) - 128)) := hD
          refine lv_goto (tgt := 131) hx hb dX0_addOrSubtract_121 (by decide) ?_
          exact ob_vret (v := 0) hx hb hr hlocks hK hP hD hS (congrArg (fun z : Int32 × Int32 => ((0 : Int32), lo, hi, z.1, z.2)) (Eq.trans (Eq.symm (by rw [fX0_addOrSubtract, if_pos c_1, if_pos c_7, if_pos c_10, if_neg c_11])) hV)) dX0_addOrSubtract_131
      · refine lv_aload_n hx hb dX0_addOrSubtract_86 rfl (lv_at hl 2 rfl) ?_
        refine lv_iload hx hb dX0_addOrSubtract_87 (lv_at hl 1 rfl) ?_
        refine lv_iload hx hb dX0_addOrSubtract_89 (lv_at hl 0 rfl) ?_
        refine ob_callv (ws := (obW 0 h0 a1 a2 d1 d2 lo hi x y)) (wr := []) (rest := []) (As := [.int ((lo p1.toNatClampNeg) + (lo p2.toNatClampNeg)), .int ((hi p1.toNatClampNeg) + (hi p2.toNatClampNeg))]) ⟨hx, hb, hml, hown, hts⟩ (meX0_keep l D h0 a1 a2 d1 d2 ((lo p1.toNatClampNeg) + (lo p2.toNatClampNeg)) ((hi p1.toNatClampNeg) + (hi p2.toNatClampNeg)) lo hi x y) (cwV 2 hts (lw_V q51 q53 qs1 q12 q54) rfl rfl rfl (by decide +kernel) ⟨Nat.le_of_ble_eq_true rfl, Nat.le_of_ble_eq_true rfl⟩) (show vwCl[0]? = some (RX0, TX0, 4) from rfl) rfl hl.1 rfl (Nat.le_of_ble_eq_true rfl) dX0_addOrSubtract_91 ⟨Nat.zero_le _, Nat.zero_le _⟩ hK hP hD hS hA [0, 1, 2] [] rfl rfl (by decide) (by decide) (by decide) (fun H locs hP hD hS => ?_)
        have hP : va_P D vwCl (obW 0 h0 a1 a2 d1 d2 lo hi ((lo p1.toNatClampNeg) + (lo p2.toNatClampNeg)) ((hi p1.toNatClampNeg) + (hi p2.toNatClampNeg))) H := hP
        have hD : va_D A (obW 0 h0 a1 a2 d1 d2 lo hi ((lo p1.toNatClampNeg) + (lo p2.toNatClampNeg)) ((hi p1.toNatClampNeg) + (hi p2.toNatClampNeg))) := hD
        refine lv_goto (tgt := 131) hx hb dX0_addOrSubtract_94 (by decide) ?_
        exact ob_vret (v := 0) hx hb hr hlocks hK hP hD hS (congrArg (fun z : Int32 × Int32 => ((0 : Int32), lo, hi, z.1, z.2)) (Eq.trans (Eq.symm (by rw [fX0_addOrSubtract, if_pos c_1, if_pos c_7, if_neg c_10])) hV)) dX0_addOrSubtract_131
set_option maxHeartbeats 4000000 in
set_option maxRecDepth 100000 in
theorem meX0_multiplyOrDivide (l : Launch) (D : va_G) (h0 a1 a2 : Nat) (d1 d2 : ClassId) (p0 p1 p2 : Int32) (lo hi : Nat → Int32) (x y : Int32) (hi1 : vp_in p1 6) (hi2 : vp_in p2 6) : ObV l yX0_multiplyOrDivide (ws_ yX0_multiplyOrDivide cX0_multiplyOrDivide 6 none) ({ frames := 1, cells := 0, slots := 0, locals := 22 } : Room) D 0 h0 a1 a2 d1 d2 [.int p0, .int p1, .int p2] lo hi x y ((0 : Int32), lo, hi, (fX0_multiplyOrDivide p0 p1 p2 lo hi).1, (fX0_multiplyOrDivide p0 p1 p2 lo hi).2) := by
  intro sz
  refine Met.ofW (cc := cX0_multiplyOrDivide) (maxL := 6) (ret := none) (by decide) rfl ?_
  intro p e s m args below meth c s₁ B hml hv
  obtain ⟨rfl, hsz, hP, hK, hD0⟩ := hv
  have hx := B.exec
  have hb := B.bytes
  have hr := B.returns
  have hts := atoms_spec (ws := (ws_ yX0_multiplyOrDivide cX0_multiplyOrDivide 6 none)) B.pre
  have hts : ∀ w ∈ lw_all, w.before _ s = true := fun w h => hts w (List.mem_cons_of_mem _ h)
  have hown : s.vm.findClass RX0 = some m.cls := findClass_of_methodNamed B.named
  have hlocks := B.notSynchronized
  subst hsz
  have hD := hD0.self (sz := s.heap.size)
  generalize hAe : va_A (obW 0 h0 a1 a2 d1 d2 lo hi x y) s.heap.size = A at hD ⊢
  have hA : ∀ q : Nat, s.heap.size ≤ q → A q := fun q h => by rw [← hAe]; exact Or.inr h
  have hS : va_S A s.heap s.heap [] := va_S.rf
  have hP : va_P D vwCl (obW 0 h0 a1 a2 d1 d2 lo hi x y) s.heap := hP
  have hl := lv_entry ([.ref h0, .int p0, .int p1, .int p2]) (n := 6) (Nat.le_of_ble_eq_true rfl)
  rw [lg_entry_eq]
  generalize (lg_sl ([.ref h0, .int p0, .int p1, .int p2]) ++ List.replicate (6 - (lg_sl ([.ref h0, .int p0, .int p1, .int p2])).length) Slot.unset).toArray = ls at hl ⊢
  have hl : lv_has ls 6 [(0, .ref h0), (1, .int p0), (2, .int p1), (3, .int p2)] := hl
  generalize hV : fX0_multiplyOrDivide p0 p1 p2 lo hi = V
  refine lv_iload_n hx hb dX0_multiplyOrDivide_0 rfl (lv_at hl 1 rfl) ?_
  refine lv_iconst (v := 5) hx hb dX0_multiplyOrDivide_1 (by decide) ?_
  refine lv_icmp_ne (tgt := 44) hx hb dX0_multiplyOrDivide_2 (by decide) (fun c_1 => ?_) (fun c_1 => ?_)
  · refine lv_aload_n hx hb dX0_multiplyOrDivide_44 rfl (lv_at hl 0 rfl) ?_
    refine va_get (D := D) (ci := 0) (v := .ref a2) (C := RX0) (T := TX0) (N := 4) hx hb hts in_X0 hown hK hP 0 rfl rfl 1 (by decide) (hts _ q23) (fun _ h9 => h9) rfl dX0_multiplyOrDivide_45 ?_
    refine lv_iload_n hx hb dX0_multiplyOrDivide_48 rfl (lv_at hl 3 rfl) ?_
    refine va_iald hx hb hK hP 2 1 rfl rfl hi2 dX0_multiplyOrDivide_49 ?_
    refine lv_if_ne (tgt := 64) hx hb dX0_multiplyOrDivide_50 (by decide) (fun c_2 => ?_) (fun c_2 => ?_)
    · refine lv_aload_n hx hb dX0_multiplyOrDivide_64 rfl (lv_at hl 0 rfl) ?_
      refine va_get (D := D) (ci := 0) (v := .ref a2) (C := RX0) (T := TX0) (N := 4) hx hb hts in_X0 hown hK hP 0 rfl rfl 1 (by decide) (hts _ q23) (fun _ h9 => h9) rfl dX0_multiplyOrDivide_65 ?_
      refine lv_iload_n hx hb dX0_multiplyOrDivide_68 rfl (lv_at hl 3 rfl) ?_
      refine va_iald hx hb hK hP 2 1 rfl rfl hi2 dX0_multiplyOrDivide_69 ?_
      refine lv_istore (lv' := [(4, .int (hi p2.toNatClampNeg)), (0, .ref h0), (1, .int p0), (2, .int p1), (3, .int p2)]) hx hb dX0_multiplyOrDivide_70 hl (by decide) rfl (fun ls hl => ?_)
      refine lv_aload_n hx hb dX0_multiplyOrDivide_72 rfl (lv_at hl 1 rfl) ?_
      refine va_get (D := D) (ci := 0) (v := .ref a1) (C := RX0) (T := TX0) (N := 4) hx hb hts in_X0 hown hK hP 0 rfl rfl 0 (by decide) (hts _ q22) (fun _ h9 => h9) rfl dX0_multiplyOrDivide_73 ?_
      refine lv_iload_n hx hb dX0_multiplyOrDivide_76 rfl (lv_at hl 4 rfl) ?_
      refine va_iald hx hb hK hP 1 0 rfl rfl hi2 dX0_multiplyOrDivide_77 ?_
      refine lv_istore (lv' := [(5, .int (lo p2.toNatClampNeg)), (4, .int (hi p2.toNatClampNeg)), (0, .ref h0), (1, .int p0), (2, .int p1), (3, .int p2)]) hx hb dX0_multiplyOrDivide_78 hl (by decide) rfl (fun ls hl => ?_)
      refine lv_aload_n hx hb dX0_multiplyOrDivide_80 rfl (lv_at hl 2 rfl) ?_
      refine lv_aload_n hx hb dX0_multiplyOrDivide_81 rfl (lv_at hl 2 rfl) ?_
      refine va_get (D := D) (ci := 0) (v := .ref a1) (C := RX0) (T := TX0) (N := 4) hx hb hts in_X0 hown hK hP 0 rfl rfl 0 (by decide) (hts _ q22) (fun _ h9 => h9) rfl dX0_multiplyOrDivide_82 ?_
      refine lv_iload_n hx hb dX0_multiplyOrDivide_85 rfl (lv_at hl 4 rfl) ?_
      refine va_iald hx hb hK hP 1 0 rfl rfl hi1 dX0_multiplyOrDivide_86 ?_
      refine lv_iload hx hb dX0_multiplyOrDivide_87 (lv_at hl 1 rfl) ?_
      refine lv_idiv hx hb dX0_multiplyOrDivide_89 c_2 ?_
      refine lv_iload hx hb dX0_multiplyOrDivide_90 (lv_at hl 0 rfl) ?_
      refine lv_if_le (tgt := 107) hx hb dX0_multiplyOrDivide_92 (by decide) (fun c_3 => ?_) (fun c_3 => ?_)
      · refine lv_bipush (v := 127) hx hb dX0_multiplyOrDivide_107 (by decide) ?_
        refine ob_callv (ws := (obW 0 h0 a1 a2 d1 d2 lo hi x y)) (wr := []) (rest := []) (As := [.int ((lo p1.toNatClampNeg) / (hi p2.toNatClampNeg)), .int 127]) ⟨hx, hb, hml, hown, hts⟩ (meX0_keep l D h0 a1 a2 d1 d2 ((lo p1.toNatClampNeg) / (hi p2.toNatClampNeg)) 127 lo hi x y) (cwV 2 hts (lw_V q51 q53 qs1 q12 q54) rfl rfl rfl (by decide +kernel) ⟨Nat.le_of_ble_eq_true rfl, Nat.le_of_ble_eq_true rfl⟩) (show vwCl[0]? = some (RX0, TX0, 4) from rfl) rfl hl.1 rfl (Nat.le_of_ble_eq_true rfl) dX0_multiplyOrDivide_109 ⟨Nat.zero_le _, Nat.zero_le _⟩ hK hP hD hS hA [0, 1, 2] [] rfl rfl (by decide) (by decide) (by decide) (fun H locs hP hD hS => ?_)
        have hP : va_P D vwCl (obW 0 h0 a1 a2 d1 d2 lo hi ((lo p1.toNatClampNeg) / (hi p2.toNatClampNeg)) 127) H := hP
        have hD : va_D A (obW 0 h0 a1 a2 d1 d2 lo hi ((lo p1.toNatClampNeg) / (hi p2.toNatClampNeg)) 127) := hD
        exact ob_vret (v := 0) hx hb hr hlocks hK hP hD hS (congrArg (fun z : Int32 × Int32 => ((0 : Int32), lo, hi, z.1, z.2)) (Eq.trans (Eq.symm (by rw [fX0_multiplyOrDivide, if_neg c_1, if_neg c_2, if_pos c_3])) hV)) dX0_multiplyOrDivide_112
      · refine lv_aload_n hx hb dX0_multiplyOrDivide_95 rfl (lv_at hl 2 rfl) ?_
        refine va_get (D := D) (ci := 0) (v := .ref a2) (C := RX0) (T := TX0) (N := 4) hx hb hts in_X0 hown hK hP 0 rfl rfl 1 (by decide) (hts _ q23) (fun _ h9 => h9) rfl dX0_multiplyOrDivide_96 ?_
        refine lv_iload_n hx hb dX0_multiplyOrDivide_99 rfl (lv_at hl 4 rfl) ?_
        refine va_iald hx hb hK hP 2 1 rfl rfl hi1 dX0_multiplyOrDivide_100 ?_
        refine lv_iload hx hb dX0_multiplyOrDivide_101 (lv_at hl 0 rfl) ?_
        refine lv_idiv hx hb dX0_multiplyOrDivide_103 (nle_nz c_3) ?_
        refine lv_goto (tgt := 109) hx hb dX0_multiplyOrDivide_104 (by decide) ?_
        refine ob_callv (ws := (obW 0 h0 a1 a2 d1 d2 lo hi x y)) (wr := []) (rest := []) (As := [.int ((lo p1.toNatClampNeg) / (hi p2.toNatClampNeg)), .int ((hi p1.toNatClampNeg) / (lo p2.toNatClampNeg))]) ⟨hx, hb, hml, hown, hts⟩ (meX0_keep l D h0 a1 a2 d1 d2 ((lo p1.toNatClampNeg) / (hi p2.toNatClampNeg)) ((hi p1.toNatClampNeg) / (lo p2.toNatClampNeg)) lo hi x y) (cwV 2 hts (lw_V q51 q53 qs1 q12 q54) rfl rfl rfl (by decide +kernel) ⟨Nat.le_of_ble_eq_true rfl, Nat.le_of_ble_eq_true rfl⟩) (show vwCl[0]? = some (RX0, TX0, 4) from rfl) rfl hl.1 rfl (Nat.le_of_ble_eq_true rfl) dX0_multiplyOrDivide_109 ⟨Nat.zero_le _, Nat.zero_le _⟩ hK hP hD hS hA [0, 1, 2] [] rfl rfl (by decide) (by decide) (by decide) (fun H locs hP hD hS => ?_)
        have hP : va_P D vwCl (obW 0 h0 a1 a2 d1 d2 lo hi ((lo p1.toNatClampNeg) / (hi p2.toNatClampNeg)) ((hi p1.toNatClampNeg) / (lo p2.toNatClampNeg))) H := hP
        have hD : va_D A (obW 0 h0 a1 a2 d1 d2 lo hi ((lo p1.toNatClampNeg) / (hi p2.toNatClampNeg)) ((hi p1.toNatClampNeg) / (lo p2.toNatClampNeg))) := hD
        exact ob_vret (v := 0) hx hb hr hlocks hK hP hD hS (congrArg (fun z : Int32 × Int32 => ((0 : Int32), lo, hi, z.1, z.2)) (Eq.trans (Eq.symm (by rw [fX0_multiplyOrDivide, if_neg c_1, if_neg c_2, if_neg c_3])) hV)) dX0_multiplyOrDivide_112
    · refine lv_aload_n hx hb dX0_multiplyOrDivide_53 rfl (lv_at hl 0 rfl) ?_
      refine lv_bipush (v := 127) hx hb dX0_multiplyOrDivide_54 (by decide) ?_
      refine lv_bipush (v := 127) hx hb dX0_multiplyOrDivide_56 (by decide) ?_
      refine ob_callv (ws := (obW 0 h0 a1 a2 d1 d2 lo hi x y)) (wr := []) (rest := []) (As := [.int 127, .int 127]) ⟨hx, hb, hml, hown, hts⟩ (meX0_keep l D h0 a1 a2 d1 d2 127 127 lo hi x y) (cwV 2 hts (lw_V q51 q53 qs1 q12 q54) rfl rfl rfl (by decide +kernel) ⟨Nat.le_of_ble_eq_true rfl, Nat.le_of_ble_eq_true rfl⟩) (show vwCl[0]? = some (RX0, TX0, 4) from rfl) rfl hl.1 rfl (Nat.le_of_ble_eq_true rfl) dX0_multiplyOrDivide_58 ⟨Nat.zero_le _, Nat.zero_le _⟩ hK hP hD hS hA [0, 1, 2] [] rfl rfl (by decide) (by decide) (by decide) (fun H locs hP hD hS => ?_)
      have hP : va_P D vwCl (obW 0 h0 a1 a2 d1 d2 lo hi 127 127) H := hP
      have hD : va_D A (obW 0 h0 a1 a2 d1 d2 lo hi 127 127) := hD
      refine lv_goto (tgt := 112) hx hb dX0_multiplyOrDivide_61 (by decide) ?_
      exact ob_vret (v := 0) hx hb hr hlocks hK hP hD hS (congrArg (fun z : Int32 × Int32 => ((0 : Int32), lo, hi, z.1, z.2)) (Eq.trans (Eq.symm (by rw [fX0_multiplyOrDivide, if_neg c_1, if_pos c_2])) hV)) dX0_multiplyOrDivide_112
  · refine lv_aload_n hx hb dX0_multiplyOrDivide_5 rfl (lv_at hl 0 rfl) ?_
    refine lv_aload_n hx hb dX0_multiplyOrDivide_6 rfl (lv_at hl 0 rfl) ?_
    refine va_get (D := D) (ci := 0) (v := .ref a1) (C := RX0) (T := TX0) (N := 4) hx hb hts in_X0 hown hK hP 0 rfl rfl 0 (by decide) (hts _ q22) (fun _ h9 => h9) rfl dX0_multiplyOrDivide_7 ?_
    refine lv_iload_n hx hb dX0_multiplyOrDivide_10 rfl (lv_at hl 2 rfl) ?_
    refine va_iald hx hb hK hP 1 0 rfl rfl hi1 dX0_multiplyOrDivide_11 ?_
    refine lv_aload_n hx hb dX0_multiplyOrDivide_12 rfl (lv_at hl 0 rfl) ?_
    refine va_get (D := D) (ci := 0) (v := .ref a1) (C := RX0) (T := TX0) (N := 4) hx hb hts in_X0 hown hK hP 0 rfl rfl 0 (by decide) (hts _ q22) (fun _ h9 => h9) rfl dX0_multiplyOrDivide_13 ?_
    refine lv_iload_n hx hb dX0_multiplyOrDivide_16 rfl (lv_at hl 3 rfl) ?_
    refine va_iald hx hb hK hP 1 0 rfl rfl hi2 dX0_multiplyOrDivide_17 ?_
    refine lv_imul hx hb dX0_multiplyOrDivide_18 ?_
    refine lv_bipush (v := 7) hx hb dX0_multiplyOrDivide_19 (by decide) ?_
    refine lv_ishr hx hb dX0_multiplyOrDivide_21 ?_
    refine lv_aload_n hx hb dX0_multiplyOrDivide_22 rfl (lv_at hl 0 rfl) ?_
    refine va_get (D := D) (ci := 0) (v := .ref a2) (C := RX0) (T := TX0) (N := 4) hx hb hts in_X0 hown hK hP 0 rfl rfl 1 (by decide) (hts _ q23) (fun _ h9 => h9) rfl dX0_multiplyOrDivide_23 ?_
    refine lv_iload_n hx hb dX0_multiplyOrDivide_26 rfl (lv_at hl 2 rfl) ?_
    refine va_iald hx hb hK hP 2 1 rfl rfl hi1 dX0_multiplyOrDivide_27 ?_
    refine lv_aload_n hx hb dX0_multiplyOrDivide_28 rfl (lv_at hl 0 rfl) ?_
    refine va_get (D := D) (ci := 0) (v := .ref a2) (C := RX0) (T := TX0) (N := 4) hx hb hts in_X0 hown hK hP 0 rfl rfl 1 (by decide) (hts _ q23) (fun _ h9 => h9) rfl dX0_multiplyOrDivide_29 ?_
    refine lv_iload_n hx hb dX0_multiplyOrDivide_32 rfl (lv_at hl 3 rfl) ?_
    refine va_iald hx hb hK hP 2 1 rfl rfl hi2 dX0_multiplyOrDivide_33 ?_
    refine lv_imul hx hb dX0_multiplyOrDivide_34 ?_
    refine lv_bipush (v := 7) hx hb dX0_multiplyOrDivide_35 (by decide) ?_
    refine lv_ishr hx hb dX0_multiplyOrDivide_37 ?_
    refine ob_callv (ws := (obW 0 h0 a1 a2 d1 d2 lo hi x y)) (wr := []) (rest := []) (As := [.int (((lo p1.toNatClampNeg) * (lo p2.toNatClampNeg)) >>> (7 &&& 31)), .int (((hi p1.toNatClampNeg) * (hi p2.toNatClampNeg)) >>> (7 &&& 31))]) ⟨hx, hb, hml, hown, hts⟩ (meX0_keep l D h0 a1 a2 d1 d2 (((lo p1.toNatClampNeg) * (lo p2.toNatClampNeg)) >>> (7 &&& 31)) (((hi p1.toNatClampNeg) * (hi p2.toNatClampNeg)) >>> (7 &&& 31)) lo hi x y) (cwV 2 hts (lw_V q51 q53 qs1 q12 q54) rfl rfl rfl (by decide +kernel) ⟨Nat.le_of_ble_eq_true rfl, Nat.le_of_ble_eq_true rfl⟩) (show vwCl[0]? = some (RX0, TX0, 4) from rfl) rfl hl.1 rfl (Nat.le_of_ble_eq_true rfl) dX0_multiplyOrDivide_38 ⟨Nat.zero_le _, Nat.zero_le _⟩ hK hP hD hS hA [0, 1, 2] [] rfl rfl (by decide) (by decide) (by decide) (fun H locs hP hD hS => ?_)
    have hP : va_P D vwCl (obW 0 h0 a1 a2 d1 d2 lo hi (((lo p1.toNatClampNeg) * (lo p2.toNatClampNeg)) >>> (7 &&& 31)) (((hi p1.toNatClampNeg) * (hi p2.toNatClampNeg)) >>> (7 &&& 31))) H := hP
    have hD : va_D A (obW 0 h0 a1 a2 d1 d2 lo hi (((lo p1.toNatClampNeg) * (lo p2.toNatClampNeg)) >>> (7 &&& 31)) (((hi p1.toNatClampNeg) * (hi p2.toNatClampNeg)) >>> (7 &&& 31))) := hD
    refine lv_goto (tgt := 112) hx hb dX0_multiplyOrDivide_41 (by decide) ?_
    exact ob_vret (v := 0) hx hb hr hlocks hK hP hD hS (congrArg (fun z : Int32 × Int32 => ((0 : Int32), lo, hi, z.1, z.2)) (Eq.trans (Eq.symm (by rw [fX0_multiplyOrDivide, if_pos c_1])) hV)) dX0_multiplyOrDivide_112
set_option maxHeartbeats 4000000 in
set_option maxRecDepth 100000 in
theorem meX0_distance (l : Launch) (D : va_G) (h0 a1 a2 : Nat) (d1 d2 : ClassId) (p0 p1 : Int32) (lo hi : Nat → Int32) (x y : Int32) (hi0 : vp_in p0 6) (hi1 : vp_in p1 6) : ObV l yX0_distance (ws_ yX0_distance cX0_distance 5 none) ({ frames := 1, cells := 0, slots := 0, locals := 22 } : Room) D 0 h0 a1 a2 d1 d2 [.int p0, .int p1] lo hi x y ((0 : Int32), lo, hi, (fX0_distance p0 p1 lo hi).1, (fX0_distance p0 p1 lo hi).2) := by
  intro sz
  refine Met.ofW (cc := cX0_distance) (maxL := 5) (ret := none) (by decide) rfl ?_
  intro p e s m args below meth c s₁ B hml hv
  obtain ⟨rfl, hsz, hP, hK, hD0⟩ := hv
  have hx := B.exec
  have hb := B.bytes
  have hr := B.returns
  have hts := atoms_spec (ws := (ws_ yX0_distance cX0_distance 5 none)) B.pre
  have hts : ∀ w ∈ lw_all, w.before _ s = true := fun w h => hts w (List.mem_cons_of_mem _ h)
  have hown : s.vm.findClass RX0 = some m.cls := findClass_of_methodNamed B.named
  have hlocks := B.notSynchronized
  subst hsz
  have hD := hD0.self (sz := s.heap.size)
  generalize hAe : va_A (obW 0 h0 a1 a2 d1 d2 lo hi x y) s.heap.size = A at hD ⊢
  have hA : ∀ q : Nat, s.heap.size ≤ q → A q := fun q h => by rw [← hAe]; exact Or.inr h
  have hS : va_S A s.heap s.heap [] := va_S.rf
  have hP : va_P D vwCl (obW 0 h0 a1 a2 d1 d2 lo hi x y) s.heap := hP
  have hl := lv_entry ([.ref h0, .int p0, .int p1]) (n := 5) (Nat.le_of_ble_eq_true rfl)
  rw [lg_entry_eq]
  generalize (lg_sl ([.ref h0, .int p0, .int p1]) ++ List.replicate (5 - (lg_sl ([.ref h0, .int p0, .int p1])).length) Slot.unset).toArray = ls at hl ⊢
  have hl : lv_has ls 5 [(0, .ref h0), (1, .int p0), (2, .int p1)] := hl
  generalize hV : fX0_distance p0 p1 lo hi = V
  refine lv_aload_n hx hb dX0_distance_0 rfl (lv_at hl 0 rfl) ?_
  refine va_get (D := D) (ci := 0) (v := .ref a1) (C := RX0) (T := TX0) (N := 4) hx hb hts in_X0 hown hK hP 0 rfl rfl 0 (by decide) (hts _ q22) (fun _ h9 => h9) rfl dX0_distance_1 ?_
  refine lv_iload_n hx hb dX0_distance_4 rfl (lv_at hl 1 rfl) ?_
  refine va_iald hx hb hK hP 1 0 rfl rfl hi0 dX0_distance_5 ?_
  refine lv_aload_n hx hb dX0_distance_6 rfl (lv_at hl 0 rfl) ?_
  refine va_get (D := D) (ci := 0) (v := .ref a2) (C := RX0) (T := TX0) (N := 4) hx hb hts in_X0 hown hK hP 0 rfl rfl 1 (by decide) (hts _ q23) (fun _ h9 => h9) rfl dX0_distance_7 ?_
  refine lv_iload_n hx hb dX0_distance_10 rfl (lv_at hl 2 rfl) ?_
  refine va_iald hx hb hK hP 2 1 rfl rfl hi1 dX0_distance_11 ?_
  refine lv_isub hx hb dX0_distance_12 ?_
  refine lv_aload_n hx hb dX0_distance_13 rfl (lv_at hl 0 rfl) ?_
  refine va_get (D := D) (ci := 0) (v := .ref a1) (C := RX0) (T := TX0) (N := 4) hx hb hts in_X0 hown hK hP 0 rfl rfl 0 (by decide) (hts _ q22) (fun _ h9 => h9) rfl dX0_distance_14 ?_
  refine lv_iload_n hx hb dX0_distance_17 rfl (lv_at hl 2 rfl) ?_
  refine va_iald hx hb hK hP 1 0 rfl rfl hi1 dX0_distance_18 ?_
  refine lv_aload_n hx hb dX0_distance_19 rfl (lv_at hl 0 rfl) ?_
  refine va_get (D := D) (ci := 0) (v := .ref a2) (C := RX0) (T := TX0) (N := 4) hx hb hts in_X0 hown hK hP 0 rfl rfl 1 (by decide) (hts _ q23) (fun _ h9 => h9) rfl dX0_distance_20 ?_
  refine lv_iload_n hx hb dX0_distance_23 rfl (lv_at hl 1 rfl) ?_
  refine va_iald hx hb hK hP 2 1 rfl rfl hi0 dX0_distance_24 ?_
  refine lv_isub hx hb dX0_distance_25 ?_
  refine pu_call (As := [.int ((lo p0.toNatClampNeg) - (hi p1.toNatClampNeg)), .int ((lo p1.toNatClampNeg) - (hi p0.toNatClampNeg))]) (rest := []) ⟨hx, hb, hml, hown, hts⟩ (meX0_greater l ((lo p0.toNatClampNeg) - (hi p1.toNatClampNeg)) ((lo p1.toNatClampNeg) - (hi p0.toNatClampNeg))) (va_cwS 2 hts (lw_S q85 q86 q12 q87) rfl rfl rfl (by decide +kernel) ⟨Nat.le_of_ble_eq_true rfl, Nat.le_of_ble_eq_true rfl⟩) rfl hl.1 rfl (Nat.le_of_ble_eq_true rfl) dX0_distance_26 ⟨Nat.zero_le _, Nat.zero_le _⟩ ?_
  refine lv_istore_n (lv' := [(3, .int (fX0_greater ((lo p0.toNatClampNeg) - (hi p1.toNatClampNeg)) ((lo p1.toNatClampNeg) - (hi p0.toNatClampNeg)))), (0, .ref h0), (1, .int p0), (2, .int p1)]) hx hb dX0_distance_29 rfl hl (by decide) rfl (fun ls hl => ?_)
  refine lv_aload_n hx hb dX0_distance_30 rfl (lv_at hl 1 rfl) ?_
  refine va_get (D := D) (ci := 0) (v := .ref a2) (C := RX0) (T := TX0) (N := 4) hx hb hts in_X0 hown hK hP 0 rfl rfl 1 (by decide) (hts _ q23) (fun _ h9 => h9) rfl dX0_distance_31 ?_
  refine lv_iload_n hx hb dX0_distance_34 rfl (lv_at hl 2 rfl) ?_
  refine va_iald hx hb hK hP 2 1 rfl rfl hi0 dX0_distance_35 ?_
  refine lv_aload_n hx hb dX0_distance_36 rfl (lv_at hl 1 rfl) ?_
  refine va_get (D := D) (ci := 0) (v := .ref a1) (C := RX0) (T := TX0) (N := 4) hx hb hts in_X0 hown hK hP 0 rfl rfl 0 (by decide) (hts _ q22) (fun _ h9 => h9) rfl dX0_distance_37 ?_
  refine lv_iload_n hx hb dX0_distance_40 rfl (lv_at hl 3 rfl) ?_
  refine va_iald hx hb hK hP 1 0 rfl rfl hi1 dX0_distance_41 ?_
  refine lv_isub hx hb dX0_distance_42 ?_
  refine lv_aload_n hx hb dX0_distance_43 rfl (lv_at hl 1 rfl) ?_
  refine va_get (D := D) (ci := 0) (v := .ref a2) (C := RX0) (T := TX0) (N := 4) hx hb hts in_X0 hown hK hP 0 rfl rfl 1 (by decide) (hts _ q23) (fun _ h9 => h9) rfl dX0_distance_44 ?_
  refine lv_iload_n hx hb dX0_distance_47 rfl (lv_at hl 3 rfl) ?_
  refine va_iald hx hb hK hP 2 1 rfl rfl hi1 dX0_distance_48 ?_
  refine lv_aload_n hx hb dX0_distance_49 rfl (lv_at hl 1 rfl) ?_
  refine va_get (D := D) (ci := 0) (v := .ref a1) (C := RX0) (T := TX0) (N := 4) hx hb hts in_X0 hown hK hP 0 rfl rfl 0 (by decide) (hts _ q22) (fun _ h9 => h9) rfl dX0_distance_50 ?_
  refine lv_iload_n hx hb dX0_distance_53 rfl (lv_at hl 2 rfl) ?_
  refine va_iald hx hb hK hP 1 0 rfl rfl hi0 dX0_distance_54 ?_
  refine lv_isub hx hb dX0_distance_55 ?_
  refine pu_call (As := [.int ((hi p0.toNatClampNeg) - (lo p1.toNatClampNeg)), .int ((hi p1.toNatClampNeg) - (lo p0.toNatClampNeg))]) (rest := []) ⟨hx, hb, hml, hown, hts⟩ (meX0_greater l ((hi p0.toNatClampNeg) - (lo p1.toNatClampNeg)) ((hi p1.toNatClampNeg) - (lo p0.toNatClampNeg))) (va_cwS 2 hts (lw_S q85 q86 q12 q87) rfl rfl rfl (by decide +kernel) ⟨Nat.le_of_ble_eq_true rfl, Nat.le_of_ble_eq_true rfl⟩) rfl hl.1 rfl (Nat.le_of_ble_eq_true rfl) dX0_distance_56 ⟨Nat.zero_le _, Nat.zero_le _⟩ ?_
  refine lv_istore (lv' := [(4, .int (fX0_greater ((hi p0.toNatClampNeg) - (lo p1.toNatClampNeg)) ((hi p1.toNatClampNeg) - (lo p0.toNatClampNeg)))), (3, .int (fX0_greater ((lo p0.toNatClampNeg) - (hi p1.toNatClampNeg)) ((lo p1.toNatClampNeg) - (hi p0.toNatClampNeg)))), (0, .ref h0), (1, .int p0), (2, .int p1)]) hx hb dX0_distance_59 hl (by decide) rfl (fun ls hl => ?_)
  refine lv_aload_n hx hb dX0_distance_61 rfl (lv_at hl 2 rfl) ?_
  refine lv_iload_n hx hb dX0_distance_62 rfl (lv_at hl 1 rfl) ?_
  refine lv_iconst (v := 0) hx hb dX0_distance_63 (by decide) ?_
  refine pu_call (As := [.int (fX0_greater ((lo p0.toNatClampNeg) - (hi p1.toNatClampNeg)) ((lo p1.toNatClampNeg) - (hi p0.toNatClampNeg))), .int 0]) (rest := [.ref h0]) ⟨hx, hb, hml, hown, hts⟩ (meX0_greater l (fX0_greater ((lo p0.toNatClampNeg) - (hi p1.toNatClampNeg)) ((lo p1.toNatClampNeg) - (hi p0.toNatClampNeg))) 0) (va_cwS 2 hts (lw_S q85 q86 q12 q87) rfl rfl rfl (by decide +kernel) ⟨Nat.le_of_ble_eq_true rfl, Nat.le_of_ble_eq_true rfl⟩) rfl hl.1 rfl (Nat.le_of_ble_eq_true rfl) dX0_distance_64 ⟨Nat.zero_le _, Nat.zero_le _⟩ ?_
  refine lv_iload hx hb dX0_distance_67 (lv_at hl 0 rfl) ?_
  refine ob_callv (ws := (obW 0 h0 a1 a2 d1 d2 lo hi x y)) (wr := []) (rest := []) (As := [.int (fX0_greater (fX0_greater ((lo p0.toNatClampNeg) - (hi p1.toNatClampNeg)) ((lo p1.toNatClampNeg) - (hi p0.toNatClampNeg))) 0), .int (fX0_greater ((hi p0.toNatClampNeg) - (lo p1.toNatClampNeg)) ((hi p1.toNatClampNeg) - (lo p0.toNatClampNeg)))]) ⟨hx, hb, hml, hown, hts⟩ (meX0_keep l D h0 a1 a2 d1 d2 (fX0_greater (fX0_greater ((lo p0.toNatClampNeg) - (hi p1.toNatClampNeg)) ((lo p1.toNatClampNeg) - (hi p0.toNatClampNeg))) 0) (fX0_greater ((hi p0.toNatClampNeg) - (lo p1.toNatClampNeg)) ((hi p1.toNatClampNeg) - (lo p0.toNatClampNeg))) lo hi x y) (cwV 2 hts (lw_V q51 q53 qs1 q12 q54) rfl rfl rfl (by decide +kernel) ⟨Nat.le_of_ble_eq_true rfl, Nat.le_of_ble_eq_true rfl⟩) (show vwCl[0]? = some (RX0, TX0, 4) from rfl) rfl hl.1 rfl (Nat.le_of_ble_eq_true rfl) dX0_distance_69 ⟨Nat.zero_le _, Nat.zero_le _⟩ hK hP hD hS hA [0, 1, 2] [] rfl rfl (by decide) (by decide) (by decide) (fun H locs hP hD hS => ?_)
  have hP : va_P D vwCl (obW 0 h0 a1 a2 d1 d2 lo hi (fX0_greater (fX0_greater ((lo p0.toNatClampNeg) - (hi p1.toNatClampNeg)) ((lo p1.toNatClampNeg) - (hi p0.toNatClampNeg))) 0) (fX0_greater ((hi p0.toNatClampNeg) - (lo p1.toNatClampNeg)) ((hi p1.toNatClampNeg) - (lo p0.toNatClampNeg)))) H := hP
  have hD : va_D A (obW 0 h0 a1 a2 d1 d2 lo hi (fX0_greater (fX0_greater ((lo p0.toNatClampNeg) - (hi p1.toNatClampNeg)) ((lo p1.toNatClampNeg) - (hi p0.toNatClampNeg))) 0) (fX0_greater ((hi p0.toNatClampNeg) - (lo p1.toNatClampNeg)) ((hi p1.toNatClampNeg) - (lo p0.toNatClampNeg)))) := hD
  exact ob_vret (v := 0) hx hb hr hlocks hK hP hD hS (congrArg (fun z : Int32 × Int32 => ((0 : Int32), lo, hi, z.1, z.2)) (Eq.trans (Eq.symm (by rw [fX0_distance])) hV)) dX0_distance_72
set_option maxHeartbeats 4000000 in
set_option maxRecDepth 100000 in
theorem meX0_compareEnds (l : Launch) (D : va_G) (h0 a1 a2 : Nat) (d1 d2 : ClassId) (p0 p1 p2 : Int32) (lo hi : Nat → Int32) (x y : Int32) (hi1 : vp_in p1 6) (hi2 : vp_in p2 6) : ObV l yX0_compareEnds (ws_ yX0_compareEnds cX0_compareEnds 4 none) ({ frames := 1, cells := 0, slots := 0, locals := 22 } : Room) D 0 h0 a1 a2 d1 d2 [.int p0, .int p1, .int p2] lo hi x y ((0 : Int32), lo, hi, (fX0_compareEnds p0 p1 p2 lo hi).1, (fX0_compareEnds p0 p1 p2 lo hi).2) := by
  intro sz
  refine Met.ofW (cc := cX0_compareEnds) (maxL := 4) (ret := none) (by decide) rfl ?_
  intro p e s m args below meth c s₁ B hml hv
  obtain ⟨rfl, hsz, hP, hK, hD0⟩ := hv
  have hx := B.exec
  have hb := B.bytes
  have hr := B.returns
  have hts := atoms_spec (ws := (ws_ yX0_compareEnds cX0_compareEnds 4 none)) B.pre
  have hts : ∀ w ∈ lw_all, w.before _ s = true := fun w h => hts w (List.mem_cons_of_mem _ h)
  have hown : s.vm.findClass RX0 = some m.cls := findClass_of_methodNamed B.named
  have hlocks := B.notSynchronized
  subst hsz
  have hD := hD0.self (sz := s.heap.size)
  generalize hAe : va_A (obW 0 h0 a1 a2 d1 d2 lo hi x y) s.heap.size = A at hD ⊢
  have hA : ∀ q : Nat, s.heap.size ≤ q → A q := fun q h => by rw [← hAe]; exact Or.inr h
  have hS : va_S A s.heap s.heap [] := va_S.rf
  have hP : va_P D vwCl (obW 0 h0 a1 a2 d1 d2 lo hi x y) s.heap := hP
  have hl := lv_entry ([.ref h0, .int p0, .int p1, .int p2]) (n := 4) (Nat.le_of_ble_eq_true rfl)
  rw [lg_entry_eq]
  generalize (lg_sl ([.ref h0, .int p0, .int p1, .int p2]) ++ List.replicate (4 - (lg_sl ([.ref h0, .int p0, .int p1, .int p2])).length) Slot.unset).toArray = ls at hl ⊢
  have hl : lv_has ls 4 [(0, .ref h0), (1, .int p0), (2, .int p1), (3, .int p2)] := hl
  generalize hV : fX0_compareEnds p0 p1 p2 lo hi = V
  refine lv_iload_n hx hb dX0_compareEnds_0 rfl (lv_at hl 1 rfl) ?_
  refine lv_bipush (v := 9) hx hb dX0_compareEnds_1 (by decide) ?_
  refine lv_icmp_ne (tgt := 43) hx hb dX0_compareEnds_3 (by decide) (fun c_1 => ?_) (fun c_1 => ?_)
  · refine lv_iload_n hx hb dX0_compareEnds_43 rfl (lv_at hl 1 rfl) ?_
    refine lv_bipush (v := 10) hx hb dX0_compareEnds_44 (by decide) ?_
    refine lv_icmp_ne (tgt := 86) hx hb dX0_compareEnds_46 (by decide) (fun c_2 => ?_) (fun c_2 => ?_)
    · refine lv_aload_n hx hb dX0_compareEnds_86 rfl (lv_at hl 0 rfl) ?_
      refine lv_aload_n hx hb dX0_compareEnds_87 rfl (lv_at hl 0 rfl) ?_
      refine va_get (D := D) (ci := 0) (v := .ref a1) (C := RX0) (T := TX0) (N := 4) hx hb hts in_X0 hown hK hP 0 rfl rfl 0 (by decide) (hts _ q22) (fun _ h9 => h9) rfl dX0_compareEnds_88 ?_
      refine lv_iload_n hx hb dX0_compareEnds_91 rfl (lv_at hl 2 rfl) ?_
      refine va_iald hx hb hK hP 1 0 rfl rfl hi1 dX0_compareEnds_92 ?_
      refine lv_aload_n hx hb dX0_compareEnds_93 rfl (lv_at hl 0 rfl) ?_
      refine va_get (D := D) (ci := 0) (v := .ref a1) (C := RX0) (T := TX0) (N := 4) hx hb hts in_X0 hown hK hP 0 rfl rfl 0 (by decide) (hts _ q22) (fun _ h9 => h9) rfl dX0_compareEnds_94 ?_
      refine lv_iload_n hx hb dX0_compareEnds_97 rfl (lv_at hl 3 rfl) ?_
      refine va_iald hx hb hK hP 1 0 rfl rfl hi2 dX0_compareEnds_98 ?_
      refine pu_call (As := [.int (lo p1.toNatClampNeg), .int (lo p2.toNatClampNeg)]) (rest := [.ref h0]) ⟨hx, hb, hml, hown, hts⟩ (meX0_greater l (lo p1.toNatClampNeg) (lo p2.toNatClampNeg)) (va_cwS 2 hts (lw_S q85 q86 q12 q87) rfl rfl rfl (by decide +kernel) ⟨Nat.le_of_ble_eq_true rfl, Nat.le_of_ble_eq_true rfl⟩) rfl hl.1 rfl (Nat.le_of_ble_eq_true rfl) dX0_compareEnds_99 ⟨Nat.zero_le _, Nat.zero_le _⟩ ?_
      refine lv_aload_n hx hb dX0_compareEnds_102 rfl (lv_at hl 0 rfl) ?_
      refine va_get (D := D) (ci := 0) (v := .ref a2) (C := RX0) (T := TX0) (N := 4) hx hb hts in_X0 hown hK hP 0 rfl rfl 1 (by decide) (hts _ q23) (fun _ h9 => h9) rfl dX0_compareEnds_103 ?_
      refine lv_iload_n hx hb dX0_compareEnds_106 rfl (lv_at hl 2 rfl) ?_
      refine va_iald hx hb hK hP 2 1 rfl rfl hi1 dX0_compareEnds_107 ?_
      refine lv_aload_n hx hb dX0_compareEnds_108 rfl (lv_at hl 0 rfl) ?_
      refine va_get (D := D) (ci := 0) (v := .ref a2) (C := RX0) (T := TX0) (N := 4) hx hb hts in_X0 hown hK hP 0 rfl rfl 1 (by decide) (hts _ q23) (fun _ h9 => h9) rfl dX0_compareEnds_109 ?_
      refine lv_iload_n hx hb dX0_compareEnds_112 rfl (lv_at hl 3 rfl) ?_
      refine va_iald hx hb hK hP 2 1 rfl rfl hi2 dX0_compareEnds_113 ?_
      refine pu_call (As := [.int (hi p1.toNatClampNeg), .int (hi p2.toNatClampNeg)]) (rest := [.int (fX0_greater (lo p1.toNatClampNeg) (lo p2.toNatClampNeg)), .ref h0]) ⟨hx, hb, hml, hown, hts⟩ (meX0_greater l (hi p1.toNatClampNeg) (hi p2.toNatClampNeg)) (va_cwS 2 hts (lw_S q85 q86 q12 q87) rfl rfl rfl (by decide +kernel) ⟨Nat.le_of_ble_eq_true rfl, Nat.le_of_ble_eq_true rfl⟩) rfl hl.1 rfl (Nat.le_of_ble_eq_true rfl) dX0_compareEnds_114 ⟨Nat.zero_le _, Nat.zero_le _⟩ ?_
      refine ob_callv (ws := (obW 0 h0 a1 a2 d1 d2 lo hi x y)) (wr := []) (rest := []) (As := [.int (fX0_greater (lo p1.toNatClampNeg) (lo p2.toNatClampNeg)), .int (fX0_greater (hi p1.toNatClampNeg) (hi p2.toNatClampNeg))]) ⟨hx, hb, hml, hown, hts⟩ (meX0_keep l D h0 a1 a2 d1 d2 (fX0_greater (lo p1.toNatClampNeg) (lo p2.toNatClampNeg)) (fX0_greater (hi p1.toNatClampNeg) (hi p2.toNatClampNeg)) lo hi x y) (cwV 2 hts (lw_V q51 q53 qs1 q12 q54) rfl rfl rfl (by decide +kernel) ⟨Nat.le_of_ble_eq_true rfl, Nat.le_of_ble_eq_true rfl⟩) (show vwCl[0]? = some (RX0, TX0, 4) from rfl) rfl hl.1 rfl (Nat.le_of_ble_eq_true rfl) dX0_compareEnds_117 ⟨Nat.zero_le _, Nat.zero_le _⟩ hK hP hD hS hA [0, 1, 2] [] rfl rfl (by decide) (by decide) (by decide) (fun H locs hP hD hS => ?_)
      have hP : va_P D vwCl (obW 0 h0 a1 a2 d1 d2 lo hi (fX0_greater (lo p1.toNatClampNeg) (lo p2.toNatClampNeg)) (fX0_greater (hi p1.toNatClampNeg) (hi p2.toNatClampNeg))) H := hP
      have hD : va_D A (obW 0 h0 a1 a2 d1 d2 lo hi (fX0_greater (lo p1.toNatClampNeg) (lo p2.toNatClampNeg)) (fX0_greater (hi p1.toNatClampNeg) (hi p2.toNatClampNeg))) := hD
      exact ob_vret (v := 0) hx hb hr hlocks hK hP hD hS (congrArg (fun z : Int32 × Int32 => ((0 : Int32), lo, hi, z.1, z.2)) (Eq.trans (Eq.symm (by rw [fX0_compareEnds, if_neg c_1, if_neg c_2])) hV)) dX0_compareEnds_120
    · refine lv_aload_n hx hb dX0_compareEnds_49 rfl (lv_at hl 0 rfl) ?_
      refine lv_aload_n hx hb dX0_compareEnds_50 rfl (lv_at hl 0 rfl) ?_
      refine va_get (D := D) (ci := 0) (v := .ref a1) (C := RX0) (T := TX0) (N := 4) hx hb hts in_X0 hown hK hP 0 rfl rfl 0 (by decide) (hts _ q22) (fun _ h9 => h9) rfl dX0_compareEnds_51 ?_
      refine lv_iload_n hx hb dX0_compareEnds_54 rfl (lv_at hl 2 rfl) ?_
      refine va_iald hx hb hK hP 1 0 rfl rfl hi1 dX0_compareEnds_55 ?_
      refine lv_aload_n hx hb dX0_compareEnds_56 rfl (lv_at hl 0 rfl) ?_
      refine va_get (D := D) (ci := 0) (v := .ref a1) (C := RX0) (T := TX0) (N := 4) hx hb hts in_X0 hown hK hP 0 rfl rfl 0 (by decide) (hts _ q22) (fun _ h9 => h9) rfl dX0_compareEnds_57 ?_
      refine lv_iload_n hx hb dX0_compareEnds_60 rfl (lv_at hl 3 rfl) ?_
      refine va_iald hx hb hK hP 1 0 rfl rfl hi2 dX0_compareEnds_61 ?_
      refine pu_call (As := [.int (lo p1.toNatClampNeg), .int (lo p2.toNatClampNeg)]) (rest := [.ref h0]) ⟨hx, hb, hml, hown, hts⟩ (meX0_greater l (lo p1.toNatClampNeg) (lo p2.toNatClampNeg)) (va_cwS 2 hts (lw_S q85 q86 q12 q87) rfl rfl rfl (by decide +kernel) ⟨Nat.le_of_ble_eq_true rfl, Nat.le_of_ble_eq_true rfl⟩) rfl hl.1 rfl (Nat.le_of_ble_eq_true rfl) dX0_compareEnds_62 ⟨Nat.zero_le _, Nat.zero_le _⟩ ?_
      refine lv_aload_n hx hb dX0_compareEnds_65 rfl (lv_at hl 0 rfl) ?_
      refine va_get (D := D) (ci := 0) (v := .ref a2) (C := RX0) (T := TX0) (N := 4) hx hb hts in_X0 hown hK hP 0 rfl rfl 1 (by decide) (hts _ q23) (fun _ h9 => h9) rfl dX0_compareEnds_66 ?_
      refine lv_iload_n hx hb dX0_compareEnds_69 rfl (lv_at hl 2 rfl) ?_
      refine va_iald hx hb hK hP 2 1 rfl rfl hi1 dX0_compareEnds_70 ?_
      refine lv_aload_n hx hb dX0_compareEnds_71 rfl (lv_at hl 0 rfl) ?_
      refine va_get (D := D) (ci := 0) (v := .ref a2) (C := RX0) (T := TX0) (N := 4) hx hb hts in_X0 hown hK hP 0 rfl rfl 1 (by decide) (hts _ q23) (fun _ h9 => h9) rfl dX0_compareEnds_72 ?_
      refine lv_iload_n hx hb dX0_compareEnds_75 rfl (lv_at hl 3 rfl) ?_
      refine va_iald hx hb hK hP 2 1 rfl rfl hi2 dX0_compareEnds_76 ?_
      refine pu_call (As := [.int (hi p1.toNatClampNeg), .int (hi p2.toNatClampNeg)]) (rest := [.int (fX0_greater (lo p1.toNatClampNeg) (lo p2.toNatClampNeg)), .ref h0]) ⟨hx, hb, hml, hown, hts⟩ (meX0_lesser l (hi p1.toNatClampNeg) (hi p2.toNatClampNeg)) (va_cwS 2 hts (lw_S q92 q93 q12 q94) rfl rfl rfl (by decide +kernel) ⟨Nat.le_of_ble_eq_true rfl, Nat.le_of_ble_eq_true rfl⟩) rfl hl.1 rfl (Nat.le_of_ble_eq_true rfl) dX0_compareEnds_77 ⟨Nat.zero_le _, Nat.zero_le _⟩ ?_
      refine ob_callv (ws := (obW 0 h0 a1 a2 d1 d2 lo hi x y)) (wr := []) (rest := []) (As := [.int (fX0_greater (lo p1.toNatClampNeg) (lo p2.toNatClampNeg)), .int (fX0_lesser (hi p1.toNatClampNeg) (hi p2.toNatClampNeg))]) ⟨hx, hb, hml, hown, hts⟩ (meX0_keep l D h0 a1 a2 d1 d2 (fX0_greater (lo p1.toNatClampNeg) (lo p2.toNatClampNeg)) (fX0_lesser (hi p1.toNatClampNeg) (hi p2.toNatClampNeg)) lo hi x y) (cwV 2 hts (lw_V q51 q53 qs1 q12 q54) rfl rfl rfl (by decide +kernel) ⟨Nat.le_of_ble_eq_true rfl, Nat.le_of_ble_eq_true rfl⟩) (show vwCl[0]? = some (RX0, TX0, 4) from rfl) rfl hl.1 rfl (Nat.le_of_ble_eq_true rfl) dX0_compareEnds_80 ⟨Nat.zero_le _, Nat.zero_le _⟩ hK hP hD hS hA [0, 1, 2] [] rfl rfl (by decide) (by decide) (by decide) (fun H locs hP hD hS => ?_)
      have hP : va_P D vwCl (obW 0 h0 a1 a2 d1 d2 lo hi (fX0_greater (lo p1.toNatClampNeg) (lo p2.toNatClampNeg)) (fX0_lesser (hi p1.toNatClampNeg) (hi p2.toNatClampNeg))) H := hP
      have hD : va_D A (obW 0 h0 a1 a2 d1 d2 lo hi (fX0_greater (lo p1.toNatClampNeg) (lo p2.toNatClampNeg)) (fX0_lesser (hi p1.toNatClampNeg) (hi p2.toNatClampNeg))) := hD
      refine lv_goto (tgt := 120) hx hb dX0_compareEnds_83 (by decide) ?_
      exact ob_vret (v := 0) hx hb hr hlocks hK hP hD hS (congrArg (fun z : Int32 × Int32 => ((0 : Int32), lo, hi, z.1, z.2)) (Eq.trans (Eq.symm (by rw [fX0_compareEnds, if_neg c_1, if_pos c_2])) hV)) dX0_compareEnds_120
  · refine lv_aload_n hx hb dX0_compareEnds_6 rfl (lv_at hl 0 rfl) ?_
    refine lv_aload_n hx hb dX0_compareEnds_7 rfl (lv_at hl 0 rfl) ?_
    refine va_get (D := D) (ci := 0) (v := .ref a1) (C := RX0) (T := TX0) (N := 4) hx hb hts in_X0 hown hK hP 0 rfl rfl 0 (by decide) (hts _ q22) (fun _ h9 => h9) rfl dX0_compareEnds_8 ?_
    refine lv_iload_n hx hb dX0_compareEnds_11 rfl (lv_at hl 2 rfl) ?_
    refine va_iald hx hb hK hP 1 0 rfl rfl hi1 dX0_compareEnds_12 ?_
    refine lv_aload_n hx hb dX0_compareEnds_13 rfl (lv_at hl 0 rfl) ?_
    refine va_get (D := D) (ci := 0) (v := .ref a1) (C := RX0) (T := TX0) (N := 4) hx hb hts in_X0 hown hK hP 0 rfl rfl 0 (by decide) (hts _ q22) (fun _ h9 => h9) rfl dX0_compareEnds_14 ?_
    refine lv_iload_n hx hb dX0_compareEnds_17 rfl (lv_at hl 3 rfl) ?_
    refine va_iald hx hb hK hP 1 0 rfl rfl hi2 dX0_compareEnds_18 ?_
    refine pu_call (As := [.int (lo p1.toNatClampNeg), .int (lo p2.toNatClampNeg)]) (rest := [.ref h0]) ⟨hx, hb, hml, hown, hts⟩ (meX0_lesser l (lo p1.toNatClampNeg) (lo p2.toNatClampNeg)) (va_cwS 2 hts (lw_S q92 q93 q12 q94) rfl rfl rfl (by decide +kernel) ⟨Nat.le_of_ble_eq_true rfl, Nat.le_of_ble_eq_true rfl⟩) rfl hl.1 rfl (Nat.le_of_ble_eq_true rfl) dX0_compareEnds_19 ⟨Nat.zero_le _, Nat.zero_le _⟩ ?_
    refine lv_aload_n hx hb dX0_compareEnds_22 rfl (lv_at hl 0 rfl) ?_
    refine va_get (D := D) (ci := 0) (v := .ref a2) (C := RX0) (T := TX0) (N := 4) hx hb hts in_X0 hown hK hP 0 rfl rfl 1 (by decide) (hts _ q23) (fun _ h9 => h9) rfl dX0_compareEnds_23 ?_
    refine lv_iload_n hx hb dX0_compareEnds_26 rfl (lv_at hl 2 rfl) ?_
    refine va_iald hx hb hK hP 2 1 rfl rfl hi1 dX0_compareEnds_27 ?_
    refine lv_aload_n hx hb dX0_compareEnds_28 rfl (lv_at hl 0 rfl) ?_
    refine va_get (D := D) (ci := 0) (v := .ref a2) (C := RX0) (T := TX0) (N := 4) hx hb hts in_X0 hown hK hP 0 rfl rfl 1 (by decide) (hts _ q23) (fun _ h9 => h9) rfl dX0_compareEnds_29 ?_
    refine lv_iload_n hx hb dX0_compareEnds_32 rfl (lv_at hl 3 rfl) ?_
    refine va_iald hx hb hK hP 2 1 rfl rfl hi2 dX0_compareEnds_33 ?_
    refine pu_call (As := [.int (hi p1.toNatClampNeg), .int (hi p2.toNatClampNeg)]) (rest := [.int (fX0_lesser (lo p1.toNatClampNeg) (lo p2.toNatClampNeg)), .ref h0]) ⟨hx, hb, hml, hown, hts⟩ (meX0_greater l (hi p1.toNatClampNeg) (hi p2.toNatClampNeg)) (va_cwS 2 hts (lw_S q85 q86 q12 q87) rfl rfl rfl (by decide +kernel) ⟨Nat.le_of_ble_eq_true rfl, Nat.le_of_ble_eq_true rfl⟩) rfl hl.1 rfl (Nat.le_of_ble_eq_true rfl) dX0_compareEnds_34 ⟨Nat.zero_le _, Nat.zero_le _⟩ ?_
    refine ob_callv (ws := (obW 0 h0 a1 a2 d1 d2 lo hi x y)) (wr := []) (rest := []) (As := [.int (fX0_lesser (lo p1.toNatClampNeg) (lo p2.toNatClampNeg)), .int (fX0_greater (hi p1.toNatClampNeg) (hi p2.toNatClampNeg))]) ⟨hx, hb, hml, hown, hts⟩ (meX0_keep l D h0 a1 a2 d1 d2 (fX0_lesser (lo p1.toNatClampNeg) (lo p2.toNatClampNeg)) (fX0_greater (hi p1.toNatClampNeg) (hi p2.toNatClampNeg)) lo hi x y) (cwV 2 hts (lw_V q51 q53 qs1 q12 q54) rfl rfl rfl (by decide +kernel) ⟨Nat.le_of_ble_eq_true rfl, Nat.le_of_ble_eq_true rfl⟩) (show vwCl[0]? = some (RX0, TX0, 4) from rfl) rfl hl.1 rfl (Nat.le_of_ble_eq_true rfl) dX0_compareEnds_37 ⟨Nat.zero_le _, Nat.zero_le _⟩ hK hP hD hS hA [0, 1, 2] [] rfl rfl (by decide) (by decide) (by decide) (fun H locs hP hD hS => ?_)
    have hP : va_P D vwCl (obW 0 h0 a1 a2 d1 d2 lo hi (fX0_lesser (lo p1.toNatClampNeg) (lo p2.toNatClampNeg)) (fX0_greater (hi p1.toNatClampNeg) (hi p2.toNatClampNeg))) H := hP
    have hD : va_D A (obW 0 h0 a1 a2 d1 d2 lo hi (fX0_lesser (lo p1.toNatClampNeg) (lo p2.toNatClampNeg)) (fX0_greater (hi p1.toNatClampNeg) (hi p2.toNatClampNeg))) := hD
    refine lv_goto (tgt := 120) hx hb dX0_compareEnds_40 (by decide) ?_
    exact ob_vret (v := 0) hx hb hr hlocks hK hP hD hS (congrArg (fun z : Int32 × Int32 => ((0 : Int32), lo, hi, z.1, z.2)) (Eq.trans (Eq.symm (by rw [fX0_compareEnds, if_pos c_1])) hV)) dX0_compareEnds_120
set_option maxHeartbeats 4000000 in
set_option maxRecDepth 100000 in
theorem meX0_doubled (l : Launch) (D : va_G) (h0 a1 a2 : Nat) (d1 d2 : ClassId) (p0 p1 : Int32) (lo hi : Nat → Int32) (x y : Int32) : ObV l yX0_doubled (ws_ yX0_doubled cX0_doubled 3 none) ({ frames := 1, cells := 0, slots := 0, locals := 22 } : Room) D 0 h0 a1 a2 d1 d2 [.int p0, .int p1] lo hi x y ((0 : Int32), lo, hi, (fX0_doubled p0 p1).1, (fX0_doubled p0 p1).2) := by
  intro sz
  refine Met.ofW (cc := cX0_doubled) (maxL := 3) (ret := none) (by decide) rfl ?_
  intro p e s m args below meth c s₁ B hml hv
  obtain ⟨rfl, hsz, hP, hK, hD0⟩ := hv
  have hx := B.exec
  have hb := B.bytes
  have hr := B.returns
  have hts := atoms_spec (ws := (ws_ yX0_doubled cX0_doubled 3 none)) B.pre
  have hts : ∀ w ∈ lw_all, w.before _ s = true := fun w h => hts w (List.mem_cons_of_mem _ h)
  have hown : s.vm.findClass RX0 = some m.cls := findClass_of_methodNamed B.named
  have hlocks := B.notSynchronized
  subst hsz
  have hD := hD0.self (sz := s.heap.size)
  generalize hAe : va_A (obW 0 h0 a1 a2 d1 d2 lo hi x y) s.heap.size = A at hD ⊢
  have hA : ∀ q : Nat, s.heap.size ≤ q → A q := fun q h => by rw [← hAe]; exact Or.inr h
  have hS : va_S A s.heap s.heap [] := va_S.rf
  have hP : va_P D vwCl (obW 0 h0 a1 a2 d1 d2 lo hi x y) s.heap := hP
  have hl := lv_entry ([.ref h0, .int p0, .int p1]) (n := 3) (Nat.le_of_ble_eq_true rfl)
  rw [lg_entry_eq]
  generalize (lg_sl ([.ref h0, .int p0, .int p1]) ++ List.replicate (3 - (lg_sl ([.ref h0, .int p0, .int p1])).length) Slot.unset).toArray = ls at hl ⊢
  have hl : lv_has ls 3 [(0, .ref h0), (1, .int p0), (2, .int p1)] := hl
  generalize hV : fX0_doubled p0 p1 = V
  refine lv_iload_n hx hb dX0_doubled_0 rfl (lv_at hl 2 rfl) ?_
  refine lv_bipush (v := 64) hx hb dX0_doubled_1 (by decide) ?_
  refine lv_icmp_ge (tgt := 19) hx hb dX0_doubled_3 (by decide) (fun c_1 => ?_) (fun c_1 => ?_)
  · refine lv_iload_n hx hb dX0_doubled_19 rfl (lv_at hl 1 rfl) ?_
    refine lv_bipush (v := 64) hx hb dX0_doubled_20 (by decide) ?_
    refine lv_icmp_lt (tgt := 46) hx hb dX0_doubled_22 (by decide) (fun c_2 => ?_) (fun c_2 => ?_)
    · refine lv_aload_n hx hb dX0_doubled_46 rfl (lv_at hl 0 rfl) ?_
      refine lv_iconst (v := 0) hx hb dX0_doubled_47 (by decide) ?_
      refine lv_bipush (v := 126) hx hb dX0_doubled_48 (by decide) ?_
      refine ob_callv (ws := (obW 0 h0 a1 a2 d1 d2 lo hi x y)) (wr := []) (rest := []) (As := [.int 0, .int 126]) ⟨hx, hb, hml, hown, hts⟩ (meX0_keep l D h0 a1 a2 d1 d2 0 126 lo hi x y) (cwV 2 hts (lw_V q51 q53 qs1 q12 q54) rfl rfl rfl (by decide +kernel) ⟨Nat.le_of_ble_eq_true rfl, Nat.le_of_ble_eq_true rfl⟩) (show vwCl[0]? = some (RX0, TX0, 4) from rfl) rfl hl.1 rfl (Nat.le_of_ble_eq_true rfl) dX0_doubled_50 ⟨Nat.zero_le _, Nat.zero_le _⟩ hK hP hD hS hA [0, 1, 2] [] rfl rfl (by decide) (by decide) (by decide) (fun H locs hP hD hS => ?_)
      have hP : va_P D vwCl (obW 0 h0 a1 a2 d1 d2 lo hi 0 126) H := hP
      have hD : va_D A (obW 0 h0 a1 a2 d1 d2 lo hi 0 126) := hD
      exact ob_vret (v := 0) hx hb hr hlocks hK hP hD hS (congrArg (fun z : Int32 × Int32 => ((0 : Int32), lo, hi, z.1, z.2)) (Eq.trans (Eq.symm (by rw [fX0_doubled, if_pos c_1, if_pos c_2])) hV)) dX0_doubled_53
    · refine lv_aload_n hx hb dX0_doubled_25 rfl (lv_at hl 0 rfl) ?_
      refine lv_iconst (v := 2) hx hb dX0_doubled_26 (by decide) ?_
      refine lv_iload_n hx hb dX0_doubled_27 rfl (lv_at hl 1 rfl) ?_
      refine lv_imul hx hb dX0_doubled_28 ?_
      refine lv_sipush (v := 128) hx hb dX0_doubled_29 (by decide) ?_
      refine lv_isub hx hb dX0_doubled_32 ?_
      refine lv_iconst (v := 2) hx hb dX0_doubled_33 (by decide) ?_
      refine lv_iload_n hx hb dX0_doubled_34 rfl (lv_at hl 2 rfl) ?_
      refine lv_imul hx hb dX0_doubled_35 ?_
      refine lv_sipush (v := 128) hx hb dX0_doubled_36 (by decide) ?_
      refine lv_isub hx hb dX0_doubled_39 ?_
      refine ob_callv (ws := (obW 0 h0 a1 a2 d1 d2 lo hi x y)) (wr := []) (rest := []) (As := [.int ((2 * p0) - 128), .int ((2 * p1) - 128)]) ⟨hx, hb, hml, hown, hts⟩ (meX0_keep l D h0 a1 a2 d1 d2 ((2 * p0) - 128) ((2 * p1) - 128) lo hi x y) (cwV 2 hts (lw_V q51 q53 qs1 q12 q54) rfl rfl rfl (by decide +kernel) ⟨Nat.le_of_ble_eq_true rfl, Nat.le_of_ble_eq_true rfl⟩) (show vwCl[0]? = some (RX0, TX0, 4) from rfl) rfl hl.1 rfl (Nat.le_of_ble_eq_true rfl) dX0_doubled_40 ⟨Nat.zero_le _, Nat.zero_le _⟩ hK hP hD hS hA [0, 1, 2] [] rfl rfl (by decide) (by decide) (by decide) (fun H locs hP hD hS => ?_)
      have hP : va_P D vwCl (obW 0 h0 a1 a2 d1 d2 lo hi ((2 * p0) - 128) ((2 * p1) - 128)) H := hP
      have hD : va_D A (obW 0 h0 a1 a2 d1 d2 lo hi ((2 * p0) - 128) ((2 * p1) - 128)) := hD
      refine lv_goto (tgt := 53) hx hb dX0_doubled_43 (by decide) ?_
      exact ob_vret (v := 0) hx hb hr hlocks hK hP hD hS (congrArg (fun z : Int32 × Int32 => ((0 : Int32), lo, hi, z.1, z.2)) (Eq.trans (Eq.symm (by rw [fX0_doubled, if_pos c_1, if_neg c_2])) hV)) dX0_doubled_53
  · refine lv_aload_n hx hb dX0_doubled_6 rfl (lv_at hl 0 rfl) ?_
    refine lv_iconst (v := 2) hx hb dX0_doubled_7 (by decide) ?_
    refine lv_iload_n hx hb dX0_doubled_8 rfl (lv_at hl 1 rfl) ?_
    refine lv_imul hx hb dX0_doubled_9 ?_
    refine lv_iconst (v := 2) hx hb dX0_doubled_10 (by decide) ?_
    refine lv_iload_n hx hb dX0_doubled_11 rfl (lv_at hl 2 rfl) ?_
    refine lv_imul hx hb dX0_doubled_12 ?_
    refine ob_callv (ws := (obW 0 h0 a1 a2 d1 d2 lo hi x y)) (wr := []) (rest := []) (As := [.int (2 * p0), .int (2 * p1)]) ⟨hx, hb, hml, hown, hts⟩ (meX0_keep l D h0 a1 a2 d1 d2 (2 * p0) (2 * p1) lo hi x y) (cwV 2 hts (lw_V q51 q53 qs1 q12 q54) rfl rfl rfl (by decide +kernel) ⟨Nat.le_of_ble_eq_true rfl, Nat.le_of_ble_eq_true rfl⟩) (show vwCl[0]? = some (RX0, TX0, 4) from rfl) rfl hl.1 rfl (Nat.le_of_ble_eq_true rfl) dX0_doubled_13 ⟨Nat.zero_le _, Nat.zero_le _⟩ hK hP hD hS hA [0, 1, 2] [] rfl rfl (by decide) (by decide) (by decide) (fun H locs hP hD hS => ?_)
    have hP : va_P D vwCl (obW 0 h0 a1 a2 d1 d2 lo hi (2 * p0) (2 * p1)) H := hP
    have hD : va_D A (obW 0 h0 a1 a2 d1 d2 lo hi (2 * p0) (2 * p1)) := hD
    refine lv_goto (tgt := 53) hx hb dX0_doubled_16 (by decide) ?_
    exact ob_vret (v := 0) hx hb hr hlocks hK hP hD hS (congrArg (fun z : Int32 × Int32 => ((0 : Int32), lo, hi, z.1, z.2)) (Eq.trans (Eq.symm (by rw [fX0_doubled, if_neg c_1])) hV)) dX0_doubled_53
set_option maxHeartbeats 4000000 in
set_option maxRecDepth 100000 in
theorem meX0_bitwise (l : Launch) (D : va_G) (h0 a1 a2 : Nat) (d1 d2 : ClassId) (p0 p1 p2 p3 p4 : Int32) (lo hi : Nat → Int32) (x y : Int32) : ObV l yX0_bitwise (ws_ yX0_bitwise cX0_bitwise 8 none) ({ frames := 2, cells := 0, slots := 0, locals := 49 } : Room) D 0 h0 a1 a2 d1 d2 [.int p0, .int p1, .int p2, .int p3, .int p4] lo hi x y ((0 : Int32), lo, hi, (fX0_bitwise p0 p1 p2 p3 p4).1, (fX0_bitwise p0 p1 p2 p3 p4).2) := by
  intro sz
  refine Met.ofW (cc := cX0_bitwise) (maxL := 8) (ret := none) (by decide) rfl ?_
  intro p e s m args below meth c s₁ B hml hv
  obtain ⟨rfl, hsz, hP, hK, hD0⟩ := hv
  have hx := B.exec
  have hb := B.bytes
  have hr := B.returns
  have hts := atoms_spec (ws := (ws_ yX0_bitwise cX0_bitwise 8 none)) B.pre
  have hts : ∀ w ∈ lw_all, w.before _ s = true := fun w h => hts w (List.mem_cons_of_mem _ h)
  have hown : s.vm.findClass RX0 = some m.cls := findClass_of_methodNamed B.named
  have hlocks := B.notSynchronized
  subst hsz
  have hD := hD0.self (sz := s.heap.size)
  generalize hAe : va_A (obW 0 h0 a1 a2 d1 d2 lo hi x y) s.heap.size = A at hD ⊢
  have hA : ∀ q : Nat, s.heap.size ≤ q → A q := fun q h => by rw [← hAe]; exact Or.inr h
  have hS : va_S A s.heap s.heap [] := va_S.rf
  have hP : va_P D vwCl (obW 0 h0 a1 a2 d1 d2 lo hi x y) s.heap := hP
  have hl := lv_entry ([.ref h0, .int p0, .int p1, .int p2, .int p3, .int p4]) (n := 8) (Nat.le_of_ble_eq_true rfl)
  rw [lg_entry_eq]
  generalize (lg_sl ([.ref h0, .int p0, .int p1, .int p2, .int p3, .int p4]) ++ List.replicate (8 - (lg_sl ([.ref h0, .int p0, .int p1, .int p2, .int p3, .int p4])).length) Slot.unset).toArray = ls at hl ⊢
  have hl : lv_has ls 8 [(0, .ref h0), (1, .int p0), (2, .int p1), (3, .int p2), (4, .int p3), (5, .int p4)] := hl
  generalize hV : fX0_bitwise p0 p1 p2 p3 p4 = V
  refine lv_iload_n hx hb dX0_bitwise_0 rfl (lv_at hl 1 rfl) ?_
  refine lv_iconst (v := 3) hx hb dX0_bitwise_1 (by decide) ?_
  refine lv_icmp_ne (tgt := 38) hx hb dX0_bitwise_2 (by decide) (fun c_1 => ?_) (fun c_1 => ?_)
  · refine lv_iload_n hx hb dX0_bitwise_38 rfl (lv_at hl 1 rfl) ?_
    refine lv_iconst (v := 2) hx hb dX0_bitwise_39 (by decide) ?_
    refine lv_icmp_ne (tgt := 106) hx hb dX0_bitwise_40 (by decide) (fun c_2 => ?_) (fun c_2 => ?_)
    · refine lv_iload_n hx hb dX0_bitwise_106 rfl (lv_at hl 2 rfl) ?_
      refine lv_iload_n hx hb dX0_bitwise_107 rfl (lv_at hl 3 rfl) ?_
      refine lv_iload hx hb dX0_bitwise_108 (lv_at hl 4 rfl) ?_
      refine lv_iload hx hb dX0_bitwise_110 (lv_at hl 5 rfl) ?_
      refine pu_call (As := [.int p1, .int p2, .int p3, .int p4]) (rest := []) ⟨hx, hb, hml, hown, hts⟩ (meX0_leastXor l p1 p2 p3 p4) (va_cwS 4 hts (lw_S q71 q72 q12 q73) rfl rfl rfl (by decide +kernel) ⟨Nat.le_of_ble_eq_true rfl, Nat.le_of_ble_eq_true rfl⟩) rfl hl.1 rfl (Nat.le_of_ble_eq_true rfl) dX0_bitwise_112 ⟨Nat.zero_le _, Nat.zero_le _⟩ ?_
      refine lv_istore (lv' := [(6, .int (fX0_leastXor p1 p2 p3 p4)), (0, .ref h0), (1, .int p0), (2, .int p1), (3, .int p2), (4, .int p3), (5, .int p4)]) hx hb dX0_bitwise_115 hl (by decide) rfl (fun ls hl => ?_)
      refine lv_iload_n hx hb dX0_bitwise_117 rfl (lv_at hl 3 rfl) ?_
      refine lv_iload_n hx hb dX0_bitwise_118 rfl (lv_at hl 4 rfl) ?_
      refine lv_iload hx hb dX0_bitwise_119 (lv_at hl 5 rfl) ?_
      refine lv_iload hx hb dX0_bitwise_121 (lv_at hl 6 rfl) ?_
      refine pu_call (As := [.int p1, .int p2, .int p3, .int p4]) (rest := []) ⟨hx, hb, hml, hown, hts⟩ (meX0_greatestXor l p1 p2 p3 p4) (va_cwS 4 hts (lw_S q74 q75 q12 q76) rfl rfl rfl (by decide +kernel) ⟨Nat.le_of_ble_eq_true rfl, Nat.le_of_ble_eq_true rfl⟩) rfl hl.1 rfl (Nat.le_of_ble_eq_true rfl) dX0_bitwise_123 ⟨Nat.zero_le _, Nat.zero_le _⟩ ?_
      refine lv_istore (lv' := [(7, .int (fX0_greatestXor p1 p2 p3 p4)), (6, .int (fX0_leastXor p1 p2 p3 p4)), (0, .ref h0), (1, .int p0), (2, .int p1), (3, .int p2), (4, .int p3), (5, .int p4)]) hx hb dX0_bitwise_126 hl (by decide) rfl (fun ls hl => ?_)
      refine lv_aload_n hx hb dX0_bitwise_128 rfl (lv_at hl 2 rfl) ?_
      refine lv_iload hx hb dX0_bitwise_129 (lv_at hl 1 rfl) ?_
      refine lv_iload hx hb dX0_bitwise_131 (lv_at hl 0 rfl) ?_
      refine ob_callv (ws := (obW 0 h0 a1 a2 d1 d2 lo hi x y)) (wr := []) (rest := []) (As := [.int (fX0_leastXor p1 p2 p3 p4), .int (fX0_greatestXor p1 p2 p3 p4)]) ⟨hx, hb, hml, hown, hts⟩ (meX0_keep l D h0 a1 a2 d1 d2 (fX0_leastXor p1 p2 p3 p4) (fX0_greatestXor p1 p2 p3 p4) lo hi x y) (cwV 2 hts (lw_V q51 q53 qs1 q12 q54) rfl rfl rfl (by decide +kernel) ⟨Nat.le_of_ble_eq_true rfl, Nat.le_of_ble_eq_true rfl⟩) (show vwCl[0]? = some (RX0, TX0, 4) from rfl) rfl hl.1 rfl (Nat.le_of_ble_eq_true rfl) dX0_bitwise_133 ⟨Nat.zero_le _, Nat.zero_le _⟩ hK hP hD hS hA [0, 1, 2] [] rfl rfl (by decide) (by decide) (by decide) (fun H locs hP hD hS => ?_)
      have hP : va_P D vwCl (obW 0 h0 a1 a2 d1 d2 lo hi (fX0_leastXor p1 p2 p3 p4) (fX0_greatestXor p1 p2 p3 p4)) H := hP
      have hD : va_D A (obW 0 h0 a1 a2 d1 d2 lo hi (fX0_leastXor p1 p2 p3 p4) (fX0_greatestXor p1 p2 p3 p4)) := hD
      exact ob_vret (v := 0) hx hb hr hlocks hK hP hD hS (congrArg (fun z : Int32 × Int32 => ((0 : Int32), lo, hi, z.1, z.2)) (Eq.trans (Eq.symm (by rw [fX0_bitwise, if_neg c_1, if_neg c_2])) hV)) dX0_bitwise_136
    · refine lv_bipush (v := 127) hx hb dX0_bitwise_43 (by decide) ?_
      refine lv_iload_n hx hb dX0_bitwise_45 rfl (lv_at hl 3 rfl) ?_
      refine lv_isub hx hb dX0_bitwise_46 ?_
      refine lv_bipush (v := 127) hx hb dX0_bitwise_47 (by decide) ?_
      refine lv_iload_n hx hb dX0_bitwise_49 rfl (lv_at hl 2 rfl) ?_
      refine lv_isub hx hb dX0_bitwise_50 ?_
      refine lv_bipush (v := 127) hx hb dX0_bitwise_51 (by decide) ?_
      refine lv_iload hx hb dX0_bitwise_53 (lv_at hl 5 rfl) ?_
      refine lv_isub hx hb dX0_bitwise_55 ?_
      refine lv_bipush (v := 127) hx hb dX0_bitwise_56 (by decide) ?_
      refine lv_iload hx hb dX0_bitwise_58 (lv_at hl 4 rfl) ?_
      refine lv_isub hx hb dX0_bitwise_60 ?_
      refine pu_call (As := [.int (127 - p2), .int (127 - p1), .int (127 - p4), .int (127 - p3)]) (rest := []) ⟨hx, hb, hml, hown, hts⟩ (meX0_leastOr l (127 - p2) (127 - p1) (127 - p4) (127 - p3)) (va_cwS 4 hts (lw_S q59 q60 q12 q61) rfl rfl rfl (by decide +kernel) ⟨Nat.le_of_ble_eq_true rfl, Nat.le_of_ble_eq_true rfl⟩) rfl hl.1 rfl (Nat.le_of_ble_eq_true rfl) dX0_bitwise_61 ⟨Nat.zero_le _, Nat.zero_le _⟩ ?_
      refine lv_istore (lv' := [(6, .int (fX0_leastOr (127 - p2) (127 - p1) (127 - p4) (127 - p3))), (0, .ref h0), (1, .int p0), (2, .int p1), (3, .int p2), (4, .int p3), (5, .int p4)]) hx hb dX0_bitwise_64 hl (by decide) rfl (fun ls hl => ?_)
      refine lv_bipush (v := 127) hx hb dX0_bitwise_66 (by decide) ?_
      refine lv_iload_n hx hb dX0_bitwise_68 rfl (lv_at hl 4 rfl) ?_
      refine lv_isub hx hb dX0_bitwise_69 ?_
      refine lv_bipush (v := 127) hx hb dX0_bitwise_70 (by decide) ?_
      refine lv_iload_n hx hb dX0_bitwise_72 rfl (lv_at hl 3 rfl) ?_
      refine lv_isub hx hb dX0_bitwise_73 ?_
      refine lv_bipush (v := 127) hx hb dX0_bitwise_74 (by decide) ?_
      refine lv_iload hx hb dX0_bitwise_76 (lv_at hl 6 rfl) ?_
      refine lv_isub hx hb dX0_bitwise_78 ?_
      refine lv_bipush (v := 127) hx hb dX0_bitwise_79 (by decide) ?_
      refine lv_iload hx hb dX0_bitwise_81 (lv_at hl 5 rfl) ?_
      refine lv_isub hx hb dX0_bitwise_83 ?_
      refine pu_call (As := [.int (127 - p2), .int (127 - p1), .int (127 - p4), .int (127 - p3)]) (rest := []) ⟨hx, hb, hml, hown, hts⟩ (meX0_greatestOr l (127 - p2) (127 - p1) (127 - p4) (127 - p3)) (va_cwS 4 hts (lw_S q65 q66 q12 q67) rfl rfl rfl (by decide +kernel) ⟨Nat.le_of_ble_eq_true rfl, Nat.le_of_ble_eq_true rfl⟩) rfl hl.1 rfl (Nat.le_of_ble_eq_true rfl) dX0_bitwise_84 ⟨Nat.zero_le _, Nat.zero_le _⟩ ?_
      refine lv_istore (lv' := [(7, .int (fX0_greatestOr (127 - p2) (127 - p1) (127 - p4) (127 - p3))), (6, .int (fX0_leastOr (127 - p2) (127 - p1) (127 - p4) (127 - p3))), (0, .ref h0), (1, .int p0), (2, .int p1), (3, .int p2), (4, .int p3), (5, .int p4)]) hx hb dX0_bitwise_87 hl (by decide) rfl (fun ls hl => ?_)
      refine lv_aload_n hx hb dX0_bitwise_89 rfl (lv_at hl 2 rfl) ?_
      refine lv_bipush (v := 127) hx hb dX0_bitwise_90 (by decide) ?_
      refine lv_iload hx hb dX0_bitwise_92 (lv_at hl 0 rfl) ?_
      refine lv_isub hx hb dX0_bitwise_94 ?_
      refine lv_bipush (v := 127) hx hb dX0_bitwise_95 (by decide) ?_
      refine lv_iload hx hb dX0_bitwise_97 (lv_at hl 1 rfl) ?_
      refine lv_isub hx hb dX0_bitwise_99 ?_
      refine ob_callv (ws := (obW 0 h0 a1 a2 d1 d2 lo hi x y)) (wr := []) (rest := []) (As := [.int (127 - (fX0_greatestOr (127 - p2) (127 - p1) (127 - p4) (127 - p3))), .int (127 - (fX0_leastOr (127 - p2) (127 - p1) (127 - p4) (127 - p3)))]) ⟨hx, hb, hml, hown, hts⟩ (meX0_keep l D h0 a1 a2 d1 d2 (127 - (fX0_greatestOr (127 - p2) (127 - p1) (127 - p4) (127 - p3))) (127 - (fX0_leastOr (127 - p2) (127 - p1) (127 - p4) (127 - p3))) lo hi x y) (cwV 2 hts (lw_V q51 q53 qs1 q12 q54) rfl rfl rfl (by decide +kernel) ⟨Nat.le_of_ble_eq_true rfl, Nat.le_of_ble_eq_true rfl⟩) (show vwCl[0]? = some (RX0, TX0, 4) from rfl) rfl hl.1 rfl (Nat.le_of_ble_eq_true rfl) dX0_bitwise_100 ⟨Nat.zero_le _, Nat.zero_le _⟩ hK hP hD hS hA [0, 1, 2] [] rfl rfl (by decide) (by decide) (by decide) (fun H locs hP hD hS => ?_)
      have hP : va_P D vwCl (obW 0 h0 a1 a2 d1 d2 lo hi (127 - (fX0_greatestOr (127 - p2) (127 - p1) (127 - p4) (127 - p3))) (127 - (fX0_leastOr (127 - p2) (127 - p1) (127 - p4) (127 - p3)))) H := hP
      have hD : va_D A (obW 0 h0 a1 a2 d1 d2 lo hi (127 - (fX0_greatestOr (127 - p2) (127 - p1) (127 - p4) (127 - p3))) (127 - (fX0_leastOr (127 - p2) (127 - p1) (127 - p4) (127 - p3)))) := hD
      refine lv_goto (tgt := 136) hx hb dX0_bitwise_103 (by decide) ?_
      exact ob_vret (v := 0) hx hb hr hlocks hK hP hD hS (congrArg (fun z : Int32 × Int32 => ((0 : Int32), lo, hi, z.1, z.2)) (Eq.trans (Eq.symm (by rw [fX0_bitwise, if_neg c_1, if_pos c_2])) hV)) dX0_bitwise_136
  · refine lv_iload_n hx hb dX0_bitwise_5 rfl (lv_at hl 2 rfl) ?_
    refine lv_iload_n hx hb dX0_bitwise_6 rfl (lv_at hl 3 rfl) ?_
    refine lv_iload hx hb dX0_bitwise_7 (lv_at hl 4 rfl) ?_
    refine lv_iload hx hb dX0_bitwise_9 (lv_at hl 5 rfl) ?_
    refine pu_call (As := [.int p1, .int p2, .int p3, .int p4]) (rest := []) ⟨hx, hb, hml, hown, hts⟩ (meX0_leastOr l p1 p2 p3 p4) (va_cwS 4 hts (lw_S q59 q60 q12 q61) rfl rfl rfl (by decide +kernel) ⟨Nat.le_of_ble_eq_true rfl, Nat.le_of_ble_eq_true rfl⟩) rfl hl.1 rfl (Nat.le_of_ble_eq_true rfl) dX0_bitwise_11 ⟨Nat.zero_le _, Nat.zero_le _⟩ ?_
    refine lv_istore (lv' := [(6, .int (fX0_leastOr p1 p2 p3 p4)), (0, .ref h0), (1, .int p0), (2, .int p1), (3, .int p2), (4, .int p3), (5, .int p4)]) hx hb dX0_bitwise_14 hl (by decide) rfl (fun ls hl => ?_)
    refine lv_iload_n hx hb dX0_bitwise_16 rfl (lv_at hl 3 rfl) ?_
    refine lv_iload_n hx hb dX0_bitwise_17 rfl (lv_at hl 4 rfl) ?_
    refine lv_iload hx hb dX0_bitwise_18 (lv_at hl 5 rfl) ?_
    refine lv_iload hx hb dX0_bitwise_20 (lv_at hl 6 rfl) ?_
    refine pu_call (As := [.int p1, .int p2, .int p3, .int p4]) (rest := []) ⟨hx, hb, hml, hown, hts⟩ (meX0_greatestOr l p1 p2 p3 p4) (va_cwS 4 hts (lw_S q65 q66 q12 q67) rfl rfl rfl (by decide +kernel) ⟨Nat.le_of_ble_eq_true rfl, Nat.le_of_ble_eq_true rfl⟩) rfl hl.1 rfl (Nat.le_of_ble_eq_true rfl) dX0_bitwise_22 ⟨Nat.zero_le _, Nat.zero_le _⟩ ?_
    refine lv_istore (lv' := [(7, .int (fX0_greatestOr p1 p2 p3 p4)), (6, .int (fX0_leastOr p1 p2 p3 p4)), (0, .ref h0), (1, .int p0), (2, .int p1), (3, .int p2), (4, .int p3), (5, .int p4)]) hx hb dX0_bitwise_25 hl (by decide) rfl (fun ls hl => ?_)
    refine lv_aload_n hx hb dX0_bitwise_27 rfl (lv_at hl 2 rfl) ?_
    refine lv_iload hx hb dX0_bitwise_28 (lv_at hl 1 rfl) ?_
    refine lv_iload hx hb dX0_bitwise_30 (lv_at hl 0 rfl) ?_
    refine ob_callv (ws := (obW 0 h0 a1 a2 d1 d2 lo hi x y)) (wr := []) (rest := []) (As := [.int (fX0_leastOr p1 p2 p3 p4), .int (fX0_greatestOr p1 p2 p3 p4)]) ⟨hx, hb, hml, hown, hts⟩ (meX0_keep l D h0 a1 a2 d1 d2 (fX0_leastOr p1 p2 p3 p4) (fX0_greatestOr p1 p2 p3 p4) lo hi x y) (cwV 2 hts (lw_V q51 q53 qs1 q12 q54) rfl rfl rfl (by decide +kernel) ⟨Nat.le_of_ble_eq_true rfl, Nat.le_of_ble_eq_true rfl⟩) (show vwCl[0]? = some (RX0, TX0, 4) from rfl) rfl hl.1 rfl (Nat.le_of_ble_eq_true rfl) dX0_bitwise_32 ⟨Nat.zero_le _, Nat.zero_le _⟩ hK hP hD hS hA [0, 1, 2] [] rfl rfl (by decide) (by decide) (by decide) (fun H locs hP hD hS => ?_)
    have hP : va_P D vwCl (obW 0 h0 a1 a2 d1 d2 lo hi (fX0_leastOr p1 p2 p3 p4) (fX0_greatestOr p1 p2 p3 p4)) H := hP
    have hD : va_D A (obW 0 h0 a1 a2 d1 d2 lo hi (fX0_leastOr p1 p2 p3 p4) (fX0_greatestOr p1 p2 p3 p4)) := hD
    refine lv_goto (tgt := 136) hx hb dX0_bitwise_35 (by decide) ?_
    exact ob_vret (v := 0) hx hb hr hlocks hK hP hD hS (congrArg (fun z : Int32 × Int32 => ((0 : Int32), lo, hi, z.1, z.2)) (Eq.trans (Eq.symm (by rw [fX0_bitwise, if_pos c_1])) hV)) dX0_bitwise_136
set_option maxHeartbeats 4000000 in
set_option maxRecDepth 100000 in
theorem lpX0_countOnes {p : Program} {l : Launch} {e : Env} {s : State} {m : MethodId} {args : Array Value} {below : List Frame} {meth : Method} {c : Code} (hx : p.tables.exec = Jvm.exec) (hb : c.code = cX0_countOnes) (hr : meth.sig.returnType = none) (hlocks : meth.locks = false) (hml : c.maxLocals = 9) (hown : s.vm.findClass RX0 = some m.cls) (hts : ∀ w ∈ lw_all, w.before args s = true) {D : va_G} {A : Nat → Prop} {h0 a1 a2 : Nat} {d1 d2 : ClassId} (hA : ∀ q : Nat, s.heap.size ≤ q → A q) (hK : va_K D vwCl [(d1, .int), (d2, .int)] s) (V : Int32 × Int32) (p0 p1 : Int32) (lo hi : Nat → Int32) (x y : Int32) :
    ∀ (n : Nat), n ≤ 7 → ∀ (v3 v4 : Int32) (H : Heap) (locs : List Loc) (ls : Array Slot), va_P D vwCl (obW 0 h0 a1 a2 d1 d2 lo hi x y) H → va_D A (obW 0 h0 a1 a2 d1 d2 lo hi x y) → va_S A s.heap H locs → gX0_countOnes p0 p1 n v3 v4 = V → lv_has ls 9 [(0, .ref h0), (1, .int p0), (2, .int p1), (3, .int v3), (4, .int v4), (5, .int (bitv n))] → W p l e (headSpec (ws_ yX0_countOnes cX0_countOnes 9 none) ({ frames := 1, cells := 0, slots := 0, locals := 22 } : Room)).room s m args below meth c H locs 0 0 (Qov below args s D 0 h0 a1 a2 d1 d2 A ((0 : Int32), lo, hi, V.1, V.2)) (F0 m 15 ls []) := by
  intro n
  induction n with
  | zero =>
    intro hn v3 v4 H locs ls hP hD hS hV hl
    refine lv_iload hx hb dX0_countOnes_15 (lv_at hl 5 rfl) ?_
    refine lv_if_le (tgt := 101) hx hb dX0_countOnes_17 (by decide) (fun c_1 => ?_) (fun c_1 => absurd (by decide : bitv 0 ≤ 0) c_1)
    refine lv_aload_n hx hb dX0_countOnes_101 rfl (lv_at hl 0 rfl) ?_
    refine lv_iload_n hx hb dX0_countOnes_102 rfl (lv_at hl 3 rfl) ?_
    refine lv_iload hx hb dX0_countOnes_103 (lv_at hl 4 rfl) ?_
    refine ob_callv (ws := (obW 0 h0 a1 a2 d1 d2 lo hi x y)) (wr := []) (rest := []) (As := [.int v3, .int v4]) ⟨hx, hb, hml, hown, hts⟩ (meX0_keep l D h0 a1 a2 d1 d2 v3 v4 lo hi x y) (cwV 2 hts (lw_V q51 q53 qs1 q12 q54) rfl rfl rfl (by decide +kernel) ⟨Nat.le_of_ble_eq_true rfl, Nat.le_of_ble_eq_true rfl⟩) (show vwCl[0]? = some (RX0, TX0, 4) from rfl) rfl hl.1 rfl (Nat.le_of_ble_eq_true rfl) dX0_countOnes_105 ⟨Nat.zero_le _, Nat.zero_le _⟩ hK hP hD hS hA [0, 1, 2] [] rfl rfl (by decide) (by decide) (by decide) (fun H locs hP hD hS => ?_)
    have hP : va_P D vwCl (obW 0 h0 a1 a2 d1 d2 lo hi v3 v4) H := hP
    have hD : va_D A (obW 0 h0 a1 a2 d1 d2 lo hi v3 v4) := hD
    exact ob_vret (v := 0) hx hb hr hlocks hK hP hD hS (congrArg (fun z : Int32 × Int32 => ((0 : Int32), lo, hi, z.1, z.2)) (Eq.trans (Eq.symm (by rw [gX0_countOnes])) hV)) dX0_countOnes_108
  | succ n ih =>
    intro hn v3 v4 H locs ls hP hD hS hV hl
    refine lv_iload hx hb dX0_countOnes_15 (lv_at hl 5 rfl) ?_
    refine lv_if_le (tgt := 101) hx hb dX0_countOnes_17 (by decide) (fun c_1 => absurd c_1 (bitv_t n hn)) (fun c_1 => ?_)
    refine lv_iload_n hx hb dX0_countOnes_20 rfl (lv_at hl 1 rfl) ?_
    refine lv_iload hx hb dX0_countOnes_21 (lv_at hl 5 rfl) ?_
    refine pu_call (As := [.int p0, .int (bitv (n + 1))]) (rest := []) ⟨hx, hb, hml, hown, hts⟩ (meX0_raised l p0 (bitv (n + 1))) (va_cwS 2 hts (lw_S q62 q63 q12 q64) rfl rfl rfl (by decide +kernel) ⟨Nat.le_of_ble_eq_true rfl, Nat.le_of_ble_eq_true rfl⟩) rfl hl.1 rfl (Nat.le_of_ble_eq_true rfl) dX0_countOnes_23 ⟨Nat.zero_le _, Nat.zero_le _⟩ ?_
    refine lv_istore (lv' := [(6, .int (fX0_raised p0 (bitv (n + 1)))), (0, .ref h0), (1, .int p0), (2, .int p1), (3, .int v3), (4, .int v4), (5, .int (bitv (n + 1)))]) hx hb dX0_countOnes_26 hl (by decide) rfl (fun ls hl => ?_)
    refine lv_iload_n hx hb dX0_countOnes_28 rfl (lv_at hl 3 rfl) ?_
    refine lv_iload hx hb dX0_countOnes_29 (lv_at hl 6 rfl) ?_
    refine pu_call (As := [.int p1, .int (bitv (n + 1))]) (rest := []) ⟨hx, hb, hml, hown, hts⟩ (meX0_lowered l p1 (bitv (n + 1))) (va_cwS 2 hts (lw_S q68 q69 q12 q70) rfl rfl rfl (by decide +kernel) ⟨Nat.le_of_ble_eq_true rfl, Nat.le_of_ble_eq_true rfl⟩) rfl hl.1 rfl (Nat.le_of_ble_eq_true rfl) dX0_countOnes_31 ⟨Nat.zero_le _, Nat.zero_le _⟩ ?_
    refine lv_istore (lv' := [(7, .int (fX0_lowered p1 (bitv (n + 1)))), (6, .int (fX0_raised p0 (bitv (n + 1)))), (0, .ref h0), (1, .int p0), (2, .int p1), (3, .int v3), (4, .int v4), (5, .int (bitv (n + 1)))]) hx hb dX0_countOnes_34 hl (by decide) rfl (fun ls hl => ?_)
    refine lv_iload_n hx hb dX0_countOnes_36 rfl (lv_at hl 3 rfl) ?_
    refine lv_iload hx hb dX0_countOnes_37 (lv_at hl 7 rfl) ?_
    refine lv_iand hx hb dX0_countOnes_39 ?_
    refine lv_if_ne (tgt := 63) hx hb dX0_countOnes_40 (by decide) (fun c_2 => ?_) (fun c_2 => ?_)
    · refine lv_iload_n hx hb dX0_countOnes_63 rfl (lv_at hl 4 rfl) ?_
      refine lv_iload hx hb dX0_countOnes_64 (lv_at hl 7 rfl) ?_
      refine lv_iand hx hb dX0_countOnes_66 ?_
      refine lv_if_eq (tgt := 92) hx hb dX0_countOnes_67 (by decide) (fun c_3 => ?_) (fun c_3 => ?_)
      · refine lv_iload hx hb dX0_countOnes_92 (lv_at hl 7 rfl) ?_
        refine lv_iconst (v := 2) hx hb dX0_countOnes_94 (by decide) ?_
        refine lv_idiv hx hb dX0_countOnes_95 (by decide) ?_
        rw [bitv_s n hn]
        refine lv_istore (lv' := [(5, .int (bitv n)), (7, .int (fX0_lowered p1 (bitv (n + 1)))), (6, .int (fX0_raised p0 (bitv (n + 1)))), (0, .ref h0), (1, .int p0), (2, .int p1), (3, .int v3), (4, .int v4)]) hx hb dX0_countOnes_96 hl (by decide) rfl (fun ls hl => ?_)
        refine lv_goto (tgt := 15) hx hb dX0_countOnes_98 (by decide) ?_
        exact ih (Nat.le_of_succ_le hn) v3 v4 H locs ls hP hD hS (Eq.trans (Eq.symm (by rw [gX0_countOnes, if_neg c_2, if_pos c_3])) hV) (lv_sub hl [3, 4, 5, 6, 7, 0] rfl)
      · refine lv_iload hx hb dX0_countOnes_70 (lv_at hl 0 rfl) ?_
        refine lv_iload_n hx hb dX0_countOnes_72 rfl (lv_at hl 3 rfl) ?_
        refine lv_icmp_lt (tgt := 92) hx hb dX0_countOnes_73 (by decide) (fun c_4 => ?_) (fun c_4 => ?_)
        · refine lv_iload hx hb dX0_countOnes_92 (lv_at hl 7 rfl) ?_
          refine lv_iconst (v := 2) hx hb dX0_countOnes_94 (by decide) ?_
          refine lv_idiv hx hb dX0_countOnes_95 (by decide) ?_
          rw [bitv_s n hn]
          refine lv_istore (lv' := [(5, .int (bitv n)), (7, .int (fX0_lowered p1 (bitv (n + 1)))), (6, .int (fX0_raised p0 (bitv (n + 1)))), (0, .ref h0), (1, .int p0), (2, .int p1), (3, .int v3), (4, .int v4)]) hx hb dX0_countOnes_96 hl (by decide) rfl (fun ls hl => ?_)
          refine lv_goto (tgt := 15) hx hb dX0_countOnes_98 (by decide) ?_
          exact ih (Nat.le_of_succ_le hn) v3 v4 H locs ls hP hD hS (Eq.trans (Eq.symm (by rw [gX0_countOnes, if_neg c_2, if_neg c_3, if_pos c_4])) hV) (lv_sub hl [3, 4, 5, 6, 7, 0] rfl)
        · refine lv_iload hx hb dX0_countOnes_76 (lv_at hl 0 rfl) ?_
          refine pu_call (As := [.int (fX0_lowered p1 (bitv (n + 1)))]) (rest := []) ⟨hx, hb, hml, hown, hts⟩ (meX0_ones l (fX0_lowered p1 (bitv (n + 1)))) (va_cwS 1 hts (lw_S q103 q104 q12 q105) rfl rfl rfl (by decide +kernel) ⟨Nat.le_of_ble_eq_true rfl, Nat.le_of_ble_eq_true rfl⟩) rfl hl.1 rfl (Nat.le_of_ble_eq_true rfl) dX0_countOnes_78 ⟨Nat.zero_le _, Nat.zero_le _⟩ ?_
          refine lv_istore (lv' := [(8, .int (fX0_ones (fX0_lowered p1 (bitv (n + 1))))), (7, .int (fX0_lowered p1 (bitv (n + 1)))), (6, .int (fX0_raised p0 (bitv (n + 1)))), (0, .ref h0), (1, .int p0), (2, .int p1), (3, .int v3), (4, .int v4), (5, .int (bitv (n + 1)))]) hx hb dX0_countOnes_81 hl (by decide) rfl (fun ls hl => ?_)
          refine lv_iload hx hb dX0_countOnes_83 (lv_at hl 7 rfl) ?_
          refine lv_iload hx hb dX0_countOnes_85 (lv_at hl 0 rfl) ?_
          refine pu_call (As := [.int v4, .int (fX0_ones (fX0_lowered p1 (bitv (n + 1))))]) (rest := []) ⟨hx, hb, hml, hown, hts⟩ (meX0_greater l v4 (fX0_ones (fX0_lowered p1 (bitv (n + 1))))) (va_cwS 2 hts (lw_S q85 q86 q12 q87) rfl rfl rfl (by decide +kernel) ⟨Nat.le_of_ble_eq_true rfl, Nat.le_of_ble_eq_true rfl⟩) rfl hl.1 rfl (Nat.le_of_ble_eq_true rfl) dX0_countOnes_87 ⟨Nat.zero_le _, Nat.zero_le _⟩ ?_
          refine lv_istore (lv' := [(4, .int (fX0_greater v4 (fX0_ones (fX0_lowered p1 (bitv (n + 1)))))), (8, .int (fX0_ones (fX0_lowered p1 (bitv (n + 1))))), (7, .int (fX0_lowered p1 (bitv (n + 1)))), (6, .int (fX0_raised p0 (bitv (n + 1)))), (0, .ref h0), (1, .int p0), (2, .int p1), (3, .int v3), (5, .int (bitv (n + 1)))]) hx hb dX0_countOnes_90 hl (by decide) rfl (fun ls hl => ?_)
          refine lv_iload hx hb dX0_countOnes_92 (lv_at hl 8 rfl) ?_
          refine lv_iconst (v := 2) hx hb dX0_countOnes_94 (by decide) ?_
          refine lv_idiv hx hb dX0_countOnes_95 (by decide) ?_
          rw [bitv_s n hn]
          refine lv_istore (lv' := [(5, .int (bitv n)), (4, .int (fX0_greater v4 (fX0_ones (fX0_lowered p1 (bitv (n + 1)))))), (8, .int (fX0_ones (fX0_lowered p1 (bitv (n + 1))))), (7, .int (fX0_lowered p1 (bitv (n + 1)))), (6, .int (fX0_raised p0 (bitv (n + 1)))), (0, .ref h0), (1, .int p0), (2, .int p1), (3, .int v3)]) hx hb dX0_countOnes_96 hl (by decide) rfl (fun ls hl => ?_)
          refine lv_goto (tgt := 15) hx hb dX0_countOnes_98 (by decide) ?_
          exact ih (Nat.le_of_succ_le hn) v3 (fX0_greater v4 (fX0_ones (fX0_lowered p1 (bitv (n + 1))))) H locs ls hP hD hS (Eq.trans (Eq.symm (by rw [gX0_countOnes, if_neg c_2, if_neg c_3, if_neg c_4])) hV) (lv_sub hl [5, 6, 7, 8, 1, 0] rfl)
    · refine lv_iload hx hb dX0_countOnes_43 (lv_at hl 1 rfl) ?_
      refine lv_iload_n hx hb dX0_countOnes_45 rfl (lv_at hl 4 rfl) ?_
      refine lv_icmp_gt (tgt := 63) hx hb dX0_countOnes_46 (by decide) (fun c_5 => ?_) (fun c_5 => ?_)
      · refine lv_iload_n hx hb dX0_countOnes_63 rfl (lv_at hl 4 rfl) ?_
        refine lv_iload hx hb dX0_countOnes_64 (lv_at hl 7 rfl) ?_
        refine lv_iand hx hb dX0_countOnes_66 ?_
        refine lv_if_eq (tgt := 92) hx hb dX0_countOnes_67 (by decide) (fun c_6 => ?_) (fun c_6 => ?_)
        · refine lv_iload hx hb dX0_countOnes_92 (lv_at hl 7 rfl) ?_
          refine lv_iconst (v := 2) hx hb dX0_countOnes_94 (by decide) ?_
          refine lv_idiv hx hb dX0_countOnes_95 (by decide) ?_
          rw [bitv_s n hn]
          refine lv_istore (lv' := [(5, .int (bitv n)), (7, .int (fX0_lowered p1 (bitv (n + 1)))), (6, .int (fX0_raised p0 (bitv (n + 1)))), (0, .ref h0), (1, .int p0), (2, .int p1), (3, .int v3), (4, .int v4)]) hx hb dX0_countOnes_96 hl (by decide) rfl (fun ls hl => ?_)
          refine lv_goto (tgt := 15) hx hb dX0_countOnes_98 (by decide) ?_
          exact ih (Nat.le_of_succ_le hn) v3 v4 H locs ls hP hD hS (Eq.trans (Eq.symm (by rw [gX0_countOnes, if_pos c_2, if_pos c_5, if_pos c_6])) hV) (lv_sub hl [3, 4, 5, 6, 7, 0] rfl)
        · refine lv_iload hx hb dX0_countOnes_70 (lv_at hl 0 rfl) ?_
          refine lv_iload_n hx hb dX0_countOnes_72 rfl (lv_at hl 3 rfl) ?_
          refine lv_icmp_lt (tgt := 92) hx hb dX0_countOnes_73 (by decide) (fun c_7 => ?_) (fun c_7 => ?_)
          · refine lv_iload hx hb dX0_countOnes_92 (lv_at hl 7 rfl) ?_
            refine lv_iconst (v := 2) hx hb dX0_countOnes_94 (by decide) ?_
            refine lv_idiv hx hb dX0_countOnes_95 (by decide) ?_
            rw [bitv_s n hn]
            refine lv_istore (lv' := [(5, .int (bitv n)), (7, .int (fX0_lowered p1 (bitv (n + 1)))), (6, .int (fX0_raised p0 (bitv (n + 1)))), (0, .ref h0), (1, .int p0), (2, .int p1), (3, .int v3), (4, .int v4)]) hx hb dX0_countOnes_96 hl (by decide) rfl (fun ls hl => ?_)
            refine lv_goto (tgt := 15) hx hb dX0_countOnes_98 (by decide) ?_
            exact ih (Nat.le_of_succ_le hn) v3 v4 H locs ls hP hD hS (Eq.trans (Eq.symm (by rw [gX0_countOnes, if_pos c_2, if_pos c_5, if_neg c_6, if_pos c_7])) hV) (lv_sub hl [3, 4, 5, 6, 7, 0] rfl)
          · refine lv_iload hx hb dX0_countOnes_76 (lv_at hl 0 rfl) ?_
            refine pu_call (As := [.int (fX0_lowered p1 (bitv (n + 1)))]) (rest := []) ⟨hx, hb, hml, hown, hts⟩ (meX0_ones l (fX0_lowered p1 (bitv (n + 1)))) (va_cwS 1 hts (lw_S q103 q104 q12 q105) rfl rfl rfl (by decide +kernel) ⟨Nat.le_of_ble_eq_true rfl, Nat.le_of_ble_eq_true rfl⟩) rfl hl.1 rfl (Nat.le_of_ble_eq_true rfl) dX0_countOnes_78 ⟨Nat.zero_le _, Nat.zero_le _⟩ ?_
            refine lv_istore (lv' := [(8, .int (fX0_ones (fX0_lowered p1 (bitv (n + 1))))), (7, .int (fX0_lowered p1 (bitv (n + 1)))), (6, .int (fX0_raised p0 (bitv (n + 1)))), (0, .ref h0), (1, .int p0), (2, .int p1), (3, .int v3), (4, .int v4), (5, .int (bitv (n + 1)))]) hx hb dX0_countOnes_81 hl (by decide) rfl (fun ls hl => ?_)
            refine lv_iload hx hb dX0_countOnes_83 (lv_at hl 7 rfl) ?_
            refine lv_iload hx hb dX0_countOnes_85 (lv_at hl 0 rfl) ?_
            refine pu_call (As := [.int v4, .int (fX0_ones (fX0_lowered p1 (bitv (n + 1))))]) (rest := []) ⟨hx, hb, hml, hown, hts⟩ (meX0_greater l v4 (fX0_ones (fX0_lowered p1 (bitv (n + 1))))) (va_cwS 2 hts (lw_S q85 q86 q12 q87) rfl rfl rfl (by decide +kernel) ⟨Nat.le_of_ble_eq_true rfl, Nat.le_of_ble_eq_true rfl⟩) rfl hl.1 rfl (Nat.le_of_ble_eq_true rfl) dX0_countOnes_87 ⟨Nat.zero_le _, Nat.zero_le _⟩ ?_
            refine lv_istore (lv' := [(4, .int (fX0_greater v4 (fX0_ones (fX0_lowered p1 (bitv (n + 1)))))), (8, .int (fX0_ones (fX0_lowered p1 (bitv (n + 1))))), (7, .int (fX0_lowered p1 (bitv (n + 1)))), (6, .int (fX0_raised p0 (bitv (n + 1)))), (0, .ref h0), (1, .int p0), (2, .int p1), (3, .int v3), (5, .int (bitv (n + 1)))]) hx hb dX0_countOnes_90 hl (by decide) rfl (fun ls hl => ?_)
            refine lv_iload hx hb dX0_countOnes_92 (lv_at hl 8 rfl) ?_
            refine lv_iconst (v := 2) hx hb dX0_countOnes_94 (by decide) ?_
            refine lv_idiv hx hb dX0_countOnes_95 (by decide) ?_
            rw [bitv_s n hn]
            refine lv_istore (lv' := [(5, .int (bitv n)), (4, .int (fX0_greater v4 (fX0_ones (fX0_lowered p1 (bitv (n + 1)))))), (8, .int (fX0_ones (fX0_lowered p1 (bitv (n + 1))))), (7, .int (fX0_lowered p1 (bitv (n + 1)))), (6, .int (fX0_raised p0 (bitv (n + 1)))), (0, .ref h0), (1, .int p0), (2, .int p1), (3, .int v3)]) hx hb dX0_countOnes_96 hl (by decide) rfl (fun ls hl => ?_)
            refine lv_goto (tgt := 15) hx hb dX0_countOnes_98 (by decide) ?_
            exact ih (Nat.le_of_succ_le hn) v3 (fX0_greater v4 (fX0_ones (fX0_lowered p1 (bitv (n + 1))))) H locs ls hP hD hS (Eq.trans (Eq.symm (by rw [gX0_countOnes, if_pos c_2, if_pos c_5, if_neg c_6, if_neg c_7])) hV) (lv_sub hl [5, 6, 7, 8, 1, 0] rfl)
      · refine lv_iload hx hb dX0_countOnes_49 (lv_at hl 1 rfl) ?_
        refine pu_call (As := [.int (fX0_raised p0 (bitv (n + 1)))]) (rest := []) ⟨hx, hb, hml, hown, hts⟩ (meX0_ones l (fX0_raised p0 (bitv (n + 1)))) (va_cwS 1 hts (lw_S q103 q104 q12 q105) rfl rfl rfl (by decide +kernel) ⟨Nat.le_of_ble_eq_true rfl, Nat.le_of_ble_eq_true rfl⟩) rfl hl.1 rfl (Nat.le_of_ble_eq_true rfl) dX0_countOnes_51 ⟨Nat.zero_le _, Nat.zero_le _⟩ ?_
        refine lv_istore (lv' := [(8, .int (fX0_ones (fX0_raised p0 (bitv (n + 1))))), (7, .int (fX0_lowered p1 (bitv (n + 1)))), (6, .int (fX0_raised p0 (bitv (n + 1)))), (0, .ref h0), (1, .int p0), (2, .int p1), (3, .int v3), (4, .int v4), (5, .int (bitv (n + 1)))]) hx hb dX0_countOnes_54 hl (by decide) rfl (fun ls hl => ?_)
        refine lv_iload_n hx hb dX0_countOnes_56 rfl (lv_at hl 6 rfl) ?_
        refine lv_iload hx hb dX0_countOnes_57 (lv_at hl 0 rfl) ?_
        refine pu_call (As := [.int v3, .int (fX0_ones (fX0_raised p0 (bitv (n + 1))))]) (rest := []) ⟨hx, hb, hml, hown, hts⟩ (meX0_lesser l v3 (fX0_ones (fX0_raised p0 (bitv (n + 1))))) (va_cwS 2 hts (lw_S q92 q93 q12 q94) rfl rfl rfl (by decide +kernel) ⟨Nat.le_of_ble_eq_true rfl, Nat.le_of_ble_eq_true rfl⟩) rfl hl.1 rfl (Nat.le_of_ble_eq_true rfl) dX0_countOnes_59 ⟨Nat.zero_le _, Nat.zero_le _⟩ ?_
        refine lv_istore_n (lv' := [(3, .int (fX0_lesser v3 (fX0_ones (fX0_raised p0 (bitv (n + 1)))))), (8, .int (fX0_ones (fX0_raised p0 (bitv (n + 1))))), (7, .int (fX0_lowered p1 (bitv (n + 1)))), (6, .int (fX0_raised p0 (bitv (n + 1)))), (0, .ref h0), (1, .int p0), (2, .int p1), (4, .int v4), (5, .int (bitv (n + 1)))]) hx hb dX0_countOnes_62 rfl hl (by decide) rfl (fun ls hl => ?_)
        refine lv_iload_n hx hb dX0_countOnes_63 rfl (lv_at hl 6 rfl) ?_
        refine lv_iload hx hb dX0_countOnes_64 (lv_at hl 8 rfl) ?_
        refine lv_iand hx hb dX0_countOnes_66 ?_
        refine lv_if_eq (tgt := 92) hx hb dX0_countOnes_67 (by decide) (fun c_8 => ?_) (fun c_8 => ?_)
        · refine lv_iload hx hb dX0_countOnes_92 (lv_at hl 8 rfl) ?_
          refine lv_iconst (v := 2) hx hb dX0_countOnes_94 (by decide) ?_
          refine lv_idiv hx hb dX0_countOnes_95 (by decide) ?_
          rw [bitv_s n hn]
          refine lv_istore (lv' := [(5, .int (bitv n)), (3, .int (fX0_lesser v3 (fX0_ones (fX0_raised p0 (bitv (n + 1)))))), (8, .int (fX0_ones (fX0_raised p0 (bitv (n + 1))))), (7, .int (fX0_lowered p1 (bitv (n + 1)))), (6, .int (fX0_raised p0 (bitv (n + 1)))), (0, .ref h0), (1, .int p0), (2, .int p1), (4, .int v4)]) hx hb dX0_countOnes_96 hl (by decide) rfl (fun ls hl => ?_)
          refine lv_goto (tgt := 15) hx hb dX0_countOnes_98 (by decide) ?_
          exact ih (Nat.le_of_succ_le hn) (fX0_lesser v3 (fX0_ones (fX0_raised p0 (bitv (n + 1))))) v4 H locs ls hP hD hS (Eq.trans (Eq.symm (by rw [gX0_countOnes, if_pos c_2, if_neg c_5, if_pos c_8])) hV) (lv_sub hl [5, 6, 7, 1, 8, 0] rfl)
        · refine lv_iload hx hb dX0_countOnes_70 (lv_at hl 2 rfl) ?_
          refine lv_iload_n hx hb dX0_countOnes_72 rfl (lv_at hl 5 rfl) ?_
          refine lv_icmp_lt (tgt := 92) hx hb dX0_countOnes_73 (by decide) (fun c_9 => ?_) (fun c_9 => ?_)
          · refine lv_iload hx hb dX0_countOnes_92 (lv_at hl 8 rfl) ?_
            refine lv_iconst (v := 2) hx hb dX0_countOnes_94 (by decide) ?_
            refine lv_idiv hx hb dX0_countOnes_95 (by decide) ?_
            rw [bitv_s n hn]
            refine lv_istore (lv' := [(5, .int (bitv n)), (3, .int (fX0_lesser v3 (fX0_ones (fX0_raised p0 (bitv (n + 1)))))), (8, .int (fX0_ones (fX0_raised p0 (bitv (n + 1))))), (7, .int (fX0_lowered p1 (bitv (n + 1)))), (6, .int (fX0_raised p0 (bitv (n + 1)))), (0, .ref h0), (1, .int p0), (2, .int p1), (4, .int v4)]) hx hb dX0_countOnes_96 hl (by decide) rfl (fun ls hl => ?_)
            refine lv_goto (tgt := 15) hx hb dX0_countOnes_98 (by decide) ?_
            exact ih (Nat.le_of_succ_le hn) (fX0_lesser v3 (fX0_ones (fX0_raised p0 (bitv (n + 1))))) v4 H locs ls hP hD hS (Eq.trans (Eq.symm (by rw [gX0_countOnes, if_pos c_2, if_neg c_5, if_neg c_8, if_pos c_9])) hV) (lv_sub hl [5, 6, 7, 1, 8, 0] rfl)
          · refine lv_iload hx hb dX0_countOnes_76 (lv_at hl 2 rfl) ?_
            refine pu_call (As := [.int (fX0_lowered p1 (bitv (n + 1)))]) (rest := []) ⟨hx, hb, hml, hown, hts⟩ (meX0_ones l (fX0_lowered p1 (bitv (n + 1)))) (va_cwS 1 hts (lw_S q103 q104 q12 q105) rfl rfl rfl (by decide +kernel) ⟨Nat.le_of_ble_eq_true rfl, Nat.le_of_ble_eq_true rfl⟩) rfl hl.1 rfl (Nat.le_of_ble_eq_true rfl) dX0_countOnes_78 ⟨Nat.zero_le _, Nat.zero_le _⟩ ?_
            refine lv_istore (lv' := [(8, .int (fX0_ones (fX0_lowered p1 (bitv (n + 1))))), (3, .int (fX0_lesser v3 (fX0_ones (fX0_raised p0 (bitv (n + 1)))))), (7, .int (fX0_lowered p1 (bitv (n + 1)))), (6, .int (fX0_raised p0 (bitv (n + 1)))), (0, .ref h0), (1, .int p0), (2, .int p1), (4, .int v4), (5, .int (bitv (n + 1)))]) hx hb dX0_countOnes_81 hl (by decide) rfl (fun ls hl => ?_)
            refine lv_iload hx hb dX0_countOnes_83 (lv_at hl 7 rfl) ?_
            refine lv_iload hx hb dX0_countOnes_85 (lv_at hl 0 rfl) ?_
            refine pu_call (As := [.int v4, .int (fX0_ones (fX0_lowered p1 (bitv (n + 1))))]) (rest := []) ⟨hx, hb, hml, hown, hts⟩ (meX0_greater l v4 (fX0_ones (fX0_lowered p1 (bitv (n + 1))))) (va_cwS 2 hts (lw_S q85 q86 q12 q87) rfl rfl rfl (by decide +kernel) ⟨Nat.le_of_ble_eq_true rfl, Nat.le_of_ble_eq_true rfl⟩) rfl hl.1 rfl (Nat.le_of_ble_eq_true rfl) dX0_countOnes_87 ⟨Nat.zero_le _, Nat.zero_le _⟩ ?_
            refine lv_istore (lv' := [(4, .int (fX0_greater v4 (fX0_ones (fX0_lowered p1 (bitv (n + 1)))))), (8, .int (fX0_ones (fX0_lowered p1 (bitv (n + 1))))), (3, .int (fX0_lesser v3 (fX0_ones (fX0_raised p0 (bitv (n + 1)))))), (7, .int (fX0_lowered p1 (bitv (n + 1)))), (6, .int (fX0_raised p0 (bitv (n + 1)))), (0, .ref h0), (1, .int p0), (2, .int p1), (5, .int (bitv (n + 1)))]) hx hb dX0_countOnes_90 hl (by decide) rfl (fun ls hl => ?_)
            refine lv_iload hx hb dX0_countOnes_92 (lv_at hl 8 rfl) ?_
            refine lv_iconst (v := 2) hx hb dX0_countOnes_94 (by decide) ?_
            refine lv_idiv hx hb dX0_countOnes_95 (by decide) ?_
            rw [bitv_s n hn]
            refine lv_istore (lv' := [(5, .int (bitv n)), (4, .int (fX0_greater v4 (fX0_ones (fX0_lowered p1 (bitv (n + 1)))))), (8, .int (fX0_ones (fX0_lowered p1 (bitv (n + 1))))), (3, .int (fX0_lesser v3 (fX0_ones (fX0_raised p0 (bitv (n + 1)))))), (7, .int (fX0_lowered p1 (bitv (n + 1)))), (6, .int (fX0_raised p0 (bitv (n + 1)))), (0, .ref h0), (1, .int p0), (2, .int p1)]) hx hb dX0_countOnes_96 hl (by decide) rfl (fun ls hl => ?_)
            refine lv_goto (tgt := 15) hx hb dX0_countOnes_98 (by decide) ?_
            exact ih (Nat.le_of_succ_le hn) (fX0_lesser v3 (fX0_ones (fX0_raised p0 (bitv (n + 1))))) (fX0_greater v4 (fX0_ones (fX0_lowered p1 (bitv (n + 1))))) H locs ls hP hD hS (Eq.trans (Eq.symm (by rw [gX0_countOnes, if_pos c_2, if_neg c_5, if_neg c_8, if_neg c_9])) hV) (lv_sub hl [6, 7, 8, 3, 1, 0] rfl)
set_option maxHeartbeats 4000000 in
set_option maxRecDepth 100000 in
theorem meX0_countOnes (l : Launch) (D : va_G) (h0 a1 a2 : Nat) (d1 d2 : ClassId) (p0 p1 : Int32) (lo hi : Nat → Int32) (x y : Int32) : ObV l yX0_countOnes (ws_ yX0_countOnes cX0_countOnes 9 none) ({ frames := 1, cells := 0, slots := 0, locals := 22 } : Room) D 0 h0 a1 a2 d1 d2 [.int p0, .int p1] lo hi x y ((0 : Int32), lo, hi, (fX0_countOnes p0 p1).1, (fX0_countOnes p0 p1).2) := by
  intro sz
  refine Met.ofW (cc := cX0_countOnes) (maxL := 9) (ret := none) (by decide) rfl ?_
  intro p e s m args below meth c s₁ B hml hv
  obtain ⟨rfl, hsz, hP, hK, hD0⟩ := hv
  have hx := B.exec
  have hb := B.bytes
  have hr := B.returns
  have hts := atoms_spec (ws := (ws_ yX0_countOnes cX0_countOnes 9 none)) B.pre
  have hts : ∀ w ∈ lw_all, w.before _ s = true := fun w h => hts w (List.mem_cons_of_mem _ h)
  have hown : s.vm.findClass RX0 = some m.cls := findClass_of_methodNamed B.named
  have hlocks := B.notSynchronized
  subst hsz
  have hD := hD0.self (sz := s.heap.size)
  generalize hAe : va_A (obW 0 h0 a1 a2 d1 d2 lo hi x y) s.heap.size = A at hD ⊢
  have hA : ∀ q : Nat, s.heap.size ≤ q → A q := fun q h => by rw [← hAe]; exact Or.inr h
  have hS : va_S A s.heap s.heap [] := va_S.rf
  have hP : va_P D vwCl (obW 0 h0 a1 a2 d1 d2 lo hi x y) s.heap := hP
  have hl := lv_entry ([.ref h0, .int p0, .int p1]) (n := 9) (Nat.le_of_ble_eq_true rfl)
  rw [lg_entry_eq]
  generalize (lg_sl ([.ref h0, .int p0, .int p1]) ++ List.replicate (9 - (lg_sl ([.ref h0, .int p0, .int p1])).length) Slot.unset).toArray = ls at hl ⊢
  have hl : lv_has ls 9 [(0, .ref h0), (1, .int p0), (2, .int p1)] := hl
  generalize hV : fX0_countOnes p0 p1 = V
  refine lv_iload_n hx hb dX0_countOnes_0 rfl (lv_at hl 1 rfl) ?_
  refine pu_call (As := [.int p0]) (rest := []) ⟨hx, hb, hml, hown, hts⟩ (meX0_ones l p0) (va_cwS 1 hts (lw_S q103 q104 q12 q105) rfl rfl rfl (by decide +kernel) ⟨Nat.le_of_ble_eq_true rfl, Nat.le_of_ble_eq_true rfl⟩) rfl hl.1 rfl (Nat.le_of_ble_eq_true rfl) dX0_countOnes_1 ⟨Nat.zero_le _, Nat.zero_le _⟩ ?_
  refine lv_istore_n (lv' := [(3, .int (fX0_ones p0)), (0, .ref h0), (1, .int p0), (2, .int p1)]) hx hb dX0_countOnes_4 rfl hl (by decide) rfl (fun ls hl => ?_)
  refine lv_iload_n hx hb dX0_countOnes_5 rfl (lv_at hl 3 rfl) ?_
  refine pu_call (As := [.int p1]) (rest := []) ⟨hx, hb, hml, hown, hts⟩ (meX0_ones l p1) (va_cwS 1 hts (lw_S q103 q104 q12 q105) rfl rfl rfl (by decide +kernel) ⟨Nat.le_of_ble_eq_true rfl, Nat.le_of_ble_eq_true rfl⟩) rfl hl.1 rfl (Nat.le_of_ble_eq_true rfl) dX0_countOnes_6 ⟨Nat.zero_le _, Nat.zero_le _⟩ ?_
  refine lv_istore (lv' := [(4, .int (fX0_ones p1)), (3, .int (fX0_ones p0)), (0, .ref h0), (1, .int p0), (2, .int p1)]) hx hb dX0_countOnes_9 hl (by decide) rfl (fun ls hl => ?_)
  refine lv_bipush (v := 64) hx hb dX0_countOnes_11 (by decide) ?_
  refine lv_istore (lv' := [(5, .int 64), (4, .int (fX0_ones p1)), (3, .int (fX0_ones p0)), (0, .ref h0), (1, .int p0), (2, .int p1)]) hx hb dX0_countOnes_13 hl (by decide) rfl (fun ls hl => ?_)
  exact lpX0_countOnes hx hb hr hlocks hml hown hts hA hK V p0 p1 lo hi x y 7 (Nat.le_refl _) (fX0_ones p0) (fX0_ones p1) _ _ ls hP hD hS (Eq.trans (Eq.symm (by rw [fX0_countOnes])) hV) (by rw [show bitv 7 = 64 from by decide]; exact lv_sub hl [3, 4, 5, 2, 1, 0] rfl)
end
section
set_option maxHeartbeats 4000000 in
set_option maxRecDepth 100000 in
theorem meX0_set (l : Launch) (D : va_G) (h0 a1 a2 : Nat) (d1 d2 : ClassId) (p0 p1 p2 : Int32) (lo hi : Nat → Int32) (x y : Int32) : ObI l yX0_set (ws_ yX0_set cX0_set 4 (some .int)) ({ frames := 1, cells := 0, slots := 0, locals := 20 } : Room) D 0 h0 a1 a2 d1 d2 [.int p0, .int p1, .int p2] lo hi x y (fX0_set p0 p1 p2 lo hi x y) := by
  intro sz
  refine Met.ofW (cc := cX0_set) (maxL := 4) (ret := (some .int)) (by decide) rfl ?_
  intro p e s m args below meth c s₁ B hml hv
  obtain ⟨rfl, hsz, hP, hK, hD0⟩ := hv
  have hx := B.exec
  have hb := B.bytes
  have hr := B.returns
  have hts := atoms_spec (ws := (ws_ yX0_set cX0_set 4 (some .int))) B.pre
  have hts : ∀ w ∈ lw_all, w.before _ s = true := fun w h => hts w (List.mem_cons_of_mem _ h)
  have hown : s.vm.findClass RX0 = some m.cls := findClass_of_methodNamed B.named
  have hlocks := B.notSynchronized
  subst hsz
  have hD := hD0.self (sz := s.heap.size)
  generalize hAe : va_A (obW 0 h0 a1 a2 d1 d2 lo hi x y) s.heap.size = A at hD ⊢
  have hA : ∀ q : Nat, s.heap.size ≤ q → A q := fun q h => by rw [← hAe]; exact Or.inr h
  have hS : va_S A s.heap s.heap [] := va_S.rf
  have hP : va_P D vwCl (obW 0 h0 a1 a2 d1 d2 lo hi x y) s.heap := hP
  have hl := lv_entry ([.ref h0, .int p0, .int p1, .int p2]) (n := 4) (Nat.le_of_ble_eq_true rfl)
  rw [lg_entry_eq]
  generalize (lg_sl ([.ref h0, .int p0, .int p1, .int p2]) ++ List.replicate (4 - (lg_sl ([.ref h0, .int p0, .int p1, .int p2])).length) Slot.unset).toArray = ls at hl ⊢
  have hl : lv_has ls 4 [(0, .ref h0), (1, .int p0), (2, .int p1), (3, .int p2)] := hl
  generalize hV : fX0_set p0 p1 p2 lo hi x y = V
  refine lv_iload_n hx hb dX0_set_0 rfl (lv_at hl 1 rfl) ?_
  refine pu_call (As := [.int p0]) (rest := []) ⟨hx, hb, hml, hown, hts⟩ (meX0_isRegister l p0) (va_cwS 1 hts (lw_S q40 q41 q12 q42) rfl rfl rfl (by decide +kernel) ⟨Nat.le_of_ble_eq_true rfl, Nat.le_of_ble_eq_true rfl⟩) rfl hl.1 rfl (Nat.le_of_ble_eq_true rfl) dX0_set_1 ⟨Nat.zero_le _, Nat.zero_le _⟩ ?_
  refine lv_if_eq (tgt := 22) hx hb dX0_set_4 (by decide) (fun c_1 => ?_) (fun c_1 => ?_)
  · refine lv_iconst (v := (-1)) hx hb dX0_set_22 (by decide) ?_
    exact ob_iret hx hb hr hlocks hK hP hD hS (Eq.trans (Eq.symm (by rw [fX0_set, if_pos c_1])) hV) dX0_set_23
  · refine lv_iload_n hx hb dX0_set_7 rfl (lv_at hl 2 rfl) ?_
    refine lv_if_lt (tgt := 22) hx hb dX0_set_8 (by decide) (fun c_2 => ?_) (fun c_2 => ?_)
    · refine lv_iconst (v := (-1)) hx hb dX0_set_22 (by decide) ?_
      exact ob_iret hx hb hr hlocks hK hP hD hS (Eq.trans (Eq.symm (by rw [fX0_set, if_neg c_1, if_pos c_2])) hV) dX0_set_23
    · refine lv_iload_n hx hb dX0_set_11 rfl (lv_at hl 2 rfl) ?_
      refine lv_iload_n hx hb dX0_set_12 rfl (lv_at hl 3 rfl) ?_
      refine lv_icmp_gt (tgt := 22) hx hb dX0_set_13 (by decide) (fun c_3 => ?_) (fun c_3 => ?_)
      · refine lv_iconst (v := (-1)) hx hb dX0_set_22 (by decide) ?_
        exact ob_iret hx hb hr hlocks hK hP hD hS (Eq.trans (Eq.symm (by rw [fX0_set, if_neg c_1, if_neg c_2, if_pos c_3])) hV) dX0_set_23
      · refine lv_iload_n hx hb dX0_set_16 rfl (lv_at hl 3 rfl) ?_
        refine lv_bipush (v := 127) hx hb dX0_set_17 (by decide) ?_
        refine lv_icmp_le (tgt := 24) hx hb dX0_set_19 (by decide) (fun c_4 => ?_) (fun c_4 => ?_)
        · refine lv_aload_n hx hb dX0_set_24 rfl (lv_at hl 0 rfl) ?_
          refine va_get (D := D) (ci := 0) (v := .ref a1) (C := RX0) (T := TX0) (N := 4) hx hb hts in_X0 hown hK hP 0 rfl rfl 0 (by decide) (hts _ q22) (fun _ h9 => h9) rfl dX0_set_25 ?_
          refine lv_iload_n hx hb dX0_set_28 rfl (lv_at hl 1 rfl) ?_
          refine lv_iload_n hx hb dX0_set_29 rfl (lv_at hl 2 rfl) ?_
          refine va_iast hx hb hK hP hD hS 1 0 rfl rfl (isReg_in c_1) dX0_set_30 (fun H locs hP hD hS => ?_)
          have hP : va_P D vwCl (obW 0 h0 a1 a2 d1 d2 (upd lo p0.toNatClampNeg p1) hi x y) H := hP
          have hD : va_D A (obW 0 h0 a1 a2 d1 d2 (upd lo p0.toNatClampNeg p1) hi x y) := hD
          refine lv_aload_n hx hb dX0_set_31 rfl (lv_at hl 0 rfl) ?_
          refine va_get (D := D) (ci := 0) (v := .ref a2) (C := RX0) (T := TX0) (N := 4) hx hb hts in_X0 hown hK hP 0 rfl rfl 1 (by decide) (hts _ q23) (fun _ h9 => h9) rfl dX0_set_32 ?_
          refine lv_iload_n hx hb dX0_set_35 rfl (lv_at hl 1 rfl) ?_
          refine lv_iload_n hx hb dX0_set_36 rfl (lv_at hl 3 rfl) ?_
          refine va_iast hx hb hK hP hD hS 2 1 rfl rfl (isReg_in c_1) dX0_set_37 (fun H locs hP hD hS => ?_)
          have hP : va_P D vwCl (obW 0 h0 a1 a2 d1 d2 (upd lo p0.toNatClampNeg p1) (upd hi p0.toNatClampNeg p2) x y) H := hP
          have hD : va_D A (obW 0 h0 a1 a2 d1 d2 (upd lo p0.toNatClampNeg p1) (upd hi p0.toNatClampNeg p2) x y) := hD
          refine lv_iconst (v := 0) hx hb dX0_set_38 (by decide) ?_
          exact ob_iret hx hb hr hlocks hK hP hD hS (Eq.trans (Eq.symm (by rw [fX0_set, if_neg c_1, if_neg c_2, if_neg c_3, if_pos c_4])) hV) dX0_set_39
        · refine lv_iconst (v := (-1)) hx hb dX0_set_22 (by decide) ?_
          exact ob_iret hx hb hr hlocks hK hP hD hS (Eq.trans (Eq.symm (by rw [fX0_set, if_neg c_1, if_neg c_2, if_neg c_3, if_neg c_4])) hV) dX0_set_23
set_option maxHeartbeats 4000000 in
set_option maxRecDepth 100000 in
theorem meX0_combine (l : Launch) (D : va_G) (h0 a1 a2 : Nat) (d1 d2 : ClassId) (p0 p1 p2 p3 : Int32) (lo hi : Nat → Int32) (x y : Int32) : ObI l yX0_combine (ws_ yX0_combine cX0_combine 5 (some .int)) ({ frames := 3, cells := 0, slots := 0, locals := 76 } : Room) D 0 h0 a1 a2 d1 d2 [.int p0, .int p1, .int p2, .int p3] lo hi x y (fX0_combine p0 p1 p2 p3 lo hi x y) := by
  intro sz
  refine Met.ofW (cc := cX0_combine) (maxL := 5) (ret := (some .int)) (by decide) rfl ?_
  intro p e s m args below meth c s₁ B hml hv
  obtain ⟨rfl, hsz, hP, hK, hD0⟩ := hv
  have hx := B.exec
  have hb := B.bytes
  have hr := B.returns
  have hts := atoms_spec (ws := (ws_ yX0_combine cX0_combine 5 (some .int))) B.pre
  have hts : ∀ w ∈ lw_all, w.before _ s = true := fun w h => hts w (List.mem_cons_of_mem _ h)
  have hown : s.vm.findClass RX0 = some m.cls := findClass_of_methodNamed B.named
  have hlocks := B.notSynchronized
  subst hsz
  have hD := hD0.self (sz := s.heap.size)
  generalize hAe : va_A (obW 0 h0 a1 a2 d1 d2 lo hi x y) s.heap.size = A at hD ⊢
  have hA : ∀ q : Nat, s.heap.size ≤ q → A q := fun q h => by rw [← hAe]; exact Or.inr h
  have hS : va_S A s.heap s.heap [] := va_S.rf
  have hP : va_P D vwCl (obW 0 h0 a1 a2 d1 d2 lo hi x y) s.heap := hP
  have hl := lv_entry ([.ref h0, .int p0, .int p1, .int p2, .int p3]) (n := 5) (Nat.le_of_ble_eq_true rfl)
  rw [lg_entry_eq]
  generalize (lg_sl ([.ref h0, .int p0, .int p1, .int p2, .int p3]) ++ List.replicate (5 - (lg_sl ([.ref h0, .int p0, .int p1, .int p2, .int p3])).length) Slot.unset).toArray = ls at hl ⊢
  have hl : lv_has ls 5 [(0, .ref h0), (1, .int p0), (2, .int p1), (3, .int p2), (4, .int p3)] := hl
  generalize hV : fX0_combine p0 p1 p2 p3 lo hi x y = V
  refine lv_iload_n hx hb dX0_combine_0 rfl (lv_at hl 1 rfl) ?_
  refine pu_call (As := [.int p0]) (rest := []) ⟨hx, hb, hml, hown, hts⟩ (meX0_isRegister l p0) (va_cwS 1 hts (lw_S q40 q41 q12 q42) rfl rfl rfl (by decide +kernel) ⟨Nat.le_of_ble_eq_true rfl, Nat.le_of_ble_eq_true rfl⟩) rfl hl.1 rfl (Nat.le_of_ble_eq_true rfl) dX0_combine_1 ⟨Nat.zero_le _, Nat.zero_le _⟩ ?_
  refine lv_if_eq (tgt := 32) hx hb dX0_combine_4 (by decide) (fun c_1 => ?_) (fun c_1 => ?_)
  · refine lv_iconst (v := (-1)) hx hb dX0_combine_32 (by decide) ?_
    exact ob_iret hx hb hr hlocks hK hP hD hS (Eq.trans (Eq.symm (by rw [fX0_combine, if_pos c_1])) hV) dX0_combine_33
  · refine lv_iload_n hx hb dX0_combine_7 rfl (lv_at hl 3 rfl) ?_
    refine pu_call (As := [.int p2]) (rest := []) ⟨hx, hb, hml, hown, hts⟩ (meX0_isRegister l p2) (va_cwS 1 hts (lw_S q40 q41 q12 q42) rfl rfl rfl (by decide +kernel) ⟨Nat.le_of_ble_eq_true rfl, Nat.le_of_ble_eq_true rfl⟩) rfl hl.1 rfl (Nat.le_of_ble_eq_true rfl) dX0_combine_8 ⟨Nat.zero_le _, Nat.zero_le _⟩ ?_
    refine lv_if_eq (tgt := 32) hx hb dX0_combine_11 (by decide) (fun c_2 => ?_) (fun c_2 => ?_)
    · refine lv_iconst (v := (-1)) hx hb dX0_combine_32 (by decide) ?_
      exact ob_iret hx hb hr hlocks hK hP hD hS (Eq.trans (Eq.symm (by rw [fX0_combine, if_neg c_1, if_pos c_2])) hV) dX0_combine_33
    · refine lv_iload hx hb dX0_combine_14 (lv_at hl 4 rfl) ?_
      refine pu_call (As := [.int p3]) (rest := []) ⟨hx, hb, hml, hown, hts⟩ (meX0_isRegister l p3) (va_cwS 1 hts (lw_S q40 q41 q12 q42) rfl rfl rfl (by decide +kernel) ⟨Nat.le_of_ble_eq_true rfl, Nat.le_of_ble_eq_true rfl⟩) rfl hl.1 rfl (Nat.le_of_ble_eq_true rfl) dX0_combine_16 ⟨Nat.zero_le _, Nat.zero_le _⟩ ?_
      refine lv_if_eq (tgt := 32) hx hb dX0_combine_19 (by decide) (fun c_3 => ?_) (fun c_3 => ?_)
      · refine lv_iconst (v := (-1)) hx hb dX0_combine_32 (by decide) ?_
        exact ob_iret hx hb hr hlocks hK hP hD hS (Eq.trans (Eq.symm (by rw [fX0_combine, if_neg c_1, if_neg c_2, if_pos c_3])) hV) dX0_combine_33
      · refine lv_iload_n hx hb dX0_combine_22 rfl (lv_at hl 2 rfl) ?_
        refine lv_if_lt (tgt := 32) hx hb dX0_combine_23 (by decide) (fun c_4 => ?_) (fun c_4 => ?_)
        · refine lv_iconst (v := (-1)) hx hb dX0_combine_32 (by decide) ?_
          exact ob_iret hx hb hr hlocks hK hP hD hS (Eq.trans (Eq.symm (by rw [fX0_combine, if_neg c_1, if_neg c_2, if_neg c_3, if_pos c_4])) hV) dX0_combine_33
        · refine lv_iload_n hx hb dX0_combine_26 rfl (lv_at hl 2 rfl) ?_
          refine lv_bipush (v := 10) hx hb dX0_combine_27 (by decide) ?_
          refine lv_icmp_le (tgt := 34) hx hb dX0_combine_29 (by decide) (fun c_5 => ?_) (fun c_5 => ?_)
          · refine lv_iload_n hx hb dX0_combine_34 rfl (lv_at hl 2 rfl) ?_
            refine lv_iconst (v := 1) hx hb dX0_combine_35 (by decide) ?_
            refine lv_icmp_gt (tgt := 50) hx hb dX0_combine_36 (by decide) (fun c_6 => ?_) (fun c_6 => ?_)
            · refine lv_iload_n hx hb dX0_combine_50 rfl (lv_at hl 2 rfl) ?_
              refine lv_iconst (v := 4) hx hb dX0_combine_51 (by decide) ?_
              refine lv_icmp_gt (tgt := 89) hx hb dX0_combine_52 (by decide) (fun c_7 => ?_) (fun c_7 => ?_)
              · refine lv_iload_n hx hb dX0_combine_89 rfl (lv_at hl 2 rfl) ?_
                refine lv_bipush (v := 6) hx hb dX0_combine_90 (by decide) ?_
                refine lv_icmp_gt (tgt := 106) hx hb dX0_combine_92 (by decide) (fun c_8 => ?_) (fun c_8 => ?_)
                · refine lv_iload_n hx hb dX0_combine_106 rfl (lv_at hl 2 rfl) ?_
                  refine lv_bipush (v := 8) hx hb dX0_combine_107 (by decide) ?_
                  refine lv_icmp_ne (tgt := 122) hx hb dX0_combine_109 (by decide) (fun c_9 => ?_) (fun c_9 => ?_)
                  · refine lv_aload_n hx hb dX0_combine_122 rfl (lv_at hl 0 rfl) ?_
                    refine lv_iload_n hx hb dX0_combine_123 rfl (lv_at hl 2 rfl) ?_
                    refine lv_iload_n hx hb dX0_combine_124 rfl (lv_at hl 3 rfl) ?_
                    refine lv_iload hx hb dX0_combine_125 (lv_at hl 4 rfl) ?_
                    refine ob_callv (ws := (obW 0 h0 a1 a2 d1 d2 lo hi x y)) (wr := []) (rest := []) (As := [.int p1, .int p2, .int p3]) ⟨hx, hb, hml, hown, hts⟩ (meX0_compareEnds l D h0 a1 a2 d1 d2 p1 p2 p3 lo hi x y (isReg_in c_2) (isReg_in c_3)) (cwV 3 hts (lw_V q88 q90 qs5 q12 q91) rfl rfl rfl (by decide +kernel) ⟨Nat.le_of_ble_eq_true rfl, Nat.le_of_ble_eq_true rfl⟩) (show vwCl[0]? = some (RX0, TX0, 4) from rfl) rfl hl.1 rfl (Nat.le_of_ble_eq_true rfl) dX0_combine_127 ⟨Nat.zero_le _, Nat.zero_le _⟩ hK hP hD hS hA [0, 1, 2] [] rfl rfl (by decide) (by decide) (by decide) (fun H locs hP hD hS => ?_)
                    have hP : va_P D vwCl (obW 0 h0 a1 a2 d1 d2 lo hi ((fX0_compareEnds p1 p2 p3 lo hi).1) ((fX0_compareEnds p1 p2 p3 lo hi).2)) H := hP
                    have hD : va_D A (obW 0 h0 a1 a2 d1 d2 lo hi ((fX0_compareEnds p1 p2 p3 lo hi).1) ((fX0_compareEnds p1 p2 p3 lo hi).2)) := hD
                    refine lv_aload_n hx hb dX0_combine_130 rfl (lv_at hl 0 rfl) ?_
                    refine va_get (D := D) (ci := 0) (v := .int ((fX0_compareEnds p1 p2 p3 lo hi).1)) (C := RX0) (T := TX0) (N := 4) hx hb hts in_X0 hown hK hP 0 rfl rfl 2 (by decide) (hts _ q24) (fun _ h9 => h9) rfl dX0_combine_131 ?_
                    refine lv_aload_n hx hb dX0_combine_134 rfl (lv_at hl 0 rfl) ?_
                    refine va_get (D := D) (ci := 0) (v := .int ((fX0_compareEnds p1 p2 p3 lo hi).2)) (C := RX0) (T := TX0) (N := 4) hx hb hts in_X0 hown hK hP 0 rfl rfl 3 (by decide) (hts _ q25) (fun _ h9 => h9) rfl dX0_combine_135 ?_
                    refine lv_icmp_le (tgt := 144) hx hb dX0_combine_138 (by decide) (fun c_10 => ?_) (fun c_10 => ?_)
                    · refine lv_aload_n hx hb dX0_combine_144 rfl (lv_at hl 0 rfl) ?_
                      refine va_get (D := D) (ci := 0) (v := .ref a1) (C := RX0) (T := TX0) (N := 4) hx hb hts in_X0 hown hK hP 0 rfl rfl 0 (by decide) (hts _ q22) (fun _ h9 => h9) rfl dX0_combine_145 ?_
                      refine lv_iload_n hx hb dX0_combine_148 rfl (lv_at hl 1 rfl) ?_
                      refine lv_aload_n hx hb dX0_combine_149 rfl (lv_at hl 0 rfl) ?_
                      refine va_get (D := D) (ci := 0) (v := .int ((fX0_compareEnds p1 p2 p3 lo hi).1)) (C := RX0) (T := TX0) (N := 4) hx hb hts in_X0 hown hK hP 0 rfl rfl 2 (by decide) (hts _ q24) (fun _ h9 => h9) rfl dX0_combine_150 ?_
                      refine va_iast hx hb hK hP hD hS 1 0 rfl rfl (isReg_in c_1) dX0_combine_153 (fun H locs hP hD hS => ?_)
                      have hP : va_P D vwCl (obW 0 h0 a1 a2 d1 d2 (upd lo p0.toNatClampNeg ((fX0_compareEnds p1 p2 p3 lo hi).1)) hi ((fX0_compareEnds p1 p2 p3 lo hi).1) ((fX0_compareEnds p1 p2 p3 lo hi).2)) H := hP
                      have hD : va_D A (obW 0 h0 a1 a2 d1 d2 (upd lo p0.toNatClampNeg ((fX0_compareEnds p1 p2 p3 lo hi).1)) hi ((fX0_compareEnds p1 p2 p3 lo hi).1) ((fX0_compareEnds p1 p2 p3 lo hi).2)) := hD
                      refine lv_aload_n hx hb dX0_combine_154 rfl (lv_at hl 0 rfl) ?_
                      refine va_get (D := D) (ci := 0) (v := .ref a2) (C := RX0) (T := TX0) (N := 4) hx hb hts in_X0 hown hK hP 0 rfl rfl 1 (by decide) (hts _ q23) (fun _ h9 => h9) rfl dX0_combine_155 ?_
                      refine lv_iload_n hx hb dX0_combine_158 rfl (lv_at hl 1 rfl) ?_
                      refine lv_aload_n hx hb dX0_combine_159 rfl (lv_at hl 0 rfl) ?_
                      refine va_get (D := D) (ci := 0) (v := .int ((fX0_compareEnds p1 p2 p3 lo hi).2)) (C := RX0) (T := TX0) (N := 4) hx hb hts in_X0 hown hK hP 0 rfl rfl 3 (by decide) (hts _ q25) (fun _ h9 => h9) rfl dX0_combine_160 ?_
                      refine va_iast hx hb hK hP hD hS 2 1 rfl rfl (isReg_in c_1) dX0_combine_163 (fun H locs hP hD hS => ?_)
                      have hP : va_P D vwCl (obW 0 h0 a1 a2 d1 d2 (upd lo p0.toNatClampNeg ((fX0_compareEnds p1 p2 p3 lo hi).1)) (upd hi p0.toNatClampNeg ((fX0_compareEnds p1 p2 p3 lo hi).2)) ((fX0_compareEnds p1 p2 p3 lo hi).1) ((fX0_compareEnds p1 p2 p3 lo hi).2)) H := hP
                      have hD : va_D A (obW 0 h0 a1 a2 d1 d2 (upd lo p0.toNatClampNeg ((fX0_compareEnds p1 p2 p3 lo hi).1)) (upd hi p0.toNatClampNeg ((fX0_compareEnds p1 p2 p3 lo hi).2)) ((fX0_compareEnds p1 p2 p3 lo hi).1) ((fX0_compareEnds p1 p2 p3 lo hi).2)) := hD
                      refine lv_iconst (v := 0) hx hb dX0_combine_164 (by decide) ?_
                      exact ob_iret hx hb hr hlocks hK hP hD hS (Eq.trans (Eq.symm (by rw [fX0_combine, if_neg c_1, if_neg c_2, if_neg c_3, if_neg c_4, if_pos c_5, if_pos c_6, if_pos c_7, if_pos c_8, if_neg c_9, if_pos c_10])) hV) dX0_combine_165
                    · refine lv_bipush (v := (-2)) hx hb dX0_combine_141 (by decide) ?_
                      exact ob_iret hx hb hr hlocks hK hP hD hS (Eq.trans (Eq.symm (by rw [fX0_combine, if_neg c_1, if_neg c_2, if_neg c_3, if_neg c_4, if_pos c_5, if_pos c_6, if_pos c_7, if_pos c_8, if_neg c_9, if_neg c_10])) hV) dX0_combine_143
                  · refine lv_aload_n hx hb dX0_combine_112 rfl (lv_at hl 0 rfl) ?_
                    refine lv_iload_n hx hb dX0_combine_113 rfl (lv_at hl 3 rfl) ?_
                    refine lv_iload hx hb dX0_combine_114 (lv_at hl 4 rfl) ?_
                    refine ob_callv (ws := (obW 0 h0 a1 a2 d1 d2 lo hi x y)) (wr := []) (rest := []) (As := [.int p2, .int p3]) ⟨hx, hb, hml, hown, hts⟩ (meX0_distance l D h0 a1 a2 d1 d2 p2 p3 lo hi x y (isReg_in c_2) (isReg_in c_3)) (cwV 2 hts (lw_V q81 q83 qs4 q12 q84) rfl rfl rfl (by decide +kernel) ⟨Nat.le_of_ble_eq_true rfl, Nat.le_of_ble_eq_true rfl⟩) (show vwCl[0]? = some (RX0, TX0, 4) from rfl) rfl hl.1 rfl (Nat.le_of_ble_eq_true rfl) dX0_combine_116 ⟨Nat.zero_le _, Nat.zero_le _⟩ hK hP hD hS hA [0, 1, 2] [] rfl rfl (by decide) (by decide) (by decide) (fun H locs hP hD hS => ?_)
                    have hP : va_P D vwCl (obW 0 h0 a1 a2 d1 d2 lo hi ((fX0_distance p2 p3 lo hi).1) ((fX0_distance p2 p3 lo hi).2)) H := hP
                    have hD : va_D A (obW 0 h0 a1 a2 d1 d2 lo hi ((fX0_distance p2 p3 lo hi).1) ((fX0_distance p2 p3 lo hi).2)) := hD
                    refine lv_goto (tgt := 130) hx hb dX0_combine_119 (by decide) ?_
                    refine lv_aload_n hx hb dX0_combine_130 rfl (lv_at hl 0 rfl) ?_
                    refine va_get (D := D) (ci := 0) (v := .int ((fX0_distance p2 p3 lo hi).1)) (C := RX0) (T := TX0) (N := 4) hx hb hts in_X0 hown hK hP 0 rfl rfl 2 (by decide) (hts _ q24) (fun _ h9 => h9) rfl dX0_combine_131 ?_
                    refine lv_aload_n hx hb dX0_combine_134 rfl (lv_at hl 0 rfl) ?_
                    refine va_get (D := D) (ci := 0) (v := .int ((fX0_distance p2 p3 lo hi).2)) (C := RX0) (T := TX0) (N := 4) hx hb hts in_X0 hown hK hP 0 rfl rfl 3 (by decide) (hts _ q25) (fun _ h9 => h9) rfl dX0_combine_135 ?_
                    refine lv_icmp_le (tgt := 144) hx hb dX0_combine_138 (by decide) (fun c_11 => ?_) (fun c_11 => ?_)
                    · refine lv_aload_n hx hb dX0_combine_144 rfl (lv_at hl 0 rfl) ?_
                      refine va_get (D := D) (ci := 0) (v := .ref a1) (C := RX0) (T := TX0) (N := 4) hx hb hts in_X0 hown hK hP 0 rfl rfl 0 (by decide) (hts _ q22) (fun _ h9 => h9) rfl dX0_combine_145 ?_
                      refine lv_iload_n hx hb dX0_combine_148 rfl (lv_at hl 1 rfl) ?_
                      refine lv_aload_n hx hb dX0_combine_149 rfl (lv_at hl 0 rfl) ?_
                      refine va_get (D := D) (ci := 0) (v := .int ((fX0_distance p2 p3 lo hi).1)) (C := RX0) (T := TX0) (N := 4) hx hb hts in_X0 hown hK hP 0 rfl rfl 2 (by decide) (hts _ q24) (fun _ h9 => h9) rfl dX0_combine_150 ?_
                      refine va_iast hx hb hK hP hD hS 1 0 rfl rfl (isReg_in c_1) dX0_combine_153 (fun H locs hP hD hS => ?_)
                      have hP : va_P D vwCl (obW 0 h0 a1 a2 d1 d2 (upd lo p0.toNatClampNeg ((fX0_distance p2 p3 lo hi).1)) hi ((fX0_distance p2 p3 lo hi).1) ((fX0_distance p2 p3 lo hi).2)) H := hP
                      have hD : va_D A (obW 0 h0 a1 a2 d1 d2 (upd lo p0.toNatClampNeg ((fX0_distance p2 p3 lo hi).1)) hi ((fX0_distance p2 p3 lo hi).1) ((fX0_distance p2 p3 lo hi).2)) := hD
                      refine lv_aload_n hx hb dX0_combine_154 rfl (lv_at hl 0 rfl) ?_
                      refine va_get (D := D) (ci := 0) (v := .ref a2) (C := RX0) (T := TX0) (N := 4) hx hb hts in_X0 hown hK hP 0 rfl rfl 1 (by decide) (hts _ q23) (fun _ h9 => h9) rfl dX0_combine_155 ?_
                      refine lv_iload_n hx hb dX0_combine_158 rfl (lv_at hl 1 rfl) ?_
                      refine lv_aload_n hx hb dX0_combine_159 rfl (lv_at hl 0 rfl) ?_
                      refine va_get (D := D) (ci := 0) (v := .int ((fX0_distance p2 p3 lo hi).2)) (C := RX0) (T := TX0) (N := 4) hx hb hts in_X0 hown hK hP 0 rfl rfl 3 (by decide) (hts _ q25) (fun _ h9 => h9) rfl dX0_combine_160 ?_
                      refine va_iast hx hb hK hP hD hS 2 1 rfl rfl (isReg_in c_1) dX0_combine_163 (fun H locs hP hD hS => ?_)
                      have hP : va_P D vwCl (obW 0 h0 a1 a2 d1 d2 (upd lo p0.toNatClampNeg ((fX0_distance p2 p3 lo hi).1)) (upd hi p0.toNatClampNeg ((fX0_distance p2 p3 lo hi).2)) ((fX0_distance p2 p3 lo hi).1) ((fX0_distance p2 p3 lo hi).2)) H := hP
                      have hD : va_D A (obW 0 h0 a1 a2 d1 d2 (upd lo p0.toNatClampNeg ((fX0_distance p2 p3 lo hi).1)) (upd hi p0.toNatClampNeg ((fX0_distance p2 p3 lo hi).2)) ((fX0_distance p2 p3 lo hi).1) ((fX0_distance p2 p3 lo hi).2)) := hD
                      refine lv_iconst (v := 0) hx hb dX0_combine_164 (by decide) ?_
                      exact ob_iret hx hb hr hlocks hK hP hD hS (Eq.trans (Eq.symm (by rw [fX0_combine, if_neg c_1, if_neg c_2, if_neg c_3, if_neg c_4, if_pos c_5, if_pos c_6, if_pos c_7, if_pos c_8, if_pos c_9, if_pos c_11])) hV) dX0_combine_165
                    · refine lv_bipush (v := (-2)) hx hb dX0_combine_141 (by decide) ?_
                      exact ob_iret hx hb hr hlocks hK hP hD hS (Eq.trans (Eq.symm (by rw [fX0_combine, if_neg c_1, if_neg c_2, if_neg c_3, if_neg c_4, if_pos c_5, if_pos c_6, if_pos c_7, if_pos c_8, if_pos c_9, if_neg c_11])) hV) dX0_combine_143
                · refine lv_aload_n hx hb dX0_combine_95 rfl (lv_at hl 0 rfl) ?_
                  refine lv_iload_n hx hb dX0_combine_96 rfl (lv_at hl 2 rfl) ?_
                  refine lv_iload_n hx hb dX0_combine_97 rfl (lv_at hl 3 rfl) ?_
                  refine lv_iload hx hb dX0_combine_98 (lv_at hl 4 rfl) ?_
                  refine ob_callv (ws := (obW 0 h0 a1 a2 d1 d2 lo hi x y)) (wr := []) (rest := []) (As := [.int p1, .int p2, .int p3]) ⟨hx, hb, hml, hown, hts⟩ (meX0_multiplyOrDivide l D h0 a1 a2 d1 d2 p1 p2 p3 lo hi x y (isReg_in c_2) (isReg_in c_3)) (cwV 3 hts (lw_V q77 q79 qs3 q12 q80) rfl rfl rfl (by decide +kernel) ⟨Nat.le_of_ble_eq_true rfl, Nat.le_of_ble_eq_true rfl⟩) (show vwCl[0]? = some (RX0, TX0, 4) from rfl) rfl hl.1 rfl (Nat.le_of_ble_eq_true rfl) dX0_combine_100 ⟨Nat.zero_le _, Nat.zero_le _⟩ hK hP hD hS hA [0, 1, 2] [] rfl rfl (by decide) (by decide) (by decide) (fun H locs hP hD hS => ?_)
                  have hP : va_P D vwCl (obW 0 h0 a1 a2 d1 d2 lo hi ((fX0_multiplyOrDivide p1 p2 p3 lo hi).1) ((fX0_multiplyOrDivide p1 p2 p3 lo hi).2)) H := hP
                  have hD : va_D A (obW 0 h0 a1 a2 d1 d2 lo hi ((fX0_multiplyOrDivide p1 p2 p3 lo hi).1) ((fX0_multiplyOrDivide p1 p2 p3 lo hi).2)) := hD
                  refine lv_goto (tgt := 130) hx hb dX0_combine_103 (by decide) ?_
                  refine lv_aload_n hx hb dX0_combine_130 rfl (lv_at hl 0 rfl) ?_
                  refine va_get (D := D) (ci := 0) (v := .int ((fX0_multiplyOrDivide p1 p2 p3 lo hi).1)) (C := RX0) (T := TX0) (N := 4) hx hb hts in_X0 hown hK hP 0 rfl rfl 2 (by decide) (hts _ q24) (fun _ h9 => h9) rfl dX0_combine_131 ?_
                  refine lv_aload_n hx hb dX0_combine_134 rfl (lv_at hl 0 rfl) ?_
                  refine va_get (D := D) (ci := 0) (v := .int ((fX0_multiplyOrDivide p1 p2 p3 lo hi).2)) (C := RX0) (T := TX0) (N := 4) hx hb hts in_X0 hown hK hP 0 rfl rfl 3 (by decide) (hts _ q25) (fun _ h9 => h9) rfl dX0_combine_135 ?_
                  refine lv_icmp_le (tgt := 144) hx hb dX0_combine_138 (by decide) (fun c_12 => ?_) (fun c_12 => ?_)
                  · refine lv_aload_n hx hb dX0_combine_144 rfl (lv_at hl 0 rfl) ?_
                    refine va_get (D := D) (ci := 0) (v := .ref a1) (C := RX0) (T := TX0) (N := 4) hx hb hts in_X0 hown hK hP 0 rfl rfl 0 (by decide) (hts _ q22) (fun _ h9 => h9) rfl dX0_combine_145 ?_
                    refine lv_iload_n hx hb dX0_combine_148 rfl (lv_at hl 1 rfl) ?_
                    refine lv_aload_n hx hb dX0_combine_149 rfl (lv_at hl 0 rfl) ?_
                    refine va_get (D := D) (ci := 0) (v := .int ((fX0_multiplyOrDivide p1 p2 p3 lo hi).1)) (C := RX0) (T := TX0) (N := 4) hx hb hts in_X0 hown hK hP 0 rfl rfl 2 (by decide) (hts _ q24) (fun _ h9 => h9) rfl dX0_combine_150 ?_
                    refine va_iast hx hb hK hP hD hS 1 0 rfl rfl (isReg_in c_1) dX0_combine_153 (fun H locs hP hD hS => ?_)
                    have hP : va_P D vwCl (obW 0 h0 a1 a2 d1 d2 (upd lo p0.toNatClampNeg ((fX0_multiplyOrDivide p1 p2 p3 lo hi).1)) hi ((fX0_multiplyOrDivide p1 p2 p3 lo hi).1) ((fX0_multiplyOrDivide p1 p2 p3 lo hi).2)) H := hP
                    have hD : va_D A (obW 0 h0 a1 a2 d1 d2 (upd lo p0.toNatClampNeg ((fX0_multiplyOrDivide p1 p2 p3 lo hi).1)) hi ((fX0_multiplyOrDivide p1 p2 p3 lo hi).1) ((fX0_multiplyOrDivide p1 p2 p3 lo hi).2)) := hD
                    refine lv_aload_n hx hb dX0_combine_154 rfl (lv_at hl 0 rfl) ?_
                    refine va_get (D := D) (ci := 0) (v := .ref a2) (C := RX0) (T := TX0) (N := 4) hx hb hts in_X0 hown hK hP 0 rfl rfl 1 (by decide) (hts _ q23) (fun _ h9 => h9) rfl dX0_combine_155 ?_
                    refine lv_iload_n hx hb dX0_combine_158 rfl (lv_at hl 1 rfl) ?_
                    refine lv_aload_n hx hb dX0_combine_159 rfl (lv_at hl 0 rfl) ?_
                    refine va_get (D := D) (ci := 0) (v := .int ((fX0_multiplyOrDivide p1 p2 p3 lo hi).2)) (C := RX0) (T := TX0) (N := 4) hx hb hts in_X0 hown hK hP 0 rfl rfl 3 (by decide) (hts _ q25) (fun _ h9 => h9) rfl dX0_combine_160 ?_
                    refine va_iast hx hb hK hP hD hS 2 1 rfl rfl (isReg_in c_1) dX0_combine_163 (fun H locs hP hD hS => ?_)
                    have hP : va_P D vwCl (obW 0 h0 a1 a2 d1 d2 (upd lo p0.toNatClampNeg ((fX0_multiplyOrDivide p1 p2 p3 lo hi).1)) (upd hi p0.toNatClampNeg ((fX0_multiplyOrDivide p1 p2 p3 lo hi).2)) ((fX0_multiplyOrDivide p1 p2 p3 lo hi).1) ((fX0_multiplyOrDivide p1 p2 p3 lo hi).2)) H := hP
                    have hD : va_D A (obW 0 h0 a1 a2 d1 d2 (upd lo p0.toNatClampNeg ((fX0_multiplyOrDivide p1 p2 p3 lo hi).1)) (upd hi p0.toNatClampNeg ((fX0_multiplyOrDivide p1 p2 p3 lo hi).2)) ((fX0_multiplyOrDivide p1 p2 p3 lo hi).1) ((fX0_multiplyOrDivide p1 p2 p3 lo hi).2)) := hD
                    refine lv_iconst (v := 0) hx hb dX0_combine_164 (by decide) ?_
                    exact ob_iret hx hb hr hlocks hK hP hD hS (Eq.trans (Eq.symm (by rw [fX0_combine, if_neg c_1, if_neg c_2, if_neg c_3, if_neg c_4, if_pos c_5, if_pos c_6, if_pos c_7, if_neg c_8, if_pos c_12])) hV) dX0_combine_165
                  · refine lv_bipush (v := (-2)) hx hb dX0_combine_141 (by decide) ?_
                    exact ob_iret hx hb hr hlocks hK hP hD hS (Eq.trans (Eq.symm (by rw [fX0_combine, if_neg c_1, if_neg c_2, if_neg c_3, if_neg c_4, if_pos c_5, if_pos c_6, if_pos c_7, if_neg c_8, if_neg c_12])) hV) dX0_combine_143
              · refine lv_aload_n hx hb dX0_combine_55 rfl (lv_at hl 0 rfl) ?_
                refine lv_iload_n hx hb dX0_combine_56 rfl (lv_at hl 2 rfl) ?_
                refine lv_aload_n hx hb dX0_combine_57 rfl (lv_at hl 0 rfl) ?_
                refine va_get (D := D) (ci := 0) (v := .ref a1) (C := RX0) (T := TX0) (N := 4) hx hb hts in_X0 hown hK hP 0 rfl rfl 0 (by decide) (hts _ q22) (fun _ h9 => h9) rfl dX0_combine_58 ?_
                refine lv_iload_n hx hb dX0_combine_61 rfl (lv_at hl 3 rfl) ?_
                refine va_iald hx hb hK hP 1 0 rfl rfl (isReg_in c_2) dX0_combine_62 ?_
                refine lv_aload_n hx hb dX0_combine_63 rfl (lv_at hl 0 rfl) ?_
                refine va_get (D := D) (ci := 0) (v := .ref a2) (C := RX0) (T := TX0) (N := 4) hx hb hts in_X0 hown hK hP 0 rfl rfl 1 (by decide) (hts _ q23) (fun _ h9 => h9) rfl dX0_combine_64 ?_
                refine lv_iload_n hx hb dX0_combine_67 rfl (lv_at hl 3 rfl) ?_
                refine va_iald hx hb hK hP 2 1 rfl rfl (isReg_in c_2) dX0_combine_68 ?_
                refine lv_aload_n hx hb dX0_combine_69 rfl (lv_at hl 0 rfl) ?_
                refine va_get (D := D) (ci := 0) (v := .ref a1) (C := RX0) (T := TX0) (N := 4) hx hb hts in_X0 hown hK hP 0 rfl rfl 0 (by decide) (hts _ q22) (fun _ h9 => h9) rfl dX0_combine_70 ?_
                refine lv_iload hx hb dX0_combine_73 (lv_at hl 4 rfl) ?_
                refine va_iald hx hb hK hP 1 0 rfl rfl (isReg_in c_3) dX0_combine_75 ?_
                refine lv_aload_n hx hb dX0_combine_76 rfl (lv_at hl 0 rfl) ?_
                refine va_get (D := D) (ci := 0) (v := .ref a2) (C := RX0) (T := TX0) (N := 4) hx hb hts in_X0 hown hK hP 0 rfl rfl 1 (by decide) (hts _ q23) (fun _ h9 => h9) rfl dX0_combine_77 ?_
                refine lv_iload hx hb dX0_combine_80 (lv_at hl 4 rfl) ?_
                refine va_iald hx hb hK hP 2 1 rfl rfl (isReg_in c_3) dX0_combine_82 ?_
                refine ob_callv (ws := (obW 0 h0 a1 a2 d1 d2 lo hi x y)) (wr := []) (rest := []) (As := [.int p1, .int (lo p2.toNatClampNeg), .int (hi p2.toNatClampNeg), .int (lo p3.toNatClampNeg), .int (hi p3.toNatClampNeg)]) ⟨hx, hb, hml, hown, hts⟩ (meX0_bitwise l D h0 a1 a2 d1 d2 p1 (lo p2.toNatClampNeg) (hi p2.toNatClampNeg) (lo p3.toNatClampNeg) (hi p3.toNatClampNeg) lo hi x y) (cwV 5 hts (lw_V q55 q57 qs2 q12 q58) rfl rfl rfl (by decide +kernel) ⟨Nat.le_of_ble_eq_true rfl, Nat.le_of_ble_eq_true rfl⟩) (show vwCl[0]? = some (RX0, TX0, 4) from rfl) rfl hl.1 rfl (Nat.le_of_ble_eq_true rfl) dX0_combine_83 ⟨Nat.zero_le _, Nat.zero_le _⟩ hK hP hD hS hA [0, 1, 2] [] rfl rfl (by decide) (by decide) (by decide) (fun H locs hP hD hS => ?_)
                have hP : va_P D vwCl (obW 0 h0 a1 a2 d1 d2 lo hi ((fX0_bitwise p1 (lo p2.toNatClampNeg) (hi p2.toNatClampNeg) (lo p3.toNatClampNeg) (hi p3.toNatClampNeg)).1) ((fX0_bitwise p1 (lo p2.toNatClampNeg) (hi p2.toNatClampNeg) (lo p3.toNatClampNeg) (hi p3.toNatClampNeg)).2)) H := hP
                have hD : va_D A (obW 0 h0 a1 a2 d1 d2 lo hi ((fX0_bitwise p1 (lo p2.toNatClampNeg) (hi p2.toNatClampNeg) (lo p3.toNatClampNeg) (hi p3.toNatClampNeg)).1) ((fX0_bitwise p1 (lo p2.toNatClampNeg) (hi p2.toNatClampNeg) (lo p3.toNatClampNeg) (hi p3.toNatClampNeg)).2)) := hD
                refine lv_goto (tgt := 130) hx hb dX0_combine_86 (by decide) ?_
                refine lv_aload_n hx hb dX0_combine_130 rfl (lv_at hl 0 rfl) ?_
                refine va_get (D := D) (ci := 0) (v := .int ((fX0_bitwise p1 (lo p2.toNatClampNeg) (hi p2.toNatClampNeg) (lo p3.toNatClampNeg) (hi p3.toNatClampNeg)).1)) (C := RX0) (T := TX0) (N := 4) hx hb hts in_X0 hown hK hP 0 rfl rfl 2 (by decide) (hts _ q24) (fun _ h9 => h9) rfl dX0_combine_131 ?_
                refine lv_aload_n hx hb dX0_combine_134 rfl (lv_at hl 0 rfl) ?_
                refine va_get (D := D) (ci := 0) (v := .int ((fX0_bitwise p1 (lo p2.toNatClampNeg) (hi p2.toNatClampNeg) (lo p3.toNatClampNeg) (hi p3.toNatClampNeg)).2)) (C := RX0) (T := TX0) (N := 4) hx hb hts in_X0 hown hK hP 0 rfl rfl 3 (by decide) (hts _ q25) (fun _ h9 => h9) rfl dX0_combine_135 ?_
                refine lv_icmp_le (tgt := 144) hx hb dX0_combine_138 (by decide) (fun c_13 => ?_) (fun c_13 => ?_)
                · refine lv_aload_n hx hb dX0_combine_144 rfl (lv_at hl 0 rfl) ?_
                  refine va_get (D := D) (ci := 0) (v := .ref a1) (C := RX0) (T := TX0) (N := 4) hx hb hts in_X0 hown hK hP 0 rfl rfl 0 (by decide) (hts _ q22) (fun _ h9 => h9) rfl dX0_combine_145 ?_
                  refine lv_iload_n hx hb dX0_combine_148 rfl (lv_at hl 1 rfl) ?_
                  refine lv_aload_n hx hb dX0_combine_149 rfl (lv_at hl 0 rfl) ?_
                  refine va_get (D := D) (ci := 0) (v := .int ((fX0_bitwise p1 (lo p2.toNatClampNeg) (hi p2.toNatClampNeg) (lo p3.toNatClampNeg) (hi p3.toNatClampNeg)).1)) (C := RX0) (T := TX0) (N := 4) hx hb hts in_X0 hown hK hP 0 rfl rfl 2 (by decide) (hts _ q24) (fun _ h9 => h9) rfl dX0_combine_150 ?_
                  refine va_iast hx hb hK hP hD hS 1 0 rfl rfl (isReg_in c_1) dX0_combine_153 (fun H locs hP hD hS => ?_)
                  have hP : va_P D vwCl (obW 0 h0 a1 a2 d1 d2 (upd lo p0.toNatClampNeg ((fX0_bitwise p1 (lo p2.toNatClampNeg) (hi p2.toNatClampNeg) (lo p3.toNatClampNeg) (hi p3.toNatClampNeg)).1)) hi ((fX0_bitwise p1 (lo p2.toNatClampNeg) (hi p2.toNatClampNeg) (lo p3.toNatClampNeg) (hi p3.toNatClampNeg)).1) ((fX0_bitwise p1 (lo p2.toNatClampNeg) (hi p2.toNatClampNeg) (lo p3.toNatClampNeg) (hi p3.toNatClampNeg)).2)) H := hP
                  have hD : va_D A (obW 0 h0 a1 a2 d1 d2 (upd lo p0.toNatClampNeg ((fX0_bitwise p1 (lo p2.toNatClampNeg) (hi p2.toNatClampNeg) (lo p3.toNatClampNeg) (hi p3.toNatClampNeg)).1)) hi ((fX0_bitwise p1 (lo p2.toNatClampNeg) (hi p2.toNatClampNeg) (lo p3.toNatClampNeg) (hi p3.toNatClampNeg)).1) ((fX0_bitwise p1 (lo p2.toNatClampNeg) (hi p2.toNatClampNeg) (lo p3.toNatClampNeg) (hi p3.toNatClampNeg)).2)) := hD
                  refine lv_aload_n hx hb dX0_combine_154 rfl (lv_at hl 0 rfl) ?_
                  refine va_get (D := D) (ci := 0) (v := .ref a2) (C := RX0) (T := TX0) (N := 4) hx hb hts in_X0 hown hK hP 0 rfl rfl 1 (by decide) (hts _ q23) (fun _ h9 => h9) rfl dX0_combine_155 ?_
                  refine lv_iload_n hx hb dX0_combine_158 rfl (lv_at hl 1 rfl) ?_
                  refine lv_aload_n hx hb dX0_combine_159 rfl (lv_at hl 0 rfl) ?_
                  refine va_get (D := D) (ci := 0) (v := .int ((fX0_bitwise p1 (lo p2.toNatClampNeg) (hi p2.toNatClampNeg) (lo p3.toNatClampNeg) (hi p3.toNatClampNeg)).2)) (C := RX0) (T := TX0) (N := 4) hx hb hts in_X0 hown hK hP 0 rfl rfl 3 (by decide) (hts _ q25) (fun _ h9 => h9) rfl dX0_combine_160 ?_
                  refine va_iast hx hb hK hP hD hS 2 1 rfl rfl (isReg_in c_1) dX0_combine_163 (fun H locs hP hD hS => ?_)
                  have hP : va_P D vwCl (obW 0 h0 a1 a2 d1 d2 (upd lo p0.toNatClampNeg ((fX0_bitwise p1 (lo p2.toNatClampNeg) (hi p2.toNatClampNeg) (lo p3.toNatClampNeg) (hi p3.toNatClampNeg)).1)) (upd hi p0.toNatClampNeg ((fX0_bitwise p1 (lo p2.toNatClampNeg) (hi p2.toNatClampNeg) (lo p3.toNatClampNeg) (hi p3.toNatClampNeg)).2)) ((fX0_bitwise p1 (lo p2.toNatClampNeg) (hi p2.toNatClampNeg) (lo p3.toNatClampNeg) (hi p3.toNatClampNeg)).1) ((fX0_bitwise p1 (lo p2.toNatClampNeg) (hi p2.toNatClampNeg) (lo p3.toNatClampNeg) (hi p3.toNatClampNeg)).2)) H := hP
                  have hD : va_D A (obW 0 h0 a1 a2 d1 d2 (upd lo p0.toNatClampNeg ((fX0_bitwise p1 (lo p2.toNatClampNeg) (hi p2.toNatClampNeg) (lo p3.toNatClampNeg) (hi p3.toNatClampNeg)).1)) (upd hi p0.toNatClampNeg ((fX0_bitwise p1 (lo p2.toNatClampNeg) (hi p2.toNatClampNeg) (lo p3.toNatClampNeg) (hi p3.toNatClampNeg)).2)) ((fX0_bitwise p1 (lo p2.toNatClampNeg) (hi p2.toNatClampNeg) (lo p3.toNatClampNeg) (hi p3.toNatClampNeg)).1) ((fX0_bitwise p1 (lo p2.toNatClampNeg) (hi p2.toNatClampNeg) (lo p3.toNatClampNeg) (hi p3.toNatClampNeg)).2)) := hD
                  refine lv_iconst (v := 0) hx hb dX0_combine_164 (by decide) ?_
                  exact ob_iret hx hb hr hlocks hK hP hD hS (Eq.trans (Eq.symm (by rw [fX0_combine, if_neg c_1, if_neg c_2, if_neg c_3, if_neg c_4, if_pos c_5, if_pos c_6, if_neg c_7, if_pos c_13])) hV) dX0_combine_165
                · refine lv_bipush (v := (-2)) hx hb dX0_combine_141 (by decide) ?_
                  exact ob_iret hx hb hr hlocks hK hP hD hS (Eq.trans (Eq.symm (by rw [fX0_combine, if_neg c_1, if_neg c_2, if_neg c_3, if_neg c_4, if_pos c_5, if_pos c_6, if_neg c_7, if_neg c_13])) hV) dX0_combine_143
            · refine lv_aload_n hx hb dX0_combine_39 rfl (lv_at hl 0 rfl) ?_
              refine lv_iload_n hx hb dX0_combine_40 rfl (lv_at hl 2 rfl) ?_
              refine lv_iload_n hx hb dX0_combine_41 rfl (lv_at hl 3 rfl) ?_
              refine lv_iload hx hb dX0_combine_42 (lv_at hl 4 rfl) ?_
              refine ob_callv (ws := (obW 0 h0 a1 a2 d1 d2 lo hi x y)) (wr := []) (rest := []) (As := [.int p1, .int p2, .int p3]) ⟨hx, hb, hml, hown, hts⟩ (meX0_addOrSubtract l D h0 a1 a2 d1 d2 p1 p2 p3 lo hi x y (isReg_in c_2) (isReg_in c_3)) (cwV 3 hts (lw_V q47 q49 qs0 q12 q50) rfl rfl rfl (by decide +kernel) ⟨Nat.le_of_ble_eq_true rfl, Nat.le_of_ble_eq_true rfl⟩) (show vwCl[0]? = some (RX0, TX0, 4) from rfl) rfl hl.1 rfl (Nat.le_of_ble_eq_true rfl) dX0_combine_44 ⟨Nat.zero_le _, Nat.zero_le _⟩ hK hP hD hS hA [0, 1, 2] [] rfl rfl (by decide) (by decide) (by decide) (fun H locs hP hD hS => ?_)
              have hP : va_P D vwCl (obW 0 h0 a1 a2 d1 d2 lo hi ((fX0_addOrSubtract p1 p2 p3 lo hi).1) ((fX0_addOrSubtract p1 p2 p3 lo hi).2)) H := hP
              have hD : va_D A (obW 0 h0 a1 a2 d1 d2 lo hi ((fX0_addOrSubtract p1 p2 p3 lo hi).1) ((fX0_addOrSubtract p1 p2 p3 lo hi).2)) := hD
              refine lv_goto (tgt := 130) hx hb dX0_combine_47 (by decide) ?_
              refine lv_aload_n hx hb dX0_combine_130 rfl (lv_at hl 0 rfl) ?_
              refine va_get (D := D) (ci := 0) (v := .int ((fX0_addOrSubtract p1 p2 p3 lo hi).1)) (C := RX0) (T := TX0) (N := 4) hx hb hts in_X0 hown hK hP 0 rfl rfl 2 (by decide) (hts _ q24) (fun _ h9 => h9) rfl dX0_combine_131 ?_
              refine lv_aload_n hx hb dX0_combine_134 rfl (lv_at hl 0 rfl) ?_
              refine va_get (D := D) (ci := 0) (v := .int ((fX0_addOrSubtract p1 p2 p3 lo hi).2)) (C := RX0) (T := TX0) (N := 4) hx hb hts in_X0 hown hK hP 0 rfl rfl 3 (by decide) (hts _ q25) (fun _ h9 => h9) rfl dX0_combine_135 ?_
              refine lv_icmp_le (tgt := 144) hx hb dX0_combine_138 (by decide) (fun c_14 => ?_) (fun c_14 => ?_)
              · refine lv_aload_n hx hb dX0_combine_144 rfl (lv_at hl 0 rfl) ?_
                refine va_get (D := D) (ci := 0) (v := .ref a1) (C := RX0) (T := TX0) (N := 4) hx hb hts in_X0 hown hK hP 0 rfl rfl 0 (by decide) (hts _ q22) (fun _ h9 => h9) rfl dX0_combine_145 ?_
                refine lv_iload_n hx hb dX0_combine_148 rfl (lv_at hl 1 rfl) ?_
                refine lv_aload_n hx hb dX0_combine_149 rfl (lv_at hl 0 rfl) ?_
                refine va_get (D := D) (ci := 0) (v := .int ((fX0_addOrSubtract p1 p2 p3 lo hi).1)) (C := RX0) (T := TX0) (N := 4) hx hb hts in_X0 hown hK hP 0 rfl rfl 2 (by decide) (hts _ q24) (fun _ h9 => h9) rfl dX0_combine_150 ?_
                refine va_iast hx hb hK hP hD hS 1 0 rfl rfl (isReg_in c_1) dX0_combine_153 (fun H locs hP hD hS => ?_)
                have hP : va_P D vwCl (obW 0 h0 a1 a2 d1 d2 (upd lo p0.toNatClampNeg ((fX0_addOrSubtract p1 p2 p3 lo hi).1)) hi ((fX0_addOrSubtract p1 p2 p3 lo hi).1) ((fX0_addOrSubtract p1 p2 p3 lo hi).2)) H := hP
                have hD : va_D A (obW 0 h0 a1 a2 d1 d2 (upd lo p0.toNatClampNeg ((fX0_addOrSubtract p1 p2 p3 lo hi).1)) hi ((fX0_addOrSubtract p1 p2 p3 lo hi).1) ((fX0_addOrSubtract p1 p2 p3 lo hi).2)) := hD
                refine lv_aload_n hx hb dX0_combine_154 rfl (lv_at hl 0 rfl) ?_
                refine va_get (D := D) (ci := 0) (v := .ref a2) (C := RX0) (T := TX0) (N := 4) hx hb hts in_X0 hown hK hP 0 rfl rfl 1 (by decide) (hts _ q23) (fun _ h9 => h9) rfl dX0_combine_155 ?_
                refine lv_iload_n hx hb dX0_combine_158 rfl (lv_at hl 1 rfl) ?_
                refine lv_aload_n hx hb dX0_combine_159 rfl (lv_at hl 0 rfl) ?_
                refine va_get (D := D) (ci := 0) (v := .int ((fX0_addOrSubtract p1 p2 p3 lo hi).2)) (C := RX0) (T := TX0) (N := 4) hx hb hts in_X0 hown hK hP 0 rfl rfl 3 (by decide) (hts _ q25) (fun _ h9 => h9) rfl dX0_combine_160 ?_
                refine va_iast hx hb hK hP hD hS 2 1 rfl rfl (isReg_in c_1) dX0_combine_163 (fun H locs hP hD hS => ?_)
                have hP : va_P D vwCl (obW 0 h0 a1 a2 d1 d2 (upd lo p0.toNatClampNeg ((fX0_addOrSubtract p1 p2 p3 lo hi).1)) (upd hi p0.toNatClampNeg ((fX0_addOrSubtract p1 p2 p3 lo hi).2)) ((fX0_addOrSubtract p1 p2 p3 lo hi).1) ((fX0_addOrSubtract p1 p2 p3 lo hi).2)) H := hP
                have hD : va_D A (obW 0 h0 a1 a2 d1 d2 (upd lo p0.toNatClampNeg ((fX0_addOrSubtract p1 p2 p3 lo hi).1)) (upd hi p0.toNatClampNeg ((fX0_addOrSubtract p1 p2 p3 lo hi).2)) ((fX0_addOrSubtract p1 p2 p3 lo hi).1) ((fX0_addOrSubtract p1 p2 p3 lo hi).2)) := hD
                refine lv_iconst (v := 0) hx hb dX0_combine_164 (by decide) ?_
                exact ob_iret hx hb hr hlocks hK hP hD hS (Eq.trans (Eq.symm (by rw [fX0_combine, if_neg c_1, if_neg c_2, if_neg c_3, if_neg c_4, if_pos c_5, if_neg c_6, if_pos c_14])) hV) dX0_combine_165
              · refine lv_bipush (v := (-2)) hx hb dX0_combine_141 (by decide) ?_
                exact ob_iret hx hb hr hlocks hK hP hD hS (Eq.trans (Eq.symm (by rw [fX0_combine, if_neg c_1, if_neg c_2, if_neg c_3, if_neg c_4, if_pos c_5, if_neg c_6, if_neg c_14])) hV) dX0_combine_143
          · refine lv_iconst (v := (-1)) hx hb dX0_combine_32 (by decide) ?_
            exact ob_iret hx hb hr hlocks hK hP hD hS (Eq.trans (Eq.symm (by rw [fX0_combine, if_neg c_1, if_neg c_2, if_neg c_3, if_neg c_4, if_neg c_5])) hV) dX0_combine_33
set_option maxHeartbeats 4000000 in
set_option maxRecDepth 100000 in
theorem meX0_apply (l : Launch) (D : va_G) (h0 a1 a2 : Nat) (d1 d2 : ClassId) (p0 p1 p2 : Int32) (lo hi : Nat → Int32) (x y : Int32) : ObI l yX0_apply (ws_ yX0_apply cX0_apply 8 (some .int)) ({ frames := 2, cells := 0, slots := 0, locals := 50 } : Room) D 0 h0 a1 a2 d1 d2 [.int p0, .int p1, .int p2] lo hi x y (fX0_apply p0 p1 p2 lo hi x y) := by
  intro sz
  refine Met.ofW (cc := cX0_apply) (maxL := 8) (ret := (some .int)) (by decide) rfl ?_
  intro p e s m args below meth c s₁ B hml hv
  obtain ⟨rfl, hsz, hP, hK, hD0⟩ := hv
  have hx := B.exec
  have hb := B.bytes
  have hr := B.returns
  have hts := atoms_spec (ws := (ws_ yX0_apply cX0_apply 8 (some .int))) B.pre
  have hts : ∀ w ∈ lw_all, w.before _ s = true := fun w h => hts w (List.mem_cons_of_mem _ h)
  have hown : s.vm.findClass RX0 = some m.cls := findClass_of_methodNamed B.named
  have hlocks := B.notSynchronized
  subst hsz
  have hD := hD0.self (sz := s.heap.size)
  generalize hAe : va_A (obW 0 h0 a1 a2 d1 d2 lo hi x y) s.heap.size = A at hD ⊢
  have hA : ∀ q : Nat, s.heap.size ≤ q → A q := fun q h => by rw [← hAe]; exact Or.inr h
  have hS : va_S A s.heap s.heap [] := va_S.rf
  have hP : va_P D vwCl (obW 0 h0 a1 a2 d1 d2 lo hi x y) s.heap := hP
  have hl := lv_entry ([.ref h0, .int p0, .int p1, .int p2]) (n := 8) (Nat.le_of_ble_eq_true rfl)
  rw [lg_entry_eq]
  generalize (lg_sl ([.ref h0, .int p0, .int p1, .int p2]) ++ List.replicate (8 - (lg_sl ([.ref h0, .int p0, .int p1, .int p2])).length) Slot.unset).toArray = ls at hl ⊢
  have hl : lv_has ls 8 [(0, .ref h0), (1, .int p0), (2, .int p1), (3, .int p2)] := hl
  generalize hV : fX0_apply p0 p1 p2 lo hi x y = V
  refine lv_iload_n hx hb dX0_apply_0 rfl (lv_at hl 1 rfl) ?_
  refine pu_call (As := [.int p0]) (rest := []) ⟨hx, hb, hml, hown, hts⟩ (meX0_isRegister l p0) (va_cwS 1 hts (lw_S q40 q41 q12 q42) rfl rfl rfl (by decide +kernel) ⟨Nat.le_of_ble_eq_true rfl, Nat.le_of_ble_eq_true rfl⟩) rfl hl.1 rfl (Nat.le_of_ble_eq_true rfl) dX0_apply_1 ⟨Nat.zero_le _, Nat.zero_le _⟩ ?_
  refine lv_if_eq (tgt := 23) hx hb dX0_apply_4 (by decide) (fun c_1 => ?_) (fun c_1 => ?_)
  · refine lv_iconst (v := (-1)) hx hb dX0_apply_23 (by decide) ?_
    exact ob_iret hx hb hr hlocks hK hP hD hS (Eq.trans (Eq.symm (by rw [fX0_apply, if_pos c_1])) hV) dX0_apply_24
  · refine lv_iload_n hx hb dX0_apply_7 rfl (lv_at hl 3 rfl) ?_
    refine pu_call (As := [.int p2]) (rest := []) ⟨hx, hb, hml, hown, hts⟩ (meX0_isRegister l p2) (va_cwS 1 hts (lw_S q40 q41 q12 q42) rfl rfl rfl (by decide +kernel) ⟨Nat.le_of_ble_eq_true rfl, Nat.le_of_ble_eq_true rfl⟩) rfl hl.1 rfl (Nat.le_of_ble_eq_true rfl) dX0_apply_8 ⟨Nat.zero_le _, Nat.zero_le _⟩ ?_
    refine lv_if_eq (tgt := 23) hx hb dX0_apply_11 (by decide) (fun c_2 => ?_) (fun c_2 => ?_)
    · refine lv_iconst (v := (-1)) hx hb dX0_apply_23 (by decide) ?_
      exact ob_iret hx hb hr hlocks hK hP hD hS (Eq.trans (Eq.symm (by rw [fX0_apply, if_neg c_1, if_pos c_2])) hV) dX0_apply_24
    · refine lv_iload_n hx hb dX0_apply_14 rfl (lv_at hl 2 rfl) ?_
      refine lv_if_lt (tgt := 23) hx hb dX0_apply_15 (by decide) (fun c_3 => ?_) (fun c_3 => ?_)
      · refine lv_iconst (v := (-1)) hx hb dX0_apply_23 (by decide) ?_
        exact ob_iret hx hb hr hlocks hK hP hD hS (Eq.trans (Eq.symm (by rw [fX0_apply, if_neg c_1, if_neg c_2, if_pos c_3])) hV) dX0_apply_24
      · refine lv_iload_n hx hb dX0_apply_18 rfl (lv_at hl 2 rfl) ?_
        refine lv_iconst (v := 4) hx hb dX0_apply_19 (by decide) ?_
        refine lv_icmp_le (tgt := 25) hx hb dX0_apply_20 (by decide) (fun c_4 => ?_) (fun c_4 => ?_)
        · refine lv_aload_n hx hb dX0_apply_25 rfl (lv_at hl 0 rfl) ?_
          refine va_get (D := D) (ci := 0) (v := .ref a1) (C := RX0) (T := TX0) (N := 4) hx hb hts in_X0 hown hK hP 0 rfl rfl 0 (by decide) (hts _ q22) (fun _ h9 => h9) rfl dX0_apply_26 ?_
          refine lv_iload_n hx hb dX0_apply_29 rfl (lv_at hl 3 rfl) ?_
          refine va_iald hx hb hK hP 1 0 rfl rfl (isReg_in c_2) dX0_apply_30 ?_
          refine lv_istore (lv' := [(4, .int (lo p2.toNatClampNeg)), (0, .ref h0), (1, .int p0), (2, .int p1), (3, .int p2)]) hx hb dX0_apply_31 hl (by decide) rfl (fun ls hl => ?_)
          refine lv_aload_n hx hb dX0_apply_33 rfl (lv_at hl 1 rfl) ?_
          refine va_get (D := D) (ci := 0) (v := .ref a2) (C := RX0) (T := TX0) (N := 4) hx hb hts in_X0 hown hK hP 0 rfl rfl 1 (by decide) (hts _ q23) (fun _ h9 => h9) rfl dX0_apply_34 ?_
          refine lv_iload_n hx hb dX0_apply_37 rfl (lv_at hl 4 rfl) ?_
          refine va_iald hx hb hK hP 2 1 rfl rfl (isReg_in c_2) dX0_apply_38 ?_
          refine lv_istore (lv' := [(5, .int (hi p2.toNatClampNeg)), (4, .int (lo p2.toNatClampNeg)), (0, .ref h0), (1, .int p0), (2, .int p1), (3, .int p2)]) hx hb dX0_apply_39 hl (by decide) rfl (fun ls hl => ?_)
          refine lv_iload_n hx hb dX0_apply_41 rfl (lv_at hl 4 rfl) ?_
          refine lv_if_ne (tgt := 62) hx hb dX0_apply_42 (by decide) (fun c_5 => ?_) (fun c_5 => ?_)
          · refine lv_iload_n hx hb dX0_apply_62 rfl (lv_at hl 4 rfl) ?_
            refine lv_iconst (v := 1) hx hb dX0_apply_63 (by decide) ?_
            refine lv_icmp_ne (tgt := 78) hx hb dX0_apply_64 (by decide) (fun c_6 => ?_) (fun c_6 => ?_)
            · refine lv_iload_n hx hb dX0_apply_78 rfl (lv_at hl 4 rfl) ?_
              refine lv_iconst (v := 2) hx hb dX0_apply_79 (by decide) ?_
              refine lv_icmp_ne (tgt := 114) hx hb dX0_apply_80 (by decide) (fun c_7 => ?_) (fun c_7 => ?_)
              · refine lv_iload_n hx hb dX0_apply_114 rfl (lv_at hl 4 rfl) ?_
                refine lv_iconst (v := 3) hx hb dX0_apply_115 (by decide) ?_
                refine lv_icmp_ne (tgt := 144) hx hb dX0_apply_116 (by decide) (fun c_8 => ?_) (fun c_8 => ?_)
                · refine lv_aload_n hx hb dX0_apply_144 rfl (lv_at hl 2 rfl) ?_
                  refine lv_iload hx hb dX0_apply_145 (lv_at hl 1 rfl) ?_
                  refine lv_iload hx hb dX0_apply_147 (lv_at hl 0 rfl) ?_
                  refine ob_callv (ws := (obW 0 h0 a1 a2 d1 d2 lo hi x y)) (wr := []) (rest := []) (As := [.int (lo p2.toNatClampNeg), .int (hi p2.toNatClampNeg)]) ⟨hx, hb, hml, hown, hts⟩ (meX0_doubled l D h0 a1 a2 d1 d2 (lo p2.toNatClampNeg) (hi p2.toNatClampNeg) lo hi x y) (cwV 2 hts (lw_V q112 q114 qs7 q12 q115) rfl rfl rfl (by decide +kernel) ⟨Nat.le_of_ble_eq_true rfl, Nat.le_of_ble_eq_true rfl⟩) (show vwCl[0]? = some (RX0, TX0, 4) from rfl) rfl hl.1 rfl (Nat.le_of_ble_eq_true rfl) dX0_apply_149 ⟨Nat.zero_le _, Nat.zero_le _⟩ hK hP hD hS hA [0, 1, 2] [] rfl rfl (by decide) (by decide) (by decide) (fun H locs hP hD hS => ?_)
                  have hP : va_P D vwCl (obW 0 h0 a1 a2 d1 d2 lo hi ((fX0_doubled (lo p2.toNatClampNeg) (hi p2.toNatClampNeg)).1) ((fX0_doubled (lo p2.toNatClampNeg) (hi p2.toNatClampNeg)).2)) H := hP
                  have hD : va_D A (obW 0 h0 a1 a2 d1 d2 lo hi ((fX0_doubled (lo p2.toNatClampNeg) (hi p2.toNatClampNeg)).1) ((fX0_doubled (lo p2.toNatClampNeg) (hi p2.toNatClampNeg)).2)) := hD
                  refine lv_aload_n hx hb dX0_apply_152 rfl (lv_at hl 2 rfl) ?_
                  refine va_get (D := D) (ci := 0) (v := .ref a1) (C := RX0) (T := TX0) (N := 4) hx hb hts in_X0 hown hK hP 0 rfl rfl 0 (by decide) (hts _ q22) (fun _ h9 => h9) rfl dX0_apply_153 ?_
                  refine lv_iload_n hx hb dX0_apply_156 rfl (lv_at hl 3 rfl) ?_
                  refine lv_aload_n hx hb dX0_apply_157 rfl (lv_at hl 2 rfl) ?_
                  refine va_get (D := D) (ci := 0) (v := .int ((fX0_doubled (lo p2.toNatClampNeg) (hi p2.toNatClampNeg)).1)) (C := RX0) (T := TX0) (N := 4) hx hb hts in_X0 hown hK hP 0 rfl rfl 2 (by decide) (hts _ q24) (fun _ h9 => h9) rfl dX0_apply_158 ?_
                  refine va_iast hx hb hK hP hD hS 1 0 rfl rfl (isReg_in c_1) dX0_apply_161 (fun H locs hP hD hS => ?_)
                  have hP : va_P D vwCl (obW 0 h0 a1 a2 d1 d2 (upd lo p0.toNatClampNeg ((fX0_doubled (lo p2.toNatClampNeg) (hi p2.toNatClampNeg)).1)) hi ((fX0_doubled (lo p2.toNatClampNeg) (hi p2.toNatClampNeg)).1) ((fX0_doubled (lo p2.toNatClampNeg) (hi p2.toNatClampNeg)).2)) H := hP
                  have hD : va_D A (obW 0 h0 a1 a2 d1 d2 (upd lo p0.toNatClampNeg ((fX0_doubled (lo p2.toNatClampNeg) (hi p2.toNatClampNeg)).1)) hi ((fX0_doubled (lo p2.toNatClampNeg) (hi p2.toNatClampNeg)).1) ((fX0_doubled (lo p2.toNatClampNeg) (hi p2.toNatClampNeg)).2)) := hD
                  refine lv_aload_n hx hb dX0_apply_162 rfl (lv_at hl 2 rfl) ?_
                  refine va_get (D := D) (ci := 0) (v := .ref a2) (C := RX0) (T := TX0) (N := 4) hx hb hts in_X0 hown hK hP 0 rfl rfl 1 (by decide) (hts _ q23) (fun _ h9 => h9) rfl dX0_apply_163 ?_
                  refine lv_iload_n hx hb dX0_apply_166 rfl (lv_at hl 3 rfl) ?_
                  refine lv_aload_n hx hb dX0_apply_167 rfl (lv_at hl 2 rfl) ?_
                  refine va_get (D := D) (ci := 0) (v := .int ((fX0_doubled (lo p2.toNatClampNeg) (hi p2.toNatClampNeg)).2)) (C := RX0) (T := TX0) (N := 4) hx hb hts in_X0 hown hK hP 0 rfl rfl 3 (by decide) (hts _ q25) (fun _ h9 => h9) rfl dX0_apply_168 ?_
                  refine va_iast hx hb hK hP hD hS 2 1 rfl rfl (isReg_in c_1) dX0_apply_171 (fun H locs hP hD hS => ?_)
                  have hP : va_P D vwCl (obW 0 h0 a1 a2 d1 d2 (upd lo p0.toNatClampNeg ((fX0_doubled (lo p2.toNatClampNeg) (hi p2.toNatClampNeg)).1)) (upd hi p0.toNatClampNeg ((fX0_doubled (lo p2.toNatClampNeg) (hi p2.toNatClampNeg)).2)) ((fX0_doubled (lo p2.toNatClampNeg) (hi p2.toNatClampNeg)).1) ((fX0_doubled (lo p2.toNatClampNeg) (hi p2.toNatClampNeg)).2)) H := hP
                  have hD : va_D A (obW 0 h0 a1 a2 d1 d2 (upd lo p0.toNatClampNeg ((fX0_doubled (lo p2.toNatClampNeg) (hi p2.toNatClampNeg)).1)) (upd hi p0.toNatClampNeg ((fX0_doubled (lo p2.toNatClampNeg) (hi p2.toNatClampNeg)).2)) ((fX0_doubled (lo p2.toNatClampNeg) (hi p2.toNatClampNeg)).1) ((fX0_doubled (lo p2.toNatClampNeg) (hi p2.toNatClampNeg)).2)) := hD
                  refine lv_iconst (v := 0) hx hb dX0_apply_172 (by decide) ?_
                  exact ob_iret hx hb hr hlocks hK hP hD hS (Eq.trans (Eq.symm (by rw [fX0_apply, if_neg c_1, if_neg c_2, if_neg c_3, if_pos c_4, if_neg c_5, if_neg c_6, if_neg c_7, if_neg c_8])) hV) dX0_apply_173
                · refine lv_iload hx hb dX0_apply_119 (lv_at hl 1 rfl) ?_
                  refine pu_call (As := [.int (lo p2.toNatClampNeg)]) (rest := []) ⟨hx, hb, hml, hown, hts⟩ (meX0_rootOf l (lo p2.toNatClampNeg)) (va_cwS 1 hts (lw_S q109 q110 q12 q111) rfl rfl rfl (by decide +kernel) ⟨Nat.le_of_ble_eq_true rfl, Nat.le_of_ble_eq_true rfl⟩) rfl hl.1 rfl (Nat.le_of_ble_eq_true rfl) dX0_apply_121 ⟨Nat.zero_le _, Nat.zero_le _⟩ ?_
                  refine lv_istore (lv' := [(6, .int (fX0_rootOf (lo p2.toNatClampNeg))), (5, .int (hi p2.toNatClampNeg)), (4, .int (lo p2.toNatClampNeg)), (0, .ref h0), (1, .int p0), (2, .int p1), (3, .int p2)]) hx hb dX0_apply_124 hl (by decide) rfl (fun ls hl => ?_)
                  refine lv_iload hx hb dX0_apply_126 (lv_at hl 1 rfl) ?_
                  refine pu_call (As := [.int (hi p2.toNatClampNeg)]) (rest := []) ⟨hx, hb, hml, hown, hts⟩ (meX0_rootOf l (hi p2.toNatClampNeg)) (va_cwS 1 hts (lw_S q109 q110 q12 q111) rfl rfl rfl (by decide +kernel) ⟨Nat.le_of_ble_eq_true rfl, Nat.le_of_ble_eq_true rfl⟩) rfl hl.1 rfl (Nat.le_of_ble_eq_true rfl) dX0_apply_128 ⟨Nat.zero_le _, Nat.zero_le _⟩ ?_
                  refine lv_istore (lv' := [(7, .int (fX0_rootOf (hi p2.toNatClampNeg))), (6, .int (fX0_rootOf (lo p2.toNatClampNeg))), (5, .int (hi p2.toNatClampNeg)), (4, .int (lo p2.toNatClampNeg)), (0, .ref h0), (1, .int p0), (2, .int p1), (3, .int p2)]) hx hb dX0_apply_131 hl (by decide) rfl (fun ls hl => ?_)
                  refine lv_aload_n hx hb dX0_apply_133 rfl (lv_at hl 4 rfl) ?_
                  refine lv_iload hx hb dX0_apply_134 (lv_at hl 1 rfl) ?_
                  refine lv_iload hx hb dX0_apply_136 (lv_at hl 0 rfl) ?_
                  refine ob_callv (ws := (obW 0 h0 a1 a2 d1 d2 lo hi x y)) (wr := []) (rest := []) (As := [.int (fX0_rootOf (lo p2.toNatClampNeg)), .int (fX0_rootOf (hi p2.toNatClampNeg))]) ⟨hx, hb, hml, hown, hts⟩ (meX0_keep l D h0 a1 a2 d1 d2 (fX0_rootOf (lo p2.toNatClampNeg)) (fX0_rootOf (hi p2.toNatClampNeg)) lo hi x y) (cwV 2 hts (lw_V q51 q53 qs1 q12 q54) rfl rfl rfl (by decide +kernel) ⟨Nat.le_of_ble_eq_true rfl, Nat.le_of_ble_eq_true rfl⟩) (show vwCl[0]? = some (RX0, TX0, 4) from rfl) rfl hl.1 rfl (Nat.le_of_ble_eq_true rfl) dX0_apply_138 ⟨Nat.zero_le _, Nat.zero_le _⟩ hK hP hD hS hA [0, 1, 2] [] rfl rfl (by decide) (by decide) (by decide) (fun H locs hP hD hS => ?_)
                  have hP : va_P D vwCl (obW 0 h0 a1 a2 d1 d2 lo hi (fX0_rootOf (lo p2.toNatClampNeg)) (fX0_rootOf (hi p2.toNatClampNeg))) H := hP
                  have hD : va_D A (obW 0 h0 a1 a2 d1 d2 lo hi (fX0_rootOf (lo p2.toNatClampNeg)) (fX0_rootOf (hi p2.toNatClampNeg))) := hD
                  refine lv_goto (tgt := 152) hx hb dX0_apply_141 (by decide) ?_
                  refine lv_aload_n hx hb dX0_apply_152 rfl (lv_at hl 4 rfl) ?_
                  refine va_get (D := D) (ci := 0) (v := .ref a1) (C := RX0) (T := TX0) (N := 4) hx hb hts in_X0 hown hK hP 0 rfl rfl 0 (by decide) (hts _ q22) (fun _ h9 => h9) rfl dX0_apply_153 ?_
                  refine lv_iload_n hx hb dX0_apply_156 rfl (lv_at hl 5 rfl) ?_
                  refine lv_aload_n hx hb dX0_apply_157 rfl (lv_at hl 4 rfl) ?_
                  refine va_get (D := D) (ci := 0) (v := .int (fX0_rootOf (lo p2.toNatClampNeg))) (C := RX0) (T := TX0) (N := 4) hx hb hts in_X0 hown hK hP 0 rfl rfl 2 (by decide) (hts _ q24) (fun _ h9 => h9) rfl dX0_apply_158 ?_
                  refine va_iast hx hb hK hP hD hS 1 0 rfl rfl (isReg_in c_1) dX0_apply_161 (fun H locs hP hD hS => ?_)
                  have hP : va_P D vwCl (obW 0 h0 a1 a2 d1 d2 (upd lo p0.toNatClampNeg (fX0_rootOf (lo p2.toNatClampNeg))) hi (fX0_rootOf (lo p2.toNatClampNeg)) (fX0_rootOf (hi p2.toNatClampNeg))) H := hP
                  have hD : va_D A (obW 0 h0 a1 a2 d1 d2 (upd lo p0.toNatClampNeg (fX0_rootOf (lo p2.toNatClampNeg))) hi (fX0_rootOf (lo p2.toNatClampNeg)) (fX0_rootOf (hi p2.toNatClampNeg))) := hD
                  refine lv_aload_n hx hb dX0_apply_162 rfl (lv_at hl 4 rfl) ?_
                  refine va_get (D := D) (ci := 0) (v := .ref a2) (C := RX0) (T := TX0) (N := 4) hx hb hts in_X0 hown hK hP 0 rfl rfl 1 (by decide) (hts _ q23) (fun _ h9 => h9) rfl dX0_apply_163 ?_
                  refine lv_iload_n hx hb dX0_apply_166 rfl (lv_at hl 5 rfl) ?_
                  refine lv_aload_n hx hb dX0_apply_167 rfl (lv_at hl 4 rfl) ?_
                  refine va_get (D := D) (ci := 0) (v := .int (fX0_rootOf (hi p2.toNatClampNeg))) (C := RX0) (T := TX0) (N := 4) hx hb hts in_X0 hown hK hP 0 rfl rfl 3 (by decide) (hts _ q25) (fun _ h9 => h9) rfl dX0_apply_168 ?_
                  refine va_iast hx hb hK hP hD hS 2 1 rfl rfl (isReg_in c_1) dX0_apply_171 (fun H locs hP hD hS => ?_)
                  have hP : va_P D vwCl (obW 0 h0 a1 a2 d1 d2 (upd lo p0.toNatClampNeg (fX0_rootOf (lo p2.toNatClampNeg))) (upd hi p0.toNatClampNeg (fX0_rootOf (hi p2.toNatClampNeg))) (fX0_rootOf (lo p2.toNatClampNeg)) (fX0_rootOf (hi p2.toNatClampNeg))) H := hP
                  have hD : va_D A (obW 0 h0 a1 a2 d1 d2 (upd lo p0.toNatClampNeg (fX0_rootOf (lo p2.toNatClampNeg))) (upd hi p0.toNatClampNeg (fX0_rootOf (hi p2.toNatClampNeg))) (fX0_rootOf (lo p2.toNatClampNeg)) (fX0_rootOf (hi p2.toNatClampNeg))) := hD
                  refine lv_iconst (v := 0) hx hb dX0_apply_172 (by decide) ?_
                  exact ob_iret hx hb hr hlocks hK hP hD hS (Eq.trans (Eq.symm (by rw [fX0_apply, if_neg c_1, if_neg c_2, if_neg c_3, if_pos c_4, if_neg c_5, if_neg c_6, if_neg c_7, if_pos c_8])) hV) dX0_apply_173
              · refine lv_iload hx hb dX0_apply_83 (lv_at hl 1 rfl) ?_
                refine lv_iload hx hb dX0_apply_85 (lv_at hl 0 rfl) ?_
                refine lv_iconst (v := 0) hx hb dX0_apply_87 (by decide) ?_
                refine pu_call (As := [.int (lo p2.toNatClampNeg), .int (hi p2.toNatClampNeg), .int 0]) (rest := []) ⟨hx, hb, hml, hown, hts⟩ (meX0_reversed l (lo p2.toNatClampNeg) (hi p2.toNatClampNeg) 0) (va_cwS 3 hts (lw_S q106 q107 q12 q108) rfl rfl rfl (by decide +kernel) ⟨Nat.le_of_ble_eq_true rfl, Nat.le_of_ble_eq_true rfl⟩) rfl hl.1 rfl (Nat.le_of_ble_eq_true rfl) dX0_apply_88 ⟨Nat.zero_le _, Nat.zero_le _⟩ ?_
                refine lv_istore (lv' := [(6, .int (fX0_reversed (lo p2.toNatClampNeg) (hi p2.toNatClampNeg) 0)), (5, .int (hi p2.toNatClampNeg)), (4, .int (lo p2.toNatClampNeg)), (0, .ref h0), (1, .int p0), (2, .int p1), (3, .int p2)]) hx hb dX0_apply_91 hl (by decide) rfl (fun ls hl => ?_)
                refine lv_iload hx hb dX0_apply_93 (lv_at hl 2 rfl) ?_
                refine lv_iload hx hb dX0_apply_95 (lv_at hl 1 rfl) ?_
                refine lv_iconst (v := 1) hx hb dX0_apply_97 (by decide) ?_
                refine pu_call (As := [.int (lo p2.toNatClampNeg), .int (hi p2.toNatClampNeg), .int 1]) (rest := []) ⟨hx, hb, hml, hown, hts⟩ (meX0_reversed l (lo p2.toNatClampNeg) (hi p2.toNatClampNeg) 1) (va_cwS 3 hts (lw_S q106 q107 q12 q108) rfl rfl rfl (by decide +kernel) ⟨Nat.le_of_ble_eq_true rfl, Nat.le_of_ble_eq_true rfl⟩) rfl hl.1 rfl (Nat.le_of_ble_eq_true rfl) dX0_apply_98 ⟨Nat.zero_le _, Nat.zero_le _⟩ ?_
                refine lv_istore (lv' := [(7, .int (fX0_reversed (lo p2.toNatClampNeg) (hi p2.toNatClampNeg) 1)), (6, .int (fX0_reversed (lo p2.toNatClampNeg) (hi p2.toNatClampNeg) 0)), (5, .int (hi p2.toNatClampNeg)), (4, .int (lo p2.toNatClampNeg)), (0, .ref h0), (1, .int p0), (2, .int p1), (3, .int p2)]) hx hb dX0_apply_101 hl (by decide) rfl (fun ls hl => ?_)
                refine lv_aload_n hx hb dX0_apply_103 rfl (lv_at hl 4 rfl) ?_
                refine lv_iload hx hb dX0_apply_104 (lv_at hl 1 rfl) ?_
                refine lv_iload hx hb dX0_apply_106 (lv_at hl 0 rfl) ?_
                refine ob_callv (ws := (obW 0 h0 a1 a2 d1 d2 lo hi x y)) (wr := []) (rest := []) (As := [.int (fX0_reversed (lo p2.toNatClampNeg) (hi p2.toNatClampNeg) 0), .int (fX0_reversed (lo p2.toNatClampNeg) (hi p2.toNatClampNeg) 1)]) ⟨hx, hb, hml, hown, hts⟩ (meX0_keep l D h0 a1 a2 d1 d2 (fX0_reversed (lo p2.toNatClampNeg) (hi p2.toNatClampNeg) 0) (fX0_reversed (lo p2.toNatClampNeg) (hi p2.toNatClampNeg) 1) lo hi x y) (cwV 2 hts (lw_V q51 q53 qs1 q12 q54) rfl rfl rfl (by decide +kernel) ⟨Nat.le_of_ble_eq_true rfl, Nat.le_of_ble_eq_true rfl⟩) (show vwCl[0]? = some (RX0, TX0, 4) from rfl) rfl hl.1 rfl (Nat.le_of_ble_eq_true rfl) dX0_apply_108 ⟨Nat.zero_le _, Nat.zero_le _⟩ hK hP hD hS hA [0, 1, 2] [] rfl rfl (by decide) (by decide) (by decide) (fun H locs hP hD hS => ?_)
                have hP : va_P D vwCl (obW 0 h0 a1 a2 d1 d2 lo hi (fX0_reversed (lo p2.toNatClampNeg) (hi p2.toNatClampNeg) 0) (fX0_reversed (lo p2.toNatClampNeg) (hi p2.toNatClampNeg) 1)) H := hP
                have hD : va_D A (obW 0 h0 a1 a2 d1 d2 lo hi (fX0_reversed (lo p2.toNatClampNeg) (hi p2.toNatClampNeg) 0) (fX0_reversed (lo p2.toNatClampNeg) (hi p2.toNatClampNeg) 1)) := hD
                refine lv_goto (tgt := 152) hx hb dX0_apply_111 (by decide) ?_
                refine lv_aload_n hx hb dX0_apply_152 rfl (lv_at hl 4 rfl) ?_
                refine va_get (D := D) (ci := 0) (v := .ref a1) (C := RX0) (T := TX0) (N := 4) hx hb hts in_X0 hown hK hP 0 rfl rfl 0 (by decide) (hts _ q22) (fun _ h9 => h9) rfl dX0_apply_153 ?_
                refine lv_iload_n hx hb dX0_apply_156 rfl (lv_at hl 5 rfl) ?_
                refine lv_aload_n hx hb dX0_apply_157 rfl (lv_at hl 4 rfl) ?_
                refine va_get (D := D) (ci := 0) (v := .int (fX0_reversed (lo p2.toNatClampNeg) (hi p2.toNatClampNeg) 0)) (C := RX0) (T := TX0) (N := 4) hx hb hts in_X0 hown hK hP 0 rfl rfl 2 (by decide) (hts _ q24) (fun _ h9 => h9) rfl dX0_apply_158 ?_
                refine va_iast hx hb hK hP hD hS 1 0 rfl rfl (isReg_in c_1) dX0_apply_161 (fun H locs hP hD hS => ?_)
                have hP : va_P D vwCl (obW 0 h0 a1 a2 d1 d2 (upd lo p0.toNatClampNeg (fX0_reversed (lo p2.toNatClampNeg) (hi p2.toNatClampNeg) 0)) hi (fX0_reversed (lo p2.toNatClampNeg) (hi p2.toNatClampNeg) 0) (fX0_reversed (lo p2.toNatClampNeg) (hi p2.toNatClampNeg) 1)) H := hP
                have hD : va_D A (obW 0 h0 a1 a2 d1 d2 (upd lo p0.toNatClampNeg (fX0_reversed (lo p2.toNatClampNeg) (hi p2.toNatClampNeg) 0)) hi (fX0_reversed (lo p2.toNatClampNeg) (hi p2.toNatClampNeg) 0) (fX0_reversed (lo p2.toNatClampNeg) (hi p2.toNatClampNeg) 1)) := hD
                refine lv_aload_n hx hb dX0_apply_162 rfl (lv_at hl 4 rfl) ?_
                refine va_get (D := D) (ci := 0) (v := .ref a2) (C := RX0) (T := TX0) (N := 4) hx hb hts in_X0 hown hK hP 0 rfl rfl 1 (by decide) (hts _ q23) (fun _ h9 => h9) rfl dX0_apply_163 ?_
                refine lv_iload_n hx hb dX0_apply_166 rfl (lv_at hl 5 rfl) ?_
                refine lv_aload_n hx hb dX0_apply_167 rfl (lv_at hl 4 rfl) ?_
                refine va_get (D := D) (ci := 0) (v := .int (fX0_reversed (lo p2.toNatClampNeg) (hi p2.toNatClampNeg) 1)) (C := RX0) (T := TX0) (N := 4) hx hb hts in_X0 hown hK hP 0 rfl rfl 3 (by decide) (hts _ q25) (fun _ h9 => h9) rfl dX0_apply_168 ?_
                refine va_iast hx hb hK hP hD hS 2 1 rfl rfl (isReg_in c_1) dX0_apply_171 (fun H locs hP hD hS => ?_)
                have hP : va_P D vwCl (obW 0 h0 a1 a2 d1 d2 (upd lo p0.toNatClampNeg (fX0_reversed (lo p2.toNatClampNeg) (hi p2.toNatClampNeg) 0)) (upd hi p0.toNatClampNeg (fX0_reversed (lo p2.toNatClampNeg) (hi p2.toNatClampNeg) 1)) (fX0_reversed (lo p2.toNatClampNeg) (hi p2.toNatClampNeg) 0) (fX0_reversed (lo p2.toNatClampNeg) (hi p2.toNatClampNeg) 1)) H := hP
                have hD : va_D A (obW 0 h0 a1 a2 d1 d2 (upd lo p0.toNatClampNeg (fX0_reversed (lo p2.toNatClampNeg) (hi p2.toNatClampNeg) 0)) (upd hi p0.toNatClampNeg (fX0_reversed (lo p2.toNatClampNeg) (hi p2.toNatClampNeg) 1)) (fX0_reversed (lo p2.toNatClampNeg) (hi p2.toNatClampNeg) 0) (fX0_reversed (lo p2.toNatClampNeg) (hi p2.toNatClampNeg) 1)) := hD
                refine lv_iconst (v := 0) hx hb dX0_apply_172 (by decide) ?_
                exact ob_iret hx hb hr hlocks hK hP hD hS (Eq.trans (Eq.symm (by rw [fX0_apply, if_neg c_1, if_neg c_2, if_neg c_3, if_pos c_4, if_neg c_5, if_neg c_6, if_pos c_7])) hV) dX0_apply_173
            · refine lv_aload_n hx hb dX0_apply_67 rfl (lv_at hl 2 rfl) ?_
              refine lv_iload hx hb dX0_apply_68 (lv_at hl 1 rfl) ?_
              refine lv_iload hx hb dX0_apply_70 (lv_at hl 0 rfl) ?_
              refine ob_callv (ws := (obW 0 h0 a1 a2 d1 d2 lo hi x y)) (wr := []) (rest := []) (As := [.int (lo p2.toNatClampNeg), .int (hi p2.toNatClampNeg)]) ⟨hx, hb, hml, hown, hts⟩ (meX0_countOnes l D h0 a1 a2 d1 d2 (lo p2.toNatClampNeg) (hi p2.toNatClampNeg) lo hi x y) (cwV 2 hts (lw_V q99 q101 qs6 q12 q102) rfl rfl rfl (by decide +kernel) ⟨Nat.le_of_ble_eq_true rfl, Nat.le_of_ble_eq_true rfl⟩) (show vwCl[0]? = some (RX0, TX0, 4) from rfl) rfl hl.1 rfl (Nat.le_of_ble_eq_true rfl) dX0_apply_72 ⟨Nat.zero_le _, Nat.zero_le _⟩ hK hP hD hS hA [0, 1, 2] [] rfl rfl (by decide) (by decide) (by decide) (fun H locs hP hD hS => ?_)
              have hP : va_P D vwCl (obW 0 h0 a1 a2 d1 d2 lo hi ((fX0_countOnes (lo p2.toNatClampNeg) (hi p2.toNatClampNeg)).1) ((fX0_countOnes (lo p2.toNatClampNeg) (hi p2.toNatClampNeg)).2)) H := hP
              have hD : va_D A (obW 0 h0 a1 a2 d1 d2 lo hi ((fX0_countOnes (lo p2.toNatClampNeg) (hi p2.toNatClampNeg)).1) ((fX0_countOnes (lo p2.toNatClampNeg) (hi p2.toNatClampNeg)).2)) := hD
              refine lv_goto (tgt := 152) hx hb dX0_apply_75 (by decide) ?_
              refine lv_aload_n hx hb dX0_apply_152 rfl (lv_at hl 2 rfl) ?_
              refine va_get (D := D) (ci := 0) (v := .ref a1) (C := RX0) (T := TX0) (N := 4) hx hb hts in_X0 hown hK hP 0 rfl rfl 0 (by decide) (hts _ q22) (fun _ h9 => h9) rfl dX0_apply_153 ?_
              refine lv_iload_n hx hb dX0_apply_156 rfl (lv_at hl 3 rfl) ?_
              refine lv_aload_n hx hb dX0_apply_157 rfl (lv_at hl 2 rfl) ?_
              refine va_get (D := D) (ci := 0) (v := .int ((fX0_countOnes (lo p2.toNatClampNeg) (hi p2.toNatClampNeg)).1)) (C := RX0) (T := TX0) (N := 4) hx hb hts in_X0 hown hK hP 0 rfl rfl 2 (by decide) (hts _ q24) (fun _ h9 => h9) rfl dX0_apply_158 ?_
              refine va_iast hx hb hK hP hD hS 1 0 rfl rfl (isReg_in c_1) dX0_apply_161 (fun H locs hP hD hS => ?_)
              have hP : va_P D vwCl (obW 0 h0 a1 a2 d1 d2 (upd lo p0.toNatClampNeg ((fX0_countOnes (lo p2.toNatClampNeg) (hi p2.toNatClampNeg)).1)) hi ((fX0_countOnes (lo p2.toNatClampNeg) (hi p2.toNatClampNeg)).1) ((fX0_countOnes (lo p2.toNatClampNeg) (hi p2.toNatClampNeg)).2)) H := hP
              have hD : va_D A (obW 0 h0 a1 a2 d1 d2 (upd lo p0.toNatClampNeg ((fX0_countOnes (lo p2.toNatClampNeg) (hi p2.toNatClampNeg)).1)) hi ((fX0_countOnes (lo p2.toNatClampNeg) (hi p2.toNatClampNeg)).1) ((fX0_countOnes (lo p2.toNatClampNeg) (hi p2.toNatClampNeg)).2)) := hD
              refine lv_aload_n hx hb dX0_apply_162 rfl (lv_at hl 2 rfl) ?_
              refine va_get (D := D) (ci := 0) (v := .ref a2) (C := RX0) (T := TX0) (N := 4) hx hb hts in_X0 hown hK hP 0 rfl rfl 1 (by decide) (hts _ q23) (fun _ h9 => h9) rfl dX0_apply_163 ?_
              refine lv_iload_n hx hb dX0_apply_166 rfl (lv_at hl 3 rfl) ?_
              refine lv_aload_n hx hb dX0_apply_167 rfl (lv_at hl 2 rfl) ?_
              refine va_get (D := D) (ci := 0) (v := .int ((fX0_countOnes (lo p2.toNatClampNeg) (hi p2.toNatClampNeg)).2)) (C := RX0) (T := TX0) (N := 4) hx hb hts in_X0 hown hK hP 0 rfl rfl 3 (by decide) (hts _ q25) (fun _ h9 => h9) rfl dX0_apply_168 ?_
              refine va_iast hx hb hK hP hD hS 2 1 rfl rfl (isReg_in c_1) dX0_apply_171 (fun H locs hP hD hS => ?_)
              have hP : va_P D vwCl (obW 0 h0 a1 a2 d1 d2 (upd lo p0.toNatClampNeg ((fX0_countOnes (lo p2.toNatClampNeg) (hi p2.toNatClampNeg)).1)) (upd hi p0.toNatClampNeg ((fX0_countOnes (lo p2.toNatClampNeg) (hi p2.toNatClampNeg)).2)) ((fX0_countOnes (lo p2.toNatClampNeg) (hi p2.toNatClampNeg)).1) ((fX0_countOnes (lo p2.toNatClampNeg) (hi p2.toNatClampNeg)).2)) H := hP
              have hD : va_D A (obW 0 h0 a1 a2 d1 d2 (upd lo p0.toNatClampNeg ((fX0_countOnes (lo p2.toNatClampNeg) (hi p2.toNatClampNeg)).1)) (upd hi p0.toNatClampNeg ((fX0_countOnes (lo p2.toNatClampNeg) (hi p2.toNatClampNeg)).2)) ((fX0_countOnes (lo p2.toNatClampNeg) (hi p2.toNatClampNeg)).1) ((fX0_countOnes (lo p2.toNatClampNeg) (hi p2.toNatClampNeg)).2)) := hD
              refine lv_iconst (v := 0) hx hb dX0_apply_172 (by decide) ?_
              exact ob_iret hx hb hr hlocks hK hP hD hS (Eq.trans (Eq.symm (by rw [fX0_apply, if_neg c_1, if_neg c_2, if_neg c_3, if_pos c_4, if_neg c_5, if_pos c_6])) hV) dX0_apply_173
          · refine lv_aload_n hx hb dX0_apply_45 rfl (lv_at hl 2 rfl) ?_
            refine lv_bipush (v := 127) hx hb dX0_apply_46 (by decide) ?_
            refine lv_iload hx hb dX0_apply_48 (lv_at hl 0 rfl) ?_
            refine lv_isub hx hb dX0_apply_50 ?_
            refine lv_bipush (v := 127) hx hb dX0_apply_51 (by decide) ?_
            refine lv_iload hx hb dX0_apply_53 (lv_at hl 1 rfl) ?_
            refine lv_isub hx hb dX0_apply_55 ?_
            refine ob_callv (ws := (obW 0 h0 a1 a2 d1 d2 lo hi x y)) (wr := []) (rest := []) (As := [.int (127 - (hi p2.toNatClampNeg)), .int (127 - (lo p2.toNatClampNeg))]) ⟨hx, hb, hml, hown, hts⟩ (meX0_keep l D h0 a1 a2 d1 d2 (127 - (hi p2.toNatClampNeg)) (127 - (lo p2.toNatClampNeg)) lo hi x y) (cwV 2 hts (lw_V q51 q53 qs1 q12 q54) rfl rfl rfl (by decide +kernel) ⟨Nat.le_of_ble_eq_true rfl, Nat.le_of_ble_eq_true rfl⟩) (show vwCl[0]? = some (RX0, TX0, 4) from rfl) rfl hl.1 rfl (Nat.le_of_ble_eq_true rfl) dX0_apply_56 ⟨Nat.zero_le _, Nat.zero_le _⟩ hK hP hD hS hA [0, 1, 2] [] rfl rfl (by decide) (by decide) (by decide) (fun H locs hP hD hS => ?_)
            have hP : va_P D vwCl (obW 0 h0 a1 a2 d1 d2 lo hi (127 - (hi p2.toNatClampNeg)) (127 - (lo p2.toNatClampNeg))) H := hP
            have hD : va_D A (obW 0 h0 a1 a2 d1 d2 lo hi (127 - (hi p2.toNatClampNeg)) (127 - (lo p2.toNatClampNeg))) := hD
            refine lv_goto (tgt := 152) hx hb dX0_apply_59 (by decide) ?_
            refine lv_aload_n hx hb dX0_apply_152 rfl (lv_at hl 2 rfl) ?_
            refine va_get (D := D) (ci := 0) (v := .ref a1) (C := RX0) (T := TX0) (N := 4) hx hb hts in_X0 hown hK hP 0 rfl rfl 0 (by decide) (hts _ q22) (fun _ h9 => h9) rfl dX0_apply_153 ?_
            refine lv_iload_n hx hb dX0_apply_156 rfl (lv_at hl 3 rfl) ?_
            refine lv_aload_n hx hb dX0_apply_157 rfl (lv_at hl 2 rfl) ?_
            refine va_get (D := D) (ci := 0) (v := .int (127 - (hi p2.toNatClampNeg))) (C := RX0) (T := TX0) (N := 4) hx hb hts in_X0 hown hK hP 0 rfl rfl 2 (by decide) (hts _ q24) (fun _ h9 => h9) rfl dX0_apply_158 ?_
            refine va_iast hx hb hK hP hD hS 1 0 rfl rfl (isReg_in c_1) dX0_apply_161 (fun H locs hP hD hS => ?_)
            have hP : va_P D vwCl (obW 0 h0 a1 a2 d1 d2 (upd lo p0.toNatClampNeg (127 - (hi p2.toNatClampNeg))) hi (127 - (hi p2.toNatClampNeg)) (127 - (lo p2.toNatClampNeg))) H := hP
            have hD : va_D A (obW 0 h0 a1 a2 d1 d2 (upd lo p0.toNatClampNeg (127 - (hi p2.toNatClampNeg))) hi (127 - (hi p2.toNatClampNeg)) (127 - (lo p2.toNatClampNeg))) := hD
            refine lv_aload_n hx hb dX0_apply_162 rfl (lv_at hl 2 rfl) ?_
            refine va_get (D := D) (ci := 0) (v := .ref a2) (C := RX0) (T := TX0) (N := 4) hx hb hts in_X0 hown hK hP 0 rfl rfl 1 (by decide) (hts _ q23) (fun _ h9 => h9) rfl dX0_apply_163 ?_
            refine lv_iload_n hx hb dX0_apply_166 rfl (lv_at hl 3 rfl) ?_
            refine lv_aload_n hx hb dX0_apply_167 rfl (lv_at hl 2 rfl) ?_
            refine va_get (D := D) (ci := 0) (v := .int (127 - (lo p2.toNatClampNeg))) (C := RX0) (T := TX0) (N := 4) hx hb hts in_X0 hown hK hP 0 rfl rfl 3 (by decide) (hts _ q25) (fun _ h9 => h9) rfl dX0_apply_168 ?_
            refine va_iast hx hb hK hP hD hS 2 1 rfl rfl (isReg_in c_1) dX0_apply_171 (fun H locs hP hD hS => ?_)
            have hP : va_P D vwCl (obW 0 h0 a1 a2 d1 d2 (upd lo p0.toNatClampNeg (127 - (hi p2.toNatClampNeg))) (upd hi p0.toNatClampNeg (127 - (lo p2.toNatClampNeg))) (127 - (hi p2.toNatClampNeg)) (127 - (lo p2.toNatClampNeg))) H := hP
            have hD : va_D A (obW 0 h0 a1 a2 d1 d2 (upd lo p0.toNatClampNeg (127 - (hi p2.toNatClampNeg))) (upd hi p0.toNatClampNeg (127 - (lo p2.toNatClampNeg))) (127 - (hi p2.toNatClampNeg)) (127 - (lo p2.toNatClampNeg))) := hD
            refine lv_iconst (v := 0) hx hb dX0_apply_172 (by decide) ?_
            exact ob_iret hx hb hr hlocks hK hP hD hS (Eq.trans (Eq.symm (by rw [fX0_apply, if_neg c_1, if_neg c_2, if_neg c_3, if_pos c_4, if_pos c_5])) hV) dX0_apply_173
        · refine lv_iconst (v := (-1)) hx hb dX0_apply_23 (by decide) ?_
          exact ob_iret hx hb hr hlocks hK hP hD hS (Eq.trans (Eq.symm (by rw [fX0_apply, if_neg c_1, if_neg c_2, if_neg c_3, if_neg c_4])) hV) dX0_apply_24
set_option maxHeartbeats 4000000 in
set_option maxRecDepth 100000 in
theorem meX0_low (l : Launch) (D : va_G) (h0 a1 a2 : Nat) (d1 d2 : ClassId) (p0 : Int32) (lo hi : Nat → Int32) (x y : Int32) : ObI l yX0_low (ws_ yX0_low cX0_low 2 (some .int)) ({ frames := 1, cells := 0, slots := 0, locals := 20 } : Room) D 0 h0 a1 a2 d1 d2 [.int p0] lo hi x y ((fX0_low p0 lo hi), lo, hi, x, y) := by
  intro sz
  refine Met.ofW (cc := cX0_low) (maxL := 2) (ret := (some .int)) (by decide) rfl ?_
  intro p e s m args below meth c s₁ B hml hv
  obtain ⟨rfl, hsz, hP, hK, hD0⟩ := hv
  have hx := B.exec
  have hb := B.bytes
  have hr := B.returns
  have hts := atoms_spec (ws := (ws_ yX0_low cX0_low 2 (some .int))) B.pre
  have hts : ∀ w ∈ lw_all, w.before _ s = true := fun w h => hts w (List.mem_cons_of_mem _ h)
  have hown : s.vm.findClass RX0 = some m.cls := findClass_of_methodNamed B.named
  have hlocks := B.notSynchronized
  subst hsz
  have hD := hD0.self (sz := s.heap.size)
  generalize hAe : va_A (obW 0 h0 a1 a2 d1 d2 lo hi x y) s.heap.size = A at hD ⊢
  have hA : ∀ q : Nat, s.heap.size ≤ q → A q := fun q h => by rw [← hAe]; exact Or.inr h
  have hS : va_S A s.heap s.heap [] := va_S.rf
  have hP : va_P D vwCl (obW 0 h0 a1 a2 d1 d2 lo hi x y) s.heap := hP
  have hl := lv_entry ([.ref h0, .int p0]) (n := 2) (Nat.le_of_ble_eq_true rfl)
  rw [lg_entry_eq]
  generalize (lg_sl ([.ref h0, .int p0]) ++ List.replicate (2 - (lg_sl ([.ref h0, .int p0])).length) Slot.unset).toArray = ls at hl ⊢
  have hl : lv_has ls 2 [(0, .ref h0), (1, .int p0)] := hl
  generalize hV : fX0_low p0 lo hi = V
  refine lv_iload_n hx hb dX0_low_0 rfl (lv_at hl 1 rfl) ?_
  refine pu_call (As := [.int p0]) (rest := []) ⟨hx, hb, hml, hown, hts⟩ (meX0_isRegister l p0) (va_cwS 1 hts (lw_S q40 q41 q12 q42) rfl rfl rfl (by decide +kernel) ⟨Nat.le_of_ble_eq_true rfl, Nat.le_of_ble_eq_true rfl⟩) rfl hl.1 rfl (Nat.le_of_ble_eq_true rfl) dX0_low_1 ⟨Nat.zero_le _, Nat.zero_le _⟩ ?_
  refine lv_if_eq (tgt := 16) hx hb dX0_low_4 (by decide) (fun c_1 => ?_) (fun c_1 => ?_)
  · refine lv_iconst (v := (-1)) hx hb dX0_low_16 (by decide) ?_
    exact ob_iret hx hb hr hlocks hK hP hD hS (congrArg (fun z : Int32 => (z, lo, hi, x, y)) (Eq.trans (Eq.symm (by rw [fX0_low, if_pos c_1])) hV)) dX0_low_17
  · refine lv_aload_n hx hb dX0_low_7 rfl (lv_at hl 0 rfl) ?_
    refine va_get (D := D) (ci := 0) (v := .ref a1) (C := RX0) (T := TX0) (N := 4) hx hb hts in_X0 hown hK hP 0 rfl rfl 0 (by decide) (hts _ q22) (fun _ h9 => h9) rfl dX0_low_8 ?_
    refine lv_iload_n hx hb dX0_low_11 rfl (lv_at hl 1 rfl) ?_
    refine va_iald hx hb hK hP 1 0 rfl rfl (isReg_in c_1) dX0_low_12 ?_
    refine lv_goto (tgt := 17) hx hb dX0_low_13 (by decide) ?_
    exact ob_iret hx hb hr hlocks hK hP hD hS (congrArg (fun z : Int32 => (z, lo, hi, x, y)) (Eq.trans (Eq.symm (by rw [fX0_low, if_neg c_1])) hV)) dX0_low_17
set_option maxHeartbeats 4000000 in
set_option maxRecDepth 100000 in
theorem meX0_high (l : Launch) (D : va_G) (h0 a1 a2 : Nat) (d1 d2 : ClassId) (p0 : Int32) (lo hi : Nat → Int32) (x y : Int32) : ObI l yX0_high (ws_ yX0_high cX0_high 2 (some .int)) ({ frames := 1, cells := 0, slots := 0, locals := 20 } : Room) D 0 h0 a1 a2 d1 d2 [.int p0] lo hi x y ((fX0_high p0 lo hi), lo, hi, x, y) := by
  intro sz
  refine Met.ofW (cc := cX0_high) (maxL := 2) (ret := (some .int)) (by decide) rfl ?_
  intro p e s m args below meth c s₁ B hml hv
  obtain ⟨rfl, hsz, hP, hK, hD0⟩ := hv
  have hx := B.exec
  have hb := B.bytes
  have hr := B.returns
  have hts := atoms_spec (ws := (ws_ yX0_high cX0_high 2 (some .int))) B.pre
  have hts : ∀ w ∈ lw_all, w.before _ s = true := fun w h => hts w (List.mem_cons_of_mem _ h)
  have hown : s.vm.findClass RX0 = some m.cls := findClass_of_methodNamed B.named
  have hlocks := B.notSynchronized
  subst hsz
  have hD := hD0.self (sz := s.heap.size)
  generalize hAe : va_A (obW 0 h0 a1 a2 d1 d2 lo hi x y) s.heap.size = A at hD ⊢
  have hA : ∀ q : Nat, s.heap.size ≤ q → A q := fun q h => by rw [← hAe]; exact Or.inr h
  have hS : va_S A s.heap s.heap [] := va_S.rf
  have hP : va_P D vwCl (obW 0 h0 a1 a2 d1 d2 lo hi x y) s.heap := hP
  have hl := lv_entry ([.ref h0, .int p0]) (n := 2) (Nat.le_of_ble_eq_true rfl)
  rw [lg_entry_eq]
  generalize (lg_sl ([.ref h0, .int p0]) ++ List.replicate (2 - (lg_sl ([.ref h0, .int p0])).length) Slot.unset).toArray = ls at hl ⊢
  have hl : lv_has ls 2 [(0, .ref h0), (1, .int p0)] := hl
  generalize hV : fX0_high p0 lo hi = V
  refine lv_iload_n hx hb dX0_high_0 rfl (lv_at hl 1 rfl) ?_
  refine pu_call (As := [.int p0]) (rest := []) ⟨hx, hb, hml, hown, hts⟩ (meX0_isRegister l p0) (va_cwS 1 hts (lw_S q40 q41 q12 q42) rfl rfl rfl (by decide +kernel) ⟨Nat.le_of_ble_eq_true rfl, Nat.le_of_ble_eq_true rfl⟩) rfl hl.1 rfl (Nat.le_of_ble_eq_true rfl) dX0_high_1 ⟨Nat.zero_le _, Nat.zero_le _⟩ ?_
  refine lv_if_eq (tgt := 16) hx hb dX0_high_4 (by decide) (fun c_1 => ?_) (fun c_1 => ?_)
  · refine lv_iconst (v := (-1)) hx hb dX0_high_16 (by decide) ?_
    exact ob_iret hx hb hr hlocks hK hP hD hS (congrArg (fun z : Int32 => (z, lo, hi, x, y)) (Eq.trans (Eq.symm (by rw [fX0_high, if_pos c_1])) hV)) dX0_high_17
  · refine lv_aload_n hx hb dX0_high_7 rfl (lv_at hl 0 rfl) ?_
    refine va_get (D := D) (ci := 0) (v := .ref a2) (C := RX0) (T := TX0) (N := 4) hx hb hts in_X0 hown hK hP 0 rfl rfl 1 (by decide) (hts _ q23) (fun _ h9 => h9) rfl dX0_high_8 ?_
    refine lv_iload_n hx hb dX0_high_11 rfl (lv_at hl 1 rfl) ?_
    refine va_iald hx hb hK hP 2 1 rfl rfl (isReg_in c_1) dX0_high_12 ?_
    refine lv_goto (tgt := 17) hx hb dX0_high_13 (by decide) ?_
    exact ob_iret hx hb hr hlocks hK hP hD hS (congrArg (fun z : Int32 => (z, lo, hi, x, y)) (Eq.trans (Eq.symm (by rw [fX0_high, if_neg c_1])) hV)) dX0_high_17
set_option maxHeartbeats 4000000 in
set_option maxRecDepth 100000 in
theorem meX0_less (l : Launch) (D : va_G) (h0 a1 a2 : Nat) (d1 d2 : ClassId) (p0 p1 : Int32) (lo hi : Nat → Int32) (x y : Int32) : ObI l yX0_less (ws_ yX0_less cX0_less 3 (some .int)) ({ frames := 1, cells := 0, slots := 0, locals := 20 } : Room) D 0 h0 a1 a2 d1 d2 [.int p0, .int p1] lo hi x y ((fX0_less p0 p1 lo hi), lo, hi, x, y) := by
  intro sz
  refine Met.ofW (cc := cX0_less) (maxL := 3) (ret := (some .int)) (by decide) rfl ?_
  intro p e s m args below meth c s₁ B hml hv
  obtain ⟨rfl, hsz, hP, hK, hD0⟩ := hv
  have hx := B.exec
  have hb := B.bytes
  have hr := B.returns
  have hts := atoms_spec (ws := (ws_ yX0_less cX0_less 3 (some .int))) B.pre
  have hts : ∀ w ∈ lw_all, w.before _ s = true := fun w h => hts w (List.mem_cons_of_mem _ h)
  have hown : s.vm.findClass RX0 = some m.cls := findClass_of_methodNamed B.named
  have hlocks := B.notSynchronized
  subst hsz
  have hD := hD0.self (sz := s.heap.size)
  generalize hAe : va_A (obW 0 h0 a1 a2 d1 d2 lo hi x y) s.heap.size = A at hD ⊢
  have hA : ∀ q : Nat, s.heap.size ≤ q → A q := fun q h => by rw [← hAe]; exact Or.inr h
  have hS : va_S A s.heap s.heap [] := va_S.rf
  have hP : va_P D vwCl (obW 0 h0 a1 a2 d1 d2 lo hi x y) s.heap := hP
  have hl := lv_entry ([.ref h0, .int p0, .int p1]) (n := 3) (Nat.le_of_ble_eq_true rfl)
  rw [lg_entry_eq]
  generalize (lg_sl ([.ref h0, .int p0, .int p1]) ++ List.replicate (3 - (lg_sl ([.ref h0, .int p0, .int p1])).length) Slot.unset).toArray = ls at hl ⊢
  have hl : lv_has ls 3 [(0, .ref h0), (1, .int p0), (2, .int p1)] := hl
  generalize hV : fX0_less p0 p1 lo hi = V
  refine lv_iload_n hx hb dX0_less_0 rfl (lv_at hl 1 rfl) ?_
  refine pu_call (As := [.int p0]) (rest := []) ⟨hx, hb, hml, hown, hts⟩ (meX0_isRegister l p0) (va_cwS 1 hts (lw_S q40 q41 q12 q42) rfl rfl rfl (by decide +kernel) ⟨Nat.le_of_ble_eq_true rfl, Nat.le_of_ble_eq_true rfl⟩) rfl hl.1 rfl (Nat.le_of_ble_eq_true rfl) dX0_less_1 ⟨Nat.zero_le _, Nat.zero_le _⟩ ?_
  refine lv_if_eq (tgt := 14) hx hb dX0_less_4 (by decide) (fun c_1 => ?_) (fun c_1 => ?_)
  · refine lv_iconst (v := (-1)) hx hb dX0_less_14 (by decide) ?_
    exact ob_iret hx hb hr hlocks hK hP hD hS (congrArg (fun z : Int32 => (z, lo, hi, x, y)) (Eq.trans (Eq.symm (by rw [fX0_less, if_pos c_1])) hV)) dX0_less_15
  · refine lv_iload_n hx hb dX0_less_7 rfl (lv_at hl 2 rfl) ?_
    refine pu_call (As := [.int p1]) (rest := []) ⟨hx, hb, hml, hown, hts⟩ (meX0_isRegister l p1) (va_cwS 1 hts (lw_S q40 q41 q12 q42) rfl rfl rfl (by decide +kernel) ⟨Nat.le_of_ble_eq_true rfl, Nat.le_of_ble_eq_true rfl⟩) rfl hl.1 rfl (Nat.le_of_ble_eq_true rfl) dX0_less_8 ⟨Nat.zero_le _, Nat.zero_le _⟩ ?_
    refine lv_if_ne (tgt := 16) hx hb dX0_less_11 (by decide) (fun c_2 => ?_) (fun c_2 => ?_)
    · refine lv_aload_n hx hb dX0_less_16 rfl (lv_at hl 0 rfl) ?_
      refine va_get (D := D) (ci := 0) (v := .ref a2) (C := RX0) (T := TX0) (N := 4) hx hb hts in_X0 hown hK hP 0 rfl rfl 1 (by decide) (hts _ q23) (fun _ h9 => h9) rfl dX0_less_17 ?_
      refine lv_iload_n hx hb dX0_less_20 rfl (lv_at hl 1 rfl) ?_
      refine va_iald hx hb hK hP 2 1 rfl rfl (isReg_in c_1) dX0_less_21 ?_
      refine lv_aload_n hx hb dX0_less_22 rfl (lv_at hl 0 rfl) ?_
      refine va_get (D := D) (ci := 0) (v := .ref a1) (C := RX0) (T := TX0) (N := 4) hx hb hts in_X0 hown hK hP 0 rfl rfl 0 (by decide) (hts _ q22) (fun _ h9 => h9) rfl dX0_less_23 ?_
      refine lv_iload_n hx hb dX0_less_26 rfl (lv_at hl 2 rfl) ?_
      refine va_iald hx hb hK hP 1 0 rfl rfl (isReg_in c_2) dX0_less_27 ?_
      refine lv_icmp_ge (tgt := 33) hx hb dX0_less_28 (by decide) (fun c_3 => ?_) (fun c_3 => ?_)
      · refine lv_aload_n hx hb dX0_less_33 rfl (lv_at hl 0 rfl) ?_
        refine va_get (D := D) (ci := 0) (v := .ref a1) (C := RX0) (T := TX0) (N := 4) hx hb hts in_X0 hown hK hP 0 rfl rfl 0 (by decide) (hts _ q22) (fun _ h9 => h9) rfl dX0_less_34 ?_
        refine lv_iload_n hx hb dX0_less_37 rfl (lv_at hl 1 rfl) ?_
        refine va_iald hx hb hK hP 1 0 rfl rfl (isReg_in c_1) dX0_less_38 ?_
        refine lv_aload_n hx hb dX0_less_39 rfl (lv_at hl 0 rfl) ?_
        refine va_get (D := D) (ci := 0) (v := .ref a2) (C := RX0) (T := TX0) (N := 4) hx hb hts in_X0 hown hK hP 0 rfl rfl 1 (by decide) (hts _ q23) (fun _ h9 => h9) rfl dX0_less_40 ?_
        refine lv_iload_n hx hb dX0_less_43 rfl (lv_at hl 2 rfl) ?_
        refine va_iald hx hb hK hP 2 1 rfl rfl (isReg_in c_2) dX0_less_44 ?_
        refine lv_icmp_lt (tgt := 52) hx hb dX0_less_45 (by decide) (fun c_4 => ?_) (fun c_4 => ?_)
        · refine lv_iconst (v := 2) hx hb dX0_less_52 (by decide) ?_
          exact ob_iret hx hb hr hlocks hK hP hD hS (congrArg (fun z : Int32 => (z, lo, hi, x, y)) (Eq.trans (Eq.symm (by rw [fX0_less, if_neg c_1, if_neg c_2, if_pos c_3, if_pos c_4])) hV)) dX0_less_53
        · refine lv_iconst (v := 0) hx hb dX0_less_48 (by decide) ?_
          refine lv_goto (tgt := 53) hx hb dX0_less_49 (by decide) ?_
          exact ob_iret hx hb hr hlocks hK hP hD hS (congrArg (fun z : Int32 => (z, lo, hi, x, y)) (Eq.trans (Eq.symm (by rw [fX0_less, if_neg c_1, if_neg c_2, if_pos c_3, if_neg c_4])) hV)) dX0_less_53
      · refine lv_iconst (v := 1) hx hb dX0_less_31 (by decide) ?_
        exact ob_iret hx hb hr hlocks hK hP hD hS (congrArg (fun z : Int32 => (z, lo, hi, x, y)) (Eq.trans (Eq.symm (by rw [fX0_less, if_neg c_1, if_neg c_2, if_neg c_3])) hV)) dX0_less_32
    · refine lv_iconst (v := (-1)) hx hb dX0_less_14 (by decide) ?_
      exact ob_iret hx hb hr hlocks hK hP hD hS (congrArg (fun z : Int32 => (z, lo, hi, x, y)) (Eq.trans (Eq.symm (by rw [fX0_less, if_neg c_1, if_pos c_2])) hV)) dX0_less_15
set_option maxHeartbeats 4000000 in
set_option maxRecDepth 100000 in
theorem meX0_apart (l : Launch) (D : va_G) (h0 a1 a2 : Nat) (d1 d2 : ClassId) (p0 p1 : Int32) (lo hi : Nat → Int32) (x y : Int32) : ObI l yX0_apart (ws_ yX0_apart cX0_apart 4 (some .int)) ({ frames := 1, cells := 0, slots := 0, locals := 28 } : Room) D 0 h0 a1 a2 d1 d2 [.int p0, .int p1] lo hi x y ((fX0_apart p0 p1 lo hi), lo, hi, x, y) := by
  intro sz
  refine Met.ofW (cc := cX0_apart) (maxL := 4) (ret := (some .int)) (by decide) rfl ?_
  intro p e s m args below meth c s₁ B hml hv
  obtain ⟨rfl, hsz, hP, hK, hD0⟩ := hv
  have hx := B.exec
  have hb := B.bytes
  have hr := B.returns
  have hts := atoms_spec (ws := (ws_ yX0_apart cX0_apart 4 (some .int))) B.pre
  have hts : ∀ w ∈ lw_all, w.before _ s = true := fun w h => hts w (List.mem_cons_of_mem _ h)
  have hown : s.vm.findClass RX0 = some m.cls := findClass_of_methodNamed B.named
  have hlocks := B.notSynchronized
  subst hsz
  have hD := hD0.self (sz := s.heap.size)
  generalize hAe : va_A (obW 0 h0 a1 a2 d1 d2 lo hi x y) s.heap.size = A at hD ⊢
  have hA : ∀ q : Nat, s.heap.size ≤ q → A q := fun q h => by rw [← hAe]; exact Or.inr h
  have hS : va_S A s.heap s.heap [] := va_S.rf
  have hP : va_P D vwCl (obW 0 h0 a1 a2 d1 d2 lo hi x y) s.heap := hP
  have hl := lv_entry ([.ref h0, .int p0, .int p1]) (n := 4) (Nat.le_of_ble_eq_true rfl)
  rw [lg_entry_eq]
  generalize (lg_sl ([.ref h0, .int p0, .int p1]) ++ List.replicate (4 - (lg_sl ([.ref h0, .int p0, .int p1])).length) Slot.unset).toArray = ls at hl ⊢
  have hl : lv_has ls 4 [(0, .ref h0), (1, .int p0), (2, .int p1)] := hl
  generalize hV : fX0_apart p0 p1 lo hi = V
  refine lv_iload_n hx hb dX0_apart_0 rfl (lv_at hl 1 rfl) ?_
  refine pu_call (As := [.int p0]) (rest := []) ⟨hx, hb, hml, hown, hts⟩ (meX0_isRegister l p0) (va_cwS 1 hts (lw_S q40 q41 q12 q42) rfl rfl rfl (by decide +kernel) ⟨Nat.le_of_ble_eq_true rfl, Nat.le_of_ble_eq_true rfl⟩) rfl hl.1 rfl (Nat.le_of_ble_eq_true rfl) dX0_apart_1 ⟨Nat.zero_le _, Nat.zero_le _⟩ ?_
  refine lv_if_eq (tgt := 14) hx hb dX0_apart_4 (by decide) (fun c_1 => ?_) (fun c_1 => ?_)
  · refine lv_iconst (v := (-1)) hx hb dX0_apart_14 (by decide) ?_
    exact ob_iret hx hb hr hlocks hK hP hD hS (congrArg (fun z : Int32 => (z, lo, hi, x, y)) (Eq.trans (Eq.symm (by rw [fX0_apart, if_pos c_1])) hV)) dX0_apart_15
  · refine lv_iload_n hx hb dX0_apart_7 rfl (lv_at hl 2 rfl) ?_
    refine pu_call (As := [.int p1]) (rest := []) ⟨hx, hb, hml, hown, hts⟩ (meX0_isRegister l p1) (va_cwS 1 hts (lw_S q40 q41 q12 q42) rfl rfl rfl (by decide +kernel) ⟨Nat.le_of_ble_eq_true rfl, Nat.le_of_ble_eq_true rfl⟩) rfl hl.1 rfl (Nat.le_of_ble_eq_true rfl) dX0_apart_8 ⟨Nat.zero_le _, Nat.zero_le _⟩ ?_
    refine lv_if_ne (tgt := 16) hx hb dX0_apart_11 (by decide) (fun c_2 => ?_) (fun c_2 => ?_)
    · refine lv_aload_n hx hb dX0_apart_16 rfl (lv_at hl 0 rfl) ?_
      refine va_get (D := D) (ci := 0) (v := .ref a2) (C := RX0) (T := TX0) (N := 4) hx hb hts in_X0 hown hK hP 0 rfl rfl 1 (by decide) (hts _ q23) (fun _ h9 => h9) rfl dX0_apart_17 ?_
      refine lv_iload_n hx hb dX0_apart_20 rfl (lv_at hl 1 rfl) ?_
      refine va_iald hx hb hK hP 2 1 rfl rfl (isReg_in c_1) dX0_apart_21 ?_
      refine lv_aload_n hx hb dX0_apart_22 rfl (lv_at hl 0 rfl) ?_
      refine va_get (D := D) (ci := 0) (v := .ref a2) (C := RX0) (T := TX0) (N := 4) hx hb hts in_X0 hown hK hP 0 rfl rfl 1 (by decide) (hts _ q23) (fun _ h9 => h9) rfl dX0_apart_23 ?_
      refine lv_iload_n hx hb dX0_apart_26 rfl (lv_at hl 2 rfl) ?_
      refine va_iald hx hb hK hP 2 1 rfl rfl (isReg_in c_2) dX0_apart_27 ?_
      refine pu_call (As := [.int (hi p0.toNatClampNeg), .int (hi p1.toNatClampNeg)]) (rest := []) ⟨hx, hb, hml, hown, hts⟩ (meX0_apartUpTo l (hi p0.toNatClampNeg) (hi p1.toNatClampNeg)) (va_cwS 2 hts (lw_S q132 q133 q12 q134) rfl rfl rfl (by decide +kernel) ⟨Nat.le_of_ble_eq_true rfl, Nat.le_of_ble_eq_true rfl⟩) rfl hl.1 rfl (Nat.le_of_ble_eq_true rfl) dX0_apart_28 ⟨Nat.zero_le _, Nat.zero_le _⟩ ?_
      refine lv_aload_n hx hb dX0_apart_31 rfl (lv_at hl 0 rfl) ?_
      refine va_get (D := D) (ci := 0) (v := .ref a1) (C := RX0) (T := TX0) (N := 4) hx hb hts in_X0 hown hK hP 0 rfl rfl 0 (by decide) (hts _ q22) (fun _ h9 => h9) rfl dX0_apart_32 ?_
      refine lv_iload_n hx hb dX0_apart_35 rfl (lv_at hl 1 rfl) ?_
      refine va_iald hx hb hK hP 1 0 rfl rfl (isReg_in c_1) dX0_apart_36 ?_
      refine lv_iconst (v := 1) hx hb dX0_apart_37 (by decide) ?_
      refine lv_isub hx hb dX0_apart_38 ?_
      refine lv_aload_n hx hb dX0_apart_39 rfl (lv_at hl 0 rfl) ?_
      refine va_get (D := D) (ci := 0) (v := .ref a1) (C := RX0) (T := TX0) (N := 4) hx hb hts in_X0 hown hK hP 0 rfl rfl 0 (by decide) (hts _ q22) (fun _ h9 => h9) rfl dX0_apart_40 ?_
      refine lv_iload_n hx hb dX0_apart_43 rfl (lv_at hl 2 rfl) ?_
      refine va_iald hx hb hK hP 1 0 rfl rfl (isReg_in c_2) dX0_apart_44 ?_
      refine lv_iconst (v := 1) hx hb dX0_apart_45 (by decide) ?_
      refine lv_isub hx hb dX0_apart_46 ?_
      refine pu_call (As := [.int ((lo p0.toNatClampNeg) - 1), .int ((lo p1.toNatClampNeg) - 1)]) (rest := [.int (fX0_apartUpTo (hi p0.toNatClampNeg) (hi p1.toNatClampNeg))]) ⟨hx, hb, hml, hown, hts⟩ (meX0_apartUpTo l ((lo p0.toNatClampNeg) - 1) ((lo p1.toNatClampNeg) - 1)) (va_cwS 2 hts (lw_S q132 q133 q12 q134) rfl rfl rfl (by decide +kernel) ⟨Nat.le_of_ble_eq_true rfl, Nat.le_of_ble_eq_true rfl⟩) rfl hl.1 rfl (Nat.le_of_ble_eq_true rfl) dX0_apart_47 ⟨Nat.zero_le _, Nat.zero_le _⟩ ?_
      refine lv_iadd hx hb dX0_apart_50 ?_
      refine lv_istore_n (lv' := [(3, .int ((fX0_apartUpTo (hi p0.toNatClampNeg) (hi p1.toNatClampNeg)) + (fX0_apartUpTo ((lo p0.toNatClampNeg) - 1) ((lo p1.toNatClampNeg) - 1)))), (0, .ref h0), (1, .int p0), (2, .int p1)]) hx hb dX0_apart_51 rfl hl (by decide) rfl (fun ls hl => ?_)
      refine lv_iload_n hx hb dX0_apart_52 rfl (lv_at hl 0 rfl) ?_
      refine lv_aload_n hx hb dX0_apart_53 rfl (lv_at hl 1 rfl) ?_
      refine va_get (D := D) (ci := 0) (v := .ref a1) (C := RX0) (T := TX0) (N := 4) hx hb hts in_X0 hown hK hP 0 rfl rfl 0 (by decide) (hts _ q22) (fun _ h9 => h9) rfl dX0_apart_54 ?_
      refine lv_iload_n hx hb dX0_apart_57 rfl (lv_at hl 2 rfl) ?_
      refine va_iald hx hb hK hP 1 0 rfl rfl (isReg_in c_1) dX0_apart_58 ?_
      refine lv_iconst (v := 1) hx hb dX0_apart_59 (by decide) ?_
      refine lv_isub hx hb dX0_apart_60 ?_
      refine lv_aload_n hx hb dX0_apart_61 rfl (lv_at hl 1 rfl) ?_
      refine va_get (D := D) (ci := 0) (v := .ref a2) (C := RX0) (T := TX0) (N := 4) hx hb hts in_X0 hown hK hP 0 rfl rfl 1 (by decide) (hts _ q23) (fun _ h9 => h9) rfl dX0_apart_62 ?_
      refine lv_iload_n hx hb dX0_apart_65 rfl (lv_at hl 3 rfl) ?_
      refine va_iald hx hb hK hP 2 1 rfl rfl (isReg_in c_2) dX0_apart_66 ?_
      refine pu_call (As := [.int ((lo p0.toNatClampNeg) - 1), .int (hi p1.toNatClampNeg)]) (rest := [.int ((fX0_apartUpTo (hi p0.toNatClampNeg) (hi p1.toNatClampNeg)) + (fX0_apartUpTo ((lo p0.toNatClampNeg) - 1) ((lo p1.toNatClampNeg) - 1)))]) ⟨hx, hb, hml, hown, hts⟩ (meX0_apartUpTo l ((lo p0.toNatClampNeg) - 1) (hi p1.toNatClampNeg)) (va_cwS 2 hts (lw_S q132 q133 q12 q134) rfl rfl rfl (by decide +kernel) ⟨Nat.le_of_ble_eq_true rfl, Nat.le_of_ble_eq_true rfl⟩) rfl hl.1 rfl (Nat.le_of_ble_eq_true rfl) dX0_apart_67 ⟨Nat.zero_le _, Nat.zero_le _⟩ ?_
      refine lv_isub hx hb dX0_apart_70 ?_
      refine lv_aload_n hx hb dX0_apart_71 rfl (lv_at hl 1 rfl) ?_
      refine va_get (D := D) (ci := 0) (v := .ref a2) (C := RX0) (T := TX0) (N := 4) hx hb hts in_X0 hown hK hP 0 rfl rfl 1 (by decide) (hts _ q23) (fun _ h9 => h9) rfl dX0_apart_72 ?_
      refine lv_iload_n hx hb dX0_apart_75 rfl (lv_at hl 2 rfl) ?_
      refine va_iald hx hb hK hP 2 1 rfl rfl (isReg_in c_1) dX0_apart_76 ?_
      refine lv_aload_n hx hb dX0_apart_77 rfl (lv_at hl 1 rfl) ?_
      refine va_get (D := D) (ci := 0) (v := .ref a1) (C := RX0) (T := TX0) (N := 4) hx hb hts in_X0 hown hK hP 0 rfl rfl 0 (by decide) (hts _ q22) (fun _ h9 => h9) rfl dX0_apart_78 ?_
      refine lv_iload_n hx hb dX0_apart_81 rfl (lv_at hl 3 rfl) ?_
      refine va_iald hx hb hK hP 1 0 rfl rfl (isReg_in c_2) dX0_apart_82 ?_
      refine lv_iconst (v := 1) hx hb dX0_apart_83 (by decide) ?_
      refine lv_isub hx hb dX0_apart_84 ?_
      refine pu_call (As := [.int (hi p0.toNatClampNeg), .int ((lo p1.toNatClampNeg) - 1)]) (rest := [.int (((fX0_apartUpTo (hi p0.toNatClampNeg) (hi p1.toNatClampNeg)) + (fX0_apartUpTo ((lo p0.toNatClampNeg) - 1) ((lo p1.toNatClampNeg) - 1))) - (fX0_apartUpTo ((lo p0.toNatClampNeg) - 1) (hi p1.toNatClampNeg)))]) ⟨hx, hb, hml, hown, hts⟩ (meX0_apartUpTo l (hi p0.toNatClampNeg) ((lo p1.toNatClampNeg) - 1)) (va_cwS 2 hts (lw_S q132 q133 q12 q134) rfl rfl rfl (by decide +kernel) ⟨Nat.le_of_ble_eq_true rfl, Nat.le_of_ble_eq_true rfl⟩) rfl hl.1 rfl (Nat.le_of_ble_eq_true rfl) dX0_apart_85 ⟨Nat.zero_le _, Nat.zero_le _⟩ ?_
      refine lv_isub hx hb dX0_apart_88 ?_
      exact ob_iret hx hb hr hlocks hK hP hD hS (congrArg (fun z : Int32 => (z, lo, hi, x, y)) (Eq.trans (Eq.symm (by rw [fX0_apart, if_neg c_1, if_neg c_2])) hV)) dX0_apart_89
    · refine lv_iconst (v := (-1)) hx hb dX0_apart_14 (by decide) ?_
      exact ob_iret hx hb hr hlocks hK hP hD hS (congrArg (fun z : Int32 => (z, lo, hi, x, y)) (Eq.trans (Eq.symm (by rw [fX0_apart, if_neg c_1, if_pos c_2])) hV)) dX0_apart_15
end
section
set_option maxHeartbeats 4000000 in
set_option maxRecDepth 100000 in
theorem meX1_result (l : Launch) (D : va_G) (h0 a1 a2 : Nat) (d1 d2 : ClassId) (p0 : Int32) (lo hi : Nat → Int32) (x y : Int32) : ObV l yX1_result (ws_ yX1_result cX1_result 2 none) ({ frames := 0, cells := 0, slots := 0, locals := 0 } : Room) D 1 h0 a1 a2 d1 d2 [.int p0] lo hi x y ((0 : Int32), lo, hi, (fX1_result p0 x y).1, (fX1_result p0 x y).2) := by
  intro sz
  refine Met.ofW (cc := cX1_result) (maxL := 2) (ret := none) (by decide) rfl ?_
  intro p e s m args below meth c s₁ B hml hv
  obtain ⟨rfl, hsz, hP, hK, hD0⟩ := hv
  have hx := B.exec
  have hb := B.bytes
  have hr := B.returns
  have hts := atoms_spec (ws := (ws_ yX1_result cX1_result 2 none)) B.pre
  have hts : ∀ w ∈ lw_all, w.before _ s = true := fun w h => hts w (List.mem_cons_of_mem _ h)
  have hown : s.vm.findClass RX1 = some m.cls := findClass_of_methodNamed B.named
  have hlocks := B.notSynchronized
  subst hsz
  have hD := hD0.self (sz := s.heap.size)
  generalize hAe : va_A (obW 1 h0 a1 a2 d1 d2 lo hi x y) s.heap.size = A at hD ⊢
  have hA : ∀ q : Nat, s.heap.size ≤ q → A q := fun q h => by rw [← hAe]; exact Or.inr h
  have hS : va_S A s.heap s.heap [] := va_S.rf
  have hP : va_P D vwCl (obW 1 h0 a1 a2 d1 d2 lo hi x y) s.heap := hP
  have hl := lv_entry ([.ref h0, .int p0]) (n := 2) (Nat.le_of_ble_eq_true rfl)
  rw [lg_entry_eq]
  generalize (lg_sl ([.ref h0, .int p0]) ++ List.replicate (2 - (lg_sl ([.ref h0, .int p0])).length) Slot.unset).toArray = ls at hl ⊢
  have hl : lv_has ls 2 [(0, .ref h0), (1, .int p0)] := hl
  generalize hV : fX1_result p0 x y = V
  refine lv_iload_n hx hb dX1_result_0 rfl (lv_at hl 1 rfl) ?_
  refine lv_aload_n hx hb dX1_result_1 rfl (lv_at hl 0 rfl) ?_
  refine va_get (D := D) (ci := 1) (v := .int x) (C := RX1) (T := TX1) (N := 4) hx hb hts in_X1 hown hK hP 0 rfl rfl 2 (by decide) (hts _ q143) (fun _ h9 => h9) rfl dX1_result_2 ?_
  refine lv_icmp_ge (tgt := 13) hx hb dX1_result_5 (by decide) (fun c_1 => ?_) (fun c_1 => ?_)
  · refine lv_iload_n hx hb dX1_result_13 rfl (lv_at hl 1 rfl) ?_
    refine lv_aload_n hx hb dX1_result_14 rfl (lv_at hl 0 rfl) ?_
    refine va_get (D := D) (ci := 1) (v := .int y) (C := RX1) (T := TX1) (N := 4) hx hb hts in_X1 hown hK hP 0 rfl rfl 3 (by decide) (hts _ q144) (fun _ h9 => h9) rfl dX1_result_15 ?_
    refine lv_icmp_le (tgt := 26) hx hb dX1_result_18 (by decide) (fun c_2 => ?_) (fun c_2 => ?_)
    · exact ob_vret (v := 0) hx hb hr hlocks hK hP hD hS (congrArg (fun z : Int32 × Int32 => ((0 : Int32), lo, hi, z.1, z.2)) (Eq.trans (Eq.symm (by rw [fX1_result, if_pos c_1, if_pos c_2])) hV)) dX1_result_26
    · refine lv_aload_n hx hb dX1_result_21 rfl (lv_at hl 0 rfl) ?_
      refine lv_iload_n hx hb dX1_result_22 rfl (lv_at hl 1 rfl) ?_
      refine va_put (D := D) (ci := 1) (v := .int p0) (ty := .int) (C := RX1) (T := TX1) (N := 4) hx hb hts in_X1 tyX1 tyX1_ok nmX1 hown hK hP hD hS 0 rfl rfl 3 (by decide) (hts _ q144) (fun _ h9 => h9) rfl (by decide +kernel) rfl rfl (Nat.le_of_ble_eq_true rfl) dX1_result_23 (fun H locs hP hD hS => ?_)
      have hP : va_P D vwCl (obW 1 h0 a1 a2 d1 d2 lo hi x p0) H := hP
      have hD : va_D A (obW 1 h0 a1 a2 d1 d2 lo hi x p0) := hD
      exact ob_vret (v := 0) hx hb hr hlocks hK hP hD hS (congrArg (fun z : Int32 × Int32 => ((0 : Int32), lo, hi, z.1, z.2)) (Eq.trans (Eq.symm (by rw [fX1_result, if_pos c_1, if_neg c_2])) hV)) dX1_result_26
  · refine lv_aload_n hx hb dX1_result_8 rfl (lv_at hl 0 rfl) ?_
    refine lv_iload_n hx hb dX1_result_9 rfl (lv_at hl 1 rfl) ?_
    refine va_put (D := D) (ci := 1) (v := .int p0) (ty := .int) (C := RX1) (T := TX1) (N := 4) hx hb hts in_X1 tyX1 tyX1_ok nmX1 hown hK hP hD hS 0 rfl rfl 2 (by decide) (hts _ q143) (fun _ h9 => h9) rfl (by decide +kernel) rfl rfl (Nat.le_of_ble_eq_true rfl) dX1_result_10 (fun H locs hP hD hS => ?_)
    have hP : va_P D vwCl (obW 1 h0 a1 a2 d1 d2 lo hi p0 y) H := hP
    have hD : va_D A (obW 1 h0 a1 a2 d1 d2 lo hi p0 y) := hD
    refine lv_iload_n hx hb dX1_result_13 rfl (lv_at hl 1 rfl) ?_
    refine lv_aload_n hx hb dX1_result_14 rfl (lv_at hl 0 rfl) ?_
    refine va_get (D := D) (ci := 1) (v := .int y) (C := RX1) (T := TX1) (N := 4) hx hb hts in_X1 hown hK hP 0 rfl rfl 3 (by decide) (hts _ q144) (fun _ h9 => h9) rfl dX1_result_15 ?_
    refine lv_icmp_le (tgt := 26) hx hb dX1_result_18 (by decide) (fun c_3 => ?_) (fun c_3 => ?_)
    · exact ob_vret (v := 0) hx hb hr hlocks hK hP hD hS (congrArg (fun z : Int32 × Int32 => ((0 : Int32), lo, hi, z.1, z.2)) (Eq.trans (Eq.symm (by rw [fX1_result, if_neg c_1, if_pos c_3])) hV)) dX1_result_26
    · refine lv_aload_n hx hb dX1_result_21 rfl (lv_at hl 0 rfl) ?_
      refine lv_iload_n hx hb dX1_result_22 rfl (lv_at hl 1 rfl) ?_
      refine va_put (D := D) (ci := 1) (v := .int p0) (ty := .int) (C := RX1) (T := TX1) (N := 4) hx hb hts in_X1 tyX1 tyX1_ok nmX1 hown hK hP hD hS 0 rfl rfl 3 (by decide) (hts _ q144) (fun _ h9 => h9) rfl (by decide +kernel) rfl rfl (Nat.le_of_ble_eq_true rfl) dX1_result_23 (fun H locs hP hD hS => ?_)
      have hP : va_P D vwCl (obW 1 h0 a1 a2 d1 d2 lo hi p0 p0) H := hP
      have hD : va_D A (obW 1 h0 a1 a2 d1 d2 lo hi p0 p0) := hD
      exact ob_vret (v := 0) hx hb hr hlocks hK hP hD hS (congrArg (fun z : Int32 × Int32 => ((0 : Int32), lo, hi, z.1, z.2)) (Eq.trans (Eq.symm (by rw [fX1_result, if_neg c_1, if_neg c_3])) hV)) dX1_result_26
set_option maxHeartbeats 4000000 in
set_option maxRecDepth 100000 in
theorem meX1_pair (l : Launch) (D : va_G) (h0 a1 a2 : Nat) (d1 d2 : ClassId) (p0 p1 p2 : Int32) (lo hi : Nat → Int32) (x y : Int32) : ObV l yX1_pair (ws_ yX1_pair cX1_pair 5 none) ({ frames := 1, cells := 0, slots := 0, locals := 22 } : Room) D 1 h0 a1 a2 d1 d2 [.int p0, .int p1, .int p2] lo hi x y ((0 : Int32), lo, hi, (fX1_pair p0 p1 p2 x y).1, (fX1_pair p0 p1 p2 x y).2) := by
  intro sz
  refine Met.ofW (cc := cX1_pair) (maxL := 5) (ret := none) (by decide) rfl ?_
  intro p e s m args below meth c s₁ B hml hv
  obtain ⟨rfl, hsz, hP, hK, hD0⟩ := hv
  have hx := B.exec
  have hb := B.bytes
  have hr := B.returns
  have hts := atoms_spec (ws := (ws_ yX1_pair cX1_pair 5 none)) B.pre
  have hts : ∀ w ∈ lw_all, w.before _ s = true := fun w h => hts w (List.mem_cons_of_mem _ h)
  have hown : s.vm.findClass RX1 = some m.cls := findClass_of_methodNamed B.named
  have hlocks := B.notSynchronized
  subst hsz
  have hD := hD0.self (sz := s.heap.size)
  generalize hAe : va_A (obW 1 h0 a1 a2 d1 d2 lo hi x y) s.heap.size = A at hD ⊢
  have hA : ∀ q : Nat, s.heap.size ≤ q → A q := fun q h => by rw [← hAe]; exact Or.inr h
  have hS : va_S A s.heap s.heap [] := va_S.rf
  have hP : va_P D vwCl (obW 1 h0 a1 a2 d1 d2 lo hi x y) s.heap := hP
  have hl := lv_entry ([.ref h0, .int p0, .int p1, .int p2]) (n := 5) (Nat.le_of_ble_eq_true rfl)
  rw [lg_entry_eq]
  generalize (lg_sl ([.ref h0, .int p0, .int p1, .int p2]) ++ List.replicate (5 - (lg_sl ([.ref h0, .int p0, .int p1, .int p2])).length) Slot.unset).toArray = ls at hl ⊢
  have hl : lv_has ls 5 [(0, .ref h0), (1, .int p0), (2, .int p1), (3, .int p2)] := hl
  generalize hV : fX1_pair p0 p1 p2 x y = V
  refine lv_iload_n hx hb dX1_pair_0 rfl (lv_at hl 1 rfl) ?_
  refine lv_bipush (v := 8) hx hb dX1_pair_1 (by decide) ?_
  refine lv_icmp_gt (tgt := 23) hx hb dX1_pair_3 (by decide) (fun c_1 => ?_) (fun c_1 => ?_)
  · refine lv_iload_n hx hb dX1_pair_23 rfl (lv_at hl 1 rfl) ?_
    refine lv_bipush (v := 9) hx hb dX1_pair_24 (by decide) ?_
    refine lv_icmp_ne (tgt := 42) hx hb dX1_pair_26 (by decide) (fun c_2 => ?_) (fun c_2 => ?_)
    · refine lv_iload_n hx hb dX1_pair_42 rfl (lv_at hl 2 rfl) ?_
      refine lv_iload_n hx hb dX1_pair_43 rfl (lv_at hl 3 rfl) ?_
      refine lv_icmp_ne (tgt := 52) hx hb dX1_pair_44 (by decide) (fun c_3 => ?_) (fun c_3 => ?_)
      · exact ob_vret (v := 0) hx hb hr hlocks hK hP hD hS (congrArg (fun z : Int32 × Int32 => ((0 : Int32), lo, hi, z.1, z.2)) (Eq.trans (Eq.symm (by rw [fX1_pair, if_pos c_1, if_neg c_2, if_neg c_3])) hV)) dX1_pair_52
      · refine lv_aload_n hx hb dX1_pair_47 rfl (lv_at hl 0 rfl) ?_
        refine lv_iload_n hx hb dX1_pair_48 rfl (lv_at hl 2 rfl) ?_
        refine ob_callv (ws := (obW 1 h0 a1 a2 d1 d2 lo hi x y)) (wr := []) (rest := []) (As := [.int p1]) ⟨hx, hb, hml, hown, hts⟩ (meX1_result l D h0 a1 a2 d1 d2 p1 lo hi x y) (cwV 1 hts (lw_V q172 q174 qs9 q13 q175) rfl rfl rfl (by decide +kernel) ⟨Nat.le_of_ble_eq_true rfl, Nat.le_of_ble_eq_true rfl⟩) (show vwCl[1]? = some (RX1, TX1, 4) from rfl) rfl hl.1 rfl (Nat.le_of_ble_eq_true rfl) dX1_pair_49 ⟨Nat.zero_le _, Nat.zero_le _⟩ hK hP hD hS hA [0, 1, 2] [] rfl rfl (by decide) (by decide) (by decide) (fun H locs hP hD hS => ?_)
        have hP : va_P D vwCl (obW 1 h0 a1 a2 d1 d2 lo hi ((fX1_result p1 x y).1) ((fX1_result p1 x y).2)) H := hP
        have hD : va_D A (obW 1 h0 a1 a2 d1 d2 lo hi ((fX1_result p1 x y).1) ((fX1_result p1 x y).2)) := hD
        exact ob_vret (v := 0) hx hb hr hlocks hK hP hD hS (congrArg (fun z : Int32 × Int32 => ((0 : Int32), lo, hi, z.1, z.2)) (Eq.trans (Eq.symm (by rw [fX1_pair, if_pos c_1, if_neg c_2, if_pos c_3])) hV)) dX1_pair_52
    · refine lv_aload_n hx hb dX1_pair_29 rfl (lv_at hl 0 rfl) ?_
      refine lv_iload_n hx hb dX1_pair_30 rfl (lv_at hl 2 rfl) ?_
      refine ob_callv (ws := (obW 1 h0 a1 a2 d1 d2 lo hi x y)) (wr := []) (rest := []) (As := [.int p1]) ⟨hx, hb, hml, hown, hts⟩ (meX1_result l D h0 a1 a2 d1 d2 p1 lo hi x y) (cwV 1 hts (lw_V q172 q174 qs9 q13 q175) rfl rfl rfl (by decide +kernel) ⟨Nat.le_of_ble_eq_true rfl, Nat.le_of_ble_eq_true rfl⟩) (show vwCl[1]? = some (RX1, TX1, 4) from rfl) rfl hl.1 rfl (Nat.le_of_ble_eq_true rfl) dX1_pair_31 ⟨Nat.zero_le _, Nat.zero_le _⟩ hK hP hD hS hA [0, 1, 2] [] rfl rfl (by decide) (by decide) (by decide) (fun H locs hP hD hS => ?_)
      have hP : va_P D vwCl (obW 1 h0 a1 a2 d1 d2 lo hi ((fX1_result p1 x y).1) ((fX1_result p1 x y).2)) H := hP
      have hD : va_D A (obW 1 h0 a1 a2 d1 d2 lo hi ((fX1_result p1 x y).1) ((fX1_result p1 x y).2)) := hD
      refine lv_aload_n hx hb dX1_pair_34 rfl (lv_at hl 0 rfl) ?_
      refine lv_iload_n hx hb dX1_pair_35 rfl (lv_at hl 3 rfl) ?_
      refine ob_callv (ws := (obW 1 h0 a1 a2 d1 d2 lo hi ((fX1_result p1 x y).1) ((fX1_result p1 x y).2))) (wr := []) (rest := []) (As := [.int p2]) ⟨hx, hb, hml, hown, hts⟩ (meX1_result l D h0 a1 a2 d1 d2 p2 lo hi ((fX1_result p1 x y).1) ((fX1_result p1 x y).2)) (cwV 1 hts (lw_V q172 q174 qs9 q13 q175) rfl rfl rfl (by decide +kernel) ⟨Nat.le_of_ble_eq_true rfl, Nat.le_of_ble_eq_true rfl⟩) (show vwCl[1]? = some (RX1, TX1, 4) from rfl) rfl hl.1 rfl (Nat.le_of_ble_eq_true rfl) dX1_pair_36 ⟨Nat.zero_le _, Nat.zero_le _⟩ hK hP hD hS hA [0, 1, 2] [] rfl rfl (by decide) (by decide) (by decide) (fun H locs hP hD hS => ?_)
      have hP : va_P D vwCl (obW 1 h0 a1 a2 d1 d2 lo hi ((fX1_result p2 ((fX1_result p1 x y).1) ((fX1_result p1 x y).2)).1) ((fX1_result p2 ((fX1_result p1 x y).1) ((fX1_result p1 x y).2)).2)) H := hP
      have hD : va_D A (obW 1 h0 a1 a2 d1 d2 lo hi ((fX1_result p2 ((fX1_result p1 x y).1) ((fX1_result p1 x y).2)).1) ((fX1_result p2 ((fX1_result p1 x y).1) ((fX1_result p1 x y).2)).2)) := hD
      refine lv_goto (tgt := 52) hx hb dX1_pair_39 (by decide) ?_
      exact ob_vret (v := 0) hx hb hr hlocks hK hP hD hS (congrArg (fun z : Int32 × Int32 => ((0 : Int32), lo, hi, z.1, z.2)) (Eq.trans (Eq.symm (by rw [fX1_pair, if_pos c_1, if_pos c_2])) hV)) dX1_pair_52
  · refine lv_iload_n hx hb dX1_pair_6 rfl (lv_at hl 1 rfl) ?_
    refine lv_iload_n hx hb dX1_pair_7 rfl (lv_at hl 2 rfl) ?_
    refine lv_iload_n hx hb dX1_pair_8 rfl (lv_at hl 3 rfl) ?_
    refine pu_call (As := [.int p0, .int p1, .int p2]) (rest := []) ⟨hx, hb, hml, hown, hts⟩ (meX1_worked l p0 p1 p2) (va_cwS 3 hts (lw_S q169 q170 q13 q171) rfl rfl rfl (by decide +kernel) ⟨Nat.le_of_ble_eq_true rfl, Nat.le_of_ble_eq_true rfl⟩) rfl hl.1 rfl (Nat.le_of_ble_eq_true rfl) dX1_pair_9 ⟨Nat.zero_le _, Nat.zero_le _⟩ ?_
    refine lv_istore (lv' := [(4, .int (fX1_worked p0 p1 p2)), (0, .ref h0), (1, .int p0), (2, .int p1), (3, .int p2)]) hx hb dX1_pair_12 hl (by decide) rfl (fun ls hl => ?_)
    refine lv_aload_n hx hb dX1_pair_14 rfl (lv_at hl 1 rfl) ?_
    refine lv_iload hx hb dX1_pair_15 (lv_at hl 0 rfl) ?_
    refine ob_callv (ws := (obW 1 h0 a1 a2 d1 d2 lo hi x y)) (wr := []) (rest := []) (As := [.int (fX1_worked p0 p1 p2)]) ⟨hx, hb, hml, hown, hts⟩ (meX1_result l D h0 a1 a2 d1 d2 (fX1_worked p0 p1 p2) lo hi x y) (cwV 1 hts (lw_V q172 q174 qs9 q13 q175) rfl rfl rfl (by decide +kernel) ⟨Nat.le_of_ble_eq_true rfl, Nat.le_of_ble_eq_true rfl⟩) (show vwCl[1]? = some (RX1, TX1, 4) from rfl) rfl hl.1 rfl (Nat.le_of_ble_eq_true rfl) dX1_pair_17 ⟨Nat.zero_le _, Nat.zero_le _⟩ hK hP hD hS hA [0, 1, 2] [] rfl rfl (by decide) (by decide) (by decide) (fun H locs hP hD hS => ?_)
    have hP : va_P D vwCl (obW 1 h0 a1 a2 d1 d2 lo hi ((fX1_result (fX1_worked p0 p1 p2) x y).1) ((fX1_result (fX1_worked p0 p1 p2) x y).2)) H := hP
    have hD : va_D A (obW 1 h0 a1 a2 d1 d2 lo hi ((fX1_result (fX1_worked p0 p1 p2) x y).1) ((fX1_result (fX1_worked p0 p1 p2) x y).2)) := hD
    refine lv_goto (tgt := 52) hx hb dX1_pair_20 (by decide) ?_
    exact ob_vret (v := 0) hx hb hr hlocks hK hP hD hS (congrArg (fun z : Int32 × Int32 => ((0 : Int32), lo, hi, z.1, z.2)) (Eq.trans (Eq.symm (by rw [fX1_pair, if_neg c_1])) hV)) dX1_pair_52
set_option maxHeartbeats 4000000 in
set_option maxRecDepth 100000 in
theorem meX1_keep (l : Launch) (D : va_G) (h0 a1 a2 : Nat) (d1 d2 : ClassId) (p0 : Int32) (lo hi : Nat → Int32) (x y : Int32) (hi0 : vp_in p0 6) : ObI l yX1_keep (ws_ yX1_keep cX1_keep 2 (some .int)) ({ frames := 0, cells := 0, slots := 0, locals := 0 } : Room) D 1 h0 a1 a2 d1 d2 [.int p0] lo hi x y (fX1_keep p0 lo hi x y) := by
  intro sz
  refine Met.ofW (cc := cX1_keep) (maxL := 2) (ret := (some .int)) (by decide) rfl ?_
  intro p e s m args below meth c s₁ B hml hv
  obtain ⟨rfl, hsz, hP, hK, hD0⟩ := hv
  have hx := B.exec
  have hb := B.bytes
  have hr := B.returns
  have hts := atoms_spec (ws := (ws_ yX1_keep cX1_keep 2 (some .int))) B.pre
  have hts : ∀ w ∈ lw_all, w.before _ s = true := fun w h => hts w (List.mem_cons_of_mem _ h)
  have hown : s.vm.findClass RX1 = some m.cls := findClass_of_methodNamed B.named
  have hlocks := B.notSynchronized
  subst hsz
  have hD := hD0.self (sz := s.heap.size)
  generalize hAe : va_A (obW 1 h0 a1 a2 d1 d2 lo hi x y) s.heap.size = A at hD ⊢
  have hA : ∀ q : Nat, s.heap.size ≤ q → A q := fun q h => by rw [← hAe]; exact Or.inr h
  have hS : va_S A s.heap s.heap [] := va_S.rf
  have hP : va_P D vwCl (obW 1 h0 a1 a2 d1 d2 lo hi x y) s.heap := hP
  have hl := lv_entry ([.ref h0, .int p0]) (n := 2) (Nat.le_of_ble_eq_true rfl)
  rw [lg_entry_eq]
  generalize (lg_sl ([.ref h0, .int p0]) ++ List.replicate (2 - (lg_sl ([.ref h0, .int p0])).length) Slot.unset).toArray = ls at hl ⊢
  have hl : lv_has ls 2 [(0, .ref h0), (1, .int p0)] := hl
  generalize hV : fX1_keep p0 lo hi x y = V
  refine lv_aload_n hx hb dX1_keep_0 rfl (lv_at hl 0 rfl) ?_
  refine va_get (D := D) (ci := 1) (v := .int x) (C := RX1) (T := TX1) (N := 4) hx hb hts in_X1 hown hK hP 0 rfl rfl 2 (by decide) (hts _ q143) (fun _ h9 => h9) rfl dX1_keep_1 ?_
  refine lv_aload_n hx hb dX1_keep_4 rfl (lv_at hl 0 rfl) ?_
  refine va_get (D := D) (ci := 1) (v := .int y) (C := RX1) (T := TX1) (N := 4) hx hb hts in_X1 hown hK hP 0 rfl rfl 3 (by decide) (hts _ q144) (fun _ h9 => h9) rfl dX1_keep_5 ?_
  refine lv_icmp_le (tgt := 14) hx hb dX1_keep_8 (by decide) (fun c_1 => ?_) (fun c_1 => ?_)
  · refine lv_aload_n hx hb dX1_keep_14 rfl (lv_at hl 0 rfl) ?_
    refine va_get (D := D) (ci := 1) (v := .ref a1) (C := RX1) (T := TX1) (N := 4) hx hb hts in_X1 hown hK hP 0 rfl rfl 0 (by decide) (hts _ q141) (fun _ h9 => h9) rfl dX1_keep_15 ?_
    refine lv_iload_n hx hb dX1_keep_18 rfl (lv_at hl 1 rfl) ?_
    refine lv_aload_n hx hb dX1_keep_19 rfl (lv_at hl 0 rfl) ?_
    refine va_get (D := D) (ci := 1) (v := .int x) (C := RX1) (T := TX1) (N := 4) hx hb hts in_X1 hown hK hP 0 rfl rfl 2 (by decide) (hts _ q143) (fun _ h9 => h9) rfl dX1_keep_20 ?_
    refine va_iast hx hb hK hP hD hS 1 0 rfl rfl hi0 dX1_keep_23 (fun H locs hP hD hS => ?_)
    have hP : va_P D vwCl (obW 1 h0 a1 a2 d1 d2 (upd lo p0.toNatClampNeg x) hi x y) H := hP
    have hD : va_D A (obW 1 h0 a1 a2 d1 d2 (upd lo p0.toNatClampNeg x) hi x y) := hD
    refine lv_aload_n hx hb dX1_keep_24 rfl (lv_at hl 0 rfl) ?_
    refine va_get (D := D) (ci := 1) (v := .ref a2) (C := RX1) (T := TX1) (N := 4) hx hb hts in_X1 hown hK hP 0 rfl rfl 1 (by decide) (hts _ q142) (fun _ h9 => h9) rfl dX1_keep_25 ?_
    refine lv_iload_n hx hb dX1_keep_28 rfl (lv_at hl 1 rfl) ?_
    refine lv_aload_n hx hb dX1_keep_29 rfl (lv_at hl 0 rfl) ?_
    refine va_get (D := D) (ci := 1) (v := .int y) (C := RX1) (T := TX1) (N := 4) hx hb hts in_X1 hown hK hP 0 rfl rfl 3 (by decide) (hts _ q144) (fun _ h9 => h9) rfl dX1_keep_30 ?_
    refine va_iast hx hb hK hP hD hS 2 1 rfl rfl hi0 dX1_keep_33 (fun H locs hP hD hS => ?_)
    have hP : va_P D vwCl (obW 1 h0 a1 a2 d1 d2 (upd lo p0.toNatClampNeg x) (upd hi p0.toNatClampNeg y) x y) H := hP
    have hD : va_D A (obW 1 h0 a1 a2 d1 d2 (upd lo p0.toNatClampNeg x) (upd hi p0.toNatClampNeg y) x y) := hD
    refine lv_iconst (v := 0) hx hb dX1_keep_34 (by decide) ?_
    exact ob_iret hx hb hr hlocks hK hP hD hS (Eq.trans (Eq.symm (by rw [fX1_keep, if_pos c_1])) hV) dX1_keep_35
  · refine lv_bipush (v := (-2)) hx hb dX1_keep_11 (by decide) ?_
    exact ob_iret hx hb hr hlocks hK hP hD hS (Eq.trans (Eq.symm (by rw [fX1_keep, if_neg c_1])) hV) dX1_keep_13
set_option maxHeartbeats 4000000 in
set_option maxRecDepth 100000 in
theorem meX1_set (l : Launch) (D : va_G) (h0 a1 a2 : Nat) (d1 d2 : ClassId) (p0 p1 p2 : Int32) (lo hi : Nat → Int32) (x y : Int32) : ObI l yX1_set (ws_ yX1_set cX1_set 4 (some .int)) ({ frames := 1, cells := 0, slots := 0, locals := 20 } : Room) D 1 h0 a1 a2 d1 d2 [.int p0, .int p1, .int p2] lo hi x y (fX1_set p0 p1 p2 lo hi x y) := by
  intro sz
  refine Met.ofW (cc := cX1_set) (maxL := 4) (ret := (some .int)) (by decide) rfl ?_
  intro p e s m args below meth c s₁ B hml hv
  obtain ⟨rfl, hsz, hP, hK, hD0⟩ := hv
  have hx := B.exec
  have hb := B.bytes
  have hr := B.returns
  have hts := atoms_spec (ws := (ws_ yX1_set cX1_set 4 (some .int))) B.pre
  have hts : ∀ w ∈ lw_all, w.before _ s = true := fun w h => hts w (List.mem_cons_of_mem _ h)
  have hown : s.vm.findClass RX1 = some m.cls := findClass_of_methodNamed B.named
  have hlocks := B.notSynchronized
  subst hsz
  have hD := hD0.self (sz := s.heap.size)
  generalize hAe : va_A (obW 1 h0 a1 a2 d1 d2 lo hi x y) s.heap.size = A at hD ⊢
  have hA : ∀ q : Nat, s.heap.size ≤ q → A q := fun q h => by rw [← hAe]; exact Or.inr h
  have hS : va_S A s.heap s.heap [] := va_S.rf
  have hP : va_P D vwCl (obW 1 h0 a1 a2 d1 d2 lo hi x y) s.heap := hP
  have hl := lv_entry ([.ref h0, .int p0, .int p1, .int p2]) (n := 4) (Nat.le_of_ble_eq_true rfl)
  rw [lg_entry_eq]
  generalize (lg_sl ([.ref h0, .int p0, .int p1, .int p2]) ++ List.replicate (4 - (lg_sl ([.ref h0, .int p0, .int p1, .int p2])).length) Slot.unset).toArray = ls at hl ⊢
  have hl : lv_has ls 4 [(0, .ref h0), (1, .int p0), (2, .int p1), (3, .int p2)] := hl
  generalize hV : fX1_set p0 p1 p2 lo hi x y = V
  refine lv_iload_n hx hb dX1_set_0 rfl (lv_at hl 1 rfl) ?_
  refine pu_call (As := [.int p0]) (rest := []) ⟨hx, hb, hml, hown, hts⟩ (meX1_bad l p0) (va_cwS 1 hts (lw_S q158 q159 q13 q160) rfl rfl rfl (by decide +kernel) ⟨Nat.le_of_ble_eq_true rfl, Nat.le_of_ble_eq_true rfl⟩) rfl hl.1 rfl (Nat.le_of_ble_eq_true rfl) dX1_set_1 ⟨Nat.zero_le _, Nat.zero_le _⟩ ?_
  refine lv_if_ne (tgt := 22) hx hb dX1_set_4 (by decide) (fun c_1 => ?_) (fun c_1 => ?_)
  · refine lv_iconst (v := (-1)) hx hb dX1_set_22 (by decide) ?_
    exact ob_iret hx hb hr hlocks hK hP hD hS (Eq.trans (Eq.symm (by rw [fX1_set, if_neg c_1])) hV) dX1_set_23
  · refine lv_iload_n hx hb dX1_set_7 rfl (lv_at hl 2 rfl) ?_
    refine lv_if_lt (tgt := 22) hx hb dX1_set_8 (by decide) (fun c_2 => ?_) (fun c_2 => ?_)
    · refine lv_iconst (v := (-1)) hx hb dX1_set_22 (by decide) ?_
      exact ob_iret hx hb hr hlocks hK hP hD hS (Eq.trans (Eq.symm (by rw [fX1_set, if_pos c_1, if_pos c_2])) hV) dX1_set_23
    · refine lv_iload_n hx hb dX1_set_11 rfl (lv_at hl 2 rfl) ?_
      refine lv_iload_n hx hb dX1_set_12 rfl (lv_at hl 3 rfl) ?_
      refine lv_icmp_gt (tgt := 22) hx hb dX1_set_13 (by decide) (fun c_3 => ?_) (fun c_3 => ?_)
      · refine lv_iconst (v := (-1)) hx hb dX1_set_22 (by decide) ?_
        exact ob_iret hx hb hr hlocks hK hP hD hS (Eq.trans (Eq.symm (by rw [fX1_set, if_pos c_1, if_neg c_2, if_pos c_3])) hV) dX1_set_23
      · refine lv_iload_n hx hb dX1_set_16 rfl (lv_at hl 3 rfl) ?_
        refine lv_bipush (v := 127) hx hb dX1_set_17 (by decide) ?_
        refine lv_icmp_le (tgt := 24) hx hb dX1_set_19 (by decide) (fun c_4 => ?_) (fun c_4 => ?_)
        · refine lv_aload_n hx hb dX1_set_24 rfl (lv_at hl 0 rfl) ?_
          refine va_get (D := D) (ci := 1) (v := .ref a1) (C := RX1) (T := TX1) (N := 4) hx hb hts in_X1 hown hK hP 0 rfl rfl 0 (by decide) (hts _ q141) (fun _ h9 => h9) rfl dX1_set_25 ?_
          refine lv_iload_n hx hb dX1_set_28 rfl (lv_at hl 1 rfl) ?_
          refine lv_iload_n hx hb dX1_set_29 rfl (lv_at hl 2 rfl) ?_
          refine va_iast hx hb hK hP hD hS 1 0 rfl rfl (bad_in c_1) dX1_set_30 (fun H locs hP hD hS => ?_)
          have hP : va_P D vwCl (obW 1 h0 a1 a2 d1 d2 (upd lo p0.toNatClampNeg p1) hi x y) H := hP
          have hD : va_D A (obW 1 h0 a1 a2 d1 d2 (upd lo p0.toNatClampNeg p1) hi x y) := hD
          refine lv_aload_n hx hb dX1_set_31 rfl (lv_at hl 0 rfl) ?_
          refine va_get (D := D) (ci := 1) (v := .ref a2) (C := RX1) (T := TX1) (N := 4) hx hb hts in_X1 hown hK hP 0 rfl rfl 1 (by decide) (hts _ q142) (fun _ h9 => h9) rfl dX1_set_32 ?_
          refine lv_iload_n hx hb dX1_set_35 rfl (lv_at hl 1 rfl) ?_
          refine lv_iload_n hx hb dX1_set_36 rfl (lv_at hl 3 rfl) ?_
          refine va_iast hx hb hK hP hD hS 2 1 rfl rfl (bad_in c_1) dX1_set_37 (fun H locs hP hD hS => ?_)
          have hP : va_P D vwCl (obW 1 h0 a1 a2 d1 d2 (upd lo p0.toNatClampNeg p1) (upd hi p0.toNatClampNeg p2) x y) H := hP
          have hD : va_D A (obW 1 h0 a1 a2 d1 d2 (upd lo p0.toNatClampNeg p1) (upd hi p0.toNatClampNeg p2) x y) := hD
          refine lv_iconst (v := 0) hx hb dX1_set_38 (by decide) ?_
          exact ob_iret hx hb hr hlocks hK hP hD hS (Eq.trans (Eq.symm (by rw [fX1_set, if_pos c_1, if_neg c_2, if_neg c_3, if_pos c_4])) hV) dX1_set_39
        · refine lv_iconst (v := (-1)) hx hb dX1_set_22 (by decide) ?_
          exact ob_iret hx hb hr hlocks hK hP hD hS (Eq.trans (Eq.symm (by rw [fX1_set, if_pos c_1, if_neg c_2, if_neg c_3, if_neg c_4])) hV) dX1_set_23
set_option maxHeartbeats 4000000 in
set_option maxRecDepth 100000 in
theorem meX1_low (l : Launch) (D : va_G) (h0 a1 a2 : Nat) (d1 d2 : ClassId) (p0 : Int32) (lo hi : Nat → Int32) (x y : Int32) : ObI l yX1_low (ws_ yX1_low cX1_low 2 (some .int)) ({ frames := 1, cells := 0, slots := 0, locals := 20 } : Room) D 1 h0 a1 a2 d1 d2 [.int p0] lo hi x y ((fX1_low p0 lo hi), lo, hi, x, y) := by
  intro sz
  refine Met.ofW (cc := cX1_low) (maxL := 2) (ret := (some .int)) (by decide) rfl ?_
  intro p e s m args below meth c s₁ B hml hv
  obtain ⟨rfl, hsz, hP, hK, hD0⟩ := hv
  have hx := B.exec
  have hb := B.bytes
  have hr := B.returns
  have hts := atoms_spec (ws := (ws_ yX1_low cX1_low 2 (some .int))) B.pre
  have hts : ∀ w ∈ lw_all, w.before _ s = true := fun w h => hts w (List.mem_cons_of_mem _ h)
  have hown : s.vm.findClass RX1 = some m.cls := findClass_of_methodNamed B.named
  have hlocks := B.notSynchronized
  subst hsz
  have hD := hD0.self (sz := s.heap.size)
  generalize hAe : va_A (obW 1 h0 a1 a2 d1 d2 lo hi x y) s.heap.size = A at hD ⊢
  have hA : ∀ q : Nat, s.heap.size ≤ q → A q := fun q h => by rw [← hAe]; exact Or.inr h
  have hS : va_S A s.heap s.heap [] := va_S.rf
  have hP : va_P D vwCl (obW 1 h0 a1 a2 d1 d2 lo hi x y) s.heap := hP
  have hl := lv_entry ([.ref h0, .int p0]) (n := 2) (Nat.le_of_ble_eq_true rfl)
  rw [lg_entry_eq]
  generalize (lg_sl ([.ref h0, .int p0]) ++ List.replicate (2 - (lg_sl ([.ref h0, .int p0])).length) Slot.unset).toArray = ls at hl ⊢
  have hl : lv_has ls 2 [(0, .ref h0), (1, .int p0)] := hl
  generalize hV : fX1_low p0 lo hi = V
  refine lv_iload_n hx hb dX1_low_0 rfl (lv_at hl 1 rfl) ?_
  refine pu_call (As := [.int p0]) (rest := []) ⟨hx, hb, hml, hown, hts⟩ (meX1_bad l p0) (va_cwS 1 hts (lw_S q158 q159 q13 q160) rfl rfl rfl (by decide +kernel) ⟨Nat.le_of_ble_eq_true rfl, Nat.le_of_ble_eq_true rfl⟩) rfl hl.1 rfl (Nat.le_of_ble_eq_true rfl) dX1_low_1 ⟨Nat.zero_le _, Nat.zero_le _⟩ ?_
  refine lv_if_eq (tgt := 11) hx hb dX1_low_4 (by decide) (fun c_1 => ?_) (fun c_1 => ?_)
  · refine lv_aload_n hx hb dX1_low_11 rfl (lv_at hl 0 rfl) ?_
    refine va_get (D := D) (ci := 1) (v := .ref a1) (C := RX1) (T := TX1) (N := 4) hx hb hts in_X1 hown hK hP 0 rfl rfl 0 (by decide) (hts _ q141) (fun _ h9 => h9) rfl dX1_low_12 ?_
    refine lv_iload_n hx hb dX1_low_15 rfl (lv_at hl 1 rfl) ?_
    refine va_iald hx hb hK hP 1 0 rfl rfl (bad_in c_1) dX1_low_16 ?_
    exact ob_iret hx hb hr hlocks hK hP hD hS (congrArg (fun z : Int32 => (z, lo, hi, x, y)) (Eq.trans (Eq.symm (by rw [fX1_low, if_pos c_1])) hV)) dX1_low_17
  · refine lv_iconst (v := (-1)) hx hb dX1_low_7 (by decide) ?_
    refine lv_goto (tgt := 17) hx hb dX1_low_8 (by decide) ?_
    exact ob_iret hx hb hr hlocks hK hP hD hS (congrArg (fun z : Int32 => (z, lo, hi, x, y)) (Eq.trans (Eq.symm (by rw [fX1_low, if_neg c_1])) hV)) dX1_low_17
set_option maxHeartbeats 4000000 in
set_option maxRecDepth 100000 in
theorem meX1_high (l : Launch) (D : va_G) (h0 a1 a2 : Nat) (d1 d2 : ClassId) (p0 : Int32) (lo hi : Nat → Int32) (x y : Int32) : ObI l yX1_high (ws_ yX1_high cX1_high 2 (some .int)) ({ frames := 1, cells := 0, slots := 0, locals := 20 } : Room) D 1 h0 a1 a2 d1 d2 [.int p0] lo hi x y ((fX1_high p0 lo hi), lo, hi, x, y) := by
  intro sz
  refine Met.ofW (cc := cX1_high) (maxL := 2) (ret := (some .int)) (by decide) rfl ?_
  intro p e s m args below meth c s₁ B hml hv
  obtain ⟨rfl, hsz, hP, hK, hD0⟩ := hv
  have hx := B.exec
  have hb := B.bytes
  have hr := B.returns
  have hts := atoms_spec (ws := (ws_ yX1_high cX1_high 2 (some .int))) B.pre
  have hts : ∀ w ∈ lw_all, w.before _ s = true := fun w h => hts w (List.mem_cons_of_mem _ h)
  have hown : s.vm.findClass RX1 = some m.cls := findClass_of_methodNamed B.named
  have hlocks := B.notSynchronized
  subst hsz
  have hD := hD0.self (sz := s.heap.size)
  generalize hAe : va_A (obW 1 h0 a1 a2 d1 d2 lo hi x y) s.heap.size = A at hD ⊢
  have hA : ∀ q : Nat, s.heap.size ≤ q → A q := fun q h => by rw [← hAe]; exact Or.inr h
  have hS : va_S A s.heap s.heap [] := va_S.rf
  have hP : va_P D vwCl (obW 1 h0 a1 a2 d1 d2 lo hi x y) s.heap := hP
  have hl := lv_entry ([.ref h0, .int p0]) (n := 2) (Nat.le_of_ble_eq_true rfl)
  rw [lg_entry_eq]
  generalize (lg_sl ([.ref h0, .int p0]) ++ List.replicate (2 - (lg_sl ([.ref h0, .int p0])).length) Slot.unset).toArray = ls at hl ⊢
  have hl : lv_has ls 2 [(0, .ref h0), (1, .int p0)] := hl
  generalize hV : fX1_high p0 lo hi = V
  refine lv_iload_n hx hb dX1_high_0 rfl (lv_at hl 1 rfl) ?_
  refine pu_call (As := [.int p0]) (rest := []) ⟨hx, hb, hml, hown, hts⟩ (meX1_bad l p0) (va_cwS 1 hts (lw_S q158 q159 q13 q160) rfl rfl rfl (by decide +kernel) ⟨Nat.le_of_ble_eq_true rfl, Nat.le_of_ble_eq_true rfl⟩) rfl hl.1 rfl (Nat.le_of_ble_eq_true rfl) dX1_high_1 ⟨Nat.zero_le _, Nat.zero_le _⟩ ?_
  refine lv_if_eq (tgt := 11) hx hb dX1_high_4 (by decide) (fun c_1 => ?_) (fun c_1 => ?_)
  · refine lv_aload_n hx hb dX1_high_11 rfl (lv_at hl 0 rfl) ?_
    refine va_get (D := D) (ci := 1) (v := .ref a2) (C := RX1) (T := TX1) (N := 4) hx hb hts in_X1 hown hK hP 0 rfl rfl 1 (by decide) (hts _ q142) (fun _ h9 => h9) rfl dX1_high_12 ?_
    refine lv_iload_n hx hb dX1_high_15 rfl (lv_at hl 1 rfl) ?_
    refine va_iald hx hb hK hP 2 1 rfl rfl (bad_in c_1) dX1_high_16 ?_
    exact ob_iret hx hb hr hlocks hK hP hD hS (congrArg (fun z : Int32 => (z, lo, hi, x, y)) (Eq.trans (Eq.symm (by rw [fX1_high, if_pos c_1])) hV)) dX1_high_17
  · refine lv_iconst (v := (-1)) hx hb dX1_high_7 (by decide) ?_
    refine lv_goto (tgt := 17) hx hb dX1_high_8 (by decide) ?_
    exact ob_iret hx hb hr hlocks hK hP hD hS (congrArg (fun z : Int32 => (z, lo, hi, x, y)) (Eq.trans (Eq.symm (by rw [fX1_high, if_neg c_1])) hV)) dX1_high_17
end
section
set_option maxHeartbeats 4000000 in
set_option maxRecDepth 100000 in
theorem lpX1_root {p : Program} {l : Launch} {e : Env} {s : State} {m : MethodId} {args : Array Value} {below : List Frame} {meth : Method} {c : Code} (hx : p.tables.exec = Jvm.exec) (hb : c.code = cX1_root) (hr : meth.sig.returnType = some .int) (hlocks : meth.locks = false) (hml : c.maxLocals = 2) (hown : s.vm.findClass RX1 = some m.cls) (hts : ∀ w ∈ lw_all, w.before args s = true) (V : Int32) (p0 : Int32) :
    ∀ (n : Nat), n ≤ 12 → ∀ (ls : Array Slot), gX1_root p0 n = V → lv_has ls 2 [(0, .int p0), (1, .int (kup12 n))] → W p l e (headSpec (ws_ yX1_root cX1_root 2 (some .int)) ({ frames := 0, cells := 0, slots := 0, locals := 0 } : Room)).room s m args below meth c s.heap [] 0 0 (Qp below args s V) (F0 m 2 ls []) := by
  intro n
  induction n with
  | zero =>
    intro hn ls hV hl
    refine lv_iload_n hx hb dX1_root_2 rfl (lv_at hl 1 rfl) ?_
    refine lv_iconst (v := 1) hx hb dX1_root_3 (by decide) ?_
    refine lv_iadd hx hb dX1_root_4 ?_
    refine lv_iload_n hx hb dX1_root_5 rfl (lv_at hl 1 rfl) ?_
    refine lv_iconst (v := 1) hx hb dX1_root_6 (by decide) ?_
    refine lv_iadd hx hb dX1_root_7 ?_
    refine lv_imul hx hb dX1_root_8 ?_
    refine lv_iload_n hx hb dX1_root_9 rfl (lv_at hl 0 rfl) ?_
    refine lv_icmp_gt (tgt := 25) hx hb dX1_root_10 (by decide) (fun c_1 => ?_) (fun c_1 => ?_)
    · refine lv_iload_n hx hb dX1_root_25 rfl (lv_at hl 1 rfl) ?_
      exact pu_iret hx hb hr hlocks (Eq.trans (Eq.symm (by rw [gX1_root, if_pos c_1])) hV) dX1_root_26
    · refine lv_iload_n hx hb dX1_root_13 rfl (lv_at hl 1 rfl) ?_
      refine lv_bipush (v := 12) hx hb dX1_root_14 (by decide) ?_
      refine lv_icmp_ge (tgt := 25) hx hb dX1_root_16 (by decide) (fun c_2 => ?_) (fun c_2 => absurd (by decide : (12 : Int32) ≤ kup12 0) c_2)
      refine lv_iload_n hx hb dX1_root_25 rfl (lv_at hl 1 rfl) ?_
      exact pu_iret hx hb hr hlocks (Eq.trans (Eq.symm (by rw [gX1_root, if_neg c_1])) hV) dX1_root_26
  | succ n ih =>
    intro hn ls hV hl
    refine lv_iload_n hx hb dX1_root_2 rfl (lv_at hl 1 rfl) ?_
    refine lv_iconst (v := 1) hx hb dX1_root_3 (by decide) ?_
    refine lv_iadd hx hb dX1_root_4 ?_
    refine lv_iload_n hx hb dX1_root_5 rfl (lv_at hl 1 rfl) ?_
    refine lv_iconst (v := 1) hx hb dX1_root_6 (by decide) ?_
    refine lv_iadd hx hb dX1_root_7 ?_
    refine lv_imul hx hb dX1_root_8 ?_
    refine lv_iload_n hx hb dX1_root_9 rfl (lv_at hl 0 rfl) ?_
    refine lv_icmp_gt (tgt := 25) hx hb dX1_root_10 (by decide) (fun c_1 => ?_) (fun c_1 => ?_)
    · refine lv_iload_n hx hb dX1_root_25 rfl (lv_at hl 1 rfl) ?_
      exact pu_iret hx hb hr hlocks (Eq.trans (Eq.symm (by rw [gX1_root, if_pos c_1])) hV) dX1_root_26
    · refine lv_iload_n hx hb dX1_root_13 rfl (lv_at hl 1 rfl) ?_
      refine lv_bipush (v := 12) hx hb dX1_root_14 (by decide) ?_
      refine lv_icmp_ge (tgt := 25) hx hb dX1_root_16 (by decide) (fun c_2 => absurd c_2 (kupr_t n hn)) (fun c_2 => ?_)
      refine lv_iinc (v := (kup12 n)) (lv' := [(1, .int (kup12 n)), (0, .int p0)]) hx hb dX1_root_19 hl (k := 1) rfl (kupr_s n hn) (by decide) rfl (fun ls hl => ?_)
      refine lv_goto (tgt := 2) hx hb dX1_root_22 (by decide) ?_
      exact ih (Nat.le_of_succ_le hn) ls (Eq.trans (Eq.symm (by rw [gX1_root, if_neg c_1])) hV) (lv_sub hl [1, 0] rfl)
set_option maxHeartbeats 4000000 in
set_option maxRecDepth 100000 in
theorem meX1_root (l : Launch) (p0 : Int32) : PureI l yX1_root (ws_ yX1_root cX1_root 2 (some .int)) ({ frames := 0, cells := 0, slots := 0, locals := 0 } : Room) [.int p0] (fX1_root p0) := by
  intro H0
  refine Met.ofW (cc := cX1_root) (maxL := 2) (ret := (some .int)) (by decide) rfl ?_
  intro p e s m args below meth c s₁ B hml hv
  obtain ⟨rfl, rfl⟩ := hv
  have hx := B.exec
  have hb := B.bytes
  have hr := B.returns
  have hts := atoms_spec (ws := (ws_ yX1_root cX1_root 2 (some .int))) B.pre
  have hts : ∀ w ∈ lw_all, w.before _ s = true := fun w h => hts w (List.mem_cons_of_mem _ h)
  have hown : s.vm.findClass RX1 = some m.cls := findClass_of_methodNamed B.named
  have hlocks := B.notSynchronized
  have hl := lv_entry ([.int p0]) (n := 2) (Nat.le_of_ble_eq_true rfl)
  rw [lg_entry_eq]
  generalize (lg_sl ([.int p0]) ++ List.replicate (2 - (lg_sl ([.int p0])).length) Slot.unset).toArray = ls at hl ⊢
  have hl : lv_has ls 2 [(0, .int p0)] := hl
  generalize hV : fX1_root p0 = V
  refine lv_iconst (v := 0) hx hb dX1_root_0 (by decide) ?_
  refine lv_istore_n (lv' := [(1, .int 0), (0, .int p0)]) hx hb dX1_root_1 rfl hl (by decide) rfl (fun ls hl => ?_)
  exact lpX1_root hx hb hr hlocks hml hown hts V p0 12 (Nat.le_refl _) ls (Eq.trans (Eq.symm (by rw [fX1_root])) hV) (by rw [show kup12 12 = 0 from by decide]; exact lv_sub hl [1, 0] rfl)
set_option maxHeartbeats 4000000 in
set_option maxRecDepth 100000 in
theorem meX1_single (l : Launch) (p0 p1 : Int32) : PureI l yX1_single (ws_ yX1_single cX1_single 2 (some .int)) ({ frames := 1, cells := 0, slots := 0, locals := 22 } : Room) [.int p0, .int p1] (fX1_single p0 p1) := by
  intro H0
  refine Met.ofW (cc := cX1_single) (maxL := 2) (ret := (some .int)) (by decide) rfl ?_
  intro p e s m args below meth c s₁ B hml hv
  obtain ⟨rfl, rfl⟩ := hv
  have hx := B.exec
  have hb := B.bytes
  have hr := B.returns
  have hts := atoms_spec (ws := (ws_ yX1_single cX1_single 2 (some .int))) B.pre
  have hts : ∀ w ∈ lw_all, w.before _ s = true := fun w h => hts w (List.mem_cons_of_mem _ h)
  have hown : s.vm.findClass RX1 = some m.cls := findClass_of_methodNamed B.named
  have hlocks := B.notSynchronized
  have hl := lv_entry ([.int p0, .int p1]) (n := 2) (Nat.le_of_ble_eq_true rfl)
  rw [lg_entry_eq]
  generalize (lg_sl ([.int p0, .int p1]) ++ List.replicate (2 - (lg_sl ([.int p0, .int p1])).length) Slot.unset).toArray = ls at hl ⊢
  have hl : lv_has ls 2 [(0, .int p0), (1, .int p1)] := hl
  generalize hV : fX1_single p0 p1 = V
  refine lv_iload_n hx hb dX1_single_0 rfl (lv_at hl 0 rfl) ?_
  refine lv_if_ne (tgt := 9) hx hb dX1_single_1 (by decide) (fun c_1 => ?_) (fun c_1 => ?_)
  · refine lv_iload_n hx hb dX1_single_9 rfl (lv_at hl 0 rfl) ?_
    refine lv_iconst (v := 1) hx hb dX1_single_10 (by decide) ?_
    refine lv_icmp_ne (tgt := 19) hx hb dX1_single_11 (by decide) (fun c_2 => ?_) (fun c_2 => ?_)
    · refine lv_iload_n hx hb dX1_single_19 rfl (lv_at hl 0 rfl) ?_
      refine lv_iconst (v := 2) hx hb dX1_single_20 (by decide) ?_
      refine lv_icmp_ne (tgt := 29) hx hb dX1_single_21 (by decide) (fun c_3 => ?_) (fun c_3 => ?_)
      · refine lv_iload_n hx hb dX1_single_29 rfl (lv_at hl 0 rfl) ?_
        refine lv_iconst (v := 3) hx hb dX1_single_30 (by decide) ?_
        refine lv_icmp_ne (tgt := 39) hx hb dX1_single_31 (by decide) (fun c_4 => ?_) (fun c_4 => ?_)
        · refine lv_iconst (v := 2) hx hb dX1_single_39 (by decide) ?_
          refine lv_iload_n hx hb dX1_single_40 rfl (lv_at hl 1 rfl) ?_
          refine lv_imul hx hb dX1_single_41 ?_
          refine lv_sipush (v := 128) hx hb dX1_single_42 (by decide) ?_
          refine lv_irem hx hb dX1_single_45 (by decide) ?_
          exact pu_iret hx hb hr hlocks (Eq.trans (Eq.symm (by rw [fX1_single, if_neg c_1, if_neg c_2, if_neg c_3, if_neg c_4])) hV) dX1_single_46
        · refine lv_iload_n hx hb dX1_single_34 rfl (lv_at hl 1 rfl) ?_
          refine pu_call (As := [.int p1]) (rest := []) ⟨hx, hb, hml, hown, hts⟩ (meX1_root l p1) (va_cwS 1 hts (lw_S q193 q194 q13 q195) rfl rfl rfl (by decide +kernel) ⟨Nat.le_of_ble_eq_true rfl, Nat.le_of_ble_eq_true rfl⟩) rfl hl.1 rfl (Nat.le_of_ble_eq_true rfl) dX1_single_35 ⟨Nat.zero_le _, Nat.zero_le _⟩ ?_
          exact pu_iret hx hb hr hlocks (Eq.trans (Eq.symm (by rw [fX1_single, if_neg c_1, if_neg c_2, if_neg c_3, if_pos c_4])) hV) dX1_single_38
      · refine lv_iload_n hx hb dX1_single_24 rfl (lv_at hl 1 rfl) ?_
        refine pu_call (As := [.int p1]) (rest := []) ⟨hx, hb, hml, hown, hts⟩ (meX1_reversed l p1) (va_cwS 1 hts (lw_S q190 q191 q13 q192) rfl rfl rfl (by decide +kernel) ⟨Nat.le_of_ble_eq_true rfl, Nat.le_of_ble_eq_true rfl⟩) rfl hl.1 rfl (Nat.le_of_ble_eq_true rfl) dX1_single_25 ⟨Nat.zero_le _, Nat.zero_le _⟩ ?_
        exact pu_iret hx hb hr hlocks (Eq.trans (Eq.symm (by rw [fX1_single, if_neg c_1, if_neg c_2, if_pos c_3])) hV) dX1_single_28
    · refine lv_iload_n hx hb dX1_single_14 rfl (lv_at hl 1 rfl) ?_
      refine pu_call (As := [.int p1]) (rest := []) ⟨hx, hb, hml, hown, hts⟩ (meX1_ones l p1) (va_cwS 1 hts (lw_S q187 q188 q13 q189) rfl rfl rfl (by decide +kernel) ⟨Nat.le_of_ble_eq_true rfl, Nat.le_of_ble_eq_true rfl⟩) rfl hl.1 rfl (Nat.le_of_ble_eq_true rfl) dX1_single_15 ⟨Nat.zero_le _, Nat.zero_le _⟩ ?_
      exact pu_iret hx hb hr hlocks (Eq.trans (Eq.symm (by rw [fX1_single, if_neg c_1, if_pos c_2])) hV) dX1_single_18
  · refine lv_bipush (v := 127) hx hb dX1_single_4 (by decide) ?_
    refine lv_iload_n hx hb dX1_single_6 rfl (lv_at hl 1 rfl) ?_
    refine lv_isub hx hb dX1_single_7 ?_
    exact pu_iret hx hb hr hlocks (Eq.trans (Eq.symm (by rw [fX1_single, if_pos c_1])) hV) dX1_single_8
set_option maxHeartbeats 4000000 in
set_option maxRecDepth 100000 in
theorem lpX1_apply {p : Program} {l : Launch} {e : Env} {s : State} {m : MethodId} {args : Array Value} {below : List Frame} {meth : Method} {c : Code} (hx : p.tables.exec = Jvm.exec) (hb : c.code = cX1_apply) (hr : meth.sig.returnType = some .int) (hlocks : meth.locks = false) (hml : c.maxLocals = 6) (hown : s.vm.findClass RX1 = some m.cls) (hts : ∀ w ∈ lw_all, w.before args s = true) {D : va_G} {A : Nat → Prop} {h0 a1 a2 : Nat} {d1 d2 : ClassId} (hA : ∀ q : Nat, s.heap.size ≤ q → A q) (hK : va_K D vwCl [(d1, .int), (d2, .int)] s) (V : Int32 × (Nat → Int32) × (Nat → Int32) × Int32 × Int32) (p0 p1 p2 : Int32) (lo hi : Nat → Int32) (x y : Int32) (hr2 : vp_in p2 6) (kb : Nat) (eH : hi p2.toNatClampNeg = nI kb) (h31 : kb ≤ 127) (hr0 : vp_in p0 6) :
    ∀ (n i : Nat) (x y : Int32) (H : Heap) (locs : List Loc) (ls : Array Slot), i + n = kb + 1 → va_P D vwCl (obW 1 h0 a1 a2 d1 d2 lo hi x y) H → va_D A (obW 1 h0 a1 a2 d1 d2 lo hi x y) → va_S A s.heap H locs → gX1_apply p0 p1 p2 lo hi n i x y = V → lv_has ls 6 [(0, .ref h0), (1, .int p0), (2, .int p1), (3, .int p2), (4, .int (nI i))] → W p l e (headSpec (ws_ yX1_apply cX1_apply 6 (some .int)) ({ frames := 2, cells := 0, slots := 0, locals := 43 } : Room)).room s m args below meth c H locs 0 0 (Qo below args s D 1 h0 a1 a2 d1 d2 A V) (F0 m 45 ls []) := by
  intro n
  induction n with
  | zero =>
    intro i x y H locs ls hin hP hD hS hV hl
    refine lv_iload hx hb dX1_apply_45 (lv_at hl 4 rfl) ?_
    refine lv_aload_n hx hb dX1_apply_47 rfl (lv_at hl 0 rfl) ?_
    refine va_get (D := D) (ci := 1) (v := .ref a2) (C := RX1) (T := TX1) (N := 4) hx hb hts in_X1 hown hK hP 0 rfl rfl 1 (by decide) (hts _ q142) (fun _ h9 => h9) rfl dX1_apply_48 ?_
    refine lv_iload_n hx hb dX1_apply_51 rfl (lv_at hl 3 rfl) ?_
    refine va_iald hx hb hK hP 2 1 rfl rfl hr2 dX1_apply_52 ?_
    refine lv_icmp_gt (tgt := 76) hx hb dX1_apply_53 (by decide) (fun c_1 => ?_) (fun c_1 => absurd (by rw [eH]; exact nI_lt (by omega) (by omega) : hi p2.toNatClampNeg < nI i) c_1)
    refine lv_aload_n hx hb dX1_apply_76 rfl (lv_at hl 0 rfl) ?_
    refine lv_iload_n hx hb dX1_apply_77 rfl (lv_at hl 1 rfl) ?_
    refine ob_calli (ws := (obW 1 h0 a1 a2 d1 d2 lo hi x y)) (wr := []) (rest := []) (As := [.int p0]) ⟨hx, hb, hml, hown, hts⟩ (meX1_keep l D h0 a1 a2 d1 d2 p0 lo hi x y hr0) (cwV 1 hts (lw_V q176 q178 qs10 q13 q179) rfl rfl rfl (by decide +kernel) ⟨Nat.le_of_ble_eq_true rfl, Nat.le_of_ble_eq_true rfl⟩) (show vwCl[1]? = some (RX1, TX1, 4) from rfl) rfl hl.1 rfl (Nat.le_of_ble_eq_true rfl) dX1_apply_78 ⟨Nat.zero_le _, Nat.zero_le _⟩ hK hP hD hS hA [0, 1, 2] [] rfl rfl (by decide) (by decide) (by decide) (fun H locs hP hD hS => ?_)
    have hP : va_P D vwCl (obW 1 h0 a1 a2 d1 d2 ((fX1_keep p0 lo hi x y).2.1) ((fX1_keep p0 lo hi x y).2.2.1) ((fX1_keep p0 lo hi x y).2.2.2.1) ((fX1_keep p0 lo hi x y).2.2.2.2)) H := hP
    have hD : va_D A (obW 1 h0 a1 a2 d1 d2 ((fX1_keep p0 lo hi x y).2.1) ((fX1_keep p0 lo hi x y).2.2.1) ((fX1_keep p0 lo hi x y).2.2.2.1) ((fX1_keep p0 lo hi x y).2.2.2.2)) := hD
    exact ob_iret hx hb hr hlocks hK hP hD hS (Eq.trans (Eq.symm (by rw [gX1_apply])) hV) dX1_apply_81
  | succ n ih =>
    intro i x y H locs ls hin hP hD hS hV hl
    refine lv_iload hx hb dX1_apply_45 (lv_at hl 4 rfl) ?_
    refine lv_aload_n hx hb dX1_apply_47 rfl (lv_at hl 0 rfl) ?_
    refine va_get (D := D) (ci := 1) (v := .ref a2) (C := RX1) (T := TX1) (N := 4) hx hb hts in_X1 hown hK hP 0 rfl rfl 1 (by decide) (hts _ q142) (fun _ h9 => h9) rfl dX1_apply_48 ?_
    refine lv_iload_n hx hb dX1_apply_51 rfl (lv_at hl 3 rfl) ?_
    refine va_iald hx hb hK hP 2 1 rfl rfl hr2 dX1_apply_52 ?_
    refine lv_icmp_gt (tgt := 76) hx hb dX1_apply_53 (by decide) (fun c_1 => absurd c_1 (by rw [eH]; exact nI_nlt (by omega) (by omega) : ¬ hi p2.toNatClampNeg < nI i)) (fun c_1 => ?_)
    refine lv_iload_n hx hb dX1_apply_56 rfl (lv_at hl 2 rfl) ?_
    refine lv_iload hx hb dX1_apply_57 (lv_at hl 4 rfl) ?_
    refine pu_call (As := [.int p1, .int (nI i)]) (rest := []) ⟨hx, hb, hml, hown, hts⟩ (meX1_single l p1 (nI i)) (va_cwS 2 hts (lw_S q184 q185 q13 q186) rfl rfl rfl (by decide +kernel) ⟨Nat.le_of_ble_eq_true rfl, Nat.le_of_ble_eq_true rfl⟩) rfl hl.1 rfl (Nat.le_of_ble_eq_true rfl) dX1_apply_59 ⟨Nat.zero_le _, Nat.zero_le _⟩ ?_
    refine lv_istore (lv' := [(5, .int (fX1_single p1 (nI i))), (0, .ref h0), (1, .int p0), (2, .int p1), (3, .int p2), (4, .int (nI i))]) hx hb dX1_apply_62 hl (by decide) rfl (fun ls hl => ?_)
    refine lv_aload_n hx hb dX1_apply_64 rfl (lv_at hl 1 rfl) ?_
    refine lv_iload hx hb dX1_apply_65 (lv_at hl 0 rfl) ?_
    refine ob_callv (ws := (obW 1 h0 a1 a2 d1 d2 lo hi x y)) (wr := []) (rest := []) (As := [.int (fX1_single p1 (nI i))]) ⟨hx, hb, hml, hown, hts⟩ (meX1_result l D h0 a1 a2 d1 d2 (fX1_single p1 (nI i)) lo hi x y) (cwV 1 hts (lw_V q172 q174 qs9 q13 q175) rfl rfl rfl (by decide +kernel) ⟨Nat.le_of_ble_eq_true rfl, Nat.le_of_ble_eq_true rfl⟩) (show vwCl[1]? = some (RX1, TX1, 4) from rfl) rfl hl.1 rfl (Nat.le_of_ble_eq_true rfl) dX1_apply_67 ⟨Nat.zero_le _, Nat.zero_le _⟩ hK hP hD hS hA [0, 1, 2] [] rfl rfl (by decide) (by decide) (by decide) (fun H locs hP hD hS => ?_)
    have hP : va_P D vwCl (obW 1 h0 a1 a2 d1 d2 lo hi ((fX1_result (fX1_single p1 (nI i)) x y).1) ((fX1_result (fX1_single p1 (nI i)) x y).2)) H := hP
    have hD : va_D A (obW 1 h0 a1 a2 d1 d2 lo hi ((fX1_result (fX1_single p1 (nI i)) x y).1) ((fX1_result (fX1_single p1 (nI i)) x y).2)) := hD
    refine lv_iinc (v := (nI (i + 1))) (lv' := [(4, .int (nI (i + 1))), (5, .int (fX1_single p1 (nI i))), (0, .ref h0), (1, .int p0), (2, .int p1), (3, .int p2)]) hx hb dX1_apply_70 hl (k := 5) rfl (nI_inc i) (by decide) rfl (fun ls hl => ?_)
    refine lv_goto (tgt := 45) hx hb dX1_apply_73 (by decide) ?_
    exact ih (i + 1) ((fX1_result (fX1_single p1 (nI i)) x y).1) ((fX1_result (fX1_single p1 (nI i)) x y).2) _ _ ls (by omega) hP hD hS (Eq.trans (Eq.symm (by rw [gX1_apply])) hV) (lv_sub hl [2, 3, 4, 5, 0] rfl)
set_option maxHeartbeats 4000000 in
set_option maxRecDepth 100000 in
theorem meX1_apply (l : Launch) (D : va_G) (h0 a1 a2 : Nat) (d1 d2 : ClassId) (p0 p1 p2 : Int32) (lo hi : Nat → Int32) (x y : Int32) (ka kb : Nat) (eL : vp_in p2 6 → lo p2.toNatClampNeg = nI ka) (eH : vp_in p2 6 → hi p2.toNatClampNeg = nI kb) (hab : ka ≤ kb) (h31 : kb ≤ 127) : ObI l yX1_apply (ws_ yX1_apply cX1_apply 6 (some .int)) ({ frames := 2, cells := 0, slots := 0, locals := 43 } : Room) D 1 h0 a1 a2 d1 d2 [.int p0, .int p1, .int p2] lo hi x y (fX1_apply p0 p1 p2 lo hi x y ka kb) := by
  intro sz
  refine Met.ofW (cc := cX1_apply) (maxL := 6) (ret := (some .int)) (by decide) rfl ?_
  intro p e s m args below meth c s₁ B hml hv
  obtain ⟨rfl, hsz, hP, hK, hD0⟩ := hv
  have hx := B.exec
  have hb := B.bytes
  have hr := B.returns
  have hts := atoms_spec (ws := (ws_ yX1_apply cX1_apply 6 (some .int))) B.pre
  have hts : ∀ w ∈ lw_all, w.before _ s = true := fun w h => hts w (List.mem_cons_of_mem _ h)
  have hown : s.vm.findClass RX1 = some m.cls := findClass_of_methodNamed B.named
  have hlocks := B.notSynchronized
  subst hsz
  have hD := hD0.self (sz := s.heap.size)
  generalize hAe : va_A (obW 1 h0 a1 a2 d1 d2 lo hi x y) s.heap.size = A at hD ⊢
  have hA : ∀ q : Nat, s.heap.size ≤ q → A q := fun q h => by rw [← hAe]; exact Or.inr h
  have hS : va_S A s.heap s.heap [] := va_S.rf
  have hP : va_P D vwCl (obW 1 h0 a1 a2 d1 d2 lo hi x y) s.heap := hP
  have hl := lv_entry ([.ref h0, .int p0, .int p1, .int p2]) (n := 6) (Nat.le_of_ble_eq_true rfl)
  rw [lg_entry_eq]
  generalize (lg_sl ([.ref h0, .int p0, .int p1, .int p2]) ++ List.replicate (6 - (lg_sl ([.ref h0, .int p0, .int p1, .int p2])).length) Slot.unset).toArray = ls at hl ⊢
  have hl : lv_has ls 6 [(0, .ref h0), (1, .int p0), (2, .int p1), (3, .int p2)] := hl
  generalize hV : fX1_apply p0 p1 p2 lo hi x y ka kb = V
  refine lv_iload_n hx hb dX1_apply_0 rfl (lv_at hl 1 rfl) ?_
  refine pu_call (As := [.int p0]) (rest := []) ⟨hx, hb, hml, hown, hts⟩ (meX1_bad l p0) (va_cwS 1 hts (lw_S q158 q159 q13 q160) rfl rfl rfl (by decide +kernel) ⟨Nat.le_of_ble_eq_true rfl, Nat.le_of_ble_eq_true rfl⟩) rfl hl.1 rfl (Nat.le_of_ble_eq_true rfl) dX1_apply_1 ⟨Nat.zero_le _, Nat.zero_le _⟩ ?_
  refine lv_if_ne (tgt := 23) hx hb dX1_apply_4 (by decide) (fun c_1 => ?_) (fun c_1 => ?_)
  · refine lv_iconst (v := (-1)) hx hb dX1_apply_23 (by decide) ?_
    exact ob_iret hx hb hr hlocks hK hP hD hS (Eq.trans (Eq.symm (by rw [fX1_apply, if_neg c_1])) hV) dX1_apply_24
  · refine lv_iload_n hx hb dX1_apply_7 rfl (lv_at hl 3 rfl) ?_
    refine pu_call (As := [.int p2]) (rest := []) ⟨hx, hb, hml, hown, hts⟩ (meX1_bad l p2) (va_cwS 1 hts (lw_S q158 q159 q13 q160) rfl rfl rfl (by decide +kernel) ⟨Nat.le_of_ble_eq_true rfl, Nat.le_of_ble_eq_true rfl⟩) rfl hl.1 rfl (Nat.le_of_ble_eq_true rfl) dX1_apply_8 ⟨Nat.zero_le _, Nat.zero_le _⟩ ?_
    refine lv_if_ne (tgt := 23) hx hb dX1_apply_11 (by decide) (fun c_2 => ?_) (fun c_2 => ?_)
    · refine lv_iconst (v := (-1)) hx hb dX1_apply_23 (by decide) ?_
      exact ob_iret hx hb hr hlocks hK hP hD hS (Eq.trans (Eq.symm (by rw [fX1_apply, if_pos c_1, if_neg c_2])) hV) dX1_apply_24
    · refine lv_iload_n hx hb dX1_apply_14 rfl (lv_at hl 2 rfl) ?_
      refine lv_if_lt (tgt := 23) hx hb dX1_apply_15 (by decide) (fun c_3 => ?_) (fun c_3 => ?_)
      · refine lv_iconst (v := (-1)) hx hb dX1_apply_23 (by decide) ?_
        exact ob_iret hx hb hr hlocks hK hP hD hS (Eq.trans (Eq.symm (by rw [fX1_apply, if_pos c_1, if_pos c_2, if_pos c_3])) hV) dX1_apply_24
      · refine lv_iload_n hx hb dX1_apply_18 rfl (lv_at hl 2 rfl) ?_
        refine lv_iconst (v := 4) hx hb dX1_apply_19 (by decide) ?_
        refine lv_icmp_le (tgt := 25) hx hb dX1_apply_20 (by decide) (fun c_4 => ?_) (fun c_4 => ?_)
        · refine lv_aload_n hx hb dX1_apply_25 rfl (lv_at hl 0 rfl) ?_
          refine lv_sipush (v := 128) hx hb dX1_apply_26 (by decide) ?_
          refine va_put (D := D) (ci := 1) (v := .int 128) (ty := .int) (C := RX1) (T := TX1) (N := 4) hx hb hts in_X1 tyX1 tyX1_ok nmX1 hown hK hP hD hS 0 rfl rfl 2 (by decide) (hts _ q143) (fun _ h9 => h9) rfl (by decide +kernel) rfl rfl (Nat.le_of_ble_eq_true rfl) dX1_apply_29 (fun H locs hP hD hS => ?_)
          have hP : va_P D vwCl (obW 1 h0 a1 a2 d1 d2 lo hi 128 y) H := hP
          have hD : va_D A (obW 1 h0 a1 a2 d1 d2 lo hi 128 y) := hD
          refine lv_aload_n hx hb dX1_apply_32 rfl (lv_at hl 0 rfl) ?_
          refine lv_iconst (v := (-1)) hx hb dX1_apply_33 (by decide) ?_
          refine va_put (D := D) (ci := 1) (v := .int (-1)) (ty := .int) (C := RX1) (T := TX1) (N := 4) hx hb hts in_X1 tyX1 tyX1_ok nmX1 hown hK hP hD hS 0 rfl rfl 3 (by decide) (hts _ q144) (fun _ h9 => h9) rfl (by decide +kernel) rfl rfl (Nat.le_of_ble_eq_true rfl) dX1_apply_34 (fun H locs hP hD hS => ?_)
          have hP : va_P D vwCl (obW 1 h0 a1 a2 d1 d2 lo hi 128 (-1)) H := hP
          have hD : va_D A (obW 1 h0 a1 a2 d1 d2 lo hi 128 (-1)) := hD
          refine lv_aload_n hx hb dX1_apply_37 rfl (lv_at hl 0 rfl) ?_
          refine va_get (D := D) (ci := 1) (v := .ref a1) (C := RX1) (T := TX1) (N := 4) hx hb hts in_X1 hown hK hP 0 rfl rfl 0 (by decide) (hts _ q141) (fun _ h9 => h9) rfl dX1_apply_38 ?_
          refine lv_iload_n hx hb dX1_apply_41 rfl (lv_at hl 3 rfl) ?_
          refine va_iald hx hb hK hP 1 0 rfl rfl (bad_in c_2) dX1_apply_42 ?_
          rw [eL (bad_in c_2)]
          refine lv_istore (lv' := [(4, .int (nI ka)), (0, .ref h0), (1, .int p0), (2, .int p1), (3, .int p2)]) hx hb dX1_apply_43 hl (by decide) rfl (fun ls hl => ?_)
          exact lpX1_apply hx hb hr hlocks hml hown hts hA hK V p0 p1 p2 lo hi x y (bad_in c_2) kb (eH (bad_in c_2)) h31 (bad_in c_1) (kb + 1 - ka) ka 128 (-1) _ _ ls (by omega) hP hD hS (Eq.trans (Eq.symm (by rw [fX1_apply, if_pos c_1, if_pos c_2, if_neg c_3, if_pos c_4])) hV) (lv_sub hl [1, 2, 3, 4, 0] rfl)
        · refine lv_iconst (v := (-1)) hx hb dX1_apply_23 (by decide) ?_
          exact ob_iret hx hb hr hlocks hK hP hD hS (Eq.trans (Eq.symm (by rw [fX1_apply, if_pos c_1, if_pos c_2, if_neg c_3, if_neg c_4])) hV) dX1_apply_24
set_option maxHeartbeats 4000000 in
set_option maxRecDepth 100000 in
theorem liX1_combine {p : Program} {l : Launch} {e : Env} {s : State} {m : MethodId} {args : Array Value} {below : List Frame} {meth : Method} {c : Code} {Q : State → Prop} (hx : p.tables.exec = Jvm.exec) (hb : c.code = cX1_combine) (hr : meth.sig.returnType = some .int) (hlocks : meth.locks = false) (hml : c.maxLocals = 7) (hown : s.vm.findClass RX1 = some m.cls) (hts : ∀ w ∈ lw_all, w.before args s = true) {D : va_G} {A : Nat → Prop} {h0 a1 a2 : Nat} {d1 d2 : ClassId} (hA : ∀ q : Nat, s.heap.size ≤ q → A q) (hK : va_K D vwCl [(d1, .int), (d2, .int)] s) (p0 p1 p2 p3 : Int32) (lo hi : Nat → Int32) (x y : Int32) (hr3 : vp_in p3 6) (kb : Nat) (eH : hi p3.toNatClampNeg = nI kb) (h31 : kb ≤ 127) (i : Nat) (F : Int32 × Int32) (K : ∀ (j : Nat) (H : Heap) (locs : List Loc) (ls : Array Slot), va_P D vwCl (obW 1 h0 a1 a2 d1 d2 lo hi F.1 F.2) H → va_D A (obW 1 h0 a1 a2 d1 d2 lo hi F.1 F.2) → va_S A s.heap H locs → lv_has ls 7 [(0, .ref h0), (1, .int p0), (2, .int p1), (3, .int p2), (4, .int p3), (5, .int (nI i)), (6, .int (nI j))] → W p l e (headSpec (ws_ yX1_combine cX1_combine 7 (some .int)) ({ frames := 2, cells := 0, slots := 0, locals := 46 } : Room)).room s m args below meth c H locs 0 0 Q (F0 m 101 ls [])) :
    ∀ (n j : Nat) (x y : Int32) (H : Heap) (locs : List Loc) (ls : Array Slot), j + n = kb + 1 → va_P D vwCl (obW 1 h0 a1 a2 d1 d2 lo hi x y) H → va_D A (obW 1 h0 a1 a2 d1 d2 lo hi x y) → va_S A s.heap H locs → giX1_combine p0 p1 p2 p3 i n j x y = F → lv_has ls 7 [(0, .ref h0), (1, .int p0), (2, .int p1), (3, .int p2), (4, .int p3), (5, .int (nI i)), (6, .int (nI j))] → W p l e (headSpec (ws_ yX1_combine cX1_combine 7 (some .int)) ({ frames := 2, cells := 0, slots := 0, locals := 46 } : Room)).room s m args below meth c H locs 0 0 Q (F0 m 74 ls []) := by
  intro n
  induction n with
  | zero =>
    intro j x y H locs ls hin hP hD hS hV hl
    refine lv_iload hx hb dX1_combine_74 (lv_at hl 6 rfl) ?_
    refine lv_aload_n hx hb dX1_combine_76 rfl (lv_at hl 0 rfl) ?_
    refine va_get (D := D) (ci := 1) (v := .ref a2) (C := RX1) (T := TX1) (N := 4) hx hb hts in_X1 hown hK hP 0 rfl rfl 1 (by decide) (hts _ q142) (fun _ h9 => h9) rfl dX1_combine_77 ?_
    refine lv_iload hx hb dX1_combine_80 (lv_at hl 4 rfl) ?_
    refine va_iald hx hb hK hP 2 1 rfl rfl hr3 dX1_combine_82 ?_
    refine lv_icmp_gt (tgt := 101) hx hb dX1_combine_83 (by decide) (fun c_1 => ?_) (fun c_1 => absurd (by rw [eH]; exact nI_lt (by omega) (by omega) : hi p3.toNatClampNeg < nI j) c_1)
    subst hV
    exact K j _ _ ls hP hD hS (lv_sub hl [0, 1, 2, 3, 4, 5, 6] rfl)
  | succ n ih =>
    intro j x y H locs ls hin hP hD hS hV hl
    refine lv_iload hx hb dX1_combine_74 (lv_at hl 6 rfl) ?_
    refine lv_aload_n hx hb dX1_combine_76 rfl (lv_at hl 0 rfl) ?_
    refine va_get (D := D) (ci := 1) (v := .ref a2) (C := RX1) (T := TX1) (N := 4) hx hb hts in_X1 hown hK hP 0 rfl rfl 1 (by decide) (hts _ q142) (fun _ h9 => h9) rfl dX1_combine_77 ?_
    refine lv_iload hx hb dX1_combine_80 (lv_at hl 4 rfl) ?_
    refine va_iald hx hb hK hP 2 1 rfl rfl hr3 dX1_combine_82 ?_
    refine lv_icmp_gt (tgt := 101) hx hb dX1_combine_83 (by decide) (fun c_1 => absurd c_1 (by rw [eH]; exact nI_nlt (by omega) (by omega) : ¬ hi p3.toNatClampNeg < nI j)) (fun c_1 => ?_)
    refine lv_aload_n hx hb dX1_combine_86 rfl (lv_at hl 0 rfl) ?_
    refine lv_iload_n hx hb dX1_combine_87 rfl (lv_at hl 2 rfl) ?_
    refine lv_iload hx hb dX1_combine_88 (lv_at hl 5 rfl) ?_
    refine lv_iload hx hb dX1_combine_90 (lv_at hl 6 rfl) ?_
    refine ob_callv (ws := (obW 1 h0 a1 a2 d1 d2 lo hi x y)) (wr := []) (rest := []) (As := [.int p1, .int (nI i), .int (nI j)]) ⟨hx, hb, hml, hown, hts⟩ (meX1_pair l D h0 a1 a2 d1 d2 p1 (nI i) (nI j) lo hi x y) (cwV 3 hts (lw_V q165 q167 qs8 q13 q168) rfl rfl rfl (by decide +kernel) ⟨Nat.le_of_ble_eq_true rfl, Nat.le_of_ble_eq_true rfl⟩) (show vwCl[1]? = some (RX1, TX1, 4) from rfl) rfl hl.1 rfl (Nat.le_of_ble_eq_true rfl) dX1_combine_92 ⟨Nat.zero_le _, Nat.zero_le _⟩ hK hP hD hS hA [0, 1, 2] [] rfl rfl (by decide) (by decide) (by decide) (fun H locs hP hD hS => ?_)
    have hP : va_P D vwCl (obW 1 h0 a1 a2 d1 d2 lo hi ((fX1_pair p1 (nI i) (nI j) x y).1) ((fX1_pair p1 (nI i) (nI j) x y).2)) H := hP
    have hD : va_D A (obW 1 h0 a1 a2 d1 d2 lo hi ((fX1_pair p1 (nI i) (nI j) x y).1) ((fX1_pair p1 (nI i) (nI j) x y).2)) := hD
    refine lv_iinc (v := (nI (j + 1))) (lv' := [(6, .int (nI (j + 1))), (0, .ref h0), (1, .int p0), (2, .int p1), (3, .int p2), (4, .int p3), (5, .int (nI i))]) hx hb dX1_combine_95 hl (k := 6) rfl (nI_inc j) (by decide) rfl (fun ls hl => ?_)
    refine lv_goto (tgt := 74) hx hb dX1_combine_98 (by decide) ?_
    exact ih (j + 1) ((fX1_pair p1 (nI i) (nI j) x y).1) ((fX1_pair p1 (nI i) (nI j) x y).2) _ _ ls (by omega) hP hD hS (Eq.trans (Eq.symm (by rw [giX1_combine])) hV) (lv_sub hl [1, 2, 3, 4, 5, 6, 0] rfl)
set_option maxHeartbeats 4000000 in
set_option maxRecDepth 100000 in
theorem lpX1_combine {p : Program} {l : Launch} {e : Env} {s : State} {m : MethodId} {args : Array Value} {below : List Frame} {meth : Method} {c : Code} (hx : p.tables.exec = Jvm.exec) (hb : c.code = cX1_combine) (hr : meth.sig.returnType = some .int) (hlocks : meth.locks = false) (hml : c.maxLocals = 7) (hown : s.vm.findClass RX1 = some m.cls) (hts : ∀ w ∈ lw_all, w.before args s = true) {D : va_G} {A : Nat → Prop} {h0 a1 a2 : Nat} {d1 d2 : ClassId} (hA : ∀ q : Nat, s.heap.size ≤ q → A q) (hK : va_K D vwCl [(d1, .int), (d2, .int)] s) (V : Int32 × (Nat → Int32) × (Nat → Int32) × Int32 × Int32) (p0 p1 p2 p3 : Int32) (lo hi : Nat → Int32) (x y : Int32) (hr2 : vp_in p2 6) (kb : Nat) (eH : hi p2.toNatClampNeg = nI kb) (h31 : kb ≤ 127) (hr3 : vp_in p3 6) (k1 k2 : Nat) (eL2 : lo p3.toNatClampNeg = nI k1) (eH2 : hi p3.toNatClampNeg = nI k2) (h12 : k1 ≤ k2) (h312 : k2 ≤ 127) (hr0 : vp_in p0 6) :
    ∀ (n i : Nat) (x y : Int32) (H : Heap) (locs : List Loc) (ls : Array Slot), i + n = kb + 1 → va_P D vwCl (obW 1 h0 a1 a2 d1 d2 lo hi x y) H → va_D A (obW 1 h0 a1 a2 d1 d2 lo hi x y) → va_S A s.heap H locs → gX1_combine p0 p1 p2 p3 lo hi k1 k2 n i x y = V → lv_has ls 7 [(0, .ref h0), (1, .int p0), (2, .int p1), (3, .int p2), (4, .int p3), (5, .int (nI i))] → W p l e (headSpec (ws_ yX1_combine cX1_combine 7 (some .int)) ({ frames := 2, cells := 0, slots := 0, locals := 46 } : Room)).room s m args below meth c H locs 0 0 (Qo below args s D 1 h0 a1 a2 d1 d2 A V) (F0 m 54 ls []) := by
  intro n
  induction n with
  | zero =>
    intro i x y H locs ls hin hP hD hS hV hl
    refine lv_iload hx hb dX1_combine_54 (lv_at hl 5 rfl) ?_
    refine lv_aload_n hx hb dX1_combine_56 rfl (lv_at hl 0 rfl) ?_
    refine va_get (D := D) (ci := 1) (v := .ref a2) (C := RX1) (T := TX1) (N := 4) hx hb hts in_X1 hown hK hP 0 rfl rfl 1 (by decide) (hts _ q142) (fun _ h9 => h9) rfl dX1_combine_57 ?_
    refine lv_iload_n hx hb dX1_combine_60 rfl (lv_at hl 3 rfl) ?_
    refine va_iald hx hb hK hP 2 1 rfl rfl hr2 dX1_combine_61 ?_
    refine lv_icmp_gt (tgt := 107) hx hb dX1_combine_62 (by decide) (fun c_1 => ?_) (fun c_1 => absurd (by rw [eH]; exact nI_lt (by omega) (by omega) : hi p2.toNatClampNeg < nI i) c_1)
    refine lv_aload_n hx hb dX1_combine_107 rfl (lv_at hl 0 rfl) ?_
    refine lv_iload_n hx hb dX1_combine_108 rfl (lv_at hl 1 rfl) ?_
    refine ob_calli (ws := (obW 1 h0 a1 a2 d1 d2 lo hi x y)) (wr := []) (rest := []) (As := [.int p0]) ⟨hx, hb, hml, hown, hts⟩ (meX1_keep l D h0 a1 a2 d1 d2 p0 lo hi x y hr0) (cwV 1 hts (lw_V q176 q178 qs10 q13 q179) rfl rfl rfl (by decide +kernel) ⟨Nat.le_of_ble_eq_true rfl, Nat.le_of_ble_eq_true rfl⟩) (show vwCl[1]? = some (RX1, TX1, 4) from rfl) rfl hl.1 rfl (Nat.le_of_ble_eq_true rfl) dX1_combine_109 ⟨Nat.zero_le _, Nat.zero_le _⟩ hK hP hD hS hA [0, 1, 2] [] rfl rfl (by decide) (by decide) (by decide) (fun H locs hP hD hS => ?_)
    have hP : va_P D vwCl (obW 1 h0 a1 a2 d1 d2 ((fX1_keep p0 lo hi x y).2.1) ((fX1_keep p0 lo hi x y).2.2.1) ((fX1_keep p0 lo hi x y).2.2.2.1) ((fX1_keep p0 lo hi x y).2.2.2.2)) H := hP
    have hD : va_D A (obW 1 h0 a1 a2 d1 d2 ((fX1_keep p0 lo hi x y).2.1) ((fX1_keep p0 lo hi x y).2.2.1) ((fX1_keep p0 lo hi x y).2.2.2.1) ((fX1_keep p0 lo hi x y).2.2.2.2)) := hD
    exact ob_iret hx hb hr hlocks hK hP hD hS (Eq.trans (Eq.symm (by rw [gX1_combine])) hV) dX1_combine_112
  | succ n ih =>
    intro i x y H locs ls hin hP hD hS hV hl
    refine lv_iload hx hb dX1_combine_54 (lv_at hl 5 rfl) ?_
    refine lv_aload_n hx hb dX1_combine_56 rfl (lv_at hl 0 rfl) ?_
    refine va_get (D := D) (ci := 1) (v := .ref a2) (C := RX1) (T := TX1) (N := 4) hx hb hts in_X1 hown hK hP 0 rfl rfl 1 (by decide) (hts _ q142) (fun _ h9 => h9) rfl dX1_combine_57 ?_
    refine lv_iload_n hx hb dX1_combine_60 rfl (lv_at hl 3 rfl) ?_
    refine va_iald hx hb hK hP 2 1 rfl rfl hr2 dX1_combine_61 ?_
    refine lv_icmp_gt (tgt := 107) hx hb dX1_combine_62 (by decide) (fun c_1 => absurd c_1 (by rw [eH]; exact nI_nlt (by omega) (by omega) : ¬ hi p2.toNatClampNeg < nI i)) (fun c_1 => ?_)
    refine lv_aload_n hx hb dX1_combine_65 rfl (lv_at hl 0 rfl) ?_
    refine va_get (D := D) (ci := 1) (v := .ref a1) (C := RX1) (T := TX1) (N := 4) hx hb hts in_X1 hown hK hP 0 rfl rfl 0 (by decide) (hts _ q141) (fun _ h9 => h9) rfl dX1_combine_66 ?_
    refine lv_iload hx hb dX1_combine_69 (lv_at hl 4 rfl) ?_
    refine va_iald hx hb hK hP 1 0 rfl rfl hr3 dX1_combine_71 ?_
    rw [eL2]
    refine lv_istore (lv' := [(6, .int (nI k1)), (0, .ref h0), (1, .int p0), (2, .int p1), (3, .int p2), (4, .int p3), (5, .int (nI i))]) hx hb dX1_combine_72 hl (by decide) rfl (fun ls hl => ?_)
    refine liX1_combine hx hb hr hlocks hml hown hts hA hK p0 p1 p2 p3 lo hi x y hr3 k2 eH2 h312 i (giX1_combine p0 p1 p2 p3 i (k2 + 1 - k1) k1 x y) (fun j H locs ls hP hD hS hl => ?_) (k2 + 1 - k1) k1 x y _ _ ls (by omega) hP hD hS rfl (lv_sub hl [1, 2, 3, 4, 5, 6, 0] rfl)
    refine lv_iinc (v := (nI (i + 1))) (lv' := [(5, .int (nI (i + 1))), (0, .ref h0), (1, .int p0), (2, .int p1), (3, .int p2), (4, .int p3), (6, .int (nI j))]) hx hb dX1_combine_101 hl (k := 5) rfl (nI_inc i) (by decide) rfl (fun ls hl => ?_)
    refine lv_goto (tgt := 54) hx hb dX1_combine_104 (by decide) ?_
    exact ih (i + 1) ((giX1_combine p0 p1 p2 p3 i (k2 + 1 - k1) k1 x y).1) ((giX1_combine p0 p1 p2 p3 i (k2 + 1 - k1) k1 x y).2) _ _ ls (by omega) hP hD hS (Eq.trans (Eq.symm (by rw [gX1_combine])) hV) (lv_sub hl [1, 2, 3, 4, 5, 0] rfl)
set_option maxHeartbeats 4000000 in
set_option maxRecDepth 100000 in
theorem meX1_combine (l : Launch) (D : va_G) (h0 a1 a2 : Nat) (d1 d2 : ClassId) (p0 p1 p2 p3 : Int32) (lo hi : Nat → Int32) (x y : Int32) (ka kb k1 k2 : Nat) (eL : vp_in p2 6 → lo p2.toNatClampNeg = nI ka) (eH : vp_in p2 6 → hi p2.toNatClampNeg = nI kb) (hab : ka ≤ kb) (h31 : kb ≤ 127) (eL2 : vp_in p3 6 → lo p3.toNatClampNeg = nI k1) (eH2 : vp_in p3 6 → hi p3.toNatClampNeg = nI k2) (h12 : k1 ≤ k2) (h312 : k2 ≤ 127) : ObI l yX1_combine (ws_ yX1_combine cX1_combine 7 (some .int)) ({ frames := 2, cells := 0, slots := 0, locals := 46 } : Room) D 1 h0 a1 a2 d1 d2 [.int p0, .int p1, .int p2, .int p3] lo hi x y (fX1_combine p0 p1 p2 p3 lo hi x y ka kb k1 k2) := by
  intro sz
  refine Met.ofW (cc := cX1_combine) (maxL := 7) (ret := (some .int)) (by decide) rfl ?_
  intro p e s m args below meth c s₁ B hml hv
  obtain ⟨rfl, hsz, hP, hK, hD0⟩ := hv
  have hx := B.exec
  have hb := B.bytes
  have hr := B.returns
  have hts := atoms_spec (ws := (ws_ yX1_combine cX1_combine 7 (some .int))) B.pre
  have hts : ∀ w ∈ lw_all, w.before _ s = true := fun w h => hts w (List.mem_cons_of_mem _ h)
  have hown : s.vm.findClass RX1 = some m.cls := findClass_of_methodNamed B.named
  have hlocks := B.notSynchronized
  subst hsz
  have hD := hD0.self (sz := s.heap.size)
  generalize hAe : va_A (obW 1 h0 a1 a2 d1 d2 lo hi x y) s.heap.size = A at hD ⊢
  have hA : ∀ q : Nat, s.heap.size ≤ q → A q := fun q h => by rw [← hAe]; exact Or.inr h
  have hS : va_S A s.heap s.heap [] := va_S.rf
  have hP : va_P D vwCl (obW 1 h0 a1 a2 d1 d2 lo hi x y) s.heap := hP
  have hl := lv_entry ([.ref h0, .int p0, .int p1, .int p2, .int p3]) (n := 7) (Nat.le_of_ble_eq_true rfl)
  rw [lg_entry_eq]
  generalize (lg_sl ([.ref h0, .int p0, .int p1, .int p2, .int p3]) ++ List.replicate (7 - (lg_sl ([.ref h0, .int p0, .int p1, .int p2, .int p3])).length) Slot.unset).toArray = ls at hl ⊢
  have hl : lv_has ls 7 [(0, .ref h0), (1, .int p0), (2, .int p1), (3, .int p2), (4, .int p3)] := hl
  generalize hV : fX1_combine p0 p1 p2 p3 lo hi x y ka kb k1 k2 = V
  refine lv_iload_n hx hb dX1_combine_0 rfl (lv_at hl 1 rfl) ?_
  refine pu_call (As := [.int p0]) (rest := []) ⟨hx, hb, hml, hown, hts⟩ (meX1_bad l p0) (va_cwS 1 hts (lw_S q158 q159 q13 q160) rfl rfl rfl (by decide +kernel) ⟨Nat.le_of_ble_eq_true rfl, Nat.le_of_ble_eq_true rfl⟩) rfl hl.1 rfl (Nat.le_of_ble_eq_true rfl) dX1_combine_1 ⟨Nat.zero_le _, Nat.zero_le _⟩ ?_
  refine lv_if_ne (tgt := 32) hx hb dX1_combine_4 (by decide) (fun c_1 => ?_) (fun c_1 => ?_)
  · refine lv_iconst (v := (-1)) hx hb dX1_combine_32 (by decide) ?_
    exact ob_iret hx hb hr hlocks hK hP hD hS (Eq.trans (Eq.symm (by rw [fX1_combine, if_neg c_1])) hV) dX1_combine_33
  · refine lv_iload_n hx hb dX1_combine_7 rfl (lv_at hl 3 rfl) ?_
    refine pu_call (As := [.int p2]) (rest := []) ⟨hx, hb, hml, hown, hts⟩ (meX1_bad l p2) (va_cwS 1 hts (lw_S q158 q159 q13 q160) rfl rfl rfl (by decide +kernel) ⟨Nat.le_of_ble_eq_true rfl, Nat.le_of_ble_eq_true rfl⟩) rfl hl.1 rfl (Nat.le_of_ble_eq_true rfl) dX1_combine_8 ⟨Nat.zero_le _, Nat.zero_le _⟩ ?_
    refine lv_if_ne (tgt := 32) hx hb dX1_combine_11 (by decide) (fun c_2 => ?_) (fun c_2 => ?_)
    · refine lv_iconst (v := (-1)) hx hb dX1_combine_32 (by decide) ?_
      exact ob_iret hx hb hr hlocks hK hP hD hS (Eq.trans (Eq.symm (by rw [fX1_combine, if_pos c_1, if_neg c_2])) hV) dX1_combine_33
    · refine lv_iload hx hb dX1_combine_14 (lv_at hl 4 rfl) ?_
      refine pu_call (As := [.int p3]) (rest := []) ⟨hx, hb, hml, hown, hts⟩ (meX1_bad l p3) (va_cwS 1 hts (lw_S q158 q159 q13 q160) rfl rfl rfl (by decide +kernel) ⟨Nat.le_of_ble_eq_true rfl, Nat.le_of_ble_eq_true rfl⟩) rfl hl.1 rfl (Nat.le_of_ble_eq_true rfl) dX1_combine_16 ⟨Nat.zero_le _, Nat.zero_le _⟩ ?_
      refine lv_if_ne (tgt := 32) hx hb dX1_combine_19 (by decide) (fun c_3 => ?_) (fun c_3 => ?_)
      · refine lv_iconst (v := (-1)) hx hb dX1_combine_32 (by decide) ?_
        exact ob_iret hx hb hr hlocks hK hP hD hS (Eq.trans (Eq.symm (by rw [fX1_combine, if_pos c_1, if_pos c_2, if_neg c_3])) hV) dX1_combine_33
      · refine lv_iload_n hx hb dX1_combine_22 rfl (lv_at hl 2 rfl) ?_
        refine lv_if_lt (tgt := 32) hx hb dX1_combine_23 (by decide) (fun c_4 => ?_) (fun c_4 => ?_)
        · refine lv_iconst (v := (-1)) hx hb dX1_combine_32 (by decide) ?_
          exact ob_iret hx hb hr hlocks hK hP hD hS (Eq.trans (Eq.symm (by rw [fX1_combine, if_pos c_1, if_pos c_2, if_pos c_3, if_pos c_4])) hV) dX1_combine_33
        · refine lv_iload_n hx hb dX1_combine_26 rfl (lv_at hl 2 rfl) ?_
          refine lv_bipush (v := 10) hx hb dX1_combine_27 (by decide) ?_
          refine lv_icmp_le (tgt := 34) hx hb dX1_combine_29 (by decide) (fun c_5 => ?_) (fun c_5 => ?_)
          · refine lv_aload_n hx hb dX1_combine_34 rfl (lv_at hl 0 rfl) ?_
            refine lv_sipush (v := 128) hx hb dX1_combine_35 (by decide) ?_
            refine va_put (D := D) (ci := 1) (v := .int 128) (ty := .int) (C := RX1) (T := TX1) (N := 4) hx hb hts in_X1 tyX1 tyX1_ok nmX1 hown hK hP hD hS 0 rfl rfl 2 (by decide) (hts _ q143) (fun _ h9 => h9) rfl (by decide +kernel) rfl rfl (Nat.le_of_ble_eq_true rfl) dX1_combine_38 (fun H locs hP hD hS => ?_)
            have hP : va_P D vwCl (obW 1 h0 a1 a2 d1 d2 lo hi 128 y) H := hP
            have hD : va_D A (obW 1 h0 a1 a2 d1 d2 lo hi 128 y) := hD
            refine lv_aload_n hx hb dX1_combine_41 rfl (lv_at hl 0 rfl) ?_
            refine lv_iconst (v := (-1)) hx hb dX1_combine_42 (by decide) ?_
            refine va_put (D := D) (ci := 1) (v := .int (-1)) (ty := .int) (C := RX1) (T := TX1) (N := 4) hx hb hts in_X1 tyX1 tyX1_ok nmX1 hown hK hP hD hS 0 rfl rfl 3 (by decide) (hts _ q144) (fun _ h9 => h9) rfl (by decide +kernel) rfl rfl (Nat.le_of_ble_eq_true rfl) dX1_combine_43 (fun H locs hP hD hS => ?_)
            have hP : va_P D vwCl (obW 1 h0 a1 a2 d1 d2 lo hi 128 (-1)) H := hP
            have hD : va_D A (obW 1 h0 a1 a2 d1 d2 lo hi 128 (-1)) := hD
            refine lv_aload_n hx hb dX1_combine_46 rfl (lv_at hl 0 rfl) ?_
            refine va_get (D := D) (ci := 1) (v := .ref a1) (C := RX1) (T := TX1) (N := 4) hx hb hts in_X1 hown hK hP 0 rfl rfl 0 (by decide) (hts _ q141) (fun _ h9 => h9) rfl dX1_combine_47 ?_
            refine lv_iload_n hx hb dX1_combine_50 rfl (lv_at hl 3 rfl) ?_
            refine va_iald hx hb hK hP 1 0 rfl rfl (bad_in c_2) dX1_combine_51 ?_
            rw [eL (bad_in c_2)]
            refine lv_istore (lv' := [(5, .int (nI ka)), (0, .ref h0), (1, .int p0), (2, .int p1), (3, .int p2), (4, .int p3)]) hx hb dX1_combine_52 hl (by decide) rfl (fun ls hl => ?_)
            exact lpX1_combine hx hb hr hlocks hml hown hts hA hK V p0 p1 p2 p3 lo hi x y (bad_in c_2) kb (eH (bad_in c_2)) h31 (bad_in c_3) k1 k2 (eL2 (bad_in c_3)) (eH2 (bad_in c_3)) h12 h312 (bad_in c_1) (kb + 1 - ka) ka 128 (-1) _ _ ls (by omega) hP hD hS (Eq.trans (Eq.symm (by rw [fX1_combine, if_pos c_1, if_pos c_2, if_pos c_3, if_neg c_4, if_pos c_5])) hV) (lv_sub hl [1, 2, 3, 4, 5, 0] rfl)
          · refine lv_iconst (v := (-1)) hx hb dX1_combine_32 (by decide) ?_
            exact ob_iret hx hb hr hlocks hK hP hD hS (Eq.trans (Eq.symm (by rw [fX1_combine, if_pos c_1, if_pos c_2, if_pos c_3, if_neg c_4, if_neg c_5])) hV) dX1_combine_33
set_option maxHeartbeats 4000000 in
set_option maxRecDepth 100000 in
theorem liX1_less {p : Program} {l : Launch} {e : Env} {s : State} {m : MethodId} {args : Array Value} {below : List Frame} {meth : Method} {c : Code} {Q : State → Prop} (hx : p.tables.exec = Jvm.exec) (hb : c.code = cX1_less) (hr : meth.sig.returnType = some .int) (hlocks : meth.locks = false) (hml : c.maxLocals = 7) (hown : s.vm.findClass RX1 = some m.cls) (hts : ∀ w ∈ lw_all, w.before args s = true) {D : va_G} {A : Nat → Prop} {h0 a1 a2 : Nat} {d1 d2 : ClassId} (hA : ∀ q : Nat, s.heap.size ≤ q → A q) (hK : va_K D vwCl [(d1, .int), (d2, .int)] s) (p0 p1 : Int32) (lo hi : Nat → Int32) (x y : Int32) (hr1 : vp_in p1 6) (kb : Nat) (eH : hi p1.toNatClampNeg = nI kb) (h31 : kb ≤ 127) (i : Nat) (F : Int32 × Int32) (K : ∀ (j : Nat) (H : Heap) (locs : List Loc) (ls : Array Slot), va_P D vwCl (obW 1 h0 a1 a2 d1 d2 lo hi x y) H → va_D A (obW 1 h0 a1 a2 d1 d2 lo hi x y) → va_S A s.heap H locs → lv_has ls 7 [(0, .ref h0), (1, .int p0), (2, .int p1), (3, .int F.1), (4, .int F.2), (5, .int (nI i)), (6, .int (nI j))] → W p l e (headSpec (ws_ yX1_less cX1_less 7 (some .int)) ({ frames := 1, cells := 0, slots := 0, locals := 20 } : Room)).room s m args below meth c H locs 0 0 Q (F0 m 80 ls [])) :
    ∀ (n j : Nat) (v3 v4 : Int32) (H : Heap) (locs : List Loc) (ls : Array Slot), j + n = kb + 1 → va_P D vwCl (obW 1 h0 a1 a2 d1 d2 lo hi x y) H → va_D A (obW 1 h0 a1 a2 d1 d2 lo hi x y) → va_S A s.heap H locs → giX1_less p0 p1 i n j v3 v4 = F → lv_has ls 7 [(0, .ref h0), (1, .int p0), (2, .int p1), (3, .int v3), (4, .int v4), (5, .int (nI i)), (6, .int (nI j))] → W p l e (headSpec (ws_ yX1_less cX1_less 7 (some .int)) ({ frames := 1, cells := 0, slots := 0, locals := 20 } : Room)).room s m args below meth c H locs 0 0 Q (F0 m 48 ls []) := by
  intro n
  induction n with
  | zero =>
    intro j v3 v4 H locs ls hin hP hD hS hV hl
    refine lv_iload hx hb dX1_less_48 (lv_at hl 6 rfl) ?_
    refine lv_aload_n hx hb dX1_less_50 rfl (lv_at hl 0 rfl) ?_
    refine va_get (D := D) (ci := 1) (v := .ref a2) (C := RX1) (T := TX1) (N := 4) hx hb hts in_X1 hown hK hP 0 rfl rfl 1 (by decide) (hts _ q142) (fun _ h9 => h9) rfl dX1_less_51 ?_
    refine lv_iload_n hx hb dX1_less_54 rfl (lv_at hl 2 rfl) ?_
    refine va_iald hx hb hK hP 2 1 rfl rfl hr1 dX1_less_55 ?_
    refine lv_icmp_gt (tgt := 80) hx hb dX1_less_56 (by decide) (fun c_1 => ?_) (fun c_1 => absurd (by rw [eH]; exact nI_lt (by omega) (by omega) : hi p1.toNatClampNeg < nI j) c_1)
    subst hV
    exact K j _ _ ls hP hD hS (lv_sub hl [0, 1, 2, 3, 4, 5, 6] rfl)
  | succ n ih =>
    intro j v3 v4 H locs ls hin hP hD hS hV hl
    refine lv_iload hx hb dX1_less_48 (lv_at hl 6 rfl) ?_
    refine lv_aload_n hx hb dX1_less_50 rfl (lv_at hl 0 rfl) ?_
    refine va_get (D := D) (ci := 1) (v := .ref a2) (C := RX1) (T := TX1) (N := 4) hx hb hts in_X1 hown hK hP 0 rfl rfl 1 (by decide) (hts _ q142) (fun _ h9 => h9) rfl dX1_less_51 ?_
    refine lv_iload_n hx hb dX1_less_54 rfl (lv_at hl 2 rfl) ?_
    refine va_iald hx hb hK hP 2 1 rfl rfl hr1 dX1_less_55 ?_
    refine lv_icmp_gt (tgt := 80) hx hb dX1_less_56 (by decide) (fun c_1 => absurd c_1 (by rw [eH]; exact nI_nlt (by omega) (by omega) : ¬ hi p1.toNatClampNeg < nI j)) (fun c_1 => ?_)
    refine lv_iload hx hb dX1_less_59 (lv_at hl 5 rfl) ?_
    refine lv_iload hx hb dX1_less_61 (lv_at hl 6 rfl) ?_
    refine lv_icmp_ge (tgt := 72) hx hb dX1_less_63 (by decide) (fun c_2 => ?_) (fun c_2 => ?_)
    · refine lv_iconst (v := 0) hx hb dX1_less_72 (by decide) ?_
      refine lv_istore_n (lv' := [(3, .int 0), (0, .ref h0), (1, .int p0), (2, .int p1), (4, .int v4), (5, .int (nI i)), (6, .int (nI j))]) hx hb dX1_less_73 rfl hl (by decide) rfl (fun ls hl => ?_)
      refine lv_iinc (v := (nI (j + 1))) (lv' := [(6, .int (nI (j + 1))), (3, .int 0), (0, .ref h0), (1, .int p0), (2, .int p1), (4, .int v4), (5, .int (nI i))]) hx hb dX1_less_74 hl (k := 6) rfl (nI_inc j) (by decide) rfl (fun ls hl => ?_)
      refine lv_goto (tgt := 48) hx hb dX1_less_77 (by decide) ?_
      exact ih (j + 1) 0 v4 _ _ ls (by omega) hP hD hS (Eq.trans (Eq.symm (by rw [giX1_less, if_pos c_2])) hV) (lv_sub hl [2, 3, 4, 1, 5, 6, 0] rfl)
    · refine lv_iconst (v := 1) hx hb dX1_less_66 (by decide) ?_
      refine lv_istore (lv' := [(4, .int 1), (0, .ref h0), (1, .int p0), (2, .int p1), (3, .int v3), (5, .int (nI i)), (6, .int (nI j))]) hx hb dX1_less_67 hl (by decide) rfl (fun ls hl => ?_)
      refine lv_goto (tgt := 74) hx hb dX1_less_69 (by decide) ?_
      refine lv_iinc (v := (nI (j + 1))) (lv' := [(6, .int (nI (j + 1))), (4, .int 1), (0, .ref h0), (1, .int p0), (2, .int p1), (3, .int v3), (5, .int (nI i))]) hx hb dX1_less_74 hl (k := 6) rfl (nI_inc j) (by decide) rfl (fun ls hl => ?_)
      refine lv_goto (tgt := 48) hx hb dX1_less_77 (by decide) ?_
      exact ih (j + 1) v3 1 _ _ ls (by omega) hP hD hS (Eq.trans (Eq.symm (by rw [giX1_less, if_neg c_2])) hV) (lv_sub hl [2, 3, 4, 5, 1, 6, 0] rfl)
set_option maxHeartbeats 4000000 in
set_option maxRecDepth 100000 in
theorem lpX1_less {p : Program} {l : Launch} {e : Env} {s : State} {m : MethodId} {args : Array Value} {below : List Frame} {meth : Method} {c : Code} (hx : p.tables.exec = Jvm.exec) (hb : c.code = cX1_less) (hr : meth.sig.returnType = some .int) (hlocks : meth.locks = false) (hml : c.maxLocals = 7) (hown : s.vm.findClass RX1 = some m.cls) (hts : ∀ w ∈ lw_all, w.before args s = true) {D : va_G} {A : Nat → Prop} {h0 a1 a2 : Nat} {d1 d2 : ClassId} (hA : ∀ q : Nat, s.heap.size ≤ q → A q) (hK : va_K D vwCl [(d1, .int), (d2, .int)] s) (V : Int32) (p0 p1 : Int32) (lo hi : Nat → Int32) (x y : Int32) (hr0 : vp_in p0 6) (kb : Nat) (eH : hi p0.toNatClampNeg = nI kb) (h31 : kb ≤ 127) (hr1 : vp_in p1 6) (k1 k2 : Nat) (eL2 : lo p1.toNatClampNeg = nI k1) (eH2 : hi p1.toNatClampNeg = nI k2) (h12 : k1 ≤ k2) (h312 : k2 ≤ 127) :
    ∀ (n i : Nat) (v3 v4 : Int32) (H : Heap) (locs : List Loc) (ls : Array Slot), i + n = kb + 1 → va_P D vwCl (obW 1 h0 a1 a2 d1 d2 lo hi x y) H → va_D A (obW 1 h0 a1 a2 d1 d2 lo hi x y) → va_S A s.heap H locs → gX1_less p0 p1 lo hi k1 k2 n i v3 v4 = V → lv_has ls 7 [(0, .ref h0), (1, .int p0), (2, .int p1), (3, .int v3), (4, .int v4), (5, .int (nI i))] → W p l e (headSpec (ws_ yX1_less cX1_less 7 (some .int)) ({ frames := 1, cells := 0, slots := 0, locals := 20 } : Room)).room s m args below meth c H locs 0 0 (Qo below args s D 1 h0 a1 a2 d1 d2 A (V, lo, hi, x, y)) (F0 m 29 ls []) := by
  intro n
  induction n with
  | zero =>
    intro i v3 v4 H locs ls hin hP hD hS hV hl
    refine lv_iload hx hb dX1_less_29 (lv_at hl 5 rfl) ?_
    refine lv_aload_n hx hb dX1_less_31 rfl (lv_at hl 0 rfl) ?_
    refine va_get (D := D) (ci := 1) (v := .ref a2) (C := RX1) (T := TX1) (N := 4) hx hb hts in_X1 hown hK hP 0 rfl rfl 1 (by decide) (hts _ q142) (fun _ h9 => h9) rfl dX1_less_32 ?_
    refine lv_iload_n hx hb dX1_less_35 rfl (lv_at hl 1 rfl) ?_
    refine va_iald hx hb hK hP 2 1 rfl rfl hr0 dX1_less_36 ?_
    refine lv_icmp_gt (tgt := 86) hx hb dX1_less_37 (by decide) (fun c_1 => ?_) (fun c_1 => absurd (by rw [eH]; exact nI_lt (by omega) (by omega) : hi p0.toNatClampNeg < nI i) c_1)
    refine lv_iload_n hx hb dX1_less_86 rfl (lv_at hl 3 rfl) ?_
    refine lv_if_eq (tgt := 94) hx hb dX1_less_87 (by decide) (fun c_2 => ?_) (fun c_2 => ?_)
    · refine lv_iload hx hb dX1_less_94 (lv_at hl 4 rfl) ?_
      refine lv_if_eq (tgt := 103) hx hb dX1_less_96 (by decide) (fun c_3 => ?_) (fun c_3 => ?_)
      · refine lv_iconst (v := 0) hx hb dX1_less_103 (by decide) ?_
        exact ob_iret hx hb hr hlocks hK hP hD hS (congrArg (fun z : Int32 => (z, lo, hi, x, y)) (Eq.trans (Eq.symm (by rw [gX1_less, if_pos c_2, if_pos c_3])) hV)) dX1_less_104
      · refine lv_iconst (v := 2) hx hb dX1_less_99 (by decide) ?_
        refine lv_goto (tgt := 104) hx hb dX1_less_100 (by decide) ?_
        exact ob_iret hx hb hr hlocks hK hP hD hS (congrArg (fun z : Int32 => (z, lo, hi, x, y)) (Eq.trans (Eq.symm (by rw [gX1_less, if_pos c_2, if_neg c_3])) hV)) dX1_less_104
    · refine lv_iconst (v := 1) hx hb dX1_less_90 (by decide) ?_
      refine lv_goto (tgt := 104) hx hb dX1_less_91 (by decide) ?_
      exact ob_iret hx hb hr hlocks hK hP hD hS (congrArg (fun z : Int32 => (z, lo, hi, x, y)) (Eq.trans (Eq.symm (by rw [gX1_less, if_neg c_2])) hV)) dX1_less_104
  | succ n ih =>
    intro i v3 v4 H locs ls hin hP hD hS hV hl
    refine lv_iload hx hb dX1_less_29 (lv_at hl 5 rfl) ?_
    refine lv_aload_n hx hb dX1_less_31 rfl (lv_at hl 0 rfl) ?_
    refine va_get (D := D) (ci := 1) (v := .ref a2) (C := RX1) (T := TX1) (N := 4) hx hb hts in_X1 hown hK hP 0 rfl rfl 1 (by decide) (hts _ q142) (fun _ h9 => h9) rfl dX1_less_32 ?_
    refine lv_iload_n hx hb dX1_less_35 rfl (lv_at hl 1 rfl) ?_
    refine va_iald hx hb hK hP 2 1 rfl rfl hr0 dX1_less_36 ?_
    refine lv_icmp_gt (tgt := 86) hx hb dX1_less_37 (by decide) (fun c_1 => absurd c_1 (by rw [eH]; exact nI_nlt (by omega) (by omega) : ¬ hi p0.toNatClampNeg < nI i)) (fun c_1 => ?_)
    refine lv_aload_n hx hb dX1_less_40 rfl (lv_at hl 0 rfl) ?_
    refine va_get (D := D) (ci := 1) (v := .ref a1) (C := RX1) (T := TX1) (N := 4) hx hb hts in_X1 hown hK hP 0 rfl rfl 0 (by decide) (hts _ q141) (fun _ h9 => h9) rfl dX1_less_41 ?_
    refine lv_iload_n hx hb dX1_less_44 rfl (lv_at hl 2 rfl) ?_
    refine va_iald hx hb hK hP 1 0 rfl rfl hr1 dX1_less_45 ?_
    rw [eL2]
    refine lv_istore (lv' := [(6, .int (nI k1)), (0, .ref h0), (1, .int p0), (2, .int p1), (3, .int v3), (4, .int v4), (5, .int (nI i))]) hx hb dX1_less_46 hl (by decide) rfl (fun ls hl => ?_)
    refine liX1_less hx hb hr hlocks hml hown hts hA hK p0 p1 lo hi x y hr1 k2 eH2 h312 i (giX1_less p0 p1 i (k2 + 1 - k1) k1 v3 v4) (fun j H locs ls hP hD hS hl => ?_) (k2 + 1 - k1) k1 v3 v4 _ _ ls (by omega) hP hD hS rfl (lv_sub hl [1, 2, 3, 4, 5, 6, 0] rfl)
    refine lv_iinc (v := (nI (i + 1))) (lv' := [(5, .int (nI (i + 1))), (0, .ref h0), (1, .int p0), (2, .int p1), (3, .int ((giX1_less p0 p1 i (k2 + 1 - k1) k1 v3 v4).1)), (4, .int ((giX1_less p0 p1 i (k2 + 1 - k1) k1 v3 v4).2)), (6, .int (nI j))]) hx hb dX1_less_80 hl (k := 5) rfl (nI_inc i) (by decide) rfl (fun ls hl => ?_)
    refine lv_goto (tgt := 29) hx hb dX1_less_83 (by decide) ?_
    exact ih (i + 1) ((giX1_less p0 p1 i (k2 + 1 - k1) k1 v3 v4).1) ((giX1_less p0 p1 i (k2 + 1 - k1) k1 v3 v4).2) _ _ ls (by omega) hP hD hS (Eq.trans (Eq.symm (by rw [gX1_less])) hV) (lv_sub hl [1, 2, 3, 4, 5, 0] rfl)
set_option maxHeartbeats 4000000 in
set_option maxRecDepth 100000 in
theorem meX1_less (l : Launch) (D : va_G) (h0 a1 a2 : Nat) (d1 d2 : ClassId) (p0 p1 : Int32) (lo hi : Nat → Int32) (x y : Int32) (ka kb k1 k2 : Nat) (eL : vp_in p0 6 → lo p0.toNatClampNeg = nI ka) (eH : vp_in p0 6 → hi p0.toNatClampNeg = nI kb) (hab : ka ≤ kb) (h31 : kb ≤ 127) (eL2 : vp_in p1 6 → lo p1.toNatClampNeg = nI k1) (eH2 : vp_in p1 6 → hi p1.toNatClampNeg = nI k2) (h12 : k1 ≤ k2) (h312 : k2 ≤ 127) : ObI l yX1_less (ws_ yX1_less cX1_less 7 (some .int)) ({ frames := 1, cells := 0, slots := 0, locals := 20 } : Room) D 1 h0 a1 a2 d1 d2 [.int p0, .int p1] lo hi x y ((fX1_less p0 p1 lo hi ka kb k1 k2), lo, hi, x, y) := by
  intro sz
  refine Met.ofW (cc := cX1_less) (maxL := 7) (ret := (some .int)) (by decide) rfl ?_
  intro p e s m args below meth c s₁ B hml hv
  obtain ⟨rfl, hsz, hP, hK, hD0⟩ := hv
  have hx := B.exec
  have hb := B.bytes
  have hr := B.returns
  have hts := atoms_spec (ws := (ws_ yX1_less cX1_less 7 (some .int))) B.pre
  have hts : ∀ w ∈ lw_all, w.before _ s = true := fun w h => hts w (List.mem_cons_of_mem _ h)
  have hown : s.vm.findClass RX1 = some m.cls := findClass_of_methodNamed B.named
  have hlocks := B.notSynchronized
  subst hsz
  have hD := hD0.self (sz := s.heap.size)
  generalize hAe : va_A (obW 1 h0 a1 a2 d1 d2 lo hi x y) s.heap.size = A at hD ⊢
  have hA : ∀ q : Nat, s.heap.size ≤ q → A q := fun q h => by rw [← hAe]; exact Or.inr h
  have hS : va_S A s.heap s.heap [] := va_S.rf
  have hP : va_P D vwCl (obW 1 h0 a1 a2 d1 d2 lo hi x y) s.heap := hP
  have hl := lv_entry ([.ref h0, .int p0, .int p1]) (n := 7) (Nat.le_of_ble_eq_true rfl)
  rw [lg_entry_eq]
  generalize (lg_sl ([.ref h0, .int p0, .int p1]) ++ List.replicate (7 - (lg_sl ([.ref h0, .int p0, .int p1])).length) Slot.unset).toArray = ls at hl ⊢
  have hl : lv_has ls 7 [(0, .ref h0), (1, .int p0), (2, .int p1)] := hl
  generalize hV : fX1_less p0 p1 lo hi ka kb k1 k2 = V
  refine lv_iload_n hx hb dX1_less_0 rfl (lv_at hl 1 rfl) ?_
  refine pu_call (As := [.int p0]) (rest := []) ⟨hx, hb, hml, hown, hts⟩ (meX1_bad l p0) (va_cwS 1 hts (lw_S q158 q159 q13 q160) rfl rfl rfl (by decide +kernel) ⟨Nat.le_of_ble_eq_true rfl, Nat.le_of_ble_eq_true rfl⟩) rfl hl.1 rfl (Nat.le_of_ble_eq_true rfl) dX1_less_1 ⟨Nat.zero_le _, Nat.zero_le _⟩ ?_
  refine lv_if_ne (tgt := 14) hx hb dX1_less_4 (by decide) (fun c_1 => ?_) (fun c_1 => ?_)
  · refine lv_iconst (v := (-1)) hx hb dX1_less_14 (by decide) ?_
    exact ob_iret hx hb hr hlocks hK hP hD hS (congrArg (fun z : Int32 => (z, lo, hi, x, y)) (Eq.trans (Eq.symm (by rw [fX1_less, if_neg c_1])) hV)) dX1_less_15
  · refine lv_iload_n hx hb dX1_less_7 rfl (lv_at hl 2 rfl) ?_
    refine pu_call (As := [.int p1]) (rest := []) ⟨hx, hb, hml, hown, hts⟩ (meX1_bad l p1) (va_cwS 1 hts (lw_S q158 q159 q13 q160) rfl rfl rfl (by decide +kernel) ⟨Nat.le_of_ble_eq_true rfl, Nat.le_of_ble_eq_true rfl⟩) rfl hl.1 rfl (Nat.le_of_ble_eq_true rfl) dX1_less_8 ⟨Nat.zero_le _, Nat.zero_le _⟩ ?_
    refine lv_if_eq (tgt := 16) hx hb dX1_less_11 (by decide) (fun c_2 => ?_) (fun c_2 => ?_)
    · refine lv_iconst (v := 1) hx hb dX1_less_16 (by decide) ?_
      refine lv_istore_n (lv' := [(3, .int 1), (0, .ref h0), (1, .int p0), (2, .int p1)]) hx hb dX1_less_17 rfl hl (by decide) rfl (fun ls hl => ?_)
      refine lv_iconst (v := 0) hx hb dX1_less_18 (by decide) ?_
      refine lv_istore (lv' := [(4, .int 0), (3, .int 1), (0, .ref h0), (1, .int p0), (2, .int p1)]) hx hb dX1_less_19 hl (by decide) rfl (fun ls hl => ?_)
      refine lv_aload_n hx hb dX1_less_21 rfl (lv_at hl 2 rfl) ?_
      refine va_get (D := D) (ci := 1) (v := .ref a1) (C := RX1) (T := TX1) (N := 4) hx hb hts in_X1 hown hK hP 0 rfl rfl 0 (by decide) (hts _ q141) (fun _ h9 => h9) rfl dX1_less_22 ?_
      refine lv_iload_n hx hb dX1_less_25 rfl (lv_at hl 3 rfl) ?_
      refine va_iald hx hb hK hP 1 0 rfl rfl (bad_in c_1) dX1_less_26 ?_
      rw [eL (bad_in c_1)]
      refine lv_istore (lv' := [(5, .int (nI ka)), (4, .int 0), (3, .int 1), (0, .ref h0), (1, .int p0), (2, .int p1)]) hx hb dX1_less_27 hl (by decide) rfl (fun ls hl => ?_)
      exact lpX1_less hx hb hr hlocks hml hown hts hA hK V p0 p1 lo hi x y (bad_in c_1) kb (eH (bad_in c_1)) h31 (bad_in c_2) k1 k2 (eL2 (bad_in c_2)) (eH2 (bad_in c_2)) h12 h312 (kb + 1 - ka) ka 1 0 _ _ ls (by omega) hP hD hS (Eq.trans (Eq.symm (by rw [fX1_less, if_pos c_1, if_pos c_2])) hV) (lv_sub hl [3, 4, 5, 2, 1, 0] rfl)
    · refine lv_iconst (v := (-1)) hx hb dX1_less_14 (by decide) ?_
      exact ob_iret hx hb hr hlocks hK hP hD hS (congrArg (fun z : Int32 => (z, lo, hi, x, y)) (Eq.trans (Eq.symm (by rw [fX1_less, if_pos c_1, if_neg c_2])) hV)) dX1_less_15
set_option maxHeartbeats 4000000 in
set_option maxRecDepth 100000 in
theorem liX1_apart {p : Program} {l : Launch} {e : Env} {s : State} {m : MethodId} {args : Array Value} {below : List Frame} {meth : Method} {c : Code} {Q : State → Prop} (hx : p.tables.exec = Jvm.exec) (hb : c.code = cX1_apart) (hr : meth.sig.returnType = some .int) (hlocks : meth.locks = false) (hml : c.maxLocals = 6) (hown : s.vm.findClass RX1 = some m.cls) (hts : ∀ w ∈ lw_all, w.before args s = true) {D : va_G} {A : Nat → Prop} {h0 a1 a2 : Nat} {d1 d2 : ClassId} (hA : ∀ q : Nat, s.heap.size ≤ q → A q) (hK : va_K D vwCl [(d1, .int), (d2, .int)] s) (p0 p1 : Int32) (lo hi : Nat → Int32) (x y : Int32) (hr1 : vp_in p1 6) (kb : Nat) (eH : hi p1.toNatClampNeg = nI kb) (h31 : kb ≤ 127) (i : Nat) (F : Int32) (K : ∀ (j : Nat) (H : Heap) (locs : List Loc) (ls : Array Slot), va_P D vwCl (obW 1 h0 a1 a2 d1 d2 lo hi x y) H → va_D A (obW 1 h0 a1 a2 d1 d2 lo hi x y) → va_S A s.heap H locs → lv_has ls 6 [(0, .ref h0), (1, .int p0), (2, .int p1), (3, .int F), (4, .int (nI i)), (5, .int (nI j))] → W p l e (headSpec (ws_ yX1_apart cX1_apart 6 (some .int)) ({ frames := 1, cells := 0, slots := 0, locals := 20 } : Room)).room s m args below meth c H locs 0 0 Q (F0 m 73 ls [])) :
    ∀ (n j : Nat) (v3 : Int32) (H : Heap) (locs : List Loc) (ls : Array Slot), j + n = kb + 1 → va_P D vwCl (obW 1 h0 a1 a2 d1 d2 lo hi x y) H → va_D A (obW 1 h0 a1 a2 d1 d2 lo hi x y) → va_S A s.heap H locs → giX1_apart p0 p1 i n j v3 = F → lv_has ls 6 [(0, .ref h0), (1, .int p0), (2, .int p1), (3, .int v3), (4, .int (nI i)), (5, .int (nI j))] → W p l e (headSpec (ws_ yX1_apart cX1_apart 6 (some .int)) ({ frames := 1, cells := 0, slots := 0, locals := 20 } : Room)).room s m args below meth c H locs 0 0 Q (F0 m 45 ls []) := by
  intro n
  induction n with
  | zero =>
    intro j v3 H locs ls hin hP hD hS hV hl
    refine lv_iload hx hb dX1_apart_45 (lv_at hl 5 rfl) ?_
    refine lv_aload_n hx hb dX1_apart_47 rfl (lv_at hl 0 rfl) ?_
    refine va_get (D := D) (ci := 1) (v := .ref a2) (C := RX1) (T := TX1) (N := 4) hx hb hts in_X1 hown hK hP 0 rfl rfl 1 (by decide) (hts _ q142) (fun _ h9 => h9) rfl dX1_apart_48 ?_
    refine lv_iload_n hx hb dX1_apart_51 rfl (lv_at hl 2 rfl) ?_
    refine va_iald hx hb hK hP 2 1 rfl rfl hr1 dX1_apart_52 ?_
    refine lv_icmp_gt (tgt := 73) hx hb dX1_apart_53 (by decide) (fun c_1 => ?_) (fun c_1 => absurd (by rw [eH]; exact nI_lt (by omega) (by omega) : hi p1.toNatClampNeg < nI j) c_1)
    subst hV
    exact K j _ _ ls hP hD hS (lv_sub hl [0, 1, 2, 3, 4, 5] rfl)
  | succ n ih =>
    intro j v3 H locs ls hin hP hD hS hV hl
    refine lv_iload hx hb dX1_apart_45 (lv_at hl 5 rfl) ?_
    refine lv_aload_n hx hb dX1_apart_47 rfl (lv_at hl 0 rfl) ?_
    refine va_get (D := D) (ci := 1) (v := .ref a2) (C := RX1) (T := TX1) (N := 4) hx hb hts in_X1 hown hK hP 0 rfl rfl 1 (by decide) (hts _ q142) (fun _ h9 => h9) rfl dX1_apart_48 ?_
    refine lv_iload_n hx hb dX1_apart_51 rfl (lv_at hl 2 rfl) ?_
    refine va_iald hx hb hK hP 2 1 rfl rfl hr1 dX1_apart_52 ?_
    refine lv_icmp_gt (tgt := 73) hx hb dX1_apart_53 (by decide) (fun c_1 => absurd c_1 (by rw [eH]; exact nI_nlt (by omega) (by omega) : ¬ hi p1.toNatClampNeg < nI j)) (fun c_1 => ?_)
    refine lv_iload hx hb dX1_apart_56 (lv_at hl 4 rfl) ?_
    refine lv_iload hx hb dX1_apart_58 (lv_at hl 5 rfl) ?_
    refine lv_iand hx hb dX1_apart_60 ?_
    refine lv_if_ne (tgt := 67) hx hb dX1_apart_61 (by decide) (fun c_2 => ?_) (fun c_2 => ?_)
    · refine lv_iinc (v := (nI (j + 1))) (lv' := [(5, .int (nI (j + 1))), (0, .ref h0), (1, .int p0), (2, .int p1), (3, .int v3), (4, .int (nI i))]) hx hb dX1_apart_67 hl (k := 5) rfl (nI_inc j) (by decide) rfl (fun ls hl => ?_)
      refine lv_goto (tgt := 45) hx hb dX1_apart_70 (by decide) ?_
      exact ih (j + 1) v3 _ _ ls (by omega) hP hD hS (Eq.trans (Eq.symm (by rw [giX1_apart, if_neg c_2])) hV) (lv_sub hl [1, 2, 3, 4, 5, 0] rfl)
    · refine lv_iinc (v := (v3 + 1)) (lv' := [(3, .int (v3 + 1)), (0, .ref h0), (1, .int p0), (2, .int p1), (4, .int (nI i)), (5, .int (nI j))]) hx hb dX1_apart_64 hl (k := 3) rfl rfl (by decide) rfl (fun ls hl => ?_)
      refine lv_iinc (v := (nI (j + 1))) (lv' := [(5, .int (nI (j + 1))), (3, .int (v3 + 1)), (0, .ref h0), (1, .int p0), (2, .int p1), (4, .int (nI i))]) hx hb dX1_apart_67 hl (k := 5) rfl (nI_inc j) (by decide) rfl (fun ls hl => ?_)
      refine lv_goto (tgt := 45) hx hb dX1_apart_70 (by decide) ?_
      exact ih (j + 1) (v3 + 1) _ _ ls (by omega) hP hD hS (Eq.trans (Eq.symm (by rw [giX1_apart, if_pos c_2])) hV) (lv_sub hl [2, 3, 4, 1, 5, 0] rfl)
set_option maxHeartbeats 4000000 in
set_option maxRecDepth 100000 in
theorem lpX1_apart {p : Program} {l : Launch} {e : Env} {s : State} {m : MethodId} {args : Array Value} {below : List Frame} {meth : Method} {c : Code} (hx : p.tables.exec = Jvm.exec) (hb : c.code = cX1_apart) (hr : meth.sig.returnType = some .int) (hlocks : meth.locks = false) (hml : c.maxLocals = 6) (hown : s.vm.findClass RX1 = some m.cls) (hts : ∀ w ∈ lw_all, w.before args s = true) {D : va_G} {A : Nat → Prop} {h0 a1 a2 : Nat} {d1 d2 : ClassId} (hA : ∀ q : Nat, s.heap.size ≤ q → A q) (hK : va_K D vwCl [(d1, .int), (d2, .int)] s) (V : Int32) (p0 p1 : Int32) (lo hi : Nat → Int32) (x y : Int32) (hr0 : vp_in p0 6) (kb : Nat) (eH : hi p0.toNatClampNeg = nI kb) (h31 : kb ≤ 127) (hr1 : vp_in p1 6) (k1 k2 : Nat) (eL2 : lo p1.toNatClampNeg = nI k1) (eH2 : hi p1.toNatClampNeg = nI k2) (h12 : k1 ≤ k2) (h312 : k2 ≤ 127) :
    ∀ (n i : Nat) (v3 : Int32) (H : Heap) (locs : List Loc) (ls : Array Slot), i + n = kb + 1 → va_P D vwCl (obW 1 h0 a1 a2 d1 d2 lo hi x y) H → va_D A (obW 1 h0 a1 a2 d1 d2 lo hi x y) → va_S A s.heap H locs → gX1_apart p0 p1 lo hi k1 k2 n i v3 = V → lv_has ls 6 [(0, .ref h0), (1, .int p0), (2, .int p1), (3, .int v3), (4, .int (nI i))] → W p l e (headSpec (ws_ yX1_apart cX1_apart 6 (some .int)) ({ frames := 1, cells := 0, slots := 0, locals := 20 } : Room)).room s m args below meth c H locs 0 0 (Qo below args s D 1 h0 a1 a2 d1 d2 A (V, lo, hi, x, y)) (F0 m 26 ls []) := by
  intro n
  induction n with
  | zero =>
    intro i v3 H locs ls hin hP hD hS hV hl
    refine lv_iload hx hb dX1_apart_26 (lv_at hl 4 rfl) ?_
    refine lv_aload_n hx hb dX1_apart_28 rfl (lv_at hl 0 rfl) ?_
    refine va_get (D := D) (ci := 1) (v := .ref a2) (C := RX1) (T := TX1) (N := 4) hx hb hts in_X1 hown hK hP 0 rfl rfl 1 (by decide) (hts _ q142) (fun _ h9 => h9) rfl dX1_apart_29 ?_
    refine lv_iload_n hx hb dX1_apart_32 rfl (lv_at hl 1 rfl) ?_
    refine va_iald hx hb hK hP 2 1 rfl rfl hr0 dX1_apart_33 ?_
    refine lv_icmp_gt (tgt := 79) hx hb dX1_apart_34 (by decide) (fun c_1 => ?_) (fun c_1 => absurd (by rw [eH]; exact nI_lt (by omega) (by omega) : hi p0.toNatClampNeg < nI i) c_1)
    refine lv_iload_n hx hb dX1_apart_79 rfl (lv_at hl 3 rfl) ?_
    exact ob_iret hx hb hr hlocks hK hP hD hS (congrArg (fun z : Int32 => (z, lo, hi, x, y)) (Eq.trans (Eq.symm (by rw [gX1_apart])) hV)) dX1_apart_80
  | succ n ih =>
    intro i v3 H locs ls hin hP hD hS hV hl
    refine lv_iload hx hb dX1_apart_26 (lv_at hl 4 rfl) ?_
    refine lv_aload_n hx hb dX1_apart_28 rfl (lv_at hl 0 rfl) ?_
    refine va_get (D := D) (ci := 1) (v := .ref a2) (C := RX1) (T := TX1) (N := 4) hx hb hts in_X1 hown hK hP 0 rfl rfl 1 (by decide) (hts _ q142) (fun _ h9 => h9) rfl dX1_apart_29 ?_
    refine lv_iload_n hx hb dX1_apart_32 rfl (lv_at hl 1 rfl) ?_
    refine va_iald hx hb hK hP 2 1 rfl rfl hr0 dX1_apart_33 ?_
    refine lv_icmp_gt (tgt := 79) hx hb dX1_apart_34 (by decide) (fun c_1 => absurd c_1 (by rw [eH]; exact nI_nlt (by omega) (by omega) : ¬ hi p0.toNatClampNeg < nI i)) (fun c_1 => ?_)
    refine lv_aload_n hx hb dX1_apart_37 rfl (lv_at hl 0 rfl) ?_
    refine va_get (D := D) (ci := 1) (v := .ref a1) (C := RX1) (T := TX1) (N := 4) hx hb hts in_X1 hown hK hP 0 rfl rfl 0 (by decide) (hts _ q141) (fun _ h9 => h9) rfl dX1_apart_38 ?_
    refine lv_iload_n hx hb dX1_apart_41 rfl (lv_at hl 2 rfl) ?_
    refine va_iald hx hb hK hP 1 0 rfl rfl hr1 dX1_apart_42 ?_
    rw [eL2]
    refine lv_istore (lv' := [(5, .int (nI k1)), (0, .ref h0), (1, .int p0), (2, .int p1), (3, .int v3), (4, .int (nI i))]) hx hb dX1_apart_43 hl (by decide) rfl (fun ls hl => ?_)
    refine liX1_apart hx hb hr hlocks hml hown hts hA hK p0 p1 lo hi x y hr1 k2 eH2 h312 i (giX1_apart p0 p1 i (k2 + 1 - k1) k1 v3) (fun j H locs ls hP hD hS hl => ?_) (k2 + 1 - k1) k1 v3 _ _ ls (by omega) hP hD hS rfl (lv_sub hl [1, 2, 3, 4, 5, 0] rfl)
    refine lv_iinc (v := (nI (i + 1))) (lv' := [(4, .int (nI (i + 1))), (0, .ref h0), (1, .int p0), (2, .int p1), (3, .int (giX1_apart p0 p1 i (k2 + 1 - k1) k1 v3)), (5, .int (nI j))]) hx hb dX1_apart_73 hl (k := 4) rfl (nI_inc i) (by decide) rfl (fun ls hl => ?_)
    refine lv_goto (tgt := 26) hx hb dX1_apart_76 (by decide) ?_
    exact ih (i + 1) (giX1_apart p0 p1 i (k2 + 1 - k1) k1 v3) _ _ ls (by omega) hP hD hS (Eq.trans (Eq.symm (by rw [gX1_apart])) hV) (lv_sub hl [1, 2, 3, 4, 0] rfl)
set_option maxHeartbeats 4000000 in
set_option maxRecDepth 100000 in
theorem meX1_apart (l : Launch) (D : va_G) (h0 a1 a2 : Nat) (d1 d2 : ClassId) (p0 p1 : Int32) (lo hi : Nat → Int32) (x y : Int32) (ka kb k1 k2 : Nat) (eL : vp_in p0 6 → lo p0.toNatClampNeg = nI ka) (eH : vp_in p0 6 → hi p0.toNatClampNeg = nI kb) (hab : ka ≤ kb) (h31 : kb ≤ 127) (eL2 : vp_in p1 6 → lo p1.toNatClampNeg = nI k1) (eH2 : vp_in p1 6 → hi p1.toNatClampNeg = nI k2) (h12 : k1 ≤ k2) (h312 : k2 ≤ 127) : ObI l yX1_apart (ws_ yX1_apart cX1_apart 6 (some .int)) ({ frames := 1, cells := 0, slots := 0, locals := 20 } : Room) D 1 h0 a1 a2 d1 d2 [.int p0, .int p1] lo hi x y ((fX1_apart p0 p1 lo hi ka kb k1 k2), lo, hi, x, y) := by
  intro sz
  refine Met.ofW (cc := cX1_apart) (maxL := 6) (ret := (some .int)) (by decide) rfl ?_
  intro p e s m args below meth c s₁ B hml hv
  obtain ⟨rfl, hsz, hP, hK, hD0⟩ := hv
  have hx := B.exec
  have hb := B.bytes
  have hr := B.returns
  have hts := atoms_spec (ws := (ws_ yX1_apart cX1_apart 6 (some .int))) B.pre
  have hts : ∀ w ∈ lw_all, w.before _ s = true := fun w h => hts w (List.mem_cons_of_mem _ h)
  have hown : s.vm.findClass RX1 = some m.cls := findClass_of_methodNamed B.named
  have hlocks := B.notSynchronized
  subst hsz
  have hD := hD0.self (sz := s.heap.size)
  generalize hAe : va_A (obW 1 h0 a1 a2 d1 d2 lo hi x y) s.heap.size = A at hD ⊢
  have hA : ∀ q : Nat, s.heap.size ≤ q → A q := fun q h => by rw [← hAe]; exact Or.inr h
  have hS : va_S A s.heap s.heap [] := va_S.rf
  have hP : va_P D vwCl (obW 1 h0 a1 a2 d1 d2 lo hi x y) s.heap := hP
  have hl := lv_entry ([.ref h0, .int p0, .int p1]) (n := 6) (Nat.le_of_ble_eq_true rfl)
  rw [lg_entry_eq]
  generalize (lg_sl ([.ref h0, .int p0, .int p1]) ++ List.replicate (6 - (lg_sl ([.ref h0, .int p0, .int p1])).length) Slot.unset).toArray = ls at hl ⊢
  have hl : lv_has ls 6 [(0, .ref h0), (1, .int p0), (2, .int p1)] := hl
  generalize hV : fX1_apart p0 p1 lo hi ka kb k1 k2 = V
  refine lv_iload_n hx hb dX1_apart_0 rfl (lv_at hl 1 rfl) ?_
  refine pu_call (As := [.int p0]) (rest := []) ⟨hx, hb, hml, hown, hts⟩ (meX1_bad l p0) (va_cwS 1 hts (lw_S q158 q159 q13 q160) rfl rfl rfl (by decide +kernel) ⟨Nat.le_of_ble_eq_true rfl, Nat.le_of_ble_eq_true rfl⟩) rfl hl.1 rfl (Nat.le_of_ble_eq_true rfl) dX1_apart_1 ⟨Nat.zero_le _, Nat.zero_le _⟩ ?_
  refine lv_if_ne (tgt := 14) hx hb dX1_apart_4 (by decide) (fun c_1 => ?_) (fun c_1 => ?_)
  · refine lv_iconst (v := (-1)) hx hb dX1_apart_14 (by decide) ?_
    exact ob_iret hx hb hr hlocks hK hP hD hS (congrArg (fun z : Int32 => (z, lo, hi, x, y)) (Eq.trans (Eq.symm (by rw [fX1_apart, if_neg c_1])) hV)) dX1_apart_15
  · refine lv_iload_n hx hb dX1_apart_7 rfl (lv_at hl 2 rfl) ?_
    refine pu_call (As := [.int p1]) (rest := []) ⟨hx, hb, hml, hown, hts⟩ (meX1_bad l p1) (va_cwS 1 hts (lw_S q158 q159 q13 q160) rfl rfl rfl (by decide +kernel) ⟨Nat.le_of_ble_eq_true rfl, Nat.le_of_ble_eq_true rfl⟩) rfl hl.1 rfl (Nat.le_of_ble_eq_true rfl) dX1_apart_8 ⟨Nat.zero_le _, Nat.zero_le _⟩ ?_
    refine lv_if_eq (tgt := 16) hx hb dX1_apart_11 (by decide) (fun c_2 => ?_) (fun c_2 => ?_)
    · refine lv_iconst (v := 0) hx hb dX1_apart_16 (by decide) ?_
      refine lv_istore_n (lv' := [(3, .int 0), (0, .ref h0), (1, .int p0), (2, .int p1)]) hx hb dX1_apart_17 rfl hl (by decide) rfl (fun ls hl => ?_)
      refine lv_aload_n hx hb dX1_apart_18 rfl (lv_at hl 1 rfl) ?_
      refine va_get (D := D) (ci := 1) (v := .ref a1) (C := RX1) (T := TX1) (N := 4) hx hb hts in_X1 hown hK hP 0 rfl rfl 0 (by decide) (hts _ q141) (fun _ h9 => h9) rfl dX1_apart_19 ?_
      refine lv_iload_n hx hb dX1_apart_22 rfl (lv_at hl 2 rfl) ?_
      refine va_iald hx hb hK hP 1 0 rfl rfl (bad_in c_1) dX1_apart_23 ?_
      rw [eL (bad_in c_1)]
      refine lv_istore (lv' := [(4, .int (nI ka)), (3, .int 0), (0, .ref h0), (1, .int p0), (2, .int p1)]) hx hb dX1_apart_24 hl (by decide) rfl (fun ls hl => ?_)
      exact lpX1_apart hx hb hr hlocks hml hown hts hA hK V p0 p1 lo hi x y (bad_in c_1) kb (eH (bad_in c_1)) h31 (bad_in c_2) k1 k2 (eL2 (bad_in c_2)) (eH2 (bad_in c_2)) h12 h312 (kb + 1 - ka) ka 0 _ _ ls (by omega) hP hD hS (Eq.trans (Eq.symm (by rw [fX1_apart, if_pos c_1, if_pos c_2])) hV) (lv_sub hl [2, 3, 4, 1, 0] rfl)
    · refine lv_iconst (v := (-1)) hx hb dX1_apart_14 (by decide) ?_
      exact ob_iret hx hb hr hlocks hK hP hD hS (congrArg (fun z : Int32 => (z, lo, hi, x, y)) (Eq.trans (Eq.symm (by rw [fX1_apart, if_pos c_1, if_neg c_2])) hV)) dX1_apart_15
end
section
/-! the constructors: two new arrays of 6, the second filled with 127 -/
def hiF : Nat → (Nat → Int32) → (Nat → Int32)
  | 0, f => f
  | n + 1, f => hiF n (upd f (kup6 (n + 1)).toNatClampNeg 127)
def hi127 : Nat → Int32 := hiF 6 (fun _ => 0)
theorem hi127_at : ∀ j, j < 6 → hi127 j = 127 := by decide +kernel
abbrev Qin (below : List Frame) (args : Array Value) (s : State) (D : va_G) (ci h0 : Nat) (A : Nat → Prop) (V : Nat → Int32) : State → Prop := MQ below (va_Qv (fun (_ : Unit) => True) (fun _ t => ∃ (a1 a2 : Nat) (d1 d2 : ClassId), va_P D vwCl (obW ci h0 a1 a2 d1 d2 (fun _ => 0) V 0 0) t.heap ∧ va_K D vwCl [(d1, .int), (d2, .int)] t ∧ va_D A (obW ci h0 a1 a2 d1 d2 (fun _ => 0) V 0 0)) A) args s 2 12 A
abbrev bornW (ci h0 : Nat) : va_W := [(h0, .inr (ci, [.null, .null, .int 0, .int 0]))]
abbrev rmI : Room := { frames := 1, cells := 2, slots := 12, locals := 12 }
abbrev InI (l : Launch) (y : MethodName) (ws : List Cond) (D : va_G) (ci h0 : Nat) : Prop := ∀ sz : Nat, Met l y ws rmI (va_Pc [.ref h0] (fun U => U.heap.size = sz ∧ va_P D vwCl (bornW ci h0) U.heap ∧ va_K D vwCl [] U ∧ va_D (fun _ => True) (bornW ci h0))) (va_Qv (fun (_ : Unit) => True) (fun _ t => ∃ (a1 a2 : Nat) (d1 d2 : ClassId), va_P D vwCl (obW ci h0 a1 a2 d1 d2 (fun _ => 0) hi127 0 0) t.heap ∧ va_K D vwCl [(d1, .int), (d2, .int)] t ∧ va_D (va_A (bornW ci h0) sz) (obW ci h0 a1 a2 d1 d2 (fun _ => 0) hi127 0 0)) (va_A (bornW ci h0) sz)) 2 12 (va_A (bornW ci h0) sz)
set_option maxHeartbeats 4000000 in
set_option maxRecDepth 100000 in
theorem lpX0_init {p : Program} {l : Launch} {e : Env} {s : State} {m : MethodId} {args : Array Value} {below : List Frame} {meth : Method} {c : Code} (hx : p.tables.exec = Jvm.exec) (hb : c.code = cX0_init) (hr : meth.sig.returnType = none) (hlocks : meth.locks = false) (hml : c.maxLocals = 2) (hown : s.vm.findClass RX0 = some m.cls) (hts : ∀ w ∈ lw_all, w.before args s = true) {D : va_G} {A : Nat → Prop} {h0 a1 a2 : Nat} {d1 d2 : ClassId} (hA : ∀ q : Nat, s.heap.size ≤ q → A q) (hK : va_K D vwCl [(d1, .int), (d2, .int)] s) (V : Nat → Int32) :
    ∀ (n : Nat), n ≤ 6 → ∀ (f : Nat → Int32) (H : Heap) (locs : List Loc) (ls : Array Slot), va_P D vwCl (obW 0 h0 a1 a2 d1 d2 (fun _ => 0) f 0 0) H → va_D A (obW 0 h0 a1 a2 d1 d2 (fun _ => 0) f 0 0) → va_S A s.heap H locs → hiF n f = V → lv_has ls 2 [(0, .ref h0), (1, .int (kup6 n))] → W p l e (headSpec (ws_ yX0_init cX0_init 2 none) rmI).room s m args below meth c H locs 2 12 (Qin below args s D 0 h0 A V) (F0 m 22 ls []) := by
  intro n
  induction n with
  | zero =>
    intro hn f H locs ls hP hD hS hV hl
    refine lv_iload_n hx hb dX0_init_22 rfl (lv_at hl 1 rfl) ?_
    refine lv_bipush (v := 6) hx hb dX0_init_23 (by decide) ?_
    refine lv_icmp_ge (tgt := 42) hx hb dX0_init_25 (by decide) (fun c_1 => ?_) (fun c_1 => absurd (by decide : (6 : Int32) ≤ kup6 0) c_1)
    subst hV
    exact W.vret hx hb hr (fun t ht hW => ⟨⟨(), rfl, trivial, a1, a2, d1, d2, by rw [ht]; exact hP, va_K.moved hW.alike hK, hD⟩, hS.F ht⟩) hS.2.2 dX0_init_42 hlocks
  | succ n ih =>
    intro hn f H locs ls hP hD hS hV hl
    refine lv_iload_n hx hb dX0_init_22 rfl (lv_at hl 1 rfl) ?_
    refine lv_bipush (v := 6) hx hb dX0_init_23 (by decide) ?_
    refine lv_icmp_ge (tgt := 42) hx hb dX0_init_25 (by decide) (fun c_1 => absurd c_1 (kup6_t n hn)) (fun c_1 => ?_)
    refine lv_aload_n hx hb dX0_init_28 rfl (lv_at hl 0 rfl) ?_
    refine va_get (D := D) (ci := 0) (v := .ref a2) (C := RX0) (T := TX0) (N := 4) hx hb hts in_X0 hown hK hP 0 rfl rfl 1 (by decide) (hts _ q23) (fun _ h9 => h9) rfl dX0_init_29 ?_
    refine lv_iload_n hx hb dX0_init_32 rfl (lv_at hl 1 rfl) ?_
    refine lv_bipush (v := 127) hx hb dX0_init_33 (by decide) ?_
    refine va_iast hx hb hK hP hD hS 2 1 rfl rfl (kup6_in n hn) dX0_init_35 (fun H locs hP hD hS => ?_)
    have hP : va_P D vwCl (obW 0 h0 a1 a2 d1 d2 (fun _ => 0) (upd f (kup6 (n + 1)).toNatClampNeg 127) 0 0) H := hP
    have hD : va_D A (obW 0 h0 a1 a2 d1 d2 (fun _ => 0) (upd f (kup6 (n + 1)).toNatClampNeg 127) 0 0) := hD
    refine lv_iinc (v := kup6 n) (lv' := [(1, .int (kup6 n)), (0, .ref h0)]) hx hb dX0_init_36 hl (k := 1) rfl (kup6_s n hn) (by decide) rfl (fun ls hl => ?_)
    refine lv_goto (tgt := 22) hx hb dX0_init_39 (by decide) ?_
    exact ih (Nat.le_of_succ_le hn) _ _ _ ls hP hD hS hV (lv_sub hl [1, 0] rfl)
set_option maxHeartbeats 4000000 in
set_option maxRecDepth 100000 in
theorem meX0_init (l : Launch) (D : va_G) (h0 : Nat) : InI l yX0_init (ws_ yX0_init cX0_init 2 none) D 0 h0 := by
  intro sz
  refine Met.ofW (cc := cX0_init) (maxL := 2) (ret := none) (by decide) rfl ?_
  intro p e s m args below meth c s₁ B hml hv
  obtain ⟨rfl, hsz, hP, hK, hD0⟩ := hv
  have hx := B.exec
  have hb := B.bytes
  have hr := B.returns
  have hts := atoms_spec (ws := (ws_ yX0_init cX0_init 2 none)) B.pre
  have hts : ∀ w ∈ lw_all, w.before _ s = true := fun w h => hts w (List.mem_cons_of_mem _ h)
  have hown : s.vm.findClass RX0 = some m.cls := findClass_of_methodNamed B.named
  have hlocks := B.notSynchronized
  have hin : meth.name = "<init>" := (name_of_methodNamed B.named B.method).1
  subst hsz
  have hD := hD0.self (sz := s.heap.size)
  generalize hAe : va_A (bornW 0 h0) s.heap.size = A at hD ⊢
  have hA : ∀ q : Nat, s.heap.size ≤ q → A q := fun q h => by rw [← hAe]; exact Or.inr h
  have hS : va_S A s.heap s.heap [] := va_S.rf
  have hP : va_P D vwCl (bornW 0 h0) s.heap := hP
  have hl := lv_entry ([.ref h0]) (n := 2) (Nat.le_of_ble_eq_true rfl)
  rw [lg_entry_eq]
  generalize (lg_sl ([.ref h0]) ++ List.replicate (2 - (lg_sl ([.ref h0])).length) Slot.unset).toArray = ls at hl ⊢
  have hl : lv_has ls 2 [(0, .ref h0)] := hl
  refine lv_aload_n hx hb dX0_init_0 rfl (lv_at hl 0 rfl) ?_
  refine W.objInit hx hb hown (hts _ q19) (hts _ q20) (hts _ q21) rfl (by rw [hml]; exact hl.1) rfl dX0_init_1 (Nat.le_of_ble_eq_true rfl) (Nat.le_of_ble_eq_true rfl) ?_
  refine W.eq (g2 := F0 m 4 ls []) rfl ?_
  refine lv_aload_n hx hb dX0_init_4 rfl (lv_at hl 0 rfl) ?_
  refine lv_bipush (v := 6) hx hb dX0_init_5 (by decide) ?_
  refine va_newa (atype := .int) (ty := .int) (a0 := (6, .inl (fun _ => 0))) (N' := 6) hx hb (hts _ q35) rfl hK hP hD hS hA (fun cA => rfl) (by decide) (by decide) (by decide) (Nat.le_of_ble_eq_true rfl) (Nat.le_of_ble_eq_true rfl) dX0_init_7 (fun q1 d1 H hK hP hD hS => ?_)
  have hP : va_P D vwCl [(h0, .inr (0, [.null, .null, .int 0, .int 0])), (q1, .inl (d1, 6, .inl (fun _ => 0)))] H := hP
  have hD : va_D A [(h0, .inr (0, [.null, .null, .int 0, .int 0])), (q1, .inl (d1, 6, .inl (fun _ => 0)))] := hD
  have hK : va_K D vwCl [(d1, .int)] s := hK
  refine va_putF (D := D) (ci := 0) (v := .ref q1) (ty := .array .int) (C := RX0) (T := TX0) (N := 4) hx hb hts in_X0 tyX0 tyX0_ok nmX0 hown hK hP hD hS 0 rfl rfl 0 (by decide) (hts _ q22) (fun _ h9 => h9) rfl hin rfl (by decide +kernel) rfl rfl (Nat.le_of_ble_eq_true rfl) dX0_init_9 (fun H locs hP hD hS => ?_)
  have hP : va_P D vwCl [(h0, .inr (0, [.ref q1, .null, .int 0, .int 0])), (q1, .inl (d1, 6, .inl (fun _ => 0)))] H := hP
  have hD : va_D A [(h0, .inr (0, [.ref q1, .null, .int 0, .int 0])), (q1, .inl (d1, 6, .inl (fun _ => 0)))] := hD
  refine lv_aload_n hx hb dX0_init_12 rfl (lv_at hl 0 rfl) ?_
  refine lv_bipush (v := 6) hx hb dX0_init_13 (by decide) ?_
  refine va_newa (atype := .int) (ty := .int) (a0 := (6, .inl (fun _ => 0))) (N' := 6) hx hb (hts _ q35) rfl hK hP hD hS hA (fun cA => rfl) (by decide) (by decide) (by decide) (Nat.le_of_ble_eq_true rfl) (Nat.le_of_ble_eq_true rfl) dX0_init_15 (fun q2 d2 H hK hP hD hS => ?_)
  have hP : va_P D vwCl [(h0, .inr (0, [.ref q1, .null, .int 0, .int 0])), (q1, .inl (d1, 6, .inl (fun _ => 0))), (q2, .inl (d2, 6, .inl (fun _ => 0)))] H := hP
  have hD : va_D A [(h0, .inr (0, [.ref q1, .null, .int 0, .int 0])), (q1, .inl (d1, 6, .inl (fun _ => 0))), (q2, .inl (d2, 6, .inl (fun _ => 0)))] := hD
  have hK : va_K D vwCl [(d1, .int), (d2, .int)] s := hK
  refine va_putF (D := D) (ci := 0) (v := .ref q2) (ty := .array .int) (C := RX0) (T := TX0) (N := 4) hx hb hts in_X0 tyX0 tyX0_ok nmX0 hown hK hP hD hS 0 rfl rfl 1 (by decide) (hts _ q23) (fun _ h9 => h9) rfl hin rfl (by decide +kernel) rfl rfl (Nat.le_of_ble_eq_true rfl) dX0_init_17 (fun H locs hP hD hS => ?_)
  have hP : va_P D vwCl (obW 0 h0 q1 q2 d1 d2 (fun _ => 0) (fun _ => 0) 0 0) H := hP
  have hD : va_D A (obW 0 h0 q1 q2 d1 d2 (fun _ => 0) (fun _ => 0) 0 0) := hD
  refine W.widen (k := 2) (n := 12) (Nat.le_of_ble_eq_true rfl) (Nat.le_of_ble_eq_true rfl) ?_
  refine lv_iconst (v := 0) hx hb dX0_init_20 (by decide) ?_
  refine lv_istore_n (lv' := [(1, .int 0), (0, .ref h0)]) hx hb dX0_init_21 rfl hl (by decide) rfl (fun ls hl => ?_)
  exact lpX0_init hx hb hr hlocks hml hown hts hA hK hi127 6 (Nat.le_refl _) _ _ _ ls hP hD hS rfl (by rw [show kup6 6 = 0 from by decide]; exact lv_sub hl [1, 0] rfl)
set_option maxHeartbeats 4000000 in
set_option maxRecDepth 100000 in
theorem lpX1_init {p : Program} {l : Launch} {e : Env} {s : State} {m : MethodId} {args : Array Value} {below : List Frame} {meth : Method} {c : Code} (hx : p.tables.exec = Jvm.exec) (hb : c.code = cX1_init) (hr : meth.sig.returnType = none) (hlocks : meth.locks = false) (hml : c.maxLocals = 2) (hown : s.vm.findClass RX1 = some m.cls) (hts : ∀ w ∈ lw_all, w.before args s = true) {D : va_G} {A : Nat → Prop} {h0 a1 a2 : Nat} {d1 d2 : ClassId} (hA : ∀ q : Nat, s.heap.size ≤ q → A q) (hK : va_K D vwCl [(d1, .int), (d2, .int)] s) (V : Nat → Int32) :
    ∀ (n : Nat), n ≤ 6 → ∀ (f : Nat → Int32) (H : Heap) (locs : List Loc) (ls : Array Slot), va_P D vwCl (obW 1 h0 a1 a2 d1 d2 (fun _ => 0) f 0 0) H → va_D A (obW 1 h0 a1 a2 d1 d2 (fun _ => 0) f 0 0) → va_S A s.heap H locs → hiF n f = V → lv_has ls 2 [(0, .ref h0), (1, .int (kup6 n))] → W p l e (headSpec (ws_ yX1_init cX1_init 2 none) rmI).room s m args below meth c H locs 2 12 (Qin below args s D 1 h0 A V) (F0 m 22 ls []) := by
  intro n
  induction n with
  | zero =>
    intro hn f H locs ls hP hD hS hV hl
    refine lv_iload_n hx hb dX1_init_22 rfl (lv_at hl 1 rfl) ?_
    refine lv_bipush (v := 6) hx hb dX1_init_23 (by decide) ?_
    refine lv_icmp_ge (tgt := 42) hx hb dX1_init_25 (by decide) (fun c_1 => ?_) (fun c_1 => absurd (by decide : (6 : Int32) ≤ kup6 0) c_1)
    subst hV
    exact W.vret hx hb hr (fun t ht hW => ⟨⟨(), rfl, trivial, a1, a2, d1, d2, by rw [ht]; exact hP, va_K.moved hW.alike hK, hD⟩, hS.F ht⟩) hS.2.2 dX1_init_42 hlocks
  | succ n ih =>
    intro hn f H locs ls hP hD hS hV hl
    refine lv_iload_n hx hb dX1_init_22 rfl (lv_at hl 1 rfl) ?_
    refine lv_bipush (v := 6) hx hb dX1_init_23 (by decide) ?_
    refine lv_icmp_ge (tgt := 42) hx hb dX1_init_25 (by decide) (fun c_1 => absurd c_1 (kup6_t n hn)) (fun c_1 => ?_)
    refine lv_aload_n hx hb dX1_init_28 rfl (lv_at hl 0 rfl) ?_
    refine va_get (D := D) (ci := 1) (v := .ref a2) (C := RX1) (T := TX1) (N := 4) hx hb hts in_X1 hown hK hP 0 rfl rfl 1 (by decide) (hts _ q142) (fun _ h9 => h9) rfl dX1_init_29 ?_
    refine lv_iload_n hx hb dX1_init_32 rfl (lv_at hl 1 rfl) ?_
    refine lv_bipush (v := 127) hx hb dX1_init_33 (by decide) ?_
    refine va_iast hx hb hK hP hD hS 2 1 rfl rfl (kup6_in n hn) dX1_init_35 (fun H locs hP hD hS => ?_)
    have hP : va_P D vwCl (obW 1 h0 a1 a2 d1 d2 (fun _ => 0) (upd f (kup6 (n + 1)).toNatClampNeg 127) 0 0) H := hP
    have hD : va_D A (obW 1 h0 a1 a2 d1 d2 (fun _ => 0) (upd f (kup6 (n + 1)).toNatClampNeg 127) 0 0) := hD
    refine lv_iinc (v := kup6 n) (lv' := [(1, .int (kup6 n)), (0, .ref h0)]) hx hb dX1_init_36 hl (k := 1) rfl (kup6_s n hn) (by decide) rfl (fun ls hl => ?_)
    refine lv_goto (tgt := 22) hx hb dX1_init_39 (by decide) ?_
    exact ih (Nat.le_of_succ_le hn) _ _ _ ls hP hD hS hV (lv_sub hl [1, 0] rfl)
set_option maxHeartbeats 4000000 in
set_option maxRecDepth 100000 in
theorem meX1_init (l : Launch) (D : va_G) (h0 : Nat) : InI l yX1_init (ws_ yX1_init cX1_init 2 none) D 1 h0 := by
  intro sz
  refine Met.ofW (cc := cX1_init) (maxL := 2) (ret := none) (by decide) rfl ?_
  intro p e s m args below meth c s₁ B hml hv
  obtain ⟨rfl, hsz, hP, hK, hD0⟩ := hv
  have hx := B.exec
  have hb := B.bytes
  have hr := B.returns
  have hts := atoms_spec (ws := (ws_ yX1_init cX1_init 2 none)) B.pre
  have hts : ∀ w ∈ lw_all, w.before _ s = true := fun w h => hts w (List.mem_cons_of_mem _ h)
  have hown : s.vm.findClass RX1 = some m.cls := findClass_of_methodNamed B.named
  have hlocks := B.notSynchronized
  have hin : meth.name = "<init>" := (name_of_methodNamed B.named B.method).1
  subst hsz
  have hD := hD0.self (sz := s.heap.size)
  generalize hAe : va_A (bornW 1 h0) s.heap.size = A at hD ⊢
  have hA : ∀ q : Nat, s.heap.size ≤ q → A q := fun q h => by rw [← hAe]; exact Or.inr h
  have hS : va_S A s.heap s.heap [] := va_S.rf
  have hP : va_P D vwCl (bornW 1 h0) s.heap := hP
  have hl := lv_entry ([.ref h0]) (n := 2) (Nat.le_of_ble_eq_true rfl)
  rw [lg_entry_eq]
  generalize (lg_sl ([.ref h0]) ++ List.replicate (2 - (lg_sl ([.ref h0])).length) Slot.unset).toArray = ls at hl ⊢
  have hl : lv_has ls 2 [(0, .ref h0)] := hl
  refine lv_aload_n hx hb dX1_init_0 rfl (lv_at hl 0 rfl) ?_
  refine W.objInit hx hb hown (hts _ q140) (hts _ q20) (hts _ q21) rfl (by rw [hml]; exact hl.1) rfl dX1_init_1 (Nat.le_of_ble_eq_true rfl) (Nat.le_of_ble_eq_true rfl) ?_
  refine W.eq (g2 := F0 m 4 ls []) rfl ?_
  refine lv_aload_n hx hb dX1_init_4 rfl (lv_at hl 0 rfl) ?_
  refine lv_bipush (v := 6) hx hb dX1_init_5 (by decide) ?_
  refine va_newa (atype := .int) (ty := .int) (a0 := (6, .inl (fun _ => 0))) (N' := 6) hx hb (hts _ q35) rfl hK hP hD hS hA (fun cA => rfl) (by decide) (by decide) (by decide) (Nat.le_of_ble_eq_true rfl) (Nat.le_of_ble_eq_true rfl) dX1_init_7 (fun q1 d1 H hK hP hD hS => ?_)
  have hP : va_P D vwCl [(h0, .inr (1, [.null, .null, .int 0, .int 0])), (q1, .inl (d1, 6, .inl (fun _ => 0)))] H := hP
  have hD : va_D A [(h0, .inr (1, [.null, .null, .int 0, .int 0])), (q1, .inl (d1, 6, .inl (fun _ => 0)))] := hD
  have hK : va_K D vwCl [(d1, .int)] s := hK
  refine va_putF (D := D) (ci := 1) (v := .ref q1) (ty := .array .int) (C := RX1) (T := TX1) (N := 4) hx hb hts in_X1 tyX1 tyX1_ok nmX1 hown hK hP hD hS 0 rfl rfl 0 (by decide) (hts _ q141) (fun _ h9 => h9) rfl hin rfl (by decide +kernel) rfl rfl (Nat.le_of_ble_eq_true rfl) dX1_init_9 (fun H locs hP hD hS => ?_)
  have hP : va_P D vwCl [(h0, .inr (1, [.ref q1, .null, .int 0, .int 0])), (q1, .inl (d1, 6, .inl (fun _ => 0)))] H := hP
  have hD : va_D A [(h0, .inr (1, [.ref q1, .null, .int 0, .int 0])), (q1, .inl (d1, 6, .inl (fun _ => 0)))] := hD
  refine lv_aload_n hx hb dX1_init_12 rfl (lv_at hl 0 rfl) ?_
  refine lv_bipush (v := 6) hx hb dX1_init_13 (by decide) ?_
  refine va_newa (atype := .int) (ty := .int) (a0 := (6, .inl (fun _ => 0))) (N' := 6) hx hb (hts _ q35) rfl hK hP hD hS hA (fun cA => rfl) (by decide) (by decide) (by decide) (Nat.le_of_ble_eq_true rfl) (Nat.le_of_ble_eq_true rfl) dX1_init_15 (fun q2 d2 H hK hP hD hS => ?_)
  have hP : va_P D vwCl [(h0, .inr (1, [.ref q1, .null, .int 0, .int 0])), (q1, .inl (d1, 6, .inl (fun _ => 0))), (q2, .inl (d2, 6, .inl (fun _ => 0)))] H := hP
  have hD : va_D A [(h0, .inr (1, [.ref q1, .null, .int 0, .int 0])), (q1, .inl (d1, 6, .inl (fun _ => 0))), (q2, .inl (d2, 6, .inl (fun _ => 0)))] := hD
  have hK : va_K D vwCl [(d1, .int), (d2, .int)] s := hK
  refine va_putF (D := D) (ci := 1) (v := .ref q2) (ty := .array .int) (C := RX1) (T := TX1) (N := 4) hx hb hts in_X1 tyX1 tyX1_ok nmX1 hown hK hP hD hS 0 rfl rfl 1 (by decide) (hts _ q142) (fun _ h9 => h9) rfl hin rfl (by decide +kernel) rfl rfl (Nat.le_of_ble_eq_true rfl) dX1_init_17 (fun H locs hP hD hS => ?_)
  have hP : va_P D vwCl (obW 1 h0 q1 q2 d1 d2 (fun _ => 0) (fun _ => 0) 0 0) H := hP
  have hD : va_D A (obW 1 h0 q1 q2 d1 d2 (fun _ => 0) (fun _ => 0) 0 0) := hD
  refine W.widen (k := 2) (n := 12) (Nat.le_of_ble_eq_true rfl) (Nat.le_of_ble_eq_true rfl) ?_
  refine lv_iconst (v := 0) hx hb dX1_init_20 (by decide) ?_
  refine lv_istore_n (lv' := [(1, .int 0), (0, .ref h0)]) hx hb dX1_init_21 rfl hl (by decide) rfl (fun ls hl => ?_)
  exact lpX1_init hx hb hr hlocks hml hown hts hA hK hi127 6 (Nat.le_refl _) _ _ _ ls hP hD hS rfl (by rw [show kup6 6 = 0 from by decide]; exact lv_sub hl [1, 0] rfl)
end
section
/-! the start agrees -/
theorem agree_0 : Agree (fun _ => 0) hi127 (fun _ => 0) hi127 := fun j hj => ⟨0, 127, by decide, by decide, rfl, hi127_at j hj, rfl, hi127_at j hj⟩
end
section
/-! THE CLAIM OUT OF ONE WALK OF THE LAW'S BODY. Your part is whole_start (and what it stands on); all else here is the same for every law, but numbers. -/
def R_law : String := "TightRangeLaw"
def lw_P (b : Addr) (xs : List Int32) (args : Array Value) (s : State) : Prop := args = #[.ref b] ∧ s.IntsAt b xs ∧ xs.length ≤ 320 ∧ (Jvm.Cond.and given_1 narrow_1).before args s = true
def lw_Q (_ : Array Value) (s : State) (o : Outcome) (t : State) : Prop := o = .returned (some (.int 1)) ∧ Framed s o t [] 600000 7290000
def lw_Z (below : List Frame) (a : Array Value) (s : State) : State → Prop := fun t => ∃ o, t.status = .running ∧ Ended t below o ∧ lw_Q a s o t
/-- the law's own end, with 1 on the stack, nothing written that was there before, its room as the claim has it -/
theorem lw_ret {p : Program} {l : Launch} {e : Env} {s : State} {m : MethodId} {below : List Frame} {meth : Method} {c : Code} {b : Nat} (hx : p.tables.exec = Jvm.exec) (hb : c.code = code) (hr : meth.sig.returnType = ret) (hlocks : meth.locks = false) {pc : Nat} {H : Heap} {ls : Array Slot} (hdg : decode code pc = .ok (.ireturn, 1)) : W p l e room_1 s m #[Value.ref b] below meth c H [] 600000 7290000 (lw_Z below #[Value.ref b] s) (F0 m pc ls [.int 1]) := by
  intro T hT X
  obtain ⟨fs, hret, hrun, hended, hW, hframe⟩ := X.leave (v := some (.int 1)) (hlocks := hlocks) (fun h => by rw [hr] at h; cases h)
  have hmeth' : T.vm.method? m = some meth := X.method'
  refine ⟨T.setFrames fs, ?_, .returned (some (.int 1)), hrun, hended, rfl, ⟨_, rfl⟩, hW, hframe⟩
  jvm_step X.here [X.here.top, hx, hb, hdg, hmeth', hr, ret, narrow_b1]
  (try refine ⟨rfl, ?_⟩); (try refine ⟨rfl, ?_⟩)
  first | (intro acts; rw [hret _ acts rfl rfl rfl]) | rw [hret _ _ rfl rfl rfl]
  exact Steps.refl _
/-- what holds at the law's entry: the machine, the code, the tables' words (any of lw_tbl by 'hts w (by decide +kernel)'), the script of L ints xs at the cell b, what the Statement gives of the start (any of its parts by flat_of_before) -/
def lw_At (p : Program) (s : State) (m : MethodId) (meth : Method) (c : Code) (b L : Nat) (xs : Nat → Int32) : Prop :=
  p.tables.exec = Jvm.exec ∧ c.code = code ∧ meth.sig.returnType = ret ∧ c.maxLocals = 4 ∧ s.vm.findClass R_law = some m.cls ∧ (∀ w ∈ lw_tbl, w.before #[Value.ref b] s = true) ∧ va_X b L xs s s.heap ∧ b < s.heap.size ∧ meth.locks = false ∧ (Jvm.Cond.and given_1 narrow_1).before #[Value.ref b] s = true
end
section
theorem nI_inc5 (i : Nat) : nI i + Int32.ofInt 5 = nI (i + 5) := nI_add i 5
theorem nI_k (i k : Nat) : nI i + nI k = nI (i + k) := nI_add i k
theorem law_go {L i : Nat} (hL : L ≤ 320) (hi : i ≤ L) (h : ¬ (Int32.ofNat L - 5) < nI i) : i + 5 ≤ L := by
  have h1 : (Int32.ofNat L - 5).toInt = (L : Int) - 5 := pk_sub_toInt (a := L) (b := 5) (by omega) (by decide)
  have h2 : (nI i).toInt = (i : Int) := nI_toInt (by omega)
  rw [Int32.lt_iff_toInt_lt, h1, h2] at h
  omega
set_option maxHeartbeats 8000000 in
set_option maxRecDepth 100000 in
/-- THE LAW'S LOOP -/
theorem law_loop {p : Program} {l : Launch} {e : Env} {s : State} {m : MethodId} {below : List Frame} {meth : Method} {c : Code} {D : va_G} {b L : Nat} {xs : Nat → Int32} {hX hM a1 a2 b1 b2 : Nat} {d1 d2 e1 e2 : ClassId} (hL : L ≤ 320) (C0 : lw_At p s m meth c b L xs) (hK : va_K D vwCl [(d1, .int), (d2, .int), (e1, .int), (e2, .int)] s) :
    ∀ (n i : Nat) (lo hi lo' hi' : Nat → Int32) (x y x' y' : Int32) (H : Heap) (locs : List Loc) (ls : Array Slot), i ≤ L → L + 1 ≤ i + n → Agree lo hi lo' hi' → va_P D vwCl ((obW 0 hX a1 a2 d1 d2 lo hi x y) ++ (obW 1 hM b1 b2 e1 e2 lo' hi' x' y')) H → va_D (fun q : Nat => s.heap.size ≤ q) ((obW 0 hX a1 a2 d1 d2 lo hi x y) ++ (obW 1 hM b1 b2 e1 e2 lo' hi' x' y')) → va_S (fun q : Nat => s.heap.size ≤ q) s.heap H locs → lv_has ls 4 [(0, .ref b), (1, .ref hX), (2, .ref hM), (3, .int (nI i))] → W p l e room_1 s m #[Value.ref b] below meth c H locs 600000 7290000 (lw_Z below #[Value.ref b] s) (F0 m 18 ls []) := by
  obtain ⟨hx, hb, hr, hml, hown, hts0, hXs, hbl, hlocks, hgv⟩ := C0
  have hts : ∀ w ∈ lw_all, w.before #[Value.ref b] s = true := fun w h => hts0 w (lw_all_tbl h)
  have hA : ∀ q : Nat, s.heap.size ≤ q → (fun q : Nat => s.heap.size ≤ q) q := fun _ h => h
  have hbA : ¬ (fun q : Nat => s.heap.size ≤ q) b := Nat.not_le.mpr hbl
  have hKx : va_K D vwCl [(d1, .int), (d2, .int)] s := hK.sub [0, 1] rfl
  have hKm : va_K D vwCl [(e1, .int), (e2, .int)] s := hK.sub [2, 3] rfl
  intro n
  induction n with
  | zero =>
    intro i lo hi lo' hi' x y x' y' H locs ls h1 h2
    exact absurd h2 (by omega)
  | succ n ih =>
    intro i lo hi lo' hi' x y x' y' H locs ls hi0 hin hAg hP hD hS hl
    refine lv_iload_n hx hb dL_law_18 rfl (lv_at hl 3 rfl) ?_
    refine lv_aload_n hx hb dL_law_19 rfl (lv_at hl 0 rfl) ?_
    refine va_slen hx hb hXs hbl hbA hS dL_law_20 ?_
    refine lv_iconst (v := 5) hx hb dL_law_21 (by decide) ?_
    refine lv_isub hx hb dL_law_22 ?_
    refine lv_icmp_gt (tgt := 333) hx hb dL_law_23 (by decide) (fun c_1 => ?_) (fun c_1 => ?_)
    · refine lv_iconst (v := 1) hx hb dL_law_333 (by decide) ?_
      refine va_forget (fun q hq => hS.2.2 q hq) ?_
      exact lw_ret hx hb hr hlocks dL_law_334
    · have hgo : i + 5 ≤ L := law_go hL hi0 c_1
      have hin0 : vp_in (nI i) L := vp_in_nI (by omega) (by omega)
      have hin1 : vp_in (nI i + 1) L := by rw [show nI i + 1 = nI (i + 1) from nI_k i 1]; exact vp_in_nI (by omega) (by omega)
      have hin2 : vp_in (nI i + 2) L := by rw [show nI i + 2 = nI (i + 2) from nI_k i 2]; exact vp_in_nI (by omega) (by omega)
      have hin3 : vp_in (nI i + 3) L := by rw [show nI i + 3 = nI (i + 3) from nI_k i 3]; exact vp_in_nI (by omega) (by omega)
      have hin4 : vp_in (nI i + 4) L := by rw [show nI i + 4 = nI (i + 4) from nI_k i 4]; exact vp_in_nI (by omega) (by omega)
      refine lv_aload_n hx hb dL_law_26 rfl (lv_at hl 0 rfl) ?_
      refine lv_iload_n hx hb dL_law_27 rfl (lv_at hl 3 rfl) ?_
      refine va_sld hx hb hXs hbl hbA hS hin0 dL_law_28 ?_
      refine lv_bipush (v := 7) hx hb dL_law_29 (by decide) ?_
      refine lv_iand hx hb dL_law_31 ?_
      obtain ⟨k, hk, ek⟩ := pk_andE (xs (nI i).toNatClampNeg) (m := 7) 3 (by decide)
      rw [ek]
      have hk : k < 8 := hk
      rcases (show k = 0 ∨ k = 1 ∨ k = 2 ∨ k = 3 ∨ k = 4 ∨ k = 5 ∨ k = 6 ∨ k = 7 by omega) with rfl | rfl | rfl | rfl | rfl | rfl | rfl | rfl
      · refine lv_tableIn (off := 44) (tgt := 76) hx hb dL_law_32 (by decide) (by decide) (by decide) (by decide) ?_
        refine lv_aload_n hx hb dL_law_76 rfl (lv_at hl 1 rfl) ?_
        refine lv_aload_n hx hb dL_law_77 rfl (lv_at hl 0 rfl) ?_
        refine lv_iload_n hx hb dL_law_78 rfl (lv_at hl 3 rfl) ?_
        refine lv_iconst (v := 1) hx hb dL_law_79 (by decide) ?_
        refine lv_iadd hx hb dL_law_80 ?_
        refine va_sld hx hb hXs hbl hbA hS hin1 dL_law_81 ?_
        refine lv_aload_n hx hb dL_law_82 rfl (lv_at hl 0 rfl) ?_
        refine lv_iload_n hx hb dL_law_83 rfl (lv_at hl 3 rfl) ?_
        refine lv_iconst (v := 2) hx hb dL_law_84 (by decide) ?_
        refine lv_iadd hx hb dL_law_85 ?_
        refine va_sld hx hb hXs hbl hbA hS hin2 dL_law_86 ?_
        refine lv_aload_n hx hb dL_law_87 rfl (lv_at hl 0 rfl) ?_
        refine lv_iload_n hx hb dL_law_88 rfl (lv_at hl 3 rfl) ?_
        refine lv_iconst (v := 3) hx hb dL_law_89 (by decide) ?_
        refine lv_iadd hx hb dL_law_90 ?_
        refine va_sld hx hb hXs hbl hbA hS hin3 dL_law_91 ?_
        refine ob_calli (ws := ((obW 0 hX a1 a2 d1 d2 lo hi x y) ++ (obW 1 hM b1 b2 e1 e2 lo' hi' x' y'))) (wr := (obW 1 hM b1 b2 e1 e2 lo' hi' x' y')) (rest := []) (As := [.int (xs (nI i + 1).toNatClampNeg), .int (xs (nI i + 2).toNatClampNeg), .int (xs (nI i + 3).toNatClampNeg)]) ⟨hx, hb, hml, hown, hts⟩ (meX0_set l D hX a1 a2 d1 d2 (xs (nI i + 1).toNatClampNeg) (xs (nI i + 2).toNatClampNeg) (xs (nI i + 3).toNatClampNeg) lo hi x y) (cwV 3 hts (lw_V q36 q37 q38 q12 q39) rfl rfl rfl (by decide +kernel) ⟨Nat.le_of_ble_eq_true rfl, Nat.le_of_ble_eq_true rfl⟩) (show vwCl[0]? = some (RX0, TX0, 4) from rfl) rfl hl.1 rfl (Nat.le_of_ble_eq_true rfl) dL_law_92 ⟨Nat.le_refl _, Nat.le_refl _⟩ hKx hP hD hS hA [0, 1, 2] [3, 4, 5] rfl rfl (by decide) (by decide) (by decide) (fun H locs hP hD hS => ?_)
        have hP : va_P D vwCl ((obW 1 hM b1 b2 e1 e2 lo' hi' x' y') ++ (obW 0 hX a1 a2 d1 d2 (fX0_set (xs (nI i + 1).toNatClampNeg) (xs (nI i + 2).toNatClampNeg) (xs (nI i + 3).toNatClampNeg) lo hi x y).2.1 (fX0_set (xs (nI i + 1).toNatClampNeg) (xs (nI i + 2).toNatClampNeg) (xs (nI i + 3).toNatClampNeg) lo hi x y).2.2.1 (fX0_set (xs (nI i + 1).toNatClampNeg) (xs (nI i + 2).toNatClampNeg) (xs (nI i + 3).toNatClampNeg) lo hi x y).2.2.2.1 (fX0_set (xs (nI i + 1).toNatClampNeg) (xs (nI i + 2).toNatClampNeg) (xs (nI i + 3).toNatClampNeg) lo hi x y).2.2.2.2)) H := hP
        have hD : va_D (fun q : Nat => s.heap.size ≤ q) ((obW 1 hM b1 b2 e1 e2 lo' hi' x' y') ++ (obW 0 hX a1 a2 d1 d2 (fX0_set (xs (nI i + 1).toNatClampNeg) (xs (nI i + 2).toNatClampNeg) (xs (nI i + 3).toNatClampNeg) lo hi x y).2.1 (fX0_set (xs (nI i + 1).toNatClampNeg) (xs (nI i + 2).toNatClampNeg) (xs (nI i + 3).toNatClampNeg) lo hi x y).2.2.1 (fX0_set (xs (nI i + 1).toNatClampNeg) (xs (nI i + 2).toNatClampNeg) (xs (nI i + 3).toNatClampNeg) lo hi x y).2.2.2.1 (fX0_set (xs (nI i + 1).toNatClampNeg) (xs (nI i + 2).toNatClampNeg) (xs (nI i + 3).toNatClampNeg) lo hi x y).2.2.2.2)) := hD
        refine lv_aload_n hx hb dL_law_95 rfl (lv_at hl 2 rfl) ?_
        refine lv_aload_n hx hb dL_law_96 rfl (lv_at hl 0 rfl) ?_
        refine lv_iload_n hx hb dL_law_97 rfl (lv_at hl 3 rfl) ?_
        refine lv_iconst (v := 1) hx hb dL_law_98 (by decide) ?_
        refine lv_iadd hx hb dL_law_99 ?_
        refine va_sld hx hb hXs hbl hbA hS hin1 dL_law_100 ?_
        refine lv_aload_n hx hb dL_law_101 rfl (lv_at hl 0 rfl) ?_
        refine lv_iload_n hx hb dL_law_102 rfl (lv_at hl 3 rfl) ?_
        refine lv_iconst (v := 2) hx hb dL_law_103 (by decide) ?_
        refine lv_iadd hx hb dL_law_104 ?_
        refine va_sld hx hb hXs hbl hbA hS hin2 dL_law_105 ?_
        refine lv_aload_n hx hb dL_law_106 rfl (lv_at hl 0 rfl) ?_
        refine lv_iload_n hx hb dL_law_107 rfl (lv_at hl 3 rfl) ?_
        refine lv_iconst (v := 3) hx hb dL_law_108 (by decide) ?_
        refine lv_iadd hx hb dL_law_109 ?_
        refine va_sld hx hb hXs hbl hbA hS hin3 dL_law_110 ?_
        refine ob_calli (ws := ((obW 1 hM b1 b2 e1 e2 lo' hi' x' y') ++ (obW 0 hX a1 a2 d1 d2 (fX0_set (xs (nI i + 1).toNatClampNeg) (xs (nI i + 2).toNatClampNeg) (xs (nI i + 3).toNatClampNeg) lo hi x y).2.1 (fX0_set (xs (nI i + 1).toNatClampNeg) (xs (nI i + 2).toNatClampNeg) (xs (nI i + 3).toNatClampNeg) lo hi x y).2.2.1 (fX0_set (xs (nI i + 1).toNatClampNeg) (xs (nI i + 2).toNatClampNeg) (xs (nI i + 3).toNatClampNeg) lo hi x y).2.2.2.1 (fX0_set (xs (nI i + 1).toNatClampNeg) (xs (nI i + 2).toNatClampNeg) (xs (nI i + 3).toNatClampNeg) lo hi x y).2.2.2.2))) (wr := (obW 0 hX a1 a2 d1 d2 (fX0_set (xs (nI i + 1).toNatClampNeg) (xs (nI i + 2).toNatClampNeg) (xs (nI i + 3).toNatClampNeg) lo hi x y).2.1 (fX0_set (xs (nI i + 1).toNatClampNeg) (xs (nI i + 2).toNatClampNeg) (xs (nI i + 3).toNatClampNeg) lo hi x y).2.2.1 (fX0_set (xs (nI i + 1).toNatClampNeg) (xs (nI i + 2).toNatClampNeg) (xs (nI i + 3).toNatClampNeg) lo hi x y).2.2.2.1 (fX0_set (xs (nI i + 1).toNatClampNeg) (xs (nI i + 2).toNatClampNeg) (xs (nI i + 3).toNatClampNeg) lo hi x y).2.2.2.2)) (rest := [.int ((fX0_set (xs (nI i + 1).toNatClampNeg) (xs (nI i + 2).toNatClampNeg) (xs (nI i + 3).toNatClampNeg) lo hi x y).1)]) (As := [.int (xs (nI i + 1).toNatClampNeg), .int (xs (nI i + 2).toNatClampNeg), .int (xs (nI i + 3).toNatClampNeg)]) ⟨hx, hb, hml, hown, hts⟩ (meX1_set l D hM b1 b2 e1 e2 (xs (nI i + 1).toNatClampNeg) (xs (nI i + 2).toNatClampNeg) (xs (nI i + 3).toNatClampNeg) lo' hi' x' y') (cwV 3 hts (lw_V q154 q155 q156 q13 q157) rfl rfl rfl (by decide +kernel) ⟨Nat.le_of_ble_eq_true rfl, Nat.le_of_ble_eq_true rfl⟩) (show vwCl[1]? = some (RX1, TX1, 4) from rfl) rfl hl.1 rfl (Nat.le_of_ble_eq_true rfl) dL_law_111 ⟨Nat.le_refl _, Nat.le_refl _⟩ hKm hP hD hS hA [0, 1, 2] [3, 4, 5] rfl rfl (by decide) (by decide) (by decide) (fun H locs hP hD hS => ?_)
        have hP : va_P D vwCl ((obW 0 hX a1 a2 d1 d2 (fX0_set (xs (nI i + 1).toNatClampNeg) (xs (nI i + 2).toNatClampNeg) (xs (nI i + 3).toNatClampNeg) lo hi x y).2.1 (fX0_set (xs (nI i + 1).toNatClampNeg) (xs (nI i + 2).toNatClampNeg) (xs (nI i + 3).toNatClampNeg) lo hi x y).2.2.1 (fX0_set (xs (nI i + 1).toNatClampNeg) (xs (nI i + 2).toNatClampNeg) (xs (nI i + 3).toNatClampNeg) lo hi x y).2.2.2.1 (fX0_set (xs (nI i + 1).toNatClampNeg) (xs (nI i + 2).toNatClampNeg) (xs (nI i + 3).toNatClampNeg) lo hi x y).2.2.2.2) ++ (obW 1 hM b1 b2 e1 e2 (fX1_set (xs (nI i + 1).toNatClampNeg) (xs (nI i + 2).toNatClampNeg) (xs (nI i + 3).toNatClampNeg) lo' hi' x' y').2.1 (fX1_set (xs (nI i + 1).toNatClampNeg) (xs (nI i + 2).toNatClampNeg) (xs (nI i + 3).toNatClampNeg) lo' hi' x' y').2.2.1 (fX1_set (xs (nI i + 1).toNatClampNeg) (xs (nI i + 2).toNatClampNeg) (xs (nI i + 3).toNatClampNeg) lo' hi' x' y').2.2.2.1 (fX1_set (xs (nI i + 1).toNatClampNeg) (xs (nI i + 2).toNatClampNeg) (xs (nI i + 3).toNatClampNeg) lo' hi' x' y').2.2.2.2)) H := hP
        have hD : va_D (fun q : Nat => s.heap.size ≤ q) ((obW 0 hX a1 a2 d1 d2 (fX0_set (xs (nI i + 1).toNatClampNeg) (xs (nI i + 2).toNatClampNeg) (xs (nI i + 3).toNatClampNeg) lo hi x y).2.1 (fX0_set (xs (nI i + 1).toNatClampNeg) (xs (nI i + 2).toNatClampNeg) (xs (nI i + 3).toNatClampNeg) lo hi x y).2.2.1 (fX0_set (xs (nI i + 1).toNatClampNeg) (xs (nI i + 2).toNatClampNeg) (xs (nI i + 3).toNatClampNeg) lo hi x y).2.2.2.1 (fX0_set (xs (nI i + 1).toNatClampNeg) (xs (nI i + 2).toNatClampNeg) (xs (nI i + 3).toNatClampNeg) lo hi x y).2.2.2.2) ++ (obW 1 hM b1 b2 e1 e2 (fX1_set (xs (nI i + 1).toNatClampNeg) (xs (nI i + 2).toNatClampNeg) (xs (nI i + 3).toNatClampNeg) lo' hi' x' y').2.1 (fX1_set (xs (nI i + 1).toNatClampNeg) (xs (nI i + 2).toNatClampNeg) (xs (nI i + 3).toNatClampNeg) lo' hi' x' y').2.2.1 (fX1_set (xs (nI i + 1).toNatClampNeg) (xs (nI i + 2).toNatClampNeg) (xs (nI i + 3).toNatClampNeg) lo' hi' x' y').2.2.2.1 (fX1_set (xs (nI i + 1).toNatClampNeg) (xs (nI i + 2).toNatClampNeg) (xs (nI i + 3).toNatClampNeg) lo' hi' x' y').2.2.2.2)) := hD
        have hst := st_set hAg (xs (nI i + 1).toNatClampNeg) (xs (nI i + 2).toNatClampNeg) (xs (nI i + 3).toNatClampNeg) x y x' y'
        refine lv_icmp_eq (tgt := 327) hx hb dL_law_114 (by decide) (fun c_9 => ?_) (fun c_9 => absurd hst.1 c_9)
        refine lv_iinc (v := nI (i + 5)) (lv' := [(3, .int (nI (i + 5))), (0, .ref b), (1, .ref hX), (2, .ref hM)]) hx hb dL_law_327 hl (k := 3) rfl (nI_inc5 i) (by decide) rfl (fun ls hl => ?_)
        refine lv_goto (tgt := 18) hx hb dL_law_330 (by decide) ?_
        exact ih (i + 5) _ _ _ _ _ _ _ _ _ _ ls (by omega) (by omega) hst.2 hP hD hS (lv_sub hl [1, 2, 3, 0] rfl)
      · refine lv_tableIn (off := 87) (tgt := 119) hx hb dL_law_32 (by decide) (by decide) (by decide) (by decide) ?_
        obtain ⟨ka, kb, hab, h31, eX1, eX2, eM1, eM2⟩ := agree_at hAg (xs (nI i + 3).toNatClampNeg)
        obtain ⟨k1, k2, h12, h312, fX1, fX2, fM1, fM2⟩ := agree_at hAg (xs (nI i + 4).toNatClampNeg)
        refine lv_aload_n hx hb dL_law_119 rfl (lv_at hl 1 rfl) ?_
        refine lv_aload_n hx hb dL_law_120 rfl (lv_at hl 0 rfl) ?_
        refine lv_iload_n hx hb dL_law_121 rfl (lv_at hl 3 rfl) ?_
        refine lv_iconst (v := 1) hx hb dL_law_122 (by decide) ?_
        refine lv_iadd hx hb dL_law_123 ?_
        refine va_sld hx hb hXs hbl hbA hS hin1 dL_law_124 ?_
        refine lv_aload_n hx hb dL_law_125 rfl (lv_at hl 0 rfl) ?_
        refine lv_iload_n hx hb dL_law_126 rfl (lv_at hl 3 rfl) ?_
        refine lv_iconst (v := 2) hx hb dL_law_127 (by decide) ?_
        refine lv_iadd hx hb dL_law_128 ?_
        refine va_sld hx hb hXs hbl hbA hS hin2 dL_law_129 ?_
        refine lv_aload_n hx hb dL_law_130 rfl (lv_at hl 0 rfl) ?_
        refine lv_iload_n hx hb dL_law_131 rfl (lv_at hl 3 rfl) ?_
        refine lv_iconst (v := 3) hx hb dL_law_132 (by decide) ?_
        refine lv_iadd hx hb dL_law_133 ?_
        refine va_sld hx hb hXs hbl hbA hS hin3 dL_law_134 ?_
        refine lv_aload_n hx hb dL_law_135 rfl (lv_at hl 0 rfl) ?_
        refine lv_iload_n hx hb dL_law_136 rfl (lv_at hl 3 rfl) ?_
        refine lv_iconst (v := 4) hx hb dL_law_137 (by decide) ?_
        refine lv_iadd hx hb dL_law_138 ?_
        refine va_sld hx hb hXs hbl hbA hS hin4 dL_law_139 ?_
        refine ob_calli (ws := ((obW 0 hX a1 a2 d1 d2 lo hi x y) ++ (obW 1 hM b1 b2 e1 e2 lo' hi' x' y'))) (wr := (obW 1 hM b1 b2 e1 e2 lo' hi' x' y')) (rest := []) (As := [.int (xs (nI i + 1).toNatClampNeg), .int (xs (nI i + 2).toNatClampNeg), .int (xs (nI i + 3).toNatClampNeg), .int (xs (nI i + 4).toNatClampNeg)]) ⟨hx, hb, hml, hown, hts⟩ (meX0_combine l D hX a1 a2 d1 d2 (xs (nI i + 1).toNatClampNeg) (xs (nI i + 2).toNatClampNeg) (xs (nI i + 3).toNatClampNeg) (xs (nI i + 4).toNatClampNeg) lo hi x y) (cwV 4 hts (lw_V q43 q44 q45 q12 q46) rfl rfl rfl (by decide +kernel) ⟨Nat.le_of_ble_eq_true rfl, Nat.le_of_ble_eq_true rfl⟩) (show vwCl[0]? = some (RX0, TX0, 4) from rfl) rfl hl.1 rfl (Nat.le_of_ble_eq_true rfl) dL_law_140 ⟨Nat.le_refl _, Nat.le_refl _⟩ hKx hP hD hS hA [0, 1, 2] [3, 4, 5] rfl rfl (by decide) (by decide) (by decide) (fun H locs hP hD hS => ?_)
        have hP : va_P D vwCl ((obW 1 hM b1 b2 e1 e2 lo' hi' x' y') ++ (obW 0 hX a1 a2 d1 d2 (fX0_combine (xs (nI i + 1).toNatClampNeg) (xs (nI i + 2).toNatClampNeg) (xs (nI i + 3).toNatClampNeg) (xs (nI i + 4).toNatClampNeg) lo hi x y).2.1 (fX0_combine (xs (nI i + 1).toNatClampNeg) (xs (nI i + 2).toNatClampNeg) (xs (nI i + 3).toNatClampNeg) (xs (nI i + 4).toNatClampNeg) lo hi x y).2.2.1 (fX0_combine (xs (nI i + 1).toNatClampNeg) (xs (nI i + 2).toNatClampNeg) (xs (nI i + 3).toNatClampNeg) (xs (nI i + 4).toNatClampNeg) lo hi x y).2.2.2.1 (fX0_combine (xs (nI i + 1).toNatClampNeg) (xs (nI i + 2).toNatClampNeg) (xs (nI i + 3).toNatClampNeg) (xs (nI i + 4).toNatClampNeg) lo hi x y).2.2.2.2)) H := hP
        have hD : va_D (fun q : Nat => s.heap.size ≤ q) ((obW 1 hM b1 b2 e1 e2 lo' hi' x' y') ++ (obW 0 hX a1 a2 d1 d2 (fX0_combine (xs (nI i + 1).toNatClampNeg) (xs (nI i + 2).toNatClampNeg) (xs (nI i + 3).toNatClampNeg) (xs (nI i + 4).toNatClampNeg) lo hi x y).2.1 (fX0_combine (xs (nI i + 1).toNatClampNeg) (xs (nI i + 2).toNatClampNeg) (xs (nI i + 3).toNatClampNeg) (xs (nI i + 4).toNatClampNeg) lo hi x y).2.2.1 (fX0_combine (xs (nI i + 1).toNatClampNeg) (xs (nI i + 2).toNatClampNeg) (xs (nI i + 3).toNatClampNeg) (xs (nI i + 4).toNatClampNeg) lo hi x y).2.2.2.1 (fX0_combine (xs (nI i + 1).toNatClampNeg) (xs (nI i + 2).toNatClampNeg) (xs (nI i + 3).toNatClampNeg) (xs (nI i + 4).toNatClampNeg) lo hi x y).2.2.2.2)) := hD
        refine lv_aload_n hx hb dL_law_143 rfl (lv_at hl 2 rfl) ?_
        refine lv_aload_n hx hb dL_law_144 rfl (lv_at hl 0 rfl) ?_
        refine lv_iload_n hx hb dL_law_145 rfl (lv_at hl 3 rfl) ?_
        refine lv_iconst (v := 1) hx hb dL_law_146 (by decide) ?_
        refine lv_iadd hx hb dL_law_147 ?_
        refine va_sld hx hb hXs hbl hbA hS hin1 dL_law_148 ?_
        refine lv_aload_n hx hb dL_law_149 rfl (lv_at hl 0 rfl) ?_
        refine lv_iload_n hx hb dL_law_150 rfl (lv_at hl 3 rfl) ?_
        refine lv_iconst (v := 2) hx hb dL_law_151 (by decide) ?_
        refine lv_iadd hx hb dL_law_152 ?_
        refine va_sld hx hb hXs hbl hbA hS hin2 dL_law_153 ?_
        refine lv_aload_n hx hb dL_law_154 rfl (lv_at hl 0 rfl) ?_
        refine lv_iload_n hx hb dL_law_155 rfl (lv_at hl 3 rfl) ?_
        refine lv_iconst (v := 3) hx hb dL_law_156 (by decide) ?_
        refine lv_iadd hx hb dL_law_157 ?_
        refine va_sld hx hb hXs hbl hbA hS hin3 dL_law_158 ?_
        refine lv_aload_n hx hb dL_law_159 rfl (lv_at hl 0 rfl) ?_
        refine lv_iload_n hx hb dL_law_160 rfl (lv_at hl 3 rfl) ?_
        refine lv_iconst (v := 4) hx hb dL_law_161 (by decide) ?_
        refine lv_iadd hx hb dL_law_162 ?_
        refine va_sld hx hb hXs hbl hbA hS hin4 dL_law_163 ?_
        refine ob_calli (ws := ((obW 1 hM b1 b2 e1 e2 lo' hi' x' y') ++ (obW 0 hX a1 a2 d1 d2 (fX0_combine (xs (nI i + 1).toNatClampNeg) (xs (nI i + 2).toNatClampNeg) (xs (nI i + 3).toNatClampNeg) (xs (nI i + 4).toNatClampNeg) lo hi x y).2.1 (fX0_combine (xs (nI i + 1).toNatClampNeg) (xs (nI i + 2).toNatClampNeg) (xs (nI i + 3).toNatClampNeg) (xs (nI i + 4).toNatClampNeg) lo hi x y).2.2.1 (fX0_combine (xs (nI i + 1).toNatClampNeg) (xs (nI i + 2).toNatClampNeg) (xs (nI i + 3).toNatClampNeg) (xs (nI i + 4).toNatClampNeg) lo hi x y).2.2.2.1 (fX0_combine (xs (nI i + 1).toNatClampNeg) (xs (nI i + 2).toNatClampNeg) (xs (nI i + 3).toNatClampNeg) (xs (nI i + 4).toNatClampNeg) lo hi x y).2.2.2.2))) (wr := (obW 0 hX a1 a2 d1 d2 (fX0_combine (xs (nI i + 1).toNatClampNeg) (xs (nI i + 2).toNatClampNeg) (xs (nI i + 3).toNatClampNeg) (xs (nI i + 4).toNatClampNeg) lo hi x y).2.1 (fX0_combine (xs (nI i + 1).toNatClampNeg) (xs (nI i + 2).toNatClampNeg) (xs (nI i + 3).toNatClampNeg) (xs (nI i + 4).toNatClampNeg) lo hi x y).2.2.1 (fX0_combine (xs (nI i + 1).toNatClampNeg) (xs (nI i + 2).toNatClampNeg) (xs (nI i + 3).toNatClampNeg) (xs (nI i + 4).toNatClampNeg) lo hi x y).2.2.2.1 (fX0_combine (xs (nI i + 1).toNatClampNeg) (xs (nI i + 2).toNatClampNeg) (xs (nI i + 3).toNatClampNeg) (xs (nI i + 4).toNatClampNeg) lo hi x y).2.2.2.2)) (rest := [.int ((fX0_combine (xs (nI i + 1).toNatClampNeg) (xs (nI i + 2).toNatClampNeg) (xs (nI i + 3).toNatClampNeg) (xs (nI i + 4).toNatClampNeg) lo hi x y).1)]) (As := [.int (xs (nI i + 1).toNatClampNeg), .int (xs (nI i + 2).toNatClampNeg), .int (xs (nI i + 3).toNatClampNeg), .int (xs (nI i + 4).toNatClampNeg)]) ⟨hx, hb, hml, hown, hts⟩ (meX1_combine l D hM b1 b2 e1 e2 (xs (nI i + 1).toNatClampNeg) (xs (nI i + 2).toNatClampNeg) (xs (nI i + 3).toNatClampNeg) (xs (nI i + 4).toNatClampNeg) lo' hi' x' y' ka kb k1 k2 eM1 eM2 hab h31 fM1 fM2 h12 h312) (cwV 4 hts (lw_V q161 q162 q163 q13 q164) rfl rfl rfl (by decide +kernel) ⟨Nat.le_of_ble_eq_true rfl, Nat.le_of_ble_eq_true rfl⟩) (show vwCl[1]? = some (RX1, TX1, 4) from rfl) rfl hl.1 rfl (Nat.le_of_ble_eq_true rfl) dL_law_164 ⟨Nat.le_refl _, Nat.le_refl _⟩ hKm hP hD hS hA [0, 1, 2] [3, 4, 5] rfl rfl (by decide) (by decide) (by decide) (fun H locs hP hD hS => ?_)
        have hP : va_P D vwCl ((obW 0 hX a1 a2 d1 d2 (fX0_combine (xs (nI i + 1).toNatClampNeg) (xs (nI i + 2).toNatClampNeg) (xs (nI i + 3).toNatClampNeg) (xs (nI i + 4).toNatClampNeg) lo hi x y).2.1 (fX0_combine (xs (nI i + 1).toNatClampNeg) (xs (nI i + 2).toNatClampNeg) (xs (nI i + 3).toNatClampNeg) (xs (nI i + 4).toNatClampNeg) lo hi x y).2.2.1 (fX0_combine (xs (nI i + 1).toNatClampNeg) (xs (nI i + 2).toNatClampNeg) (xs (nI i + 3).toNatClampNeg) (xs (nI i + 4).toNatClampNeg) lo hi x y).2.2.2.1 (fX0_combine (xs (nI i + 1).toNatClampNeg) (xs (nI i + 2).toNatClampNeg) (xs (nI i + 3).toNatClampNeg) (xs (nI i + 4).toNatClampNeg) lo hi x y).2.2.2.2) ++ (obW 1 hM b1 b2 e1 e2 (fX1_combine (xs (nI i + 1).toNatClampNeg) (xs (nI i + 2).toNatClampNeg) (xs (nI i + 3).toNatClampNeg) (xs (nI i + 4).toNatClampNeg) lo' hi' x' y' ka kb k1 k2).2.1 (fX1_combine (xs (nI i + 1).toNatClampNeg) (xs (nI i + 2).toNatClampNeg) (xs (nI i + 3).toNatClampNeg) (xs (nI i + 4).toNatClampNeg) lo' hi' x' y' ka kb k1 k2).2.2.1 (fX1_combine (xs (nI i + 1).toNatClampNeg) (xs (nI i + 2).toNatClampNeg) (xs (nI i + 3).toNatClampNeg) (xs (nI i + 4).toNatClampNeg) lo' hi' x' y' ka kb k1 k2).2.2.2.1 (fX1_combine (xs (nI i + 1).toNatClampNeg) (xs (nI i + 2).toNatClampNeg) (xs (nI i + 3).toNatClampNeg) (xs (nI i + 4).toNatClampNeg) lo' hi' x' y' ka kb k1 k2).2.2.2.2)) H := hP
        have hD : va_D (fun q : Nat => s.heap.size ≤ q) ((obW 0 hX a1 a2 d1 d2 (fX0_combine (xs (nI i + 1).toNatClampNeg) (xs (nI i + 2).toNatClampNeg) (xs (nI i + 3).toNatClampNeg) (xs (nI i + 4).toNatClampNeg) lo hi x y).2.1 (fX0_combine (xs (nI i + 1).toNatClampNeg) (xs (nI i + 2).toNatClampNeg) (xs (nI i + 3).toNatClampNeg) (xs (nI i + 4).toNatClampNeg) lo hi x y).2.2.1 (fX0_combine (xs (nI i + 1).toNatClampNeg) (xs (nI i + 2).toNatClampNeg) (xs (nI i + 3).toNatClampNeg) (xs (nI i + 4).toNatClampNeg) lo hi x y).2.2.2.1 (fX0_combine (xs (nI i + 1).toNatClampNeg) (xs (nI i + 2).toNatClampNeg) (xs (nI i + 3).toNatClampNeg) (xs (nI i + 4).toNatClampNeg) lo hi x y).2.2.2.2) ++ (obW 1 hM b1 b2 e1 e2 (fX1_combine (xs (nI i + 1).toNatClampNeg) (xs (nI i + 2).toNatClampNeg) (xs (nI i + 3).toNatClampNeg) (xs (nI i + 4).toNatClampNeg) lo' hi' x' y' ka kb k1 k2).2.1 (fX1_combine (xs (nI i + 1).toNatClampNeg) (xs (nI i + 2).toNatClampNeg) (xs (nI i + 3).toNatClampNeg) (xs (nI i + 4).toNatClampNeg) lo' hi' x' y' ka kb k1 k2).2.2.1 (fX1_combine (xs (nI i + 1).toNatClampNeg) (xs (nI i + 2).toNatClampNeg) (xs (nI i + 3).toNatClampNeg) (xs (nI i + 4).toNatClampNeg) lo' hi' x' y' ka kb k1 k2).2.2.2.1 (fX1_combine (xs (nI i + 1).toNatClampNeg) (xs (nI i + 2).toNatClampNeg) (xs (nI i + 3).toNatClampNeg) (xs (nI i + 4).toNatClampNeg) lo' hi' x' y' ka kb k1 k2).2.2.2.2)) := hD
        have hst := st_combine hAg (xs (nI i + 1).toNatClampNeg) (xs (nI i + 2).toNatClampNeg) (xs (nI i + 3).toNatClampNeg) (xs (nI i + 4).toNatClampNeg) x y x' y' ka kb k1 k2 hab h31 eX1 eX2 eM1 eM2 h12 h312 fX1 fX2 fM1 fM2
        refine lv_icmp_eq (tgt := 327) hx hb dL_law_167 (by decide) (fun c_9 => ?_) (fun c_9 => absurd hst.1 c_9)
        refine lv_iinc (v := nI (i + 5)) (lv' := [(3, .int (nI (i + 5))), (0, .ref b), (1, .ref hX), (2, .ref hM)]) hx hb dL_law_327 hl (k := 3) rfl (nI_inc5 i) (by decide) rfl (fun ls hl => ?_)
        refine lv_goto (tgt := 18) hx hb dL_law_330 (by decide) ?_
        exact ih (i + 5) _ _ _ _ _ _ _ _ _ _ ls (by omega) (by omega) hst.2 hP hD hS (lv_sub hl [1, 2, 3, 0] rfl)
      · refine lv_tableIn (off := 140) (tgt := 172) hx hb dL_law_32 (by decide) (by decide) (by decide) (by decide) ?_
        obtain ⟨ka, kb, hab, h31, eX1, eX2, eM1, eM2⟩ := agree_at hAg (xs (nI i + 3).toNatClampNeg)
        refine lv_aload_n hx hb dL_law_172 rfl (lv_at hl 1 rfl) ?_
        refine lv_aload_n hx hb dL_law_173 rfl (lv_at hl 0 rfl) ?_
        refine lv_iload_n hx hb dL_law_174 rfl (lv_at hl 3 rfl) ?_
        refine lv_iconst (v := 1) hx hb dL_law_175 (by decide) ?_
        refine lv_iadd hx hb dL_law_176 ?_
        refine va_sld hx hb hXs hbl hbA hS hin1 dL_law_177 ?_
        refine lv_aload_n hx hb dL_law_178 rfl (lv_at hl 0 rfl) ?_
        refine lv_iload_n hx hb dL_law_179 rfl (lv_at hl 3 rfl) ?_
        refine lv_iconst (v := 2) hx hb dL_law_180 (by decide) ?_
        refine lv_iadd hx hb dL_law_181 ?_
        refine va_sld hx hb hXs hbl hbA hS hin2 dL_law_182 ?_
        refine lv_aload_n hx hb dL_law_183 rfl (lv_at hl 0 rfl) ?_
        refine lv_iload_n hx hb dL_law_184 rfl (lv_at hl 3 rfl) ?_
        refine lv_iconst (v := 3) hx hb dL_law_185 (by decide) ?_
        refine lv_iadd hx hb dL_law_186 ?_
        refine va_sld hx hb hXs hbl hbA hS hin3 dL_law_187 ?_
        refine ob_calli (ws := ((obW 0 hX a1 a2 d1 d2 lo hi x y) ++ (obW 1 hM b1 b2 e1 e2 lo' hi' x' y'))) (wr := (obW 1 hM b1 b2 e1 e2 lo' hi' x' y')) (rest := []) (As := [.int (xs (nI i + 1).toNatClampNeg), .int (xs (nI i + 2).toNatClampNeg), .int (xs (nI i + 3).toNatClampNeg)]) ⟨hx, hb, hml, hown, hts⟩ (meX0_apply l D hX a1 a2 d1 d2 (xs (nI i + 1).toNatClampNeg) (xs (nI i + 2).toNatClampNeg) (xs (nI i + 3).toNatClampNeg) lo hi x y) (cwV 3 hts (lw_V q95 q96 q97 q12 q98) rfl rfl rfl (by decide +kernel) ⟨Nat.le_of_ble_eq_true rfl, Nat.le_of_ble_eq_true rfl⟩) (show vwCl[0]? = some (RX0, TX0, 4) from rfl) rfl hl.1 rfl (Nat.le_of_ble_eq_true rfl) dL_law_188 ⟨Nat.le_refl _, Nat.le_refl _⟩ hKx hP hD hS hA [0, 1, 2] [3, 4, 5] rfl rfl (by decide) (by decide) (by decide) (fun H locs hP hD hS => ?_)
        have hP : va_P D vwCl ((obW 1 hM b1 b2 e1 e2 lo' hi' x' y') ++ (obW 0 hX a1 a2 d1 d2 (fX0_apply (xs (nI i + 1).toNatClampNeg) (xs (nI i + 2).toNatClampNeg) (xs (nI i + 3).toNatClampNeg) lo hi x y).2.1 (fX0_apply (xs (nI i + 1).toNatClampNeg) (xs (nI i + 2).toNatClampNeg) (xs (nI i + 3).toNatClampNeg) lo hi x y).2.2.1 (fX0_apply (xs (nI i + 1).toNatClampNeg) (xs (nI i + 2).toNatClampNeg) (xs (nI i + 3).toNatClampNeg) lo hi x y).2.2.2.1 (fX0_apply (xs (nI i + 1).toNatClampNeg) (xs (nI i + 2).toNatClampNeg) (xs (nI i + 3).toNatClampNeg) lo hi x y).2.2.2.2)) H := hP
        have hD : va_D (fun q : Nat => s.heap.size ≤ q) ((obW 1 hM b1 b2 e1 e2 lo' hi' x' y') ++ (obW 0 hX a1 a2 d1 d2 (fX0_apply (xs (nI i + 1).toNatClampNeg) (xs (nI i + 2).toNatClampNeg) (xs (nI i + 3).toNatClampNeg) lo hi x y).2.1 (fX0_apply (xs (nI i + 1).toNatClampNeg) (xs (nI i + 2).toNatClampNeg) (xs (nI i + 3).toNatClampNeg) lo hi x y).2.2.1 (fX0_apply (xs (nI i + 1).toNatClampNeg) (xs (nI i + 2).toNatClampNeg) (xs (nI i + 3).toNatClampNeg) lo hi x y).2.2.2.1 (fX0_apply (xs (nI i + 1).toNatClampNeg) (xs (nI i + 2).toNatClampNeg) (xs (nI i + 3).toNatClampNeg) lo hi x y).2.2.2.2)) := hD
        refine lv_aload_n hx hb dL_law_191 rfl (lv_at hl 2 rfl) ?_
        refine lv_aload_n hx hb dL_law_192 rfl (lv_at hl 0 rfl) ?_
        refine lv_iload_n hx hb dL_law_193 rfl (lv_at hl 3 rfl) ?_
        refine lv_iconst (v := 1) hx hb dL_law_194 (by decide) ?_
        refine lv_iadd hx hb dL_law_195 ?_
        refine va_sld hx hb hXs hbl hbA hS hin1 dL_law_196 ?_
        refine lv_aload_n hx hb dL_law_197 rfl (lv_at hl 0 rfl) ?_
        refine lv_iload_n hx hb dL_law_198 rfl (lv_at hl 3 rfl) ?_
        refine lv_iconst (v := 2) hx hb dL_law_199 (by decide) ?_
        refine lv_iadd hx hb dL_law_200 ?_
        refine va_sld hx hb hXs hbl hbA hS hin2 dL_law_201 ?_
        refine lv_aload_n hx hb dL_law_202 rfl (lv_at hl 0 rfl) ?_
        refine lv_iload_n hx hb dL_law_203 rfl (lv_at hl 3 rfl) ?_
        refine lv_iconst (v := 3) hx hb dL_law_204 (by decide) ?_
        refine lv_iadd hx hb dL_law_205 ?_
        refine va_sld hx hb hXs hbl hbA hS hin3 dL_law_206 ?_
        refine ob_calli (ws := ((obW 1 hM b1 b2 e1 e2 lo' hi' x' y') ++ (obW 0 hX a1 a2 d1 d2 (fX0_apply (xs (nI i + 1).toNatClampNeg) (xs (nI i + 2).toNatClampNeg) (xs (nI i + 3).toNatClampNeg) lo hi x y).2.1 (fX0_apply (xs (nI i + 1).toNatClampNeg) (xs (nI i + 2).toNatClampNeg) (xs (nI i + 3).toNatClampNeg) lo hi x y).2.2.1 (fX0_apply (xs (nI i + 1).toNatClampNeg) (xs (nI i + 2).toNatClampNeg) (xs (nI i + 3).toNatClampNeg) lo hi x y).2.2.2.1 (fX0_apply (xs (nI i + 1).toNatClampNeg) (xs (nI i + 2).toNatClampNeg) (xs (nI i + 3).toNatClampNeg) lo hi x y).2.2.2.2))) (wr := (obW 0 hX a1 a2 d1 d2 (fX0_apply (xs (nI i + 1).toNatClampNeg) (xs (nI i + 2).toNatClampNeg) (xs (nI i + 3).toNatClampNeg) lo hi x y).2.1 (fX0_apply (xs (nI i + 1).toNatClampNeg) (xs (nI i + 2).toNatClampNeg) (xs (nI i + 3).toNatClampNeg) lo hi x y).2.2.1 (fX0_apply (xs (nI i + 1).toNatClampNeg) (xs (nI i + 2).toNatClampNeg) (xs (nI i + 3).toNatClampNeg) lo hi x y).2.2.2.1 (fX0_apply (xs (nI i + 1).toNatClampNeg) (xs (nI i + 2).toNatClampNeg) (xs (nI i + 3).toNatClampNeg) lo hi x y).2.2.2.2)) (rest := [.int ((fX0_apply (xs (nI i + 1).toNatClampNeg) (xs (nI i + 2).toNatClampNeg) (xs (nI i + 3).toNatClampNeg) lo hi x y).1)]) (As := [.int (xs (nI i + 1).toNatClampNeg), .int (xs (nI i + 2).toNatClampNeg), .int (xs (nI i + 3).toNatClampNeg)]) ⟨hx, hb, hml, hown, hts⟩ (meX1_apply l D hM b1 b2 e1 e2 (xs (nI i + 1).toNatClampNeg) (xs (nI i + 2).toNatClampNeg) (xs (nI i + 3).toNatClampNeg) lo' hi' x' y' ka kb eM1 eM2 hab h31) (cwV 3 hts (lw_V q180 q181 q182 q13 q183) rfl rfl rfl (by decide +kernel) ⟨Nat.le_of_ble_eq_true rfl, Nat.le_of_ble_eq_true rfl⟩) (show vwCl[1]? = some (RX1, TX1, 4) from rfl) rfl hl.1 rfl (Nat.le_of_ble_eq_true rfl) dL_law_207 ⟨Nat.le_refl _, Nat.le_refl _⟩ hKm hP hD hS hA [0, 1, 2] [3, 4, 5] rfl rfl (by decide) (by decide) (by decide) (fun H locs hP hD hS => ?_)
        have hP : va_P D vwCl ((obW 0 hX a1 a2 d1 d2 (fX0_apply (xs (nI i + 1).toNatClampNeg) (xs (nI i + 2).toNatClampNeg) (xs (nI i + 3).toNatClampNeg) lo hi x y).2.1 (fX0_apply (xs (nI i + 1).toNatClampNeg) (xs (nI i + 2).toNatClampNeg) (xs (nI i + 3).toNatClampNeg) lo hi x y).2.2.1 (fX0_apply (xs (nI i + 1).toNatClampNeg) (xs (nI i + 2).toNatClampNeg) (xs (nI i + 3).toNatClampNeg) lo hi x y).2.2.2.1 (fX0_apply (xs (nI i + 1).toNatClampNeg) (xs (nI i + 2).toNatClampNeg) (xs (nI i + 3).toNatClampNeg) lo hi x y).2.2.2.2) ++ (obW 1 hM b1 b2 e1 e2 (fX1_apply (xs (nI i + 1).toNatClampNeg) (xs (nI i + 2).toNatClampNeg) (xs (nI i + 3).toNatClampNeg) lo' hi' x' y' ka kb).2.1 (fX1_apply (xs (nI i + 1).toNatClampNeg) (xs (nI i + 2).toNatClampNeg) (xs (nI i + 3).toNatClampNeg) lo' hi' x' y' ka kb).2.2.1 (fX1_apply (xs (nI i + 1).toNatClampNeg) (xs (nI i + 2).toNatClampNeg) (xs (nI i + 3).toNatClampNeg) lo' hi' x' y' ka kb).2.2.2.1 (fX1_apply (xs (nI i + 1).toNatClampNeg) (xs (nI i + 2).toNatClampNeg) (xs (nI i + 3).toNatClampNeg) lo' hi' x' y' ka kb).2.2.2.2)) H := hP
        have hD : va_D (fun q : Nat => s.heap.size ≤ q) ((obW 0 hX a1 a2 d1 d2 (fX0_apply (xs (nI i + 1).toNatClampNeg) (xs (nI i + 2).toNatClampNeg) (xs (nI i + 3).toNatClampNeg) lo hi x y).2.1 (fX0_apply (xs (nI i + 1).toNatClampNeg) (xs (nI i + 2).toNatClampNeg) (xs (nI i + 3).toNatClampNeg) lo hi x y).2.2.1 (fX0_apply (xs (nI i + 1).toNatClampNeg) (xs (nI i + 2).toNatClampNeg) (xs (nI i + 3).toNatClampNeg) lo hi x y).2.2.2.1 (fX0_apply (xs (nI i + 1).toNatClampNeg) (xs (nI i + 2).toNatClampNeg) (xs (nI i + 3).toNatClampNeg) lo hi x y).2.2.2.2) ++ (obW 1 hM b1 b2 e1 e2 (fX1_apply (xs (nI i + 1).toNatClampNeg) (xs (nI i + 2).toNatClampNeg) (xs (nI i + 3).toNatClampNeg) lo' hi' x' y' ka kb).2.1 (fX1_apply (xs (nI i + 1).toNatClampNeg) (xs (nI i + 2).toNatClampNeg) (xs (nI i + 3).toNatClampNeg) lo' hi' x' y' ka kb).2.2.1 (fX1_apply (xs (nI i + 1).toNatClampNeg) (xs (nI i + 2).toNatClampNeg) (xs (nI i + 3).toNatClampNeg) lo' hi' x' y' ka kb).2.2.2.1 (fX1_apply (xs (nI i + 1).toNatClampNeg) (xs (nI i + 2).toNatClampNeg) (xs (nI i + 3).toNatClampNeg) lo' hi' x' y' ka kb).2.2.2.2)) := hD
        have hst := st_apply hAg (xs (nI i + 1).toNatClampNeg) (xs (nI i + 2).toNatClampNeg) (xs (nI i + 3).toNatClampNeg) x y x' y' ka kb hab h31 eX1 eX2 eM1 eM2
        refine lv_icmp_eq (tgt := 327) hx hb dL_law_210 (by decide) (fun c_9 => ?_) (fun c_9 => absurd hst.1 c_9)
        refine lv_iinc (v := nI (i + 5)) (lv' := [(3, .int (nI (i + 5))), (0, .ref b), (1, .ref hX), (2, .ref hM)]) hx hb dL_law_327 hl (k := 3) rfl (nI_inc5 i) (by decide) rfl (fun ls hl => ?_)
        refine lv_goto (tgt := 18) hx hb dL_law_330 (by decide) ?_
        exact ih (i + 5) _ _ _ _ _ _ _ _ _ _ ls (by omega) (by omega) hst.2 hP hD hS (lv_sub hl [1, 2, 3, 0] rfl)
      · refine lv_tableIn (off := 183) (tgt := 215) hx hb dL_law_32 (by decide) (by decide) (by decide) (by decide) ?_
        refine lv_aload_n hx hb dL_law_215 rfl (lv_at hl 1 rfl) ?_
        refine lv_aload_n hx hb dL_law_216 rfl (lv_at hl 0 rfl) ?_
        refine lv_iload_n hx hb dL_law_217 rfl (lv_at hl 3 rfl) ?_
        refine lv_iconst (v := 1) hx hb dL_law_218 (by decide) ?_
        refine lv_iadd hx hb dL_law_219 ?_
        refine va_sld hx hb hXs hbl hbA hS hin1 dL_law_220 ?_
        refine ob_calli (ws := ((obW 0 hX a1 a2 d1 d2 lo hi x y) ++ (obW 1 hM b1 b2 e1 e2 lo' hi' x' y'))) (wr := (obW 1 hM b1 b2 e1 e2 lo' hi' x' y')) (rest := []) (As := [.int (xs (nI i + 1).toNatClampNeg)]) ⟨hx, hb, hml, hown, hts⟩ (meX0_low l D hX a1 a2 d1 d2 (xs (nI i + 1).toNatClampNeg) lo hi x y) (cwV 1 hts (lw_V q116 q117 q118 q12 q119) rfl rfl rfl (by decide +kernel) ⟨Nat.le_of_ble_eq_true rfl, Nat.le_of_ble_eq_true rfl⟩) (show vwCl[0]? = some (RX0, TX0, 4) from rfl) rfl hl.1 rfl (Nat.le_of_ble_eq_true rfl) dL_law_221 ⟨Nat.le_refl _, Nat.le_refl _⟩ hKx hP hD hS hA [0, 1, 2] [3, 4, 5] rfl rfl (by decide) (by decide) (by decide) (fun H locs hP hD hS => ?_)
        have hP : va_P D vwCl ((obW 1 hM b1 b2 e1 e2 lo' hi' x' y') ++ (obW 0 hX a1 a2 d1 d2 lo hi x y)) H := hP
        have hD : va_D (fun q : Nat => s.heap.size ≤ q) ((obW 1 hM b1 b2 e1 e2 lo' hi' x' y') ++ (obW 0 hX a1 a2 d1 d2 lo hi x y)) := hD
        refine lv_aload_n hx hb dL_law_224 rfl (lv_at hl 2 rfl) ?_
        refine lv_aload_n hx hb dL_law_225 rfl (lv_at hl 0 rfl) ?_
        refine lv_iload_n hx hb dL_law_226 rfl (lv_at hl 3 rfl) ?_
        refine lv_iconst (v := 1) hx hb dL_law_227 (by decide) ?_
        refine lv_iadd hx hb dL_law_228 ?_
        refine va_sld hx hb hXs hbl hbA hS hin1 dL_law_229 ?_
        refine ob_calli (ws := ((obW 1 hM b1 b2 e1 e2 lo' hi' x' y') ++ (obW 0 hX a1 a2 d1 d2 lo hi x y))) (wr := (obW 0 hX a1 a2 d1 d2 lo hi x y)) (rest := [.int (fX0_low (xs (nI i + 1).toNatClampNeg) lo hi)]) (As := [.int (xs (nI i + 1).toNatClampNeg)]) ⟨hx, hb, hml, hown, hts⟩ (meX1_low l D hM b1 b2 e1 e2 (xs (nI i + 1).toNatClampNeg) lo' hi' x' y') (cwV 1 hts (lw_V q196 q197 q198 q13 q199) rfl rfl rfl (by decide +kernel) ⟨Nat.le_of_ble_eq_true rfl, Nat.le_of_ble_eq_true rfl⟩) (show vwCl[1]? = some (RX1, TX1, 4) from rfl) rfl hl.1 rfl (Nat.le_of_ble_eq_true rfl) dL_law_230 ⟨Nat.le_refl _, Nat.le_refl _⟩ hKm hP hD hS hA [0, 1, 2] [3, 4, 5] rfl rfl (by decide) (by decide) (by decide) (fun H locs hP hD hS => ?_)
        have hP : va_P D vwCl ((obW 0 hX a1 a2 d1 d2 lo hi x y) ++ (obW 1 hM b1 b2 e1 e2 lo' hi' x' y')) H := hP
        have hD : va_D (fun q : Nat => s.heap.size ≤ q) ((obW 0 hX a1 a2 d1 d2 lo hi x y) ++ (obW 1 hM b1 b2 e1 e2 lo' hi' x' y')) := hD
        have hst := st_low hAg (xs (nI i + 1).toNatClampNeg)
        refine lv_icmp_eq (tgt := 327) hx hb dL_law_233 (by decide) (fun c_9 => ?_) (fun c_9 => absurd hst c_9)
        refine lv_iinc (v := nI (i + 5)) (lv' := [(3, .int (nI (i + 5))), (0, .ref b), (1, .ref hX), (2, .ref hM)]) hx hb dL_law_327 hl (k := 3) rfl (nI_inc5 i) (by decide) rfl (fun ls hl => ?_)
        refine lv_goto (tgt := 18) hx hb dL_law_330 (by decide) ?_
        exact ih (i + 5) _ _ _ _ _ _ _ _ _ _ ls (by omega) (by omega) hAg hP hD hS (lv_sub hl [1, 2, 3, 0] rfl)
      · refine lv_tableIn (off := 206) (tgt := 238) hx hb dL_law_32 (by decide) (by decide) (by decide) (by decide) ?_
        refine lv_aload_n hx hb dL_law_238 rfl (lv_at hl 1 rfl) ?_
        refine lv_aload_n hx hb dL_law_239 rfl (lv_at hl 0 rfl) ?_
        refine lv_iload_n hx hb dL_law_240 rfl (lv_at hl 3 rfl) ?_
        refine lv_iconst (v := 1) hx hb dL_law_241 (by decide) ?_
        refine lv_iadd hx hb dL_law_242 ?_
        refine va_sld hx hb hXs hbl hbA hS hin1 dL_law_243 ?_
        refine ob_calli (ws := ((obW 0 hX a1 a2 d1 d2 lo hi x y) ++ (obW 1 hM b1 b2 e1 e2 lo' hi' x' y'))) (wr := (obW 1 hM b1 b2 e1 e2 lo' hi' x' y')) (rest := []) (As := [.int (xs (nI i + 1).toNatClampNeg)]) ⟨hx, hb, hml, hown, hts⟩ (meX0_high l D hX a1 a2 d1 d2 (xs (nI i + 1).toNatClampNeg) lo hi x y) (cwV 1 hts (lw_V q120 q121 q122 q12 q123) rfl rfl rfl (by decide +kernel) ⟨Nat.le_of_ble_eq_true rfl, Nat.le_of_ble_eq_true rfl⟩) (show vwCl[0]? = some (RX0, TX0, 4) from rfl) rfl hl.1 rfl (Nat.le_of_ble_eq_true rfl) dL_law_244 ⟨Nat.le_refl _, Nat.le_refl _⟩ hKx hP hD hS hA [0, 1, 2] [3, 4, 5] rfl rfl (by decide) (by decide) (by decide) (fun H locs hP hD hS => ?_)
        have hP : va_P D vwCl ((obW 1 hM b1 b2 e1 e2 lo' hi' x' y') ++ (obW 0 hX a1 a2 d1 d2 lo hi x y)) H := hP
        have hD : va_D (fun q : Nat => s.heap.size ≤ q) ((obW 1 hM b1 b2 e1 e2 lo' hi' x' y') ++ (obW 0 hX a1 a2 d1 d2 lo hi x y)) := hD
        refine lv_aload_n hx hb dL_law_247 rfl (lv_at hl 2 rfl) ?_
        refine lv_aload_n hx hb dL_law_248 rfl (lv_at hl 0 rfl) ?_
        refine lv_iload_n hx hb dL_law_249 rfl (lv_at hl 3 rfl) ?_
        refine lv_iconst (v := 1) hx hb dL_law_250 (by decide) ?_
        refine lv_iadd hx hb dL_law_251 ?_
        refine va_sld hx hb hXs hbl hbA hS hin1 dL_law_252 ?_
        refine ob_calli (ws := ((obW 1 hM b1 b2 e1 e2 lo' hi' x' y') ++ (obW 0 hX a1 a2 d1 d2 lo hi x y))) (wr := (obW 0 hX a1 a2 d1 d2 lo hi x y)) (rest := [.int (fX0_high (xs (nI i + 1).toNatClampNeg) lo hi)]) (As := [.int (xs (nI i + 1).toNatClampNeg)]) ⟨hx, hb, hml, hown, hts⟩ (meX1_high l D hM b1 b2 e1 e2 (xs (nI i + 1).toNatClampNeg) lo' hi' x' y') (cwV 1 hts (lw_V q200 q201 q202 q13 q203) rfl rfl rfl (by decide +kernel) ⟨Nat.le_of_ble_eq_true rfl, Nat.le_of_ble_eq_true rfl⟩) (show vwCl[1]? = some (RX1, TX1, 4) from rfl) rfl hl.1 rfl (Nat.le_of_ble_eq_true rfl) dL_law_253 ⟨Nat.le_refl _, Nat.le_refl _⟩ hKm hP hD hS hA [0, 1, 2] [3, 4, 5] rfl rfl (by decide) (by decide) (by decide) (fun H locs hP hD hS => ?_)
        have hP : va_P D vwCl ((obW 0 hX a1 a2 d1 d2 lo hi x y) ++ (obW 1 hM b1 b2 e1 e2 lo' hi' x' y')) H := hP
        have hD : va_D (fun q : Nat => s.heap.size ≤ q) ((obW 0 hX a1 a2 d1 d2 lo hi x y) ++ (obW 1 hM b1 b2 e1 e2 lo' hi' x' y')) := hD
        have hst := st_high hAg (xs (nI i + 1).toNatClampNeg)
        refine lv_icmp_eq (tgt := 327) hx hb dL_law_256 (by decide) (fun c_9 => ?_) (fun c_9 => absurd hst c_9)
        refine lv_iinc (v := nI (i + 5)) (lv' := [(3, .int (nI (i + 5))), (0, .ref b), (1, .ref hX), (2, .ref hM)]) hx hb dL_law_327 hl (k := 3) rfl (nI_inc5 i) (by decide) rfl (fun ls hl => ?_)
        refine lv_goto (tgt := 18) hx hb dL_law_330 (by decide) ?_
        exact ih (i + 5) _ _ _ _ _ _ _ _ _ _ ls (by omega) (by omega) hAg hP hD hS (lv_sub hl [1, 2, 3, 0] rfl)
      · refine lv_tableIn (off := 229) (tgt := 261) hx hb dL_law_32 (by decide) (by decide) (by decide) (by decide) ?_
        obtain ⟨ka, kb, hab, h31, eX1, eX2, eM1, eM2⟩ := agree_at hAg (xs (nI i + 1).toNatClampNeg)
        obtain ⟨k1, k2, h12, h312, fX1, fX2, fM1, fM2⟩ := agree_at hAg (xs (nI i + 2).toNatClampNeg)
        refine lv_aload_n hx hb dL_law_261 rfl (lv_at hl 1 rfl) ?_
        refine lv_aload_n hx hb dL_law_262 rfl (lv_at hl 0 rfl) ?_
        refine lv_iload_n hx hb dL_law_263 rfl (lv_at hl 3 rfl) ?_
        refine lv_iconst (v := 1) hx hb dL_law_264 (by decide) ?_
        refine lv_iadd hx hb dL_law_265 ?_
        refine va_sld hx hb hXs hbl hbA hS hin1 dL_law_266 ?_
        refine lv_aload_n hx hb dL_law_267 rfl (lv_at hl 0 rfl) ?_
        refine lv_iload_n hx hb dL_law_268 rfl (lv_at hl 3 rfl) ?_
        refine lv_iconst (v := 2) hx hb dL_law_269 (by decide) ?_
        refine lv_iadd hx hb dL_law_270 ?_
        refine va_sld hx hb hXs hbl hbA hS hin2 dL_law_271 ?_
        refine ob_calli (ws := ((obW 0 hX a1 a2 d1 d2 lo hi x y) ++ (obW 1 hM b1 b2 e1 e2 lo' hi' x' y'))) (wr := (obW 1 hM b1 b2 e1 e2 lo' hi' x' y')) (rest := []) (As := [.int (xs (nI i + 1).toNatClampNeg), .int (xs (nI i + 2).toNatClampNeg)]) ⟨hx, hb, hml, hown, hts⟩ (meX0_less l D hX a1 a2 d1 d2 (xs (nI i + 1).toNatClampNeg) (xs (nI i + 2).toNatClampNeg) lo hi x y) (cwV 2 hts (lw_V q124 q125 q126 q12 q127) rfl rfl rfl (by decide +kernel) ⟨Nat.le_of_ble_eq_true rfl, Nat.le_of_ble_eq_true rfl⟩) (show vwCl[0]? = some (RX0, TX0, 4) from rfl) rfl hl.1 rfl (Nat.le_of_ble_eq_true rfl) dL_law_272 ⟨Nat.le_refl _, Nat.le_refl _⟩ hKx hP hD hS hA [0, 1, 2] [3, 4, 5] rfl rfl (by decide) (by decide) (by decide) (fun H locs hP hD hS => ?_)
        have hP : va_P D vwCl ((obW 1 hM b1 b2 e1 e2 lo' hi' x' y') ++ (obW 0 hX a1 a2 d1 d2 lo hi x y)) H := hP
        have hD : va_D (fun q : Nat => s.heap.size ≤ q) ((obW 1 hM b1 b2 e1 e2 lo' hi' x' y') ++ (obW 0 hX a1 a2 d1 d2 lo hi x y)) := hD
        refine lv_aload_n hx hb dL_law_275 rfl (lv_at hl 2 rfl) ?_
        refine lv_aload_n hx hb dL_law_276 rfl (lv_at hl 0 rfl) ?_
        refine lv_iload_n hx hb dL_law_277 rfl (lv_at hl 3 rfl) ?_
        refine lv_iconst (v := 1) hx hb dL_law_278 (by decide) ?_
        refine lv_iadd hx hb dL_law_279 ?_
        refine va_sld hx hb hXs hbl hbA hS hin1 dL_law_280 ?_
        refine lv_aload_n hx hb dL_law_281 rfl (lv_at hl 0 rfl) ?_
        refine lv_iload_n hx hb dL_law_282 rfl (lv_at hl 3 rfl) ?_
        refine lv_iconst (v := 2) hx hb dL_law_283 (by decide) ?_
        refine lv_iadd hx hb dL_law_284 ?_
        refine va_sld hx hb hXs hbl hbA hS hin2 dL_law_285 ?_
        refine ob_calli (ws := ((obW 1 hM b1 b2 e1 e2 lo' hi' x' y') ++ (obW 0 hX a1 a2 d1 d2 lo hi x y))) (wr := (obW 0 hX a1 a2 d1 d2 lo hi x y)) (rest := [.int (fX0_less (xs (nI i + 1).toNatClampNeg) (xs (nI i + 2).toNatClampNeg) lo hi)]) (As := [.int (xs (nI i + 1).toNatClampNeg), .int (xs (nI i + 2).toNatClampNeg)]) ⟨hx, hb, hml, hown, hts⟩ (meX1_less l D hM b1 b2 e1 e2 (xs (nI i + 1).toNatClampNeg) (xs (nI i + 2).toNatClampNeg) lo' hi' x' y' ka kb k1 k2 eM1 eM2 hab h31 fM1 fM2 h12 h312) (cwV 2 hts (lw_V q204 q205 q206 q13 q207) rfl rfl rfl (by decide +kernel) ⟨Nat.le_of_ble_eq_true rfl, Nat.le_of_ble_eq_true rfl⟩) (show vwCl[1]? = some (RX1, TX1, 4) from rfl) rfl hl.1 rfl (Nat.le_of_ble_eq_true rfl) dL_law_286 ⟨Nat.le_refl _, Nat.le_refl _⟩ hKm hP hD hS hA [0, 1, 2] [3, 4, 5] rfl rfl (by decide) (by decide) (by decide) (fun H locs hP hD hS => ?_)
        have hP : va_P D vwCl ((obW 0 hX a1 a2 d1 d2 lo hi x y) ++ (obW 1 hM b1 b2 e1 e2 lo' hi' x' y')) H := hP
        have hD : va_D (fun q : Nat => s.heap.size ≤ q) ((obW 0 hX a1 a2 d1 d2 lo hi x y) ++ (obW 1 hM b1 b2 e1 e2 lo' hi' x' y')) := hD
        have hst := st_less hAg (xs (nI i + 1).toNatClampNeg) (xs (nI i + 2).toNatClampNeg) ka kb k1 k2 hab h31 eX1 eX2 eM1 eM2 h12 h312 fX1 fX2 fM1 fM2
        refine lv_icmp_eq (tgt := 327) hx hb dL_law_289 (by decide) (fun c_9 => ?_) (fun c_9 => absurd hst c_9)
        refine lv_iinc (v := nI (i + 5)) (lv' := [(3, .int (nI (i + 5))), (0, .ref b), (1, .ref hX), (2, .ref hM)]) hx hb dL_law_327 hl (k := 3) rfl (nI_inc5 i) (by decide) rfl (fun ls hl => ?_)
        refine lv_goto (tgt := 18) hx hb dL_law_330 (by decide) ?_
        exact ih (i + 5) _ _ _ _ _ _ _ _ _ _ ls (by omega) (by omega) hAg hP hD hS (lv_sub hl [1, 2, 3, 0] rfl)
      · refine lv_tableIn (off := 262) (tgt := 294) hx hb dL_law_32 (by decide) (by decide) (by decide) (by decide) ?_
        obtain ⟨ka, kb, hab, h31, eX1, eX2, eM1, eM2⟩ := agree_at hAg (xs (nI i + 1).toNatClampNeg)
        obtain ⟨k1, k2, h12, h312, fX1, fX2, fM1, fM2⟩ := agree_at hAg (xs (nI i + 2).toNatClampNeg)
        refine lv_aload_n hx hb dL_law_294 rfl (lv_at hl 1 rfl) ?_
        refine lv_aload_n hx hb dL_law_295 rfl (lv_at hl 0 rfl) ?_
        refine lv_iload_n hx hb dL_law_296 rfl (lv_at hl 3 rfl) ?_
        refine lv_iconst (v := 1) hx hb dL_law_297 (by decide) ?_
        refine lv_iadd hx hb dL_law_298 ?_
        refine va_sld hx hb hXs hbl hbA hS hin1 dL_law_299 ?_
        refine lv_aload_n hx hb dL_law_300 rfl (lv_at hl 0 rfl) ?_
        refine lv_iload_n hx hb dL_law_301 rfl (lv_at hl 3 rfl) ?_
        refine lv_iconst (v := 2) hx hb dL_law_302 (by decide) ?_
        refine lv_iadd hx hb dL_law_303 ?_
        refine va_sld hx hb hXs hbl hbA hS hin2 dL_law_304 ?_
        refine ob_calli (ws := ((obW 0 hX a1 a2 d1 d2 lo hi x y) ++ (obW 1 hM b1 b2 e1 e2 lo' hi' x' y'))) (wr := (obW 1 hM b1 b2 e1 e2 lo' hi' x' y')) (rest := []) (As := [.int (xs (nI i + 1).toNatClampNeg), .int (xs (nI i + 2).toNatClampNeg)]) ⟨hx, hb, hml, hown, hts⟩ (meX0_apart l D hX a1 a2 d1 d2 (xs (nI i + 1).toNatClampNeg) (xs (nI i + 2).toNatClampNeg) lo hi x y) (cwV 2 hts (lw_V q128 q129 q130 q12 q131) rfl rfl rfl (by decide +kernel) ⟨Nat.le_of_ble_eq_true rfl, Nat.le_of_ble_eq_true rfl⟩) (show vwCl[0]? = some (RX0, TX0, 4) from rfl) rfl hl.1 rfl (Nat.le_of_ble_eq_true rfl) dL_law_305 ⟨Nat.le_refl _, Nat.le_refl _⟩ hKx hP hD hS hA [0, 1, 2] [3, 4, 5] rfl rfl (by decide) (by decide) (by decide) (fun H locs hP hD hS => ?_)
        have hP : va_P D vwCl ((obW 1 hM b1 b2 e1 e2 lo' hi' x' y') ++ (obW 0 hX a1 a2 d1 d2 lo hi x y)) H := hP
        have hD : va_D (fun q : Nat => s.heap.size ≤ q) ((obW 1 hM b1 b2 e1 e2 lo' hi' x' y') ++ (obW 0 hX a1 a2 d1 d2 lo hi x y)) := hD
        refine lv_aload_n hx hb dL_law_308 rfl (lv_at hl 2 rfl) ?_
        refine lv_aload_n hx hb dL_law_309 rfl (lv_at hl 0 rfl) ?_
        refine lv_iload_n hx hb dL_law_310 rfl (lv_at hl 3 rfl) ?_
        refine lv_iconst (v := 1) hx hb dL_law_311 (by decide) ?_
        refine lv_iadd hx hb dL_law_312 ?_
        refine va_sld hx hb hXs hbl hbA hS hin1 dL_law_313 ?_
        refine lv_aload_n hx hb dL_law_314 rfl (lv_at hl 0 rfl) ?_
        refine lv_iload_n hx hb dL_law_315 rfl (lv_at hl 3 rfl) ?_
        refine lv_iconst (v := 2) hx hb dL_law_316 (by decide) ?_
        refine lv_iadd hx hb dL_law_317 ?_
        refine va_sld hx hb hXs hbl hbA hS hin2 dL_law_318 ?_
        refine ob_calli (ws := ((obW 1 hM b1 b2 e1 e2 lo' hi' x' y') ++ (obW 0 hX a1 a2 d1 d2 lo hi x y))) (wr := (obW 0 hX a1 a2 d1 d2 lo hi x y)) (rest := [.int (fX0_apart (xs (nI i + 1).toNatClampNeg) (xs (nI i + 2).toNatClampNeg) lo hi)]) (As := [.int (xs (nI i + 1).toNatClampNeg), .int (xs (nI i + 2).toNatClampNeg)]) ⟨hx, hb, hml, hown, hts⟩ (meX1_apart l D hM b1 b2 e1 e2 (xs (nI i + 1).toNatClampNeg) (xs (nI i + 2).toNatClampNeg) lo' hi' x' y' ka kb k1 k2 eM1 eM2 hab h31 fM1 fM2 h12 h312) (cwV 2 hts (lw_V q208 q209 q210 q13 q211) rfl rfl rfl (by decide +kernel) ⟨Nat.le_of_ble_eq_true rfl, Nat.le_of_ble_eq_true rfl⟩) (show vwCl[1]? = some (RX1, TX1, 4) from rfl) rfl hl.1 rfl (Nat.le_of_ble_eq_true rfl) dL_law_319 ⟨Nat.le_refl _, Nat.le_refl _⟩ hKm hP hD hS hA [0, 1, 2] [3, 4, 5] rfl rfl (by decide) (by decide) (by decide) (fun H locs hP hD hS => ?_)
        have hP : va_P D vwCl ((obW 0 hX a1 a2 d1 d2 lo hi x y) ++ (obW 1 hM b1 b2 e1 e2 lo' hi' x' y')) H := hP
        have hD : va_D (fun q : Nat => s.heap.size ≤ q) ((obW 0 hX a1 a2 d1 d2 lo hi x y) ++ (obW 1 hM b1 b2 e1 e2 lo' hi' x' y')) := hD
        have hst := st_apart hAg (xs (nI i + 1).toNatClampNeg) (xs (nI i + 2).toNatClampNeg) ka kb k1 k2 hab h31 eX1 eX2 eM1 eM2 h12 h312 fX1 fX2 fM1 fM2
        refine lv_icmp_eq (tgt := 327) hx hb dL_law_322 (by decide) (fun c_9 => ?_) (fun c_9 => absurd hst c_9)
        refine lv_iinc (v := nI (i + 5)) (lv' := [(3, .int (nI (i + 5))), (0, .ref b), (1, .ref hX), (2, .ref hM)]) hx hb dL_law_327 hl (k := 3) rfl (nI_inc5 i) (by decide) rfl (fun ls hl => ?_)
        refine lv_goto (tgt := 18) hx hb dL_law_330 (by decide) ?_
        exact ih (i + 5) _ _ _ _ _ _ _ _ _ _ ls (by omega) (by omega) hAg hP hD hS (lv_sub hl [1, 2, 3, 0] rfl)
      · refine lv_tableOut (tgt := 327) hx hb dL_law_32 (by decide) (by decide) ?_
        refine lv_iinc (v := nI (i + 5)) (lv' := [(3, .int (nI (i + 5))), (0, .ref b), (1, .ref hX), (2, .ref hM)]) hx hb dL_law_327 hl (k := 3) rfl (nI_inc5 i) (by decide) rfl (fun ls hl => ?_)
        refine lv_goto (tgt := 18) hx hb dL_law_330 (by decide) ?_
        exact ih (i + 5) _ _ _ _ _ _ _ _ _ _ ls (by omega) (by omega) hAg hP hD hS (lv_sub hl [1, 2, 3, 0] rfl)
set_option maxHeartbeats 8000000 in
set_option maxRecDepth 100000 in
theorem whole_start {p : Program} {e : Env} {s : State} {m : MethodId} {below : List Frame} {meth : Method} {c : Code} (l : Launch) {b L : Nat} {xs : Nat → Int32} (hL : L ≤ 320) (C0 : lw_At p s m meth c b L xs) : W p l e room_1 s m #[Value.ref b] below meth c s.heap [] 0 0 (lw_Z below #[Value.ref b] s) (entryFrame m ([Value.ref b] : List Value).toArray 4) := by
  obtain ⟨hx, hb, hr, hml, hown, hts0, hXs, hbl, hlocks, hgv⟩ := id C0
  have hts : ∀ w ∈ lw_all, w.before #[Value.ref b] s = true := fun w h => hts0 w (lw_all_tbl h)
  have hA : ∀ q : Nat, s.heap.size ≤ q → (fun q : Nat => s.heap.size ≤ q) q := fun _ h => h
  obtain ⟨c0, iS0, hKn0⟩ := u_known (C := RX0) (T := TX0) (N := 4) (n := 4) hts in_X0 (hts _ q15)
  obtain ⟨c1, iS1, hKn1⟩ := u_known (C := RX1) (T := TX1) (N := 4) (n := 4) hts in_X1 (hts _ q136)
  obtain ⟨D, hKc⟩ : ∃ (D : va_G), ∀ (k : Nat) (q : vw_C), vwCl[k]? = some q → u_Kn s q.1 q.2.1 q.2.2 (D.1 k) (D.2 k) := by
    refine ⟨(fun k => if k = 0 then c0 else c1, fun k => if k = 0 then iS0 else iS1), ?_⟩
    intro k q hq
    match k, hq with
    | 0, hq => cases hq; exact hKn0
    | 1, hq => cases hq; exact hKn1
    | k + 2, hq => simp [vwCl] at hq
  have hS : va_S (fun q : Nat => s.heap.size ≤ q) s.heap s.heap [] := va_S.rf
  have hK : va_K D vwCl [] s := ⟨hKc, fun k q h => by simp at h⟩
  have hP : va_P D vwCl [] s.heap := fun k q h => by simp at h
  have hD : va_D (fun q : Nat => s.heap.size ≤ q) [] := ⟨fun i j p q h => by simp at h, fun k q h => by simp at h⟩
  have hl := lv_entry ([.ref b]) (n := 4) (Nat.le_of_ble_eq_true rfl)
  rw [lg_entry_eq]
  generalize (lg_sl ([.ref b]) ++ List.replicate (4 - (lg_sl ([.ref b])).length) Slot.unset).toArray = ls at hl ⊢
  have hl : lv_has ls 4 [(0, .ref b)] := hl
  refine va_new (ci := 0) (fs := [.null, .null, .int 0, .int 0]) (C := RX0) (T := TX0) (N := 4) hx hb hts in_X0 tyX0 tyX0_ok hown (hts _ q14) (hts _ q15) (hts _ q12) hK hP hD hS hA rfl (fun j hj => by rcases (show j = 0 ∨ j = 1 ∨ j = 2 ∨ j = 3 by omega) with rfl | rfl | rfl | rfl <;> rfl) (Nat.le_of_ble_eq_true rfl) (Nat.le_of_ble_eq_true rfl) dL_law_0 (fun hX H hP hD hS => ?_)
  have hP : va_P D vwCl (bornW 0 hX) H := hP
  have hD : va_D (fun q : Nat => s.heap.size ≤ q) (bornW 0 hX) := hD
  refine W.widen (k := 1) (n := 4) (Nat.le_of_ble_eq_true rfl) (Nat.le_of_ble_eq_true rfl) ?_
  refine lv_dup hx hb dL_law_3 rfl ?_
  have hFc := va_free (wc := bornW 0 hX) hD hS hA [0] rfl
  refine va_callv (va_runI (As := []) (rest := [.ref hX]) ⟨hx, hb, hml, hown, hts⟩ (meX0_init l D hX H.size) (cwI 0 hts (lw_meth q18) rfl rfl rfl (hts _ q12) (hts _ q16) (hts _ q17) rfl (by decide +kernel) ⟨Nat.le_of_ble_eq_true rfl, Nat.le_of_ble_eq_true rfl⟩) ⟨fun a U g mk q => by obtain ⟨q0, q1, qP, qK, qD⟩ := q; exact ⟨q0, q1, qP, va_K.moved (u := U) (U := U.calling g mk a) (Vm.Alike.refl U.vm) qK, qD⟩, fun U hU hW => ⟨rfl, by rw [hU], by rw [hU]; exact hP, va_K.moved hW.alike hK, hD.weaken (fun _ _ _ _ => trivial)⟩⟩ rfl rfl hl.1 rfl (lv_room (Nat.le_of_ble_eq_true rfl)) dL_law_4 ⟨Nat.le_of_ble_eq_true rfl, Nat.le_of_ble_eq_true rfl⟩) hS (fun q _ h => hFc q h) hFc (fun u t H1 locs ht hvm hw1 hB hz1 hk1 hS => ?_)
  obtain ⟨a1, a2, d1, d2, hP1, hK1, hD1⟩ := hB
  rw [ht] at hP1
  have hK1 := va_K.moved hvm.symm hK1
  obtain ⟨hP, hD⟩ := va_join (wr := []) hP hD [0] [] rfl rfl (by decide) (by decide) hk1 hFc hP1 hD1
  generalize H1 = H at hP hS ⊢
  have hP : va_P D vwCl (obW 0 hX a1 a2 d1 d2 (fun _ => 0) hi127 0 0) H := hP
  have hD : va_D (fun q : Nat => s.heap.size ≤ q) (obW 0 hX a1 a2 d1 d2 (fun _ => 0) hi127 0 0) := hD
  refine lv_astore_n (lv' := [(1, .ref hX), (0, .ref b)]) hx hb dL_law_7 rfl hl (by decide) rfl (fun ls hl => ?_)
  refine va_new (ci := 1) (fs := [.null, .null, .int 0, .int 0]) (C := RX1) (T := TX1) (N := 4) hx hb hts in_X1 tyX1 tyX1_ok hown (hts _ q135) (hts _ q136) (hts _ q13) hK hP hD hS hA rfl (fun j hj => by rcases (show j = 0 ∨ j = 1 ∨ j = 2 ∨ j = 3 by omega) with rfl | rfl | rfl | rfl <;> rfl) (Nat.le_of_ble_eq_true rfl) (Nat.le_of_ble_eq_true rfl) dL_law_8 (fun hM H hP hD hS => ?_)
  have hP : va_P D vwCl (obW 0 hX a1 a2 d1 d2 (fun _ => 0) hi127 0 0 ++ bornW 1 hM) H := hP
  have hD : va_D (fun q : Nat => s.heap.size ≤ q) (obW 0 hX a1 a2 d1 d2 (fun _ => 0) hi127 0 0 ++ bornW 1 hM) := hD
  refine W.widen (k := 4) (n := 20) (Nat.le_of_ble_eq_true rfl) (Nat.le_of_ble_eq_true rfl) ?_
  refine lv_dup hx hb dL_law_11 rfl ?_
  have hPc : va_P D vwCl (bornW 1 hM) H := hP.sub [3] rfl
  have hDc : va_D (fun q : Nat => s.heap.size ≤ q) (bornW 1 hM) := hD.sub [3] (by decide) rfl
  have hFc := va_free (wc := bornW 1 hM) hD hS hA [3] rfl
  refine va_callv (va_runI (As := []) (rest := [.ref hM]) ⟨hx, hb, hml, hown, hts⟩ (meX1_init l D hM H.size) (cwI 0 hts (lw_meth q139) rfl rfl rfl (hts _ q13) (hts _ q137) (hts _ q138) rfl (by decide +kernel) ⟨Nat.le_of_ble_eq_true rfl, Nat.le_of_ble_eq_true rfl⟩) ⟨fun a U g mk q => by obtain ⟨q0, q1, qP, qK, qD⟩ := q; exact ⟨q0, q1, qP, va_K.moved (u := U) (U := U.calling g mk a) (Vm.Alike.refl U.vm) qK, qD⟩, fun U hU hW => ⟨rfl, by rw [hU], by rw [hU]; exact hPc, va_K.moved hW.alike hK, hDc.weaken (fun _ _ _ _ => trivial)⟩⟩ rfl rfl hl.1 rfl (lv_room (Nat.le_of_ble_eq_true rfl)) dL_law_12 ⟨Nat.le_of_ble_eq_true rfl, Nat.le_of_ble_eq_true rfl⟩) hS (fun q _ h => hFc q h) hFc (fun u t H1 locs ht hvm hw1 hB hz1 hk1 hS => ?_)
  obtain ⟨b1, b2, e1, e2, hP1, hK2, hD1⟩ := hB
  rw [ht] at hP1
  have hK2 := va_K.moved hvm.symm hK2
  obtain ⟨hP, hD⟩ := va_join (wr := obW 0 hX a1 a2 d1 d2 (fun _ => 0) hi127 0 0) hP hD [3] [0, 1, 2] rfl rfl (by decide) (by decide) hk1 hFc hP1 hD1
  generalize H1 = H at hP hS ⊢
  have hK : va_K D vwCl [(d1, .int), (d2, .int), (e1, .int), (e2, .int)] s := hK1.app hK2
  refine W.widen (k := 600000) (n := 7290000) (Nat.le_of_ble_eq_true rfl) (Nat.le_of_ble_eq_true rfl) ?_
  refine lv_astore_n (lv' := [(2, .ref hM), (1, .ref hX), (0, .ref b)]) hx hb dL_law_15 rfl hl (by decide) rfl (fun ls hl => ?_)
  refine lv_iconst (v := 0) hx hb dL_law_16 (by decide) ?_
  refine lv_istore_n (lv' := [(3, .int 0), (2, .ref hM), (1, .ref hX), (0, .ref b)]) hx hb dL_law_17 rfl hl (by decide) rfl (fun ls hl => ?_)
  exact law_loop hL C0 hK (L + 1) 0 _ _ _ _ _ _ _ _ _ _ ls (Nat.zero_le _) (by omega) agree_0 hP hD hS (lv_sub hl [3, 2, 1, 0] rfl)
end
section
set_option maxHeartbeats 4000000 in
theorem lw_walk (l : Launch) (b : Addr) (xs : List Int32) : MetFree l x (headSpec (Jvm.Cond.code x code maxLocals ret :: tables_1) room_1) (lw_P b xs) (fun _ _ _ _ _ => True) lw_Q := by
  refine MetFree.of_bodyS (code := code) (maxLocals := maxLocals) (ret := ret) (by decide) ?_ ?_
  · intro args s m h hn
    obtain ⟨meth, c, h1, h2, h3, h4, h5, h6, -, -⟩ := Cond.code_spec hn (atoms_spec (ws := Jvm.Cond.code x code maxLocals ret :: tables_1) h _ List.mem_cons_self)
    exact ⟨meth, c, h1, h2, h3, h4, h5, h6⟩
  · intro p e s m args below meth c s₁ B hml0 hP _
    obtain ⟨rfl, hx, hbd, hgv⟩ := hP
    obtain ⟨scr, harrAt, hlist, hof, hsmall⟩ := hx
    obtain ⟨hcb, hkn, -, -⟩ := State.arrayAt?_spec harrAt
    have hown : s.vm.findClass R_law = some m.cls := findClass_of_methodNamed B.named
    have hts0 : ∀ c ∈ (Jvm.Cond.code x code maxLocals ret :: tables_1), c.before #[Value.ref b] s = true := atoms_spec (ws := Jvm.Cond.code x code maxLocals ret :: tables_1) B.pre
    have hts : ∀ w ∈ lw_tbl, w.before #[Value.ref b] s = true := k2_hts_sels lw_privs (fun w hw => hts0 w (List.mem_cons_of_mem _ hw)) lw_privs_ok
    have hml : c.maxLocals = 4 := B.maxLocals_eq (hts0 _ List.mem_cons_self)
    have X₀ : Stand p l e room_1 s m #[Value.ref b] below meth c s₁ [] 0 0 := Stand.of_body B
    have hh0 : s₁.heap = s.heap := by rw [B.state]; rfl
    have hsz : scr.slots.size = xs.length := by rw [← Array.length_toList, hlist, List.length_map]
    have hval : ∀ j : Nat, j < xs.length → scr.slots[j]? = some (.int (xs.getD j 0)) := fun j hj => by
      rw [← Array.getElem?_toList, hlist]
      simp [hj]
    have hbl : b < s.heap.size := (Array.getElem?_eq_some_iff.mp hcb).1
    have hX : va_X b xs.length (fun j => xs.getD j 0) s s.heap := ⟨scr, hcb, hof, hkn, hsz, hval⟩
    have K : W p l e room_1 s m #[Value.ref b] below meth c s₁.heap [] 0 0 (lw_Z below #[Value.ref b] s) (entryFrame m ([Value.ref b] : List Value).toArray 4) := by
      rw [hh0]
      exact whole_start l hbd ⟨B.exec, B.bytes, B.returns, hml, hown, hts, hX, hbl, B.notSynchronized, hgv⟩
    obtain ⟨t, a1, o, b1, b2, b3⟩ := K s₁ rfl X₀
    exact ⟨t, o, a1, b1, b2, b3⟩
theorem lw_pre_spec {args : Array Value} {s : State} (h : (Jvm.Cond.and given_1 narrow_1).before args s = true) (hr : rest_1_c.before args s = true) : ∃ (b : Addr) (xs : List Int32), lw_P b xs args s := by
  have hs := flat_of_before _ h
  have hq := flat_of_before _ hr
  have hc : (Cond.count 1).before args s = true := hs _ (by decide +kernel)
  have harr : (Cond.arrayOf (.arg 0) .int).before args s = true := hs _ (by decide +kernel)
  have hle : (Cond.le (.length (.arg 0)) (.int 320)).before args s = true := hs _ (by decide +kernel)
  have hlen : (Cond.isInt (.length (.arg 0))).before args s = true := hq _ (by decide +kernel)
  have hall : (Cond.all (.arg 0) (.isInt (.elem (.arg 0) (.index 0)))).before args s = true := hq _ (by decide +kernel)
  obtain ⟨b, xs, hb, hx⟩ := State.ints_of_pre rfl harr hlen hall
  have hsm : xs.length < 2 ^ 31 := hx.choose_spec.2.2.2
  have hev : (Term.length (.arg 0)).eval args s none [] s = some (.int xs.length.toInt32) := hx.length_eval hb
  have hv := Cond.le_ints hev (show (Term.int 320).eval args s none [] s = some (.int 320) from rfl)
  have hd : xs.length.toInt32 ≤ 320 := by
    simpa [Cond.before, Cond.holds, hv] using hle
  have hN : xs.length ≤ 320 := (Int32.ofNat_le_ofNat hsm (by decide)).mp (show Int32.ofNat xs.length ≤ Int32.ofNat 320 from hd)
  exact ⟨b, xs, Cond.one_arg hc (show args[0]? = some (.ref b) from hb), hx, hN, h⟩
theorem lw_comes (l : Launch) : Comes l x (Jvm.Cond.code x code maxLocals ret :: tables_1) room_1 (fun tb e args s => Calls_1 tb e args s ∧ rest_1 tb e args s ∧ Pre_1 tb e args s)
    (fun _ _ args s o t => lw_Q args s o t) := by
  intro p e ha hc hk s m args below hf hfit hheap happ hpre
  obtain ⟨b, xs, hP⟩ := lw_pre_spec hpre.2.2 hpre.2.1
  obtain ⟨k, o, h1, h2, h3, hQ⟩ := lw_walk l b xs p e ha hc hk s m args below hf ((Spec.applies_iff_loose hf).mp happ).1 hP trivial
  exact ⟨k, o, h1, h2, h3, hQ⟩
theorem lw_frame {s t : State} {o : Outcome} {args : Array Value} (h : Framed s o t [] 600000 7290000) :
    Framed s o t (fieldLocs frame_1_writes args s ++ arrayLocs frame_1_arrays args s ++ staticLocs frame_1_statics s) 600000 7290000 := h
theorem lw_limb (L : Cond) (hL : ∀ (args : Array Value) (s t : State), L.after args s (.returned (some (.int 1))) t = true) :
    ArmFor flags0 classFile x code maxLocals ret World_1 tables_1 room_1 Calls_1 rest_1 Pre_1
      (fun tb e a s o t => postC L tb e a s o t ∧ Framed s o t (fieldLocs frame_1_writes a s ++ arrayLocs frame_1_arrays a s ++ staticLocs frame_1_statics s) 600000 7290000) := by
  intro l _ _ _ p e ha hc hk s m args below hf hfit hheap happ hpre
  obtain ⟨k, o, h1, h2, h3, rfl, hF⟩ := lw_comes l p e ha hc hk s m args below hf hfit hheap happ hpre
  exact ⟨k, _, h1, h2, h3, hL args s _, lw_frame hF⟩
theorem i_vc : Claimed_1_1 ∧ Claimed_1_2 := ⟨lw_limb limb_1_1 (fun args s t => by simp [limb_1_1, Cond.after, Cond.holds, Cond.value]), lw_limb limb_1_2 (fun args s t => Cond.after_iff.mpr (by
  first | (rw [show limb_1_2 = Cond.eq .result (.int 1) from rfl, Cond.eq_ints (x := 1) (y := 1) rfl rfl]; simp; done) | (simp [limb_1_2, Cond.value, Term.eval]; done)))⟩
end
