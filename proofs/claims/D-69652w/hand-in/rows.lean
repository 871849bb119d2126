section
-- ===== PART A: goes FIRST, ahead of the names: the tables' words, and 'selects' of the private methods out of them =====
/-- a private method of a class that the tables say can be made, by its rows of tables_1 -/
def lw_okq (q : MethodName × Nat) : Prop := (q.1.cls ≠ "java/lang/invoke/MethodHandle" ∧ q.1.cls ≠ "java/lang/invoke/VarHandle") ∧ Cond.instantiable q.1.cls q.2 ∈ tables_1 ∧ Cond.privateMethod q.1 ∈ tables_1 ∧ Cond.instanceMethod q.1 ∈ tables_1
set_option maxRecDepth 100000
theorem lw_p0 : lw_okq (⟨"WordArithmeticModel", "told", "(J)I"⟩, 1) := ⟨⟨by decide +kernel, by decide +kernel⟩, List.mem_of_getElem? (i := 91) rfl, List.mem_of_getElem? (i := 145) rfl, List.mem_of_getElem? (i := 146) rfl⟩
theorem lw_p1 : lw_okq (⟨"WordArithmeticModel", "two", "(IJJI)I"⟩, 1) := ⟨⟨by decide +kernel, by decide +kernel⟩, List.mem_of_getElem? (i := 91) rfl, List.mem_of_getElem? (i := 155) rfl, List.mem_of_getElem? (i := 156) rfl⟩
theorem lw_p2 : lw_okq (⟨"WordArithmeticModel", "divided", "(IJJI)I"⟩, 1) := ⟨⟨by decide +kernel, by decide +kernel⟩, List.mem_of_getElem? (i := 91) rfl, List.mem_of_getElem? (i := 159) rfl, List.mem_of_getElem? (i := 160) rfl⟩
def lw_privs_1 : List (MethodName × Nat) := [(⟨"WordArithmeticModel", "told", "(J)I"⟩, 1), (⟨"WordArithmeticModel", "two", "(IJJI)I"⟩, 1), (⟨"WordArithmeticModel", "divided", "(IJJI)I"⟩, 1)]
theorem lw_r1 : ∀ q ∈ lw_privs_1, lw_okq q := List.forall_mem_cons.mpr ⟨lw_p0, List.forall_mem_cons.mpr ⟨lw_p1, List.forall_mem_cons.mpr ⟨lw_p2, fun _ h => absurd h List.not_mem_nil⟩⟩⟩
def lw_privs : List (MethodName × Nat) := lw_privs_1
def lw_tbl : List Cond := k2_sels lw_privs ++ tables_1
theorem lw_privs_ok : ∀ q ∈ lw_privs, lw_okq q := lw_r1
-- ===== ONE list of words for every method: the tables' words that hold all through a run =====
def lw_all : List Cond := lw_tbl.filter goodWord
/-- a word of the tables by its place: claim/WORDS.tsv -/
theorem lw_w {w : Cond} (i : Nat) (h : lw_tbl[i]? = some w) (g : goodWord w = true) : w ∈ lw_all := List.mem_filter.mpr ⟨List.mem_of_getElem? h, g⟩
theorem lw_all_tbl {w : Cond} (h : w ∈ lw_all) : w ∈ lw_tbl := (List.mem_filter.mp h).1
theorem lw_self : GoodIn lw_all lw_all := fun w h => ⟨h, good_of_word (List.mem_filter.mp h).2⟩
/-- a class's field words, by their places -/
theorem lw_in (ws : List Cond) (ps : List Nat) (hp : ws = ps.filterMap (fun i => lw_tbl[i]?)) (hg : ws.all goodWord = true) : ∀ w ∈ ws, w ∈ lw_all := by
  intro w h
  have h1 := List.all_eq_true.mp hg w h
  rw [hp] at h
  obtain ⟨i, -, hi⟩ := List.mem_filterMap.mp h
  exact lw_w i hi h1
/-- the words of a contract for the method y with code b, L locals, answer r -/
abbrev ws_ (y : MethodName) (b : ByteArray) (L : Nat) (r : Option FieldType) : List Cond := Cond.code y b L r :: lw_all
theorem lw_meth {y : MethodName} {b : ByteArray} {L : Nat} {r : Option FieldType} (h : Cond.code y b L r ∈ lw_all) : GoodIn lw_all (ws_ y b L r) := by
  intro w hw
  rcases List.mem_cons.mp hw with e | e
  · rw [e]
    exact lw_self _ h
  · exact lw_self _ e
theorem lw_app {a c : List Cond} (ha : ∀ w ∈ a, w ∈ lw_all) (hc : GoodIn lw_all c) : GoodIn lw_all (a ++ c) := by
  intro w hw
  rcases List.mem_append.mp hw with e | e
  · exact lw_self w (ha w e)
  · exact hc w e
/-- what a call through an object asks: cwV n hts (lw_V ..) -/
theorem lw_V {own : String} {idx : Nat} {C : String} {y : MethodName} {b : ByteArray} {L : Nat} {r : Option FieldType} (h1 : Cond.methodLink own idx y ∈ lw_all) (h2 : Cond.instanceMethod y ∈ lw_all) (h3 : Cond.selects C y y ∈ lw_all) (h4 : Cond.initialized C ∈ lw_all) (h5 : Cond.code y b L r ∈ lw_all) : GoodIn lw_all (wsV own idx C y (ws_ y b L r)) := by
  refine lw_app ?_ (lw_meth h5)
  intro w hw
  simp only [List.mem_cons, List.not_mem_nil, or_false] at hw
  rcases hw with e | e | e | e
  · rw [e]; exact h1
  · rw [e]; exact h2
  · rw [e]; exact h3
  · rw [e]; exact h4
/-- what a static call asks: va_cwS n hts (lw_S ..) -/
theorem lw_S {own : String} {idx : Nat} {y : MethodName} {b : ByteArray} {L : Nat} {r : Option FieldType} (h1 : Cond.methodLink own idx y ∈ lw_all) (h2 : Cond.static y ∈ lw_all) (h3 : Cond.initialized y.cls ∈ lw_all) (h4 : Cond.code y b L r ∈ lw_all) : GoodIn lw_all (va_wsS own idx y (ws_ y b L r)) := by
  refine lw_app ?_ (lw_meth h4)
  intro w hw
  simp only [List.mem_cons, List.not_mem_nil, or_false] at hw
  rcases hw with e | e | e
  · rw [e]; exact h1
  · rw [e]; exact h2
  · rw [e]; exact h3
/-- the words of a contract for a method WITH HANDLERS (hh: its table) -/
abbrev wsW_ (y : MethodName) (b : ByteArray) (L : Nat) (r : Option FieldType) (hh : List (Nat × Nat × Nat × Nat)) : List Cond := Cond.codeWith y b L r hh :: lw_all
theorem lw_methW {y : MethodName} {b : ByteArray} {L : Nat} {r : Option FieldType} {hh : List (Nat × Nat × Nat × Nat)} (h : Cond.codeWith y b L r hh ∈ lw_all) : GoodIn lw_all (wsW_ y b L r hh) := by
  intro w hw
  rcases List.mem_cons.mp hw with e | e
  · rw [e]
    exact lw_self _ h
  · exact lw_self _ e
/-- any list of words by their places (lw_in), good -/
theorem lw_good {ws : List Cond} (h : ∀ w ∈ ws, w ∈ lw_all) : GoodIn lw_all ws := fun w hw => lw_self w (h w hw)
/-- what a call of a method with handlers asks: vx_cwVW n hts (lw_VW ..), vx_cwSW n hts (lw_SW ..) -/
theorem lw_VW {own : String} {idx : Nat} {C : String} {y : MethodName} {b : ByteArray} {L : Nat} {r : Option FieldType} {hh : List (Nat × Nat × Nat × Nat)} (h1 : Cond.methodLink own idx y ∈ lw_all) (h2 : Cond.instanceMethod y ∈ lw_all) (h3 : Cond.selects C y y ∈ lw_all) (h4 : Cond.initialized C ∈ lw_all) (h5 : Cond.codeWith y b L r hh ∈ lw_all) : GoodIn lw_all (wsV own idx C y (wsW_ y b L r hh)) := by
  refine lw_app ?_ (lw_methW h5)
  intro w hw
  simp only [List.mem_cons, List.not_mem_nil, or_false] at hw
  rcases hw with e | e | e | e
  · rw [e]; exact h1
  · rw [e]; exact h2
  · rw [e]; exact h3
  · rw [e]; exact h4
theorem lw_SW {own : String} {idx : Nat} {y : MethodName} {b : ByteArray} {L : Nat} {r : Option FieldType} {hh : List (Nat × Nat × Nat × Nat)} (h1 : Cond.methodLink own idx y ∈ lw_all) (h2 : Cond.static y ∈ lw_all) (h3 : Cond.initialized y.cls ∈ lw_all) (h4 : Cond.codeWith y b L r hh ∈ lw_all) : GoodIn lw_all (va_wsS own idx y (wsW_ y b L r hh)) := by
  refine lw_app ?_ (lw_methW h4)
  intro w hw
  simp only [List.mem_cons, List.not_mem_nil, or_false] at hw
  rcases hw with e | e | e
  · rw [e]; exact h1
  · rw [e]; exact h2
  · rw [e]; exact h3
/-- a word by its place in its run of the tables -/
theorem lw_at {r : List Cond} (hr : ∀ w ∈ r, w ∈ lw_tbl) {w : Cond} (i : Nat) (h : r[i]? = some w) : w ∈ lw_tbl := hr w (List.mem_of_getElem? h)
theorem lw_g {w : Cond} (h : w ∈ lw_tbl) (g : goodWord w = true) : w ∈ lw_all := List.mem_filter.mpr ⟨h, g⟩
theorem lw_ms : ∀ w ∈ k2_sels lw_privs, w ∈ lw_tbl := fun w h => show w ∈ k2_sels lw_privs ++ tables_1 from List.mem_append_left _ h
theorem lw_m0 : ∀ w ∈ tables_1, w ∈ lw_tbl := fun w h => show w ∈ k2_sels lw_privs ++ tables_1 from List.mem_append_right (k2_sels lw_privs) h
theorem qs0 : (Cond.selects "WordArithmeticModel" ⟨"WordArithmeticModel", "told", "(J)I"⟩ ⟨"WordArithmeticModel", "told", "(J)I"⟩) ∈ lw_all := lw_g (lw_at lw_ms 0 rfl) rfl
theorem qs1 : (Cond.selects "WordArithmeticModel" ⟨"WordArithmeticModel", "two", "(IJJI)I"⟩ ⟨"WordArithmeticModel", "two", "(IJJI)I"⟩) ∈ lw_all := lw_g (lw_at lw_ms 1 rfl) rfl
theorem qs2 : (Cond.selects "WordArithmeticModel" ⟨"WordArithmeticModel", "divided", "(IJJI)I"⟩ ⟨"WordArithmeticModel", "divided", "(IJJI)I"⟩) ∈ lw_all := lw_g (lw_at lw_ms 2 rfl) rfl
end
section
set_option maxRecDepth 100000
/-! WordArithmetic -/
set_option maxRecDepth 100000
def RX0 : String := "WordArithmetic"
def TX0 : u_T := fun k => match k with
  | _ => ("WordArithmetic", "result", "J", false)
def tyX0 : Nat → FieldType := fun k => match k with
  | _ => .long
abbrev wsX00 : List Cond := u_ws RX0 TX0 1
theorem nmX0 : ∀ a, a < 1 → ∀ b, b < 1 → a ≠ b → (TX0 a).2.1 ≠ (TX0 b).2.1 := by decide +kernel
theorem tyX0_ok : ∀ k, k < 1 → parseFieldDescriptor (TX0 k).2.2.1 = some (tyX0 k) := by decide +kernel
/-! WordArithmeticModel -/
set_option maxRecDepth 100000
def RX1 : String := "WordArithmeticModel"
def TX1 : u_T := fun k => match k with
  | _ => ("WordArithmeticModel", "result", "J", false)
def tyX1 : Nat → FieldType := fun k => match k with
  | _ => .long
abbrev wsX10 : List Cond := u_ws RX1 TX1 1
theorem nmX1 : ∀ a, a < 1 → ∀ b, b < 1 → a ≠ b → (TX1 a).2.1 ≠ (TX1 b).2.1 := by decide +kernel
theorem tyX1_ok : ∀ k, k < 1 → parseFieldDescriptor (TX1 k).2.2.1 = some (tyX1 k) := by decide +kernel
/-! WordArithmetic$Numbers -/
set_option maxRecDepth 100000
def RX2 : String := "WordArithmetic$Numbers"
/-! java/lang/Long -/
set_option maxRecDepth 100000
def RJ0 : String := "java/lang/Long"
/-! java/lang/Object -/
set_option maxRecDepth 100000
def RJ1 : String := "java/lang/Object"
theorem q3 : (Jvm.Cond.initialized "WordArithmeticLaw") ∈ lw_all := lw_g (lw_at lw_m0 0 rfl) rfl
theorem q8 : (Jvm.Cond.classLink "WordArithmeticLaw" (7 : Nat) "WordArithmetic") ∈ lw_all := lw_g (lw_at lw_m0 5 rfl) rfl
theorem q10 : (Jvm.Cond.methodLink "WordArithmeticLaw" (9 : Nat) ({ cls := "WordArithmetic", name := "<init>", desc := "()V" } : Jvm.MethodName)) ∈ lw_all := lw_g (lw_at lw_m0 7 rfl) rfl
theorem q20 : (Jvm.Cond.methodLink "WordArithmeticLaw" (13 : Nat) ({ cls := "WordArithmetic", name := "takes", desc := "(I)I" } : Jvm.MethodName)) ∈ lw_all := lw_g (lw_at lw_m0 17 rfl) rfl
theorem q30 : (Jvm.Cond.methodLink "WordArithmeticLaw" (18 : Nat) ({ cls := "WordArithmetic", name := "takesLongs", desc := "(I)Z" } : Jvm.MethodName)) ∈ lw_all := lw_g (lw_at lw_m0 27 rfl) rfl
theorem q38 : (Jvm.Cond.methodLink "WordArithmeticLaw" (23 : Nat) ({ cls := "WordArithmetic", name := "leavesLong", desc := "(I)Z" } : Jvm.MethodName)) ∈ lw_all := lw_g (lw_at lw_m0 35 rfl) rfl
theorem q45 : (Jvm.Cond.methodLink "WordArithmeticLaw" (29 : Nat) ({ cls := "WordArithmetic", name := "work", desc := "(IJJ)I" } : Jvm.MethodName)) ∈ lw_all := lw_g (lw_at lw_m0 42 rfl) rfl
theorem q89 : (Jvm.Cond.methodLink "WordArithmeticLaw" (34 : Nat) ({ cls := "WordArithmetic", name := "result", desc := "()J" } : Jvm.MethodName)) ∈ lw_all := lw_g (lw_at lw_m0 86 rfl) rfl
theorem q93 : (Jvm.Cond.classLink "WordArithmeticLaw" (10 : Nat) "WordArithmeticModel") ∈ lw_all := lw_g (lw_at lw_m0 90 rfl) rfl
theorem q95 : (Jvm.Cond.methodLink "WordArithmeticLaw" (12 : Nat) ({ cls := "WordArithmeticModel", name := "<init>", desc := "()V" } : Jvm.MethodName)) ∈ lw_all := lw_g (lw_at lw_m0 92 rfl) rfl
theorem q103 : (Jvm.Cond.methodLink "WordArithmeticLaw" (17 : Nat) ({ cls := "WordArithmeticModel", name := "takes", desc := "(I)I" } : Jvm.MethodName)) ∈ lw_all := lw_g (lw_at lw_m0 100 rfl) rfl
theorem q116 : (Jvm.Cond.methodLink "WordArithmeticLaw" (22 : Nat) ({ cls := "WordArithmeticModel", name := "takesLongs", desc := "(I)Z" } : Jvm.MethodName)) ∈ lw_all := lw_g (lw_at lw_m0 113 rfl) rfl
theorem q120 : (Jvm.Cond.methodLink "WordArithmeticLaw" (26 : Nat) ({ cls := "WordArithmeticModel", name := "leavesLong", desc := "(I)Z" } : Jvm.MethodName)) ∈ lw_all := lw_g (lw_at lw_m0 117 rfl) rfl
theorem q124 : (Jvm.Cond.methodLink "WordArithmeticLaw" (33 : Nat) ({ cls := "WordArithmeticModel", name := "work", desc := "(IJJ)I" } : Jvm.MethodName)) ∈ lw_all := lw_g (lw_at lw_m0 121 rfl) rfl
theorem q171 : (Jvm.Cond.methodLink "WordArithmeticLaw" (38 : Nat) ({ cls := "WordArithmeticModel", name := "result", desc := "()J" } : Jvm.MethodName)) ∈ lw_all := lw_g (lw_at lw_m0 168 rfl) rfl
theorem q175 : (Jvm.Cond.constantLong "WordArithmeticLaw" (27 : Nat) (4294967295 : Int64)) ∈ lw_all := lw_g (lw_at lw_m0 172 rfl) rfl
theorem q4 : (Jvm.Cond.initialized "WordArithmetic") ∈ lw_all := lw_g (lw_at lw_m0 1 rfl) rfl
theorem q9 : (Jvm.Cond.instantiable "WordArithmetic" (1 : Nat)) ∈ lw_all := lw_g (lw_at lw_m0 6 rfl) rfl
theorem q11 : (Jvm.Cond.instanceMethod ({ cls := "WordArithmetic", name := "<init>", desc := "()V" } : Jvm.MethodName)) ∈ lw_all := lw_g (lw_at lw_m0 8 rfl) rfl
theorem q12 : (Jvm.Cond.code ({ cls := "WordArithmetic", name := "<init>", desc := "()V" } : Jvm.MethodName) prog_1_method_1_code (1 : Nat) (Option.none : Option Jvm.ClassFile.FieldType)) ∈ lw_all := lw_g (lw_at lw_m0 9 rfl) rfl
theorem q13 : (Jvm.Cond.methodLink "WordArithmetic" (1 : Nat) ({ cls := "java/lang/Object", name := "<init>", desc := "()V" } : Jvm.MethodName)) ∈ lw_all := lw_g (lw_at lw_m0 10 rfl) rfl
theorem q16 : (Jvm.Cond.fieldLink "WordArithmetic" (7 : Nat) "WordArithmetic" "result" "J") ∈ lw_all := lw_g (lw_at lw_m0 13 rfl) rfl
theorem q17 : (Jvm.Cond.lays "WordArithmetic" "WordArithmetic" "result" "J") ∈ lw_all := lw_g (lw_at lw_m0 14 rfl) rfl
theorem q18 : (Jvm.Cond.soleField "WordArithmetic" "result") ∈ lw_all := lw_g (lw_at lw_m0 15 rfl) rfl
theorem q19 : (Jvm.Cond.superclass "WordArithmetic" "java/lang/Object") ∈ lw_all := lw_g (lw_at lw_m0 16 rfl) rfl
theorem q21 : (Jvm.Cond.instanceMethod ({ cls := "WordArithmetic", name := "takes", desc := "(I)I" } : Jvm.MethodName)) ∈ lw_all := lw_g (lw_at lw_m0 18 rfl) rfl
theorem q22 : (Jvm.Cond.selects "WordArithmetic" ({ cls := "WordArithmetic", name := "takes", desc := "(I)I" } : Jvm.MethodName) ({ cls := "WordArithmetic", name := "takes", desc := "(I)I" } : Jvm.MethodName)) ∈ lw_all := lw_g (lw_at lw_m0 19 rfl) rfl
theorem q23 : (Jvm.Cond.code ({ cls := "WordArithmetic", name := "takes", desc := "(I)I" } : Jvm.MethodName) prog_1_method_3_code (2 : Nat) (Option.some Jvm.ClassFile.FieldType.int)) ∈ lw_all := lw_g (lw_at lw_m0 20 rfl) rfl
theorem q24 : (Jvm.Cond.methodLink "WordArithmetic" (13 : Nat) ({ cls := "WordArithmetic$Numbers", name := "isTwo", desc := "(I)Z" } : Jvm.MethodName)) ∈ lw_all := lw_g (lw_at lw_m0 21 rfl) rfl
theorem q27 : (Jvm.Cond.methodLink "WordArithmetic" (19 : Nat) ({ cls := "WordArithmetic", name := "isOne", desc := "(I)Z" } : Jvm.MethodName)) ∈ lw_all := lw_g (lw_at lw_m0 24 rfl) rfl
theorem q28 : (Jvm.Cond.static ({ cls := "WordArithmetic", name := "isOne", desc := "(I)Z" } : Jvm.MethodName)) ∈ lw_all := lw_g (lw_at lw_m0 25 rfl) rfl
theorem q29 : (Jvm.Cond.code ({ cls := "WordArithmetic", name := "isOne", desc := "(I)Z" } : Jvm.MethodName) prog_1_method_2_code (1 : Nat) (Option.some Jvm.ClassFile.FieldType.boolean)) ∈ lw_all := lw_g (lw_at lw_m0 26 rfl) rfl
theorem q31 : (Jvm.Cond.instanceMethod ({ cls := "WordArithmetic", name := "takesLongs", desc := "(I)Z" } : Jvm.MethodName)) ∈ lw_all := lw_g (lw_at lw_m0 28 rfl) rfl
theorem q32 : (Jvm.Cond.selects "WordArithmetic" ({ cls := "WordArithmetic", name := "takesLongs", desc := "(I)Z" } : Jvm.MethodName) ({ cls := "WordArithmetic", name := "takesLongs", desc := "(I)Z" } : Jvm.MethodName)) ∈ lw_all := lw_g (lw_at lw_m0 29 rfl) rfl
theorem q33 : (Jvm.Cond.code ({ cls := "WordArithmetic", name := "takesLongs", desc := "(I)Z" } : Jvm.MethodName) prog_1_method_4_code (2 : Nat) (Option.some Jvm.ClassFile.FieldType.boolean)) ∈ lw_all := lw_g (lw_at lw_m0 30 rfl) rfl
theorem q34 : (Jvm.Cond.methodLink "WordArithmetic" (22 : Nat) ({ cls := "WordArithmetic", name := "takes", desc := "(I)I" } : Jvm.MethodName)) ∈ lw_all := lw_g (lw_at lw_m0 31 rfl) rfl
theorem q35 : (Jvm.Cond.methodLink "WordArithmetic" (26 : Nat) ({ cls := "WordArithmetic$Numbers", name := "takes", desc := "(I)I" } : Jvm.MethodName)) ∈ lw_all := lw_g (lw_at lw_m0 32 rfl) rfl
theorem q39 : (Jvm.Cond.instanceMethod ({ cls := "WordArithmetic", name := "leavesLong", desc := "(I)Z" } : Jvm.MethodName)) ∈ lw_all := lw_g (lw_at lw_m0 36 rfl) rfl
theorem q40 : (Jvm.Cond.selects "WordArithmetic" ({ cls := "WordArithmetic", name := "leavesLong", desc := "(I)Z" } : Jvm.MethodName) ({ cls := "WordArithmetic", name := "leavesLong", desc := "(I)Z" } : Jvm.MethodName)) ∈ lw_all := lw_g (lw_at lw_m0 37 rfl) rfl
theorem q41 : (Jvm.Cond.code ({ cls := "WordArithmetic", name := "leavesLong", desc := "(I)Z" } : Jvm.MethodName) prog_1_method_5_code (2 : Nat) (Option.some Jvm.ClassFile.FieldType.boolean)) ∈ lw_all := lw_g (lw_at lw_m0 38 rfl) rfl
theorem q42 : (Jvm.Cond.methodLink "WordArithmetic" (27 : Nat) ({ cls := "WordArithmetic$Numbers", name := "leaves", desc := "(I)I" } : Jvm.MethodName)) ∈ lw_all := lw_g (lw_at lw_m0 39 rfl) rfl
theorem q46 : (Jvm.Cond.instanceMethod ({ cls := "WordArithmetic", name := "work", desc := "(IJJ)I" } : Jvm.MethodName)) ∈ lw_all := lw_g (lw_at lw_m0 43 rfl) rfl
theorem q47 : (Jvm.Cond.selects "WordArithmetic" ({ cls := "WordArithmetic", name := "work", desc := "(IJJ)I" } : Jvm.MethodName) ({ cls := "WordArithmetic", name := "work", desc := "(IJJ)I" } : Jvm.MethodName)) ∈ lw_all := lw_g (lw_at lw_m0 44 rfl) rfl
theorem q48 : (Jvm.Cond.code ({ cls := "WordArithmetic", name := "work", desc := "(IJJ)I" } : Jvm.MethodName) prog_1_method_6_code (13 : Nat) (Option.some Jvm.ClassFile.FieldType.int)) ∈ lw_all := lw_g (lw_at lw_m0 45 rfl) rfl
theorem q49 : (Jvm.Cond.methodLink "WordArithmetic" (30 : Nat) ({ cls := "WordArithmetic$Numbers", name := "trap", desc := "(IJJ)I" } : Jvm.MethodName)) ∈ lw_all := lw_g (lw_at lw_m0 46 rfl) rfl
theorem q55 : (Jvm.Cond.methodLink "WordArithmetic" (34 : Nat) ({ cls := "WordArithmetic$Numbers", name := "two", desc := "(IJJ)J" } : Jvm.MethodName)) ∈ lw_all := lw_g (lw_at lw_m0 52 rfl) rfl
theorem q77 : (Jvm.Cond.methodLink "WordArithmetic" (38 : Nat) ({ cls := "WordArithmetic$Numbers", name := "one", desc := "(IJ)J" } : Jvm.MethodName)) ∈ lw_all := lw_g (lw_at lw_m0 74 rfl) rfl
theorem q90 : (Jvm.Cond.instanceMethod ({ cls := "WordArithmetic", name := "result", desc := "()J" } : Jvm.MethodName)) ∈ lw_all := lw_g (lw_at lw_m0 87 rfl) rfl
theorem q91 : (Jvm.Cond.selects "WordArithmetic" ({ cls := "WordArithmetic", name := "result", desc := "()J" } : Jvm.MethodName) ({ cls := "WordArithmetic", name := "result", desc := "()J" } : Jvm.MethodName)) ∈ lw_all := lw_g (lw_at lw_m0 88 rfl) rfl
theorem q92 : (Jvm.Cond.code ({ cls := "WordArithmetic", name := "result", desc := "()J" } : Jvm.MethodName) prog_1_method_7_code (1 : Nat) (Option.some Jvm.ClassFile.FieldType.long)) ∈ lw_all := lw_g (lw_at lw_m0 89 rfl) rfl
theorem in_X0 : ∀ w ∈ wsX00, w ∈ lw_all := lw_in wsX00 [17] (by decide +kernel) (by decide +kernel)
theorem q5 : (Jvm.Cond.initialized "WordArithmeticModel") ∈ lw_all := lw_g (lw_at lw_m0 2 rfl) rfl
theorem q94 : (Jvm.Cond.instantiable "WordArithmeticModel" (1 : Nat)) ∈ lw_all := lw_g (lw_at lw_m0 91 rfl) rfl
theorem q96 : (Jvm.Cond.instanceMethod ({ cls := "WordArithmeticModel", name := "<init>", desc := "()V" } : Jvm.MethodName)) ∈ lw_all := lw_g (lw_at lw_m0 93 rfl) rfl
theorem q97 : (Jvm.Cond.code ({ cls := "WordArithmeticModel", name := "<init>", desc := "()V" } : Jvm.MethodName) prog_4_method_1_code (1 : Nat) (Option.none : Option Jvm.ClassFile.FieldType)) ∈ lw_all := lw_g (lw_at lw_m0 94 rfl) rfl
theorem q98 : (Jvm.Cond.methodLink "WordArithmeticModel" (1 : Nat) ({ cls := "java/lang/Object", name := "<init>", desc := "()V" } : Jvm.MethodName)) ∈ lw_all := lw_g (lw_at lw_m0 95 rfl) rfl
theorem q99 : (Jvm.Cond.fieldLink "WordArithmeticModel" (19 : Nat) "WordArithmeticModel" "result" "J") ∈ lw_all := lw_g (lw_at lw_m0 96 rfl) rfl
theorem q100 : (Jvm.Cond.lays "WordArithmeticModel" "WordArithmeticModel" "result" "J") ∈ lw_all := lw_g (lw_at lw_m0 97 rfl) rfl
theorem q101 : (Jvm.Cond.soleField "WordArithmeticModel" "result") ∈ lw_all := lw_g (lw_at lw_m0 98 rfl) rfl
theorem q102 : (Jvm.Cond.superclass "WordArithmeticModel" "java/lang/Object") ∈ lw_all := lw_g (lw_at lw_m0 99 rfl) rfl
theorem q104 : (Jvm.Cond.instanceMethod ({ cls := "WordArithmeticModel", name := "takes", desc := "(I)I" } : Jvm.MethodName)) ∈ lw_all := lw_g (lw_at lw_m0 101 rfl) rfl
theorem q105 : (Jvm.Cond.selects "WordArithmeticModel" ({ cls := "WordArithmeticModel", name := "takes", desc := "(I)I" } : Jvm.MethodName) ({ cls := "WordArithmeticModel", name := "takes", desc := "(I)I" } : Jvm.MethodName)) ∈ lw_all := lw_g (lw_at lw_m0 102 rfl) rfl
theorem q106 : (Jvm.Cond.code ({ cls := "WordArithmeticModel", name := "takes", desc := "(I)I" } : Jvm.MethodName) prog_4_method_6_code (2 : Nat) (Option.some Jvm.ClassFile.FieldType.int)) ∈ lw_all := lw_g (lw_at lw_m0 103 rfl) rfl
theorem q107 : (Jvm.Cond.methodLink "WordArithmeticModel" (7 : Nat) ({ cls := "WordArithmeticModel", name := "isLongs", desc := "(I)Z" } : Jvm.MethodName)) ∈ lw_all := lw_g (lw_at lw_m0 104 rfl) rfl
theorem q108 : (Jvm.Cond.static ({ cls := "WordArithmeticModel", name := "isLongs", desc := "(I)Z" } : Jvm.MethodName)) ∈ lw_all := lw_g (lw_at lw_m0 105 rfl) rfl
theorem q109 : (Jvm.Cond.code ({ cls := "WordArithmeticModel", name := "isLongs", desc := "(I)Z" } : Jvm.MethodName) prog_4_method_3_code (1 : Nat) (Option.some Jvm.ClassFile.FieldType.boolean)) ∈ lw_all := lw_g (lw_at lw_m0 106 rfl) rfl
theorem q110 : (Jvm.Cond.methodLink "WordArithmeticModel" (13 : Nat) ({ cls := "WordArithmeticModel", name := "isInts", desc := "(I)Z" } : Jvm.MethodName)) ∈ lw_all := lw_g (lw_at lw_m0 107 rfl) rfl
theorem q111 : (Jvm.Cond.static ({ cls := "WordArithmeticModel", name := "isInts", desc := "(I)Z" } : Jvm.MethodName)) ∈ lw_all := lw_g (lw_at lw_m0 108 rfl) rfl
theorem q112 : (Jvm.Cond.code ({ cls := "WordArithmeticModel", name := "isInts", desc := "(I)Z" } : Jvm.MethodName) prog_4_method_4_code (1 : Nat) (Option.some Jvm.ClassFile.FieldType.boolean)) ∈ lw_all := lw_g (lw_at lw_m0 109 rfl) rfl
theorem q113 : (Jvm.Cond.methodLink "WordArithmeticModel" (16 : Nat) ({ cls := "WordArithmeticModel", name := "isOne", desc := "(I)Z" } : Jvm.MethodName)) ∈ lw_all := lw_g (lw_at lw_m0 110 rfl) rfl
theorem q114 : (Jvm.Cond.static ({ cls := "WordArithmeticModel", name := "isOne", desc := "(I)Z" } : Jvm.MethodName)) ∈ lw_all := lw_g (lw_at lw_m0 111 rfl) rfl
theorem q115 : (Jvm.Cond.code ({ cls := "WordArithmeticModel", name := "isOne", desc := "(I)Z" } : Jvm.MethodName) prog_4_method_5_code (1 : Nat) (Option.some Jvm.ClassFile.FieldType.boolean)) ∈ lw_all := lw_g (lw_at lw_m0 112 rfl) rfl
theorem q117 : (Jvm.Cond.instanceMethod ({ cls := "WordArithmeticModel", name := "takesLongs", desc := "(I)Z" } : Jvm.MethodName)) ∈ lw_all := lw_g (lw_at lw_m0 114 rfl) rfl
theorem q118 : (Jvm.Cond.selects "WordArithmeticModel" ({ cls := "WordArithmeticModel", name := "takesLongs", desc := "(I)Z" } : Jvm.MethodName) ({ cls := "WordArithmeticModel", name := "takesLongs", desc := "(I)Z" } : Jvm.MethodName)) ∈ lw_all := lw_g (lw_at lw_m0 115 rfl) rfl
theorem q119 : (Jvm.Cond.code ({ cls := "WordArithmeticModel", name := "takesLongs", desc := "(I)Z" } : Jvm.MethodName) prog_4_method_7_code (2 : Nat) (Option.some Jvm.ClassFile.FieldType.boolean)) ∈ lw_all := lw_g (lw_at lw_m0 116 rfl) rfl
theorem q121 : (Jvm.Cond.instanceMethod ({ cls := "WordArithmeticModel", name := "leavesLong", desc := "(I)Z" } : Jvm.MethodName)) ∈ lw_all := lw_g (lw_at lw_m0 118 rfl) rfl
theorem q122 : (Jvm.Cond.selects "WordArithmeticModel" ({ cls := "WordArithmeticModel", name := "leavesLong", desc := "(I)Z" } : Jvm.MethodName) ({ cls := "WordArithmeticModel", name := "leavesLong", desc := "(I)Z" } : Jvm.MethodName)) ∈ lw_all := lw_g (lw_at lw_m0 119 rfl) rfl
theorem q123 : (Jvm.Cond.code ({ cls := "WordArithmeticModel", name := "leavesLong", desc := "(I)Z" } : Jvm.MethodName) prog_4_method_8_code (2 : Nat) (Option.some Jvm.ClassFile.FieldType.boolean)) ∈ lw_all := lw_g (lw_at lw_m0 120 rfl) rfl
theorem q125 : (Jvm.Cond.instanceMethod ({ cls := "WordArithmeticModel", name := "work", desc := "(IJJ)I" } : Jvm.MethodName)) ∈ lw_all := lw_g (lw_at lw_m0 122 rfl) rfl
theorem q126 : (Jvm.Cond.selects "WordArithmeticModel" ({ cls := "WordArithmeticModel", name := "work", desc := "(IJJ)I" } : Jvm.MethodName) ({ cls := "WordArithmeticModel", name := "work", desc := "(IJJ)I" } : Jvm.MethodName)) ∈ lw_all := lw_g (lw_at lw_m0 123 rfl) rfl
theorem q127 : (Jvm.Cond.code ({ cls := "WordArithmeticModel", name := "work", desc := "(IJJ)I" } : Jvm.MethodName) prog_4_method_12_code (12 : Nat) (Option.some Jvm.ClassFile.FieldType.int)) ∈ lw_all := lw_g (lw_at lw_m0 124 rfl) rfl
theorem q128 : (Jvm.Cond.methodLink "WordArithmeticModel" (27 : Nat) ({ cls := "WordArithmeticModel", name := "takes", desc := "(I)I" } : Jvm.MethodName)) ∈ lw_all := lw_g (lw_at lw_m0 125 rfl) rfl
theorem q129 : (Jvm.Cond.methodLink "WordArithmeticModel" (23 : Nat) ({ cls := "WordArithmeticModel", name := "cut", desc := "(JI)J" } : Jvm.MethodName)) ∈ lw_all := lw_g (lw_at lw_m0 126 rfl) rfl
theorem q130 : (Jvm.Cond.static ({ cls := "WordArithmeticModel", name := "cut", desc := "(JI)J" } : Jvm.MethodName)) ∈ lw_all := lw_g (lw_at lw_m0 127 rfl) rfl
theorem q131 : (Jvm.Cond.code ({ cls := "WordArithmeticModel", name := "cut", desc := "(JI)J" } : Jvm.MethodName) prog_4_method_10_code (3 : Nat) (Option.some Jvm.ClassFile.FieldType.long)) ∈ lw_all := lw_g (lw_at lw_m0 128 rfl) rfl
theorem q132 : (Jvm.Cond.methodLink "WordArithmeticModel" (31 : Nat) ({ cls := "WordArithmeticModel", name := "one", desc := "(IJI)J" } : Jvm.MethodName)) ∈ lw_all := lw_g (lw_at lw_m0 129 rfl) rfl
theorem q133 : (Jvm.Cond.static ({ cls := "WordArithmeticModel", name := "one", desc := "(IJI)J" } : Jvm.MethodName)) ∈ lw_all := lw_g (lw_at lw_m0 130 rfl) rfl
theorem q134 : (Jvm.Cond.code ({ cls := "WordArithmeticModel", name := "one", desc := "(IJI)J" } : Jvm.MethodName) prog_4_method_13_code (4 : Nat) (Option.some Jvm.ClassFile.FieldType.long)) ∈ lw_all := lw_g (lw_at lw_m0 131 rfl) rfl
theorem q135 : (Jvm.Cond.methodLink "WordArithmeticModel" (47 : Nat) ({ cls := "WordArithmeticModel", name := "zeros", desc := "(JIZ)I" } : Jvm.MethodName)) ∈ lw_all := lw_g (lw_at lw_m0 132 rfl) rfl
theorem q136 : (Jvm.Cond.static ({ cls := "WordArithmeticModel", name := "zeros", desc := "(JIZ)I" } : Jvm.MethodName)) ∈ lw_all := lw_g (lw_at lw_m0 133 rfl) rfl
theorem q137 : (Jvm.Cond.code ({ cls := "WordArithmeticModel", name := "zeros", desc := "(JIZ)I" } : Jvm.MethodName) prog_4_method_15_code (5 : Nat) (Option.some Jvm.ClassFile.FieldType.int)) ∈ lw_all := lw_g (lw_at lw_m0 134 rfl) rfl
theorem q138 : (Jvm.Cond.methodLink "WordArithmeticModel" (58 : Nat) ({ cls := "WordArithmeticModel", name := "isSet", desc := "(JI)Z" } : Jvm.MethodName)) ∈ lw_all := lw_g (lw_at lw_m0 135 rfl) rfl
theorem q139 : (Jvm.Cond.static ({ cls := "WordArithmeticModel", name := "isSet", desc := "(JI)Z" } : Jvm.MethodName)) ∈ lw_all := lw_g (lw_at lw_m0 136 rfl) rfl
theorem q140 : (Jvm.Cond.code ({ cls := "WordArithmeticModel", name := "isSet", desc := "(JI)Z" } : Jvm.MethodName) prog_4_method_14_code (3 : Nat) (Option.some Jvm.ClassFile.FieldType.boolean)) ∈ lw_all := lw_g (lw_at lw_m0 137 rfl) rfl
theorem q141 : (Jvm.Cond.methodLink "WordArithmeticModel" (51 : Nat) ({ cls := "WordArithmeticModel", name := "ones", desc := "(JI)I" } : Jvm.MethodName)) ∈ lw_all := lw_g (lw_at lw_m0 138 rfl) rfl
theorem q142 : (Jvm.Cond.static ({ cls := "WordArithmeticModel", name := "ones", desc := "(JI)I" } : Jvm.MethodName)) ∈ lw_all := lw_g (lw_at lw_m0 139 rfl) rfl
theorem q143 : (Jvm.Cond.code ({ cls := "WordArithmeticModel", name := "ones", desc := "(JI)I" } : Jvm.MethodName) prog_4_method_16_code (5 : Nat) (Option.some Jvm.ClassFile.FieldType.int)) ∈ lw_all := lw_g (lw_at lw_m0 140 rfl) rfl
theorem q144 : (Jvm.Cond.methodLink "WordArithmeticModel" (55 : Nat) ({ cls := "WordArithmeticModel", name := "signed", desc := "(JI)J" } : Jvm.MethodName)) ∈ lw_all := lw_g (lw_at lw_m0 141 rfl) rfl
theorem q145 : (Jvm.Cond.static ({ cls := "WordArithmeticModel", name := "signed", desc := "(JI)J" } : Jvm.MethodName)) ∈ lw_all := lw_g (lw_at lw_m0 142 rfl) rfl
theorem q146 : (Jvm.Cond.code ({ cls := "WordArithmeticModel", name := "signed", desc := "(JI)J" } : Jvm.MethodName) prog_4_method_11_code (5 : Nat) (Option.some Jvm.ClassFile.FieldType.long)) ∈ lw_all := lw_g (lw_at lw_m0 143 rfl) rfl
theorem q147 : (Jvm.Cond.methodLink "WordArithmeticModel" (35 : Nat) ({ cls := "WordArithmeticModel", name := "told", desc := "(J)I" } : Jvm.MethodName)) ∈ lw_all := lw_g (lw_at lw_m0 144 rfl) rfl
theorem q148 : (Jvm.Cond.privateMethod ({ cls := "WordArithmeticModel", name := "told", desc := "(J)I" } : Jvm.MethodName)) ∈ lw_tbl := lw_at lw_m0 145 rfl
theorem q149 : (Jvm.Cond.instanceMethod ({ cls := "WordArithmeticModel", name := "told", desc := "(J)I" } : Jvm.MethodName)) ∈ lw_all := lw_g (lw_at lw_m0 146 rfl) rfl
theorem q150 : (Jvm.Cond.code ({ cls := "WordArithmeticModel", name := "told", desc := "(J)I" } : Jvm.MethodName) prog_4_method_9_code (3 : Nat) (Option.some Jvm.ClassFile.FieldType.int)) ∈ lw_all := lw_g (lw_at lw_m0 147 rfl) rfl
theorem q151 : (Jvm.Cond.methodLink "WordArithmeticModel" (39 : Nat) ({ cls := "WordArithmeticModel", name := "compared", desc := "(IJJI)Z" } : Jvm.MethodName)) ∈ lw_all := lw_g (lw_at lw_m0 148 rfl) rfl
theorem q152 : (Jvm.Cond.static ({ cls := "WordArithmeticModel", name := "compared", desc := "(IJJI)Z" } : Jvm.MethodName)) ∈ lw_all := lw_g (lw_at lw_m0 149 rfl) rfl
theorem q153 : (Jvm.Cond.code ({ cls := "WordArithmeticModel", name := "compared", desc := "(IJJI)Z" } : Jvm.MethodName) prog_4_method_18_code (11 : Nat) (Option.some Jvm.ClassFile.FieldType.boolean)) ∈ lw_all := lw_g (lw_at lw_m0 150 rfl) rfl
theorem q154 : (Jvm.Cond.methodLink "WordArithmeticModel" (62 : Nat) ({ cls := "WordArithmeticModel", name := "isBelow", desc := "(JJ)Z" } : Jvm.MethodName)) ∈ lw_all := lw_g (lw_at lw_m0 151 rfl) rfl
theorem q155 : (Jvm.Cond.static ({ cls := "WordArithmeticModel", name := "isBelow", desc := "(JJ)Z" } : Jvm.MethodName)) ∈ lw_all := lw_g (lw_at lw_m0 152 rfl) rfl
theorem q156 : (Jvm.Cond.code ({ cls := "WordArithmeticModel", name := "isBelow", desc := "(JJ)Z" } : Jvm.MethodName) prog_4_method_17_code (5 : Nat) (Option.some Jvm.ClassFile.FieldType.boolean)) ∈ lw_all := lw_g (lw_at lw_m0 153 rfl) rfl
theorem q157 : (Jvm.Cond.methodLink "WordArithmeticModel" (43 : Nat) ({ cls := "WordArithmeticModel", name := "two", desc := "(IJJI)I" } : Jvm.MethodName)) ∈ lw_all := lw_g (lw_at lw_m0 154 rfl) rfl
theorem q158 : (Jvm.Cond.privateMethod ({ cls := "WordArithmeticModel", name := "two", desc := "(IJJI)I" } : Jvm.MethodName)) ∈ lw_tbl := lw_at lw_m0 155 rfl
theorem q159 : (Jvm.Cond.instanceMethod ({ cls := "WordArithmeticModel", name := "two", desc := "(IJJI)I" } : Jvm.MethodName)) ∈ lw_all := lw_g (lw_at lw_m0 156 rfl) rfl
theorem q160 : (Jvm.Cond.code ({ cls := "WordArithmeticModel", name := "two", desc := "(IJJI)I" } : Jvm.MethodName) prog_4_method_19_code (10 : Nat) (Option.some Jvm.ClassFile.FieldType.int)) ∈ lw_all := lw_g (lw_at lw_m0 157 rfl) rfl
theorem q161 : (Jvm.Cond.methodLink "WordArithmeticModel" (66 : Nat) ({ cls := "WordArithmeticModel", name := "divided", desc := "(IJJI)I" } : Jvm.MethodName)) ∈ lw_all := lw_g (lw_at lw_m0 158 rfl) rfl
theorem q162 : (Jvm.Cond.privateMethod ({ cls := "WordArithmeticModel", name := "divided", desc := "(IJJI)I" } : Jvm.MethodName)) ∈ lw_tbl := lw_at lw_m0 159 rfl
theorem q163 : (Jvm.Cond.instanceMethod ({ cls := "WordArithmeticModel", name := "divided", desc := "(IJJI)I" } : Jvm.MethodName)) ∈ lw_all := lw_g (lw_at lw_m0 160 rfl) rfl
theorem q164 : (Jvm.Cond.code ({ cls := "WordArithmeticModel", name := "divided", desc := "(IJJI)I" } : Jvm.MethodName) prog_4_method_22_code (23 : Nat) (Option.some Jvm.ClassFile.FieldType.int)) ∈ lw_all := lw_g (lw_at lw_m0 161 rfl) rfl
theorem q165 : (Jvm.Cond.methodLink "WordArithmeticModel" (69 : Nat) ({ cls := "WordArithmeticModel", name := "product", desc := "(JJI)J" } : Jvm.MethodName)) ∈ lw_all := lw_g (lw_at lw_m0 162 rfl) rfl
theorem q166 : (Jvm.Cond.static ({ cls := "WordArithmeticModel", name := "product", desc := "(JJI)J" } : Jvm.MethodName)) ∈ lw_all := lw_g (lw_at lw_m0 163 rfl) rfl
theorem q167 : (Jvm.Cond.code ({ cls := "WordArithmeticModel", name := "product", desc := "(JJI)J" } : Jvm.MethodName) prog_4_method_21_code (8 : Nat) (Option.some Jvm.ClassFile.FieldType.long)) ∈ lw_all := lw_g (lw_at lw_m0 164 rfl) rfl
theorem q168 : (Jvm.Cond.methodLink "WordArithmeticModel" (73 : Nat) ({ cls := "WordArithmeticModel", name := "turned", desc := "(JII)J" } : Jvm.MethodName)) ∈ lw_all := lw_g (lw_at lw_m0 165 rfl) rfl
theorem q169 : (Jvm.Cond.static ({ cls := "WordArithmeticModel", name := "turned", desc := "(JII)J" } : Jvm.MethodName)) ∈ lw_all := lw_g (lw_at lw_m0 166 rfl) rfl
theorem q170 : (Jvm.Cond.code ({ cls := "WordArithmeticModel", name := "turned", desc := "(JII)J" } : Jvm.MethodName) prog_4_method_20_code (7 : Nat) (Option.some Jvm.ClassFile.FieldType.long)) ∈ lw_all := lw_g (lw_at lw_m0 167 rfl) rfl
theorem q172 : (Jvm.Cond.instanceMethod ({ cls := "WordArithmeticModel", name := "result", desc := "()J" } : Jvm.MethodName)) ∈ lw_all := lw_g (lw_at lw_m0 169 rfl) rfl
theorem q173 : (Jvm.Cond.selects "WordArithmeticModel" ({ cls := "WordArithmeticModel", name := "result", desc := "()J" } : Jvm.MethodName) ({ cls := "WordArithmeticModel", name := "result", desc := "()J" } : Jvm.MethodName)) ∈ lw_all := lw_g (lw_at lw_m0 170 rfl) rfl
theorem q174 : (Jvm.Cond.code ({ cls := "WordArithmeticModel", name := "result", desc := "()J" } : Jvm.MethodName) prog_4_method_23_code (1 : Nat) (Option.some Jvm.ClassFile.FieldType.long)) ∈ lw_all := lw_g (lw_at lw_m0 171 rfl) rfl
theorem in_X1 : ∀ w ∈ wsX10, w ∈ lw_all := lw_in wsX10 [100] (by decide +kernel) (by decide +kernel)
theorem q6 : (Jvm.Cond.initialized "WordArithmetic$Numbers") ∈ lw_all := lw_g (lw_at lw_m0 3 rfl) rfl
theorem q25 : (Jvm.Cond.static ({ cls := "WordArithmetic$Numbers", name := "isTwo", desc := "(I)Z" } : Jvm.MethodName)) ∈ lw_all := lw_g (lw_at lw_m0 22 rfl) rfl
theorem q26 : (Jvm.Cond.code ({ cls := "WordArithmetic$Numbers", name := "isTwo", desc := "(I)Z" } : Jvm.MethodName) prog_2_method_3_code (1 : Nat) (Option.some Jvm.ClassFile.FieldType.boolean)) ∈ lw_all := lw_g (lw_at lw_m0 23 rfl) rfl
theorem q36 : (Jvm.Cond.static ({ cls := "WordArithmetic$Numbers", name := "takes", desc := "(I)I" } : Jvm.MethodName)) ∈ lw_all := lw_g (lw_at lw_m0 33 rfl) rfl
theorem q37 : (Jvm.Cond.code ({ cls := "WordArithmetic$Numbers", name := "takes", desc := "(I)I" } : Jvm.MethodName) prog_2_method_2_code (1 : Nat) (Option.some Jvm.ClassFile.FieldType.int)) ∈ lw_all := lw_g (lw_at lw_m0 34 rfl) rfl
theorem q43 : (Jvm.Cond.static ({ cls := "WordArithmetic$Numbers", name := "leaves", desc := "(I)I" } : Jvm.MethodName)) ∈ lw_all := lw_g (lw_at lw_m0 40 rfl) rfl
theorem q44 : (Jvm.Cond.code ({ cls := "WordArithmetic$Numbers", name := "leaves", desc := "(I)I" } : Jvm.MethodName) prog_2_method_4_code (1 : Nat) (Option.some Jvm.ClassFile.FieldType.int)) ∈ lw_all := lw_g (lw_at lw_m0 41 rfl) rfl
theorem q50 : (Jvm.Cond.static ({ cls := "WordArithmetic$Numbers", name := "trap", desc := "(IJJ)I" } : Jvm.MethodName)) ∈ lw_all := lw_g (lw_at lw_m0 47 rfl) rfl
theorem q51 : (Jvm.Cond.code ({ cls := "WordArithmetic$Numbers", name := "trap", desc := "(IJJ)I" } : Jvm.MethodName) prog_2_method_7_code (6 : Nat) (Option.some Jvm.ClassFile.FieldType.int)) ∈ lw_all := lw_g (lw_at lw_m0 48 rfl) rfl
theorem q52 : (Jvm.Cond.constantLong "WordArithmetic$Numbers" (22 : Nat) (-2147483648 : Int64)) ∈ lw_all := lw_g (lw_at lw_m0 49 rfl) rfl
theorem q53 : (Jvm.Cond.constantLong "WordArithmetic$Numbers" (24 : Nat) (-1 : Int64)) ∈ lw_all := lw_g (lw_at lw_m0 50 rfl) rfl
theorem q54 : (Jvm.Cond.constantLong "WordArithmetic$Numbers" (11 : Nat) (-9223372036854775808 : Int64)) ∈ lw_all := lw_g (lw_at lw_m0 51 rfl) rfl
theorem q56 : (Jvm.Cond.static ({ cls := "WordArithmetic$Numbers", name := "two", desc := "(IJJ)J" } : Jvm.MethodName)) ∈ lw_all := lw_g (lw_at lw_m0 53 rfl) rfl
theorem q57 : (Jvm.Cond.code ({ cls := "WordArithmetic$Numbers", name := "two", desc := "(IJJ)J" } : Jvm.MethodName) prog_2_method_8_code (5 : Nat) (Option.some Jvm.ClassFile.FieldType.long)) ∈ lw_all := lw_g (lw_at lw_m0 54 rfl) rfl
theorem q58 : (Jvm.Cond.methodLink "WordArithmetic$Numbers" (26 : Nat) ({ cls := "WordArithmetic$Numbers", name := "holds", desc := "(IJJ)Z" } : Jvm.MethodName)) ∈ lw_all := lw_g (lw_at lw_m0 55 rfl) rfl
theorem q59 : (Jvm.Cond.static ({ cls := "WordArithmetic$Numbers", name := "holds", desc := "(IJJ)Z" } : Jvm.MethodName)) ∈ lw_all := lw_g (lw_at lw_m0 56 rfl) rfl
theorem q60 : (Jvm.Cond.code ({ cls := "WordArithmetic$Numbers", name := "holds", desc := "(IJJ)Z" } : Jvm.MethodName) prog_2_method_6_code (5 : Nat) (Option.some Jvm.ClassFile.FieldType.boolean)) ∈ lw_all := lw_g (lw_at lw_m0 57 rfl) rfl
theorem q61 : (Jvm.Cond.methodLink "WordArithmetic$Numbers" (17 : Nat) ({ cls := "WordArithmetic$Numbers", name := "order", desc := "(JJ)I" } : Jvm.MethodName)) ∈ lw_all := lw_g (lw_at lw_m0 58 rfl) rfl
theorem q62 : (Jvm.Cond.static ({ cls := "WordArithmetic$Numbers", name := "order", desc := "(JJ)I" } : Jvm.MethodName)) ∈ lw_all := lw_g (lw_at lw_m0 59 rfl) rfl
theorem q63 : (Jvm.Cond.code ({ cls := "WordArithmetic$Numbers", name := "order", desc := "(JJ)I" } : Jvm.MethodName) prog_2_method_5_code (4 : Nat) (Option.some Jvm.ClassFile.FieldType.int)) ∈ lw_all := lw_g (lw_at lw_m0 60 rfl) rfl
theorem q64 : (Jvm.Cond.methodLink "WordArithmetic$Numbers" (13 : Nat) ({ cls := "java/lang/Long", name := "compare", desc := "(JJ)I" } : Jvm.MethodName)) ∈ lw_all := lw_g (lw_at lw_m0 61 rfl) rfl
theorem q67 : (Jvm.Cond.methodLink "WordArithmetic$Numbers" (30 : Nat) ({ cls := "WordArithmetic$Numbers", name := "ints", desc := "(III)I" } : Jvm.MethodName)) ∈ lw_all := lw_g (lw_at lw_m0 64 rfl) rfl
theorem q68 : (Jvm.Cond.static ({ cls := "WordArithmetic$Numbers", name := "ints", desc := "(III)I" } : Jvm.MethodName)) ∈ lw_all := lw_g (lw_at lw_m0 65 rfl) rfl
theorem q69 : (Jvm.Cond.code ({ cls := "WordArithmetic$Numbers", name := "ints", desc := "(III)I" } : Jvm.MethodName) prog_2_method_9_code (7 : Nat) (Option.some Jvm.ClassFile.FieldType.int)) ∈ lw_all := lw_g (lw_at lw_m0 66 rfl) rfl
theorem q70 : (Jvm.Cond.constantLong "WordArithmetic$Numbers" (38 : Nat) (4294967295 : Int64)) ∈ lw_all := lw_g (lw_at lw_m0 67 rfl) rfl
theorem q71 : (Jvm.Cond.methodLink "WordArithmetic$Numbers" (34 : Nat) ({ cls := "WordArithmetic$Numbers", name := "longs", desc := "(IJJ)J" } : Jvm.MethodName)) ∈ lw_all := lw_g (lw_at lw_m0 68 rfl) rfl
theorem q72 : (Jvm.Cond.static ({ cls := "WordArithmetic$Numbers", name := "longs", desc := "(IJJ)J" } : Jvm.MethodName)) ∈ lw_all := lw_g (lw_at lw_m0 69 rfl) rfl
theorem q73 : (Jvm.Cond.code ({ cls := "WordArithmetic$Numbers", name := "longs", desc := "(IJJ)J" } : Jvm.MethodName) prog_2_method_11_code (7 : Nat) (Option.some Jvm.ClassFile.FieldType.long)) ∈ lw_all := lw_g (lw_at lw_m0 70 rfl) rfl
theorem q74 : (Jvm.Cond.methodLink "WordArithmetic$Numbers" (40 : Nat) ({ cls := "WordArithmetic$Numbers", name := "quotient", desc := "(JJ)J" } : Jvm.MethodName)) ∈ lw_all := lw_g (lw_at lw_m0 71 rfl) rfl
theorem q75 : (Jvm.Cond.static ({ cls := "WordArithmetic$Numbers", name := "quotient", desc := "(JJ)J" } : Jvm.MethodName)) ∈ lw_all := lw_g (lw_at lw_m0 72 rfl) rfl
theorem q76 : (Jvm.Cond.code ({ cls := "WordArithmetic$Numbers", name := "quotient", desc := "(JJ)J" } : Jvm.MethodName) prog_2_method_10_code (6 : Nat) (Option.some Jvm.ClassFile.FieldType.long)) ∈ lw_all := lw_g (lw_at lw_m0 73 rfl) rfl
theorem q78 : (Jvm.Cond.static ({ cls := "WordArithmetic$Numbers", name := "one", desc := "(IJ)J" } : Jvm.MethodName)) ∈ lw_all := lw_g (lw_at lw_m0 75 rfl) rfl
theorem q79 : (Jvm.Cond.code ({ cls := "WordArithmetic$Numbers", name := "one", desc := "(IJ)J" } : Jvm.MethodName) prog_2_method_15_code (3 : Nat) (Option.some Jvm.ClassFile.FieldType.long)) ∈ lw_all := lw_g (lw_at lw_m0 76 rfl) rfl
theorem q80 : (Jvm.Cond.methodLink "WordArithmetic$Numbers" (44 : Nat) ({ cls := "WordArithmetic$Numbers", name := "leading", desc := "(JI)J" } : Jvm.MethodName)) ∈ lw_all := lw_g (lw_at lw_m0 77 rfl) rfl
theorem q81 : (Jvm.Cond.static ({ cls := "WordArithmetic$Numbers", name := "leading", desc := "(JI)J" } : Jvm.MethodName)) ∈ lw_all := lw_g (lw_at lw_m0 78 rfl) rfl
theorem q82 : (Jvm.Cond.code ({ cls := "WordArithmetic$Numbers", name := "leading", desc := "(JI)J" } : Jvm.MethodName) prog_2_method_12_code (4 : Nat) (Option.some Jvm.ClassFile.FieldType.long)) ∈ lw_all := lw_g (lw_at lw_m0 79 rfl) rfl
theorem q83 : (Jvm.Cond.methodLink "WordArithmetic$Numbers" (48 : Nat) ({ cls := "WordArithmetic$Numbers", name := "trailing", desc := "(JI)J" } : Jvm.MethodName)) ∈ lw_all := lw_g (lw_at lw_m0 80 rfl) rfl
theorem q84 : (Jvm.Cond.static ({ cls := "WordArithmetic$Numbers", name := "trailing", desc := "(JI)J" } : Jvm.MethodName)) ∈ lw_all := lw_g (lw_at lw_m0 81 rfl) rfl
theorem q85 : (Jvm.Cond.code ({ cls := "WordArithmetic$Numbers", name := "trailing", desc := "(JI)J" } : Jvm.MethodName) prog_2_method_13_code (4 : Nat) (Option.some Jvm.ClassFile.FieldType.long)) ∈ lw_all := lw_g (lw_at lw_m0 82 rfl) rfl
theorem q86 : (Jvm.Cond.methodLink "WordArithmetic$Numbers" (51 : Nat) ({ cls := "WordArithmetic$Numbers", name := "ones", desc := "(JI)J" } : Jvm.MethodName)) ∈ lw_all := lw_g (lw_at lw_m0 83 rfl) rfl
theorem q87 : (Jvm.Cond.static ({ cls := "WordArithmetic$Numbers", name := "ones", desc := "(JI)J" } : Jvm.MethodName)) ∈ lw_all := lw_g (lw_at lw_m0 84 rfl) rfl
theorem q88 : (Jvm.Cond.code ({ cls := "WordArithmetic$Numbers", name := "ones", desc := "(JI)J" } : Jvm.MethodName) prog_2_method_14_code (5 : Nat) (Option.some Jvm.ClassFile.FieldType.long)) ∈ lw_all := lw_g (lw_at lw_m0 85 rfl) rfl
theorem q7 : (Jvm.Cond.initialized "java/lang/Long") ∈ lw_all := lw_g (lw_at lw_m0 4 rfl) rfl
theorem q65 : (Jvm.Cond.static ({ cls := "java/lang/Long", name := "compare", desc := "(JJ)I" } : Jvm.MethodName)) ∈ lw_all := lw_g (lw_at lw_m0 62 rfl) rfl
theorem q66 : (Jvm.Cond.code ({ cls := "java/lang/Long", name := "compare", desc := "(JJ)I" } : Jvm.MethodName) prog_5_method_42_code (4 : Nat) (Option.some Jvm.ClassFile.FieldType.int)) ∈ lw_all := lw_g (lw_at lw_m0 63 rfl) rfl
theorem q14 : (Jvm.Cond.instanceMethod ({ cls := "java/lang/Object", name := "<init>", desc := "()V" } : Jvm.MethodName)) ∈ lw_all := lw_g (lw_at lw_m0 11 rfl) rfl
theorem q15 : (Jvm.Cond.code ({ cls := "java/lang/Object", name := "<init>", desc := "()V" } : Jvm.MethodName) object_method_1_code (1 : Nat) (Option.none : Option Jvm.ClassFile.FieldType)) ∈ lw_all := lw_g (lw_at lw_m0 12 rfl) rfl
end
section
/-! what the walks share: plain words for shifts and truth values, contracts of methods that only read -/
def bi (b : Bool) : Int32 := if b then 1 else 0
def j_iushr (x y : Int32) : Int32 := (x.toUInt32 >>> (y.toUInt32 &&& Int32.toUInt32 31)).toInt32
def j_lushr (x : Int64) (y : Int32) : Int64 := (x.toUInt64 >>> (y.toInt64.toUInt64 &&& Int64.toUInt64 63)).toInt64
def j_lshl (x : Int64) (y : Int32) : Int64 := x <<< (y.toInt64 &&& 63)
def j_lshr (x : Int64) (y : Int32) : Int64 := x >>> (y.toInt64 &&& 63)
theorem narrow_bi (b : Bool) : narrow .boolean (.int (bi b)) = .int (bi b) := by cases b <;> rfl
theorem bi_0 {b : Bool} : bi b = 0 ↔ b = false := by cases b <;> decide
theorem bi_1 {b : Bool} : bi b = 1 ↔ b = true := by cases b <;> decide
theorem bi_inj {a b : Bool} : bi a = bi b ↔ a = b := by cases a <;> cases b <;> decide
/-- an answer that is a long, the heap untouched -/
def QcReadL (r : Int64) : Array Value → State → Outcome → State → Prop := fun _ st o t => o = .returned (some (.long r)) ∧ t.heap = st.heap
theorem jnil {free : Addr → Prop} : ∀ q ∈ ([] : List Loc), free q.base := fun q h => by cases h
theorem jr_z {R b : Bool} {v : Int32} {a : Array Value} {s t : State} (hR : R = b) (hv : v = bi b) (ht : t.heap = s.heap) : QcRead (bi R) a s (.returned (some (.int v))) t := ⟨by rw [hR, hv], ht⟩
theorem jr_i {R v : Int32} {a : Array Value} {s t : State} (hR : R = v) (ht : t.heap = s.heap) : QcRead R a s (.returned (some (.int v))) t := ⟨by rw [hR], ht⟩
theorem jr_l {R v : Int64} {a : Array Value} {s t : State} (hR : R = v) (ht : t.heap = s.heap) : QcReadL R a s (.returned (some (.long v))) t := ⟨by rw [hR], ht⟩
section JW
variable {p : Program} {l : Launch} {e : Env} {R : Room} {s : State} {m : MethodId} {args : Array Value} {below : List Frame} {meth : Method} {c : Code} {H : Heap} {locs : List Loc} {cells slots : Nat} {Q : State → Prop}
variable {pc : Nat} {ls : Array Slot} {rest st0 : List Value} {a : Array Value}
theorem jw_callI {r : Int32} (hr : CallRun p l e R s m args below meth c H locs cells slots 0 0 (F0 m pc ls st0) rest (QcRead r a) (fun _ => False)) (kk : W p l e R s m args below meth c H locs cells slots Q (F0 m (pc + 3) ls (.int r :: rest))) : W p l e R s m args below meth c H locs cells slots Q (F0 m pc ls st0) := W.callR hr kk
theorem jw_callJ {r : Int64} (hr : CallRun p l e R s m args below meth c H locs cells slots 0 0 (F0 m pc ls st0) rest (QcReadL r a) (fun _ => False)) (kk : W p l e R s m args below meth c H locs cells slots Q (F0 m (pc + 3) ls (.long r :: rest))) : W p l e R s m args below meth c H locs cells slots Q (F0 m pc ls st0) := by
  intro T hT X
  obtain ⟨v, st₀, t, T', L, h0, X', hL, e1, ⟨hv, hh⟩, st⟩ := hr T hT X
  cases hv
  obtain ⟨t2, a1, b1⟩ := kk T' (by rw [e1, hh, h0]) (Stand.forget X' (fun q h => (hL q h).elim))
  exact ⟨t2, st t2 a1, b1⟩
end JW
/-- the cell h is an object of the class C -/
def rc_ok (C : String) (h : Nat) (U : State) : Prop := ∃ cell : Cell, U.heap[h]? = some cell ∧ cell.vm.isStatics = false ∧ U.vm.findClass C = some cell.cls
theorem preRc {s : State} {H : Heap} {C : String} {h : Nat} {As : List Value} (hrc : ∃ cell : Cell, H[h]? = some cell ∧ cell.vm.isStatics = false ∧ s.vm.findClass C = some cell.cls) : PreV s H C h (fun v U => v = (Value.ref h :: As).toArray ∧ rc_ok C h U) As :=
  ⟨fun a U g mk q => q, hrc, fun U hU hW => ⟨rfl, by
    obtain ⟨cell, h1, h2, h3⟩ := hrc
    exact ⟨cell, by rw [hU]; exact h1, h2, by rw [hW.alike.findClass]; exact h3⟩⟩⟩
theorem jl_up {b v : Int32} {n : Nat} (h : (b.toInt - v.toInt).toNat < n + 1) (h2 : ¬ b ≤ v) : (b.toInt - (v + 1).toInt).toNat < n := by
  rw [Int32.le_iff_toInt_le] at h2
  have h3 := Int32.toInt_lt b
  have h4 := Int32.le_toInt v
  have h5 : (v + 1).toInt = v.toInt + 1 := by
    rw [Int32.toInt_add]
    have h6 : (1 : Int32).toInt = 1 := by decide
    rw [h6]
    simp only [Int.bmod]
    omega
  omega
theorem jl_dn {v : Int32} {n : Nat} (h : (v.toInt + 1).toNat < n + 1) (h2 : ¬ v < 0) : ((v + (-1)).toInt + 1).toNat < n := by
  rw [Int32.lt_iff_toInt_lt] at h2
  have h0 : (0 : Int32).toInt = 0 := by decide
  have h3 := Int32.toInt_lt v
  have h4 := Int32.le_toInt v
  have h5 : (v + (-1)).toInt = v.toInt - 1 := by
    rw [Int32.toInt_add]
    have h6 : (-1 : Int32).toInt = -1 := by decide
    rw [h6]
    simp only [Int.bmod]
    omega
  omega
/-- the two classes whose objects the law makes -/
abbrev vwCl : List vw_C := [(RX0, TX0, 1), (RX1, TX1, 1)]
abbrev Bw0 (dC : Nat → ClassId) (dI : Nat → Nat → Nat) (A : Nat → Prop) (h0 : Nat) (u : Int64) (t : State) : Prop := va_P (dC, dI) vwCl [(h0, .inr (0, [.long u]))] t.heap ∧ va_K (dC, dI) vwCl [] t ∧ va_D A [(h0, .inr (0, [.long u]))]
abbrev Bw1 (dC : Nat → ClassId) (dI : Nat → Nat → Nat) (A : Nat → Prop) (h0 : Nat) (u : Int64) (t : State) : Prop := va_P (dC, dI) vwCl [(h0, .inr (1, [.long u]))] t.heap ∧ va_K (dC, dI) vwCl [] t ∧ va_D A [(h0, .inr (1, [.long u]))]
/-! what the walks of Numbers ask of divisors -/
theorem jz_and {b : Int32} (h : ¬ b = 0) : ¬ (b.toInt64 &&& 4294967295) = 0 := by
  intro e
  apply h
  have e2 := congrArg Int64.toBitVec e
  apply Int32.toBitVec_inj.1
  apply BitVec.eq_of_getLsbD_eq
  intro i hi
  have e3 := congrArg (fun z => z.getLsbD i) e2
  have e4 : (4294967295 : Int64).toBitVec.getLsbD i = true := by
    have : ∀ j, j < 32 → (4294967295 : Int64).toBitVec.getLsbD j = true := by decide +kernel
    exact this i hi
  simp only [Int64.toBitVec_and, BitVec.getLsbD_and, e4, Bool.and_true] at e3
  rw [show (b.toInt64).toBitVec.getLsbD i = b.toBitVec.getLsbD i by
    simp [Int32.toBitVec_toInt64, BitVec.getLsbD_signExtend, hi]
    omega] at e3
  rw [e3]
  simp
theorem jz_s106 {a : Int32} (h : 3 ≤ (a - 106).toInt) (h2 : (a - 106).toInt ≤ 6) : 109 ≤ a.toInt ∧ a.toInt ≤ 112 := by
  have h3 := Int32.toInt_lt a
  have h4 := Int32.le_toInt a
  have h6 : (106 : Int32).toInt = 106 := by decide
  rw [Int32.toInt_sub, h6] at h h2
  simp only [Int.bmod] at h h2
  omega
theorem jz_s124 {a : Int32} (h : 3 ≤ (a - 124).toInt) (h2 : (a - 124).toInt ≤ 6) : 127 ≤ a.toInt ∧ a.toInt ≤ 130 := by
  have h3 := Int32.toInt_lt a
  have h4 := Int32.le_toInt a
  have h6 : (124 : Int32).toInt = 124 := by decide
  rw [Int32.toInt_sub, h6] at h h2
  simp only [Int.bmod] at h h2
  omega
end
section
/-! the methods as plain functions, block by block (g_<class>_<method>_<pc>: from that place on) -/
def g_J0_compare (a0 : Int64) (a1 : Int64) : Int32 :=
    (if 0 ≤ (lg_cmp a0 a1) then (if (lg_cmp a0 a1) = 0 then 0 else 1) else (-1))
def g_X2_takes_52 (a0 : Int32)  : Int32 :=
    127
def g_X2_takes_24 (a0 : Int32)  : Int32 :=
    (if a0 = 172 then g_X2_takes_52 a0 else (if a0 = 173 then g_X2_takes_52 a0 else (if a0 = 192 then g_X2_takes_52 a0 else (if a0 = 193 then g_X2_takes_52 a0 else 126))))
def g_X2_takes_12 (a0 : Int32)  : Int32 :=
    (if a0 < 103 then g_X2_takes_24 a0 else (if a0 ≤ 120 then g_X2_takes_52 a0 else g_X2_takes_24 a0))
def g_X2_takes (a0 : Int32) : Int32 :=
    (if a0 < 69 then g_X2_takes_12 a0 else (if a0 ≤ 79 then g_X2_takes_52 a0 else g_X2_takes_12 a0))
def g_X2_isTwo_36 (a0 : Int32)  : Bool :=
    (if a0 < 124 then false else (if 138 < a0 then false else true))
def g_X2_isTwo_24 (a0 : Int32)  : Bool :=
    (if a0 < 106 then g_X2_isTwo_36 a0 else (if a0 ≤ 120 then true else g_X2_isTwo_36 a0))
def g_X2_isTwo_12 (a0 : Int32)  : Bool :=
    (if a0 < 81 then g_X2_isTwo_24 a0 else (if a0 ≤ 90 then true else g_X2_isTwo_24 a0))
def g_X2_isTwo (a0 : Int32) : Bool :=
    (if a0 < 70 then g_X2_isTwo_12 a0 else (if a0 ≤ 79 then true else g_X2_isTwo_12 a0))
def g_X2_leaves_18 (a0 : Int32)  : Int32 :=
    (if a0 = 167 then 127 else (if a0 = 192 then 127 else (if a0 = 193 then 127 else 126)))
def g_X2_leaves (a0 : Int32) : Int32 :=
    (if a0 ≤ 90 then 127 else (if a0 < 103 then g_X2_leaves_18 a0 else (if a0 ≤ 120 then 127 else g_X2_leaves_18 a0)))
def g_X2_order (a0 : Int64) (a1 : Int64) : Int32 :=
    (g_J0_compare (a0 + (-9223372036854775808)) (a1 + (-9223372036854775808)))
def g_X2_holds (a0 : Int32) (a1 : Int64) (a2 : Int64) : Bool :=
    (if a0 = 0 then (if (lg_cmp a1 a2) = 0 then true else false) else (if a0 = 1 then (if (lg_cmp a1 a2) = 0 then false else true) else (if a0 = 2 then (if 0 ≤ (lg_cmp a1 a2) then false else true) else (if a0 = 3 then (if 0 ≤ (g_X2_order a1 a2) then false else true) else (if a0 = 4 then (if (lg_cmp a1 a2) ≤ 0 then false else true) else (if a0 = 5 then (if (g_X2_order a1 a2) ≤ 0 then false else true) else (if a0 = 6 then (if 0 < (lg_cmp a1 a2) then false else true) else (if a0 = 7 then (if 0 < (g_X2_order a1 a2) then false else true) else (if a0 = 8 then (if (lg_cmp a1 a2) < 0 then false else true) else (if (g_X2_order a1 a2) < 0 then false else true))))))))))
def g_X2_trap_71 (a0 : Int32) (a1 : Int64) (a2 : Int64)  : Int32 :=
    (if a0 = 127 then (if (lg_cmp a1 (-9223372036854775808)) = 0 then (if (lg_cmp a2 (-1)) = 0 then 4 else 0) else 0) else 0)
def g_X2_trap_30 (a0 : Int32) (a1 : Int64) (a2 : Int64) (s0 : Int32) : Int32 :=
    (if s0 = 0 then 0 else (if (lg_cmp a2 0) = 0 then 3 else (if a0 = 109 then (if (lg_cmp a1 (-2147483648)) = 0 then (if (lg_cmp a2 (-1)) = 0 then 4 else g_X2_trap_71 a0 a1 a2) else g_X2_trap_71 a0 a1 a2) else g_X2_trap_71 a0 a1 a2)))
def g_X2_trap_12 (a0 : Int32) (a1 : Int64) (a2 : Int64)  : Int32 :=
    (if a0 < 127 then g_X2_trap_30 a0 a1 a2 0 else (if 130 < a0 then g_X2_trap_30 a0 a1 a2 0 else g_X2_trap_30 a0 a1 a2 1))
def g_X2_trap (a0 : Int32) (a1 : Int64) (a2 : Int64) : Int32 :=
    (if a0 < 109 then g_X2_trap_12 a0 a1 a2 else (if a0 ≤ 112 then g_X2_trap_30 a0 a1 a2 1 else g_X2_trap_12 a0 a1 a2))
def g_X2_ints (a0 : Int32) (a1 : Int32) (a2 : Int32) : Int32 :=
    (if a0 = 0 then (a1 + a2) else (if a0 = 1 then (a1 - a2) else (if a0 = 2 then (a1 * a2) else (if a0 = 3 then (a1 / a2) else (if a0 = 4 then ((((a1.toInt64) &&& 4294967295) / ((a2.toInt64) &&& 4294967295)).toInt32) else (if a0 = 5 then (if a2 = (-1) then 0 else (a1 - a1 / a2 * a2)) else (if a0 = 6 then ((((a1.toInt64) &&& 4294967295) - ((a1.toInt64) &&& 4294967295) / ((a2.toInt64) &&& 4294967295) * ((a2.toInt64) &&& 4294967295)).toInt32) else (if a0 = 7 then (a1 &&& a2) else (if a0 = 8 then (a1 ||| a2) else (if a0 = 9 then (a1 ^^^ a2) else (if a0 = 10 then (a1 <<< ((a2 &&& 31) &&& 31)) else (if a0 = 11 then (a1 >>> ((a2 &&& 31) &&& 31)) else (if a0 = 12 then (j_iushr a1 (a2 &&& 31)) else (if a0 = 13 then ((a1 <<< ((a2 &&& 31) &&& 31)) ||| (j_iushr a1 ((32 - (a2 &&& 31)) &&& 31))) else ((j_iushr a1 (a2 &&& 31)) ||| (a1 <<< (((32 - (a2 &&& 31)) &&& 31) &&& 31)))))))))))))))))
def g_X2_quotient (a0 : Int64) (a1 : Int64) : Int64 :=
    (if 0 ≤ (lg_cmp a1 0) then (if (lg_cmp a0 0) < 0 then (if (g_X2_order (a0 - ((j_lshl ((j_lushr a0 1) / a1) 1) * a1)) a1) < 0 then (j_lshl ((j_lushr a0 1) / a1) 1) else ((j_lshl ((j_lushr a0 1) / a1) 1) + 1)) else (a0 / a1)) else (if (g_X2_order a0 a1) < 0 then 0 else 1))
def g_X2_longs (a0 : Int32) (a1 : Int64) (a2 : Int64) : Int64 :=
    (if a0 = 0 then (a1 + a2) else (if a0 = 1 then (a1 - a2) else (if a0 = 2 then (a1 * a2) else (if a0 = 3 then (a1 / a2) else (if a0 = 4 then (g_X2_quotient a1 a2) else (if a0 = 5 then (if (lg_cmp a2 (-1)) = 0 then 0 else (a1 - a1 / a2 * a2)) else (if a0 = 6 then (a1 - ((g_X2_quotient a1 a2) * a2)) else (if a0 = 7 then (a1 &&& a2) else (if a0 = 8 then (a1 ||| a2) else (if a0 = 9 then (a1 ^^^ a2) else (if a0 = 10 then (j_lshl a1 ((a2.toInt32) &&& 63)) else (if a0 = 11 then (j_lshr a1 ((a2.toInt32) &&& 63)) else (if a0 = 12 then (j_lushr a1 ((a2.toInt32) &&& 63)) else (if a0 = 13 then ((j_lshl a1 ((a2.toInt32) &&& 63)) ||| (j_lushr a1 ((64 - ((a2.toInt32) &&& 63)) &&& 63))) else ((j_lushr a1 ((a2.toInt32) &&& 63)) ||| (j_lshl a1 ((64 - ((a2.toInt32) &&& 63)) &&& 63)))))))))))))))))
def g_X2_two (a0 : Int32) (a1 : Int64) (a2 : Int64) : Int64 :=
    (if 79 < a0 then (if 90 < a0 then (if 120 < a0 then (g_X2_longs (a0 - 124) a1 a2) else ((g_X2_ints (a0 - 106) (a1.toInt32) (a2.toInt32)).toInt64)) else (if (bi (g_X2_holds (a0 - 81) a1 a2)) = 0 then 0 else 1)) else (if (bi (g_X2_holds (a0 - 70) a1 a2)) = 0 then 0 else 1))
def g_X2_leading_2 (a0 : Int64) (a1 : Int32) : Nat → Int32 → Int64
  | 0, _ => 0
  | n + 1, v3 =>
    (if a1 ≤ v3 then (v3.toInt64) else (if (lg_cmp ((j_lshr a0 ((a1 - 1) - v3)) &&& 1) 0) = 0 then g_X2_leading_2 a0 a1 n (v3 + 1) else (v3.toInt64)))
def g_X2_leading (a0 : Int64) (a1 : Int32) : Int64 :=
    g_X2_leading_2 a0 a1 ((a1.toInt - (0 : Int32).toInt).toNat + 1) 0
def g_X2_trailing_2 (a0 : Int64) (a1 : Int32) : Nat → Int32 → Int64
  | 0, _ => 0
  | n + 1, v3 =>
    (if a1 ≤ v3 then (v3.toInt64) else (if (lg_cmp ((j_lshr a0 v3) &&& 1) 0) = 0 then g_X2_trailing_2 a0 a1 n (v3 + 1) else (v3.toInt64)))
def g_X2_trailing (a0 : Int64) (a1 : Int32) : Int64 :=
    g_X2_trailing_2 a0 a1 ((a1.toInt - (0 : Int32).toInt).toNat + 1) 0
def g_X2_ones_5 (a0 : Int64) (a1 : Int32) : Nat → Int32 → Int32 → Int64
  | 0, _, _ => 0
  | n + 1, v3, v4 =>
    (if a1 ≤ v4 then (v3.toInt64) else g_X2_ones_5 a0 a1 n (v3 + (((j_lshr a0 v4) &&& 1).toInt32)) (v4 + 1))
def g_X2_ones (a0 : Int64) (a1 : Int32) : Int64 :=
    g_X2_ones_5 a0 a1 ((a1.toInt - (0 : Int32).toInt).toNat + 1) 0 0
def g_X2_one (a0 : Int32) (a1 : Int64) : Int64 :=
    (if a0 = 69 then (if (lg_cmp a1 0) = 0 then 1 else 0) else (if a0 = 80 then (if (lg_cmp a1 0) = 0 then 1 else 0) else (if a0 = 103 then (g_X2_leading a1 32) else (if a0 = 104 then (g_X2_trailing a1 32) else (if a0 = 105 then (g_X2_ones a1 32) else (if a0 = 121 then (g_X2_leading a1 64) else (if a0 = 122 then (g_X2_trailing a1 64) else (if a0 = 123 then (g_X2_ones a1 64) else (if a0 = 167 then ((a1.toInt32).toInt64) else (if a0 = 172 then a1 else (if a0 = 173 then (a1 &&& 4294967295) else (if a0 = 192 then (((a1.toInt32).toInt8.toInt32).toInt64) else (if a0 = 193 then (((a1.toInt32).toInt16.toInt32).toInt64) else (if a0 = 194 then (((a1.toInt32).toInt8.toInt32).toInt64) else (if a0 = 195 then (((a1.toInt32).toInt16.toInt32).toInt64) else ((a1.toInt32).toInt64))))))))))))))))
def g_X1_isLongs_25 (a0 : Int32)  : Bool :=
    (if a0 = 167 then true else (if a0 < 194 then false else (if 196 < a0 then false else true)))
def g_X1_isLongs_12 (a0 : Int32)  : Bool :=
    (if a0 < 121 then g_X1_isLongs_25 a0 else (if a0 ≤ 138 then true else g_X1_isLongs_25 a0))
def g_X1_isLongs (a0 : Int32) : Bool :=
    (if a0 < 80 then g_X1_isLongs_12 a0 else (if a0 ≤ 90 then true else g_X1_isLongs_12 a0))
def g_X1_isInts_24 (a0 : Int32)  : Bool :=
    (if a0 = 172 then true else (if a0 = 173 then true else (if a0 = 192 then true else (if a0 = 193 then true else false))))
def g_X1_isInts_12 (a0 : Int32)  : Bool :=
    (if a0 < 103 then g_X1_isInts_24 a0 else (if a0 ≤ 120 then true else g_X1_isInts_24 a0))
def g_X1_isInts (a0 : Int32) : Bool :=
    (if a0 < 69 then g_X1_isInts_12 a0 else (if a0 ≤ 79 then true else g_X1_isInts_12 a0))
def g_X1_isOne_36 (a0 : Int32)  : Bool :=
    (if a0 < 167 then false else true)
def g_X1_isOne_24 (a0 : Int32)  : Bool :=
    (if a0 < 121 then g_X1_isOne_36 a0 else (if a0 ≤ 123 then true else g_X1_isOne_36 a0))
def g_X1_isOne (a0 : Int32) : Bool :=
    (if a0 = 69 then true else (if a0 = 80 then true else (if a0 < 103 then g_X1_isOne_24 a0 else (if a0 ≤ 105 then true else g_X1_isOne_24 a0))))
def g_X1_takes_18 (a0 : Int32)  : Int32 :=
    (if (bi (g_X1_isOne a0)) = 0 then 2 else 1)
def g_X1_takes (a0 : Int32) : Int32 :=
    (if (bi (g_X1_isLongs a0)) = 0 then (if (bi (g_X1_isInts a0)) = 0 then 0 else g_X1_takes_18 a0) else g_X1_takes_18 a0)
def g_X1_takesLongs (a0 : Int32) : Bool :=
    (g_X1_isLongs a0)
def g_X1_leavesLong_13 (a0 : Int32)  : Bool :=
    (if a0 = 172 then true else (if a0 = 173 then true else (if a0 < 194 then false else (if 196 < a0 then false else true))))
def g_X1_leavesLong (a0 : Int32) : Bool :=
    (if a0 < 121 then g_X1_leavesLong_13 a0 else (if a0 ≤ 138 then true else g_X1_leavesLong_13 a0))
def g_X1_cut (a0 : Int64) (a1 : Int32) : Int64 :=
    (if a1 = 64 then a0 else (a0 &&& ((j_lshl 1 a1) - 1)))
def g_X1_signed (a0 : Int64) (a1 : Int32) : Int64 :=
    (if a1 = 64 then a0 else (if (lg_cmp (j_lshr (g_X1_cut a0 a1) (a1 - 1)) 1) = 0 then ((g_X1_cut a0 a1) - (j_lshl 1 a1)) else (g_X1_cut a0 a1)))
def g_X1_isSet (a0 : Int64) (a1 : Int32) : Bool :=
    (if (lg_cmp ((j_lushr a0 a1) &&& 1) 1) = 0 then true else false)
def g_X1_zeros_3 (a0 : Int64) (a1 : Int32) (a2 : Int32) : Nat → Int32 → Int32
  | 0, _ => 0
  | n + 1, v4 =>
    (if a1 ≤ v4 then v4 else (if a2 = 0 then (if (bi (g_X1_isSet a0 v4)) = 0 then g_X1_zeros_3 a0 a1 a2 n (v4 + 1) else v4) else (if (bi (g_X1_isSet a0 ((a1 - 1) - v4))) = 0 then g_X1_zeros_3 a0 a1 a2 n (v4 + 1) else v4)))
def g_X1_zeros (a0 : Int64) (a1 : Int32) (a2 : Int32) : Int32 :=
    g_X1_zeros_3 a0 a1 a2 ((a1.toInt - (0 : Int32).toInt).toNat + 1) 0
def g_X1_ones_5 (a0 : Int64) (a1 : Int32) : Nat → Int32 → Int32 → Int32
  | 0, _, _ => 0
  | n + 1, v3, v4 =>
    (if a1 ≤ v4 then v3 else (if (bi (g_X1_isSet a0 v4)) = 0 then g_X1_ones_5 a0 a1 n v3 (v4 + 1) else g_X1_ones_5 a0 a1 n (v3 + 1) (v4 + 1)))
def g_X1_ones (a0 : Int64) (a1 : Int32) : Int32 :=
    g_X1_ones_5 a0 a1 ((a1.toInt - (0 : Int32).toInt).toNat + 1) 0 0
def g_X1_isBelow_4 (a0 : Int64) (a1 : Int64) : Nat → Int32 → Bool
  | 0, _ => false
  | n + 1, v4 =>
    (if v4 < 0 then false else (if (bi (g_X1_isSet a0 v4)) = (bi (g_X1_isSet a1 v4)) then g_X1_isBelow_4 a0 a1 n (v4 + (-1)) else (g_X1_isSet a1 v4)))
def g_X1_isBelow (a0 : Int64) (a1 : Int64) : Bool :=
    g_X1_isBelow_4 a0 a1 (((63 : Int32).toInt + 1).toNat + 1) 63
def g_X1_turned_6 (a0 : Int64) (a1 : Int32) (a2 : Int32) : Nat → Int64 → Int32 → Int64
  | 0, _, _ => 0
  | n + 1, v4, v6 =>
    (if a1 ≤ v6 then v4 else (if (bi (g_X1_isSet v4 (a2 - 1))) = 0 then g_X1_turned_6 a0 a1 a2 n ((g_X1_cut (j_lshl v4 1) a2) ||| (((0 : Int32)).toInt64)) (v6 + 1) else g_X1_turned_6 a0 a1 a2 n ((g_X1_cut (j_lshl v4 1) a2) ||| (((1 : Int32)).toInt64)) (v6 + 1)))
def g_X1_turned (a0 : Int64) (a1 : Int32) (a2 : Int32) : Int64 :=
    g_X1_turned_6 a0 a1 a2 ((a1.toInt - (0 : Int32).toInt).toNat + 1) a0 0
def g_X1_product_6 (a0 : Int64) (a1 : Int64) (a2 : Int32) : Nat → Int64 → Int32 → Int64
  | 0, _, _ => 0
  | n + 1, v5, v7 =>
    (if a2 ≤ v7 then v5 else (if (bi (g_X1_isSet a1 v7)) = 0 then g_X1_product_6 a0 a1 a2 n v5 (v7 + 1) else g_X1_product_6 a0 a1 a2 n (v5 + (j_lshl a0 v7)) (v7 + 1)))
def g_X1_product (a0 : Int64) (a1 : Int64) (a2 : Int32) : Int64 :=
    g_X1_product_6 a0 a1 a2 ((a2.toInt - (0 : Int32).toInt).toNat + 1) 0 0
def g_X1_one (a0 : Int32) (a1 : Int64) (a2 : Int32) : Int64 :=
    (if a0 = 69 then (if (lg_cmp a1 0) = 0 then 1 else 0) else (if a0 = 80 then (if (lg_cmp a1 0) = 0 then 1 else 0) else (if a0 = 103 then ((g_X1_zeros a1 a2 1).toInt64) else (if a0 = 104 then ((g_X1_zeros a1 a2 0).toInt64) else (if a0 = 105 then ((g_X1_ones a1 a2).toInt64) else (if a0 = 121 then ((g_X1_zeros a1 a2 1).toInt64) else (if a0 = 122 then ((g_X1_zeros a1 a2 0).toInt64) else (if a0 = 123 then ((g_X1_ones a1 a2).toInt64) else (if a0 = 167 then (g_X1_signed a1 32) else (if a0 = 172 then (g_X1_signed a1 32) else (if a0 = 173 then a1 else (if a0 = 192 then (g_X1_signed a1 8) else (if a0 = 194 then (g_X1_signed a1 8) else (if a0 = 196 then (g_X1_signed a1 32) else (g_X1_signed a1 16)))))))))))))))
def g_X1_compared_63 (a0 : Int32) (a1 : Int64) (a2 : Int64) (a3 : Int32) (s0 : Int64) : Bool :=
    (if 4 ≤ a0 then (if 6 ≤ a0 then (if 8 ≤ a0 then (if (bi (g_X1_isBelow (a1 ^^^ s0) (a2 ^^^ s0))) = 0 then true else false) else (if (bi (g_X1_isBelow (a2 ^^^ s0) (a1 ^^^ s0))) = 0 then true else false)) else (g_X1_isBelow (a2 ^^^ s0) (a1 ^^^ s0))) else (g_X1_isBelow (a1 ^^^ s0) (a2 ^^^ s0)))
def g_X1_compared_46 (a0 : Int32) (a1 : Int64) (a2 : Int64) (a3 : Int32) (s0 : Int32) : Bool :=
    (if s0 = 0 then g_X1_compared_63 a0 a1 a2 a3 (j_lshl 1 (a3 - 1)) else g_X1_compared_63 a0 a1 a2 a3 0)
def g_X1_compared (a0 : Int32) (a1 : Int64) (a2 : Int64) (a3 : Int32) : Bool :=
    (if 2 ≤ a0 then (if (a0 - a0 / 2 * 2) = 1 then g_X1_compared_46 a0 a1 a2 a3 1 else g_X1_compared_46 a0 a1 a2 a3 0) else (if (lg_cmp a1 a2) = 0 then (if a0 = 0 then true else false) else (if a0 = 0 then false else true)))
def g_X1_told (a0 : Int64) (f : Int64) : Int32 × Int64 :=
    (0, a0)
def g_X1_divided_282 (a0 : Int32) (a1 : Int64) (a2 : Int64) (a3 : Int32) (f : Int64) (s0 : Int64) : Int32 × Int64 :=
    (g_X1_told (g_X1_signed s0 a3) f)
def g_X1_divided_172 (a0 : Int32) (a1 : Int64) (a2 : Int64) (a3 : Int32) (f : Int64) : Nat → Int32 → Int32 → Int64 → Int64 → Int64 → Int64 → Int32 → Int32 × Int64
  | 0, _, _, _, _, _, _, _ => (0, 0)
  | n + 1, v11, v12, v13, v15, v17, v19, v21 =>
    (if v21 < 0 then (if 5 ≤ a0 then (if v11 = 0 then g_X1_divided_282 a0 a1 a2 a3 f v19 else g_X1_divided_282 a0 a1 a2 a3 f (-v19)) else (if v11 = v12 then g_X1_divided_282 a0 a1 a2 a3 f v17 else g_X1_divided_282 a0 a1 a2 a3 f (-v17))) else (if (bi (g_X1_isSet v13 v21)) = 0 then (if (bi (g_X1_isSet v19 63)) = 0 then (if (bi (g_X1_isBelow ((j_lshl v19 1) ||| (((0 : Int32)).toInt64)) v15)) = 0 then g_X1_divided_172 a0 a1 a2 a3 f n v11 v12 v13 v15 (v17 ||| (j_lshl 1 v21)) (((j_lshl v19 1) ||| (((0 : Int32)).toInt64)) - v15) (v21 + (-1)) else g_X1_divided_172 a0 a1 a2 a3 f n v11 v12 v13 v15 v17 ((j_lshl v19 1) ||| (((0 : Int32)).toInt64)) (v21 + (-1))) else g_X1_divided_172 a0 a1 a2 a3 f n v11 v12 v13 v15 (v17 ||| (j_lshl 1 v21)) (((j_lshl v19 1) ||| (((0 : Int32)).toInt64)) - v15) (v21 + (-1))) else (if (bi (g_X1_isSet v19 63)) = 0 then (if (bi (g_X1_isBelow ((j_lshl v19 1) ||| (((1 : Int32)).toInt64)) v15)) = 0 then g_X1_divided_172 a0 a1 a2 a3 f n v11 v12 v13 v15 (v17 ||| (j_lshl 1 v21)) (((j_lshl v19 1) ||| (((1 : Int32)).toInt64)) - v15) (v21 + (-1)) else g_X1_divided_172 a0 a1 a2 a3 f n v11 v12 v13 v15 v17 ((j_lshl v19 1) ||| (((1 : Int32)).toInt64)) (v21 + (-1))) else g_X1_divided_172 a0 a1 a2 a3 f n v11 v12 v13 v15 (v17 ||| (j_lshl 1 v21)) (((j_lshl v19 1) ||| (((1 : Int32)).toInt64)) - v15) (v21 + (-1)))))
def g_X1_divided_158 (a0 : Int32) (a1 : Int64) (a2 : Int64) (a3 : Int32) (f : Int64) (v11 : Int32) (v12 : Int32) (v13 : Int64) (s0 : Int64) : Int32 × Int64 :=
    g_X1_divided_172 a0 a1 a2 a3 f ((((a3 - 1) : Int32).toInt + 1).toNat + 1) v11 v12 v13 s0 0 0 (a3 - 1)
def g_X1_divided_138 (a0 : Int32) (a1 : Int64) (a2 : Int64) (a3 : Int32) (f : Int64) (v11 : Int32) (v12 : Int32) (s0 : Int64) : Int32 × Int64 :=
    (if v12 = 0 then g_X1_divided_158 a0 a1 a2 a3 f v11 v12 s0 a2 else g_X1_divided_158 a0 a1 a2 a3 f v11 v12 s0 (g_X1_cut (-a2) a3))
def g_X1_divided_120 (a0 : Int32) (a1 : Int64) (a2 : Int64) (a3 : Int32) (f : Int64) (v11 : Int32) (s0 : Int32) : Int32 × Int64 :=
    (if v11 = 0 then g_X1_divided_138 a0 a1 a2 a3 f v11 s0 a1 else g_X1_divided_138 a0 a1 a2 a3 f v11 s0 (g_X1_cut (-a1) a3))
def g_X1_divided_96 (a0 : Int32) (a1 : Int64) (a2 : Int64) (a3 : Int32) (f : Int64) (v7 : Int32) (s0 : Int32) : Int32 × Int64 :=
    (if v7 = 0 then (if (bi (g_X1_isSet a2 (a3 - 1))) = 0 then g_X1_divided_120 a0 a1 a2 a3 f s0 0 else g_X1_divided_120 a0 a1 a2 a3 f s0 1) else g_X1_divided_120 a0 a1 a2 a3 f s0 0)
def g_X1_divided_75 (a0 : Int32) (a1 : Int64) (a2 : Int64) (a3 : Int32) (f : Int64) (v7 : Int32) : Int32 × Int64 :=
    (if v7 = 0 then (if (bi (g_X1_isSet a1 (a3 - 1))) = 0 then g_X1_divided_96 a0 a1 a2 a3 f v7 0 else g_X1_divided_96 a0 a1 a2 a3 f v7 1) else g_X1_divided_96 a0 a1 a2 a3 f v7 0)
def g_X1_divided_54 (a0 : Int32) (a1 : Int64) (a2 : Int64) (a3 : Int32) (f : Int64) (v7 : Int32) (v8 : Int64) (s0 : Int32) : Int32 × Int64 :=
    (if a0 = 3 then (if s0 = 0 then g_X1_divided_75 a0 a1 a2 a3 f v7 else (if (lg_cmp a1 v8) = 0 then (4, f) else g_X1_divided_75 a0 a1 a2 a3 f v7)) else g_X1_divided_75 a0 a1 a2 a3 f v7)
def g_X1_divided_20 (a0 : Int32) (a1 : Int64) (a2 : Int64) (a3 : Int32) (f : Int64) (s0 : Int32) : Int32 × Int64 :=
    (if s0 = 0 then (if (lg_cmp (g_X1_cut (a2 + 1) a3) 0) = 0 then g_X1_divided_54 a0 a1 a2 a3 f s0 (j_lshl 1 (a3 - 1)) 1 else g_X1_divided_54 a0 a1 a2 a3 f s0 (j_lshl 1 (a3 - 1)) 0) else g_X1_divided_54 a0 a1 a2 a3 f s0 (j_lshl 1 (a3 - 1)) 0)
def g_X1_divided (a0 : Int32) (a1 : Int64) (a2 : Int64) (a3 : Int32) (f : Int64) : Int32 × Int64 :=
    (if (lg_cmp a2 0) = 0 then (3, f) else (if (a0 - a0 / 2 * 2) = 0 then g_X1_divided_20 a0 a1 a2 a3 f 1 else g_X1_divided_20 a0 a1 a2 a3 f 0))
def g_X1_two_214 (a0 : Int32) (a1 : Int64) (a2 : Int64) (a3 : Int32) (f : Int64) (v8 : Int64) : Int32 × Int64 :=
    (g_X1_told (g_X1_signed v8 a3) f)
def g_X1_two_207 (a0 : Int32) (a1 : Int64) (a2 : Int64) (a3 : Int32) (f : Int64) (s0 : Int32) (s1 : Int64) : Int32 × Int64 :=
    g_X1_two_214 a0 a1 a2 a3 f (g_X1_turned s1 s0 a3)
def g_X1_two_190 (a0 : Int32) (a1 : Int64) (a2 : Int64) (a3 : Int32) (f : Int64) (v7 : Int32) : Int32 × Int64 :=
    (if a0 = 13 then g_X1_two_207 a0 a1 a2 a3 f v7 a1 else g_X1_two_207 a0 a1 a2 a3 f (a3 - v7) a1)
def g_X1_two_22 (a0 : Int32) (a1 : Int64) (a2 : Int64) (a3 : Int32) (f : Int64)  : Int32 × Int64 :=
    (if a0 = 0 then g_X1_two_214 a0 a1 a2 a3 f (a1 + a2) else (if a0 = 1 then g_X1_two_214 a0 a1 a2 a3 f (a1 - a2) else (if a0 = 2 then g_X1_two_214 a0 a1 a2 a3 f (g_X1_product a1 a2 a3) else (if a0 = 3 then g_X1_two_190 a0 a1 a2 a3 f ((a2 &&& ((a3 - 1).toInt64)).toInt32) else (if a0 = 4 then g_X1_two_190 a0 a1 a2 a3 f ((a2 &&& ((a3 - 1).toInt64)).toInt32) else (if a0 = 5 then g_X1_two_190 a0 a1 a2 a3 f ((a2 &&& ((a3 - 1).toInt64)).toInt32) else (if a0 = 6 then g_X1_two_190 a0 a1 a2 a3 f ((a2 &&& ((a3 - 1).toInt64)).toInt32) else (if a0 = 7 then g_X1_two_214 a0 a1 a2 a3 f (a1 &&& a2) else (if a0 = 8 then g_X1_two_214 a0 a1 a2 a3 f (a1 ||| a2) else (if a0 = 9 then g_X1_two_214 a0 a1 a2 a3 f (a1 ^^^ a2) else (if a0 = 10 then g_X1_two_214 a0 a1 a2 a3 f (j_lshl a1 ((a2 &&& ((a3 - 1).toInt64)).toInt32)) else (if a0 = 11 then g_X1_two_214 a0 a1 a2 a3 f (j_lshr (g_X1_signed a1 a3) ((a2 &&& ((a3 - 1).toInt64)).toInt32)) else (if a0 = 12 then g_X1_two_214 a0 a1 a2 a3 f (j_lushr a1 ((a2 &&& ((a3 - 1).toInt64)).toInt32)) else g_X1_two_190 a0 a1 a2 a3 f ((a2 &&& ((a3 - 1).toInt64)).toInt32))))))))))))))
def g_X1_two (a0 : Int32) (a1 : Int64) (a2 : Int64) (a3 : Int32) (f : Int64) : Int32 × Int64 :=
    (if a0 < 3 then g_X1_two_22 a0 a1 a2 a3 f else (if 6 < a0 then g_X1_two_22 a0 a1 a2 a3 f else (g_X1_divided a0 a1 a2 a3 f)))
def g_X1_work_28 (a0 : Int32) (a1 : Int64) (a2 : Int64) (f : Int64) (v6 : Int32) (s0 : Int32) : Int32 × Int64 :=
    (if v6 = 1 then (g_X1_told (g_X1_one a0 (g_X1_cut a1 s0) s0) f) else (if 100 ≤ a0 then (if s0 = 64 then (g_X1_two (a0 - 124) (g_X1_cut a1 s0) (g_X1_cut a2 s0) s0 f) else (g_X1_two (a0 - 106) (g_X1_cut a1 s0) (g_X1_cut a2 s0) s0 f)) else (if s0 = 64 then (if (bi (g_X1_compared (a0 - 81) (g_X1_cut a1 s0) (g_X1_cut a2 s0) s0)) = 0 then (g_X1_told 0 f) else (g_X1_told 1 f)) else (if (bi (g_X1_compared (a0 - 70) (g_X1_cut a1 s0) (g_X1_cut a2 s0) s0)) = 0 then (g_X1_told 0 f) else (g_X1_told 1 f)))))
def g_X1_work (a0 : Int32) (a1 : Int64) (a2 : Int64) (f : Int64) : Int32 × Int64 :=
    (if (g_X1_takes a0) = 0 then ((-1), f) else (if (bi (g_X1_isLongs a0)) = 0 then g_X1_work_28 a0 a1 a2 f (g_X1_takes a0) 32 else g_X1_work_28 a0 a1 a2 f (g_X1_takes a0) 64))
def g_X0_isOne_36 (a0 : Int32)  : Bool :=
    (if a0 = 167 then true else (if a0 = 172 then true else (if a0 = 173 then true else (if a0 < 192 then false else (if 196 < a0 then false else true)))))
def g_X0_isOne_24 (a0 : Int32)  : Bool :=
    (if a0 < 121 then g_X0_isOne_36 a0 else (if a0 ≤ 123 then true else g_X0_isOne_36 a0))
def g_X0_isOne (a0 : Int32) : Bool :=
    (if a0 = 69 then true else (if a0 = 80 then true else (if a0 < 103 then g_X0_isOne_24 a0 else (if a0 ≤ 105 then true else g_X0_isOne_24 a0))))
def g_X0_takes (a0 : Int32) : Int32 :=
    (if (bi (g_X2_isTwo a0)) = 0 then (if (bi (g_X0_isOne a0)) = 0 then 0 else 1) else 2)
def g_X0_takesLongs (a0 : Int32) : Bool :=
    (if (g_X0_takes a0) ≤ 0 then false else (if (g_X2_takes a0) = 126 then true else false))
def g_X0_leavesLong (a0 : Int32) : Bool :=
    (if (g_X0_takes a0) ≤ 0 then false else (if (g_X2_leaves a0) = 126 then true else false))
def g_X0_work_102 (a0 : Int32) (a1 : Int64) (a2 : Int64) (f : Int64) (s0 : Int64) : Int32 × Int64 :=
    (0, s0)
def g_X0_work (a0 : Int32) (a1 : Int64) (a2 : Int64) (f : Int64) : Int32 × Int64 :=
    (if (g_X0_takes a0) = 0 then ((-1), f) else (if (g_X2_takes a0) = 126 then (if (g_X2_trap a0 a1 a2) ≤ 0 then (if (g_X0_takes a0) = 2 then g_X0_work_102 a0 a1 a2 f (g_X2_two a0 a1 a2) else g_X0_work_102 a0 a1 a2 f (g_X2_one a0 a1)) else ((g_X2_trap a0 a1 a2), f)) else (if (g_X2_trap a0 ((a1.toInt32).toInt64) ((a2.toInt32).toInt64)) ≤ 0 then (if (g_X0_takes a0) = 2 then g_X0_work_102 a0 a1 a2 f (g_X2_two a0 ((a1.toInt32).toInt64) ((a2.toInt32).toInt64)) else g_X0_work_102 a0 a1 a2 f (g_X2_one a0 ((a1.toInt32).toInt64))) else ((g_X2_trap a0 ((a1.toInt32).toInt64) ((a2.toInt32).toInt64)), f))))
end
section
set_option maxRecDepth 100000
abbrev cJ0_compare : ByteArray := prog_5_method_42_code
def yJ0_compare : MethodName := ⟨RJ0, "compare", "(JJ)I"⟩
theorem dJ0_compare_0 : decode cJ0_compare 0 = .ok (.lload_n 0, 1) := by decide +kernel
theorem dJ0_compare_1 : decode cJ0_compare 1 = .ok (.lload_n 2, 1) := by decide +kernel
theorem dJ0_compare_2 : decode cJ0_compare 2 = .ok (.lcmp, 1) := by decide +kernel
theorem dJ0_compare_3 : decode cJ0_compare 3 = .ok (.ifCond .ge 7, 3) := by decide +kernel
theorem dJ0_compare_6 : decode cJ0_compare 6 = .ok (.iconst (-1), 1) := by decide +kernel
theorem dJ0_compare_7 : decode cJ0_compare 7 = .ok (.goto 14, 3) := by decide +kernel
theorem dJ0_compare_10 : decode cJ0_compare 10 = .ok (.lload_n 0, 1) := by decide +kernel
theorem dJ0_compare_11 : decode cJ0_compare 11 = .ok (.lload_n 2, 1) := by decide +kernel
theorem dJ0_compare_12 : decode cJ0_compare 12 = .ok (.lcmp, 1) := by decide +kernel
theorem dJ0_compare_13 : decode cJ0_compare 13 = .ok (.ifCond .ne 7, 3) := by decide +kernel
theorem dJ0_compare_16 : decode cJ0_compare 16 = .ok (.iconst 0, 1) := by decide +kernel
theorem dJ0_compare_17 : decode cJ0_compare 17 = .ok (.goto 4, 3) := by decide +kernel
theorem dJ0_compare_20 : decode cJ0_compare 20 = .ok (.iconst 1, 1) := by decide +kernel
theorem dJ0_compare_21 : decode cJ0_compare 21 = .ok (.ireturn, 1) := by decide +kernel
set_option maxHeartbeats 4000000 in
set_option maxRecDepth 100000 in
theorem mt_J0_compare (l : Launch) (a0 : Int64) (a1 : Int64) : Met l yJ0_compare (ws_ yJ0_compare cJ0_compare 4 (some .int)) ({ frames := 0, cells := 0, slots := 0, locals := 0 } : Room) (fun v _ => v = ([.long a0, .long a1] : List Value).toArray) (QcRead (g_J0_compare a0 a1)) 0 0 (fun _ => False) := by
  refine Met.ofW (cc := cJ0_compare) (maxL := 4) (ret := (some .int)) (by decide) rfl ?_
  intro p e s m args below meth c s₁ B hml hv
  obtain rfl : args = ([.long a0, .long a1] : List Value).toArray := hv
  have hx := B.exec
  have hb := B.bytes
  have hr := B.returns
  have hts := atoms_spec (ws := (ws_ yJ0_compare cJ0_compare 4 (some .int))) B.pre
  have hts : ∀ w ∈ lw_all, w.before _ s = true := fun w h => hts w (List.mem_cons_of_mem _ h)
  have hown : s.vm.findClass RJ0 = some m.cls := findClass_of_methodNamed B.named
  have hlocks := B.notSynchronized
  obtain ⟨R, hR⟩ : ∃ R, R = g_J0_compare a0 a1 := ⟨_, rfl⟩
  rw [← hR]
  have hl := lv_entry ([.long a0, .long a1] : List Value) (n := 4) (Nat.le_of_ble_eq_true rfl)
  rw [lg_entry_eq]
  generalize (lg_sl ([.long a0, .long a1] : List Value) ++ List.replicate (4 - (lg_sl ([.long a0, .long a1] : List Value)).length) Slot.unset).toArray = ls at hl ⊢
  have hl : lv_has ls 4 [(0, .long a0), (2, .long a1)] := hl
  unfold g_J0_compare at hR
  refine lv_lload_n hx hb dJ0_compare_0 rfl (lv_at hl 0 rfl) ?_
  refine lv_lload_n hx hb dJ0_compare_1 rfl (lv_at hl 1 rfl) ?_
  refine W.lcmp hx hb dJ0_compare_2 ?_
  refine lv_if_ge (tgt := 10) hx hb dJ0_compare_3 (by decide) (fun hc3 => ?_) (fun hc3 => ?_)
  · have hR := hR.trans (if_pos hc3)
    refine lv_lload_n hx hb dJ0_compare_10 rfl (lv_at hl 0 rfl) ?_
    refine lv_lload_n hx hb dJ0_compare_11 rfl (lv_at hl 1 rfl) ?_
    refine W.lcmp hx hb dJ0_compare_12 ?_
    refine lv_if_ne (tgt := 20) hx hb dJ0_compare_13 (by decide) (fun hc13 => ?_) (fun hc13 => ?_)
    · have hR := hR.trans (if_neg hc13)
      refine lv_iconst (v := 1) hx hb dJ0_compare_20 (by decide) ?_
      exact W.iret (v := 1) hx hb hr (fun t ht hW => jr_i hR ht) jnil dJ0_compare_21
    · have hR := hR.trans (if_pos hc13)
      refine lv_iconst (v := 0) hx hb dJ0_compare_16 (by decide) ?_
      refine lv_goto (tgt := 21) hx hb dJ0_compare_17 (by decide) ?_
      exact W.iret (v := 0) hx hb hr (fun t ht hW => jr_i hR ht) jnil dJ0_compare_21
  · have hR := hR.trans (if_neg hc3)
    refine lv_iconst (v := (-1)) hx hb dJ0_compare_6 (by decide) ?_
    refine lv_goto (tgt := 21) hx hb dJ0_compare_7 (by decide) ?_
    exact W.iret (v := (-1)) hx hb hr (fun t ht hW => jr_i hR ht) jnil dJ0_compare_21
set_option maxRecDepth 100000
abbrev cX2_takes : ByteArray := prog_2_method_2_code
def yX2_takes : MethodName := ⟨RX2, "takes", "(I)I"⟩
theorem dX2_takes_0 : decode cX2_takes 0 = .ok (.iload_n 0, 1) := by decide +kernel
theorem dX2_takes_1 : decode cX2_takes 1 = .ok (.bipush 69, 2) := by decide +kernel
theorem dX2_takes_3 : decode cX2_takes 3 = .ok (.if_icmp .lt 9, 3) := by decide +kernel
theorem dX2_takes_6 : decode cX2_takes 6 = .ok (.iload_n 0, 1) := by decide +kernel
theorem dX2_takes_7 : decode cX2_takes 7 = .ok (.bipush 79, 2) := by decide +kernel
theorem dX2_takes_9 : decode cX2_takes 9 = .ok (.if_icmp .le 43, 3) := by decide +kernel
theorem dX2_takes_12 : decode cX2_takes 12 = .ok (.iload_n 0, 1) := by decide +kernel
theorem dX2_takes_13 : decode cX2_takes 13 = .ok (.bipush 103, 2) := by decide +kernel
theorem dX2_takes_15 : decode cX2_takes 15 = .ok (.if_icmp .lt 9, 3) := by decide +kernel
theorem dX2_takes_18 : decode cX2_takes 18 = .ok (.iload_n 0, 1) := by decide +kernel
theorem dX2_takes_19 : decode cX2_takes 19 = .ok (.bipush 120, 2) := by decide +kernel
theorem dX2_takes_21 : decode cX2_takes 21 = .ok (.if_icmp .le 31, 3) := by decide +kernel
theorem dX2_takes_24 : decode cX2_takes 24 = .ok (.iload_n 0, 1) := by decide +kernel
theorem dX2_takes_25 : decode cX2_takes 25 = .ok (.sipush 172, 3) := by decide +kernel
theorem dX2_takes_28 : decode cX2_takes 28 = .ok (.if_icmp .eq 24, 3) := by decide +kernel
theorem dX2_takes_31 : decode cX2_takes 31 = .ok (.iload_n 0, 1) := by decide +kernel
theorem dX2_takes_32 : decode cX2_takes 32 = .ok (.sipush 173, 3) := by decide +kernel
theorem dX2_takes_35 : decode cX2_takes 35 = .ok (.if_icmp .eq 17, 3) := by decide +kernel
theorem dX2_takes_38 : decode cX2_takes 38 = .ok (.iload_n 0, 1) := by decide +kernel
theorem dX2_takes_39 : decode cX2_takes 39 = .ok (.sipush 192, 3) := by decide +kernel
theorem dX2_takes_42 : decode cX2_takes 42 = .ok (.if_icmp .eq 10, 3) := by decide +kernel
theorem dX2_takes_45 : decode cX2_takes 45 = .ok (.iload_n 0, 1) := by decide +kernel
theorem dX2_takes_46 : decode cX2_takes 46 = .ok (.sipush 193, 3) := by decide +kernel
theorem dX2_takes_49 : decode cX2_takes 49 = .ok (.if_icmp .ne 6, 3) := by decide +kernel
theorem dX2_takes_52 : decode cX2_takes 52 = .ok (.bipush 127, 2) := by decide +kernel
theorem dX2_takes_54 : decode cX2_takes 54 = .ok (.ireturn, 1) := by decide +kernel
theorem dX2_takes_55 : decode cX2_takes 55 = .ok (.bipush 126, 2) := by decide +kernel
theorem dX2_takes_57 : decode cX2_takes 57 = .ok (.ireturn, 1) := by decide +kernel
set_option maxHeartbeats 4000000 in
set_option maxRecDepth 100000 in
theorem mt_X2_takes (l : Launch) (a0 : Int32) : Met l yX2_takes (ws_ yX2_takes cX2_takes 1 (some .int)) ({ frames := 0, cells := 0, slots := 0, locals := 0 } : Room) (fun v _ => v = ([.int a0] : List Value).toArray) (QcRead (g_X2_takes a0)) 0 0 (fun _ => False) := by
  refine Met.ofW (cc := cX2_takes) (maxL := 1) (ret := (some .int)) (by decide) rfl ?_
  intro p e s m args below meth c s₁ B hml hv
  obtain rfl : args = ([.int a0] : List Value).toArray := hv
  have hx := B.exec
  have hb := B.bytes
  have hr := B.returns
  have hts := atoms_spec (ws := (ws_ yX2_takes cX2_takes 1 (some .int))) B.pre
  have hts : ∀ w ∈ lw_all, w.before _ s = true := fun w h => hts w (List.mem_cons_of_mem _ h)
  have hown : s.vm.findClass RX2 = some m.cls := findClass_of_methodNamed B.named
  have hlocks := B.notSynchronized
  obtain ⟨R, hR⟩ : ∃ R, R = g_X2_takes a0 := ⟨_, rfl⟩
  rw [← hR]
  have hl := lv_entry ([.int a0] : List Value) (n := 1) (Nat.le_of_ble_eq_true rfl)
  rw [lg_entry_eq]
  generalize (lg_sl ([.int a0] : List Value) ++ List.replicate (1 - (lg_sl ([.int a0] : List Value)).length) Slot.unset).toArray = ls at hl ⊢
  have hl : lv_has ls 1 [(0, .int a0)] := hl
  have B52 : ∀  (ls : Array Slot), lv_has ls 1 [] → R = g_X2_takes_52 a0  → W p l e (headSpec (ws_ yX2_takes cX2_takes 1 (some .int)) ({ frames := 0, cells := 0, slots := 0, locals := 0 } : Room)).room s m ([.int a0] : List Value).toArray below meth c s.heap [] 0 0 (MQ below (QcRead R) ([.int a0] : List Value).toArray s 0 0 (fun _ => False)) (F0 m 52 ls []) := by
    intro  ls hl hR
    unfold g_X2_takes_52 at hR
    refine lv_bipush (v := 127) hx hb dX2_takes_52 (by decide) ?_
    exact W.iret (v := 127) hx hb hr (fun t ht hW => jr_i hR ht) jnil dX2_takes_54
  have B24 : ∀  (ls : Array Slot), lv_has ls 1 [(0, .int a0)] → R = g_X2_takes_24 a0  → W p l e (headSpec (ws_ yX2_takes cX2_takes 1 (some .int)) ({ frames := 0, cells := 0, slots := 0, locals := 0 } : Room)).room s m ([.int a0] : List Value).toArray below meth c s.heap [] 0 0 (MQ below (QcRead R) ([.int a0] : List Value).toArray s 0 0 (fun _ => False)) (F0 m 24 ls []) := by
    intro  ls hl hR
    unfold g_X2_takes_24 at hR
    refine lv_iload_n hx hb dX2_takes_24 rfl (lv_at hl 0 rfl) ?_
    refine lv_sipush (v := 172) hx hb dX2_takes_25 (by decide) ?_
    refine lv_icmp_eq (tgt := 52) hx hb dX2_takes_28 (by decide) (fun hc28 => ?_) (fun hc28 => ?_)
    · have hR := hR.trans (if_pos hc28)
      exact B52  ls (lv_sub hl [] rfl) hR
    · have hR := hR.trans (if_neg hc28)
      refine lv_iload_n hx hb dX2_takes_31 rfl (lv_at hl 0 rfl) ?_
      refine lv_sipush (v := 173) hx hb dX2_takes_32 (by decide) ?_
      refine lv_icmp_eq (tgt := 52) hx hb dX2_takes_35 (by decide) (fun hc35 => ?_) (fun hc35 => ?_)
      · have hR := hR.trans (if_pos hc35)
        exact B52  ls (lv_sub hl [] rfl) hR
      · have hR := hR.trans (if_neg hc35)
        refine lv_iload_n hx hb dX2_takes_38 rfl (lv_at hl 0 rfl) ?_
        refine lv_sipush (v := 192) hx hb dX2_takes_39 (by decide) ?_
        refine lv_icmp_eq (tgt := 52) hx hb dX2_takes_42 (by decide) (fun hc42 => ?_) (fun hc42 => ?_)
        · have hR := hR.trans (if_pos hc42)
          exact B52  ls (lv_sub hl [] rfl) hR
        · have hR := hR.trans (if_neg hc42)
          refine lv_iload_n hx hb dX2_takes_45 rfl (lv_at hl 0 rfl) ?_
          refine lv_sipush (v := 193) hx hb dX2_takes_46 (by decide) ?_
          refine lv_icmp_ne (tgt := 55) hx hb dX2_takes_49 (by decide) (fun hc49 => ?_) (fun hc49 => ?_)
          · have hR := hR.trans (if_neg hc49)
            refine lv_bipush (v := 126) hx hb dX2_takes_55 (by decide) ?_
            exact W.iret (v := 126) hx hb hr (fun t ht hW => jr_i hR ht) jnil dX2_takes_57
          · have hR := hR.trans (if_pos hc49)
            exact B52  ls (lv_sub hl [] rfl) hR
  have B12 : ∀  (ls : Array Slot), lv_has ls 1 [(0, .int a0)] → R = g_X2_takes_12 a0  → W p l e (headSpec (ws_ yX2_takes cX2_takes 1 (some .int)) ({ frames := 0, cells := 0, slots := 0, locals := 0 } : Room)).room s m ([.int a0] : List Value).toArray below meth c s.heap [] 0 0 (MQ below (QcRead R) ([.int a0] : List Value).toArray s 0 0 (fun _ => False)) (F0 m 12 ls []) := by
    intro  ls hl hR
    unfold g_X2_takes_12 at hR
    refine lv_iload_n hx hb dX2_takes_12 rfl (lv_at hl 0 rfl) ?_
    refine lv_bipush (v := 103) hx hb dX2_takes_13 (by decide) ?_
    refine lv_icmp_lt (tgt := 24) hx hb dX2_takes_15 (by decide) (fun hc15 => ?_) (fun hc15 => ?_)
    · have hR := hR.trans (if_pos hc15)
      exact B24  ls (lv_sub hl [0] rfl) hR
    · have hR := hR.trans (if_neg hc15)
      refine lv_iload_n hx hb dX2_takes_18 rfl (lv_at hl 0 rfl) ?_
      refine lv_bipush (v := 120) hx hb dX2_takes_19 (by decide) ?_
      refine lv_icmp_le (tgt := 52) hx hb dX2_takes_21 (by decide) (fun hc21 => ?_) (fun hc21 => ?_)
      · have hR := hR.trans (if_pos hc21)
        exact B52  ls (lv_sub hl [] rfl) hR
      · have hR := hR.trans (if_neg hc21)
        exact B24  ls (lv_sub hl [0] rfl) hR
  unfold g_X2_takes at hR
  refine lv_iload_n hx hb dX2_takes_0 rfl (lv_at hl 0 rfl) ?_
  refine lv_bipush (v := 69) hx hb dX2_takes_1 (by decide) ?_
  refine lv_icmp_lt (tgt := 12) hx hb dX2_takes_3 (by decide) (fun hc3 => ?_) (fun hc3 => ?_)
  · have hR := hR.trans (if_pos hc3)
    exact B12  ls (lv_sub hl [0] rfl) hR
  · have hR := hR.trans (if_neg hc3)
    refine lv_iload_n hx hb dX2_takes_6 rfl (lv_at hl 0 rfl) ?_
    refine lv_bipush (v := 79) hx hb dX2_takes_7 (by decide) ?_
    refine lv_icmp_le (tgt := 52) hx hb dX2_takes_9 (by decide) (fun hc9 => ?_) (fun hc9 => ?_)
    · have hR := hR.trans (if_pos hc9)
      exact B52  ls (lv_sub hl [] rfl) hR
    · have hR := hR.trans (if_neg hc9)
      exact B12  ls (lv_sub hl [0] rfl) hR
abbrev cX2_isTwo : ByteArray := prog_2_method_3_code
def yX2_isTwo : MethodName := ⟨RX2, "isTwo", "(I)Z"⟩
theorem dX2_isTwo_0 : decode cX2_isTwo 0 = .ok (.iload_n 0, 1) := by decide +kernel
theorem dX2_isTwo_1 : decode cX2_isTwo 1 = .ok (.bipush 70, 2) := by decide +kernel
theorem dX2_isTwo_3 : decode cX2_isTwo 3 = .ok (.if_icmp .lt 9, 3) := by decide +kernel
theorem dX2_isTwo_6 : decode cX2_isTwo 6 = .ok (.iload_n 0, 1) := by decide +kernel
theorem dX2_isTwo_7 : decode cX2_isTwo 7 = .ok (.bipush 79, 2) := by decide +kernel
theorem dX2_isTwo_9 : decode cX2_isTwo 9 = .ok (.if_icmp .le 40, 3) := by decide +kernel
theorem dX2_isTwo_12 : decode cX2_isTwo 12 = .ok (.iload_n 0, 1) := by decide +kernel
theorem dX2_isTwo_13 : decode cX2_isTwo 13 = .ok (.bipush 81, 2) := by decide +kernel
theorem dX2_isTwo_15 : decode cX2_isTwo 15 = .ok (.if_icmp .lt 9, 3) := by decide +kernel
theorem dX2_isTwo_18 : decode cX2_isTwo 18 = .ok (.iload_n 0, 1) := by decide +kernel
theorem dX2_isTwo_19 : decode cX2_isTwo 19 = .ok (.bipush 90, 2) := by decide +kernel
theorem dX2_isTwo_21 : decode cX2_isTwo 21 = .ok (.if_icmp .le 28, 3) := by decide +kernel
theorem dX2_isTwo_24 : decode cX2_isTwo 24 = .ok (.iload_n 0, 1) := by decide +kernel
theorem dX2_isTwo_25 : decode cX2_isTwo 25 = .ok (.bipush 106, 2) := by decide +kernel
theorem dX2_isTwo_27 : decode cX2_isTwo 27 = .ok (.if_icmp .lt 9, 3) := by decide +kernel
theorem dX2_isTwo_30 : decode cX2_isTwo 30 = .ok (.iload_n 0, 1) := by decide +kernel
theorem dX2_isTwo_31 : decode cX2_isTwo 31 = .ok (.bipush 120, 2) := by decide +kernel
theorem dX2_isTwo_33 : decode cX2_isTwo 33 = .ok (.if_icmp .le 16, 3) := by decide +kernel
theorem dX2_isTwo_36 : decode cX2_isTwo 36 = .ok (.iload_n 0, 1) := by decide +kernel
theorem dX2_isTwo_37 : decode cX2_isTwo 37 = .ok (.bipush 124, 2) := by decide +kernel
theorem dX2_isTwo_39 : decode cX2_isTwo 39 = .ok (.if_icmp .lt 14, 3) := by decide +kernel
theorem dX2_isTwo_42 : decode cX2_isTwo 42 = .ok (.iload_n 0, 1) := by decide +kernel
theorem dX2_isTwo_43 : decode cX2_isTwo 43 = .ok (.sipush 138, 3) := by decide +kernel
theorem dX2_isTwo_46 : decode cX2_isTwo 46 = .ok (.if_icmp .gt 7, 3) := by decide +kernel
theorem dX2_isTwo_49 : decode cX2_isTwo 49 = .ok (.iconst 1, 1) := by decide +kernel
theorem dX2_isTwo_50 : decode cX2_isTwo 50 = .ok (.goto 4, 3) := by decide +kernel
theorem dX2_isTwo_53 : decode cX2_isTwo 53 = .ok (.iconst 0, 1) := by decide +kernel
theorem dX2_isTwo_54 : decode cX2_isTwo 54 = .ok (.ireturn, 1) := by decide +kernel
set_option maxHeartbeats 4000000 in
set_option maxRecDepth 100000 in
theorem mt_X2_isTwo (l : Launch) (a0 : Int32) : Met l yX2_isTwo (ws_ yX2_isTwo cX2_isTwo 1 (some .boolean)) ({ frames := 0, cells := 0, slots := 0, locals := 0 } : Room) (fun v _ => v = ([.int a0] : List Value).toArray) (QcRead (bi (g_X2_isTwo a0))) 0 0 (fun _ => False) := by
  refine Met.ofW (cc := cX2_isTwo) (maxL := 1) (ret := (some .boolean)) (by decide) rfl ?_
  intro p e s m args below meth c s₁ B hml hv
  obtain rfl : args = ([.int a0] : List Value).toArray := hv
  have hx := B.exec
  have hb := B.bytes
  have hr := B.returns
  have hts := atoms_spec (ws := (ws_ yX2_isTwo cX2_isTwo 1 (some .boolean))) B.pre
  have hts : ∀ w ∈ lw_all, w.before _ s = true := fun w h => hts w (List.mem_cons_of_mem _ h)
  have hown : s.vm.findClass RX2 = some m.cls := findClass_of_methodNamed B.named
  have hlocks := B.notSynchronized
  obtain ⟨R, hR⟩ : ∃ R, R = g_X2_isTwo a0 := ⟨_, rfl⟩
  rw [← hR]
  have hl := lv_entry ([.int a0] : List Value) (n := 1) (Nat.le_of_ble_eq_true rfl)
  rw [lg_entry_eq]
  generalize (lg_sl ([.int a0] : List Value) ++ List.replicate (1 - (lg_sl ([.int a0] : List Value)).length) Slot.unset).toArray = ls at hl ⊢
  have hl : lv_has ls 1 [(0, .int a0)] := hl
  have B36 : ∀  (ls : Array Slot), lv_has ls 1 [(0, .int a0)] → R = g_X2_isTwo_36 a0  → W p l e (headSpec (ws_ yX2_isTwo cX2_isTwo 1 (some .boolean)) ({ frames := 0, cells := 0, slots := 0, locals := 0 } : Room)).room s m ([.int a0] : List Value).toArray below meth c s.heap [] 0 0 (MQ below (QcRead (bi R)) ([.int a0] : List Value).toArray s 0 0 (fun _ => False)) (F0 m 36 ls []) := by
    intro  ls hl hR
    unfold g_X2_isTwo_36 at hR
    refine lv_iload_n hx hb dX2_isTwo_36 rfl (lv_at hl 0 rfl) ?_
    refine lv_bipush (v := 124) hx hb dX2_isTwo_37 (by decide) ?_
    refine lv_icmp_lt (tgt := 53) hx hb dX2_isTwo_39 (by decide) (fun hc39 => ?_) (fun hc39 => ?_)
    · have hR := hR.trans (if_pos hc39)
      refine lv_iconst (v := 0) hx hb dX2_isTwo_53 (by decide) ?_
      exact W.zret (v := 0) hx hb hr rfl (fun t ht hW => jr_z hR rfl ht) jnil dX2_isTwo_54
    · have hR := hR.trans (if_neg hc39)
      refine lv_iload_n hx hb dX2_isTwo_42 rfl (lv_at hl 0 rfl) ?_
      refine lv_sipush (v := 138) hx hb dX2_isTwo_43 (by decide) ?_
      refine lv_icmp_gt (tgt := 53) hx hb dX2_isTwo_46 (by decide) (fun hc46 => ?_) (fun hc46 => ?_)
      · have hR := hR.trans (if_pos hc46)
        refine lv_iconst (v := 0) hx hb dX2_isTwo_53 (by decide) ?_
        exact W.zret (v := 0) hx hb hr rfl (fun t ht hW => jr_z hR rfl ht) jnil dX2_isTwo_54
      · have hR := hR.trans (if_neg hc46)
        refine lv_iconst (v := 1) hx hb dX2_isTwo_49 (by decide) ?_
        refine lv_goto (tgt := 54) hx hb dX2_isTwo_50 (by decide) ?_
        exact W.zret (v := 1) hx hb hr rfl (fun t ht hW => jr_z hR rfl ht) jnil dX2_isTwo_54
  have B24 : ∀  (ls : Array Slot), lv_has ls 1 [(0, .int a0)] → R = g_X2_isTwo_24 a0  → W p l e (headSpec (ws_ yX2_isTwo cX2_isTwo 1 (some .boolean)) ({ frames := 0, cells := 0, slots := 0, locals := 0 } : Room)).room s m ([.int a0] : List Value).toArray below meth c s.heap [] 0 0 (MQ below (QcRead (bi R)) ([.int a0] : List Value).toArray s 0 0 (fun _ => False)) (F0 m 24 ls []) := by
    intro  ls hl hR
    unfold g_X2_isTwo_24 at hR
    refine lv_iload_n hx hb dX2_isTwo_24 rfl (lv_at hl 0 rfl) ?_
    refine lv_bipush (v := 106) hx hb dX2_isTwo_25 (by decide) ?_
    refine lv_icmp_lt (tgt := 36) hx hb dX2_isTwo_27 (by decide) (fun hc27 => ?_) (fun hc27 => ?_)
    · have hR := hR.trans (if_pos hc27)
      exact B36  ls (lv_sub hl [0] rfl) hR
    · have hR := hR.trans (if_neg hc27)
      refine lv_iload_n hx hb dX2_isTwo_30 rfl (lv_at hl 0 rfl) ?_
      refine lv_bipush (v := 120) hx hb dX2_isTwo_31 (by decide) ?_
      refine lv_icmp_le (tgt := 49) hx hb dX2_isTwo_33 (by decide) (fun hc33 => ?_) (fun hc33 => ?_)
      · have hR := hR.trans (if_pos hc33)
        refine lv_iconst (v := 1) hx hb dX2_isTwo_49 (by decide) ?_
        refine lv_goto (tgt := 54) hx hb dX2_isTwo_50 (by decide) ?_
        exact W.zret (v := 1) hx hb hr rfl (fun t ht hW => jr_z hR rfl ht) jnil dX2_isTwo_54
      · have hR := hR.trans (if_neg hc33)
        exact B36  ls (lv_sub hl [0] rfl) hR
  have B12 : ∀  (ls : Array Slot), lv_has ls 1 [(0, .int a0)] → R = g_X2_isTwo_12 a0  → W p l e (headSpec (ws_ yX2_isTwo cX2_isTwo 1 (some .boolean)) ({ frames := 0, cells := 0, slots := 0, locals := 0 } : Room)).room s m ([.int a0] : List Value).toArray below meth c s.heap [] 0 0 (MQ below (QcRead (bi R)) ([.int a0] : List Value).toArray s 0 0 (fun _ => False)) (F0 m 12 ls []) := by
    intro  ls hl hR
    unfold g_X2_isTwo_12 at hR
    refine lv_iload_n hx hb dX2_isTwo_12 rfl (lv_at hl 0 rfl) ?_
    refine lv_bipush (v := 81) hx hb dX2_isTwo_13 (by decide) ?_
    refine lv_icmp_lt (tgt := 24) hx hb dX2_isTwo_15 (by decide) (fun hc15 => ?_) (fun hc15 => ?_)
    · have hR := hR.trans (if_pos hc15)
      exact B24  ls (lv_sub hl [0] rfl) hR
    · have hR := hR.trans (if_neg hc15)
      refine lv_iload_n hx hb dX2_isTwo_18 rfl (lv_at hl 0 rfl) ?_
      refine lv_bipush (v := 90) hx hb dX2_isTwo_19 (by decide) ?_
      refine lv_icmp_le (tgt := 49) hx hb dX2_isTwo_21 (by decide) (fun hc21 => ?_) (fun hc21 => ?_)
      · have hR := hR.trans (if_pos hc21)
        refine lv_iconst (v := 1) hx hb dX2_isTwo_49 (by decide) ?_
        refine lv_goto (tgt := 54) hx hb dX2_isTwo_50 (by decide) ?_
        exact W.zret (v := 1) hx hb hr rfl (fun t ht hW => jr_z hR rfl ht) jnil dX2_isTwo_54
      · have hR := hR.trans (if_neg hc21)
        exact B24  ls (lv_sub hl [0] rfl) hR
  unfold g_X2_isTwo at hR
  refine lv_iload_n hx hb dX2_isTwo_0 rfl (lv_at hl 0 rfl) ?_
  refine lv_bipush (v := 70) hx hb dX2_isTwo_1 (by decide) ?_
  refine lv_icmp_lt (tgt := 12) hx hb dX2_isTwo_3 (by decide) (fun hc3 => ?_) (fun hc3 => ?_)
  · have hR := hR.trans (if_pos hc3)
    exact B12  ls (lv_sub hl [0] rfl) hR
  · have hR := hR.trans (if_neg hc3)
    refine lv_iload_n hx hb dX2_isTwo_6 rfl (lv_at hl 0 rfl) ?_
    refine lv_bipush (v := 79) hx hb dX2_isTwo_7 (by decide) ?_
    refine lv_icmp_le (tgt := 49) hx hb dX2_isTwo_9 (by decide) (fun hc9 => ?_) (fun hc9 => ?_)
    · have hR := hR.trans (if_pos hc9)
      refine lv_iconst (v := 1) hx hb dX2_isTwo_49 (by decide) ?_
      refine lv_goto (tgt := 54) hx hb dX2_isTwo_50 (by decide) ?_
      exact W.zret (v := 1) hx hb hr rfl (fun t ht hW => jr_z hR rfl ht) jnil dX2_isTwo_54
    · have hR := hR.trans (if_neg hc9)
      exact B12  ls (lv_sub hl [0] rfl) hR
abbrev cX2_leaves : ByteArray := prog_2_method_4_code
def yX2_leaves : MethodName := ⟨RX2, "leaves", "(I)I"⟩
theorem dX2_leaves_0 : decode cX2_leaves 0 = .ok (.iload_n 0, 1) := by decide +kernel
theorem dX2_leaves_1 : decode cX2_leaves 1 = .ok (.bipush 90, 2) := by decide +kernel
theorem dX2_leaves_3 : decode cX2_leaves 3 = .ok (.if_icmp .le 36, 3) := by decide +kernel
theorem dX2_leaves_6 : decode cX2_leaves 6 = .ok (.iload_n 0, 1) := by decide +kernel
theorem dX2_leaves_7 : decode cX2_leaves 7 = .ok (.bipush 103, 2) := by decide +kernel
theorem dX2_leaves_9 : decode cX2_leaves 9 = .ok (.if_icmp .lt 9, 3) := by decide +kernel
theorem dX2_leaves_12 : decode cX2_leaves 12 = .ok (.iload_n 0, 1) := by decide +kernel
theorem dX2_leaves_13 : decode cX2_leaves 13 = .ok (.bipush 120, 2) := by decide +kernel
theorem dX2_leaves_15 : decode cX2_leaves 15 = .ok (.if_icmp .le 24, 3) := by decide +kernel
theorem dX2_leaves_18 : decode cX2_leaves 18 = .ok (.iload_n 0, 1) := by decide +kernel
theorem dX2_leaves_19 : decode cX2_leaves 19 = .ok (.sipush 167, 3) := by decide +kernel
theorem dX2_leaves_22 : decode cX2_leaves 22 = .ok (.if_icmp .eq 17, 3) := by decide +kernel
theorem dX2_leaves_25 : decode cX2_leaves 25 = .ok (.iload_n 0, 1) := by decide +kernel
theorem dX2_leaves_26 : decode cX2_leaves 26 = .ok (.sipush 192, 3) := by decide +kernel
theorem dX2_leaves_29 : decode cX2_leaves 29 = .ok (.if_icmp .eq 10, 3) := by decide +kernel
theorem dX2_leaves_32 : decode cX2_leaves 32 = .ok (.iload_n 0, 1) := by decide +kernel
theorem dX2_leaves_33 : decode cX2_leaves 33 = .ok (.sipush 193, 3) := by decide +kernel
theorem dX2_leaves_36 : decode cX2_leaves 36 = .ok (.if_icmp .ne 8, 3) := by decide +kernel
theorem dX2_leaves_39 : decode cX2_leaves 39 = .ok (.bipush 127, 2) := by decide +kernel
theorem dX2_leaves_41 : decode cX2_leaves 41 = .ok (.goto 5, 3) := by decide +kernel
theorem dX2_leaves_44 : decode cX2_leaves 44 = .ok (.bipush 126, 2) := by decide +kernel
theorem dX2_leaves_46 : decode cX2_leaves 46 = .ok (.ireturn, 1) := by decide +kernel
set_option maxHeartbeats 4000000 in
set_option maxRecDepth 100000 in
theorem mt_X2_leaves (l : Launch) (a0 : Int32) : Met l yX2_leaves (ws_ yX2_leaves cX2_leaves 1 (some .int)) ({ frames := 0, cells := 0, slots := 0, locals := 0 } : Room) (fun v _ => v = ([.int a0] : List Value).toArray) (QcRead (g_X2_leaves a0)) 0 0 (fun _ => False) := by
  refine Met.ofW (cc := cX2_leaves) (maxL := 1) (ret := (some .int)) (by decide) rfl ?_
  intro p e s m args below meth c s₁ B hml hv
  obtain rfl : args = ([.int a0] : List Value).toArray := hv
  have hx := B.exec
  have hb := B.bytes
  have hr := B.returns
  have hts := atoms_spec (ws := (ws_ yX2_leaves cX2_leaves 1 (some .int))) B.pre
  have hts : ∀ w ∈ lw_all, w.before _ s = true := fun w h => hts w (List.mem_cons_of_mem _ h)
  have hown : s.vm.findClass RX2 = some m.cls := findClass_of_methodNamed B.named
  have hlocks := B.notSynchronized
  obtain ⟨R, hR⟩ : ∃ R, R = g_X2_leaves a0 := ⟨_, rfl⟩
  rw [← hR]
  have hl := lv_entry ([.int a0] : List Value) (n := 1) (Nat.le_of_ble_eq_true rfl)
  rw [lg_entry_eq]
  generalize (lg_sl ([.int a0] : List Value) ++ List.replicate (1 - (lg_sl ([.int a0] : List Value)).length) Slot.unset).toArray = ls at hl ⊢
  have hl : lv_has ls 1 [(0, .int a0)] := hl
  have B18 : ∀  (ls : Array Slot), lv_has ls 1 [(0, .int a0)] → R = g_X2_leaves_18 a0  → W p l e (headSpec (ws_ yX2_leaves cX2_leaves 1 (some .int)) ({ frames := 0, cells := 0, slots := 0, locals := 0 } : Room)).room s m ([.int a0] : List Value).toArray below meth c s.heap [] 0 0 (MQ below (QcRead R) ([.int a0] : List Value).toArray s 0 0 (fun _ => False)) (F0 m 18 ls []) := by
    intro  ls hl hR
    unfold g_X2_leaves_18 at hR
    refine lv_iload_n hx hb dX2_leaves_18 rfl (lv_at hl 0 rfl) ?_
    refine lv_sipush (v := 167) hx hb dX2_leaves_19 (by decide) ?_
    refine lv_icmp_eq (tgt := 39) hx hb dX2_leaves_22 (by decide) (fun hc22 => ?_) (fun hc22 => ?_)
    · have hR := hR.trans (if_pos hc22)
      refine lv_bipush (v := 127) hx hb dX2_leaves_39 (by decide) ?_
      refine lv_goto (tgt := 46) hx hb dX2_leaves_41 (by decide) ?_
      exact W.iret (v := 127) hx hb hr (fun t ht hW => jr_i hR ht) jnil dX2_leaves_46
    · have hR := hR.trans (if_neg hc22)
      refine lv_iload_n hx hb dX2_leaves_25 rfl (lv_at hl 0 rfl) ?_
      refine lv_sipush (v := 192) hx hb dX2_leaves_26 (by decide) ?_
      refine lv_icmp_eq (tgt := 39) hx hb dX2_leaves_29 (by decide) (fun hc29 => ?_) (fun hc29 => ?_)
      · have hR := hR.trans (if_pos hc29)
        refine lv_bipush (v := 127) hx hb dX2_leaves_39 (by decide) ?_
        refine lv_goto (tgt := 46) hx hb dX2_leaves_41 (by decide) ?_
        exact W.iret (v := 127) hx hb hr (fun t ht hW => jr_i hR ht) jnil dX2_leaves_46
      · have hR := hR.trans (if_neg hc29)
        refine lv_iload_n hx hb dX2_leaves_32 rfl (lv_at hl 0 rfl) ?_
        refine lv_sipush (v := 193) hx hb dX2_leaves_33 (by decide) ?_
        refine lv_icmp_ne (tgt := 44) hx hb dX2_leaves_36 (by decide) (fun hc36 => ?_) (fun hc36 => ?_)
        · have hR := hR.trans (if_neg hc36)
          refine lv_bipush (v := 126) hx hb dX2_leaves_44 (by decide) ?_
          exact W.iret (v := 126) hx hb hr (fun t ht hW => jr_i hR ht) jnil dX2_leaves_46
        · have hR := hR.trans (if_pos hc36)
          refine lv_bipush (v := 127) hx hb dX2_leaves_39 (by decide) ?_
          refine lv_goto (tgt := 46) hx hb dX2_leaves_41 (by decide) ?_
          exact W.iret (v := 127) hx hb hr (fun t ht hW => jr_i hR ht) jnil dX2_leaves_46
  unfold g_X2_leaves at hR
  refine lv_iload_n hx hb dX2_leaves_0 rfl (lv_at hl 0 rfl) ?_
  refine lv_bipush (v := 90) hx hb dX2_leaves_1 (by decide) ?_
  refine lv_icmp_le (tgt := 39) hx hb dX2_leaves_3 (by decide) (fun hc3 => ?_) (fun hc3 => ?_)
  · have hR := hR.trans (if_pos hc3)
    refine lv_bipush (v := 127) hx hb dX2_leaves_39 (by decide) ?_
    refine lv_goto (tgt := 46) hx hb dX2_leaves_41 (by decide) ?_
    exact W.iret (v := 127) hx hb hr (fun t ht hW => jr_i hR ht) jnil dX2_leaves_46
  · have hR := hR.trans (if_neg hc3)
    refine lv_iload_n hx hb dX2_leaves_6 rfl (lv_at hl 0 rfl) ?_
    refine lv_bipush (v := 103) hx hb dX2_leaves_7 (by decide) ?_
    refine lv_icmp_lt (tgt := 18) hx hb dX2_leaves_9 (by decide) (fun hc9 => ?_) (fun hc9 => ?_)
    · have hR := hR.trans (if_pos hc9)
      exact B18  ls (lv_sub hl [0] rfl) hR
    · have hR := hR.trans (if_neg hc9)
      refine lv_iload_n hx hb dX2_leaves_12 rfl (lv_at hl 0 rfl) ?_
      refine lv_bipush (v := 120) hx hb dX2_leaves_13 (by decide) ?_
      refine lv_icmp_le (tgt := 39) hx hb dX2_leaves_15 (by decide) (fun hc15 => ?_) (fun hc15 => ?_)
      · have hR := hR.trans (if_pos hc15)
        refine lv_bipush (v := 127) hx hb dX2_leaves_39 (by decide) ?_
        refine lv_goto (tgt := 46) hx hb dX2_leaves_41 (by decide) ?_
        exact W.iret (v := 127) hx hb hr (fun t ht hW => jr_i hR ht) jnil dX2_leaves_46
      · have hR := hR.trans (if_neg hc15)
        exact B18  ls (lv_sub hl [0] rfl) hR
abbrev cX2_order : ByteArray := prog_2_method_5_code
def yX2_order : MethodName := ⟨RX2, "order", "(JJ)I"⟩
theorem dX2_order_0 : decode cX2_order 0 = .ok (.lload_n 0, 1) := by decide +kernel
theorem dX2_order_1 : decode cX2_order 1 = .ok (.ldc2_w 11, 3) := by decide +kernel
theorem dX2_order_4 : decode cX2_order 4 = .ok (.ladd, 1) := by decide +kernel
theorem dX2_order_5 : decode cX2_order 5 = .ok (.lload_n 2, 1) := by decide +kernel
theorem dX2_order_6 : decode cX2_order 6 = .ok (.ldc2_w 11, 3) := by decide +kernel
theorem dX2_order_9 : decode cX2_order 9 = .ok (.ladd, 1) := by decide +kernel
theorem dX2_order_10 : decode cX2_order 10 = .ok (.invokestatic 13, 3) := by decide +kernel
theorem dX2_order_13 : decode cX2_order 13 = .ok (.ireturn, 1) := by decide +kernel
set_option maxHeartbeats 4000000 in
set_option maxRecDepth 100000 in
theorem mt_X2_order (l : Launch) (a0 : Int64) (a1 : Int64) : Met l yX2_order (ws_ yX2_order cX2_order 4 (some .int)) ({ frames := 1, cells := 0, slots := 0, locals := 23 } : Room) (fun v _ => v = ([.long a0, .long a1] : List Value).toArray) (QcRead (g_X2_order a0 a1)) 0 0 (fun _ => False) := by
  refine Met.ofW (cc := cX2_order) (maxL := 4) (ret := (some .int)) (by decide) rfl ?_
  intro p e s m args below meth c s₁ B hml hv
  obtain rfl : args = ([.long a0, .long a1] : List Value).toArray := hv
  have hx := B.exec
  have hb := B.bytes
  have hr := B.returns
  have hts := atoms_spec (ws := (ws_ yX2_order cX2_order 4 (some .int))) B.pre
  have hts : ∀ w ∈ lw_all, w.before _ s = true := fun w h => hts w (List.mem_cons_of_mem _ h)
  have hown : s.vm.findClass RX2 = some m.cls := findClass_of_methodNamed B.named
  have hlocks := B.notSynchronized
  obtain ⟨R, hR⟩ : ∃ R, R = g_X2_order a0 a1 := ⟨_, rfl⟩
  rw [← hR]
  have hl := lv_entry ([.long a0, .long a1] : List Value) (n := 4) (Nat.le_of_ble_eq_true rfl)
  rw [lg_entry_eq]
  generalize (lg_sl ([.long a0, .long a1] : List Value) ++ List.replicate (4 - (lg_sl ([.long a0, .long a1] : List Value)).length) Slot.unset).toArray = ls at hl ⊢
  have hl : lv_has ls 4 [(0, .long a0), (2, .long a1)] := hl
  unfold g_X2_order at hR
  refine lv_lload_n hx hb dX2_order_0 rfl (lv_at hl 0 rfl) ?_
  refine lv_ldc2 (v := (-9223372036854775808)) hx hb hown (hts _ q54) dX2_order_1 ?_
  refine lv_ladd hx hb dX2_order_4 ?_
  refine lv_lload_n hx hb dX2_order_5 rfl (lv_at hl 1 rfl) ?_
  refine lv_ldc2 (v := (-9223372036854775808)) hx hb hown (hts _ q54) dX2_order_6 ?_
  refine lv_ladd hx hb dX2_order_9 ?_
  refine jw_callI (W.runS (As := [.long (a0 + (-9223372036854775808)), .long (a1 + (-9223372036854775808))]) (rest := []) ⟨hx, hb, hml, hown, hts⟩ (mt_J0_compare l (a0 + (-9223372036854775808)) (a1 + (-9223372036854775808))) (va_cwS 2 hts (lw_S q64 q65 q7 q66) rfl rfl rfl (by decide +kernel) ⟨Nat.le_of_ble_eq_true rfl, Nat.le_of_ble_eq_true rfl⟩) preEq rfl rfl hl.1 rfl (lv_room (Nat.le_of_ble_eq_true rfl)) dX2_order_10 ⟨Nat.le_of_ble_eq_true rfl, Nat.le_of_ble_eq_true rfl⟩) ?_
  exact W.iret (v := (g_J0_compare (a0 + (-9223372036854775808)) (a1 + (-9223372036854775808)))) hx hb hr (fun t ht hW => jr_i hR ht) jnil dX2_order_13
abbrev cX2_holds : ByteArray := prog_2_method_6_code
def yX2_holds : MethodName := ⟨RX2, "holds", "(IJJ)Z"⟩
theorem dX2_holds_0 : decode cX2_holds 0 = .ok (.iload_n 0, 1) := by decide +kernel
theorem dX2_holds_1 : decode cX2_holds 1 = .ok (.tableswitch 165 0 8 #[51, 63, 75, 87, 101, 113, 127, 139, 153], 51) := by decide +kernel
theorem dX2_holds_52 : decode cX2_holds 52 = .ok (.lload_n 1, 1) := by decide +kernel
theorem dX2_holds_53 : decode cX2_holds 53 = .ok (.lload_n 3, 1) := by decide +kernel
theorem dX2_holds_54 : decode cX2_holds 54 = .ok (.lcmp, 1) := by decide +kernel
theorem dX2_holds_55 : decode cX2_holds 55 = .ok (.ifCond .ne 7, 3) := by decide +kernel
theorem dX2_holds_58 : decode cX2_holds 58 = .ok (.iconst 1, 1) := by decide +kernel
theorem dX2_holds_59 : decode cX2_holds 59 = .ok (.goto 4, 3) := by decide +kernel
theorem dX2_holds_62 : decode cX2_holds 62 = .ok (.iconst 0, 1) := by decide +kernel
theorem dX2_holds_63 : decode cX2_holds 63 = .ok (.ireturn, 1) := by decide +kernel
theorem dX2_holds_64 : decode cX2_holds 64 = .ok (.lload_n 1, 1) := by decide +kernel
theorem dX2_holds_65 : decode cX2_holds 65 = .ok (.lload_n 3, 1) := by decide +kernel
theorem dX2_holds_66 : decode cX2_holds 66 = .ok (.lcmp, 1) := by decide +kernel
theorem dX2_holds_67 : decode cX2_holds 67 = .ok (.ifCond .eq 7, 3) := by decide +kernel
theorem dX2_holds_70 : decode cX2_holds 70 = .ok (.iconst 1, 1) := by decide +kernel
theorem dX2_holds_71 : decode cX2_holds 71 = .ok (.goto 4, 3) := by decide +kernel
theorem dX2_holds_74 : decode cX2_holds 74 = .ok (.iconst 0, 1) := by decide +kernel
theorem dX2_holds_75 : decode cX2_holds 75 = .ok (.ireturn, 1) := by decide +kernel
theorem dX2_holds_76 : decode cX2_holds 76 = .ok (.lload_n 1, 1) := by decide +kernel
theorem dX2_holds_77 : decode cX2_holds 77 = .ok (.lload_n 3, 1) := by decide +kernel
theorem dX2_holds_78 : decode cX2_holds 78 = .ok (.lcmp, 1) := by decide +kernel
theorem dX2_holds_79 : decode cX2_holds 79 = .ok (.ifCond .ge 7, 3) := by decide +kernel
theorem dX2_holds_82 : decode cX2_holds 82 = .ok (.iconst 1, 1) := by decide +kernel
theorem dX2_holds_83 : decode cX2_holds 83 = .ok (.goto 4, 3) := by decide +kernel
theorem dX2_holds_86 : decode cX2_holds 86 = .ok (.iconst 0, 1) := by decide +kernel
theorem dX2_holds_87 : decode cX2_holds 87 = .ok (.ireturn, 1) := by decide +kernel
theorem dX2_holds_88 : decode cX2_holds 88 = .ok (.lload_n 1, 1) := by decide +kernel
theorem dX2_holds_89 : decode cX2_holds 89 = .ok (.lload_n 3, 1) := by decide +kernel
theorem dX2_holds_90 : decode cX2_holds 90 = .ok (.invokestatic 17, 3) := by decide +kernel
theorem dX2_holds_93 : decode cX2_holds 93 = .ok (.ifCond .ge 7, 3) := by decide +kernel
theorem dX2_holds_96 : decode cX2_holds 96 = .ok (.iconst 1, 1) := by decide +kernel
theorem dX2_holds_97 : decode cX2_holds 97 = .ok (.goto 4, 3) := by decide +kernel
theorem dX2_holds_100 : decode cX2_holds 100 = .ok (.iconst 0, 1) := by decide +kernel
theorem dX2_holds_101 : decode cX2_holds 101 = .ok (.ireturn, 1) := by decide +kernel
theorem dX2_holds_102 : decode cX2_holds 102 = .ok (.lload_n 1, 1) := by decide +kernel
theorem dX2_holds_103 : decode cX2_holds 103 = .ok (.lload_n 3, 1) := by decide +kernel
theorem dX2_holds_104 : decode cX2_holds 104 = .ok (.lcmp, 1) := by decide +kernel
theorem dX2_holds_105 : decode cX2_holds 105 = .ok (.ifCond .le 7, 3) := by decide +kernel
theorem dX2_holds_108 : decode cX2_holds 108 = .ok (.iconst 1, 1) := by decide +kernel
theorem dX2_holds_109 : decode cX2_holds 109 = .ok (.goto 4, 3) := by decide +kernel
theorem dX2_holds_112 : decode cX2_holds 112 = .ok (.iconst 0, 1) := by decide +kernel
theorem dX2_holds_113 : decode cX2_holds 113 = .ok (.ireturn, 1) := by decide +kernel
theorem dX2_holds_114 : decode cX2_holds 114 = .ok (.lload_n 1, 1) := by decide +kernel
theorem dX2_holds_115 : decode cX2_holds 115 = .ok (.lload_n 3, 1) := by decide +kernel
theorem dX2_holds_116 : decode cX2_holds 116 = .ok (.invokestatic 17, 3) := by decide +kernel
theorem dX2_holds_119 : decode cX2_holds 119 = .ok (.ifCond .le 7, 3) := by decide +kernel
theorem dX2_holds_122 : decode cX2_holds 122 = .ok (.iconst 1, 1) := by decide +kernel
theorem dX2_holds_123 : decode cX2_holds 123 = .ok (.goto 4, 3) := by decide +kernel
theorem dX2_holds_126 : decode cX2_holds 126 = .ok (.iconst 0, 1) := by decide +kernel
theorem dX2_holds_127 : decode cX2_holds 127 = .ok (.ireturn, 1) := by decide +kernel
theorem dX2_holds_128 : decode cX2_holds 128 = .ok (.lload_n 1, 1) := by decide +kernel
theorem dX2_holds_129 : decode cX2_holds 129 = .ok (.lload_n 3, 1) := by decide +kernel
theorem dX2_holds_130 : decode cX2_holds 130 = .ok (.lcmp, 1) := by decide +kernel
theorem dX2_holds_131 : decode cX2_holds 131 = .ok (.ifCond .gt 7, 3) := by decide +kernel
theorem dX2_holds_134 : decode cX2_holds 134 = .ok (.iconst 1, 1) := by decide +kernel
theorem dX2_holds_135 : decode cX2_holds 135 = .ok (.goto 4, 3) := by decide +kernel
theorem dX2_holds_138 : decode cX2_holds 138 = .ok (.iconst 0, 1) := by decide +kernel
theorem dX2_holds_139 : decode cX2_holds 139 = .ok (.ireturn, 1) := by decide +kernel
theorem dX2_holds_140 : decode cX2_holds 140 = .ok (.lload_n 1, 1) := by decide +kernel
theorem dX2_holds_141 : decode cX2_holds 141 = .ok (.lload_n 3, 1) := by decide +kernel
theorem dX2_holds_142 : decode cX2_holds 142 = .ok (.invokestatic 17, 3) := by decide +kernel
theorem dX2_holds_145 : decode cX2_holds 145 = .ok (.ifCond .gt 7, 3) := by decide +kernel
theorem dX2_holds_148 : decode cX2_holds 148 = .ok (.iconst 1, 1) := by decide +kernel
theorem dX2_holds_149 : decode cX2_holds 149 = .ok (.goto 4, 3) := by decide +kernel
theorem dX2_holds_152 : decode cX2_holds 152 = .ok (.iconst 0, 1) := by decide +kernel
theorem dX2_holds_153 : decode cX2_holds 153 = .ok (.ireturn, 1) := by decide +kernel
theorem dX2_holds_154 : decode cX2_holds 154 = .ok (.lload_n 1, 1) := by decide +kernel
theorem dX2_holds_155 : decode cX2_holds 155 = .ok (.lload_n 3, 1) := by decide +kernel
theorem dX2_holds_156 : decode cX2_holds 156 = .ok (.lcmp, 1) := by decide +kernel
theorem dX2_holds_157 : decode cX2_holds 157 = .ok (.ifCond .lt 7, 3) := by decide +kernel
theorem dX2_holds_160 : decode cX2_holds 160 = .ok (.iconst 1, 1) := by decide +kernel
theorem dX2_holds_161 : decode cX2_holds 161 = .ok (.goto 4, 3) := by decide +kernel
theorem dX2_holds_164 : decode cX2_holds 164 = .ok (.iconst 0, 1) := by decide +kernel
theorem dX2_holds_165 : decode cX2_holds 165 = .ok (.ireturn, 1) := by decide +kernel
theorem dX2_holds_166 : decode cX2_holds 166 = .ok (.lload_n 1, 1) := by decide +kernel
theorem dX2_holds_167 : decode cX2_holds 167 = .ok (.lload_n 3, 1) := by decide +kernel
theorem dX2_holds_168 : decode cX2_holds 168 = .ok (.invokestatic 17, 3) := by decide +kernel
theorem dX2_holds_171 : decode cX2_holds 171 = .ok (.ifCond .lt 7, 3) := by decide +kernel
theorem dX2_holds_174 : decode cX2_holds 174 = .ok (.iconst 1, 1) := by decide +kernel
theorem dX2_holds_175 : decode cX2_holds 175 = .ok (.goto 4, 3) := by decide +kernel
theorem dX2_holds_178 : decode cX2_holds 178 = .ok (.iconst 0, 1) := by decide +kernel
theorem dX2_holds_179 : decode cX2_holds 179 = .ok (.ireturn, 1) := by decide +kernel
set_option maxHeartbeats 4000000 in
set_option maxRecDepth 100000 in
theorem mt_X2_holds (l : Launch) (a0 : Int32) (a1 : Int64) (a2 : Int64) : Met l yX2_holds (ws_ yX2_holds cX2_holds 5 (some .boolean)) ({ frames := 2, cells := 0, slots := 0, locals := 46 } : Room) (fun v _ => v = ([.int a0, .long a1, .long a2] : List Value).toArray) (QcRead (bi (g_X2_holds a0 a1 a2))) 0 0 (fun _ => False) := by
  refine Met.ofW (cc := cX2_holds) (maxL := 5) (ret := (some .boolean)) (by decide) rfl ?_
  intro p e s m args below meth c s₁ B hml hv
  obtain rfl : args = ([.int a0, .long a1, .long a2] : List Value).toArray := hv
  have hx := B.exec
  have hb := B.bytes
  have hr := B.returns
  have hts := atoms_spec (ws := (ws_ yX2_holds cX2_holds 5 (some .boolean))) B.pre
  have hts : ∀ w ∈ lw_all, w.before _ s = true := fun w h => hts w (List.mem_cons_of_mem _ h)
  have hown : s.vm.findClass RX2 = some m.cls := findClass_of_methodNamed B.named
  have hlocks := B.notSynchronized
  obtain ⟨R, hR⟩ : ∃ R, R = g_X2_holds a0 a1 a2 := ⟨_, rfl⟩
  rw [← hR]
  have hl := lv_entry ([.int a0, .long a1, .long a2] : List Value) (n := 5) (Nat.le_of_ble_eq_true rfl)
  rw [lg_entry_eq]
  generalize (lg_sl ([.int a0, .long a1, .long a2] : List Value) ++ List.replicate (5 - (lg_sl ([.int a0, .long a1, .long a2] : List Value)).length) Slot.unset).toArray = ls at hl ⊢
  have hl : lv_has ls 5 [(0, .int a0), (1, .long a1), (3, .long a2)] := hl
  unfold g_X2_holds at hR
  refine lv_iload_n hx hb dX2_holds_0 rfl (lv_at hl 0 rfl) ?_
  by_cases hk0 : a0 = 0
  · have hR := hR.trans (if_pos hk0)
    refine lv_tableIn (off := 51) (tgt := 52) hx hb dX2_holds_1 (by rw [hk0]; decide) (by rw [hk0]; decide) (by rw [hk0]; rfl) (by decide) ?_
    refine lv_lload_n hx hb dX2_holds_52 rfl (lv_at hl 1 rfl) ?_
    refine lv_lload_n hx hb dX2_holds_53 rfl (lv_at hl 2 rfl) ?_
    refine W.lcmp hx hb dX2_holds_54 ?_
    refine lv_if_ne (tgt := 62) hx hb dX2_holds_55 (by decide) (fun hc55 => ?_) (fun hc55 => ?_)
    · have hR := hR.trans (if_neg hc55)
      refine lv_iconst (v := 0) hx hb dX2_holds_62 (by decide) ?_
      exact W.zret (v := 0) hx hb hr rfl (fun t ht hW => jr_z hR rfl ht) jnil dX2_holds_63
    · have hR := hR.trans (if_pos hc55)
      refine lv_iconst (v := 1) hx hb dX2_holds_58 (by decide) ?_
      refine lv_goto (tgt := 63) hx hb dX2_holds_59 (by decide) ?_
      exact W.zret (v := 1) hx hb hr rfl (fun t ht hW => jr_z hR rfl ht) jnil dX2_holds_63
  have hR := hR.trans (if_neg hk0)
  by_cases hk1 : a0 = 1
  · have hR := hR.trans (if_pos hk1)
    refine lv_tableIn (off := 63) (tgt := 64) hx hb dX2_holds_1 (by rw [hk1]; decide) (by rw [hk1]; decide) (by rw [hk1]; rfl) (by decide) ?_
    refine lv_lload_n hx hb dX2_holds_64 rfl (lv_at hl 1 rfl) ?_
    refine lv_lload_n hx hb dX2_holds_65 rfl (lv_at hl 2 rfl) ?_
    refine W.lcmp hx hb dX2_holds_66 ?_
    refine lv_if_eq (tgt := 74) hx hb dX2_holds_67 (by decide) (fun hc67 => ?_) (fun hc67 => ?_)
    · have hR := hR.trans (if_pos hc67)
      refine lv_iconst (v := 0) hx hb dX2_holds_74 (by decide) ?_
      exact W.zret (v := 0) hx hb hr rfl (fun t ht hW => jr_z hR rfl ht) jnil dX2_holds_75
    · have hR := hR.trans (if_neg hc67)
      refine lv_iconst (v := 1) hx hb dX2_holds_70 (by decide) ?_
      refine lv_goto (tgt := 75) hx hb dX2_holds_71 (by decide) ?_
      exact W.zret (v := 1) hx hb hr rfl (fun t ht hW => jr_z hR rfl ht) jnil dX2_holds_75
  have hR := hR.trans (if_neg hk1)
  by_cases hk2 : a0 = 2
  · have hR := hR.trans (if_pos hk2)
    refine lv_tableIn (off := 75) (tgt := 76) hx hb dX2_holds_1 (by rw [hk2]; decide) (by rw [hk2]; decide) (by rw [hk2]; rfl) (by decide) ?_
    refine lv_lload_n hx hb dX2_holds_76 rfl (lv_at hl 1 rfl) ?_
    refine lv_lload_n hx hb dX2_holds_77 rfl (lv_at hl 2 rfl) ?_
    refine W.lcmp hx hb dX2_holds_78 ?_
    refine lv_if_ge (tgt := 86) hx hb dX2_holds_79 (by decide) (fun hc79 => ?_) (fun hc79 => ?_)
    · have hR := hR.trans (if_pos hc79)
      refine lv_iconst (v := 0) hx hb dX2_holds_86 (by decide) ?_
      exact W.zret (v := 0) hx hb hr rfl (fun t ht hW => jr_z hR rfl ht) jnil dX2_holds_87
    · have hR := hR.trans (if_neg hc79)
      refine lv_iconst (v := 1) hx hb dX2_holds_82 (by decide) ?_
      refine lv_goto (tgt := 87) hx hb dX2_holds_83 (by decide) ?_
      exact W.zret (v := 1) hx hb hr rfl (fun t ht hW => jr_z hR rfl ht) jnil dX2_holds_87
  have hR := hR.trans (if_neg hk2)
  by_cases hk3 : a0 = 3
  · have hR := hR.trans (if_pos hk3)
    refine lv_tableIn (off := 87) (tgt := 88) hx hb dX2_holds_1 (by rw [hk3]; decide) (by rw [hk3]; decide) (by rw [hk3]; rfl) (by decide) ?_
    refine lv_lload_n hx hb dX2_holds_88 rfl (lv_at hl 1 rfl) ?_
    refine lv_lload_n hx hb dX2_holds_89 rfl (lv_at hl 2 rfl) ?_
    refine jw_callI (W.runS (As := [.long a1, .long a2]) (rest := []) ⟨hx, hb, hml, hown, hts⟩ (mt_X2_order l a1 a2) (va_cwS 2 hts (lw_S q61 q62 q6 q63) rfl rfl rfl (by decide +kernel) ⟨Nat.le_of_ble_eq_true rfl, Nat.le_of_ble_eq_true rfl⟩) preEq rfl rfl hl.1 rfl (lv_room (Nat.le_of_ble_eq_true rfl)) dX2_holds_90 ⟨Nat.le_of_ble_eq_true rfl, Nat.le_of_ble_eq_true rfl⟩) ?_
    refine lv_if_ge (tgt := 100) hx hb dX2_holds_93 (by decide) (fun hc93 => ?_) (fun hc93 => ?_)
    · have hR := hR.trans (if_pos hc93)
      refine lv_iconst (v := 0) hx hb dX2_holds_100 (by decide) ?_
      exact W.zret (v := 0) hx hb hr rfl (fun t ht hW => jr_z hR rfl ht) jnil dX2_holds_101
    · have hR := hR.trans (if_neg hc93)
      refine lv_iconst (v := 1) hx hb dX2_holds_96 (by decide) ?_
      refine lv_goto (tgt := 101) hx hb dX2_holds_97 (by decide) ?_
      exact W.zret (v := 1) hx hb hr rfl (fun t ht hW => jr_z hR rfl ht) jnil dX2_holds_101
  have hR := hR.trans (if_neg hk3)
  by_cases hk4 : a0 = 4
  · have hR := hR.trans (if_pos hk4)
    refine lv_tableIn (off := 101) (tgt := 102) hx hb dX2_holds_1 (by rw [hk4]; decide) (by rw [hk4]; decide) (by rw [hk4]; rfl) (by decide) ?_
    refine lv_lload_n hx hb dX2_holds_102 rfl (lv_at hl 1 rfl) ?_
    refine lv_lload_n hx hb dX2_holds_103 rfl (lv_at hl 2 rfl) ?_
    refine W.lcmp hx hb dX2_holds_104 ?_
    refine lv_if_le (tgt := 112) hx hb dX2_holds_105 (by decide) (fun hc105 => ?_) (fun hc105 => ?_)
    · have hR := hR.trans (if_pos hc105)
      refine lv_iconst (v := 0) hx hb dX2_holds_112 (by decide) ?_
      exact W.zret (v := 0) hx hb hr rfl (fun t ht hW => jr_z hR rfl ht) jnil dX2_holds_113
    · have hR := hR.trans (if_neg hc105)
      refine lv_iconst (v := 1) hx hb dX2_holds_108 (by decide) ?_
      refine lv_goto (tgt := 113) hx hb dX2_holds_109 (by decide) ?_
      exact W.zret (v := 1) hx hb hr rfl (fun t ht hW => jr_z hR rfl ht) jnil dX2_holds_113
  have hR := hR.trans (if_neg hk4)
  by_cases hk5 : a0 = 5
  · have hR := hR.trans (if_pos hk5)
    refine lv_tableIn (off := 113) (tgt := 114) hx hb dX2_holds_1 (by rw [hk5]; decide) (by rw [hk5]; decide) (by rw [hk5]; rfl) (by decide) ?_
    refine lv_lload_n hx hb dX2_holds_114 rfl (lv_at hl 1 rfl) ?_
    refine lv_lload_n hx hb dX2_holds_115 rfl (lv_at hl 2 rfl) ?_
    refine jw_callI (W.runS (As := [.long a1, .long a2]) (rest := []) ⟨hx, hb, hml, hown, hts⟩ (mt_X2_order l a1 a2) (va_cwS 2 hts (lw_S q61 q62 q6 q63) rfl rfl rfl (by decide +kernel) ⟨Nat.le_of_ble_eq_true rfl, Nat.le_of_ble_eq_true rfl⟩) preEq rfl rfl hl.1 rfl (lv_room (Nat.le_of_ble_eq_true rfl)) dX2_holds_116 ⟨Nat.le_of_ble_eq_true rfl, Nat.le_of_ble_eq_true rfl⟩) ?_
    refine lv_if_le (tgt := 126) hx hb dX2_holds_119 (by decide) (fun hc119 => ?_) (fun hc119 => ?_)
    · have hR := hR.trans (if_pos hc119)
      refine lv_iconst (v := 0) hx hb dX2_holds_126 (by decide) ?_
      exact W.zret (v := 0) hx hb hr rfl (fun t ht hW => jr_z hR rfl ht) jnil dX2_holds_127
    · have hR := hR.trans (if_neg hc119)
      refine lv_iconst (v := 1) hx hb dX2_holds_122 (by decide) ?_
      refine lv_goto (tgt := 127) hx hb dX2_holds_123 (by decide) ?_
      exact W.zret (v := 1) hx hb hr rfl (fun t ht hW => jr_z hR rfl ht) jnil dX2_holds_127
  have hR := hR.trans (if_neg hk5)
  by_cases hk6 : a0 = 6
  · have hR := hR.trans (if_pos hk6)
    refine lv_tableIn (off := 127) (tgt := 128) hx hb dX2_holds_1 (by rw [hk6]; decide) (by rw [hk6]; decide) (by rw [hk6]; rfl) (by decide) ?_
    refine lv_lload_n hx hb dX2_holds_128 rfl (lv_at hl 1 rfl) ?_
    refine lv_lload_n hx hb dX2_holds_129 rfl (lv_at hl 2 rfl) ?_
    refine W.lcmp hx hb dX2_holds_130 ?_
    refine lv_if_gt (tgt := 138) hx hb dX2_holds_131 (by decide) (fun hc131 => ?_) (fun hc131 => ?_)
    · have hR := hR.trans (if_pos hc131)
      refine lv_iconst (v := 0) hx hb dX2_holds_138 (by decide) ?_
      exact W.zret (v := 0) hx hb hr rfl (fun t ht hW => jr_z hR rfl ht) jnil dX2_holds_139
    · have hR := hR.trans (if_neg hc131)
      refine lv_iconst (v := 1) hx hb dX2_holds_134 (by decide) ?_
      refine lv_goto (tgt := 139) hx hb dX2_holds_135 (by decide) ?_
      exact W.zret (v := 1) hx hb hr rfl (fun t ht hW => jr_z hR rfl ht) jnil dX2_holds_139
  have hR := hR.trans (if_neg hk6)
  by_cases hk7 : a0 = 7
  · have hR := hR.trans (if_pos hk7)
    refine lv_tableIn (off := 139) (tgt := 140) hx hb dX2_holds_1 (by rw [hk7]; decide) (by rw [hk7]; decide) (by rw [hk7]; rfl) (by decide) ?_
    refine lv_lload_n hx hb dX2_holds_140 rfl (lv_at hl 1 rfl) ?_
    refine lv_lload_n hx hb dX2_holds_141 rfl (lv_at hl 2 rfl) ?_
    refine jw_callI (W.runS (As := [.long a1, .long a2]) (rest := []) ⟨hx, hb, hml, hown, hts⟩ (mt_X2_order l a1 a2) (va_cwS 2 hts (lw_S q61 q62 q6 q63) rfl rfl rfl (by decide +kernel) ⟨Nat.le_of_ble_eq_true rfl, Nat.le_of_ble_eq_true rfl⟩) preEq rfl rfl hl.1 rfl (lv_room (Nat.le_of_ble_eq_true rfl)) dX2_holds_142 ⟨Nat.le_of_ble_eq_true rfl, Nat.le_of_ble_eq_true rfl⟩) ?_
    refine lv_if_gt (tgt := 152) hx hb dX2_holds_145 (by decide) (fun hc145 => ?_) (fun hc145 => ?_)
    · have hR := hR.trans (if_pos hc145)
      refine lv_iconst (v := 0) hx hb dX2_holds_152 (by decide) ?_
      exact W.zret (v := 0) hx hb hr rfl (fun t ht hW => jr_z hR rfl ht) jnil dX2_holds_153
    · have hR := hR.trans (if_neg hc145)
      refine lv_iconst (v := 1) hx hb dX2_holds_148 (by decide) ?_
      refine lv_goto (tgt := 153) hx hb dX2_holds_149 (by decide) ?_
      exact W.zret (v := 1) hx hb hr rfl (fun t ht hW => jr_z hR rfl ht) jnil dX2_holds_153
  have hR := hR.trans (if_neg hk7)
  by_cases hk8 : a0 = 8
  · have hR := hR.trans (if_pos hk8)
    refine lv_tableIn (off := 153) (tgt := 154) hx hb dX2_holds_1 (by rw [hk8]; decide) (by rw [hk8]; decide) (by rw [hk8]; rfl) (by decide) ?_
    refine lv_lload_n hx hb dX2_holds_154 rfl (lv_at hl 1 rfl) ?_
    refine lv_lload_n hx hb dX2_holds_155 rfl (lv_at hl 2 rfl) ?_
    refine W.lcmp hx hb dX2_holds_156 ?_
    refine lv_if_lt (tgt := 164) hx hb dX2_holds_157 (by decide) (fun hc157 => ?_) (fun hc157 => ?_)
    · have hR := hR.trans (if_pos hc157)
      refine lv_iconst (v := 0) hx hb dX2_holds_164 (by decide) ?_
      exact W.zret (v := 0) hx hb hr rfl (fun t ht hW => jr_z hR rfl ht) jnil dX2_holds_165
    · have hR := hR.trans (if_neg hc157)
      refine lv_iconst (v := 1) hx hb dX2_holds_160 (by decide) ?_
      refine lv_goto (tgt := 165) hx hb dX2_holds_161 (by decide) ?_
      exact W.zret (v := 1) hx hb hr rfl (fun t ht hW => jr_z hR rfl ht) jnil dX2_holds_165
  have hR := hR.trans (if_neg hk8)
  refine lv_tableOut (tgt := 166) hx hb dX2_holds_1 (by have e0 := lv_neT (a := 0) hk0 (by decide); have e1 := lv_neT (a := 1) hk1 (by decide); have e2 := lv_neT (a := 2) hk2 (by decide); have e3 := lv_neT (a := 3) hk3 (by decide); have e4 := lv_neT (a := 4) hk4 (by decide); have e5 := lv_neT (a := 5) hk5 (by decide); have e6 := lv_neT (a := 6) hk6 (by decide); have e7 := lv_neT (a := 7) hk7 (by decide); have e8 := lv_neT (a := 8) hk8 (by decide); omega) (by decide) ?_
  refine lv_lload_n hx hb dX2_holds_166 rfl (lv_at hl 1 rfl) ?_
  refine lv_lload_n hx hb dX2_holds_167 rfl (lv_at hl 2 rfl) ?_
  refine jw_callI (W.runS (As := [.long a1, .long a2]) (rest := []) ⟨hx, hb, hml, hown, hts⟩ (mt_X2_order l a1 a2) (va_cwS 2 hts (lw_S q61 q62 q6 q63) rfl rfl rfl (by decide +kernel) ⟨Nat.le_of_ble_eq_true rfl, Nat.le_of_ble_eq_true rfl⟩) preEq rfl rfl hl.1 rfl (lv_room (Nat.le_of_ble_eq_true rfl)) dX2_holds_168 ⟨Nat.le_of_ble_eq_true rfl, Nat.le_of_ble_eq_true rfl⟩) ?_
  refine lv_if_lt (tgt := 178) hx hb dX2_holds_171 (by decide) (fun hc171 => ?_) (fun hc171 => ?_)
  · have hR := hR.trans (if_pos hc171)
    refine lv_iconst (v := 0) hx hb dX2_holds_178 (by decide) ?_
    exact W.zret (v := 0) hx hb hr rfl (fun t ht hW => jr_z hR rfl ht) jnil dX2_holds_179
  · have hR := hR.trans (if_neg hc171)
    refine lv_iconst (v := 1) hx hb dX2_holds_174 (by decide) ?_
    refine lv_goto (tgt := 179) hx hb dX2_holds_175 (by decide) ?_
    exact W.zret (v := 1) hx hb hr rfl (fun t ht hW => jr_z hR rfl ht) jnil dX2_holds_179
abbrev cX2_trap : ByteArray := prog_2_method_7_code
def yX2_trap : MethodName := ⟨RX2, "trap", "(IJJ)I"⟩
theorem dX2_trap_0 : decode cX2_trap 0 = .ok (.iload_n 0, 1) := by decide +kernel
theorem dX2_trap_1 : decode cX2_trap 1 = .ok (.bipush 109, 2) := by decide +kernel
theorem dX2_trap_3 : decode cX2_trap 3 = .ok (.if_icmp .lt 9, 3) := by decide +kernel
theorem dX2_trap_6 : decode cX2_trap 6 = .ok (.iload_n 0, 1) := by decide +kernel
theorem dX2_trap_7 : decode cX2_trap 7 = .ok (.bipush 112, 2) := by decide +kernel
theorem dX2_trap_9 : decode cX2_trap 9 = .ok (.if_icmp .le 16, 3) := by decide +kernel
theorem dX2_trap_12 : decode cX2_trap 12 = .ok (.iload_n 0, 1) := by decide +kernel
theorem dX2_trap_13 : decode cX2_trap 13 = .ok (.bipush 127, 2) := by decide +kernel
theorem dX2_trap_15 : decode cX2_trap 15 = .ok (.if_icmp .lt 14, 3) := by decide +kernel
theorem dX2_trap_18 : decode cX2_trap 18 = .ok (.iload_n 0, 1) := by decide +kernel
theorem dX2_trap_19 : decode cX2_trap 19 = .ok (.sipush 130, 3) := by decide +kernel
theorem dX2_trap_22 : decode cX2_trap 22 = .ok (.if_icmp .gt 7, 3) := by decide +kernel
theorem dX2_trap_25 : decode cX2_trap 25 = .ok (.iconst 1, 1) := by decide +kernel
theorem dX2_trap_26 : decode cX2_trap 26 = .ok (.goto 4, 3) := by decide +kernel
theorem dX2_trap_29 : decode cX2_trap 29 = .ok (.iconst 0, 1) := by decide +kernel
theorem dX2_trap_30 : decode cX2_trap 30 = .ok (.istore 5, 2) := by decide +kernel
theorem dX2_trap_32 : decode cX2_trap 32 = .ok (.iload 5, 2) := by decide +kernel
theorem dX2_trap_34 : decode cX2_trap 34 = .ok (.ifCond .ne 5, 3) := by decide +kernel
theorem dX2_trap_37 : decode cX2_trap 37 = .ok (.iconst 0, 1) := by decide +kernel
theorem dX2_trap_38 : decode cX2_trap 38 = .ok (.ireturn, 1) := by decide +kernel
theorem dX2_trap_39 : decode cX2_trap 39 = .ok (.lload_n 3, 1) := by decide +kernel
theorem dX2_trap_40 : decode cX2_trap 40 = .ok (.lconst 0, 1) := by decide +kernel
theorem dX2_trap_41 : decode cX2_trap 41 = .ok (.lcmp, 1) := by decide +kernel
theorem dX2_trap_42 : decode cX2_trap 42 = .ok (.ifCond .ne 5, 3) := by decide +kernel
theorem dX2_trap_45 : decode cX2_trap 45 = .ok (.iconst 3, 1) := by decide +kernel
theorem dX2_trap_46 : decode cX2_trap 46 = .ok (.ireturn, 1) := by decide +kernel
theorem dX2_trap_47 : decode cX2_trap 47 = .ok (.iload_n 0, 1) := by decide +kernel
theorem dX2_trap_48 : decode cX2_trap 48 = .ok (.bipush 109, 2) := by decide +kernel
theorem dX2_trap_50 : decode cX2_trap 50 = .ok (.if_icmp .ne 21, 3) := by decide +kernel
theorem dX2_trap_53 : decode cX2_trap 53 = .ok (.lload_n 1, 1) := by decide +kernel
theorem dX2_trap_54 : decode cX2_trap 54 = .ok (.ldc2_w 22, 3) := by decide +kernel
theorem dX2_trap_57 : decode cX2_trap 57 = .ok (.lcmp, 1) := by decide +kernel
theorem dX2_trap_58 : decode cX2_trap 58 = .ok (.ifCond .ne 13, 3) := by decide +kernel
theorem dX2_trap_61 : decode cX2_trap 61 = .ok (.lload_n 3, 1) := by decide +kernel
theorem dX2_trap_62 : decode cX2_trap 62 = .ok (.ldc2_w 24, 3) := by decide +kernel
theorem dX2_trap_65 : decode cX2_trap 65 = .ok (.lcmp, 1) := by decide +kernel
theorem dX2_trap_66 : decode cX2_trap 66 = .ok (.ifCond .ne 5, 3) := by decide +kernel
theorem dX2_trap_69 : decode cX2_trap 69 = .ok (.iconst 4, 1) := by decide +kernel
theorem dX2_trap_70 : decode cX2_trap 70 = .ok (.ireturn, 1) := by decide +kernel
theorem dX2_trap_71 : decode cX2_trap 71 = .ok (.iload_n 0, 1) := by decide +kernel
theorem dX2_trap_72 : decode cX2_trap 72 = .ok (.bipush 127, 2) := by decide +kernel
theorem dX2_trap_74 : decode cX2_trap 74 = .ok (.if_icmp .ne 23, 3) := by decide +kernel
theorem dX2_trap_77 : decode cX2_trap 77 = .ok (.lload_n 1, 1) := by decide +kernel
theorem dX2_trap_78 : decode cX2_trap 78 = .ok (.ldc2_w 11, 3) := by decide +kernel
theorem dX2_trap_81 : decode cX2_trap 81 = .ok (.lcmp, 1) := by decide +kernel
theorem dX2_trap_82 : decode cX2_trap 82 = .ok (.ifCond .ne 15, 3) := by decide +kernel
theorem dX2_trap_85 : decode cX2_trap 85 = .ok (.lload_n 3, 1) := by decide +kernel
theorem dX2_trap_86 : decode cX2_trap 86 = .ok (.ldc2_w 24, 3) := by decide +kernel
theorem dX2_trap_89 : decode cX2_trap 89 = .ok (.lcmp, 1) := by decide +kernel
theorem dX2_trap_90 : decode cX2_trap 90 = .ok (.ifCond .ne 7, 3) := by decide +kernel
theorem dX2_trap_93 : decode cX2_trap 93 = .ok (.iconst 4, 1) := by decide +kernel
theorem dX2_trap_94 : decode cX2_trap 94 = .ok (.goto 4, 3) := by decide +kernel
theorem dX2_trap_97 : decode cX2_trap 97 = .ok (.iconst 0, 1) := by decide +kernel
theorem dX2_trap_98 : decode cX2_trap 98 = .ok (.ireturn, 1) := by decide +kernel
set_option maxHeartbeats 4000000 in
set_option maxRecDepth 100000 in
theorem mt_X2_trap (l : Launch) (a0 : Int32) (a1 : Int64) (a2 : Int64) : Met l yX2_trap (ws_ yX2_trap cX2_trap 6 (some .int)) ({ frames := 0, cells := 0, slots := 0, locals := 0 } : Room) (fun v _ => v = ([.int a0, .long a1, .long a2] : List Value).toArray) (QcRead (g_X2_trap a0 a1 a2)) 0 0 (fun _ => False) := by
  refine Met.ofW (cc := cX2_trap) (maxL := 6) (ret := (some .int)) (by decide) rfl ?_
  intro p e s m args below meth c s₁ B hml hv
  obtain rfl : args = ([.int a0, .long a1, .long a2] : List Value).toArray := hv
  have hx := B.exec
  have hb := B.bytes
  have hr := B.returns
  have hts := atoms_spec (ws := (ws_ yX2_trap cX2_trap 6 (some .int))) B.pre
  have hts : ∀ w ∈ lw_all, w.before _ s = true := fun w h => hts w (List.mem_cons_of_mem _ h)
  have hown : s.vm.findClass RX2 = some m.cls := findClass_of_methodNamed B.named
  have hlocks := B.notSynchronized
  obtain ⟨R, hR⟩ : ∃ R, R = g_X2_trap a0 a1 a2 := ⟨_, rfl⟩
  rw [← hR]
  have hl := lv_entry ([.int a0, .long a1, .long a2] : List Value) (n := 6) (Nat.le_of_ble_eq_true rfl)
  rw [lg_entry_eq]
  generalize (lg_sl ([.int a0, .long a1, .long a2] : List Value) ++ List.replicate (6 - (lg_sl ([.int a0, .long a1, .long a2] : List Value)).length) Slot.unset).toArray = ls at hl ⊢
  have hl : lv_has ls 6 [(0, .int a0), (1, .long a1), (3, .long a2)] := hl
  have B71 : ∀  (ls : Array Slot), lv_has ls 6 [(0, .int a0), (1, .long a1), (3, .long a2)] → R = g_X2_trap_71 a0 a1 a2  → W p l e (headSpec (ws_ yX2_trap cX2_trap 6 (some .int)) ({ frames := 0, cells := 0, slots := 0, locals := 0 } : Room)).room s m ([.int a0, .long a1, .long a2] : List Value).toArray below meth c s.heap [] 0 0 (MQ below (QcRead R) ([.int a0, .long a1, .long a2] : List Value).toArray s 0 0 (fun _ => False)) (F0 m 71 ls []) := by
    intro  ls hl hR
    unfold g_X2_trap_71 at hR
    refine lv_iload_n hx hb dX2_trap_71 rfl (lv_at hl 0 rfl) ?_
    refine lv_bipush (v := 127) hx hb dX2_trap_72 (by decide) ?_
    refine lv_icmp_ne (tgt := 97) hx hb dX2_trap_74 (by decide) (fun hc74 => ?_) (fun hc74 => ?_)
    · have hR := hR.trans (if_neg hc74)
      refine lv_iconst (v := 0) hx hb dX2_trap_97 (by decide) ?_
      exact W.iret (v := 0) hx hb hr (fun t ht hW => jr_i hR ht) jnil dX2_trap_98
    · have hR := hR.trans (if_pos hc74)
      refine lv_lload_n hx hb dX2_trap_77 rfl (lv_at hl 1 rfl) ?_
      refine lv_ldc2 (v := (-9223372036854775808)) hx hb hown (hts _ q54) dX2_trap_78 ?_
      refine W.lcmp hx hb dX2_trap_81 ?_
      refine lv_if_ne (tgt := 97) hx hb dX2_trap_82 (by decide) (fun hc82 => ?_) (fun hc82 => ?_)
      · have hR := hR.trans (if_neg hc82)
        refine lv_iconst (v := 0) hx hb dX2_trap_97 (by decide) ?_
        exact W.iret (v := 0) hx hb hr (fun t ht hW => jr_i hR ht) jnil dX2_trap_98
      · have hR := hR.trans (if_pos hc82)
        refine lv_lload_n hx hb dX2_trap_85 rfl (lv_at hl 2 rfl) ?_
        refine lv_ldc2 (v := (-1)) hx hb hown (hts _ q53) dX2_trap_86 ?_
        refine W.lcmp hx hb dX2_trap_89 ?_
        refine lv_if_ne (tgt := 97) hx hb dX2_trap_90 (by decide) (fun hc90 => ?_) (fun hc90 => ?_)
        · have hR := hR.trans (if_neg hc90)
          refine lv_iconst (v := 0) hx hb dX2_trap_97 (by decide) ?_
          exact W.iret (v := 0) hx hb hr (fun t ht hW => jr_i hR ht) jnil dX2_trap_98
        · have hR := hR.trans (if_pos hc90)
          refine lv_iconst (v := 4) hx hb dX2_trap_93 (by decide) ?_
          refine lv_goto (tgt := 98) hx hb dX2_trap_94 (by decide) ?_
          exact W.iret (v := 4) hx hb hr (fun t ht hW => jr_i hR ht) jnil dX2_trap_98
  have B30 : ∀ (s0 : Int32) (ls : Array Slot), lv_has ls 6 [(0, .int a0), (1, .long a1), (3, .long a2)] → R = g_X2_trap_30 a0 a1 a2 s0 → W p l e (headSpec (ws_ yX2_trap cX2_trap 6 (some .int)) ({ frames := 0, cells := 0, slots := 0, locals := 0 } : Room)).room s m ([.int a0, .long a1, .long a2] : List Value).toArray below meth c s.heap [] 0 0 (MQ below (QcRead R) ([.int a0, .long a1, .long a2] : List Value).toArray s 0 0 (fun _ => False)) (F0 m 30 ls [.int s0]) := by
    intro s0 ls hl hR
    unfold g_X2_trap_30 at hR
    refine lv_istore (lv' := [(5, .int s0), (0, .int a0), (1, .long a1), (3, .long a2)]) hx hb dX2_trap_30 hl (by decide) rfl (fun ls hl => ?_)
    refine lv_iload hx hb dX2_trap_32 (lv_at hl 0 rfl) ?_
    refine lv_if_ne (tgt := 39) hx hb dX2_trap_34 (by decide) (fun hc34 => ?_) (fun hc34 => ?_)
    · have hR := hR.trans (if_neg hc34)
      refine lv_lload_n hx hb dX2_trap_39 rfl (lv_at hl 3 rfl) ?_
      refine lv_lconst (v := 0) hx hb dX2_trap_40 (by decide) ?_
      refine W.lcmp hx hb dX2_trap_41 ?_
      refine lv_if_ne (tgt := 47) hx hb dX2_trap_42 (by decide) (fun hc42 => ?_) (fun hc42 => ?_)
      · have hR := hR.trans (if_neg hc42)
        refine lv_iload_n hx hb dX2_trap_47 rfl (lv_at hl 1 rfl) ?_
        refine lv_bipush (v := 109) hx hb dX2_trap_48 (by decide) ?_
        refine lv_icmp_ne (tgt := 71) hx hb dX2_trap_50 (by decide) (fun hc50 => ?_) (fun hc50 => ?_)
        · have hR := hR.trans (if_neg hc50)
          exact B71  ls (lv_sub hl [1, 2, 3] rfl) hR
        · have hR := hR.trans (if_pos hc50)
          refine lv_lload_n hx hb dX2_trap_53 rfl (lv_at hl 2 rfl) ?_
          refine lv_ldc2 (v := (-2147483648)) hx hb hown (hts _ q52) dX2_trap_54 ?_
          refine W.lcmp hx hb dX2_trap_57 ?_
          refine lv_if_ne (tgt := 71) hx hb dX2_trap_58 (by decide) (fun hc58 => ?_) (fun hc58 => ?_)
          · have hR := hR.trans (if_neg hc58)
            exact B71  ls (lv_sub hl [1, 2, 3] rfl) hR
          · have hR := hR.trans (if_pos hc58)
            refine lv_lload_n hx hb dX2_trap_61 rfl (lv_at hl 3 rfl) ?_
            refine lv_ldc2 (v := (-1)) hx hb hown (hts _ q53) dX2_trap_62 ?_
            refine W.lcmp hx hb dX2_trap_65 ?_
            refine lv_if_ne (tgt := 71) hx hb dX2_trap_66 (by decide) (fun hc66 => ?_) (fun hc66 => ?_)
            · have hR := hR.trans (if_neg hc66)
              exact B71  ls (lv_sub hl [1, 2, 3] rfl) hR
            · have hR := hR.trans (if_pos hc66)
              refine lv_iconst (v := 4) hx hb dX2_trap_69 (by decide) ?_
              exact W.iret (v := 4) hx hb hr (fun t ht hW => jr_i hR ht) jnil dX2_trap_70
      · have hR := hR.trans (if_pos hc42)
        refine lv_iconst (v := 3) hx hb dX2_trap_45 (by decide) ?_
        exact W.iret (v := 3) hx hb hr (fun t ht hW => jr_i hR ht) jnil dX2_trap_46
    · have hR := hR.trans (if_pos hc34)
      refine lv_iconst (v := 0) hx hb dX2_trap_37 (by decide) ?_
      exact W.iret (v := 0) hx hb hr (fun t ht hW => jr_i hR ht) jnil dX2_trap_38
  have B12 : ∀  (ls : Array Slot), lv_has ls 6 [(0, .int a0), (1, .long a1), (3, .long a2)] → R = g_X2_trap_12 a0 a1 a2  → W p l e (headSpec (ws_ yX2_trap cX2_trap 6 (some .int)) ({ frames := 0, cells := 0, slots := 0, locals := 0 } : Room)).room s m ([.int a0, .long a1, .long a2] : List Value).toArray below meth c s.heap [] 0 0 (MQ below (QcRead R) ([.int a0, .long a1, .long a2] : List Value).toArray s 0 0 (fun _ => False)) (F0 m 12 ls []) := by
    intro  ls hl hR
    unfold g_X2_trap_12 at hR
    refine lv_iload_n hx hb dX2_trap_12 rfl (lv_at hl 0 rfl) ?_
    refine lv_bipush (v := 127) hx hb dX2_trap_13 (by decide) ?_
    refine lv_icmp_lt (tgt := 29) hx hb dX2_trap_15 (by decide) (fun hc15 => ?_) (fun hc15 => ?_)
    · have hR := hR.trans (if_pos hc15)
      refine lv_iconst (v := 0) hx hb dX2_trap_29 (by decide) ?_
      exact B30 0 ls (lv_sub hl [0, 1, 2] rfl) hR
    · have hR := hR.trans (if_neg hc15)
      refine lv_iload_n hx hb dX2_trap_18 rfl (lv_at hl 0 rfl) ?_
      refine lv_sipush (v := 130) hx hb dX2_trap_19 (by decide) ?_
      refine lv_icmp_gt (tgt := 29) hx hb dX2_trap_22 (by decide) (fun hc22 => ?_) (fun hc22 => ?_)
      · have hR := hR.trans (if_pos hc22)
        refine lv_iconst (v := 0) hx hb dX2_trap_29 (by decide) ?_
        exact B30 0 ls (lv_sub hl [0, 1, 2] rfl) hR
      · have hR := hR.trans (if_neg hc22)
        refine lv_iconst (v := 1) hx hb dX2_trap_25 (by decide) ?_
        refine lv_goto (tgt := 30) hx hb dX2_trap_26 (by decide) ?_
        exact B30 1 ls (lv_sub hl [0, 1, 2] rfl) hR
  unfold g_X2_trap at hR
  refine lv_iload_n hx hb dX2_trap_0 rfl (lv_at hl 0 rfl) ?_
  refine lv_bipush (v := 109) hx hb dX2_trap_1 (by decide) ?_
  refine lv_icmp_lt (tgt := 12) hx hb dX2_trap_3 (by decide) (fun hc3 => ?_) (fun hc3 => ?_)
  · have hR := hR.trans (if_pos hc3)
    exact B12  ls (lv_sub hl [0, 1, 2] rfl) hR
  · have hR := hR.trans (if_neg hc3)
    refine lv_iload_n hx hb dX2_trap_6 rfl (lv_at hl 0 rfl) ?_
    refine lv_bipush (v := 112) hx hb dX2_trap_7 (by decide) ?_
    refine lv_icmp_le (tgt := 25) hx hb dX2_trap_9 (by decide) (fun hc9 => ?_) (fun hc9 => ?_)
    · have hR := hR.trans (if_pos hc9)
      refine lv_iconst (v := 1) hx hb dX2_trap_25 (by decide) ?_
      refine lv_goto (tgt := 30) hx hb dX2_trap_26 (by decide) ?_
      exact B30 1 ls (lv_sub hl [0, 1, 2] rfl) hR
    · have hR := hR.trans (if_neg hc9)
      exact B12  ls (lv_sub hl [0, 1, 2] rfl) hR
end
section
set_option maxRecDepth 100000
abbrev cX2_ints : ByteArray := prog_2_method_9_code
def yX2_ints : MethodName := ⟨RX2, "ints", "(III)I"⟩
theorem dX2_ints_0 : decode cX2_ints 0 = .ok (.iload_n 1, 1) := by decide +kernel
theorem dX2_ints_1 : decode cX2_ints 1 = .ok (.i2l, 1) := by decide +kernel
theorem dX2_ints_2 : decode cX2_ints 2 = .ok (.ldc2_w 38, 3) := by decide +kernel
theorem dX2_ints_5 : decode cX2_ints 5 = .ok (.land, 1) := by decide +kernel
theorem dX2_ints_6 : decode cX2_ints 6 = .ok (.lstore_n 3, 1) := by decide +kernel
theorem dX2_ints_7 : decode cX2_ints 7 = .ok (.iload_n 2, 1) := by decide +kernel
theorem dX2_ints_8 : decode cX2_ints 8 = .ok (.i2l, 1) := by decide +kernel
theorem dX2_ints_9 : decode cX2_ints 9 = .ok (.ldc2_w 38, 3) := by decide +kernel
theorem dX2_ints_12 : decode cX2_ints 12 = .ok (.land, 1) := by decide +kernel
theorem dX2_ints_13 : decode cX2_ints 13 = .ok (.lstore 5, 2) := by decide +kernel
theorem dX2_ints_15 : decode cX2_ints 15 = .ok (.iload_n 0, 1) := by decide +kernel
theorem dX2_ints_16 : decode cX2_ints 16 = .ok (.tableswitch 166 0 13 #[72, 76, 80, 84, 88, 94, 107, 113, 117, 121, 125, 132, 139, 146], 72) := by decide +kernel
theorem dX2_ints_88 : decode cX2_ints 88 = .ok (.iload_n 1, 1) := by decide +kernel
theorem dX2_ints_89 : decode cX2_ints 89 = .ok (.iload_n 2, 1) := by decide +kernel
theorem dX2_ints_90 : decode cX2_ints 90 = .ok (.iadd, 1) := by decide +kernel
theorem dX2_ints_91 : decode cX2_ints 91 = .ok (.ireturn, 1) := by decide +kernel
theorem dX2_ints_92 : decode cX2_ints 92 = .ok (.iload_n 1, 1) := by decide +kernel
theorem dX2_ints_93 : decode cX2_ints 93 = .ok (.iload_n 2, 1) := by decide +kernel
theorem dX2_ints_94 : decode cX2_ints 94 = .ok (.isub, 1) := by decide +kernel
theorem dX2_ints_95 : decode cX2_ints 95 = .ok (.ireturn, 1) := by decide +kernel
theorem dX2_ints_96 : decode cX2_ints 96 = .ok (.iload_n 1, 1) := by decide +kernel
theorem dX2_ints_97 : decode cX2_ints 97 = .ok (.iload_n 2, 1) := by decide +kernel
theorem dX2_ints_98 : decode cX2_ints 98 = .ok (.imul, 1) := by decide +kernel
theorem dX2_ints_99 : decode cX2_ints 99 = .ok (.ireturn, 1) := by decide +kernel
theorem dX2_ints_100 : decode cX2_ints 100 = .ok (.iload_n 1, 1) := by decide +kernel
theorem dX2_ints_101 : decode cX2_ints 101 = .ok (.iload_n 2, 1) := by decide +kernel
theorem dX2_ints_102 : decode cX2_ints 102 = .ok (.idiv, 1) := by decide +kernel
theorem dX2_ints_103 : decode cX2_ints 103 = .ok (.ireturn, 1) := by decide +kernel
theorem dX2_ints_104 : decode cX2_ints 104 = .ok (.lload_n 3, 1) := by decide +kernel
theorem dX2_ints_105 : decode cX2_ints 105 = .ok (.lload 5, 2) := by decide +kernel
theorem dX2_ints_107 : decode cX2_ints 107 = .ok (.ldiv, 1) := by decide +kernel
theorem dX2_ints_108 : decode cX2_ints 108 = .ok (.l2i, 1) := by decide +kernel
theorem dX2_ints_109 : decode cX2_ints 109 = .ok (.ireturn, 1) := by decide +kernel
theorem dX2_ints_110 : decode cX2_ints 110 = .ok (.iload_n 2, 1) := by decide +kernel
theorem dX2_ints_111 : decode cX2_ints 111 = .ok (.iconst (-1), 1) := by decide +kernel
theorem dX2_ints_112 : decode cX2_ints 112 = .ok (.if_icmp .ne 7, 3) := by decide +kernel
theorem dX2_ints_115 : decode cX2_ints 115 = .ok (.iconst 0, 1) := by decide +kernel
theorem dX2_ints_116 : decode cX2_ints 116 = .ok (.goto 6, 3) := by decide +kernel
theorem dX2_ints_119 : decode cX2_ints 119 = .ok (.iload_n 1, 1) := by decide +kernel
theorem dX2_ints_120 : decode cX2_ints 120 = .ok (.iload_n 2, 1) := by decide +kernel
theorem dX2_ints_121 : decode cX2_ints 121 = .ok (.irem, 1) := by decide +kernel
theorem dX2_ints_122 : decode cX2_ints 122 = .ok (.ireturn, 1) := by decide +kernel
theorem dX2_ints_123 : decode cX2_ints 123 = .ok (.lload_n 3, 1) := by decide +kernel
theorem dX2_ints_124 : decode cX2_ints 124 = .ok (.lload 5, 2) := by decide +kernel
theorem dX2_ints_126 : decode cX2_ints 126 = .ok (.lrem, 1) := by decide +kernel
theorem dX2_ints_127 : decode cX2_ints 127 = .ok (.l2i, 1) := by decide +kernel
theorem dX2_ints_128 : decode cX2_ints 128 = .ok (.ireturn, 1) := by decide +kernel
theorem dX2_ints_129 : decode cX2_ints 129 = .ok (.iload_n 1, 1) := by decide +kernel
theorem dX2_ints_130 : decode cX2_ints 130 = .ok (.iload_n 2, 1) := by decide +kernel
theorem dX2_ints_131 : decode cX2_ints 131 = .ok (.iand, 1) := by decide +kernel
theorem dX2_ints_132 : decode cX2_ints 132 = .ok (.ireturn, 1) := by decide +kernel
theorem dX2_ints_133 : decode cX2_ints 133 = .ok (.iload_n 1, 1) := by decide +kernel
theorem dX2_ints_134 : decode cX2_ints 134 = .ok (.iload_n 2, 1) := by decide +kernel
theorem dX2_ints_135 : decode cX2_ints 135 = .ok (.ior, 1) := by decide +kernel
theorem dX2_ints_136 : decode cX2_ints 136 = .ok (.ireturn, 1) := by decide +kernel
theorem dX2_ints_137 : decode cX2_ints 137 = .ok (.iload_n 1, 1) := by decide +kernel
theorem dX2_ints_138 : decode cX2_ints 138 = .ok (.iload_n 2, 1) := by decide +kernel
theorem dX2_ints_139 : decode cX2_ints 139 = .ok (.ixor, 1) := by decide +kernel
theorem dX2_ints_140 : decode cX2_ints 140 = .ok (.ireturn, 1) := by decide +kernel
theorem dX2_ints_141 : decode cX2_ints 141 = .ok (.iload_n 1, 1) := by decide +kernel
theorem dX2_ints_142 : decode cX2_ints 142 = .ok (.iload_n 2, 1) := by decide +kernel
theorem dX2_ints_143 : decode cX2_ints 143 = .ok (.bipush 31, 2) := by decide +kernel
theorem dX2_ints_145 : decode cX2_ints 145 = .ok (.iand, 1) := by decide +kernel
theorem dX2_ints_146 : decode cX2_ints 146 = .ok (.ishl, 1) := by decide +kernel
theorem dX2_ints_147 : decode cX2_ints 147 = .ok (.ireturn, 1) := by decide +kernel
theorem dX2_ints_148 : decode cX2_ints 148 = .ok (.iload_n 1, 1) := by decide +kernel
theorem dX2_ints_149 : decode cX2_ints 149 = .ok (.iload_n 2, 1) := by decide +kernel
theorem dX2_ints_150 : decode cX2_ints 150 = .ok (.bipush 31, 2) := by decide +kernel
theorem dX2_ints_152 : decode cX2_ints 152 = .ok (.iand, 1) := by decide +kernel
theorem dX2_ints_153 : decode cX2_ints 153 = .ok (.ishr, 1) := by decide +kernel
theorem dX2_ints_154 : decode cX2_ints 154 = .ok (.ireturn, 1) := by decide +kernel
theorem dX2_ints_155 : decode cX2_ints 155 = .ok (.iload_n 1, 1) := by decide +kernel
theorem dX2_ints_156 : decode cX2_ints 156 = .ok (.iload_n 2, 1) := by decide +kernel
theorem dX2_ints_157 : decode cX2_ints 157 = .ok (.bipush 31, 2) := by decide +kernel
theorem dX2_ints_159 : decode cX2_ints 159 = .ok (.iand, 1) := by decide +kernel
theorem dX2_ints_160 : decode cX2_ints 160 = .ok (.iushr, 1) := by decide +kernel
theorem dX2_ints_161 : decode cX2_ints 161 = .ok (.ireturn, 1) := by decide +kernel
theorem dX2_ints_162 : decode cX2_ints 162 = .ok (.iload_n 1, 1) := by decide +kernel
theorem dX2_ints_163 : decode cX2_ints 163 = .ok (.iload_n 2, 1) := by decide +kernel
theorem dX2_ints_164 : decode cX2_ints 164 = .ok (.bipush 31, 2) := by decide +kernel
theorem dX2_ints_166 : decode cX2_ints 166 = .ok (.iand, 1) := by decide +kernel
theorem dX2_ints_167 : decode cX2_ints 167 = .ok (.ishl, 1) := by decide +kernel
theorem dX2_ints_168 : decode cX2_ints 168 = .ok (.iload_n 1, 1) := by decide +kernel
theorem dX2_ints_169 : decode cX2_ints 169 = .ok (.bipush 32, 2) := by decide +kernel
theorem dX2_ints_171 : decode cX2_ints 171 = .ok (.iload_n 2, 1) := by decide +kernel
theorem dX2_ints_172 : decode cX2_ints 172 = .ok (.bipush 31, 2) := by decide +kernel
theorem dX2_ints_174 : decode cX2_ints 174 = .ok (.iand, 1) := by decide +kernel
theorem dX2_ints_175 : decode cX2_ints 175 = .ok (.isub, 1) := by decide +kernel
theorem dX2_ints_176 : decode cX2_ints 176 = .ok (.bipush 31, 2) := by decide +kernel
theorem dX2_ints_178 : decode cX2_ints 178 = .ok (.iand, 1) := by decide +kernel
theorem dX2_ints_179 : decode cX2_ints 179 = .ok (.iushr, 1) := by decide +kernel
theorem dX2_ints_180 : decode cX2_ints 180 = .ok (.ior, 1) := by decide +kernel
theorem dX2_ints_181 : decode cX2_ints 181 = .ok (.ireturn, 1) := by decide +kernel
theorem dX2_ints_182 : decode cX2_ints 182 = .ok (.iload_n 1, 1) := by decide +kernel
theorem dX2_ints_183 : decode cX2_ints 183 = .ok (.iload_n 2, 1) := by decide +kernel
theorem dX2_ints_184 : decode cX2_ints 184 = .ok (.bipush 31, 2) := by decide +kernel
theorem dX2_ints_186 : decode cX2_ints 186 = .ok (.iand, 1) := by decide +kernel
theorem dX2_ints_187 : decode cX2_ints 187 = .ok (.iushr, 1) := by decide +kernel
theorem dX2_ints_188 : decode cX2_ints 188 = .ok (.iload_n 1, 1) := by decide +kernel
theorem dX2_ints_189 : decode cX2_ints 189 = .ok (.bipush 32, 2) := by decide +kernel
theorem dX2_ints_191 : decode cX2_ints 191 = .ok (.iload_n 2, 1) := by decide +kernel
theorem dX2_ints_192 : decode cX2_ints 192 = .ok (.bipush 31, 2) := by decide +kernel
theorem dX2_ints_194 : decode cX2_ints 194 = .ok (.iand, 1) := by decide +kernel
theorem dX2_ints_195 : decode cX2_ints 195 = .ok (.isub, 1) := by decide +kernel
theorem dX2_ints_196 : decode cX2_ints 196 = .ok (.bipush 31, 2) := by decide +kernel
theorem dX2_ints_198 : decode cX2_ints 198 = .ok (.iand, 1) := by decide +kernel
theorem dX2_ints_199 : decode cX2_ints 199 = .ok (.ishl, 1) := by decide +kernel
theorem dX2_ints_200 : decode cX2_ints 200 = .ok (.ior, 1) := by decide +kernel
theorem dX2_ints_201 : decode cX2_ints 201 = .ok (.ireturn, 1) := by decide +kernel
set_option maxHeartbeats 4000000 in
set_option maxRecDepth 100000 in
theorem mt_X2_ints (l : Launch) (a0 : Int32) (a1 : Int32) (a2 : Int32) (hz : 3 ≤ a0.toInt → a0.toInt ≤ 6 → ¬ a2 = 0) : Met l yX2_ints (ws_ yX2_ints cX2_ints 7 (some .int)) ({ frames := 0, cells := 0, slots := 0, locals := 0 } : Room) (fun v _ => v = ([.int a0, .int a1, .int a2] : List Value).toArray) (QcRead (g_X2_ints a0 a1 a2)) 0 0 (fun _ => False) := by
  refine Met.ofW (cc := cX2_ints) (maxL := 7) (ret := (some .int)) (by decide) rfl ?_
  intro p e s m args below meth c s₁ B hml hv
  obtain rfl : args = ([.int a0, .int a1, .int a2] : List Value).toArray := hv
  have hx := B.exec
  have hb := B.bytes
  have hr := B.returns
  have hts := atoms_spec (ws := (ws_ yX2_ints cX2_ints 7 (some .int))) B.pre
  have hts : ∀ w ∈ lw_all, w.before _ s = true := fun w h => hts w (List.mem_cons_of_mem _ h)
  have hown : s.vm.findClass RX2 = some m.cls := findClass_of_methodNamed B.named
  have hlocks := B.notSynchronized
  obtain ⟨R, hR⟩ : ∃ R, R = g_X2_ints a0 a1 a2 := ⟨_, rfl⟩
  rw [← hR]
  have hl := lv_entry ([.int a0, .int a1, .int a2] : List Value) (n := 7) (Nat.le_of_ble_eq_true rfl)
  rw [lg_entry_eq]
  generalize (lg_sl ([.int a0, .int a1, .int a2] : List Value) ++ List.replicate (7 - (lg_sl ([.int a0, .int a1, .int a2] : List Value)).length) Slot.unset).toArray = ls at hl ⊢
  have hl : lv_has ls 7 [(0, .int a0), (1, .int a1), (2, .int a2)] := hl
  unfold g_X2_ints at hR
  refine lv_iload_n hx hb dX2_ints_0 rfl (lv_at hl 1 rfl) ?_
  refine lv_i2l (v := a1.toInt64) hx hb dX2_ints_1 rfl ?_
  refine lv_ldc2 (v := 4294967295) hx hb hown (hts _ q70) dX2_ints_2 ?_
  refine lv_land hx hb dX2_ints_5 ?_
  refine lv_lstore_n (lv' := [(3, .long ((a1.toInt64) &&& 4294967295)), (0, .int a0), (1, .int a1), (2, .int a2)]) hx hb dX2_ints_6 rfl hl (by decide) rfl (fun ls hl => ?_)
  refine lv_iload_n hx hb dX2_ints_7 rfl (lv_at hl 3 rfl) ?_
  refine lv_i2l (v := a2.toInt64) hx hb dX2_ints_8 rfl ?_
  refine lv_ldc2 (v := 4294967295) hx hb hown (hts _ q70) dX2_ints_9 ?_
  refine lv_land hx hb dX2_ints_12 ?_
  refine lv_lstore (lv' := [(5, .long ((a2.toInt64) &&& 4294967295)), (3, .long ((a1.toInt64) &&& 4294967295)), (0, .int a0), (1, .int a1), (2, .int a2)]) hx hb dX2_ints_13 hl (by decide) rfl (fun ls hl => ?_)
  refine lv_iload_n hx hb dX2_ints_15 rfl (lv_at hl 2 rfl) ?_
  by_cases hk0 : a0 = 0
  · have hR := hR.trans (if_pos hk0)
    refine lv_tableIn (off := 72) (tgt := 88) hx hb dX2_ints_16 (by rw [hk0]; decide) (by rw [hk0]; decide) (by rw [hk0]; rfl) (by decide) ?_
    refine lv_iload_n hx hb dX2_ints_88 rfl (lv_at hl 3 rfl) ?_
    refine lv_iload_n hx hb dX2_ints_89 rfl (lv_at hl 4 rfl) ?_
    refine lv_iadd hx hb dX2_ints_90 ?_
    exact W.iret (v := (a1 + a2)) hx hb hr (fun t ht hW => jr_i hR ht) jnil dX2_ints_91
  have hR := hR.trans (if_neg hk0)
  by_cases hk1 : a0 = 1
  · have hR := hR.trans (if_pos hk1)
    refine lv_tableIn (off := 76) (tgt := 92) hx hb dX2_ints_16 (by rw [hk1]; decide) (by rw [hk1]; decide) (by rw [hk1]; rfl) (by decide) ?_
    refine lv_iload_n hx hb dX2_ints_92 rfl (lv_at hl 3 rfl) ?_
    refine lv_iload_n hx hb dX2_ints_93 rfl (lv_at hl 4 rfl) ?_
    refine lv_isub hx hb dX2_ints_94 ?_
    exact W.iret (v := (a1 - a2)) hx hb hr (fun t ht hW => jr_i hR ht) jnil dX2_ints_95
  have hR := hR.trans (if_neg hk1)
  by_cases hk2 : a0 = 2
  · have hR := hR.trans (if_pos hk2)
    refine lv_tableIn (off := 80) (tgt := 96) hx hb dX2_ints_16 (by rw [hk2]; decide) (by rw [hk2]; decide) (by rw [hk2]; rfl) (by decide) ?_
    refine lv_iload_n hx hb dX2_ints_96 rfl (lv_at hl 3 rfl) ?_
    refine lv_iload_n hx hb dX2_ints_97 rfl (lv_at hl 4 rfl) ?_
    refine lv_imul hx hb dX2_ints_98 ?_
    exact W.iret (v := (a1 * a2)) hx hb hr (fun t ht hW => jr_i hR ht) jnil dX2_ints_99
  have hR := hR.trans (if_neg hk2)
  by_cases hk3 : a0 = 3
  · have hR := hR.trans (if_pos hk3)
    refine lv_tableIn (off := 84) (tgt := 100) hx hb dX2_ints_16 (by rw [hk3]; decide) (by rw [hk3]; decide) (by rw [hk3]; rfl) (by decide) ?_
    refine lv_iload_n hx hb dX2_ints_100 rfl (lv_at hl 3 rfl) ?_
    refine lv_iload_n hx hb dX2_ints_101 rfl (lv_at hl 4 rfl) ?_
    refine lv_idiv hx hb dX2_ints_102 (hz (by rw [hk3]; decide) (by rw [hk3]; decide)) ?_
    exact W.iret (v := (a1 / a2)) hx hb hr (fun t ht hW => jr_i hR ht) jnil dX2_ints_103
  have hR := hR.trans (if_neg hk3)
  by_cases hk4 : a0 = 4
  · have hR := hR.trans (if_pos hk4)
    refine lv_tableIn (off := 88) (tgt := 104) hx hb dX2_ints_16 (by rw [hk4]; decide) (by rw [hk4]; decide) (by rw [hk4]; rfl) (by decide) ?_
    refine lv_lload_n hx hb dX2_ints_104 rfl (lv_at hl 1 rfl) ?_
    refine lv_lload hx hb dX2_ints_105 (lv_at hl 0 rfl) ?_
    refine lv_ldiv hx hb dX2_ints_107 (jz_and (hz (by rw [hk4]; decide) (by rw [hk4]; decide))) ?_
    refine lv_l2i (v := (((a1.toInt64) &&& 4294967295) / ((a2.toInt64) &&& 4294967295)).toInt32) hx hb dX2_ints_108 rfl ?_
    exact W.iret (v := ((((a1.toInt64) &&& 4294967295) / ((a2.toInt64) &&& 4294967295)).toInt32)) hx hb hr (fun t ht hW => jr_i hR ht) jnil dX2_ints_109
  have hR := hR.trans (if_neg hk4)
  by_cases hk5 : a0 = 5
  · have hR := hR.trans (if_pos hk5)
    refine lv_tableIn (off := 94) (tgt := 110) hx hb dX2_ints_16 (by rw [hk5]; decide) (by rw [hk5]; decide) (by rw [hk5]; rfl) (by decide) ?_
    refine lv_iload_n hx hb dX2_ints_110 rfl (lv_at hl 4 rfl) ?_
    refine lv_iconst (v := (-1)) hx hb dX2_ints_111 (by decide) ?_
    refine lv_icmp_ne (tgt := 119) hx hb dX2_ints_112 (by decide) (fun hc112 => ?_) (fun hc112 => ?_)
    · have hR := hR.trans (if_neg hc112)
      refine lv_iload_n hx hb dX2_ints_119 rfl (lv_at hl 3 rfl) ?_
      refine lv_iload_n hx hb dX2_ints_120 rfl (lv_at hl 4 rfl) ?_
      refine lv_irem hx hb dX2_ints_121 (hz (by rw [hk5]; decide) (by rw [hk5]; decide)) ?_
      exact W.iret (v := (a1 - a1 / a2 * a2)) hx hb hr (fun t ht hW => jr_i hR ht) jnil dX2_ints_122
    · have hR := hR.trans (if_pos hc112)
      refine lv_iconst (v := 0) hx hb dX2_ints_115 (by decide) ?_
      refine lv_goto (tgt := 122) hx hb dX2_ints_116 (by decide) ?_
      exact W.iret (v := 0) hx hb hr (fun t ht hW => jr_i hR ht) jnil dX2_ints_122
  have hR := hR.trans (if_neg hk5)
  by_cases hk6 : a0 = 6
  · have hR := hR.trans (if_pos hk6)
    refine lv_tableIn (off := 107) (tgt := 123) hx hb dX2_ints_16 (by rw [hk6]; decide) (by rw [hk6]; decide) (by rw [hk6]; rfl) (by decide) ?_
    refine lv_lload_n hx hb dX2_ints_123 rfl (lv_at hl 1 rfl) ?_
    refine lv_lload hx hb dX2_ints_124 (lv_at hl 0 rfl) ?_
    refine lv_lrem hx hb dX2_ints_126 (jz_and (hz (by rw [hk6]; decide) (by rw [hk6]; decide))) ?_
    refine lv_l2i (v := (((a1.toInt64) &&& 4294967295) - ((a1.toInt64) &&& 4294967295) / ((a2.toInt64) &&& 4294967295) * ((a2.toInt64) &&& 4294967295)).toInt32) hx hb dX2_ints_127 rfl ?_
    exact W.iret (v := ((((a1.toInt64) &&& 4294967295) - ((a1.toInt64) &&& 4294967295) / ((a2.toInt64) &&& 4294967295) * ((a2.toInt64) &&& 4294967295)).toInt32)) hx hb hr (fun t ht hW => jr_i hR ht) jnil dX2_ints_128
  have hR := hR.trans (if_neg hk6)
  by_cases hk7 : a0 = 7
  · have hR := hR.trans (if_pos hk7)
    refine lv_tableIn (off := 113) (tgt := 129) hx hb dX2_ints_16 (by rw [hk7]; decide) (by rw [hk7]; decide) (by rw [hk7]; rfl) (by decide) ?_
    refine lv_iload_n hx hb dX2_ints_129 rfl (lv_at hl 3 rfl) ?_
    refine lv_iload_n hx hb dX2_ints_130 rfl (lv_at hl 4 rfl) ?_
    refine lv_iand hx hb dX2_ints_131 ?_
    exact W.iret (v := (a1 &&& a2)) hx hb hr (fun t ht hW => jr_i hR ht) jnil dX2_ints_132
  have hR := hR.trans (if_neg hk7)
  by_cases hk8 : a0 = 8
  · have hR := hR.trans (if_pos hk8)
    refine lv_tableIn (off := 117) (tgt := 133) hx hb dX2_ints_16 (by rw [hk8]; decide) (by rw [hk8]; decide) (by rw [hk8]; rfl) (by decide) ?_
    refine lv_iload_n hx hb dX2_ints_133 rfl (lv_at hl 3 rfl) ?_
    refine lv_iload_n hx hb dX2_ints_134 rfl (lv_at hl 4 rfl) ?_
    refine lv_ior hx hb dX2_ints_135 ?_
    exact W.iret (v := (a1 ||| a2)) hx hb hr (fun t ht hW => jr_i hR ht) jnil dX2_ints_136
  have hR := hR.trans (if_neg hk8)
  by_cases hk9 : a0 = 9
  · have hR := hR.trans (if_pos hk9)
    refine lv_tableIn (off := 121) (tgt := 137) hx hb dX2_ints_16 (by rw [hk9]; decide) (by rw [hk9]; decide) (by rw [hk9]; rfl) (by decide) ?_
    refine lv_iload_n hx hb dX2_ints_137 rfl (lv_at hl 3 rfl) ?_
    refine lv_iload_n hx hb dX2_ints_138 rfl (lv_at hl 4 rfl) ?_
    refine lv_ixor hx hb dX2_ints_139 ?_
    exact W.iret (v := (a1 ^^^ a2)) hx hb hr (fun t ht hW => jr_i hR ht) jnil dX2_ints_140
  have hR := hR.trans (if_neg hk9)
  by_cases hk10 : a0 = 10
  · have hR := hR.trans (if_pos hk10)
    refine lv_tableIn (off := 125) (tgt := 141) hx hb dX2_ints_16 (by rw [hk10]; decide) (by rw [hk10]; decide) (by rw [hk10]; rfl) (by decide) ?_
    refine lv_iload_n hx hb dX2_ints_141 rfl (lv_at hl 3 rfl) ?_
    refine lv_iload_n hx hb dX2_ints_142 rfl (lv_at hl 4 rfl) ?_
    refine lv_bipush (v := 31) hx hb dX2_ints_143 (by decide) ?_
    refine lv_iand hx hb dX2_ints_145 ?_
    refine lv_ishl hx hb dX2_ints_146 ?_
    exact W.iret (v := (a1 <<< ((a2 &&& 31) &&& 31))) hx hb hr (fun t ht hW => jr_i hR ht) jnil dX2_ints_147
  have hR := hR.trans (if_neg hk10)
  by_cases hk11 : a0 = 11
  · have hR := hR.trans (if_pos hk11)
    refine lv_tableIn (off := 132) (tgt := 148) hx hb dX2_ints_16 (by rw [hk11]; decide) (by rw [hk11]; decide) (by rw [hk11]; rfl) (by decide) ?_
    refine lv_iload_n hx hb dX2_ints_148 rfl (lv_at hl 3 rfl) ?_
    refine lv_iload_n hx hb dX2_ints_149 rfl (lv_at hl 4 rfl) ?_
    refine lv_bipush (v := 31) hx hb dX2_ints_150 (by decide) ?_
    refine lv_iand hx hb dX2_ints_152 ?_
    refine lv_ishr hx hb dX2_ints_153 ?_
    exact W.iret (v := (a1 >>> ((a2 &&& 31) &&& 31))) hx hb hr (fun t ht hW => jr_i hR ht) jnil dX2_ints_154
  have hR := hR.trans (if_neg hk11)
  by_cases hk12 : a0 = 12
  · have hR := hR.trans (if_pos hk12)
    refine lv_tableIn (off := 139) (tgt := 155) hx hb dX2_ints_16 (by rw [hk12]; decide) (by rw [hk12]; decide) (by rw [hk12]; rfl) (by decide) ?_
    refine lv_iload_n hx hb dX2_ints_155 rfl (lv_at hl 3 rfl) ?_
    refine lv_iload_n hx hb dX2_ints_156 rfl (lv_at hl 4 rfl) ?_
    refine lv_bipush (v := 31) hx hb dX2_ints_157 (by decide) ?_
    refine lv_iand hx hb dX2_ints_159 ?_
    refine lv_iushr (v := (j_iushr a1 (a2 &&& 31))) hx hb dX2_ints_160 rfl ?_
    exact W.iret (v := (j_iushr a1 (a2 &&& 31))) hx hb hr (fun t ht hW => jr_i hR ht) jnil dX2_ints_161
  have hR := hR.trans (if_neg hk12)
  by_cases hk13 : a0 = 13
  · have hR := hR.trans (if_pos hk13)
    refine lv_tableIn (off := 146) (tgt := 162) hx hb dX2_ints_16 (by rw [hk13]; decide) (by rw [hk13]; decide) (by rw [hk13]; rfl) (by decide) ?_
    refine lv_iload_n hx hb dX2_ints_162 rfl (lv_at hl 3 rfl) ?_
    refine lv_iload_n hx hb dX2_ints_163 rfl (lv_at hl 4 rfl) ?_
    refine lv_bipush (v := 31) hx hb dX2_ints_164 (by decide) ?_
    refine lv_iand hx hb dX2_ints_166 ?_
    refine lv_ishl hx hb dX2_ints_167 ?_
    refine lv_iload_n hx hb dX2_ints_168 rfl (lv_at hl 3 rfl) ?_
    refine lv_bipush (v := 32) hx hb dX2_ints_169 (by decide) ?_
    refine lv_iload_n hx hb dX2_ints_171 rfl (lv_at hl 4 rfl) ?_
    refine lv_bipush (v := 31) hx hb dX2_ints_172 (by decide) ?_
    refine lv_iand hx hb dX2_ints_174 ?_
    refine lv_isub hx hb dX2_ints_175 ?_
    refine lv_bipush (v := 31) hx hb dX2_ints_176 (by decide) ?_
    refine lv_iand hx hb dX2_ints_178 ?_
    refine lv_iushr (v := (j_iushr a1 ((32 - (a2 &&& 31)) &&& 31))) hx hb dX2_ints_179 rfl ?_
    refine lv_ior hx hb dX2_ints_180 ?_
    exact W.iret (v := ((a1 <<< ((a2 &&& 31) &&& 31)) ||| (j_iushr a1 ((32 - (a2 &&& 31)) &&& 31)))) hx hb hr (fun t ht hW => jr_i hR ht) jnil dX2_ints_181
  have hR := hR.trans (if_neg hk13)
  refine lv_tableOut (tgt := 182) hx hb dX2_ints_16 (by have e0 := lv_neT (a := 0) hk0 (by decide); have e1 := lv_neT (a := 1) hk1 (by decide); have e2 := lv_neT (a := 2) hk2 (by decide); have e3 := lv_neT (a := 3) hk3 (by decide); have e4 := lv_neT (a := 4) hk4 (by decide); have e5 := lv_neT (a := 5) hk5 (by decide); have e6 := lv_neT (a := 6) hk6 (by decide); have e7 := lv_neT (a := 7) hk7 (by decide); have e8 := lv_neT (a := 8) hk8 (by decide); have e9 := lv_neT (a := 9) hk9 (by decide); have e10 := lv_neT (a := 10) hk10 (by decide); have e11 := lv_neT (a := 11) hk11 (by decide); have e12 := lv_neT (a := 12) hk12 (by decide); have e13 := lv_neT (a := 13) hk13 (by decide); omega) (by decide) ?_
  refine lv_iload_n hx hb dX2_ints_182 rfl (lv_at hl 3 rfl) ?_
  refine lv_iload_n hx hb dX2_ints_183 rfl (lv_at hl 4 rfl) ?_
  refine lv_bipush (v := 31) hx hb dX2_ints_184 (by decide) ?_
  refine lv_iand hx hb dX2_ints_186 ?_
  refine lv_iushr (v := (j_iushr a1 (a2 &&& 31))) hx hb dX2_ints_187 rfl ?_
  refine lv_iload_n hx hb dX2_ints_188 rfl (lv_at hl 3 rfl) ?_
  refine lv_bipush (v := 32) hx hb dX2_ints_189 (by decide) ?_
  refine lv_iload_n hx hb dX2_ints_191 rfl (lv_at hl 4 rfl) ?_
  refine lv_bipush (v := 31) hx hb dX2_ints_192 (by decide) ?_
  refine lv_iand hx hb dX2_ints_194 ?_
  refine lv_isub hx hb dX2_ints_195 ?_
  refine lv_bipush (v := 31) hx hb dX2_ints_196 (by decide) ?_
  refine lv_iand hx hb dX2_ints_198 ?_
  refine lv_ishl hx hb dX2_ints_199 ?_
  refine lv_ior hx hb dX2_ints_200 ?_
  exact W.iret (v := ((j_iushr a1 (a2 &&& 31)) ||| (a1 <<< (((32 - (a2 &&& 31)) &&& 31) &&& 31)))) hx hb hr (fun t ht hW => jr_i hR ht) jnil dX2_ints_201
abbrev cX2_quotient : ByteArray := prog_2_method_10_code
def yX2_quotient : MethodName := ⟨RX2, "quotient", "(JJ)J"⟩
theorem dX2_quotient_0 : decode cX2_quotient 0 = .ok (.lload_n 2, 1) := by decide +kernel
theorem dX2_quotient_1 : decode cX2_quotient 1 = .ok (.lconst 0, 1) := by decide +kernel
theorem dX2_quotient_2 : decode cX2_quotient 2 = .ok (.lcmp, 1) := by decide +kernel
theorem dX2_quotient_3 : decode cX2_quotient 3 = .ok (.ifCond .ge 17, 3) := by decide +kernel
theorem dX2_quotient_6 : decode cX2_quotient 6 = .ok (.lload_n 0, 1) := by decide +kernel
theorem dX2_quotient_7 : decode cX2_quotient 7 = .ok (.lload_n 2, 1) := by decide +kernel
theorem dX2_quotient_8 : decode cX2_quotient 8 = .ok (.invokestatic 17, 3) := by decide +kernel
theorem dX2_quotient_11 : decode cX2_quotient 11 = .ok (.ifCond .lt 7, 3) := by decide +kernel
theorem dX2_quotient_14 : decode cX2_quotient 14 = .ok (.lconst 1, 1) := by decide +kernel
theorem dX2_quotient_15 : decode cX2_quotient 15 = .ok (.goto 4, 3) := by decide +kernel
theorem dX2_quotient_18 : decode cX2_quotient 18 = .ok (.lconst 0, 1) := by decide +kernel
theorem dX2_quotient_19 : decode cX2_quotient 19 = .ok (.lreturn, 1) := by decide +kernel
theorem dX2_quotient_20 : decode cX2_quotient 20 = .ok (.lload_n 0, 1) := by decide +kernel
theorem dX2_quotient_21 : decode cX2_quotient 21 = .ok (.lconst 0, 1) := by decide +kernel
theorem dX2_quotient_22 : decode cX2_quotient 22 = .ok (.lcmp, 1) := by decide +kernel
theorem dX2_quotient_23 : decode cX2_quotient 23 = .ok (.ifCond .lt 7, 3) := by decide +kernel
theorem dX2_quotient_26 : decode cX2_quotient 26 = .ok (.lload_n 0, 1) := by decide +kernel
theorem dX2_quotient_27 : decode cX2_quotient 27 = .ok (.lload_n 2, 1) := by decide +kernel
theorem dX2_quotient_28 : decode cX2_quotient 28 = .ok (.ldiv, 1) := by decide +kernel
theorem dX2_quotient_29 : decode cX2_quotient 29 = .ok (.lreturn, 1) := by decide +kernel
theorem dX2_quotient_30 : decode cX2_quotient 30 = .ok (.lload_n 0, 1) := by decide +kernel
theorem dX2_quotient_31 : decode cX2_quotient 31 = .ok (.iconst 1, 1) := by decide +kernel
theorem dX2_quotient_32 : decode cX2_quotient 32 = .ok (.lushr, 1) := by decide +kernel
theorem dX2_quotient_33 : decode cX2_quotient 33 = .ok (.lload_n 2, 1) := by decide +kernel
theorem dX2_quotient_34 : decode cX2_quotient 34 = .ok (.ldiv, 1) := by decide +kernel
theorem dX2_quotient_35 : decode cX2_quotient 35 = .ok (.iconst 1, 1) := by decide +kernel
theorem dX2_quotient_36 : decode cX2_quotient 36 = .ok (.lshl, 1) := by decide +kernel
theorem dX2_quotient_37 : decode cX2_quotient 37 = .ok (.lstore 4, 2) := by decide +kernel
theorem dX2_quotient_39 : decode cX2_quotient 39 = .ok (.lload_n 0, 1) := by decide +kernel
theorem dX2_quotient_40 : decode cX2_quotient 40 = .ok (.lload 4, 2) := by decide +kernel
theorem dX2_quotient_42 : decode cX2_quotient 42 = .ok (.lload_n 2, 1) := by decide +kernel
theorem dX2_quotient_43 : decode cX2_quotient 43 = .ok (.lmul, 1) := by decide +kernel
theorem dX2_quotient_44 : decode cX2_quotient 44 = .ok (.lsub, 1) := by decide +kernel
theorem dX2_quotient_45 : decode cX2_quotient 45 = .ok (.lload_n 2, 1) := by decide +kernel
theorem dX2_quotient_46 : decode cX2_quotient 46 = .ok (.invokestatic 17, 3) := by decide +kernel
theorem dX2_quotient_49 : decode cX2_quotient 49 = .ok (.ifCond .lt 10, 3) := by decide +kernel
theorem dX2_quotient_52 : decode cX2_quotient 52 = .ok (.lload 4, 2) := by decide +kernel
theorem dX2_quotient_54 : decode cX2_quotient 54 = .ok (.lconst 1, 1) := by decide +kernel
theorem dX2_quotient_55 : decode cX2_quotient 55 = .ok (.ladd, 1) := by decide +kernel
theorem dX2_quotient_56 : decode cX2_quotient 56 = .ok (.goto 5, 3) := by decide +kernel
theorem dX2_quotient_59 : decode cX2_quotient 59 = .ok (.lload 4, 2) := by decide +kernel
theorem dX2_quotient_61 : decode cX2_quotient 61 = .ok (.lreturn, 1) := by decide +kernel
set_option maxHeartbeats 4000000 in
set_option maxRecDepth 100000 in
theorem mt_X2_quotient (l : Launch) (a0 : Int64) (a1 : Int64) (hz : ¬ a1 = 0) : Met l yX2_quotient (ws_ yX2_quotient cX2_quotient 6 (some .long)) ({ frames := 2, cells := 0, slots := 0, locals := 46 } : Room) (fun v _ => v = ([.long a0, .long a1] : List Value).toArray) (QcReadL (g_X2_quotient a0 a1)) 0 0 (fun _ => False) := by
  refine Met.ofW (cc := cX2_quotient) (maxL := 6) (ret := (some .long)) (by decide) rfl ?_
  intro p e s m args below meth c s₁ B hml hv
  obtain rfl : args = ([.long a0, .long a1] : List Value).toArray := hv
  have hx := B.exec
  have hb := B.bytes
  have hr := B.returns
  have hts := atoms_spec (ws := (ws_ yX2_quotient cX2_quotient 6 (some .long))) B.pre
  have hts : ∀ w ∈ lw_all, w.before _ s = true := fun w h => hts w (List.mem_cons_of_mem _ h)
  have hown : s.vm.findClass RX2 = some m.cls := findClass_of_methodNamed B.named
  have hlocks := B.notSynchronized
  obtain ⟨R, hR⟩ : ∃ R, R = g_X2_quotient a0 a1 := ⟨_, rfl⟩
  rw [← hR]
  have hl := lv_entry ([.long a0, .long a1] : List Value) (n := 6) (Nat.le_of_ble_eq_true rfl)
  rw [lg_entry_eq]
  generalize (lg_sl ([.long a0, .long a1] : List Value) ++ List.replicate (6 - (lg_sl ([.long a0, .long a1] : List Value)).length) Slot.unset).toArray = ls at hl ⊢
  have hl : lv_has ls 6 [(0, .long a0), (2, .long a1)] := hl
  unfold g_X2_quotient at hR
  refine lv_lload_n hx hb dX2_quotient_0 rfl (lv_at hl 1 rfl) ?_
  refine lv_lconst (v := 0) hx hb dX2_quotient_1 (by decide) ?_
  refine W.lcmp hx hb dX2_quotient_2 ?_
  refine lv_if_ge (tgt := 20) hx hb dX2_quotient_3 (by decide) (fun hc3 => ?_) (fun hc3 => ?_)
  · have hR := hR.trans (if_pos hc3)
    refine lv_lload_n hx hb dX2_quotient_20 rfl (lv_at hl 0 rfl) ?_
    refine lv_lconst (v := 0) hx hb dX2_quotient_21 (by decide) ?_
    refine W.lcmp hx hb dX2_quotient_22 ?_
    refine lv_if_lt (tgt := 30) hx hb dX2_quotient_23 (by decide) (fun hc23 => ?_) (fun hc23 => ?_)
    · have hR := hR.trans (if_pos hc23)
      refine lv_lload_n hx hb dX2_quotient_30 rfl (lv_at hl 0 rfl) ?_
      refine lv_iconst (v := 1) hx hb dX2_quotient_31 (by decide) ?_
      refine lv_lushr (v := (j_lushr a0 1)) hx hb dX2_quotient_32 rfl ?_
      refine lv_lload_n hx hb dX2_quotient_33 rfl (lv_at hl 1 rfl) ?_
      refine lv_ldiv hx hb dX2_quotient_34 hz ?_
      refine lv_iconst (v := 1) hx hb dX2_quotient_35 (by decide) ?_
      refine lv_lshl (v := (j_lshl ((j_lushr a0 1) / a1) 1)) hx hb dX2_quotient_36 rfl ?_
      refine lv_lstore (lv' := [(4, .long (j_lshl ((j_lushr a0 1) / a1) 1)), (0, .long a0), (2, .long a1)]) hx hb dX2_quotient_37 hl (by decide) rfl (fun ls hl => ?_)
      refine lv_lload_n hx hb dX2_quotient_39 rfl (lv_at hl 1 rfl) ?_
      refine lv_lload hx hb dX2_quotient_40 (lv_at hl 0 rfl) ?_
      refine lv_lload_n hx hb dX2_quotient_42 rfl (lv_at hl 2 rfl) ?_
      refine lv_lmul hx hb dX2_quotient_43 ?_
      refine lv_lsub hx hb dX2_quotient_44 ?_
      refine lv_lload_n hx hb dX2_quotient_45 rfl (lv_at hl 2 rfl) ?_
      refine jw_callI (W.runS (As := [.long (a0 - ((j_lshl ((j_lushr a0 1) / a1) 1) * a1)), .long a1]) (rest := []) ⟨hx, hb, hml, hown, hts⟩ (mt_X2_order l (a0 - ((j_lshl ((j_lushr a0 1) / a1) 1) * a1)) a1) (va_cwS 2 hts (lw_S q61 q62 q6 q63) rfl rfl rfl (by decide +kernel) ⟨Nat.le_of_ble_eq_true rfl, Nat.le_of_ble_eq_true rfl⟩) preEq rfl rfl hl.1 rfl (lv_room (Nat.le_of_ble_eq_true rfl)) dX2_quotient_46 ⟨Nat.le_of_ble_eq_true rfl, Nat.le_of_ble_eq_true rfl⟩) ?_
      refine lv_if_lt (tgt := 59) hx hb dX2_quotient_49 (by decide) (fun hc49 => ?_) (fun hc49 => ?_)
      · have hR := hR.trans (if_pos hc49)
        refine lv_lload hx hb dX2_quotient_59 (lv_at hl 0 rfl) ?_
        exact W.lret (v := (j_lshl ((j_lushr a0 1) / a1) 1)) hx hb hr (fun t ht hW => jr_l hR ht) jnil dX2_quotient_61
      · have hR := hR.trans (if_neg hc49)
        refine lv_lload hx hb dX2_quotient_52 (lv_at hl 0 rfl) ?_
        refine lv_lconst (v := 1) hx hb dX2_quotient_54 (by decide) ?_
        refine lv_ladd hx hb dX2_quotient_55 ?_
        refine lv_goto (tgt := 61) hx hb dX2_quotient_56 (by decide) ?_
        exact W.lret (v := ((j_lshl ((j_lushr a0 1) / a1) 1) + 1)) hx hb hr (fun t ht hW => jr_l hR ht) jnil dX2_quotient_61
    · have hR := hR.trans (if_neg hc23)
      refine lv_lload_n hx hb dX2_quotient_26 rfl (lv_at hl 0 rfl) ?_
      refine lv_lload_n hx hb dX2_quotient_27 rfl (lv_at hl 1 rfl) ?_
      refine lv_ldiv hx hb dX2_quotient_28 hz ?_
      exact W.lret (v := (a0 / a1)) hx hb hr (fun t ht hW => jr_l hR ht) jnil dX2_quotient_29
  · have hR := hR.trans (if_neg hc3)
    refine lv_lload_n hx hb dX2_quotient_6 rfl (lv_at hl 0 rfl) ?_
    refine lv_lload_n hx hb dX2_quotient_7 rfl (lv_at hl 1 rfl) ?_
    refine jw_callI (W.runS (As := [.long a0, .long a1]) (rest := []) ⟨hx, hb, hml, hown, hts⟩ (mt_X2_order l a0 a1) (va_cwS 2 hts (lw_S q61 q62 q6 q63) rfl rfl rfl (by decide +kernel) ⟨Nat.le_of_ble_eq_true rfl, Nat.le_of_ble_eq_true rfl⟩) preEq rfl rfl hl.1 rfl (lv_room (Nat.le_of_ble_eq_true rfl)) dX2_quotient_8 ⟨Nat.le_of_ble_eq_true rfl, Nat.le_of_ble_eq_true rfl⟩) ?_
    refine lv_if_lt (tgt := 18) hx hb dX2_quotient_11 (by decide) (fun hc11 => ?_) (fun hc11 => ?_)
    · have hR := hR.trans (if_pos hc11)
      refine lv_lconst (v := 0) hx hb dX2_quotient_18 (by decide) ?_
      exact W.lret (v := 0) hx hb hr (fun t ht hW => jr_l hR ht) jnil dX2_quotient_19
    · have hR := hR.trans (if_neg hc11)
      refine lv_lconst (v := 1) hx hb dX2_quotient_14 (by decide) ?_
      refine lv_goto (tgt := 19) hx hb dX2_quotient_15 (by decide) ?_
      exact W.lret (v := 1) hx hb hr (fun t ht hW => jr_l hR ht) jnil dX2_quotient_19
set_option maxRecDepth 100000
abbrev cX2_longs : ByteArray := prog_2_method_11_code
def yX2_longs : MethodName := ⟨RX2, "longs", "(IJJ)J"⟩
theorem dX2_longs_0 : decode cX2_longs 0 = .ok (.lload_n 3, 1) := by decide +kernel
theorem dX2_longs_1 : decode cX2_longs 1 = .ok (.l2i, 1) := by decide +kernel
theorem dX2_longs_2 : decode cX2_longs 2 = .ok (.bipush 63, 2) := by decide +kernel
theorem dX2_longs_4 : decode cX2_longs 4 = .ok (.iand, 1) := by decide +kernel
theorem dX2_longs_5 : decode cX2_longs 5 = .ok (.istore 5, 2) := by decide +kernel
theorem dX2_longs_7 : decode cX2_longs 7 = .ok (.bipush 64, 2) := by decide +kernel
theorem dX2_longs_9 : decode cX2_longs 9 = .ok (.iload 5, 2) := by decide +kernel
theorem dX2_longs_11 : decode cX2_longs 11 = .ok (.isub, 1) := by decide +kernel
theorem dX2_longs_12 : decode cX2_longs 12 = .ok (.bipush 63, 2) := by decide +kernel
theorem dX2_longs_14 : decode cX2_longs 14 = .ok (.iand, 1) := by decide +kernel
theorem dX2_longs_15 : decode cX2_longs 15 = .ok (.istore 6, 2) := by decide +kernel
theorem dX2_longs_17 : decode cX2_longs 17 = .ok (.iload_n 0, 1) := by decide +kernel
theorem dX2_longs_18 : decode cX2_longs 18 = .ok (.tableswitch 155 0 13 #[70, 74, 78, 82, 86, 92, 108, 118, 122, 126, 130, 135, 140, 145], 70) := by decide +kernel
theorem dX2_longs_88 : decode cX2_longs 88 = .ok (.lload_n 1, 1) := by decide +kernel
theorem dX2_longs_89 : decode cX2_longs 89 = .ok (.lload_n 3, 1) := by decide +kernel
theorem dX2_longs_90 : decode cX2_longs 90 = .ok (.ladd, 1) := by decide +kernel
theorem dX2_longs_91 : decode cX2_longs 91 = .ok (.lreturn, 1) := by decide +kernel
theorem dX2_longs_92 : decode cX2_longs 92 = .ok (.lload_n 1, 1) := by decide +kernel
theorem dX2_longs_93 : decode cX2_longs 93 = .ok (.lload_n 3, 1) := by decide +kernel
theorem dX2_longs_94 : decode cX2_longs 94 = .ok (.lsub, 1) := by decide +kernel
theorem dX2_longs_95 : decode cX2_longs 95 = .ok (.lreturn, 1) := by decide +kernel
theorem dX2_longs_96 : decode cX2_longs 96 = .ok (.lload_n 1, 1) := by decide +kernel
theorem dX2_longs_97 : decode cX2_longs 97 = .ok (.lload_n 3, 1) := by decide +kernel
theorem dX2_longs_98 : decode cX2_longs 98 = .ok (.lmul, 1) := by decide +kernel
theorem dX2_longs_99 : decode cX2_longs 99 = .ok (.lreturn, 1) := by decide +kernel
theorem dX2_longs_100 : decode cX2_longs 100 = .ok (.lload_n 1, 1) := by decide +kernel
theorem dX2_longs_101 : decode cX2_longs 101 = .ok (.lload_n 3, 1) := by decide +kernel
theorem dX2_longs_102 : decode cX2_longs 102 = .ok (.ldiv, 1) := by decide +kernel
theorem dX2_longs_103 : decode cX2_longs 103 = .ok (.lreturn, 1) := by decide +kernel
theorem dX2_longs_104 : decode cX2_longs 104 = .ok (.lload_n 1, 1) := by decide +kernel
theorem dX2_longs_105 : decode cX2_longs 105 = .ok (.lload_n 3, 1) := by decide +kernel
theorem dX2_longs_106 : decode cX2_longs 106 = .ok (.invokestatic 40, 3) := by decide +kernel
theorem dX2_longs_109 : decode cX2_longs 109 = .ok (.lreturn, 1) := by decide +kernel
theorem dX2_longs_110 : decode cX2_longs 110 = .ok (.lload_n 3, 1) := by decide +kernel
theorem dX2_longs_111 : decode cX2_longs 111 = .ok (.ldc2_w 24, 3) := by decide +kernel
theorem dX2_longs_114 : decode cX2_longs 114 = .ok (.lcmp, 1) := by decide +kernel
theorem dX2_longs_115 : decode cX2_longs 115 = .ok (.ifCond .ne 7, 3) := by decide +kernel
theorem dX2_longs_118 : decode cX2_longs 118 = .ok (.lconst 0, 1) := by decide +kernel
theorem dX2_longs_119 : decode cX2_longs 119 = .ok (.goto 6, 3) := by decide +kernel
theorem dX2_longs_122 : decode cX2_longs 122 = .ok (.lload_n 1, 1) := by decide +kernel
theorem dX2_longs_123 : decode cX2_longs 123 = .ok (.lload_n 3, 1) := by decide +kernel
theorem dX2_longs_124 : decode cX2_longs 124 = .ok (.lrem, 1) := by decide +kernel
theorem dX2_longs_125 : decode cX2_longs 125 = .ok (.lreturn, 1) := by decide +kernel
theorem dX2_longs_126 : decode cX2_longs 126 = .ok (.lload_n 1, 1) := by decide +kernel
theorem dX2_longs_127 : decode cX2_longs 127 = .ok (.lload_n 1, 1) := by decide +kernel
theorem dX2_longs_128 : decode cX2_longs 128 = .ok (.lload_n 3, 1) := by decide +kernel
theorem dX2_longs_129 : decode cX2_longs 129 = .ok (.invokestatic 40, 3) := by decide +kernel
theorem dX2_longs_132 : decode cX2_longs 132 = .ok (.lload_n 3, 1) := by decide +kernel
theorem dX2_longs_133 : decode cX2_longs 133 = .ok (.lmul, 1) := by decide +kernel
theorem dX2_longs_134 : decode cX2_longs 134 = .ok (.lsub, 1) := by decide +kernel
theorem dX2_longs_135 : decode cX2_longs 135 = .ok (.lreturn, 1) := by decide +kernel
theorem dX2_longs_136 : decode cX2_longs 136 = .ok (.lload_n 1, 1) := by decide +kernel
theorem dX2_longs_137 : decode cX2_longs 137 = .ok (.lload_n 3, 1) := by decide +kernel
theorem dX2_longs_138 : decode cX2_longs 138 = .ok (.land, 1) := by decide +kernel
theorem dX2_longs_139 : decode cX2_longs 139 = .ok (.lreturn, 1) := by decide +kernel
theorem dX2_longs_140 : decode cX2_longs 140 = .ok (.lload_n 1, 1) := by decide +kernel
theorem dX2_longs_141 : decode cX2_longs 141 = .ok (.lload_n 3, 1) := by decide +kernel
theorem dX2_longs_142 : decode cX2_longs 142 = .ok (.lor, 1) := by decide +kernel
theorem dX2_longs_143 : decode cX2_longs 143 = .ok (.lreturn, 1) := by decide +kernel
theorem dX2_longs_144 : decode cX2_longs 144 = .ok (.lload_n 1, 1) := by decide +kernel
theorem dX2_longs_145 : decode cX2_longs 145 = .ok (.lload_n 3, 1) := by decide +kernel
theorem dX2_longs_146 : decode cX2_longs 146 = .ok (.lxor, 1) := by decide +kernel
theorem dX2_longs_147 : decode cX2_longs 147 = .ok (.lreturn, 1) := by decide +kernel
theorem dX2_longs_148 : decode cX2_longs 148 = .ok (.lload_n 1, 1) := by decide +kernel
theorem dX2_longs_149 : decode cX2_longs 149 = .ok (.iload 5, 2) := by decide +kernel
theorem dX2_longs_151 : decode cX2_longs 151 = .ok (.lshl, 1) := by decide +kernel
theorem dX2_longs_152 : decode cX2_longs 152 = .ok (.lreturn, 1) := by decide +kernel
theorem dX2_longs_153 : decode cX2_longs 153 = .ok (.lload_n 1, 1) := by decide +kernel
theorem dX2_longs_154 : decode cX2_longs 154 = .ok (.iload 5, 2) := by decide +kernel
theorem dX2_longs_156 : decode cX2_longs 156 = .ok (.lshr, 1) := by decide +kernel
theorem dX2_longs_157 : decode cX2_longs 157 = .ok (.lreturn, 1) := by decide +kernel
theorem dX2_longs_158 : decode cX2_longs 158 = .ok (.lload_n 1, 1) := by decide +kernel
theorem dX2_longs_159 : decode cX2_longs 159 = .ok (.iload 5, 2) := by decide +kernel
theorem dX2_longs_161 : decode cX2_longs 161 = .ok (.lushr, 1) := by decide +kernel
theorem dX2_longs_162 : decode cX2_longs 162 = .ok (.lreturn, 1) := by decide +kernel
theorem dX2_longs_163 : decode cX2_longs 163 = .ok (.lload_n 1, 1) := by decide +kernel
theorem dX2_longs_164 : decode cX2_longs 164 = .ok (.iload 5, 2) := by decide +kernel
theorem dX2_longs_166 : decode cX2_longs 166 = .ok (.lshl, 1) := by decide +kernel
theorem dX2_longs_167 : decode cX2_longs 167 = .ok (.lload_n 1, 1) := by decide +kernel
theorem dX2_longs_168 : decode cX2_longs 168 = .ok (.iload 6, 2) := by decide +kernel
theorem dX2_longs_170 : decode cX2_longs 170 = .ok (.lushr, 1) := by decide +kernel
theorem dX2_longs_171 : decode cX2_longs 171 = .ok (.lor, 1) := by decide +kernel
theorem dX2_longs_172 : decode cX2_longs 172 = .ok (.lreturn, 1) := by decide +kernel
theorem dX2_longs_173 : decode cX2_longs 173 = .ok (.lload_n 1, 1) := by decide +kernel
theorem dX2_longs_174 : decode cX2_longs 174 = .ok (.iload 5, 2) := by decide +kernel
theorem dX2_longs_176 : decode cX2_longs 176 = .ok (.lushr, 1) := by decide +kernel
theorem dX2_longs_177 : decode cX2_longs 177 = .ok (.lload_n 1, 1) := by decide +kernel
theorem dX2_longs_178 : decode cX2_longs 178 = .ok (.iload 6, 2) := by decide +kernel
theorem dX2_longs_180 : decode cX2_longs 180 = .ok (.lshl, 1) := by decide +kernel
theorem dX2_longs_181 : decode cX2_longs 181 = .ok (.lor, 1) := by decide +kernel
theorem dX2_longs_182 : decode cX2_longs 182 = .ok (.lreturn, 1) := by decide +kernel
set_option maxHeartbeats 4000000 in
set_option maxRecDepth 100000 in
theorem mt_X2_longs (l : Launch) (a0 : Int32) (a1 : Int64) (a2 : Int64) (hz : 3 ≤ a0.toInt → a0.toInt ≤ 6 → ¬ a2 = 0) : Met l yX2_longs (ws_ yX2_longs cX2_longs 7 (some .long)) ({ frames := 3, cells := 0, slots := 0, locals := 71 } : Room) (fun v _ => v = ([.int a0, .long a1, .long a2] : List Value).toArray) (QcReadL (g_X2_longs a0 a1 a2)) 0 0 (fun _ => False) := by
  refine Met.ofW (cc := cX2_longs) (maxL := 7) (ret := (some .long)) (by decide) rfl ?_
  intro p e s m args below meth c s₁ B hml hv
  obtain rfl : args = ([.int a0, .long a1, .long a2] : List Value).toArray := hv
  have hx := B.exec
  have hb := B.bytes
  have hr := B.returns
  have hts := atoms_spec (ws := (ws_ yX2_longs cX2_longs 7 (some .long))) B.pre
  have hts : ∀ w ∈ lw_all, w.before _ s = true := fun w h => hts w (List.mem_cons_of_mem _ h)
  have hown : s.vm.findClass RX2 = some m.cls := findClass_of_methodNamed B.named
  have hlocks := B.notSynchronized
  obtain ⟨R, hR⟩ : ∃ R, R = g_X2_longs a0 a1 a2 := ⟨_, rfl⟩
  rw [← hR]
  have hl := lv_entry ([.int a0, .long a1, .long a2] : List Value) (n := 7) (Nat.le_of_ble_eq_true rfl)
  rw [lg_entry_eq]
  generalize (lg_sl ([.int a0, .long a1, .long a2] : List Value) ++ List.replicate (7 - (lg_sl ([.int a0, .long a1, .long a2] : List Value)).length) Slot.unset).toArray = ls at hl ⊢
  have hl : lv_has ls 7 [(0, .int a0), (1, .long a1), (3, .long a2)] := hl
  unfold g_X2_longs at hR
  refine lv_lload_n hx hb dX2_longs_0 rfl (lv_at hl 2 rfl) ?_
  refine lv_l2i (v := a2.toInt32) hx hb dX2_longs_1 rfl ?_
  refine lv_bipush (v := 63) hx hb dX2_longs_2 (by decide) ?_
  refine lv_iand hx hb dX2_longs_4 ?_
  refine lv_istore (lv' := [(5, .int ((a2.toInt32) &&& 63)), (0, .int a0), (1, .long a1), (3, .long a2)]) hx hb dX2_longs_5 hl (by decide) rfl (fun ls hl => ?_)
  refine lv_bipush (v := 64) hx hb dX2_longs_7 (by decide) ?_
  refine lv_iload hx hb dX2_longs_9 (lv_at hl 0 rfl) ?_
  refine lv_isub hx hb dX2_longs_11 ?_
  refine lv_bipush (v := 63) hx hb dX2_longs_12 (by decide) ?_
  refine lv_iand hx hb dX2_longs_14 ?_
  refine lv_istore (lv' := [(6, .int ((64 - ((a2.toInt32) &&& 63)) &&& 63)), (5, .int ((a2.toInt32) &&& 63)), (0, .int a0), (1, .long a1), (3, .long a2)]) hx hb dX2_longs_15 hl (by decide) rfl (fun ls hl => ?_)
  refine lv_iload_n hx hb dX2_longs_17 rfl (lv_at hl 2 rfl) ?_
  by_cases hk0 : a0 = 0
  · have hR := hR.trans (if_pos hk0)
    refine lv_tableIn (off := 70) (tgt := 88) hx hb dX2_longs_18 (by rw [hk0]; decide) (by rw [hk0]; decide) (by rw [hk0]; rfl) (by decide) ?_
    refine lv_lload_n hx hb dX2_longs_88 rfl (lv_at hl 3 rfl) ?_
    refine lv_lload_n hx hb dX2_longs_89 rfl (lv_at hl 4 rfl) ?_
    refine lv_ladd hx hb dX2_longs_90 ?_
    exact W.lret (v := (a1 + a2)) hx hb hr (fun t ht hW => jr_l hR ht) jnil dX2_longs_91
  have hR := hR.trans (if_neg hk0)
  by_cases hk1 : a0 = 1
  · have hR := hR.trans (if_pos hk1)
    refine lv_tableIn (off := 74) (tgt := 92) hx hb dX2_longs_18 (by rw [hk1]; decide) (by rw [hk1]; decide) (by rw [hk1]; rfl) (by decide) ?_
    refine lv_lload_n hx hb dX2_longs_92 rfl (lv_at hl 3 rfl) ?_
    refine lv_lload_n hx hb dX2_longs_93 rfl (lv_at hl 4 rfl) ?_
    refine lv_lsub hx hb dX2_longs_94 ?_
    exact W.lret (v := (a1 - a2)) hx hb hr (fun t ht hW => jr_l hR ht) jnil dX2_longs_95
  have hR := hR.trans (if_neg hk1)
  by_cases hk2 : a0 = 2
  · have hR := hR.trans (if_pos hk2)
    refine lv_tableIn (off := 78) (tgt := 96) hx hb dX2_longs_18 (by rw [hk2]; decide) (by rw [hk2]; decide) (by rw [hk2]; rfl) (by decide) ?_
    refine lv_lload_n hx hb dX2_longs_96 rfl (lv_at hl 3 rfl) ?_
    refine lv_lload_n hx hb dX2_longs_97 rfl (lv_at hl 4 rfl) ?_
    refine lv_lmul hx hb dX2_longs_98 ?_
    exact W.lret (v := (a1 * a2)) hx hb hr (fun t ht hW => jr_l hR ht) jnil dX2_longs_99
  have hR := hR.trans (if_neg hk2)
  by_cases hk3 : a0 = 3
  · have hR := hR.trans (if_pos hk3)
    refine lv_tableIn (off := 82) (tgt := 100) hx hb dX2_longs_18 (by rw [hk3]; decide) (by rw [hk3]; decide) (by rw [hk3]; rfl) (by decide) ?_
    refine lv_lload_n hx hb dX2_longs_100 rfl (lv_at hl 3 rfl) ?_
    refine lv_lload_n hx hb dX2_longs_101 rfl (lv_at hl 4 rfl) ?_
    refine lv_ldiv hx hb dX2_longs_102 (hz (by rw [hk3]; decide) (by rw [hk3]; decide)) ?_
    exact W.lret (v := (a1 / a2)) hx hb hr (fun t ht hW => jr_l hR ht) jnil dX2_longs_103
  have hR := hR.trans (if_neg hk3)
  by_cases hk4 : a0 = 4
  · have hR := hR.trans (if_pos hk4)
    refine lv_tableIn (off := 86) (tgt := 104) hx hb dX2_longs_18 (by rw [hk4]; decide) (by rw [hk4]; decide) (by rw [hk4]; rfl) (by decide) ?_
    refine lv_lload_n hx hb dX2_longs_104 rfl (lv_at hl 3 rfl) ?_
    refine lv_lload_n hx hb dX2_longs_105 rfl (lv_at hl 4 rfl) ?_
    refine jw_callJ (W.runS (As := [.long a1, .long a2]) (rest := []) ⟨hx, hb, hml, hown, hts⟩ (mt_X2_quotient l a1 a2 (hz (by rw [hk4]; decide) (by rw [hk4]; decide))) (va_cwS 2 hts (lw_S q74 q75 q6 q76) rfl rfl rfl (by decide +kernel) ⟨Nat.le_of_ble_eq_true rfl, Nat.le_of_ble_eq_true rfl⟩) preEq rfl rfl hl.1 rfl (lv_room (Nat.le_of_ble_eq_true rfl)) dX2_longs_106 ⟨Nat.le_of_ble_eq_true rfl, Nat.le_of_ble_eq_true rfl⟩) ?_
    exact W.lret (v := (g_X2_quotient a1 a2)) hx hb hr (fun t ht hW => jr_l hR ht) jnil dX2_longs_109
  have hR := hR.trans (if_neg hk4)
  by_cases hk5 : a0 = 5
  · have hR := hR.trans (if_pos hk5)
    refine lv_tableIn (off := 92) (tgt := 110) hx hb dX2_longs_18 (by rw [hk5]; decide) (by rw [hk5]; decide) (by rw [hk5]; rfl) (by decide) ?_
    refine lv_lload_n hx hb dX2_longs_110 rfl (lv_at hl 4 rfl) ?_
    refine lv_ldc2 (v := (-1)) hx hb hown (hts _ q53) dX2_longs_111 ?_
    refine W.lcmp hx hb dX2_longs_114 ?_
    refine lv_if_ne (tgt := 122) hx hb dX2_longs_115 (by decide) (fun hc115 => ?_) (fun hc115 => ?_)
    · have hR := hR.trans (if_neg hc115)
      refine lv_lload_n hx hb dX2_longs_122 rfl (lv_at hl 3 rfl) ?_
      refine lv_lload_n hx hb dX2_longs_123 rfl (lv_at hl 4 rfl) ?_
      refine lv_lrem hx hb dX2_longs_124 (hz (by rw [hk5]; decide) (by rw [hk5]; decide)) ?_
      exact W.lret (v := (a1 - a1 / a2 * a2)) hx hb hr (fun t ht hW => jr_l hR ht) jnil dX2_longs_125
    · have hR := hR.trans (if_pos hc115)
      refine lv_lconst (v := 0) hx hb dX2_longs_118 (by decide) ?_
      refine lv_goto (tgt := 125) hx hb dX2_longs_119 (by decide) ?_
      exact W.lret (v := 0) hx hb hr (fun t ht hW => jr_l hR ht) jnil dX2_longs_125
  have hR := hR.trans (if_neg hk5)
  by_cases hk6 : a0 = 6
  · have hR := hR.trans (if_pos hk6)
    refine lv_tableIn (off := 108) (tgt := 126) hx hb dX2_longs_18 (by rw [hk6]; decide) (by rw [hk6]; decide) (by rw [hk6]; rfl) (by decide) ?_
    refine lv_lload_n hx hb dX2_longs_126 rfl (lv_at hl 3 rfl) ?_
    refine lv_lload_n hx hb dX2_longs_127 rfl (lv_at hl 3 rfl) ?_
    refine lv_lload_n hx hb dX2_longs_128 rfl (lv_at hl 4 rfl) ?_
    refine jw_callJ (W.runS (As := [.long a1, .long a2]) (rest := [.long a1]) ⟨hx, hb, hml, hown, hts⟩ (mt_X2_quotient l a1 a2 (hz (by rw [hk6]; decide) (by rw [hk6]; decide))) (va_cwS 2 hts (lw_S q74 q75 q6 q76) rfl rfl rfl (by decide +kernel) ⟨Nat.le_of_ble_eq_true rfl, Nat.le_of_ble_eq_true rfl⟩) preEq rfl rfl hl.1 rfl (lv_room (Nat.le_of_ble_eq_true rfl)) dX2_longs_129 ⟨Nat.le_of_ble_eq_true rfl, Nat.le_of_ble_eq_true rfl⟩) ?_
    refine lv_lload_n hx hb dX2_longs_132 rfl (lv_at hl 4 rfl) ?_
    refine lv_lmul hx hb dX2_longs_133 ?_
    refine lv_lsub hx hb dX2_longs_134 ?_
    exact W.lret (v := (a1 - ((g_X2_quotient a1 a2) * a2))) hx hb hr (fun t ht hW => jr_l hR ht) jnil dX2_longs_135
  have hR := hR.trans (if_neg hk6)
  by_cases hk7 : a0 = 7
  · have hR := hR.trans (if_pos hk7)
    refine lv_tableIn (off := 118) (tgt := 136) hx hb dX2_longs_18 (by rw [hk7]; decide) (by rw [hk7]; decide) (by rw [hk7]; rfl) (by decide) ?_
    refine lv_lload_n hx hb dX2_longs_136 rfl (lv_at hl 3 rfl) ?_
    refine lv_lload_n hx hb dX2_longs_137 rfl (lv_at hl 4 rfl) ?_
    refine lv_land hx hb dX2_longs_138 ?_
    exact W.lret (v := (a1 &&& a2)) hx hb hr (fun t ht hW => jr_l hR ht) jnil dX2_longs_139
  have hR := hR.trans (if_neg hk7)
  by_cases hk8 : a0 = 8
  · have hR := hR.trans (if_pos hk8)
    refine lv_tableIn (off := 122) (tgt := 140) hx hb dX2_longs_18 (by rw [hk8]; decide) (by rw [hk8]; decide) (by rw [hk8]; rfl) (by decide) ?_
    refine lv_lload_n hx hb dX2_longs_140 rfl (lv_at hl 3 rfl) ?_
    refine lv_lload_n hx hb dX2_longs_141 rfl (lv_at hl 4 rfl) ?_
    refine lv_lor hx hb dX2_longs_142 ?_
    exact W.lret (v := (a1 ||| a2)) hx hb hr (fun t ht hW => jr_l hR ht) jnil dX2_longs_143
  have hR := hR.trans (if_neg hk8)
  by_cases hk9 : a0 = 9
  · have hR := hR.trans (if_pos hk9)
    refine lv_tableIn (off := 126) (tgt := 144) hx hb dX2_longs_18 (by rw [hk9]; decide) (by rw [hk9]; decide) (by rw [hk9]; rfl) (by decide) ?_
    refine lv_lload_n hx hb dX2_longs_144 rfl (lv_at hl 3 rfl) ?_
    refine lv_lload_n hx hb dX2_longs_145 rfl (lv_at hl 4 rfl) ?_
    refine lv_lxor hx hb dX2_longs_146 ?_
    exact W.lret (v := (a1 ^^^ a2)) hx hb hr (fun t ht hW => jr_l hR ht) jnil dX2_longs_147
  have hR := hR.trans (if_neg hk9)
  by_cases hk10 : a0 = 10
  · have hR := hR.trans (if_pos hk10)
    refine lv_tableIn (off := 130) (tgt := 148) hx hb dX2_longs_18 (by rw [hk10]; decide) (by rw [hk10]; decide) (by rw [hk10]; rfl) (by decide) ?_
    refine lv_lload_n hx hb dX2_longs_148 rfl (lv_at hl 3 rfl) ?_
    refine lv_iload hx hb dX2_longs_149 (lv_at hl 1 rfl) ?_
    refine lv_lshl (v := (j_lshl a1 ((a2.toInt32) &&& 63))) hx hb dX2_longs_151 rfl ?_
    exact W.lret (v := (j_lshl a1 ((a2.toInt32) &&& 63))) hx hb hr (fun t ht hW => jr_l hR ht) jnil dX2_longs_152
  have hR := hR.trans (if_neg hk10)
  by_cases hk11 : a0 = 11
  · have hR := hR.trans (if_pos hk11)
    refine lv_tableIn (off := 135) (tgt := 153) hx hb dX2_longs_18 (by rw [hk11]; decide) (by rw [hk11]; decide) (by rw [hk11]; rfl) (by decide) ?_
    refine lv_lload_n hx hb dX2_longs_153 rfl (lv_at hl 3 rfl) ?_
    refine lv_iload hx hb dX2_longs_154 (lv_at hl 1 rfl) ?_
    refine lv_lshr (v := (j_lshr a1 ((a2.toInt32) &&& 63))) hx hb dX2_longs_156 rfl ?_
    exact W.lret (v := (j_lshr a1 ((a2.toInt32) &&& 63))) hx hb hr (fun t ht hW => jr_l hR ht) jnil dX2_longs_157
  have hR := hR.trans (if_neg hk11)
  by_cases hk12 : a0 = 12
  · have hR := hR.trans (if_pos hk12)
    refine lv_tableIn (off := 140) (tgt := 158) hx hb dX2_longs_18 (by rw [hk12]; decide) (by rw [hk12]; decide) (by rw [hk12]; rfl) (by decide) ?_
    refine lv_lload_n hx hb dX2_longs_158 rfl (lv_at hl 3 rfl) ?_
    refine lv_iload hx hb dX2_longs_159 (lv_at hl 1 rfl) ?_
    refine lv_lushr (v := (j_lushr a1 ((a2.toInt32) &&& 63))) hx hb dX2_longs_161 rfl ?_
    exact W.lret (v := (j_lushr a1 ((a2.toInt32) &&& 63))) hx hb hr (fun t ht hW => jr_l hR ht) jnil dX2_longs_162
  have hR := hR.trans (if_neg hk12)
  by_cases hk13 : a0 = 13
  · have hR := hR.trans (if_pos hk13)
    refine lv_tableIn (off := 145) (tgt := 163) hx hb dX2_longs_18 (by rw [hk13]; decide) (by rw [hk13]; decide) (by rw [hk13]; rfl) (by decide) ?_
    refine lv_lload_n hx hb dX2_longs_163 rfl (lv_at hl 3 rfl) ?_
    refine lv_iload hx hb dX2_longs_164 (lv_at hl 1 rfl) ?_
    refine lv_lshl (v := (j_lshl a1 ((a2.toInt32) &&& 63))) hx hb dX2_longs_166 rfl ?_
    refine lv_lload_n hx hb dX2_longs_167 rfl (lv_at hl 3 rfl) ?_
    refine lv_iload hx hb dX2_longs_168 (lv_at hl 0 rfl) ?_
    refine lv_lushr (v := (j_lushr a1 ((64 - ((a2.toInt32) &&& 63)) &&& 63))) hx hb dX2_longs_170 rfl ?_
    refine lv_lor hx hb dX2_longs_171 ?_
    exact W.lret (v := ((j_lshl a1 ((a2.toInt32) &&& 63)) ||| (j_lushr a1 ((64 - ((a2.toInt32) &&& 63)) &&& 63)))) hx hb hr (fun t ht hW => jr_l hR ht) jnil dX2_longs_172
  have hR := hR.trans (if_neg hk13)
  refine lv_tableOut (tgt := 173) hx hb dX2_longs_18 (by have e0 := lv_neT (a := 0) hk0 (by decide); have e1 := lv_neT (a := 1) hk1 (by decide); have e2 := lv_neT (a := 2) hk2 (by decide); have e3 := lv_neT (a := 3) hk3 (by decide); have e4 := lv_neT (a := 4) hk4 (by decide); have e5 := lv_neT (a := 5) hk5 (by decide); have e6 := lv_neT (a := 6) hk6 (by decide); have e7 := lv_neT (a := 7) hk7 (by decide); have e8 := lv_neT (a := 8) hk8 (by decide); have e9 := lv_neT (a := 9) hk9 (by decide); have e10 := lv_neT (a := 10) hk10 (by decide); have e11 := lv_neT (a := 11) hk11 (by decide); have e12 := lv_neT (a := 12) hk12 (by decide); have e13 := lv_neT (a := 13) hk13 (by decide); omega) (by decide) ?_
  refine lv_lload_n hx hb dX2_longs_173 rfl (lv_at hl 3 rfl) ?_
  refine lv_iload hx hb dX2_longs_174 (lv_at hl 1 rfl) ?_
  refine lv_lushr (v := (j_lushr a1 ((a2.toInt32) &&& 63))) hx hb dX2_longs_176 rfl ?_
  refine lv_lload_n hx hb dX2_longs_177 rfl (lv_at hl 3 rfl) ?_
  refine lv_iload hx hb dX2_longs_178 (lv_at hl 0 rfl) ?_
  refine lv_lshl (v := (j_lshl a1 ((64 - ((a2.toInt32) &&& 63)) &&& 63))) hx hb dX2_longs_180 rfl ?_
  refine lv_lor hx hb dX2_longs_181 ?_
  exact W.lret (v := ((j_lushr a1 ((a2.toInt32) &&& 63)) ||| (j_lshl a1 ((64 - ((a2.toInt32) &&& 63)) &&& 63)))) hx hb hr (fun t ht hW => jr_l hR ht) jnil dX2_longs_182
abbrev cX2_two : ByteArray := prog_2_method_8_code
def yX2_two : MethodName := ⟨RX2, "two", "(IJJ)J"⟩
theorem dX2_two_0 : decode cX2_two 0 = .ok (.iload_n 0, 1) := by decide +kernel
theorem dX2_two_1 : decode cX2_two 1 = .ok (.bipush 79, 2) := by decide +kernel
theorem dX2_two_3 : decode cX2_two 3 = .ok (.if_icmp .gt 21, 3) := by decide +kernel
theorem dX2_two_6 : decode cX2_two 6 = .ok (.iload_n 0, 1) := by decide +kernel
theorem dX2_two_7 : decode cX2_two 7 = .ok (.bipush 70, 2) := by decide +kernel
theorem dX2_two_9 : decode cX2_two 9 = .ok (.isub, 1) := by decide +kernel
theorem dX2_two_10 : decode cX2_two 10 = .ok (.lload_n 1, 1) := by decide +kernel
theorem dX2_two_11 : decode cX2_two 11 = .ok (.lload_n 3, 1) := by decide +kernel
theorem dX2_two_12 : decode cX2_two 12 = .ok (.invokestatic 26, 3) := by decide +kernel
theorem dX2_two_15 : decode cX2_two 15 = .ok (.ifCond .eq 7, 3) := by decide +kernel
theorem dX2_two_18 : decode cX2_two 18 = .ok (.lconst 1, 1) := by decide +kernel
theorem dX2_two_19 : decode cX2_two 19 = .ok (.goto 4, 3) := by decide +kernel
theorem dX2_two_22 : decode cX2_two 22 = .ok (.lconst 0, 1) := by decide +kernel
theorem dX2_two_23 : decode cX2_two 23 = .ok (.lreturn, 1) := by decide +kernel
theorem dX2_two_24 : decode cX2_two 24 = .ok (.iload_n 0, 1) := by decide +kernel
theorem dX2_two_25 : decode cX2_two 25 = .ok (.bipush 90, 2) := by decide +kernel
theorem dX2_two_27 : decode cX2_two 27 = .ok (.if_icmp .gt 21, 3) := by decide +kernel
theorem dX2_two_30 : decode cX2_two 30 = .ok (.iload_n 0, 1) := by decide +kernel
theorem dX2_two_31 : decode cX2_two 31 = .ok (.bipush 81, 2) := by decide +kernel
theorem dX2_two_33 : decode cX2_two 33 = .ok (.isub, 1) := by decide +kernel
theorem dX2_two_34 : decode cX2_two 34 = .ok (.lload_n 1, 1) := by decide +kernel
theorem dX2_two_35 : decode cX2_two 35 = .ok (.lload_n 3, 1) := by decide +kernel
theorem dX2_two_36 : decode cX2_two 36 = .ok (.invokestatic 26, 3) := by decide +kernel
theorem dX2_two_39 : decode cX2_two 39 = .ok (.ifCond .eq 7, 3) := by decide +kernel
theorem dX2_two_42 : decode cX2_two 42 = .ok (.lconst 1, 1) := by decide +kernel
theorem dX2_two_43 : decode cX2_two 43 = .ok (.goto 4, 3) := by decide +kernel
theorem dX2_two_46 : decode cX2_two 46 = .ok (.lconst 0, 1) := by decide +kernel
theorem dX2_two_47 : decode cX2_two 47 = .ok (.lreturn, 1) := by decide +kernel
theorem dX2_two_48 : decode cX2_two 48 = .ok (.iload_n 0, 1) := by decide +kernel
theorem dX2_two_49 : decode cX2_two 49 = .ok (.bipush 120, 2) := by decide +kernel
theorem dX2_two_51 : decode cX2_two 51 = .ok (.if_icmp .gt 18, 3) := by decide +kernel
theorem dX2_two_54 : decode cX2_two 54 = .ok (.iload_n 0, 1) := by decide +kernel
theorem dX2_two_55 : decode cX2_two 55 = .ok (.bipush 106, 2) := by decide +kernel
theorem dX2_two_57 : decode cX2_two 57 = .ok (.isub, 1) := by decide +kernel
theorem dX2_two_58 : decode cX2_two 58 = .ok (.lload_n 1, 1) := by decide +kernel
theorem dX2_two_59 : decode cX2_two 59 = .ok (.l2i, 1) := by decide +kernel
theorem dX2_two_60 : decode cX2_two 60 = .ok (.lload_n 3, 1) := by decide +kernel
theorem dX2_two_61 : decode cX2_two 61 = .ok (.l2i, 1) := by decide +kernel
theorem dX2_two_62 : decode cX2_two 62 = .ok (.invokestatic 30, 3) := by decide +kernel
theorem dX2_two_65 : decode cX2_two 65 = .ok (.i2l, 1) := by decide +kernel
theorem dX2_two_66 : decode cX2_two 66 = .ok (.goto 12, 3) := by decide +kernel
theorem dX2_two_69 : decode cX2_two 69 = .ok (.iload_n 0, 1) := by decide +kernel
theorem dX2_two_70 : decode cX2_two 70 = .ok (.bipush 124, 2) := by decide +kernel
theorem dX2_two_72 : decode cX2_two 72 = .ok (.isub, 1) := by decide +kernel
theorem dX2_two_73 : decode cX2_two 73 = .ok (.lload_n 1, 1) := by decide +kernel
theorem dX2_two_74 : decode cX2_two 74 = .ok (.lload_n 3, 1) := by decide +kernel
theorem dX2_two_75 : decode cX2_two 75 = .ok (.invokestatic 34, 3) := by decide +kernel
theorem dX2_two_78 : decode cX2_two 78 = .ok (.lreturn, 1) := by decide +kernel
set_option maxHeartbeats 4000000 in
set_option maxRecDepth 100000 in
theorem mt_X2_two (l : Launch) (a0 : Int32) (a1 : Int64) (a2 : Int64) (hzi : 109 ≤ a0.toInt → a0.toInt ≤ 112 → ¬ a2.toInt32 = 0) (hzl : 127 ≤ a0.toInt → a0.toInt ≤ 130 → ¬ a2 = 0) : Met l yX2_two (ws_ yX2_two cX2_two 5 (some .long)) ({ frames := 4, cells := 0, slots := 0, locals := 97 } : Room) (fun v _ => v = ([.int a0, .long a1, .long a2] : List Value).toArray) (QcReadL (g_X2_two a0 a1 a2)) 0 0 (fun _ => False) := by
  refine Met.ofW (cc := cX2_two) (maxL := 5) (ret := (some .long)) (by decide) rfl ?_
  intro p e s m args below meth c s₁ B hml hv
  obtain rfl : args = ([.int a0, .long a1, .long a2] : List Value).toArray := hv
  have hx := B.exec
  have hb := B.bytes
  have hr := B.returns
  have hts := atoms_spec (ws := (ws_ yX2_two cX2_two 5 (some .long))) B.pre
  have hts : ∀ w ∈ lw_all, w.before _ s = true := fun w h => hts w (List.mem_cons_of_mem _ h)
  have hown : s.vm.findClass RX2 = some m.cls := findClass_of_methodNamed B.named
  have hlocks := B.notSynchronized
  obtain ⟨R, hR⟩ : ∃ R, R = g_X2_two a0 a1 a2 := ⟨_, rfl⟩
  rw [← hR]
  have hl := lv_entry ([.int a0, .long a1, .long a2] : List Value) (n := 5) (Nat.le_of_ble_eq_true rfl)
  rw [lg_entry_eq]
  generalize (lg_sl ([.int a0, .long a1, .long a2] : List Value) ++ List.replicate (5 - (lg_sl ([.int a0, .long a1, .long a2] : List Value)).length) Slot.unset).toArray = ls at hl ⊢
  have hl : lv_has ls 5 [(0, .int a0), (1, .long a1), (3, .long a2)] := hl
  unfold g_X2_two at hR
  refine lv_iload_n hx hb dX2_two_0 rfl (lv_at hl 0 rfl) ?_
  refine lv_bipush (v := 79) hx hb dX2_two_1 (by decide) ?_
  refine lv_icmp_gt (tgt := 24) hx hb dX2_two_3 (by decide) (fun hc3 => ?_) (fun hc3 => ?_)
  · have hR := hR.trans (if_pos hc3)
    refine lv_iload_n hx hb dX2_two_24 rfl (lv_at hl 0 rfl) ?_
    refine lv_bipush (v := 90) hx hb dX2_two_25 (by decide) ?_
    refine lv_icmp_gt (tgt := 48) hx hb dX2_two_27 (by decide) (fun hc27 => ?_) (fun hc27 => ?_)
    · have hR := hR.trans (if_pos hc27)
      refine lv_iload_n hx hb dX2_two_48 rfl (lv_at hl 0 rfl) ?_
      refine lv_bipush (v := 120) hx hb dX2_two_49 (by decide) ?_
      refine lv_icmp_gt (tgt := 69) hx hb dX2_two_51 (by decide) (fun hc51 => ?_) (fun hc51 => ?_)
      · have hR := hR.trans (if_pos hc51)
        refine lv_iload_n hx hb dX2_two_69 rfl (lv_at hl 0 rfl) ?_
        refine lv_bipush (v := 124) hx hb dX2_two_70 (by decide) ?_
        refine lv_isub hx hb dX2_two_72 ?_
        refine lv_lload_n hx hb dX2_two_73 rfl (lv_at hl 1 rfl) ?_
        refine lv_lload_n hx hb dX2_two_74 rfl (lv_at hl 2 rfl) ?_
        refine jw_callJ (W.runS (As := [.int (a0 - 124), .long a1, .long a2]) (rest := []) ⟨hx, hb, hml, hown, hts⟩ (mt_X2_longs l (a0 - 124) a1 a2 (fun u v => hzl (jz_s124 u v).1 (jz_s124 u v).2)) (va_cwS 3 hts (lw_S q71 q72 q6 q73) rfl rfl rfl (by decide +kernel) ⟨Nat.le_of_ble_eq_true rfl, Nat.le_of_ble_eq_true rfl⟩) preEq rfl rfl hl.1 rfl (lv_room (Nat.le_of_ble_eq_true rfl)) dX2_two_75 ⟨Nat.le_of_ble_eq_true rfl, Nat.le_of_ble_eq_true rfl⟩) ?_
        exact W.lret (v := (g_X2_longs (a0 - 124) a1 a2)) hx hb hr (fun t ht hW => jr_l hR ht) jnil dX2_two_78
      · have hR := hR.trans (if_neg hc51)
        refine lv_iload_n hx hb dX2_two_54 rfl (lv_at hl 0 rfl) ?_
        refine lv_bipush (v := 106) hx hb dX2_two_55 (by decide) ?_
        refine lv_isub hx hb dX2_two_57 ?_
        refine lv_lload_n hx hb dX2_two_58 rfl (lv_at hl 1 rfl) ?_
        refine lv_l2i (v := a1.toInt32) hx hb dX2_two_59 rfl ?_
        refine lv_lload_n hx hb dX2_two_60 rfl (lv_at hl 2 rfl) ?_
        refine lv_l2i (v := a2.toInt32) hx hb dX2_two_61 rfl ?_
        refine jw_callI (W.runS (As := [.int (a0 - 106), .int (a1.toInt32), .int (a2.toInt32)]) (rest := []) ⟨hx, hb, hml, hown, hts⟩ (mt_X2_ints l (a0 - 106) (a1.toInt32) (a2.toInt32) (fun u v => hzi (jz_s106 u v).1 (jz_s106 u v).2)) (va_cwS 3 hts (lw_S q67 q68 q6 q69) rfl rfl rfl (by decide +kernel) ⟨Nat.le_of_ble_eq_true rfl, Nat.le_of_ble_eq_true rfl⟩) preEq rfl rfl hl.1 rfl (lv_room (Nat.le_of_ble_eq_true rfl)) dX2_two_62 ⟨Nat.le_of_ble_eq_true rfl, Nat.le_of_ble_eq_true rfl⟩) ?_
        refine lv_i2l (v := (g_X2_ints (a0 - 106) (a1.toInt32) (a2.toInt32)).toInt64) hx hb dX2_two_65 rfl ?_
        refine lv_goto (tgt := 78) hx hb dX2_two_66 (by decide) ?_
        exact W.lret (v := ((g_X2_ints (a0 - 106) (a1.toInt32) (a2.toInt32)).toInt64)) hx hb hr (fun t ht hW => jr_l hR ht) jnil dX2_two_78
    · have hR := hR.trans (if_neg hc27)
      refine lv_iload_n hx hb dX2_two_30 rfl (lv_at hl 0 rfl) ?_
      refine lv_bipush (v := 81) hx hb dX2_two_31 (by decide) ?_
      refine lv_isub hx hb dX2_two_33 ?_
      refine lv_lload_n hx hb dX2_two_34 rfl (lv_at hl 1 rfl) ?_
      refine lv_lload_n hx hb dX2_two_35 rfl (lv_at hl 2 rfl) ?_
      refine jw_callI (W.runS (As := [.int (a0 - 81), .long a1, .long a2]) (rest := []) ⟨hx, hb, hml, hown, hts⟩ (mt_X2_holds l (a0 - 81) a1 a2) (va_cwS 3 hts (lw_S q58 q59 q6 q60) rfl rfl rfl (by decide +kernel) ⟨Nat.le_of_ble_eq_true rfl, Nat.le_of_ble_eq_true rfl⟩) preEq rfl rfl hl.1 rfl (lv_room (Nat.le_of_ble_eq_true rfl)) dX2_two_36 ⟨Nat.le_of_ble_eq_true rfl, Nat.le_of_ble_eq_true rfl⟩) ?_
      refine lv_if_eq (tgt := 46) hx hb dX2_two_39 (by decide) (fun hc39 => ?_) (fun hc39 => ?_)
      · have hR := hR.trans (if_pos hc39)
        refine lv_lconst (v := 0) hx hb dX2_two_46 (by decide) ?_
        exact W.lret (v := 0) hx hb hr (fun t ht hW => jr_l hR ht) jnil dX2_two_47
      · have hR := hR.trans (if_neg hc39)
        refine lv_lconst (v := 1) hx hb dX2_two_42 (by decide) ?_
        refine lv_goto (tgt := 47) hx hb dX2_two_43 (by decide) ?_
        exact W.lret (v := 1) hx hb hr (fun t ht hW => jr_l hR ht) jnil dX2_two_47
  · have hR := hR.trans (if_neg hc3)
    refine lv_iload_n hx hb dX2_two_6 rfl (lv_at hl 0 rfl) ?_
    refine lv_bipush (v := 70) hx hb dX2_two_7 (by decide) ?_
    refine lv_isub hx hb dX2_two_9 ?_
    refine lv_lload_n hx hb dX2_two_10 rfl (lv_at hl 1 rfl) ?_
    refine lv_lload_n hx hb dX2_two_11 rfl (lv_at hl 2 rfl) ?_
    refine jw_callI (W.runS (As := [.int (a0 - 70), .long a1, .long a2]) (rest := []) ⟨hx, hb, hml, hown, hts⟩ (mt_X2_holds l (a0 - 70) a1 a2) (va_cwS 3 hts (lw_S q58 q59 q6 q60) rfl rfl rfl (by decide +kernel) ⟨Nat.le_of_ble_eq_true rfl, Nat.le_of_ble_eq_true rfl⟩) preEq rfl rfl hl.1 rfl (lv_room (Nat.le_of_ble_eq_true rfl)) dX2_two_12 ⟨Nat.le_of_ble_eq_true rfl, Nat.le_of_ble_eq_true rfl⟩) ?_
    refine lv_if_eq (tgt := 22) hx hb dX2_two_15 (by decide) (fun hc15 => ?_) (fun hc15 => ?_)
    · have hR := hR.trans (if_pos hc15)
      refine lv_lconst (v := 0) hx hb dX2_two_22 (by decide) ?_
      exact W.lret (v := 0) hx hb hr (fun t ht hW => jr_l hR ht) jnil dX2_two_23
    · have hR := hR.trans (if_neg hc15)
      refine lv_lconst (v := 1) hx hb dX2_two_18 (by decide) ?_
      refine lv_goto (tgt := 23) hx hb dX2_two_19 (by decide) ?_
      exact W.lret (v := 1) hx hb hr (fun t ht hW => jr_l hR ht) jnil dX2_two_23
end
section
set_option maxRecDepth 100000
abbrev cX2_leading : ByteArray := prog_2_method_12_code
def yX2_leading : MethodName := ⟨RX2, "leading", "(JI)J"⟩
theorem dX2_leading_0 : decode cX2_leading 0 = .ok (.iconst 0, 1) := by decide +kernel
theorem dX2_leading_1 : decode cX2_leading 1 = .ok (.istore_n 3, 1) := by decide +kernel
theorem dX2_leading_2 : decode cX2_leading 2 = .ok (.iload_n 3, 1) := by decide +kernel
theorem dX2_leading_3 : decode cX2_leading 3 = .ok (.iload_n 2, 1) := by decide +kernel
theorem dX2_leading_4 : decode cX2_leading 4 = .ok (.if_icmp .ge 23, 3) := by decide +kernel
theorem dX2_leading_7 : decode cX2_leading 7 = .ok (.lload_n 0, 1) := by decide +kernel
theorem dX2_leading_8 : decode cX2_leading 8 = .ok (.iload_n 2, 1) := by decide +kernel
theorem dX2_leading_9 : decode cX2_leading 9 = .ok (.iconst 1, 1) := by decide +kernel
theorem dX2_leading_10 : decode cX2_leading 10 = .ok (.isub, 1) := by decide +kernel
theorem dX2_leading_11 : decode cX2_leading 11 = .ok (.iload_n 3, 1) := by decide +kernel
theorem dX2_leading_12 : decode cX2_leading 12 = .ok (.isub, 1) := by decide +kernel
theorem dX2_leading_13 : decode cX2_leading 13 = .ok (.lshr, 1) := by decide +kernel
theorem dX2_leading_14 : decode cX2_leading 14 = .ok (.lconst 1, 1) := by decide +kernel
theorem dX2_leading_15 : decode cX2_leading 15 = .ok (.land, 1) := by decide +kernel
theorem dX2_leading_16 : decode cX2_leading 16 = .ok (.lconst 0, 1) := by decide +kernel
theorem dX2_leading_17 : decode cX2_leading 17 = .ok (.lcmp, 1) := by decide +kernel
theorem dX2_leading_18 : decode cX2_leading 18 = .ok (.ifCond .ne 9, 3) := by decide +kernel
theorem dX2_leading_21 : decode cX2_leading 21 = .ok (.iinc 3 1, 3) := by decide +kernel
theorem dX2_leading_24 : decode cX2_leading 24 = .ok (.goto (-22), 3) := by decide +kernel
theorem dX2_leading_27 : decode cX2_leading 27 = .ok (.iload_n 3, 1) := by decide +kernel
theorem dX2_leading_28 : decode cX2_leading 28 = .ok (.i2l, 1) := by decide +kernel
theorem dX2_leading_29 : decode cX2_leading 29 = .ok (.lreturn, 1) := by decide +kernel
set_option maxHeartbeats 4000000 in
set_option maxRecDepth 100000 in
theorem mt_X2_leading (l : Launch) (a0 : Int64) (a1 : Int32) : Met l yX2_leading (ws_ yX2_leading cX2_leading 4 (some .long)) ({ frames := 0, cells := 0, slots := 0, locals := 0 } : Room) (fun v _ => v = ([.long a0, .int a1] : List Value).toArray) (QcReadL (g_X2_leading a0 a1)) 0 0 (fun _ => False) := by
  refine Met.ofW (cc := cX2_leading) (maxL := 4) (ret := (some .long)) (by decide) rfl ?_
  intro p e s m args below meth c s₁ B hml hv
  obtain rfl : args = ([.long a0, .int a1] : List Value).toArray := hv
  have hx := B.exec
  have hb := B.bytes
  have hr := B.returns
  have hts := atoms_spec (ws := (ws_ yX2_leading cX2_leading 4 (some .long))) B.pre
  have hts : ∀ w ∈ lw_all, w.before _ s = true := fun w h => hts w (List.mem_cons_of_mem _ h)
  have hown : s.vm.findClass RX2 = some m.cls := findClass_of_methodNamed B.named
  have hlocks := B.notSynchronized
  obtain ⟨R, hR⟩ : ∃ R, R = g_X2_leading a0 a1 := ⟨_, rfl⟩
  rw [← hR]
  have hl := lv_entry ([.long a0, .int a1] : List Value) (n := 4) (Nat.le_of_ble_eq_true rfl)
  rw [lg_entry_eq]
  generalize (lg_sl ([.long a0, .int a1] : List Value) ++ List.replicate (4 - (lg_sl ([.long a0, .int a1] : List Value)).length) Slot.unset).toArray = ls at hl ⊢
  have hl : lv_has ls 4 [(0, .long a0), (2, .int a1)] := hl
  have B2 : ∀ (n : Nat) (v3 : Int32) (ls : Array Slot), (a1.toInt - (v3).toInt).toNat < n → lv_has ls 4 [(0, .long a0), (2, .int a1), (3, .int v3)] → R = g_X2_leading_2 a0 a1 n v3 → W p l e (headSpec (ws_ yX2_leading cX2_leading 4 (some .long)) ({ frames := 0, cells := 0, slots := 0, locals := 0 } : Room)).room s m ([.long a0, .int a1] : List Value).toArray below meth c s.heap [] 0 0 (MQ below (QcReadL R) ([.long a0, .int a1] : List Value).toArray s 0 0 (fun _ => False)) (F0 m 2 ls []) := by
    intro n
    induction n with
    | zero => intro v3 ls hc hl hR; exact absurd hc (Nat.not_lt_zero _)
    | succ n ih =>
      intro v3 ls hc hl hR
      rw [g_X2_leading_2] at hR
      refine lv_iload_n hx hb dX2_leading_2 rfl (lv_at hl 2 rfl) ?_
      refine lv_iload_n hx hb dX2_leading_3 rfl (lv_at hl 1 rfl) ?_
      refine lv_icmp_ge (tgt := 27) hx hb dX2_leading_4 (by decide) (fun hc4 => ?_) (fun hc4 => ?_)
      · have hR := hR.trans (if_pos hc4)
        refine lv_iload_n hx hb dX2_leading_27 rfl (lv_at hl 2 rfl) ?_
        refine lv_i2l (v := v3.toInt64) hx hb dX2_leading_28 rfl ?_
        exact W.lret (v := (v3.toInt64)) hx hb hr (fun t ht hW => jr_l hR ht) jnil dX2_leading_29
      · have hR := hR.trans (if_neg hc4)
        refine lv_lload_n hx hb dX2_leading_7 rfl (lv_at hl 0 rfl) ?_
        refine lv_iload_n hx hb dX2_leading_8 rfl (lv_at hl 1 rfl) ?_
        refine lv_iconst (v := 1) hx hb dX2_leading_9 (by decide) ?_
        refine lv_isub hx hb dX2_leading_10 ?_
        refine lv_iload_n hx hb dX2_leading_11 rfl (lv_at hl 2 rfl) ?_
        refine lv_isub hx hb dX2_leading_12 ?_
        refine lv_lshr (v := (j_lshr a0 ((a1 - 1) - v3))) hx hb dX2_leading_13 rfl ?_
        refine lv_lconst (v := 1) hx hb dX2_leading_14 (by decide) ?_
        refine lv_land hx hb dX2_leading_15 ?_
        refine lv_lconst (v := 0) hx hb dX2_leading_16 (by decide) ?_
        refine W.lcmp hx hb dX2_leading_17 ?_
        refine lv_if_ne (tgt := 27) hx hb dX2_leading_18 (by decide) (fun hc18 => ?_) (fun hc18 => ?_)
        · have hR := hR.trans (if_neg hc18)
          refine lv_iload_n hx hb dX2_leading_27 rfl (lv_at hl 2 rfl) ?_
          refine lv_i2l (v := v3.toInt64) hx hb dX2_leading_28 rfl ?_
          exact W.lret (v := (v3.toInt64)) hx hb hr (fun t ht hW => jr_l hR ht) jnil dX2_leading_29
        · have hR := hR.trans (if_pos hc18)
          refine lv_iinc (v := (v3 + 1)) (lv' := [(3, .int (v3 + 1)), (0, .long a0), (2, .int a1)]) hx hb dX2_leading_21 hl (k := 2) rfl rfl (by decide) rfl (fun ls hl => ?_)
          refine lv_goto (tgt := 2) hx hb dX2_leading_24 (by decide) ?_
          exact ih (v3 + 1) ls (jl_up hc hc4) (lv_sub hl [1, 2, 0] rfl) hR
  unfold g_X2_leading at hR
  refine lv_iconst (v := 0) hx hb dX2_leading_0 (by decide) ?_
  refine lv_istore_n (lv' := [(3, .int 0), (0, .long a0), (2, .int a1)]) hx hb dX2_leading_1 rfl hl (by decide) rfl (fun ls hl => ?_)
  exact B2 ((a1.toInt - (0 : Int32).toInt).toNat + 1) 0 ls (Nat.lt_succ_self _) (lv_sub hl [1, 2, 0] rfl) hR
abbrev cX2_trailing : ByteArray := prog_2_method_13_code
def yX2_trailing : MethodName := ⟨RX2, "trailing", "(JI)J"⟩
theorem dX2_trailing_0 : decode cX2_trailing 0 = .ok (.iconst 0, 1) := by decide +kernel
theorem dX2_trailing_1 : decode cX2_trailing 1 = .ok (.istore_n 3, 1) := by decide +kernel
theorem dX2_trailing_2 : decode cX2_trailing 2 = .ok (.iload_n 3, 1) := by decide +kernel
theorem dX2_trailing_3 : decode cX2_trailing 3 = .ok (.iload_n 2, 1) := by decide +kernel
theorem dX2_trailing_4 : decode cX2_trailing 4 = .ok (.if_icmp .ge 19, 3) := by decide +kernel
theorem dX2_trailing_7 : decode cX2_trailing 7 = .ok (.lload_n 0, 1) := by decide +kernel
theorem dX2_trailing_8 : decode cX2_trailing 8 = .ok (.iload_n 3, 1) := by decide +kernel
theorem dX2_trailing_9 : decode cX2_trailing 9 = .ok (.lshr, 1) := by decide +kernel
theorem dX2_trailing_10 : decode cX2_trailing 10 = .ok (.lconst 1, 1) := by decide +kernel
theorem dX2_trailing_11 : decode cX2_trailing 11 = .ok (.land, 1) := by decide +kernel
theorem dX2_trailing_12 : decode cX2_trailing 12 = .ok (.lconst 0, 1) := by decide +kernel
theorem dX2_trailing_13 : decode cX2_trailing 13 = .ok (.lcmp, 1) := by decide +kernel
theorem dX2_trailing_14 : decode cX2_trailing 14 = .ok (.ifCond .ne 9, 3) := by decide +kernel
theorem dX2_trailing_17 : decode cX2_trailing 17 = .ok (.iinc 3 1, 3) := by decide +kernel
theorem dX2_trailing_20 : decode cX2_trailing 20 = .ok (.goto (-18), 3) := by decide +kernel
theorem dX2_trailing_23 : decode cX2_trailing 23 = .ok (.iload_n 3, 1) := by decide +kernel
theorem dX2_trailing_24 : decode cX2_trailing 24 = .ok (.i2l, 1) := by decide +kernel
theorem dX2_trailing_25 : decode cX2_trailing 25 = .ok (.lreturn, 1) := by decide +kernel
set_option maxHeartbeats 4000000 in
set_option maxRecDepth 100000 in
theorem mt_X2_trailing (l : Launch) (a0 : Int64) (a1 : Int32) : Met l yX2_trailing (ws_ yX2_trailing cX2_trailing 4 (some .long)) ({ frames := 0, cells := 0, slots := 0, locals := 0 } : Room) (fun v _ => v = ([.long a0, .int a1] : List Value).toArray) (QcReadL (g_X2_trailing a0 a1)) 0 0 (fun _ => False) := by
  refine Met.ofW (cc := cX2_trailing) (maxL := 4) (ret := (some .long)) (by decide) rfl ?_
  intro p e s m args below meth c s₁ B hml hv
  obtain rfl : args = ([.long a0, .int a1] : List Value).toArray := hv
  have hx := B.exec
  have hb := B.bytes
  have hr := B.returns
  have hts := atoms_spec (ws := (ws_ yX2_trailing cX2_trailing 4 (some .long))) B.pre
  have hts : ∀ w ∈ lw_all, w.before _ s = true := fun w h => hts w (List.mem_cons_of_mem _ h)
  have hown : s.vm.findClass RX2 = some m.cls := findClass_of_methodNamed B.named
  have hlocks := B.notSynchronized
  obtain ⟨R, hR⟩ : ∃ R, R = g_X2_trailing a0 a1 := ⟨_, rfl⟩
  rw [← hR]
  have hl := lv_entry ([.long a0, .int a1] : List Value) (n := 4) (Nat.le_of_ble_eq_true rfl)
  rw [lg_entry_eq]
  generalize (lg_sl ([.long a0, .int a1] : List Value) ++ List.replicate (4 - (lg_sl ([.long a0, .int a1] : List Value)).length) Slot.unset).toArray = ls at hl ⊢
  have hl : lv_has ls 4 [(0, .long a0), (2, .int a1)] := hl
  have B2 : ∀ (n : Nat) (v3 : Int32) (ls : Array Slot), (a1.toInt - (v3).toInt).toNat < n → lv_has ls 4 [(0, .long a0), (2, .int a1), (3, .int v3)] → R = g_X2_trailing_2 a0 a1 n v3 → W p l e (headSpec (ws_ yX2_trailing cX2_trailing 4 (some .long)) ({ frames := 0, cells := 0, slots := 0, locals := 0 } : Room)).room s m ([.long a0, .int a1] : List Value).toArray below meth c s.heap [] 0 0 (MQ below (QcReadL R) ([.long a0, .int a1] : List Value).toArray s 0 0 (fun _ => False)) (F0 m 2 ls []) := by
    intro n
    induction n with
    | zero => intro v3 ls hc hl hR; exact absurd hc (Nat.not_lt_zero _)
    | succ n ih =>
      intro v3 ls hc hl hR
      rw [g_X2_trailing_2] at hR
      refine lv_iload_n hx hb dX2_trailing_2 rfl (lv_at hl 2 rfl) ?_
      refine lv_iload_n hx hb dX2_trailing_3 rfl (lv_at hl 1 rfl) ?_
      refine lv_icmp_ge (tgt := 23) hx hb dX2_trailing_4 (by decide) (fun hc4 => ?_) (fun hc4 => ?_)
      · have hR := hR.trans (if_pos hc4)
        refine lv_iload_n hx hb dX2_trailing_23 rfl (lv_at hl 2 rfl) ?_
        refine lv_i2l (v := v3.toInt64) hx hb dX2_trailing_24 rfl ?_
        exact W.lret (v := (v3.toInt64)) hx hb hr (fun t ht hW => jr_l hR ht) jnil dX2_trailing_25
      · have hR := hR.trans (if_neg hc4)
        refine lv_lload_n hx hb dX2_trailing_7 rfl (lv_at hl 0 rfl) ?_
        refine lv_iload_n hx hb dX2_trailing_8 rfl (lv_at hl 2 rfl) ?_
        refine lv_lshr (v := (j_lshr a0 v3)) hx hb dX2_trailing_9 rfl ?_
        refine lv_lconst (v := 1) hx hb dX2_trailing_10 (by decide) ?_
        refine lv_land hx hb dX2_trailing_11 ?_
        refine lv_lconst (v := 0) hx hb dX2_trailing_12 (by decide) ?_
        refine W.lcmp hx hb dX2_trailing_13 ?_
        refine lv_if_ne (tgt := 23) hx hb dX2_trailing_14 (by decide) (fun hc14 => ?_) (fun hc14 => ?_)
        · have hR := hR.trans (if_neg hc14)
          refine lv_iload_n hx hb dX2_trailing_23 rfl (lv_at hl 2 rfl) ?_
          refine lv_i2l (v := v3.toInt64) hx hb dX2_trailing_24 rfl ?_
          exact W.lret (v := (v3.toInt64)) hx hb hr (fun t ht hW => jr_l hR ht) jnil dX2_trailing_25
        · have hR := hR.trans (if_pos hc14)
          refine lv_iinc (v := (v3 + 1)) (lv' := [(3, .int (v3 + 1)), (0, .long a0), (2, .int a1)]) hx hb dX2_trailing_17 hl (k := 2) rfl rfl (by decide) rfl (fun ls hl => ?_)
          refine lv_goto (tgt := 2) hx hb dX2_trailing_20 (by decide) ?_
          exact ih (v3 + 1) ls (jl_up hc hc4) (lv_sub hl [1, 2, 0] rfl) hR
  unfold g_X2_trailing at hR
  refine lv_iconst (v := 0) hx hb dX2_trailing_0 (by decide) ?_
  refine lv_istore_n (lv' := [(3, .int 0), (0, .long a0), (2, .int a1)]) hx hb dX2_trailing_1 rfl hl (by decide) rfl (fun ls hl => ?_)
  exact B2 ((a1.toInt - (0 : Int32).toInt).toNat + 1) 0 ls (Nat.lt_succ_self _) (lv_sub hl [1, 2, 0] rfl) hR
abbrev cX2_ones : ByteArray := prog_2_method_14_code
def yX2_ones : MethodName := ⟨RX2, "ones", "(JI)J"⟩
theorem dX2_ones_0 : decode cX2_ones 0 = .ok (.iconst 0, 1) := by decide +kernel
theorem dX2_ones_1 : decode cX2_ones 1 = .ok (.istore_n 3, 1) := by decide +kernel
theorem dX2_ones_2 : decode cX2_ones 2 = .ok (.iconst 0, 1) := by decide +kernel
theorem dX2_ones_3 : decode cX2_ones 3 = .ok (.istore 4, 2) := by decide +kernel
theorem dX2_ones_5 : decode cX2_ones 5 = .ok (.iload 4, 2) := by decide +kernel
theorem dX2_ones_7 : decode cX2_ones 7 = .ok (.iload_n 2, 1) := by decide +kernel
theorem dX2_ones_8 : decode cX2_ones 8 = .ok (.if_icmp .ge 19, 3) := by decide +kernel
theorem dX2_ones_11 : decode cX2_ones 11 = .ok (.iload_n 3, 1) := by decide +kernel
theorem dX2_ones_12 : decode cX2_ones 12 = .ok (.lload_n 0, 1) := by decide +kernel
theorem dX2_ones_13 : decode cX2_ones 13 = .ok (.iload 4, 2) := by decide +kernel
theorem dX2_ones_15 : decode cX2_ones 15 = .ok (.lshr, 1) := by decide +kernel
theorem dX2_ones_16 : decode cX2_ones 16 = .ok (.lconst 1, 1) := by decide +kernel
theorem dX2_ones_17 : decode cX2_ones 17 = .ok (.land, 1) := by decide +kernel
theorem dX2_ones_18 : decode cX2_ones 18 = .ok (.l2i, 1) := by decide +kernel
theorem dX2_ones_19 : decode cX2_ones 19 = .ok (.iadd, 1) := by decide +kernel
theorem dX2_ones_20 : decode cX2_ones 20 = .ok (.istore_n 3, 1) := by decide +kernel
theorem dX2_ones_21 : decode cX2_ones 21 = .ok (.iinc 4 1, 3) := by decide +kernel
theorem dX2_ones_24 : decode cX2_ones 24 = .ok (.goto (-19), 3) := by decide +kernel
theorem dX2_ones_27 : decode cX2_ones 27 = .ok (.iload_n 3, 1) := by decide +kernel
theorem dX2_ones_28 : decode cX2_ones 28 = .ok (.i2l, 1) := by decide +kernel
theorem dX2_ones_29 : decode cX2_ones 29 = .ok (.lreturn, 1) := by decide +kernel
set_option maxHeartbeats 4000000 in
set_option maxRecDepth 100000 in
theorem mt_X2_ones (l : Launch) (a0 : Int64) (a1 : Int32) : Met l yX2_ones (ws_ yX2_ones cX2_ones 5 (some .long)) ({ frames := 0, cells := 0, slots := 0, locals := 0 } : Room) (fun v _ => v = ([.long a0, .int a1] : List Value).toArray) (QcReadL (g_X2_ones a0 a1)) 0 0 (fun _ => False) := by
  refine Met.ofW (cc := cX2_ones) (maxL := 5) (ret := (some .long)) (by decide) rfl ?_
  intro p e s m args below meth c s₁ B hml hv
  obtain rfl : args = ([.long a0, .int a1] : List Value).toArray := hv
  have hx := B.exec
  have hb := B.bytes
  have hr := B.returns
  have hts := atoms_spec (ws := (ws_ yX2_ones cX2_ones 5 (some .long))) B.pre
  have hts : ∀ w ∈ lw_all, w.before _ s = true := fun w h => hts w (List.mem_cons_of_mem _ h)
  have hown : s.vm.findClass RX2 = some m.cls := findClass_of_methodNamed B.named
  have hlocks := B.notSynchronized
  obtain ⟨R, hR⟩ : ∃ R, R = g_X2_ones a0 a1 := ⟨_, rfl⟩
  rw [← hR]
  have hl := lv_entry ([.long a0, .int a1] : List Value) (n := 5) (Nat.le_of_ble_eq_true rfl)
  rw [lg_entry_eq]
  generalize (lg_sl ([.long a0, .int a1] : List Value) ++ List.replicate (5 - (lg_sl ([.long a0, .int a1] : List Value)).length) Slot.unset).toArray = ls at hl ⊢
  have hl : lv_has ls 5 [(0, .long a0), (2, .int a1)] := hl
  have B5 : ∀ (n : Nat) (v3 : Int32) (v4 : Int32) (ls : Array Slot), (a1.toInt - (v4).toInt).toNat < n → lv_has ls 5 [(0, .long a0), (2, .int a1), (3, .int v3), (4, .int v4)] → R = g_X2_ones_5 a0 a1 n v3 v4 → W p l e (headSpec (ws_ yX2_ones cX2_ones 5 (some .long)) ({ frames := 0, cells := 0, slots := 0, locals := 0 } : Room)).room s m ([.long a0, .int a1] : List Value).toArray below meth c s.heap [] 0 0 (MQ below (QcReadL R) ([.long a0, .int a1] : List Value).toArray s 0 0 (fun _ => False)) (F0 m 5 ls []) := by
    intro n
    induction n with
    | zero => intro v3 v4 ls hc hl hR; exact absurd hc (Nat.not_lt_zero _)
    | succ n ih =>
      intro v3 v4 ls hc hl hR
      rw [g_X2_ones_5] at hR
      refine lv_iload hx hb dX2_ones_5 (lv_at hl 3 rfl) ?_
      refine lv_iload_n hx hb dX2_ones_7 rfl (lv_at hl 1 rfl) ?_
      refine lv_icmp_ge (tgt := 27) hx hb dX2_ones_8 (by decide) (fun hc8 => ?_) (fun hc8 => ?_)
      · have hR := hR.trans (if_pos hc8)
        refine lv_iload_n hx hb dX2_ones_27 rfl (lv_at hl 2 rfl) ?_
        refine lv_i2l (v := v3.toInt64) hx hb dX2_ones_28 rfl ?_
        exact W.lret (v := (v3.toInt64)) hx hb hr (fun t ht hW => jr_l hR ht) jnil dX2_ones_29
      · have hR := hR.trans (if_neg hc8)
        refine lv_iload_n hx hb dX2_ones_11 rfl (lv_at hl 2 rfl) ?_
        refine lv_lload_n hx hb dX2_ones_12 rfl (lv_at hl 0 rfl) ?_
        refine lv_iload hx hb dX2_ones_13 (lv_at hl 3 rfl) ?_
        refine lv_lshr (v := (j_lshr a0 v4)) hx hb dX2_ones_15 rfl ?_
        refine lv_lconst (v := 1) hx hb dX2_ones_16 (by decide) ?_
        refine lv_land hx hb dX2_ones_17 ?_
        refine lv_l2i (v := ((j_lshr a0 v4) &&& 1).toInt32) hx hb dX2_ones_18 rfl ?_
        refine lv_iadd hx hb dX2_ones_19 ?_
        refine lv_istore_n (lv' := [(3, .int (v3 + (((j_lshr a0 v4) &&& 1).toInt32))), (0, .long a0), (2, .int a1), (4, .int v4)]) hx hb dX2_ones_20 rfl hl (by decide) rfl (fun ls hl => ?_)
        refine lv_iinc (v := (v4 + 1)) (lv' := [(4, .int (v4 + 1)), (3, .int (v3 + (((j_lshr a0 v4) &&& 1).toInt32))), (0, .long a0), (2, .int a1)]) hx hb dX2_ones_21 hl (k := 3) rfl rfl (by decide) rfl (fun ls hl => ?_)
        refine lv_goto (tgt := 5) hx hb dX2_ones_24 (by decide) ?_
        exact ih (v3 + (((j_lshr a0 v4) &&& 1).toInt32)) (v4 + 1) ls (jl_up hc hc8) (lv_sub hl [2, 3, 1, 0] rfl) hR
  unfold g_X2_ones at hR
  refine lv_iconst (v := 0) hx hb dX2_ones_0 (by decide) ?_
  refine lv_istore_n (lv' := [(3, .int 0), (0, .long a0), (2, .int a1)]) hx hb dX2_ones_1 rfl hl (by decide) rfl (fun ls hl => ?_)
  refine lv_iconst (v := 0) hx hb dX2_ones_2 (by decide) ?_
  refine lv_istore (lv' := [(4, .int 0), (3, .int 0), (0, .long a0), (2, .int a1)]) hx hb dX2_ones_3 hl (by decide) rfl (fun ls hl => ?_)
  exact B5 ((a1.toInt - (0 : Int32).toInt).toNat + 1) 0 0 ls (Nat.lt_succ_self _) (lv_sub hl [2, 3, 1, 0] rfl) hR
abbrev cX2_one : ByteArray := prog_2_method_15_code
def yX2_one : MethodName := ⟨RX2, "one", "(IJ)J"⟩
theorem dX2_one_0 : decode cX2_one 0 = .ok (.iload_n 0, 1) := by decide +kernel
theorem dX2_one_1 : decode cX2_one 1 = .ok (.lookupswitch 207 #[(69, 131), (80, 131), (103, 143), (104, 150), (105, 157), (121, 164), (122, 171), (123, 178), (167, 185), (172, 189), (173, 191), (192, 197), (193, 202), (194, 197), (195, 202)], 131) := by decide +kernel
theorem dX2_one_132 : decode cX2_one 132 = .ok (.lload_n 1, 1) := by decide +kernel
theorem dX2_one_133 : decode cX2_one 133 = .ok (.lconst 0, 1) := by decide +kernel
theorem dX2_one_134 : decode cX2_one 134 = .ok (.lcmp, 1) := by decide +kernel
theorem dX2_one_135 : decode cX2_one 135 = .ok (.ifCond .ne 7, 3) := by decide +kernel
theorem dX2_one_138 : decode cX2_one 138 = .ok (.lconst 1, 1) := by decide +kernel
theorem dX2_one_139 : decode cX2_one 139 = .ok (.goto 4, 3) := by decide +kernel
theorem dX2_one_142 : decode cX2_one 142 = .ok (.lconst 0, 1) := by decide +kernel
theorem dX2_one_143 : decode cX2_one 143 = .ok (.lreturn, 1) := by decide +kernel
theorem dX2_one_144 : decode cX2_one 144 = .ok (.lload_n 1, 1) := by decide +kernel
theorem dX2_one_145 : decode cX2_one 145 = .ok (.bipush 32, 2) := by decide +kernel
theorem dX2_one_147 : decode cX2_one 147 = .ok (.invokestatic 44, 3) := by decide +kernel
theorem dX2_one_150 : decode cX2_one 150 = .ok (.lreturn, 1) := by decide +kernel
theorem dX2_one_151 : decode cX2_one 151 = .ok (.lload_n 1, 1) := by decide +kernel
theorem dX2_one_152 : decode cX2_one 152 = .ok (.bipush 32, 2) := by decide +kernel
theorem dX2_one_154 : decode cX2_one 154 = .ok (.invokestatic 48, 3) := by decide +kernel
theorem dX2_one_157 : decode cX2_one 157 = .ok (.lreturn, 1) := by decide +kernel
theorem dX2_one_158 : decode cX2_one 158 = .ok (.lload_n 1, 1) := by decide +kernel
theorem dX2_one_159 : decode cX2_one 159 = .ok (.bipush 32, 2) := by decide +kernel
theorem dX2_one_161 : decode cX2_one 161 = .ok (.invokestatic 51, 3) := by decide +kernel
theorem dX2_one_164 : decode cX2_one 164 = .ok (.lreturn, 1) := by decide +kernel
theorem dX2_one_165 : decode cX2_one 165 = .ok (.lload_n 1, 1) := by decide +kernel
theorem dX2_one_166 : decode cX2_one 166 = .ok (.bipush 64, 2) := by decide +kernel
theorem dX2_one_168 : decode cX2_one 168 = .ok (.invokestatic 44, 3) := by decide +kernel
theorem dX2_one_171 : decode cX2_one 171 = .ok (.lreturn, 1) := by decide +kernel
theorem dX2_one_172 : decode cX2_one 172 = .ok (.lload_n 1, 1) := by decide +kernel
theorem dX2_one_173 : decode cX2_one 173 = .ok (.bipush 64, 2) := by decide +kernel
theorem dX2_one_175 : decode cX2_one 175 = .ok (.invokestatic 48, 3) := by decide +kernel
theorem dX2_one_178 : decode cX2_one 178 = .ok (.lreturn, 1) := by decide +kernel
theorem dX2_one_179 : decode cX2_one 179 = .ok (.lload_n 1, 1) := by decide +kernel
theorem dX2_one_180 : decode cX2_one 180 = .ok (.bipush 64, 2) := by decide +kernel
theorem dX2_one_182 : decode cX2_one 182 = .ok (.invokestatic 51, 3) := by decide +kernel
theorem dX2_one_185 : decode cX2_one 185 = .ok (.lreturn, 1) := by decide +kernel
theorem dX2_one_186 : decode cX2_one 186 = .ok (.lload_n 1, 1) := by decide +kernel
theorem dX2_one_187 : decode cX2_one 187 = .ok (.l2i, 1) := by decide +kernel
theorem dX2_one_188 : decode cX2_one 188 = .ok (.i2l, 1) := by decide +kernel
theorem dX2_one_189 : decode cX2_one 189 = .ok (.lreturn, 1) := by decide +kernel
theorem dX2_one_190 : decode cX2_one 190 = .ok (.lload_n 1, 1) := by decide +kernel
theorem dX2_one_191 : decode cX2_one 191 = .ok (.lreturn, 1) := by decide +kernel
theorem dX2_one_192 : decode cX2_one 192 = .ok (.lload_n 1, 1) := by decide +kernel
theorem dX2_one_193 : decode cX2_one 193 = .ok (.ldc2_w 38, 3) := by decide +kernel
theorem dX2_one_196 : decode cX2_one 196 = .ok (.land, 1) := by decide +kernel
theorem dX2_one_197 : decode cX2_one 197 = .ok (.lreturn, 1) := by decide +kernel
theorem dX2_one_198 : decode cX2_one 198 = .ok (.lload_n 1, 1) := by decide +kernel
theorem dX2_one_199 : decode cX2_one 199 = .ok (.l2i, 1) := by decide +kernel
theorem dX2_one_200 : decode cX2_one 200 = .ok (.i2b, 1) := by decide +kernel
theorem dX2_one_201 : decode cX2_one 201 = .ok (.i2l, 1) := by decide +kernel
theorem dX2_one_202 : decode cX2_one 202 = .ok (.lreturn, 1) := by decide +kernel
theorem dX2_one_203 : decode cX2_one 203 = .ok (.lload_n 1, 1) := by decide +kernel
theorem dX2_one_204 : decode cX2_one 204 = .ok (.l2i, 1) := by decide +kernel
theorem dX2_one_205 : decode cX2_one 205 = .ok (.i2s, 1) := by decide +kernel
theorem dX2_one_206 : decode cX2_one 206 = .ok (.i2l, 1) := by decide +kernel
theorem dX2_one_207 : decode cX2_one 207 = .ok (.lreturn, 1) := by decide +kernel
theorem dX2_one_208 : decode cX2_one 208 = .ok (.lload_n 1, 1) := by decide +kernel
theorem dX2_one_209 : decode cX2_one 209 = .ok (.l2i, 1) := by decide +kernel
theorem dX2_one_210 : decode cX2_one 210 = .ok (.i2l, 1) := by decide +kernel
theorem dX2_one_211 : decode cX2_one 211 = .ok (.lreturn, 1) := by decide +kernel
set_option maxHeartbeats 4000000 in
set_option maxRecDepth 100000 in
theorem mt_X2_one (l : Launch) (a0 : Int32) (a1 : Int64) : Met l yX2_one (ws_ yX2_one cX2_one 3 (some .long)) ({ frames := 1, cells := 0, slots := 0, locals := 24 } : Room) (fun v _ => v = ([.int a0, .long a1] : List Value).toArray) (QcReadL (g_X2_one a0 a1)) 0 0 (fun _ => False) := by
  refine Met.ofW (cc := cX2_one) (maxL := 3) (ret := (some .long)) (by decide) rfl ?_
  intro p e s m args below meth c s₁ B hml hv
  obtain rfl : args = ([.int a0, .long a1] : List Value).toArray := hv
  have hx := B.exec
  have hb := B.bytes
  have hr := B.returns
  have hts := atoms_spec (ws := (ws_ yX2_one cX2_one 3 (some .long))) B.pre
  have hts : ∀ w ∈ lw_all, w.before _ s = true := fun w h => hts w (List.mem_cons_of_mem _ h)
  have hown : s.vm.findClass RX2 = some m.cls := findClass_of_methodNamed B.named
  have hlocks := B.notSynchronized
  obtain ⟨R, hR⟩ : ∃ R, R = g_X2_one a0 a1 := ⟨_, rfl⟩
  rw [← hR]
  have hl := lv_entry ([.int a0, .long a1] : List Value) (n := 3) (Nat.le_of_ble_eq_true rfl)
  rw [lg_entry_eq]
  generalize (lg_sl ([.int a0, .long a1] : List Value) ++ List.replicate (3 - (lg_sl ([.int a0, .long a1] : List Value)).length) Slot.unset).toArray = ls at hl ⊢
  have hl : lv_has ls 3 [(0, .int a0), (1, .long a1)] := hl
  unfold g_X2_one at hR
  refine lv_iload_n hx hb dX2_one_0 rfl (lv_at hl 0 rfl) ?_
  by_cases hk69 : a0 = 69
  · have hR := hR.trans (if_pos hk69)
    refine lv_lookup (off := 131) (tgt := 132) hx hb dX2_one_1 (by decide) (by rw [hk69]; rfl) (by decide) ?_
    refine lv_lload_n hx hb dX2_one_132 rfl (lv_at hl 1 rfl) ?_
    refine lv_lconst (v := 0) hx hb dX2_one_133 (by decide) ?_
    refine W.lcmp hx hb dX2_one_134 ?_
    refine lv_if_ne (tgt := 142) hx hb dX2_one_135 (by decide) (fun hc135 => ?_) (fun hc135 => ?_)
    · have hR := hR.trans (if_neg hc135)
      refine lv_lconst (v := 0) hx hb dX2_one_142 (by decide) ?_
      exact W.lret (v := 0) hx hb hr (fun t ht hW => jr_l hR ht) jnil dX2_one_143
    · have hR := hR.trans (if_pos hc135)
      refine lv_lconst (v := 1) hx hb dX2_one_138 (by decide) ?_
      refine lv_goto (tgt := 143) hx hb dX2_one_139 (by decide) ?_
      exact W.lret (v := 1) hx hb hr (fun t ht hW => jr_l hR ht) jnil dX2_one_143
  have hR := hR.trans (if_neg hk69)
  by_cases hk80 : a0 = 80
  · have hR := hR.trans (if_pos hk80)
    refine lv_lookup (off := 131) (tgt := 132) hx hb dX2_one_1 (by decide) (by rw [hk80]; rfl) (by decide) ?_
    refine lv_lload_n hx hb dX2_one_132 rfl (lv_at hl 1 rfl) ?_
    refine lv_lconst (v := 0) hx hb dX2_one_133 (by decide) ?_
    refine W.lcmp hx hb dX2_one_134 ?_
    refine lv_if_ne (tgt := 142) hx hb dX2_one_135 (by decide) (fun hc135 => ?_) (fun hc135 => ?_)
    · have hR := hR.trans (if_neg hc135)
      refine lv_lconst (v := 0) hx hb dX2_one_142 (by decide) ?_
      exact W.lret (v := 0) hx hb hr (fun t ht hW => jr_l hR ht) jnil dX2_one_143
    · have hR := hR.trans (if_pos hc135)
      refine lv_lconst (v := 1) hx hb dX2_one_138 (by decide) ?_
      refine lv_goto (tgt := 143) hx hb dX2_one_139 (by decide) ?_
      exact W.lret (v := 1) hx hb hr (fun t ht hW => jr_l hR ht) jnil dX2_one_143
  have hR := hR.trans (if_neg hk80)
  by_cases hk103 : a0 = 103
  · have hR := hR.trans (if_pos hk103)
    refine lv_lookup (off := 143) (tgt := 144) hx hb dX2_one_1 (by decide) (by rw [hk103]; rfl) (by decide) ?_
    refine lv_lload_n hx hb dX2_one_144 rfl (lv_at hl 1 rfl) ?_
    refine lv_bipush (v := 32) hx hb dX2_one_145 (by decide) ?_
    refine jw_callJ (W.runS (As := [.long a1, .int 32]) (rest := []) ⟨hx, hb, hml, hown, hts⟩ (mt_X2_leading l a1 32) (va_cwS 2 hts (lw_S q80 q81 q6 q82) rfl rfl rfl (by decide +kernel) ⟨Nat.le_of_ble_eq_true rfl, Nat.le_of_ble_eq_true rfl⟩) preEq rfl rfl hl.1 rfl (lv_room (Nat.le_of_ble_eq_true rfl)) dX2_one_147 ⟨Nat.le_of_ble_eq_true rfl, Nat.le_of_ble_eq_true rfl⟩) ?_
    exact W.lret (v := (g_X2_leading a1 32)) hx hb hr (fun t ht hW => jr_l hR ht) jnil dX2_one_150
  have hR := hR.trans (if_neg hk103)
  by_cases hk104 : a0 = 104
  · have hR := hR.trans (if_pos hk104)
    refine lv_lookup (off := 150) (tgt := 151) hx hb dX2_one_1 (by decide) (by rw [hk104]; rfl) (by decide) ?_
    refine lv_lload_n hx hb dX2_one_151 rfl (lv_at hl 1 rfl) ?_
    refine lv_bipush (v := 32) hx hb dX2_one_152 (by decide) ?_
    refine jw_callJ (W.runS (As := [.long a1, .int 32]) (rest := []) ⟨hx, hb, hml, hown, hts⟩ (mt_X2_trailing l a1 32) (va_cwS 2 hts (lw_S q83 q84 q6 q85) rfl rfl rfl (by decide +kernel) ⟨Nat.le_of_ble_eq_true rfl, Nat.le_of_ble_eq_true rfl⟩) preEq rfl rfl hl.1 rfl (lv_room (Nat.le_of_ble_eq_true rfl)) dX2_one_154 ⟨Nat.le_of_ble_eq_true rfl, Nat.le_of_ble_eq_true rfl⟩) ?_
    exact W.lret (v := (g_X2_trailing a1 32)) hx hb hr (fun t ht hW => jr_l hR ht) jnil dX2_one_157
  have hR := hR.trans (if_neg hk104)
  by_cases hk105 : a0 = 105
  · have hR := hR.trans (if_pos hk105)
    refine lv_lookup (off := 157) (tgt := 158) hx hb dX2_one_1 (by decide) (by rw [hk105]; rfl) (by decide) ?_
    refine lv_lload_n hx hb dX2_one_158 rfl (lv_at hl 1 rfl) ?_
    refine lv_bipush (v := 32) hx hb dX2_one_159 (by decide) ?_
    refine jw_callJ (W.runS (As := [.long a1, .int 32]) (rest := []) ⟨hx, hb, hml, hown, hts⟩ (mt_X2_ones l a1 32) (va_cwS 2 hts (lw_S q86 q87 q6 q88) rfl rfl rfl (by decide +kernel) ⟨Nat.le_of_ble_eq_true rfl, Nat.le_of_ble_eq_true rfl⟩) preEq rfl rfl hl.1 rfl (lv_room (Nat.le_of_ble_eq_true rfl)) dX2_one_161 ⟨Nat.le_of_ble_eq_true rfl, Nat.le_of_ble_eq_true rfl⟩) ?_
    exact W.lret (v := (g_X2_ones a1 32)) hx hb hr (fun t ht hW => jr_l hR ht) jnil dX2_one_164
  have hR := hR.trans (if_neg hk105)
  by_cases hk121 : a0 = 121
  · have hR := hR.trans (if_pos hk121)
    refine lv_lookup (off := 164) (tgt := 165) hx hb dX2_one_1 (by decide) (by rw [hk121]; rfl) (by decide) ?_
    refine lv_lload_n hx hb dX2_one_165 rfl (lv_at hl 1 rfl) ?_
    refine lv_bipush (v := 64) hx hb dX2_one_166 (by decide) ?_
    refine jw_callJ (W.runS (As := [.long a1, .int 64]) (rest := []) ⟨hx, hb, hml, hown, hts⟩ (mt_X2_leading l a1 64) (va_cwS 2 hts (lw_S q80 q81 q6 q82) rfl rfl rfl (by decide +kernel) ⟨Nat.le_of_ble_eq_true rfl, Nat.le_of_ble_eq_true rfl⟩) preEq rfl rfl hl.1 rfl (lv_room (Nat.le_of_ble_eq_true rfl)) dX2_one_168 ⟨Nat.le_of_ble_eq_true rfl, Nat.le_of_ble_eq_true rfl⟩) ?_
    exact W.lret (v := (g_X2_leading a1 64)) hx hb hr (fun t ht hW => jr_l hR ht) jnil dX2_one_171
  have hR := hR.trans (if_neg hk121)
  by_cases hk122 : a0 = 122
  · have hR := hR.trans (if_pos hk122)
    refine lv_lookup (off := 171) (tgt := 172) hx hb dX2_one_1 (by decide) (by rw [hk122]; rfl) (by decide) ?_
    refine lv_lload_n hx hb dX2_one_172 rfl (lv_at hl 1 rfl) ?_
    refine lv_bipush (v := 64) hx hb dX2_one_173 (by decide) ?_
    refine jw_callJ (W.runS (As := [.long a1, .int 64]) (rest := []) ⟨hx, hb, hml, hown, hts⟩ (mt_X2_trailing l a1 64) (va_cwS 2 hts (lw_S q83 q84 q6 q85) rfl rfl rfl (by decide +kernel) ⟨Nat.le_of_ble_eq_true rfl, Nat.le_of_ble_eq_true rfl⟩) preEq rfl rfl hl.1 rfl (lv_room (Nat.le_of_ble_eq_true rfl)) dX2_one_175 ⟨Nat.le_of_ble_eq_true rfl, Nat.le_of_ble_eq_true rfl⟩) ?_
    exact W.lret (v := (g_X2_trailing a1 64)) hx hb hr (fun t ht hW => jr_l hR ht) jnil dX2_one_178
  have hR := hR.trans (if_neg hk122)
  by_cases hk123 : a0 = 123
  · have hR := hR.trans (if_pos hk123)
    refine lv_lookup (off := 178) (tgt := 179) hx hb dX2_one_1 (by decide) (by rw [hk123]; rfl) (by decide) ?_
    refine lv_lload_n hx hb dX2_one_179 rfl (lv_at hl 1 rfl) ?_
    refine lv_bipush (v := 64) hx hb dX2_one_180 (by decide) ?_
    refine jw_callJ (W.runS (As := [.long a1, .int 64]) (rest := []) ⟨hx, hb, hml, hown, hts⟩ (mt_X2_ones l a1 64) (va_cwS 2 hts (lw_S q86 q87 q6 q88) rfl rfl rfl (by decide +kernel) ⟨Nat.le_of_ble_eq_true rfl, Nat.le_of_ble_eq_true rfl⟩) preEq rfl rfl hl.1 rfl (lv_room (Nat.le_of_ble_eq_true rfl)) dX2_one_182 ⟨Nat.le_of_ble_eq_true rfl, Nat.le_of_ble_eq_true rfl⟩) ?_
    exact W.lret (v := (g_X2_ones a1 64)) hx hb hr (fun t ht hW => jr_l hR ht) jnil dX2_one_185
  have hR := hR.trans (if_neg hk123)
  by_cases hk167 : a0 = 167
  · have hR := hR.trans (if_pos hk167)
    refine lv_lookup (off := 185) (tgt := 186) hx hb dX2_one_1 (by decide) (by rw [hk167]; rfl) (by decide) ?_
    refine lv_lload_n hx hb dX2_one_186 rfl (lv_at hl 1 rfl) ?_
    refine lv_l2i (v := a1.toInt32) hx hb dX2_one_187 rfl ?_
    refine lv_i2l (v := (a1.toInt32).toInt64) hx hb dX2_one_188 rfl ?_
    exact W.lret (v := ((a1.toInt32).toInt64)) hx hb hr (fun t ht hW => jr_l hR ht) jnil dX2_one_189
  have hR := hR.trans (if_neg hk167)
  by_cases hk172 : a0 = 172
  · have hR := hR.trans (if_pos hk172)
    refine lv_lookup (off := 189) (tgt := 190) hx hb dX2_one_1 (by decide) (by rw [hk172]; rfl) (by decide) ?_
    refine lv_lload_n hx hb dX2_one_190 rfl (lv_at hl 1 rfl) ?_
    exact W.lret (v := a1) hx hb hr (fun t ht hW => jr_l hR ht) jnil dX2_one_191
  have hR := hR.trans (if_neg hk172)
  by_cases hk173 : a0 = 173
  · have hR := hR.trans (if_pos hk173)
    refine lv_lookup (off := 191) (tgt := 192) hx hb dX2_one_1 (by decide) (by rw [hk173]; rfl) (by decide) ?_
    refine lv_lload_n hx hb dX2_one_192 rfl (lv_at hl 1 rfl) ?_
    refine lv_ldc2 (v := 4294967295) hx hb hown (hts _ q70) dX2_one_193 ?_
    refine lv_land hx hb dX2_one_196 ?_
    exact W.lret (v := (a1 &&& 4294967295)) hx hb hr (fun t ht hW => jr_l hR ht) jnil dX2_one_197
  have hR := hR.trans (if_neg hk173)
  by_cases hk192 : a0 = 192
  · have hR := hR.trans (if_pos hk192)
    refine lv_lookup (off := 197) (tgt := 198) hx hb dX2_one_1 (by decide) (by rw [hk192]; rfl) (by decide) ?_
    refine lv_lload_n hx hb dX2_one_198 rfl (lv_at hl 1 rfl) ?_
    refine lv_l2i (v := a1.toInt32) hx hb dX2_one_199 rfl ?_
    refine lv_i2b (v := (a1.toInt32).toInt8.toInt32) hx hb dX2_one_200 rfl ?_
    refine lv_i2l (v := ((a1.toInt32).toInt8.toInt32).toInt64) hx hb dX2_one_201 rfl ?_
    exact W.lret (v := (((a1.toInt32).toInt8.toInt32).toInt64)) hx hb hr (fun t ht hW => jr_l hR ht) jnil dX2_one_202
  have hR := hR.trans (if_neg hk192)
  by_cases hk193 : a0 = 193
  · have hR := hR.trans (if_pos hk193)
    refine lv_lookup (off := 202) (tgt := 203) hx hb dX2_one_1 (by decide) (by rw [hk193]; rfl) (by decide) ?_
    refine lv_lload_n hx hb dX2_one_203 rfl (lv_at hl 1 rfl) ?_
    refine lv_l2i (v := a1.toInt32) hx hb dX2_one_204 rfl ?_
    refine lv_i2s (v := (a1.toInt32).toInt16.toInt32) hx hb dX2_one_205 rfl ?_
    refine lv_i2l (v := ((a1.toInt32).toInt16.toInt32).toInt64) hx hb dX2_one_206 rfl ?_
    exact W.lret (v := (((a1.toInt32).toInt16.toInt32).toInt64)) hx hb hr (fun t ht hW => jr_l hR ht) jnil dX2_one_207
  have hR := hR.trans (if_neg hk193)
  by_cases hk194 : a0 = 194
  · have hR := hR.trans (if_pos hk194)
    refine lv_lookup (off := 197) (tgt := 198) hx hb dX2_one_1 (by decide) (by rw [hk194]; rfl) (by decide) ?_
    refine lv_lload_n hx hb dX2_one_198 rfl (lv_at hl 1 rfl) ?_
    refine lv_l2i (v := a1.toInt32) hx hb dX2_one_199 rfl ?_
    refine lv_i2b (v := (a1.toInt32).toInt8.toInt32) hx hb dX2_one_200 rfl ?_
    refine lv_i2l (v := ((a1.toInt32).toInt8.toInt32).toInt64) hx hb dX2_one_201 rfl ?_
    exact W.lret (v := (((a1.toInt32).toInt8.toInt32).toInt64)) hx hb hr (fun t ht hW => jr_l hR ht) jnil dX2_one_202
  have hR := hR.trans (if_neg hk194)
  by_cases hk195 : a0 = 195
  · have hR := hR.trans (if_pos hk195)
    refine lv_lookup (off := 202) (tgt := 203) hx hb dX2_one_1 (by decide) (by rw [hk195]; rfl) (by decide) ?_
    refine lv_lload_n hx hb dX2_one_203 rfl (lv_at hl 1 rfl) ?_
    refine lv_l2i (v := a1.toInt32) hx hb dX2_one_204 rfl ?_
    refine lv_i2s (v := (a1.toInt32).toInt16.toInt32) hx hb dX2_one_205 rfl ?_
    refine lv_i2l (v := ((a1.toInt32).toInt16.toInt32).toInt64) hx hb dX2_one_206 rfl ?_
    exact W.lret (v := (((a1.toInt32).toInt16.toInt32).toInt64)) hx hb hr (fun t ht hW => jr_l hR ht) jnil dX2_one_207
  have hR := hR.trans (if_neg hk195)
  refine lv_lookup (off := 207) (tgt := 208) hx hb dX2_one_1 (by decide) (by show Op.lookupswitch.offset [(69, 131), (80, 131), (103, 143), (104, 150), (105, 157), (121, 164), (122, 171), (123, 178), (167, 185), (172, 189), (173, 191), (192, 197), (193, 202), (194, 197), (195, 202)] 207 _ = 207; rw [lv_osw hk69 (by decide), lv_osw hk80 (by decide), lv_osw hk103 (by decide), lv_osw hk104 (by decide), lv_osw hk105 (by decide), lv_osw hk121 (by decide), lv_osw hk122 (by decide), lv_osw hk123 (by decide), lv_osw hk167 (by decide), lv_osw hk172 (by decide), lv_osw hk173 (by decide), lv_osw hk192 (by decide), lv_osw hk193 (by decide), lv_osw hk194 (by decide), lv_osw hk195 (by decide)]; rfl) (by decide) ?_
  refine lv_lload_n hx hb dX2_one_208 rfl (lv_at hl 1 rfl) ?_
  refine lv_l2i (v := a1.toInt32) hx hb dX2_one_209 rfl ?_
  refine lv_i2l (v := (a1.toInt32).toInt64) hx hb dX2_one_210 rfl ?_
  exact W.lret (v := ((a1.toInt32).toInt64)) hx hb hr (fun t ht hW => jr_l hR ht) jnil dX2_one_211
end
section
set_option maxRecDepth 100000
abbrev cX1_isLongs : ByteArray := prog_4_method_3_code
def yX1_isLongs : MethodName := ⟨RX1, "isLongs", "(I)Z"⟩
theorem dX1_isLongs_0 : decode cX1_isLongs 0 = .ok (.iload_n 0, 1) := by decide +kernel
theorem dX1_isLongs_1 : decode cX1_isLongs 1 = .ok (.bipush 80, 2) := by decide +kernel
theorem dX1_isLongs_3 : decode cX1_isLongs 3 = .ok (.if_icmp .lt 9, 3) := by decide +kernel
theorem dX1_isLongs_6 : decode cX1_isLongs 6 = .ok (.iload_n 0, 1) := by decide +kernel
theorem dX1_isLongs_7 : decode cX1_isLongs 7 = .ok (.bipush 90, 2) := by decide +kernel
theorem dX1_isLongs_9 : decode cX1_isLongs 9 = .ok (.if_icmp .le 37, 3) := by decide +kernel
theorem dX1_isLongs_12 : decode cX1_isLongs 12 = .ok (.iload_n 0, 1) := by decide +kernel
theorem dX1_isLongs_13 : decode cX1_isLongs 13 = .ok (.bipush 121, 2) := by decide +kernel
theorem dX1_isLongs_15 : decode cX1_isLongs 15 = .ok (.if_icmp .lt 10, 3) := by decide +kernel
theorem dX1_isLongs_18 : decode cX1_isLongs 18 = .ok (.iload_n 0, 1) := by decide +kernel
theorem dX1_isLongs_19 : decode cX1_isLongs 19 = .ok (.sipush 138, 3) := by decide +kernel
theorem dX1_isLongs_22 : decode cX1_isLongs 22 = .ok (.if_icmp .le 24, 3) := by decide +kernel
theorem dX1_isLongs_25 : decode cX1_isLongs 25 = .ok (.iload_n 0, 1) := by decide +kernel
theorem dX1_isLongs_26 : decode cX1_isLongs 26 = .ok (.sipush 167, 3) := by decide +kernel
theorem dX1_isLongs_29 : decode cX1_isLongs 29 = .ok (.if_icmp .eq 17, 3) := by decide +kernel
theorem dX1_isLongs_32 : decode cX1_isLongs 32 = .ok (.iload_n 0, 1) := by decide +kernel
theorem dX1_isLongs_33 : decode cX1_isLongs 33 = .ok (.sipush 194, 3) := by decide +kernel
theorem dX1_isLongs_36 : decode cX1_isLongs 36 = .ok (.if_icmp .lt 14, 3) := by decide +kernel
theorem dX1_isLongs_39 : decode cX1_isLongs 39 = .ok (.iload_n 0, 1) := by decide +kernel
theorem dX1_isLongs_40 : decode cX1_isLongs 40 = .ok (.sipush 196, 3) := by decide +kernel
theorem dX1_isLongs_43 : decode cX1_isLongs 43 = .ok (.if_icmp .gt 7, 3) := by decide +kernel
theorem dX1_isLongs_46 : decode cX1_isLongs 46 = .ok (.iconst 1, 1) := by decide +kernel
theorem dX1_isLongs_47 : decode cX1_isLongs 47 = .ok (.goto 4, 3) := by decide +kernel
theorem dX1_isLongs_50 : decode cX1_isLongs 50 = .ok (.iconst 0, 1) := by decide +kernel
theorem dX1_isLongs_51 : decode cX1_isLongs 51 = .ok (.ireturn, 1) := by decide +kernel
set_option maxHeartbeats 4000000 in
set_option maxRecDepth 100000 in
theorem mt_X1_isLongs (l : Launch) (a0 : Int32) : Met l yX1_isLongs (ws_ yX1_isLongs cX1_isLongs 1 (some .boolean)) ({ frames := 0, cells := 0, slots := 0, locals := 0 } : Room) (fun v _ => v = ([.int a0] : List Value).toArray) (QcRead (bi (g_X1_isLongs a0))) 0 0 (fun _ => False) := by
  refine Met.ofW (cc := cX1_isLongs) (maxL := 1) (ret := (some .boolean)) (by decide) rfl ?_
  intro p e s m args below meth c s₁ B hml hv
  obtain rfl : args = ([.int a0] : List Value).toArray := hv
  have hx := B.exec
  have hb := B.bytes
  have hr := B.returns
  have hts := atoms_spec (ws := (ws_ yX1_isLongs cX1_isLongs 1 (some .boolean))) B.pre
  have hts : ∀ w ∈ lw_all, w.before _ s = true := fun w h => hts w (List.mem_cons_of_mem _ h)
  have hown : s.vm.findClass RX1 = some m.cls := findClass_of_methodNamed B.named
  have hlocks := B.notSynchronized
  obtain ⟨R, hR⟩ : ∃ R, R = g_X1_isLongs a0 := ⟨_, rfl⟩
  rw [← hR]
  have hl := lv_entry ([.int a0] : List Value) (n := 1) (Nat.le_of_ble_eq_true rfl)
  rw [lg_entry_eq]
  generalize (lg_sl ([.int a0] : List Value) ++ List.replicate (1 - (lg_sl ([.int a0] : List Value)).length) Slot.unset).toArray = ls at hl ⊢
  have hl : lv_has ls 1 [(0, .int a0)] := hl
  have B25 : ∀  (ls : Array Slot), lv_has ls 1 [(0, .int a0)] → R = g_X1_isLongs_25 a0  → W p l e (headSpec (ws_ yX1_isLongs cX1_isLongs 1 (some .boolean)) ({ frames := 0, cells := 0, slots := 0, locals := 0 } : Room)).room s m ([.int a0] : List Value).toArray below meth c s.heap [] 0 0 (MQ below (QcRead (bi R)) ([.int a0] : List Value).toArray s 0 0 (fun _ => False)) (F0 m 25 ls []) := by
    intro  ls hl hR
    unfold g_X1_isLongs_25 at hR
    refine lv_iload_n hx hb dX1_isLongs_25 rfl (lv_at hl 0 rfl) ?_
    refine lv_sipush (v := 167) hx hb dX1_isLongs_26 (by decide) ?_
    refine lv_icmp_eq (tgt := 46) hx hb dX1_isLongs_29 (by decide) (fun hc29 => ?_) (fun hc29 => ?_)
    · have hR := hR.trans (if_pos hc29)
      refine lv_iconst (v := 1) hx hb dX1_isLongs_46 (by decide) ?_
      refine lv_goto (tgt := 51) hx hb dX1_isLongs_47 (by decide) ?_
      exact W.zret (v := 1) hx hb hr rfl (fun t ht hW => jr_z hR rfl ht) jnil dX1_isLongs_51
    · have hR := hR.trans (if_neg hc29)
      refine lv_iload_n hx hb dX1_isLongs_32 rfl (lv_at hl 0 rfl) ?_
      refine lv_sipush (v := 194) hx hb dX1_isLongs_33 (by decide) ?_
      refine lv_icmp_lt (tgt := 50) hx hb dX1_isLongs_36 (by decide) (fun hc36 => ?_) (fun hc36 => ?_)
      · have hR := hR.trans (if_pos hc36)
        refine lv_iconst (v := 0) hx hb dX1_isLongs_50 (by decide) ?_
        exact W.zret (v := 0) hx hb hr rfl (fun t ht hW => jr_z hR rfl ht) jnil dX1_isLongs_51
      · have hR := hR.trans (if_neg hc36)
        refine lv_iload_n hx hb dX1_isLongs_39 rfl (lv_at hl 0 rfl) ?_
        refine lv_sipush (v := 196) hx hb dX1_isLongs_40 (by decide) ?_
        refine lv_icmp_gt (tgt := 50) hx hb dX1_isLongs_43 (by decide) (fun hc43 => ?_) (fun hc43 => ?_)
        · have hR := hR.trans (if_pos hc43)
          refine lv_iconst (v := 0) hx hb dX1_isLongs_50 (by decide) ?_
          exact W.zret (v := 0) hx hb hr rfl (fun t ht hW => jr_z hR rfl ht) jnil dX1_isLongs_51
        · have hR := hR.trans (if_neg hc43)
          refine lv_iconst (v := 1) hx hb dX1_isLongs_46 (by decide) ?_
          refine lv_goto (tgt := 51) hx hb dX1_isLongs_47 (by decide) ?_
          exact W.zret (v := 1) hx hb hr rfl (fun t ht hW => jr_z hR rfl ht) jnil dX1_isLongs_51
  have B12 : ∀  (ls : Array Slot), lv_has ls 1 [(0, .int a0)] → R = g_X1_isLongs_12 a0  → W p l e (headSpec (ws_ yX1_isLongs cX1_isLongs 1 (some .boolean)) ({ frames := 0, cells := 0, slots := 0, locals := 0 } : Room)).room s m ([.int a0] : List Value).toArray below meth c s.heap [] 0 0 (MQ below (QcRead (bi R)) ([.int a0] : List Value).toArray s 0 0 (fun _ => False)) (F0 m 12 ls []) := by
    intro  ls hl hR
    unfold g_X1_isLongs_12 at hR
    refine lv_iload_n hx hb dX1_isLongs_12 rfl (lv_at hl 0 rfl) ?_
    refine lv_bipush (v := 121) hx hb dX1_isLongs_13 (by decide) ?_
    refine lv_icmp_lt (tgt := 25) hx hb dX1_isLongs_15 (by decide) (fun hc15 => ?_) (fun hc15 => ?_)
    · have hR := hR.trans (if_pos hc15)
      exact B25  ls (lv_sub hl [0] rfl) hR
    · have hR := hR.trans (if_neg hc15)
      refine lv_iload_n hx hb dX1_isLongs_18 rfl (lv_at hl 0 rfl) ?_
      refine lv_sipush (v := 138) hx hb dX1_isLongs_19 (by decide) ?_
      refine lv_icmp_le (tgt := 46) hx hb dX1_isLongs_22 (by decide) (fun hc22 => ?_) (fun hc22 => ?_)
      · have hR := hR.trans (if_pos hc22)
        refine lv_iconst (v := 1) hx hb dX1_isLongs_46 (by decide) ?_
        refine lv_goto (tgt := 51) hx hb dX1_isLongs_47 (by decide) ?_
        exact W.zret (v := 1) hx hb hr rfl (fun t ht hW => jr_z hR rfl ht) jnil dX1_isLongs_51
      · have hR := hR.trans (if_neg hc22)
        exact B25  ls (lv_sub hl [0] rfl) hR
  unfold g_X1_isLongs at hR
  refine lv_iload_n hx hb dX1_isLongs_0 rfl (lv_at hl 0 rfl) ?_
  refine lv_bipush (v := 80) hx hb dX1_isLongs_1 (by decide) ?_
  refine lv_icmp_lt (tgt := 12) hx hb dX1_isLongs_3 (by decide) (fun hc3 => ?_) (fun hc3 => ?_)
  · have hR := hR.trans (if_pos hc3)
    exact B12  ls (lv_sub hl [0] rfl) hR
  · have hR := hR.trans (if_neg hc3)
    refine lv_iload_n hx hb dX1_isLongs_6 rfl (lv_at hl 0 rfl) ?_
    refine lv_bipush (v := 90) hx hb dX1_isLongs_7 (by decide) ?_
    refine lv_icmp_le (tgt := 46) hx hb dX1_isLongs_9 (by decide) (fun hc9 => ?_) (fun hc9 => ?_)
    · have hR := hR.trans (if_pos hc9)
      refine lv_iconst (v := 1) hx hb dX1_isLongs_46 (by decide) ?_
      refine lv_goto (tgt := 51) hx hb dX1_isLongs_47 (by decide) ?_
      exact W.zret (v := 1) hx hb hr rfl (fun t ht hW => jr_z hR rfl ht) jnil dX1_isLongs_51
    · have hR := hR.trans (if_neg hc9)
      exact B12  ls (lv_sub hl [0] rfl) hR
abbrev cX1_isInts : ByteArray := prog_4_method_4_code
def yX1_isInts : MethodName := ⟨RX1, "isInts", "(I)Z"⟩
theorem dX1_isInts_0 : decode cX1_isInts 0 = .ok (.iload_n 0, 1) := by decide +kernel
theorem dX1_isInts_1 : decode cX1_isInts 1 = .ok (.bipush 69, 2) := by decide +kernel
theorem dX1_isInts_3 : decode cX1_isInts 3 = .ok (.if_icmp .lt 9, 3) := by decide +kernel
theorem dX1_isInts_6 : decode cX1_isInts 6 = .ok (.iload_n 0, 1) := by decide +kernel
theorem dX1_isInts_7 : decode cX1_isInts 7 = .ok (.bipush 79, 2) := by decide +kernel
theorem dX1_isInts_9 : decode cX1_isInts 9 = .ok (.if_icmp .le 43, 3) := by decide +kernel
theorem dX1_isInts_12 : decode cX1_isInts 12 = .ok (.iload_n 0, 1) := by decide +kernel
theorem dX1_isInts_13 : decode cX1_isInts 13 = .ok (.bipush 103, 2) := by decide +kernel
theorem dX1_isInts_15 : decode cX1_isInts 15 = .ok (.if_icmp .lt 9, 3) := by decide +kernel
theorem dX1_isInts_18 : decode cX1_isInts 18 = .ok (.iload_n 0, 1) := by decide +kernel
theorem dX1_isInts_19 : decode cX1_isInts 19 = .ok (.bipush 120, 2) := by decide +kernel
theorem dX1_isInts_21 : decode cX1_isInts 21 = .ok (.if_icmp .le 31, 3) := by decide +kernel
theorem dX1_isInts_24 : decode cX1_isInts 24 = .ok (.iload_n 0, 1) := by decide +kernel
theorem dX1_isInts_25 : decode cX1_isInts 25 = .ok (.sipush 172, 3) := by decide +kernel
theorem dX1_isInts_28 : decode cX1_isInts 28 = .ok (.if_icmp .eq 24, 3) := by decide +kernel
theorem dX1_isInts_31 : decode cX1_isInts 31 = .ok (.iload_n 0, 1) := by decide +kernel
theorem dX1_isInts_32 : decode cX1_isInts 32 = .ok (.sipush 173, 3) := by decide +kernel
theorem dX1_isInts_35 : decode cX1_isInts 35 = .ok (.if_icmp .eq 17, 3) := by decide +kernel
theorem dX1_isInts_38 : decode cX1_isInts 38 = .ok (.iload_n 0, 1) := by decide +kernel
theorem dX1_isInts_39 : decode cX1_isInts 39 = .ok (.sipush 192, 3) := by decide +kernel
theorem dX1_isInts_42 : decode cX1_isInts 42 = .ok (.if_icmp .eq 10, 3) := by decide +kernel
theorem dX1_isInts_45 : decode cX1_isInts 45 = .ok (.iload_n 0, 1) := by decide +kernel
theorem dX1_isInts_46 : decode cX1_isInts 46 = .ok (.sipush 193, 3) := by decide +kernel
theorem dX1_isInts_49 : decode cX1_isInts 49 = .ok (.if_icmp .ne 7, 3) := by decide +kernel
theorem dX1_isInts_52 : decode cX1_isInts 52 = .ok (.iconst 1, 1) := by decide +kernel
theorem dX1_isInts_53 : decode cX1_isInts 53 = .ok (.goto 4, 3) := by decide +kernel
theorem dX1_isInts_56 : decode cX1_isInts 56 = .ok (.iconst 0, 1) := by decide +kernel
theorem dX1_isInts_57 : decode cX1_isInts 57 = .ok (.ireturn, 1) := by decide +kernel
set_option maxHeartbeats 4000000 in
set_option maxRecDepth 100000 in
theorem mt_X1_isInts (l : Launch) (a0 : Int32) : Met l yX1_isInts (ws_ yX1_isInts cX1_isInts 1 (some .boolean)) ({ frames := 0, cells := 0, slots := 0, locals := 0 } : Room) (fun v _ => v = ([.int a0] : List Value).toArray) (QcRead (bi (g_X1_isInts a0))) 0 0 (fun _ => False) := by
  refine Met.ofW (cc := cX1_isInts) (maxL := 1) (ret := (some .boolean)) (by decide) rfl ?_
  intro p e s m args below meth c s₁ B hml hv
  obtain rfl : args = ([.int a0] : List Value).toArray := hv
  have hx := B.exec
  have hb := B.bytes
  have hr := B.returns
  have hts := atoms_spec (ws := (ws_ yX1_isInts cX1_isInts 1 (some .boolean))) B.pre
  have hts : ∀ w ∈ lw_all, w.before _ s = true := fun w h => hts w (List.mem_cons_of_mem _ h)
  have hown : s.vm.findClass RX1 = some m.cls := findClass_of_methodNamed B.named
  have hlocks := B.notSynchronized
  obtain ⟨R, hR⟩ : ∃ R, R = g_X1_isInts a0 := ⟨_, rfl⟩
  rw [← hR]
  have hl := lv_entry ([.int a0] : List Value) (n := 1) (Nat.le_of_ble_eq_true rfl)
  rw [lg_entry_eq]
  generalize (lg_sl ([.int a0] : List Value) ++ List.replicate (1 - (lg_sl ([.int a0] : List Value)).length) Slot.unset).toArray = ls at hl ⊢
  have hl : lv_has ls 1 [(0, .int a0)] := hl
  have B24 : ∀  (ls : Array Slot), lv_has ls 1 [(0, .int a0)] → R = g_X1_isInts_24 a0  → W p l e (headSpec (ws_ yX1_isInts cX1_isInts 1 (some .boolean)) ({ frames := 0, cells := 0, slots := 0, locals := 0 } : Room)).room s m ([.int a0] : List Value).toArray below meth c s.heap [] 0 0 (MQ below (QcRead (bi R)) ([.int a0] : List Value).toArray s 0 0 (fun _ => False)) (F0 m 24 ls []) := by
    intro  ls hl hR
    unfold g_X1_isInts_24 at hR
    refine lv_iload_n hx hb dX1_isInts_24 rfl (lv_at hl 0 rfl) ?_
    refine lv_sipush (v := 172) hx hb dX1_isInts_25 (by decide) ?_
    refine lv_icmp_eq (tgt := 52) hx hb dX1_isInts_28 (by decide) (fun hc28 => ?_) (fun hc28 => ?_)
    · have hR := hR.trans (if_pos hc28)
      refine lv_iconst (v := 1) hx hb dX1_isInts_52 (by decide) ?_
      refine lv_goto (tgt := 57) hx hb dX1_isInts_53 (by decide) ?_
      exact W.zret (v := 1) hx hb hr rfl (fun t ht hW => jr_z hR rfl ht) jnil dX1_isInts_57
    · have hR := hR.trans (if_neg hc28)
      refine lv_iload_n hx hb dX1_isInts_31 rfl (lv_at hl 0 rfl) ?_
      refine lv_sipush (v := 173) hx hb dX1_isInts_32 (by decide) ?_
      refine lv_icmp_eq (tgt := 52) hx hb dX1_isInts_35 (by decide) (fun hc35 => ?_) (fun hc35 => ?_)
      · have hR := hR.trans (if_pos hc35)
        refine lv_iconst (v := 1) hx hb dX1_isInts_52 (by decide) ?_
        refine lv_goto (tgt := 57) hx hb dX1_isInts_53 (by decide) ?_
        exact W.zret (v := 1) hx hb hr rfl (fun t ht hW => jr_z hR rfl ht) jnil dX1_isInts_57
      · have hR := hR.trans (if_neg hc35)
        refine lv_iload_n hx hb dX1_isInts_38 rfl (lv_at hl 0 rfl) ?_
        refine lv_sipush (v := 192) hx hb dX1_isInts_39 (by decide) ?_
        refine lv_icmp_eq (tgt := 52) hx hb dX1_isInts_42 (by decide) (fun hc42 => ?_) (fun hc42 => ?_)
        · have hR := hR.trans (if_pos hc42)
          refine lv_iconst (v := 1) hx hb dX1_isInts_52 (by decide) ?_
          refine lv_goto (tgt := 57) hx hb dX1_isInts_53 (by decide) ?_
          exact W.zret (v := 1) hx hb hr rfl (fun t ht hW => jr_z hR rfl ht) jnil dX1_isInts_57
        · have hR := hR.trans (if_neg hc42)
          refine lv_iload_n hx hb dX1_isInts_45 rfl (lv_at hl 0 rfl) ?_
          refine lv_sipush (v := 193) hx hb dX1_isInts_46 (by decide) ?_
          refine lv_icmp_ne (tgt := 56) hx hb dX1_isInts_49 (by decide) (fun hc49 => ?_) (fun hc49 => ?_)
          · have hR := hR.trans (if_neg hc49)
            refine lv_iconst (v := 0) hx hb dX1_isInts_56 (by decide) ?_
            exact W.zret (v := 0) hx hb hr rfl (fun t ht hW => jr_z hR rfl ht) jnil dX1_isInts_57
          · have hR := hR.trans (if_pos hc49)
            refine lv_iconst (v := 1) hx hb dX1_isInts_52 (by decide) ?_
            refine lv_goto (tgt := 57) hx hb dX1_isInts_53 (by decide) ?_
            exact W.zret (v := 1) hx hb hr rfl (fun t ht hW => jr_z hR rfl ht) jnil dX1_isInts_57
  have B12 : ∀  (ls : Array Slot), lv_has ls 1 [(0, .int a0)] → R = g_X1_isInts_12 a0  → W p l e (headSpec (ws_ yX1_isInts cX1_isInts 1 (some .boolean)) ({ frames := 0, cells := 0, slots := 0, locals := 0 } : Room)).room s m ([.int a0] : List Value).toArray below meth c s.heap [] 0 0 (MQ below (QcRead (bi R)) ([.int a0] : List Value).toArray s 0 0 (fun _ => False)) (F0 m 12 ls []) := by
    intro  ls hl hR
    unfold g_X1_isInts_12 at hR
    refine lv_iload_n hx hb dX1_isInts_12 rfl (lv_at hl 0 rfl) ?_
    refine lv_bipush (v := 103) hx hb dX1_isInts_13 (by decide) ?_
    refine lv_icmp_lt (tgt := 24) hx hb dX1_isInts_15 (by decide) (fun hc15 => ?_) (fun hc15 => ?_)
    · have hR := hR.trans (if_pos hc15)
      exact B24  ls (lv_sub hl [0] rfl) hR
    · have hR := hR.trans (if_neg hc15)
      refine lv_iload_n hx hb dX1_isInts_18 rfl (lv_at hl 0 rfl) ?_
      refine lv_bipush (v := 120) hx hb dX1_isInts_19 (by decide) ?_
      refine lv_icmp_le (tgt := 52) hx hb dX1_isInts_21 (by decide) (fun hc21 => ?_) (fun hc21 => ?_)
      · have hR := hR.trans (if_pos hc21)
        refine lv_iconst (v := 1) hx hb dX1_isInts_52 (by decide) ?_
        refine lv_goto (tgt := 57) hx hb dX1_isInts_53 (by decide) ?_
        exact W.zret (v := 1) hx hb hr rfl (fun t ht hW => jr_z hR rfl ht) jnil dX1_isInts_57
      · have hR := hR.trans (if_neg hc21)
        exact B24  ls (lv_sub hl [0] rfl) hR
  unfold g_X1_isInts at hR
  refine lv_iload_n hx hb dX1_isInts_0 rfl (lv_at hl 0 rfl) ?_
  refine lv_bipush (v := 69) hx hb dX1_isInts_1 (by decide) ?_
  refine lv_icmp_lt (tgt := 12) hx hb dX1_isInts_3 (by decide) (fun hc3 => ?_) (fun hc3 => ?_)
  · have hR := hR.trans (if_pos hc3)
    exact B12  ls (lv_sub hl [0] rfl) hR
  · have hR := hR.trans (if_neg hc3)
    refine lv_iload_n hx hb dX1_isInts_6 rfl (lv_at hl 0 rfl) ?_
    refine lv_bipush (v := 79) hx hb dX1_isInts_7 (by decide) ?_
    refine lv_icmp_le (tgt := 52) hx hb dX1_isInts_9 (by decide) (fun hc9 => ?_) (fun hc9 => ?_)
    · have hR := hR.trans (if_pos hc9)
      refine lv_iconst (v := 1) hx hb dX1_isInts_52 (by decide) ?_
      refine lv_goto (tgt := 57) hx hb dX1_isInts_53 (by decide) ?_
      exact W.zret (v := 1) hx hb hr rfl (fun t ht hW => jr_z hR rfl ht) jnil dX1_isInts_57
    · have hR := hR.trans (if_neg hc9)
      exact B12  ls (lv_sub hl [0] rfl) hR
abbrev cX1_isOne : ByteArray := prog_4_method_5_code
def yX1_isOne : MethodName := ⟨RX1, "isOne", "(I)Z"⟩
theorem dX1_isOne_0 : decode cX1_isOne 0 = .ok (.iload_n 0, 1) := by decide +kernel
theorem dX1_isOne_1 : decode cX1_isOne 1 = .ok (.bipush 69, 2) := by decide +kernel
theorem dX1_isOne_3 : decode cX1_isOne 3 = .ok (.if_icmp .eq 40, 3) := by decide +kernel
theorem dX1_isOne_6 : decode cX1_isOne 6 = .ok (.iload_n 0, 1) := by decide +kernel
theorem dX1_isOne_7 : decode cX1_isOne 7 = .ok (.bipush 80, 2) := by decide +kernel
theorem dX1_isOne_9 : decode cX1_isOne 9 = .ok (.if_icmp .eq 34, 3) := by decide +kernel
theorem dX1_isOne_12 : decode cX1_isOne 12 = .ok (.iload_n 0, 1) := by decide +kernel
theorem dX1_isOne_13 : decode cX1_isOne 13 = .ok (.bipush 103, 2) := by decide +kernel
theorem dX1_isOne_15 : decode cX1_isOne 15 = .ok (.if_icmp .lt 9, 3) := by decide +kernel
theorem dX1_isOne_18 : decode cX1_isOne 18 = .ok (.iload_n 0, 1) := by decide +kernel
theorem dX1_isOne_19 : decode cX1_isOne 19 = .ok (.bipush 105, 2) := by decide +kernel
theorem dX1_isOne_21 : decode cX1_isOne 21 = .ok (.if_icmp .le 22, 3) := by decide +kernel
theorem dX1_isOne_24 : decode cX1_isOne 24 = .ok (.iload_n 0, 1) := by decide +kernel
theorem dX1_isOne_25 : decode cX1_isOne 25 = .ok (.bipush 121, 2) := by decide +kernel
theorem dX1_isOne_27 : decode cX1_isOne 27 = .ok (.if_icmp .lt 9, 3) := by decide +kernel
theorem dX1_isOne_30 : decode cX1_isOne 30 = .ok (.iload_n 0, 1) := by decide +kernel
theorem dX1_isOne_31 : decode cX1_isOne 31 = .ok (.bipush 123, 2) := by decide +kernel
theorem dX1_isOne_33 : decode cX1_isOne 33 = .ok (.if_icmp .le 10, 3) := by decide +kernel
theorem dX1_isOne_36 : decode cX1_isOne 36 = .ok (.iload_n 0, 1) := by decide +kernel
theorem dX1_isOne_37 : decode cX1_isOne 37 = .ok (.sipush 167, 3) := by decide +kernel
theorem dX1_isOne_40 : decode cX1_isOne 40 = .ok (.if_icmp .lt 7, 3) := by decide +kernel
theorem dX1_isOne_43 : decode cX1_isOne 43 = .ok (.iconst 1, 1) := by decide +kernel
theorem dX1_isOne_44 : decode cX1_isOne 44 = .ok (.goto 4, 3) := by decide +kernel
theorem dX1_isOne_47 : decode cX1_isOne 47 = .ok (.iconst 0, 1) := by decide +kernel
theorem dX1_isOne_48 : decode cX1_isOne 48 = .ok (.ireturn, 1) := by decide +kernel
set_option maxHeartbeats 4000000 in
set_option maxRecDepth 100000 in
theorem mt_X1_isOne (l : Launch) (a0 : Int32) : Met l yX1_isOne (ws_ yX1_isOne cX1_isOne 1 (some .boolean)) ({ frames := 0, cells := 0, slots := 0, locals := 0 } : Room) (fun v _ => v = ([.int a0] : List Value).toArray) (QcRead (bi (g_X1_isOne a0))) 0 0 (fun _ => False) := by
  refine Met.ofW (cc := cX1_isOne) (maxL := 1) (ret := (some .boolean)) (by decide) rfl ?_
  intro p e s m args below meth c s₁ B hml hv
  obtain rfl : args = ([.int a0] : List Value).toArray := hv
  have hx := B.exec
  have hb := B.bytes
  have hr := B.returns
  have hts := atoms_spec (ws := (ws_ yX1_isOne cX1_isOne 1 (some .boolean))) B.pre
  have hts : ∀ w ∈ lw_all, w.before _ s = true := fun w h => hts w (List.mem_cons_of_mem _ h)
  have hown : s.vm.findClass RX1 = some m.cls := findClass_of_methodNamed B.named
  have hlocks := B.notSynchronized
  obtain ⟨R, hR⟩ : ∃ R, R = g_X1_isOne a0 := ⟨_, rfl⟩
  rw [← hR]
  have hl := lv_entry ([.int a0] : List Value) (n := 1) (Nat.le_of_ble_eq_true rfl)
  rw [lg_entry_eq]
  generalize (lg_sl ([.int a0] : List Value) ++ List.replicate (1 - (lg_sl ([.int a0] : List Value)).length) Slot.unset).toArray = ls at hl ⊢
  have hl : lv_has ls 1 [(0, .int a0)] := hl
  have B36 : ∀  (ls : Array Slot), lv_has ls 1 [(0, .int a0)] → R = g_X1_isOne_36 a0  → W p l e (headSpec (ws_ yX1_isOne cX1_isOne 1 (some .boolean)) ({ frames := 0, cells := 0, slots := 0, locals := 0 } : Room)).room s m ([.int a0] : List Value).toArray below meth c s.heap [] 0 0 (MQ below (QcRead (bi R)) ([.int a0] : List Value).toArray s 0 0 (fun _ => False)) (F0 m 36 ls []) := by
    intro  ls hl hR
    unfold g_X1_isOne_36 at hR
    refine lv_iload_n hx hb dX1_isOne_36 rfl (lv_at hl 0 rfl) ?_
    refine lv_sipush (v := 167) hx hb dX1_isOne_37 (by decide) ?_
    refine lv_icmp_lt (tgt := 47) hx hb dX1_isOne_40 (by decide) (fun hc40 => ?_) (fun hc40 => ?_)
    · have hR := hR.trans (if_pos hc40)
      refine lv_iconst (v := 0) hx hb dX1_isOne_47 (by decide) ?_
      exact W.zret (v := 0) hx hb hr rfl (fun t ht hW => jr_z hR rfl ht) jnil dX1_isOne_48
    · have hR := hR.trans (if_neg hc40)
      refine lv_iconst (v := 1) hx hb dX1_isOne_43 (by decide) ?_
      refine lv_goto (tgt := 48) hx hb dX1_isOne_44 (by decide) ?_
      exact W.zret (v := 1) hx hb hr rfl (fun t ht hW => jr_z hR rfl ht) jnil dX1_isOne_48
  have B24 : ∀  (ls : Array Slot), lv_has ls 1 [(0, .int a0)] → R = g_X1_isOne_24 a0  → W p l e (headSpec (ws_ yX1_isOne cX1_isOne 1 (some .boolean)) ({ frames := 0, cells := 0, slots := 0, locals := 0 } : Room)).room s m ([.int a0] : List Value).toArray below meth c s.heap [] 0 0 (MQ below (QcRead (bi R)) ([.int a0] : List Value).toArray s 0 0 (fun _ => False)) (F0 m 24 ls []) := by
    intro  ls hl hR
    unfold g_X1_isOne_24 at hR
    refine lv_iload_n hx hb dX1_isOne_24 rfl (lv_at hl 0 rfl) ?_
    refine lv_bipush (v := 121) hx hb dX1_isOne_25 (by decide) ?_
    refine lv_icmp_lt (tgt := 36) hx hb dX1_isOne_27 (by decide) (fun hc27 => ?_) (fun hc27 => ?_)
    · have hR := hR.trans (if_pos hc27)
      exact B36  ls (lv_sub hl [0] rfl) hR
    · have hR := hR.trans (if_neg hc27)
      refine lv_iload_n hx hb dX1_isOne_30 rfl (lv_at hl 0 rfl) ?_
      refine lv_bipush (v := 123) hx hb dX1_isOne_31 (by decide) ?_
      refine lv_icmp_le (tgt := 43) hx hb dX1_isOne_33 (by decide) (fun hc33 => ?_) (fun hc33 => ?_)
      · have hR := hR.trans (if_pos hc33)
        refine lv_iconst (v := 1) hx hb dX1_isOne_43 (by decide) ?_
        refine lv_goto (tgt := 48) hx hb dX1_isOne_44 (by decide) ?_
        exact W.zret (v := 1) hx hb hr rfl (fun t ht hW => jr_z hR rfl ht) jnil dX1_isOne_48
      · have hR := hR.trans (if_neg hc33)
        exact B36  ls (lv_sub hl [0] rfl) hR
  unfold g_X1_isOne at hR
  refine lv_iload_n hx hb dX1_isOne_0 rfl (lv_at hl 0 rfl) ?_
  refine lv_bipush (v := 69) hx hb dX1_isOne_1 (by decide) ?_
  refine lv_icmp_eq (tgt := 43) hx hb dX1_isOne_3 (by decide) (fun hc3 => ?_) (fun hc3 => ?_)
  · have hR := hR.trans (if_pos hc3)
    refine lv_iconst (v := 1) hx hb dX1_isOne_43 (by decide) ?_
    refine lv_goto (tgt := 48) hx hb dX1_isOne_44 (by decide) ?_
    exact W.zret (v := 1) hx hb hr rfl (fun t ht hW => jr_z hR rfl ht) jnil dX1_isOne_48
  · have hR := hR.trans (if_neg hc3)
    refine lv_iload_n hx hb dX1_isOne_6 rfl (lv_at hl 0 rfl) ?_
    refine lv_bipush (v := 80) hx hb dX1_isOne_7 (by decide) ?_
    refine lv_icmp_eq (tgt := 43) hx hb dX1_isOne_9 (by decide) (fun hc9 => ?_) (fun hc9 => ?_)
    · have hR := hR.trans (if_pos hc9)
      refine lv_iconst (v := 1) hx hb dX1_isOne_43 (by decide) ?_
      refine lv_goto (tgt := 48) hx hb dX1_isOne_44 (by decide) ?_
      exact W.zret (v := 1) hx hb hr rfl (fun t ht hW => jr_z hR rfl ht) jnil dX1_isOne_48
    · have hR := hR.trans (if_neg hc9)
      refine lv_iload_n hx hb dX1_isOne_12 rfl (lv_at hl 0 rfl) ?_
      refine lv_bipush (v := 103) hx hb dX1_isOne_13 (by decide) ?_
      refine lv_icmp_lt (tgt := 24) hx hb dX1_isOne_15 (by decide) (fun hc15 => ?_) (fun hc15 => ?_)
      · have hR := hR.trans (if_pos hc15)
        exact B24  ls (lv_sub hl [0] rfl) hR
      · have hR := hR.trans (if_neg hc15)
        refine lv_iload_n hx hb dX1_isOne_18 rfl (lv_at hl 0 rfl) ?_
        refine lv_bipush (v := 105) hx hb dX1_isOne_19 (by decide) ?_
        refine lv_icmp_le (tgt := 43) hx hb dX1_isOne_21 (by decide) (fun hc21 => ?_) (fun hc21 => ?_)
        · have hR := hR.trans (if_pos hc21)
          refine lv_iconst (v := 1) hx hb dX1_isOne_43 (by decide) ?_
          refine lv_goto (tgt := 48) hx hb dX1_isOne_44 (by decide) ?_
          exact W.zret (v := 1) hx hb hr rfl (fun t ht hW => jr_z hR rfl ht) jnil dX1_isOne_48
        · have hR := hR.trans (if_neg hc21)
          exact B24  ls (lv_sub hl [0] rfl) hR
abbrev cX1_takes : ByteArray := prog_4_method_6_code
def yX1_takes : MethodName := ⟨RX1, "takes", "(I)I"⟩
theorem dX1_takes_0 : decode cX1_takes 0 = .ok (.iload_n 1, 1) := by decide +kernel
theorem dX1_takes_1 : decode cX1_takes 1 = .ok (.invokestatic 7, 3) := by decide +kernel
theorem dX1_takes_4 : decode cX1_takes 4 = .ok (.ifCond .ne 14, 3) := by decide +kernel
theorem dX1_takes_7 : decode cX1_takes 7 = .ok (.iload_n 1, 1) := by decide +kernel
theorem dX1_takes_8 : decode cX1_takes 8 = .ok (.invokestatic 13, 3) := by decide +kernel
theorem dX1_takes_11 : decode cX1_takes 11 = .ok (.ifCond .ne 7, 3) := by decide +kernel
theorem dX1_takes_14 : decode cX1_takes 14 = .ok (.iconst 0, 1) := by decide +kernel
theorem dX1_takes_15 : decode cX1_takes 15 = .ok (.goto 15, 3) := by decide +kernel
theorem dX1_takes_18 : decode cX1_takes 18 = .ok (.iload_n 1, 1) := by decide +kernel
theorem dX1_takes_19 : decode cX1_takes 19 = .ok (.invokestatic 16, 3) := by decide +kernel
theorem dX1_takes_22 : decode cX1_takes 22 = .ok (.ifCond .eq 7, 3) := by decide +kernel
theorem dX1_takes_25 : decode cX1_takes 25 = .ok (.iconst 1, 1) := by decide +kernel
theorem dX1_takes_26 : decode cX1_takes 26 = .ok (.goto 4, 3) := by decide +kernel
theorem dX1_takes_29 : decode cX1_takes 29 = .ok (.iconst 2, 1) := by decide +kernel
theorem dX1_takes_30 : decode cX1_takes 30 = .ok (.ireturn, 1) := by decide +kernel
set_option maxHeartbeats 4000000 in
set_option maxRecDepth 100000 in
theorem mt_X1_takes (l : Launch) (h0 : Nat) (a0 : Int32) : Met l yX1_takes (ws_ yX1_takes cX1_takes 2 (some .int)) ({ frames := 1, cells := 0, slots := 0, locals := 20 } : Room) (fun v U => v = ([.ref h0, .int a0] : List Value).toArray ∧ rc_ok RX1 h0 U) (QcRead (g_X1_takes a0)) 0 0 (fun _ => False) := by
  refine Met.ofW (cc := cX1_takes) (maxL := 2) (ret := (some .int)) (by decide) rfl ?_
  intro p e s m args below meth c s₁ B hml hv
  obtain ⟨rfl, hrc⟩ := hv
  have hx := B.exec
  have hb := B.bytes
  have hr := B.returns
  have hts := atoms_spec (ws := (ws_ yX1_takes cX1_takes 2 (some .int))) B.pre
  have hts : ∀ w ∈ lw_all, w.before _ s = true := fun w h => hts w (List.mem_cons_of_mem _ h)
  have hown : s.vm.findClass RX1 = some m.cls := findClass_of_methodNamed B.named
  have hlocks := B.notSynchronized
  obtain ⟨R, hR⟩ : ∃ R, R = g_X1_takes a0 := ⟨_, rfl⟩
  rw [← hR]
  have hl := lv_entry ([.ref h0, .int a0] : List Value) (n := 2) (Nat.le_of_ble_eq_true rfl)
  rw [lg_entry_eq]
  generalize (lg_sl ([.ref h0, .int a0] : List Value) ++ List.replicate (2 - (lg_sl ([.ref h0, .int a0] : List Value)).length) Slot.unset).toArray = ls at hl ⊢
  have hl : lv_has ls 2 [(0, .ref h0), (1, .int a0)] := hl
  have B18 : ∀  (ls : Array Slot), lv_has ls 2 [(1, .int a0)] → R = g_X1_takes_18 a0  → W p l e (headSpec (ws_ yX1_takes cX1_takes 2 (some .int)) ({ frames := 1, cells := 0, slots := 0, locals := 20 } : Room)).room s m ([.ref h0, .int a0] : List Value).toArray below meth c s.heap [] 0 0 (MQ below (QcRead R) ([.ref h0, .int a0] : List Value).toArray s 0 0 (fun _ => False)) (F0 m 18 ls []) := by
    intro  ls hl hR
    unfold g_X1_takes_18 at hR
    refine lv_iload_n hx hb dX1_takes_18 rfl (lv_at hl 0 rfl) ?_
    refine jw_callI (W.runS (As := [.int a0]) (rest := []) ⟨hx, hb, hml, hown, hts⟩ (mt_X1_isOne l a0) (va_cwS 1 hts (lw_S q113 q114 q5 q115) rfl rfl rfl (by decide +kernel) ⟨Nat.le_of_ble_eq_true rfl, Nat.le_of_ble_eq_true rfl⟩) preEq rfl rfl hl.1 rfl (lv_room (Nat.le_of_ble_eq_true rfl)) dX1_takes_19 ⟨Nat.le_of_ble_eq_true rfl, Nat.le_of_ble_eq_true rfl⟩) ?_
    refine lv_if_eq (tgt := 29) hx hb dX1_takes_22 (by decide) (fun hc22 => ?_) (fun hc22 => ?_)
    · have hR := hR.trans (if_pos hc22)
      refine lv_iconst (v := 2) hx hb dX1_takes_29 (by decide) ?_
      exact W.iret (v := 2) hx hb hr (fun t ht hW => jr_i hR ht) jnil dX1_takes_30
    · have hR := hR.trans (if_neg hc22)
      refine lv_iconst (v := 1) hx hb dX1_takes_25 (by decide) ?_
      refine lv_goto (tgt := 30) hx hb dX1_takes_26 (by decide) ?_
      exact W.iret (v := 1) hx hb hr (fun t ht hW => jr_i hR ht) jnil dX1_takes_30
  unfold g_X1_takes at hR
  refine lv_iload_n hx hb dX1_takes_0 rfl (lv_at hl 1 rfl) ?_
  refine jw_callI (W.runS (As := [.int a0]) (rest := []) ⟨hx, hb, hml, hown, hts⟩ (mt_X1_isLongs l a0) (va_cwS 1 hts (lw_S q107 q108 q5 q109) rfl rfl rfl (by decide +kernel) ⟨Nat.le_of_ble_eq_true rfl, Nat.le_of_ble_eq_true rfl⟩) preEq rfl rfl hl.1 rfl (lv_room (Nat.le_of_ble_eq_true rfl)) dX1_takes_1 ⟨Nat.le_of_ble_eq_true rfl, Nat.le_of_ble_eq_true rfl⟩) ?_
  refine lv_if_ne (tgt := 18) hx hb dX1_takes_4 (by decide) (fun hc4 => ?_) (fun hc4 => ?_)
  · have hR := hR.trans (if_neg hc4)
    exact B18  ls (lv_sub hl [1] rfl) hR
  · have hR := hR.trans (if_pos hc4)
    refine lv_iload_n hx hb dX1_takes_7 rfl (lv_at hl 1 rfl) ?_
    refine jw_callI (W.runS (As := [.int a0]) (rest := []) ⟨hx, hb, hml, hown, hts⟩ (mt_X1_isInts l a0) (va_cwS 1 hts (lw_S q110 q111 q5 q112) rfl rfl rfl (by decide +kernel) ⟨Nat.le_of_ble_eq_true rfl, Nat.le_of_ble_eq_true rfl⟩) preEq rfl rfl hl.1 rfl (lv_room (Nat.le_of_ble_eq_true rfl)) dX1_takes_8 ⟨Nat.le_of_ble_eq_true rfl, Nat.le_of_ble_eq_true rfl⟩) ?_
    refine lv_if_ne (tgt := 18) hx hb dX1_takes_11 (by decide) (fun hc11 => ?_) (fun hc11 => ?_)
    · have hR := hR.trans (if_neg hc11)
      exact B18  ls (lv_sub hl [1] rfl) hR
    · have hR := hR.trans (if_pos hc11)
      refine lv_iconst (v := 0) hx hb dX1_takes_14 (by decide) ?_
      refine lv_goto (tgt := 30) hx hb dX1_takes_15 (by decide) ?_
      exact W.iret (v := 0) hx hb hr (fun t ht hW => jr_i hR ht) jnil dX1_takes_30
abbrev cX1_takesLongs : ByteArray := prog_4_method_7_code
def yX1_takesLongs : MethodName := ⟨RX1, "takesLongs", "(I)Z"⟩
theorem dX1_takesLongs_0 : decode cX1_takesLongs 0 = .ok (.iload_n 1, 1) := by decide +kernel
theorem dX1_takesLongs_1 : decode cX1_takesLongs 1 = .ok (.invokestatic 7, 3) := by decide +kernel
theorem dX1_takesLongs_4 : decode cX1_takesLongs 4 = .ok (.ireturn, 1) := by decide +kernel
set_option maxHeartbeats 4000000 in
set_option maxRecDepth 100000 in
theorem mt_X1_takesLongs (l : Launch) (h0 : Nat) (a0 : Int32) : Met l yX1_takesLongs (ws_ yX1_takesLongs cX1_takesLongs 2 (some .boolean)) ({ frames := 1, cells := 0, slots := 0, locals := 20 } : Room) (fun v U => v = ([.ref h0, .int a0] : List Value).toArray ∧ rc_ok RX1 h0 U) (QcRead (bi (g_X1_takesLongs a0))) 0 0 (fun _ => False) := by
  refine Met.ofW (cc := cX1_takesLongs) (maxL := 2) (ret := (some .boolean)) (by decide) rfl ?_
  intro p e s m args below meth c s₁ B hml hv
  obtain ⟨rfl, hrc⟩ := hv
  have hx := B.exec
  have hb := B.bytes
  have hr := B.returns
  have hts := atoms_spec (ws := (ws_ yX1_takesLongs cX1_takesLongs 2 (some .boolean))) B.pre
  have hts : ∀ w ∈ lw_all, w.before _ s = true := fun w h => hts w (List.mem_cons_of_mem _ h)
  have hown : s.vm.findClass RX1 = some m.cls := findClass_of_methodNamed B.named
  have hlocks := B.notSynchronized
  obtain ⟨R, hR⟩ : ∃ R, R = g_X1_takesLongs a0 := ⟨_, rfl⟩
  rw [← hR]
  have hl := lv_entry ([.ref h0, .int a0] : List Value) (n := 2) (Nat.le_of_ble_eq_true rfl)
  rw [lg_entry_eq]
  generalize (lg_sl ([.ref h0, .int a0] : List Value) ++ List.replicate (2 - (lg_sl ([.ref h0, .int a0] : List Value)).length) Slot.unset).toArray = ls at hl ⊢
  have hl : lv_has ls 2 [(0, .ref h0), (1, .int a0)] := hl
  unfold g_X1_takesLongs at hR
  refine lv_iload_n hx hb dX1_takesLongs_0 rfl (lv_at hl 1 rfl) ?_
  refine jw_callI (W.runS (As := [.int a0]) (rest := []) ⟨hx, hb, hml, hown, hts⟩ (mt_X1_isLongs l a0) (va_cwS 1 hts (lw_S q107 q108 q5 q109) rfl rfl rfl (by decide +kernel) ⟨Nat.le_of_ble_eq_true rfl, Nat.le_of_ble_eq_true rfl⟩) preEq rfl rfl hl.1 rfl (lv_room (Nat.le_of_ble_eq_true rfl)) dX1_takesLongs_1 ⟨Nat.le_of_ble_eq_true rfl, Nat.le_of_ble_eq_true rfl⟩) ?_
  exact W.zret (v := (bi (g_X1_isLongs a0))) hx hb hr (narrow_bi _) (fun t ht hW => jr_z hR rfl ht) jnil dX1_takesLongs_4
abbrev cX1_leavesLong : ByteArray := prog_4_method_8_code
def yX1_leavesLong : MethodName := ⟨RX1, "leavesLong", "(I)Z"⟩
theorem dX1_leavesLong_0 : decode cX1_leavesLong 0 = .ok (.iload_n 1, 1) := by decide +kernel
theorem dX1_leavesLong_1 : decode cX1_leavesLong 1 = .ok (.bipush 121, 2) := by decide +kernel
theorem dX1_leavesLong_3 : decode cX1_leavesLong 3 = .ok (.if_icmp .lt 10, 3) := by decide +kernel
theorem dX1_leavesLong_6 : decode cX1_leavesLong 6 = .ok (.iload_n 1, 1) := by decide +kernel
theorem dX1_leavesLong_7 : decode cX1_leavesLong 7 = .ok (.sipush 138, 3) := by decide +kernel
theorem dX1_leavesLong_10 : decode cX1_leavesLong 10 = .ok (.if_icmp .le 31, 3) := by decide +kernel
theorem dX1_leavesLong_13 : decode cX1_leavesLong 13 = .ok (.iload_n 1, 1) := by decide +kernel
theorem dX1_leavesLong_14 : decode cX1_leavesLong 14 = .ok (.sipush 172, 3) := by decide +kernel
theorem dX1_leavesLong_17 : decode cX1_leavesLong 17 = .ok (.if_icmp .eq 24, 3) := by decide +kernel
theorem dX1_leavesLong_20 : decode cX1_leavesLong 20 = .ok (.iload_n 1, 1) := by decide +kernel
theorem dX1_leavesLong_21 : decode cX1_leavesLong 21 = .ok (.sipush 173, 3) := by decide +kernel
theorem dX1_leavesLong_24 : decode cX1_leavesLong 24 = .ok (.if_icmp .eq 17, 3) := by decide +kernel
theorem dX1_leavesLong_27 : decode cX1_leavesLong 27 = .ok (.iload_n 1, 1) := by decide +kernel
theorem dX1_leavesLong_28 : decode cX1_leavesLong 28 = .ok (.sipush 194, 3) := by decide +kernel
theorem dX1_leavesLong_31 : decode cX1_leavesLong 31 = .ok (.if_icmp .lt 14, 3) := by decide +kernel
theorem dX1_leavesLong_34 : decode cX1_leavesLong 34 = .ok (.iload_n 1, 1) := by decide +kernel
theorem dX1_leavesLong_35 : decode cX1_leavesLong 35 = .ok (.sipush 196, 3) := by decide +kernel
theorem dX1_leavesLong_38 : decode cX1_leavesLong 38 = .ok (.if_icmp .gt 7, 3) := by decide +kernel
theorem dX1_leavesLong_41 : decode cX1_leavesLong 41 = .ok (.iconst 1, 1) := by decide +kernel
theorem dX1_leavesLong_42 : decode cX1_leavesLong 42 = .ok (.goto 4, 3) := by decide +kernel
theorem dX1_leavesLong_45 : decode cX1_leavesLong 45 = .ok (.iconst 0, 1) := by decide +kernel
theorem dX1_leavesLong_46 : decode cX1_leavesLong 46 = .ok (.ireturn, 1) := by decide +kernel
set_option maxHeartbeats 4000000 in
set_option maxRecDepth 100000 in
theorem mt_X1_leavesLong (l : Launch) (h0 : Nat) (a0 : Int32) : Met l yX1_leavesLong (ws_ yX1_leavesLong cX1_leavesLong 2 (some .boolean)) ({ frames := 0, cells := 0, slots := 0, locals := 0 } : Room) (fun v U => v = ([.ref h0, .int a0] : List Value).toArray ∧ rc_ok RX1 h0 U) (QcRead (bi (g_X1_leavesLong a0))) 0 0 (fun _ => False) := by
  refine Met.ofW (cc := cX1_leavesLong) (maxL := 2) (ret := (some .boolean)) (by decide) rfl ?_
  intro p e s m args below meth c s₁ B hml hv
  obtain ⟨rfl, hrc⟩ := hv
  have hx := B.exec
  have hb := B.bytes
  have hr := B.returns
  have hts := atoms_spec (ws := (ws_ yX1_leavesLong cX1_leavesLong 2 (some .boolean))) B.pre
  have hts : ∀ w ∈ lw_all, w.before _ s = true := fun w h => hts w (List.mem_cons_of_mem _ h)
  have hown : s.vm.findClass RX1 = some m.cls := findClass_of_methodNamed B.named
  have hlocks := B.notSynchronized
  obtain ⟨R, hR⟩ : ∃ R, R = g_X1_leavesLong a0 := ⟨_, rfl⟩
  rw [← hR]
  have hl := lv_entry ([.ref h0, .int a0] : List Value) (n := 2) (Nat.le_of_ble_eq_true rfl)
  rw [lg_entry_eq]
  generalize (lg_sl ([.ref h0, .int a0] : List Value) ++ List.replicate (2 - (lg_sl ([.ref h0, .int a0] : List Value)).length) Slot.unset).toArray = ls at hl ⊢
  have hl : lv_has ls 2 [(0, .ref h0), (1, .int a0)] := hl
  have B13 : ∀  (ls : Array Slot), lv_has ls 2 [(1, .int a0)] → R = g_X1_leavesLong_13 a0  → W p l e (headSpec (ws_ yX1_leavesLong cX1_leavesLong 2 (some .boolean)) ({ frames := 0, cells := 0, slots := 0, locals := 0 } : Room)).room s m ([.ref h0, .int a0] : List Value).toArray below meth c s.heap [] 0 0 (MQ below (QcRead (bi R)) ([.ref h0, .int a0] : List Value).toArray s 0 0 (fun _ => False)) (F0 m 13 ls []) := by
    intro  ls hl hR
    unfold g_X1_leavesLong_13 at hR
    refine lv_iload_n hx hb dX1_leavesLong_13 rfl (lv_at hl 0 rfl) ?_
    refine lv_sipush (v := 172) hx hb dX1_leavesLong_14 (by decide) ?_
    refine lv_icmp_eq (tgt := 41) hx hb dX1_leavesLong_17 (by decide) (fun hc17 => ?_) (fun hc17 => ?_)
    · have hR := hR.trans (if_pos hc17)
      refine lv_iconst (v := 1) hx hb dX1_leavesLong_41 (by decide) ?_
      refine lv_goto (tgt := 46) hx hb dX1_leavesLong_42 (by decide) ?_
      exact W.zret (v := 1) hx hb hr rfl (fun t ht hW => jr_z hR rfl ht) jnil dX1_leavesLong_46
    · have hR := hR.trans (if_neg hc17)
      refine lv_iload_n hx hb dX1_leavesLong_20 rfl (lv_at hl 0 rfl) ?_
      refine lv_sipush (v := 173) hx hb dX1_leavesLong_21 (by decide) ?_
      refine lv_icmp_eq (tgt := 41) hx hb dX1_leavesLong_24 (by decide) (fun hc24 => ?_) (fun hc24 => ?_)
      · have hR := hR.trans (if_pos hc24)
        refine lv_iconst (v := 1) hx hb dX1_leavesLong_41 (by decide) ?_
        refine lv_goto (tgt := 46) hx hb dX1_leavesLong_42 (by decide) ?_
        exact W.zret (v := 1) hx hb hr rfl (fun t ht hW => jr_z hR rfl ht) jnil dX1_leavesLong_46
      · have hR := hR.trans (if_neg hc24)
        refine lv_iload_n hx hb dX1_leavesLong_27 rfl (lv_at hl 0 rfl) ?_
        refine lv_sipush (v := 194) hx hb dX1_leavesLong_28 (by decide) ?_
        refine lv_icmp_lt (tgt := 45) hx hb dX1_leavesLong_31 (by decide) (fun hc31 => ?_) (fun hc31 => ?_)
        · have hR := hR.trans (if_pos hc31)
          refine lv_iconst (v := 0) hx hb dX1_leavesLong_45 (by decide) ?_
          exact W.zret (v := 0) hx hb hr rfl (fun t ht hW => jr_z hR rfl ht) jnil dX1_leavesLong_46
        · have hR := hR.trans (if_neg hc31)
          refine lv_iload_n hx hb dX1_leavesLong_34 rfl (lv_at hl 0 rfl) ?_
          refine lv_sipush (v := 196) hx hb dX1_leavesLong_35 (by decide) ?_
          refine lv_icmp_gt (tgt := 45) hx hb dX1_leavesLong_38 (by decide) (fun hc38 => ?_) (fun hc38 => ?_)
          · have hR := hR.trans (if_pos hc38)
            refine lv_iconst (v := 0) hx hb dX1_leavesLong_45 (by decide) ?_
            exact W.zret (v := 0) hx hb hr rfl (fun t ht hW => jr_z hR rfl ht) jnil dX1_leavesLong_46
          · have hR := hR.trans (if_neg hc38)
            refine lv_iconst (v := 1) hx hb dX1_leavesLong_41 (by decide) ?_
            refine lv_goto (tgt := 46) hx hb dX1_leavesLong_42 (by decide) ?_
            exact W.zret (v := 1) hx hb hr rfl (fun t ht hW => jr_z hR rfl ht) jnil dX1_leavesLong_46
  unfold g_X1_leavesLong at hR
  refine lv_iload_n hx hb dX1_leavesLong_0 rfl (lv_at hl 1 rfl) ?_
  refine lv_bipush (v := 121) hx hb dX1_leavesLong_1 (by decide) ?_
  refine lv_icmp_lt (tgt := 13) hx hb dX1_leavesLong_3 (by decide) (fun hc3 => ?_) (fun hc3 => ?_)
  · have hR := hR.trans (if_pos hc3)
    exact B13  ls (lv_sub hl [1] rfl) hR
  · have hR := hR.trans (if_neg hc3)
    refine lv_iload_n hx hb dX1_leavesLong_6 rfl (lv_at hl 1 rfl) ?_
    refine lv_sipush (v := 138) hx hb dX1_leavesLong_7 (by decide) ?_
    refine lv_icmp_le (tgt := 41) hx hb dX1_leavesLong_10 (by decide) (fun hc10 => ?_) (fun hc10 => ?_)
    · have hR := hR.trans (if_pos hc10)
      refine lv_iconst (v := 1) hx hb dX1_leavesLong_41 (by decide) ?_
      refine lv_goto (tgt := 46) hx hb dX1_leavesLong_42 (by decide) ?_
      exact W.zret (v := 1) hx hb hr rfl (fun t ht hW => jr_z hR rfl ht) jnil dX1_leavesLong_46
    · have hR := hR.trans (if_neg hc10)
      exact B13  ls (lv_sub hl [1] rfl) hR
abbrev cX1_cut : ByteArray := prog_4_method_10_code
def yX1_cut : MethodName := ⟨RX1, "cut", "(JI)J"⟩
theorem dX1_cut_0 : decode cX1_cut 0 = .ok (.iload_n 2, 1) := by decide +kernel
theorem dX1_cut_1 : decode cX1_cut 1 = .ok (.bipush 64, 2) := by decide +kernel
theorem dX1_cut_3 : decode cX1_cut 3 = .ok (.if_icmp .ne 7, 3) := by decide +kernel
theorem dX1_cut_6 : decode cX1_cut 6 = .ok (.lload_n 0, 1) := by decide +kernel
theorem dX1_cut_7 : decode cX1_cut 7 = .ok (.goto 10, 3) := by decide +kernel
theorem dX1_cut_10 : decode cX1_cut 10 = .ok (.lload_n 0, 1) := by decide +kernel
theorem dX1_cut_11 : decode cX1_cut 11 = .ok (.lconst 1, 1) := by decide +kernel
theorem dX1_cut_12 : decode cX1_cut 12 = .ok (.iload_n 2, 1) := by decide +kernel
theorem dX1_cut_13 : decode cX1_cut 13 = .ok (.lshl, 1) := by decide +kernel
theorem dX1_cut_14 : decode cX1_cut 14 = .ok (.lconst 1, 1) := by decide +kernel
theorem dX1_cut_15 : decode cX1_cut 15 = .ok (.lsub, 1) := by decide +kernel
theorem dX1_cut_16 : decode cX1_cut 16 = .ok (.land, 1) := by decide +kernel
theorem dX1_cut_17 : decode cX1_cut 17 = .ok (.lreturn, 1) := by decide +kernel
set_option maxHeartbeats 4000000 in
set_option maxRecDepth 100000 in
theorem mt_X1_cut (l : Launch) (a0 : Int64) (a1 : Int32) : Met l yX1_cut (ws_ yX1_cut cX1_cut 3 (some .long)) ({ frames := 0, cells := 0, slots := 0, locals := 0 } : Room) (fun v _ => v = ([.long a0, .int a1] : List Value).toArray) (QcReadL (g_X1_cut a0 a1)) 0 0 (fun _ => False) := by
  refine Met.ofW (cc := cX1_cut) (maxL := 3) (ret := (some .long)) (by decide) rfl ?_
  intro p e s m args below meth c s₁ B hml hv
  obtain rfl : args = ([.long a0, .int a1] : List Value).toArray := hv
  have hx := B.exec
  have hb := B.bytes
  have hr := B.returns
  have hts := atoms_spec (ws := (ws_ yX1_cut cX1_cut 3 (some .long))) B.pre
  have hts : ∀ w ∈ lw_all, w.before _ s = true := fun w h => hts w (List.mem_cons_of_mem _ h)
  have hown : s.vm.findClass RX1 = some m.cls := findClass_of_methodNamed B.named
  have hlocks := B.notSynchronized
  obtain ⟨R, hR⟩ : ∃ R, R = g_X1_cut a0 a1 := ⟨_, rfl⟩
  rw [← hR]
  have hl := lv_entry ([.long a0, .int a1] : List Value) (n := 3) (Nat.le_of_ble_eq_true rfl)
  rw [lg_entry_eq]
  generalize (lg_sl ([.long a0, .int a1] : List Value) ++ List.replicate (3 - (lg_sl ([.long a0, .int a1] : List Value)).length) Slot.unset).toArray = ls at hl ⊢
  have hl : lv_has ls 3 [(0, .long a0), (2, .int a1)] := hl
  unfold g_X1_cut at hR
  refine lv_iload_n hx hb dX1_cut_0 rfl (lv_at hl 1 rfl) ?_
  refine lv_bipush (v := 64) hx hb dX1_cut_1 (by decide) ?_
  refine lv_icmp_ne (tgt := 10) hx hb dX1_cut_3 (by decide) (fun hc3 => ?_) (fun hc3 => ?_)
  · have hR := hR.trans (if_neg hc3)
    refine lv_lload_n hx hb dX1_cut_10 rfl (lv_at hl 0 rfl) ?_
    refine lv_lconst (v := 1) hx hb dX1_cut_11 (by decide) ?_
    refine lv_iload_n hx hb dX1_cut_12 rfl (lv_at hl 1 rfl) ?_
    refine lv_lshl (v := (j_lshl 1 a1)) hx hb dX1_cut_13 rfl ?_
    refine lv_lconst (v := 1) hx hb dX1_cut_14 (by decide) ?_
    refine lv_lsub hx hb dX1_cut_15 ?_
    refine lv_land hx hb dX1_cut_16 ?_
    exact W.lret (v := (a0 &&& ((j_lshl 1 a1) - 1))) hx hb hr (fun t ht hW => jr_l hR ht) jnil dX1_cut_17
  · have hR := hR.trans (if_pos hc3)
    refine lv_lload_n hx hb dX1_cut_6 rfl (lv_at hl 0 rfl) ?_
    refine lv_goto (tgt := 17) hx hb dX1_cut_7 (by decide) ?_
    exact W.lret (v := a0) hx hb hr (fun t ht hW => jr_l hR ht) jnil dX1_cut_17
abbrev cX1_signed : ByteArray := prog_4_method_11_code
def yX1_signed : MethodName := ⟨RX1, "signed", "(JI)J"⟩
theorem dX1_signed_0 : decode cX1_signed 0 = .ok (.iload_n 2, 1) := by decide +kernel
theorem dX1_signed_1 : decode cX1_signed 1 = .ok (.bipush 64, 2) := by decide +kernel
theorem dX1_signed_3 : decode cX1_signed 3 = .ok (.if_icmp .ne 5, 3) := by decide +kernel
theorem dX1_signed_6 : decode cX1_signed 6 = .ok (.lload_n 0, 1) := by decide +kernel
theorem dX1_signed_7 : decode cX1_signed 7 = .ok (.lreturn, 1) := by decide +kernel
theorem dX1_signed_8 : decode cX1_signed 8 = .ok (.lload_n 0, 1) := by decide +kernel
theorem dX1_signed_9 : decode cX1_signed 9 = .ok (.iload_n 2, 1) := by decide +kernel
theorem dX1_signed_10 : decode cX1_signed 10 = .ok (.invokestatic 23, 3) := by decide +kernel
theorem dX1_signed_13 : decode cX1_signed 13 = .ok (.lstore_n 3, 1) := by decide +kernel
theorem dX1_signed_14 : decode cX1_signed 14 = .ok (.lload_n 3, 1) := by decide +kernel
theorem dX1_signed_15 : decode cX1_signed 15 = .ok (.iload_n 2, 1) := by decide +kernel
theorem dX1_signed_16 : decode cX1_signed 16 = .ok (.iconst 1, 1) := by decide +kernel
theorem dX1_signed_17 : decode cX1_signed 17 = .ok (.isub, 1) := by decide +kernel
theorem dX1_signed_18 : decode cX1_signed 18 = .ok (.lshr, 1) := by decide +kernel
theorem dX1_signed_19 : decode cX1_signed 19 = .ok (.lconst 1, 1) := by decide +kernel
theorem dX1_signed_20 : decode cX1_signed 20 = .ok (.lcmp, 1) := by decide +kernel
theorem dX1_signed_21 : decode cX1_signed 21 = .ok (.ifCond .ne 11, 3) := by decide +kernel
theorem dX1_signed_24 : decode cX1_signed 24 = .ok (.lload_n 3, 1) := by decide +kernel
theorem dX1_signed_25 : decode cX1_signed 25 = .ok (.lconst 1, 1) := by decide +kernel
theorem dX1_signed_26 : decode cX1_signed 26 = .ok (.iload_n 2, 1) := by decide +kernel
theorem dX1_signed_27 : decode cX1_signed 27 = .ok (.lshl, 1) := by decide +kernel
theorem dX1_signed_28 : decode cX1_signed 28 = .ok (.lsub, 1) := by decide +kernel
theorem dX1_signed_29 : decode cX1_signed 29 = .ok (.goto 4, 3) := by decide +kernel
theorem dX1_signed_32 : decode cX1_signed 32 = .ok (.lload_n 3, 1) := by decide +kernel
theorem dX1_signed_33 : decode cX1_signed 33 = .ok (.lreturn, 1) := by decide +kernel
set_option maxHeartbeats 4000000 in
set_option maxRecDepth 100000 in
theorem mt_X1_signed (l : Launch) (a0 : Int64) (a1 : Int32) : Met l yX1_signed (ws_ yX1_signed cX1_signed 5 (some .long)) ({ frames := 1, cells := 0, slots := 0, locals := 22 } : Room) (fun v _ => v = ([.long a0, .int a1] : List Value).toArray) (QcReadL (g_X1_signed a0 a1)) 0 0 (fun _ => False) := by
  refine Met.ofW (cc := cX1_signed) (maxL := 5) (ret := (some .long)) (by decide) rfl ?_
  intro p e s m args below meth c s₁ B hml hv
  obtain rfl : args = ([.long a0, .int a1] : List Value).toArray := hv
  have hx := B.exec
  have hb := B.bytes
  have hr := B.returns
  have hts := atoms_spec (ws := (ws_ yX1_signed cX1_signed 5 (some .long))) B.pre
  have hts : ∀ w ∈ lw_all, w.before _ s = true := fun w h => hts w (List.mem_cons_of_mem _ h)
  have hown : s.vm.findClass RX1 = some m.cls := findClass_of_methodNamed B.named
  have hlocks := B.notSynchronized
  obtain ⟨R, hR⟩ : ∃ R, R = g_X1_signed a0 a1 := ⟨_, rfl⟩
  rw [← hR]
  have hl := lv_entry ([.long a0, .int a1] : List Value) (n := 5) (Nat.le_of_ble_eq_true rfl)
  rw [lg_entry_eq]
  generalize (lg_sl ([.long a0, .int a1] : List Value) ++ List.replicate (5 - (lg_sl ([.long a0, .int a1] : List Value)).length) Slot.unset).toArray = ls at hl ⊢
  have hl : lv_has ls 5 [(0, .long a0), (2, .int a1)] := hl
  unfold g_X1_signed at hR
  refine lv_iload_n hx hb dX1_signed_0 rfl (lv_at hl 1 rfl) ?_
  refine lv_bipush (v := 64) hx hb dX1_signed_1 (by decide) ?_
  refine lv_icmp_ne (tgt := 8) hx hb dX1_signed_3 (by decide) (fun hc3 => ?_) (fun hc3 => ?_)
  · have hR := hR.trans (if_neg hc3)
    refine lv_lload_n hx hb dX1_signed_8 rfl (lv_at hl 0 rfl) ?_
    refine lv_iload_n hx hb dX1_signed_9 rfl (lv_at hl 1 rfl) ?_
    refine jw_callJ (W.runS (As := [.long a0, .int a1]) (rest := []) ⟨hx, hb, hml, hown, hts⟩ (mt_X1_cut l a0 a1) (va_cwS 2 hts (lw_S q129 q130 q5 q131) rfl rfl rfl (by decide +kernel) ⟨Nat.le_of_ble_eq_true rfl, Nat.le_of_ble_eq_true rfl⟩) preEq rfl rfl hl.1 rfl (lv_room (Nat.le_of_ble_eq_true rfl)) dX1_signed_10 ⟨Nat.le_of_ble_eq_true rfl, Nat.le_of_ble_eq_true rfl⟩) ?_
    refine lv_lstore_n (lv' := [(3, .long (g_X1_cut a0 a1)), (0, .long a0), (2, .int a1)]) hx hb dX1_signed_13 rfl hl (by decide) rfl (fun ls hl => ?_)
    refine lv_lload_n hx hb dX1_signed_14 rfl (lv_at hl 0 rfl) ?_
    refine lv_iload_n hx hb dX1_signed_15 rfl (lv_at hl 2 rfl) ?_
    refine lv_iconst (v := 1) hx hb dX1_signed_16 (by decide) ?_
    refine lv_isub hx hb dX1_signed_17 ?_
    refine lv_lshr (v := (j_lshr (g_X1_cut a0 a1) (a1 - 1))) hx hb dX1_signed_18 rfl ?_
    refine lv_lconst (v := 1) hx hb dX1_signed_19 (by decide) ?_
    refine W.lcmp hx hb dX1_signed_20 ?_
    refine lv_if_ne (tgt := 32) hx hb dX1_signed_21 (by decide) (fun hc21 => ?_) (fun hc21 => ?_)
    · have hR := hR.trans (if_neg hc21)
      refine lv_lload_n hx hb dX1_signed_32 rfl (lv_at hl 0 rfl) ?_
      exact W.lret (v := (g_X1_cut a0 a1)) hx hb hr (fun t ht hW => jr_l hR ht) jnil dX1_signed_33
    · have hR := hR.trans (if_pos hc21)
      refine lv_lload_n hx hb dX1_signed_24 rfl (lv_at hl 0 rfl) ?_
      refine lv_lconst (v := 1) hx hb dX1_signed_25 (by decide) ?_
      refine lv_iload_n hx hb dX1_signed_26 rfl (lv_at hl 2 rfl) ?_
      refine lv_lshl (v := (j_lshl 1 a1)) hx hb dX1_signed_27 rfl ?_
      refine lv_lsub hx hb dX1_signed_28 ?_
      refine lv_goto (tgt := 33) hx hb dX1_signed_29 (by decide) ?_
      exact W.lret (v := ((g_X1_cut a0 a1) - (j_lshl 1 a1))) hx hb hr (fun t ht hW => jr_l hR ht) jnil dX1_signed_33
  · have hR := hR.trans (if_pos hc3)
    refine lv_lload_n hx hb dX1_signed_6 rfl (lv_at hl 0 rfl) ?_
    exact W.lret (v := a0) hx hb hr (fun t ht hW => jr_l hR ht) jnil dX1_signed_7
abbrev cX1_isSet : ByteArray := prog_4_method_14_code
def yX1_isSet : MethodName := ⟨RX1, "isSet", "(JI)Z"⟩
theorem dX1_isSet_0 : decode cX1_isSet 0 = .ok (.lload_n 0, 1) := by decide +kernel
theorem dX1_isSet_1 : decode cX1_isSet 1 = .ok (.iload_n 2, 1) := by decide +kernel
theorem dX1_isSet_2 : decode cX1_isSet 2 = .ok (.lushr, 1) := by decide +kernel
theorem dX1_isSet_3 : decode cX1_isSet 3 = .ok (.lconst 1, 1) := by decide +kernel
theorem dX1_isSet_4 : decode cX1_isSet 4 = .ok (.land, 1) := by decide +kernel
theorem dX1_isSet_5 : decode cX1_isSet 5 = .ok (.lconst 1, 1) := by decide +kernel
theorem dX1_isSet_6 : decode cX1_isSet 6 = .ok (.lcmp, 1) := by decide +kernel
theorem dX1_isSet_7 : decode cX1_isSet 7 = .ok (.ifCond .ne 7, 3) := by decide +kernel
theorem dX1_isSet_10 : decode cX1_isSet 10 = .ok (.iconst 1, 1) := by decide +kernel
theorem dX1_isSet_11 : decode cX1_isSet 11 = .ok (.goto 4, 3) := by decide +kernel
theorem dX1_isSet_14 : decode cX1_isSet 14 = .ok (.iconst 0, 1) := by decide +kernel
theorem dX1_isSet_15 : decode cX1_isSet 15 = .ok (.ireturn, 1) := by decide +kernel
set_option maxHeartbeats 4000000 in
set_option maxRecDepth 100000 in
theorem mt_X1_isSet (l : Launch) (a0 : Int64) (a1 : Int32) : Met l yX1_isSet (ws_ yX1_isSet cX1_isSet 3 (some .boolean)) ({ frames := 0, cells := 0, slots := 0, locals := 0 } : Room) (fun v _ => v = ([.long a0, .int a1] : List Value).toArray) (QcRead (bi (g_X1_isSet a0 a1))) 0 0 (fun _ => False) := by
  refine Met.ofW (cc := cX1_isSet) (maxL := 3) (ret := (some .boolean)) (by decide) rfl ?_
  intro p e s m args below meth c s₁ B hml hv
  obtain rfl : args = ([.long a0, .int a1] : List Value).toArray := hv
  have hx := B.exec
  have hb := B.bytes
  have hr := B.returns
  have hts := atoms_spec (ws := (ws_ yX1_isSet cX1_isSet 3 (some .boolean))) B.pre
  have hts : ∀ w ∈ lw_all, w.before _ s = true := fun w h => hts w (List.mem_cons_of_mem _ h)
  have hown : s.vm.findClass RX1 = some m.cls := findClass_of_methodNamed B.named
  have hlocks := B.notSynchronized
  obtain ⟨R, hR⟩ : ∃ R, R = g_X1_isSet a0 a1 := ⟨_, rfl⟩
  rw [← hR]
  have hl := lv_entry ([.long a0, .int a1] : List Value) (n := 3) (Nat.le_of_ble_eq_true rfl)
  rw [lg_entry_eq]
  generalize (lg_sl ([.long a0, .int a1] : List Value) ++ List.replicate (3 - (lg_sl ([.long a0, .int a1] : List Value)).length) Slot.unset).toArray = ls at hl ⊢
  have hl : lv_has ls 3 [(0, .long a0), (2, .int a1)] := hl
  unfold g_X1_isSet at hR
  refine lv_lload_n hx hb dX1_isSet_0 rfl (lv_at hl 0 rfl) ?_
  refine lv_iload_n hx hb dX1_isSet_1 rfl (lv_at hl 1 rfl) ?_
  refine lv_lushr (v := (j_lushr a0 a1)) hx hb dX1_isSet_2 rfl ?_
  refine lv_lconst (v := 1) hx hb dX1_isSet_3 (by decide) ?_
  refine lv_land hx hb dX1_isSet_4 ?_
  refine lv_lconst (v := 1) hx hb dX1_isSet_5 (by decide) ?_
  refine W.lcmp hx hb dX1_isSet_6 ?_
  refine lv_if_ne (tgt := 14) hx hb dX1_isSet_7 (by decide) (fun hc7 => ?_) (fun hc7 => ?_)
  · have hR := hR.trans (if_neg hc7)
    refine lv_iconst (v := 0) hx hb dX1_isSet_14 (by decide) ?_
    exact W.zret (v := 0) hx hb hr rfl (fun t ht hW => jr_z hR rfl ht) jnil dX1_isSet_15
  · have hR := hR.trans (if_pos hc7)
    refine lv_iconst (v := 1) hx hb dX1_isSet_10 (by decide) ?_
    refine lv_goto (tgt := 15) hx hb dX1_isSet_11 (by decide) ?_
    exact W.zret (v := 1) hx hb hr rfl (fun t ht hW => jr_z hR rfl ht) jnil dX1_isSet_15
end
section
set_option maxRecDepth 100000
abbrev cX1_zeros : ByteArray := prog_4_method_15_code
def yX1_zeros : MethodName := ⟨RX1, "zeros", "(JIZ)I"⟩
theorem dX1_zeros_0 : decode cX1_zeros 0 = .ok (.iconst 0, 1) := by decide +kernel
theorem dX1_zeros_1 : decode cX1_zeros 1 = .ok (.istore 4, 2) := by decide +kernel
theorem dX1_zeros_3 : decode cX1_zeros 3 = .ok (.iload 4, 2) := by decide +kernel
theorem dX1_zeros_5 : decode cX1_zeros 5 = .ok (.iload_n 2, 1) := by decide +kernel
theorem dX1_zeros_6 : decode cX1_zeros 6 = .ok (.if_icmp .ge 31, 3) := by decide +kernel
theorem dX1_zeros_9 : decode cX1_zeros 9 = .ok (.lload_n 0, 1) := by decide +kernel
theorem dX1_zeros_10 : decode cX1_zeros 10 = .ok (.iload_n 3, 1) := by decide +kernel
theorem dX1_zeros_11 : decode cX1_zeros 11 = .ok (.ifCond .eq 12, 3) := by decide +kernel
theorem dX1_zeros_14 : decode cX1_zeros 14 = .ok (.iload_n 2, 1) := by decide +kernel
theorem dX1_zeros_15 : decode cX1_zeros 15 = .ok (.iconst 1, 1) := by decide +kernel
theorem dX1_zeros_16 : decode cX1_zeros 16 = .ok (.isub, 1) := by decide +kernel
theorem dX1_zeros_17 : decode cX1_zeros 17 = .ok (.iload 4, 2) := by decide +kernel
theorem dX1_zeros_19 : decode cX1_zeros 19 = .ok (.isub, 1) := by decide +kernel
theorem dX1_zeros_20 : decode cX1_zeros 20 = .ok (.goto 5, 3) := by decide +kernel
theorem dX1_zeros_23 : decode cX1_zeros 23 = .ok (.iload 4, 2) := by decide +kernel
theorem dX1_zeros_25 : decode cX1_zeros 25 = .ok (.invokestatic 58, 3) := by decide +kernel
theorem dX1_zeros_28 : decode cX1_zeros 28 = .ok (.ifCond .ne 9, 3) := by decide +kernel
theorem dX1_zeros_31 : decode cX1_zeros 31 = .ok (.iinc 4 1, 3) := by decide +kernel
theorem dX1_zeros_34 : decode cX1_zeros 34 = .ok (.goto (-31), 3) := by decide +kernel
theorem dX1_zeros_37 : decode cX1_zeros 37 = .ok (.iload 4, 2) := by decide +kernel
theorem dX1_zeros_39 : decode cX1_zeros 39 = .ok (.ireturn, 1) := by decide +kernel
set_option maxHeartbeats 4000000 in
set_option maxRecDepth 100000 in
theorem mt_X1_zeros (l : Launch) (a0 : Int64) (a1 : Int32) (a2 : Int32) : Met l yX1_zeros (ws_ yX1_zeros cX1_zeros 5 (some .int)) ({ frames := 1, cells := 0, slots := 0, locals := 22 } : Room) (fun v _ => v = ([.long a0, .int a1, .int a2] : List Value).toArray) (QcRead (g_X1_zeros a0 a1 a2)) 0 0 (fun _ => False) := by
  refine Met.ofW (cc := cX1_zeros) (maxL := 5) (ret := (some .int)) (by decide) rfl ?_
  intro p e s m args below meth c s₁ B hml hv
  obtain rfl : args = ([.long a0, .int a1, .int a2] : List Value).toArray := hv
  have hx := B.exec
  have hb := B.bytes
  have hr := B.returns
  have hts := atoms_spec (ws := (ws_ yX1_zeros cX1_zeros 5 (some .int))) B.pre
  have hts : ∀ w ∈ lw_all, w.before _ s = true := fun w h => hts w (List.mem_cons_of_mem _ h)
  have hown : s.vm.findClass RX1 = some m.cls := findClass_of_methodNamed B.named
  have hlocks := B.notSynchronized
  obtain ⟨R, hR⟩ : ∃ R, R = g_X1_zeros a0 a1 a2 := ⟨_, rfl⟩
  rw [← hR]
  have hl := lv_entry ([.long a0, .int a1, .int a2] : List Value) (n := 5) (Nat.le_of_ble_eq_true rfl)
  rw [lg_entry_eq]
  generalize (lg_sl ([.long a0, .int a1, .int a2] : List Value) ++ List.replicate (5 - (lg_sl ([.long a0, .int a1, .int a2] : List Value)).length) Slot.unset).toArray = ls at hl ⊢
  have hl : lv_has ls 5 [(0, .long a0), (2, .int a1), (3, .int a2)] := hl
  have B3 : ∀ (n : Nat) (v4 : Int32) (ls : Array Slot), (a1.toInt - (v4).toInt).toNat < n → lv_has ls 5 [(0, .long a0), (2, .int a1), (3, .int a2), (4, .int v4)] → R = g_X1_zeros_3 a0 a1 a2 n v4 → W p l e (headSpec (ws_ yX1_zeros cX1_zeros 5 (some .int)) ({ frames := 1, cells := 0, slots := 0, locals := 22 } : Room)).room s m ([.long a0, .int a1, .int a2] : List Value).toArray below meth c s.heap [] 0 0 (MQ below (QcRead R) ([.long a0, .int a1, .int a2] : List Value).toArray s 0 0 (fun _ => False)) (F0 m 3 ls []) := by
    intro n
    induction n with
    | zero => intro v4 ls hc hl hR; exact absurd hc (Nat.not_lt_zero _)
    | succ n ih =>
      intro v4 ls hc hl hR
      rw [g_X1_zeros_3] at hR
      refine lv_iload hx hb dX1_zeros_3 (lv_at hl 3 rfl) ?_
      refine lv_iload_n hx hb dX1_zeros_5 rfl (lv_at hl 1 rfl) ?_
      refine lv_icmp_ge (tgt := 37) hx hb dX1_zeros_6 (by decide) (fun hc6 => ?_) (fun hc6 => ?_)
      · have hR := hR.trans (if_pos hc6)
        refine lv_iload hx hb dX1_zeros_37 (lv_at hl 3 rfl) ?_
        exact W.iret (v := v4) hx hb hr (fun t ht hW => jr_i hR ht) jnil dX1_zeros_39
      · have hR := hR.trans (if_neg hc6)
        refine lv_lload_n hx hb dX1_zeros_9 rfl (lv_at hl 0 rfl) ?_
        refine lv_iload_n hx hb dX1_zeros_10 rfl (lv_at hl 2 rfl) ?_
        refine lv_if_eq (tgt := 23) hx hb dX1_zeros_11 (by decide) (fun hc11 => ?_) (fun hc11 => ?_)
        · have hR := hR.trans (if_pos hc11)
          refine lv_iload hx hb dX1_zeros_23 (lv_at hl 3 rfl) ?_
          refine jw_callI (W.runS (As := [.long a0, .int v4]) (rest := []) ⟨hx, hb, hml, hown, hts⟩ (mt_X1_isSet l a0 v4) (va_cwS 2 hts (lw_S q138 q139 q5 q140) rfl rfl rfl (by decide +kernel) ⟨Nat.le_of_ble_eq_true rfl, Nat.le_of_ble_eq_true rfl⟩) preEq rfl rfl hl.1 rfl (lv_room (Nat.le_of_ble_eq_true rfl)) dX1_zeros_25 ⟨Nat.le_of_ble_eq_true rfl, Nat.le_of_ble_eq_true rfl⟩) ?_
          refine lv_if_ne (tgt := 37) hx hb dX1_zeros_28 (by decide) (fun hc28 => ?_) (fun hc28 => ?_)
          · have hR := hR.trans (if_neg hc28)
            refine lv_iload hx hb dX1_zeros_37 (lv_at hl 3 rfl) ?_
            exact W.iret (v := v4) hx hb hr (fun t ht hW => jr_i hR ht) jnil dX1_zeros_39
          · have hR := hR.trans (if_pos hc28)
            refine lv_iinc (v := (v4 + 1)) (lv' := [(4, .int (v4 + 1)), (0, .long a0), (2, .int a1), (3, .int a2)]) hx hb dX1_zeros_31 hl (k := 3) rfl rfl (by decide) rfl (fun ls hl => ?_)
            refine lv_goto (tgt := 3) hx hb dX1_zeros_34 (by decide) ?_
            exact ih (v4 + 1) ls (jl_up hc hc6) (lv_sub hl [1, 2, 3, 0] rfl) hR
        · have hR := hR.trans (if_neg hc11)
          refine lv_iload_n hx hb dX1_zeros_14 rfl (lv_at hl 1 rfl) ?_
          refine lv_iconst (v := 1) hx hb dX1_zeros_15 (by decide) ?_
          refine lv_isub hx hb dX1_zeros_16 ?_
          refine lv_iload hx hb dX1_zeros_17 (lv_at hl 3 rfl) ?_
          refine lv_isub hx hb dX1_zeros_19 ?_
          refine lv_goto (tgt := 25) hx hb dX1_zeros_20 (by decide) ?_
          refine jw_callI (W.runS (As := [.long a0, .int ((a1 - 1) - v4)]) (rest := []) ⟨hx, hb, hml, hown, hts⟩ (mt_X1_isSet l a0 ((a1 - 1) - v4)) (va_cwS 2 hts (lw_S q138 q139 q5 q140) rfl rfl rfl (by decide +kernel) ⟨Nat.le_of_ble_eq_true rfl, Nat.le_of_ble_eq_true rfl⟩) preEq rfl rfl hl.1 rfl (lv_room (Nat.le_of_ble_eq_true rfl)) dX1_zeros_25 ⟨Nat.le_of_ble_eq_true rfl, Nat.le_of_ble_eq_true rfl⟩) ?_
          refine lv_if_ne (tgt := 37) hx hb dX1_zeros_28 (by decide) (fun hc28 => ?_) (fun hc28 => ?_)
          · have hR := hR.trans (if_neg hc28)
            refine lv_iload hx hb dX1_zeros_37 (lv_at hl 3 rfl) ?_
            exact W.iret (v := v4) hx hb hr (fun t ht hW => jr_i hR ht) jnil dX1_zeros_39
          · have hR := hR.trans (if_pos hc28)
            refine lv_iinc (v := (v4 + 1)) (lv' := [(4, .int (v4 + 1)), (0, .long a0), (2, .int a1), (3, .int a2)]) hx hb dX1_zeros_31 hl (k := 3) rfl rfl (by decide) rfl (fun ls hl => ?_)
            refine lv_goto (tgt := 3) hx hb dX1_zeros_34 (by decide) ?_
            exact ih (v4 + 1) ls (jl_up hc hc6) (lv_sub hl [1, 2, 3, 0] rfl) hR
  unfold g_X1_zeros at hR
  refine lv_iconst (v := 0) hx hb dX1_zeros_0 (by decide) ?_
  refine lv_istore (lv' := [(4, .int 0), (0, .long a0), (2, .int a1), (3, .int a2)]) hx hb dX1_zeros_1 hl (by decide) rfl (fun ls hl => ?_)
  exact B3 ((a1.toInt - (0 : Int32).toInt).toNat + 1) 0 ls (Nat.lt_succ_self _) (lv_sub hl [1, 2, 3, 0] rfl) hR
abbrev cX1_ones : ByteArray := prog_4_method_16_code
def yX1_ones : MethodName := ⟨RX1, "ones", "(JI)I"⟩
theorem dX1_ones_0 : decode cX1_ones 0 = .ok (.iconst 0, 1) := by decide +kernel
theorem dX1_ones_1 : decode cX1_ones 1 = .ok (.istore_n 3, 1) := by decide +kernel
theorem dX1_ones_2 : decode cX1_ones 2 = .ok (.iconst 0, 1) := by decide +kernel
theorem dX1_ones_3 : decode cX1_ones 3 = .ok (.istore 4, 2) := by decide +kernel
theorem dX1_ones_5 : decode cX1_ones 5 = .ok (.iload 4, 2) := by decide +kernel
theorem dX1_ones_7 : decode cX1_ones 7 = .ok (.iload_n 2, 1) := by decide +kernel
theorem dX1_ones_8 : decode cX1_ones 8 = .ok (.if_icmp .ge 21, 3) := by decide +kernel
theorem dX1_ones_11 : decode cX1_ones 11 = .ok (.lload_n 0, 1) := by decide +kernel
theorem dX1_ones_12 : decode cX1_ones 12 = .ok (.iload 4, 2) := by decide +kernel
theorem dX1_ones_14 : decode cX1_ones 14 = .ok (.invokestatic 58, 3) := by decide +kernel
theorem dX1_ones_17 : decode cX1_ones 17 = .ok (.ifCond .eq 6, 3) := by decide +kernel
theorem dX1_ones_20 : decode cX1_ones 20 = .ok (.iinc 3 1, 3) := by decide +kernel
theorem dX1_ones_23 : decode cX1_ones 23 = .ok (.iinc 4 1, 3) := by decide +kernel
theorem dX1_ones_26 : decode cX1_ones 26 = .ok (.goto (-21), 3) := by decide +kernel
theorem dX1_ones_29 : decode cX1_ones 29 = .ok (.iload_n 3, 1) := by decide +kernel
theorem dX1_ones_30 : decode cX1_ones 30 = .ok (.ireturn, 1) := by decide +kernel
set_option maxHeartbeats 4000000 in
set_option maxRecDepth 100000 in
theorem mt_X1_ones (l : Launch) (a0 : Int64) (a1 : Int32) : Met l yX1_ones (ws_ yX1_ones cX1_ones 5 (some .int)) ({ frames := 1, cells := 0, slots := 0, locals := 22 } : Room) (fun v _ => v = ([.long a0, .int a1] : List Value).toArray) (QcRead (g_X1_ones a0 a1)) 0 0 (fun _ => False) := by
  refine Met.ofW (cc := cX1_ones) (maxL := 5) (ret := (some .int)) (by decide) rfl ?_
  intro p e s m args below meth c s₁ B hml hv
  obtain rfl : args = ([.long a0, .int a1] : List Value).toArray := hv
  have hx := B.exec
  have hb := B.bytes
  have hr := B.returns
  have hts := atoms_spec (ws := (ws_ yX1_ones cX1_ones 5 (some .int))) B.pre
  have hts : ∀ w ∈ lw_all, w.before _ s = true := fun w h => hts w (List.mem_cons_of_mem _ h)
  have hown : s.vm.findClass RX1 = some m.cls := findClass_of_methodNamed B.named
  have hlocks := B.notSynchronized
  obtain ⟨R, hR⟩ : ∃ R, R = g_X1_ones a0 a1 := ⟨_, rfl⟩
  rw [← hR]
  have hl := lv_entry ([.long a0, .int a1] : List Value) (n := 5) (Nat.le_of_ble_eq_true rfl)
  rw [lg_entry_eq]
  generalize (lg_sl ([.long a0, .int a1] : List Value) ++ List.replicate (5 - (lg_sl ([.long a0, .int a1] : List Value)).length) Slot.unset).toArray = ls at hl ⊢
  have hl : lv_has ls 5 [(0, .long a0), (2, .int a1)] := hl
  have B5 : ∀ (n : Nat) (v3 : Int32) (v4 : Int32) (ls : Array Slot), (a1.toInt - (v4).toInt).toNat < n → lv_has ls 5 [(0, .long a0), (2, .int a1), (3, .int v3), (4, .int v4)] → R = g_X1_ones_5 a0 a1 n v3 v4 → W p l e (headSpec (ws_ yX1_ones cX1_ones 5 (some .int)) ({ frames := 1, cells := 0, slots := 0, locals := 22 } : Room)).room s m ([.long a0, .int a1] : List Value).toArray below meth c s.heap [] 0 0 (MQ below (QcRead R) ([.long a0, .int a1] : List Value).toArray s 0 0 (fun _ => False)) (F0 m 5 ls []) := by
    intro n
    induction n with
    | zero => intro v3 v4 ls hc hl hR; exact absurd hc (Nat.not_lt_zero _)
    | succ n ih =>
      intro v3 v4 ls hc hl hR
      rw [g_X1_ones_5] at hR
      refine lv_iload hx hb dX1_ones_5 (lv_at hl 3 rfl) ?_
      refine lv_iload_n hx hb dX1_ones_7 rfl (lv_at hl 1 rfl) ?_
      refine lv_icmp_ge (tgt := 29) hx hb dX1_ones_8 (by decide) (fun hc8 => ?_) (fun hc8 => ?_)
      · have hR := hR.trans (if_pos hc8)
        refine lv_iload_n hx hb dX1_ones_29 rfl (lv_at hl 2 rfl) ?_
        exact W.iret (v := v3) hx hb hr (fun t ht hW => jr_i hR ht) jnil dX1_ones_30
      · have hR := hR.trans (if_neg hc8)
        refine lv_lload_n hx hb dX1_ones_11 rfl (lv_at hl 0 rfl) ?_
        refine lv_iload hx hb dX1_ones_12 (lv_at hl 3 rfl) ?_
        refine jw_callI (W.runS (As := [.long a0, .int v4]) (rest := []) ⟨hx, hb, hml, hown, hts⟩ (mt_X1_isSet l a0 v4) (va_cwS 2 hts (lw_S q138 q139 q5 q140) rfl rfl rfl (by decide +kernel) ⟨Nat.le_of_ble_eq_true rfl, Nat.le_of_ble_eq_true rfl⟩) preEq rfl rfl hl.1 rfl (lv_room (Nat.le_of_ble_eq_true rfl)) dX1_ones_14 ⟨Nat.le_of_ble_eq_true rfl, Nat.le_of_ble_eq_true rfl⟩) ?_
        refine lv_if_eq (tgt := 23) hx hb dX1_ones_17 (by decide) (fun hc17 => ?_) (fun hc17 => ?_)
        · have hR := hR.trans (if_pos hc17)
          refine lv_iinc (v := (v4 + 1)) (lv' := [(4, .int (v4 + 1)), (0, .long a0), (2, .int a1), (3, .int v3)]) hx hb dX1_ones_23 hl (k := 3) rfl rfl (by decide) rfl (fun ls hl => ?_)
          refine lv_goto (tgt := 5) hx hb dX1_ones_26 (by decide) ?_
          exact ih v3 (v4 + 1) ls (jl_up hc hc8) (lv_sub hl [1, 2, 3, 0] rfl) hR
        · have hR := hR.trans (if_neg hc17)
          refine lv_iinc (v := (v3 + 1)) (lv' := [(3, .int (v3 + 1)), (0, .long a0), (2, .int a1), (4, .int v4)]) hx hb dX1_ones_20 hl (k := 2) rfl rfl (by decide) rfl (fun ls hl => ?_)
          refine lv_iinc (v := (v4 + 1)) (lv' := [(4, .int (v4 + 1)), (3, .int (v3 + 1)), (0, .long a0), (2, .int a1)]) hx hb dX1_ones_23 hl (k := 3) rfl rfl (by decide) rfl (fun ls hl => ?_)
          refine lv_goto (tgt := 5) hx hb dX1_ones_26 (by decide) ?_
          exact ih (v3 + 1) (v4 + 1) ls (jl_up hc hc8) (lv_sub hl [2, 3, 1, 0] rfl) hR
  unfold g_X1_ones at hR
  refine lv_iconst (v := 0) hx hb dX1_ones_0 (by decide) ?_
  refine lv_istore_n (lv' := [(3, .int 0), (0, .long a0), (2, .int a1)]) hx hb dX1_ones_1 rfl hl (by decide) rfl (fun ls hl => ?_)
  refine lv_iconst (v := 0) hx hb dX1_ones_2 (by decide) ?_
  refine lv_istore (lv' := [(4, .int 0), (3, .int 0), (0, .long a0), (2, .int a1)]) hx hb dX1_ones_3 hl (by decide) rfl (fun ls hl => ?_)
  exact B5 ((a1.toInt - (0 : Int32).toInt).toNat + 1) 0 0 ls (Nat.lt_succ_self _) (lv_sub hl [2, 3, 1, 0] rfl) hR
abbrev cX1_isBelow : ByteArray := prog_4_method_17_code
def yX1_isBelow : MethodName := ⟨RX1, "isBelow", "(JJ)Z"⟩
theorem dX1_isBelow_0 : decode cX1_isBelow 0 = .ok (.bipush 63, 2) := by decide +kernel
theorem dX1_isBelow_2 : decode cX1_isBelow 2 = .ok (.istore 4, 2) := by decide +kernel
theorem dX1_isBelow_4 : decode cX1_isBelow 4 = .ok (.iload 4, 2) := by decide +kernel
theorem dX1_isBelow_6 : decode cX1_isBelow 6 = .ok (.ifCond .lt 31, 3) := by decide +kernel
theorem dX1_isBelow_9 : decode cX1_isBelow 9 = .ok (.lload_n 0, 1) := by decide +kernel
theorem dX1_isBelow_10 : decode cX1_isBelow 10 = .ok (.iload 4, 2) := by decide +kernel
theorem dX1_isBelow_12 : decode cX1_isBelow 12 = .ok (.invokestatic 58, 3) := by decide +kernel
theorem dX1_isBelow_15 : decode cX1_isBelow 15 = .ok (.lload_n 2, 1) := by decide +kernel
theorem dX1_isBelow_16 : decode cX1_isBelow 16 = .ok (.iload 4, 2) := by decide +kernel
theorem dX1_isBelow_18 : decode cX1_isBelow 18 = .ok (.invokestatic 58, 3) := by decide +kernel
theorem dX1_isBelow_21 : decode cX1_isBelow 21 = .ok (.if_icmp .eq 10, 3) := by decide +kernel
theorem dX1_isBelow_24 : decode cX1_isBelow 24 = .ok (.lload_n 2, 1) := by decide +kernel
theorem dX1_isBelow_25 : decode cX1_isBelow 25 = .ok (.iload 4, 2) := by decide +kernel
theorem dX1_isBelow_27 : decode cX1_isBelow 27 = .ok (.invokestatic 58, 3) := by decide +kernel
theorem dX1_isBelow_30 : decode cX1_isBelow 30 = .ok (.ireturn, 1) := by decide +kernel
theorem dX1_isBelow_31 : decode cX1_isBelow 31 = .ok (.iinc 4 (-1), 3) := by decide +kernel
theorem dX1_isBelow_34 : decode cX1_isBelow 34 = .ok (.goto (-30), 3) := by decide +kernel
theorem dX1_isBelow_37 : decode cX1_isBelow 37 = .ok (.iconst 0, 1) := by decide +kernel
theorem dX1_isBelow_38 : decode cX1_isBelow 38 = .ok (.ireturn, 1) := by decide +kernel
set_option maxHeartbeats 4000000 in
set_option maxRecDepth 100000 in
theorem mt_X1_isBelow (l : Launch) (a0 : Int64) (a1 : Int64) : Met l yX1_isBelow (ws_ yX1_isBelow cX1_isBelow 5 (some .boolean)) ({ frames := 1, cells := 0, slots := 0, locals := 22 } : Room) (fun v _ => v = ([.long a0, .long a1] : List Value).toArray) (QcRead (bi (g_X1_isBelow a0 a1))) 0 0 (fun _ => False) := by
  refine Met.ofW (cc := cX1_isBelow) (maxL := 5) (ret := (some .boolean)) (by decide) rfl ?_
  intro p e s m args below meth c s₁ B hml hv
  obtain rfl : args = ([.long a0, .long a1] : List Value).toArray := hv
  have hx := B.exec
  have hb := B.bytes
  have hr := B.returns
  have hts := atoms_spec (ws := (ws_ yX1_isBelow cX1_isBelow 5 (some .boolean))) B.pre
  have hts : ∀ w ∈ lw_all, w.before _ s = true := fun w h => hts w (List.mem_cons_of_mem _ h)
  have hown : s.vm.findClass RX1 = some m.cls := findClass_of_methodNamed B.named
  have hlocks := B.notSynchronized
  obtain ⟨R, hR⟩ : ∃ R, R = g_X1_isBelow a0 a1 := ⟨_, rfl⟩
  rw [← hR]
  have hl := lv_entry ([.long a0, .long a1] : List Value) (n := 5) (Nat.le_of_ble_eq_true rfl)
  rw [lg_entry_eq]
  generalize (lg_sl ([.long a0, .long a1] : List Value) ++ List.replicate (5 - (lg_sl ([.long a0, .long a1] : List Value)).length) Slot.unset).toArray = ls at hl ⊢
  have hl : lv_has ls 5 [(0, .long a0), (2, .long a1)] := hl
  have B4 : ∀ (n : Nat) (v4 : Int32) (ls : Array Slot), ((v4).toInt + 1).toNat < n → lv_has ls 5 [(0, .long a0), (2, .long a1), (4, .int v4)] → R = g_X1_isBelow_4 a0 a1 n v4 → W p l e (headSpec (ws_ yX1_isBelow cX1_isBelow 5 (some .boolean)) ({ frames := 1, cells := 0, slots := 0, locals := 22 } : Room)).room s m ([.long a0, .long a1] : List Value).toArray below meth c s.heap [] 0 0 (MQ below (QcRead (bi R)) ([.long a0, .long a1] : List Value).toArray s 0 0 (fun _ => False)) (F0 m 4 ls []) := by
    intro n
    induction n with
    | zero => intro v4 ls hc hl hR; exact absurd hc (Nat.not_lt_zero _)
    | succ n ih =>
      intro v4 ls hc hl hR
      rw [g_X1_isBelow_4] at hR
      refine lv_iload hx hb dX1_isBelow_4 (lv_at hl 2 rfl) ?_
      refine lv_if_lt (tgt := 37) hx hb dX1_isBelow_6 (by decide) (fun hc6 => ?_) (fun hc6 => ?_)
      · have hR := hR.trans (if_pos hc6)
        refine lv_iconst (v := 0) hx hb dX1_isBelow_37 (by decide) ?_
        exact W.zret (v := 0) hx hb hr rfl (fun t ht hW => jr_z hR rfl ht) jnil dX1_isBelow_38
      · have hR := hR.trans (if_neg hc6)
        refine lv_lload_n hx hb dX1_isBelow_9 rfl (lv_at hl 0 rfl) ?_
        refine lv_iload hx hb dX1_isBelow_10 (lv_at hl 2 rfl) ?_
        refine jw_callI (W.runS (As := [.long a0, .int v4]) (rest := []) ⟨hx, hb, hml, hown, hts⟩ (mt_X1_isSet l a0 v4) (va_cwS 2 hts (lw_S q138 q139 q5 q140) rfl rfl rfl (by decide +kernel) ⟨Nat.le_of_ble_eq_true rfl, Nat.le_of_ble_eq_true rfl⟩) preEq rfl rfl hl.1 rfl (lv_room (Nat.le_of_ble_eq_true rfl)) dX1_isBelow_12 ⟨Nat.le_of_ble_eq_true rfl, Nat.le_of_ble_eq_true rfl⟩) ?_
        refine lv_lload_n hx hb dX1_isBelow_15 rfl (lv_at hl 1 rfl) ?_
        refine lv_iload hx hb dX1_isBelow_16 (lv_at hl 2 rfl) ?_
        refine jw_callI (W.runS (As := [.long a1, .int v4]) (rest := [.int (bi (g_X1_isSet a0 v4))]) ⟨hx, hb, hml, hown, hts⟩ (mt_X1_isSet l a1 v4) (va_cwS 2 hts (lw_S q138 q139 q5 q140) rfl rfl rfl (by decide +kernel) ⟨Nat.le_of_ble_eq_true rfl, Nat.le_of_ble_eq_true rfl⟩) preEq rfl rfl hl.1 rfl (lv_room (Nat.le_of_ble_eq_true rfl)) dX1_isBelow_18 ⟨Nat.le_of_ble_eq_true rfl, Nat.le_of_ble_eq_true rfl⟩) ?_
        refine lv_icmp_eq (tgt := 31) hx hb dX1_isBelow_21 (by decide) (fun hc21 => ?_) (fun hc21 => ?_)
        · have hR := hR.trans (if_pos hc21)
          refine lv_iinc (v := (v4 + (-1))) (lv' := [(4, .int (v4 + (-1))), (0, .long a0), (2, .long a1)]) hx hb dX1_isBelow_31 hl (k := 2) rfl rfl (by decide) rfl (fun ls hl => ?_)
          refine lv_goto (tgt := 4) hx hb dX1_isBelow_34 (by decide) ?_
          exact ih (v4 + (-1)) ls (jl_dn hc hc6) (lv_sub hl [1, 2, 0] rfl) hR
        · have hR := hR.trans (if_neg hc21)
          refine lv_lload_n hx hb dX1_isBelow_24 rfl (lv_at hl 1 rfl) ?_
          refine lv_iload hx hb dX1_isBelow_25 (lv_at hl 2 rfl) ?_
          refine jw_callI (W.runS (As := [.long a1, .int v4]) (rest := []) ⟨hx, hb, hml, hown, hts⟩ (mt_X1_isSet l a1 v4) (va_cwS 2 hts (lw_S q138 q139 q5 q140) rfl rfl rfl (by decide +kernel) ⟨Nat.le_of_ble_eq_true rfl, Nat.le_of_ble_eq_true rfl⟩) preEq rfl rfl hl.1 rfl (lv_room (Nat.le_of_ble_eq_true rfl)) dX1_isBelow_27 ⟨Nat.le_of_ble_eq_true rfl, Nat.le_of_ble_eq_true rfl⟩) ?_
          exact W.zret (v := (bi (g_X1_isSet a1 v4))) hx hb hr (narrow_bi _) (fun t ht hW => jr_z hR rfl ht) jnil dX1_isBelow_30
  unfold g_X1_isBelow at hR
  refine lv_bipush (v := 63) hx hb dX1_isBelow_0 (by decide) ?_
  refine lv_istore (lv' := [(4, .int 63), (0, .long a0), (2, .long a1)]) hx hb dX1_isBelow_2 hl (by decide) rfl (fun ls hl => ?_)
  exact B4 (((63 : Int32).toInt + 1).toNat + 1) 63 ls (Nat.lt_succ_self _) (lv_sub hl [1, 2, 0] rfl) hR
abbrev cX1_turned : ByteArray := prog_4_method_20_code
def yX1_turned : MethodName := ⟨RX1, "turned", "(JII)J"⟩
theorem dX1_turned_0 : decode cX1_turned 0 = .ok (.lload_n 0, 1) := by decide +kernel
theorem dX1_turned_1 : decode cX1_turned 1 = .ok (.lstore 4, 2) := by decide +kernel
theorem dX1_turned_3 : decode cX1_turned 3 = .ok (.iconst 0, 1) := by decide +kernel
theorem dX1_turned_4 : decode cX1_turned 4 = .ok (.istore 6, 2) := by decide +kernel
theorem dX1_turned_6 : decode cX1_turned 6 = .ok (.iload 6, 2) := by decide +kernel
theorem dX1_turned_8 : decode cX1_turned 8 = .ok (.iload_n 2, 1) := by decide +kernel
theorem dX1_turned_9 : decode cX1_turned 9 = .ok (.if_icmp .ge 37, 3) := by decide +kernel
theorem dX1_turned_12 : decode cX1_turned 12 = .ok (.lload 4, 2) := by decide +kernel
theorem dX1_turned_14 : decode cX1_turned 14 = .ok (.iconst 1, 1) := by decide +kernel
theorem dX1_turned_15 : decode cX1_turned 15 = .ok (.lshl, 1) := by decide +kernel
theorem dX1_turned_16 : decode cX1_turned 16 = .ok (.iload_n 3, 1) := by decide +kernel
theorem dX1_turned_17 : decode cX1_turned 17 = .ok (.invokestatic 23, 3) := by decide +kernel
theorem dX1_turned_20 : decode cX1_turned 20 = .ok (.lload 4, 2) := by decide +kernel
theorem dX1_turned_22 : decode cX1_turned 22 = .ok (.iload_n 3, 1) := by decide +kernel
theorem dX1_turned_23 : decode cX1_turned 23 = .ok (.iconst 1, 1) := by decide +kernel
theorem dX1_turned_24 : decode cX1_turned 24 = .ok (.isub, 1) := by decide +kernel
theorem dX1_turned_25 : decode cX1_turned 25 = .ok (.invokestatic 58, 3) := by decide +kernel
theorem dX1_turned_28 : decode cX1_turned 28 = .ok (.ifCond .eq 7, 3) := by decide +kernel
theorem dX1_turned_31 : decode cX1_turned 31 = .ok (.iconst 1, 1) := by decide +kernel
theorem dX1_turned_32 : decode cX1_turned 32 = .ok (.goto 4, 3) := by decide +kernel
theorem dX1_turned_35 : decode cX1_turned 35 = .ok (.iconst 0, 1) := by decide +kernel
theorem dX1_turned_36 : decode cX1_turned 36 = .ok (.i2l, 1) := by decide +kernel
theorem dX1_turned_37 : decode cX1_turned 37 = .ok (.lor, 1) := by decide +kernel
theorem dX1_turned_38 : decode cX1_turned 38 = .ok (.lstore 4, 2) := by decide +kernel
theorem dX1_turned_40 : decode cX1_turned 40 = .ok (.iinc 6 1, 3) := by decide +kernel
theorem dX1_turned_43 : decode cX1_turned 43 = .ok (.goto (-37), 3) := by decide +kernel
theorem dX1_turned_46 : decode cX1_turned 46 = .ok (.lload 4, 2) := by decide +kernel
theorem dX1_turned_48 : decode cX1_turned 48 = .ok (.lreturn, 1) := by decide +kernel
set_option maxHeartbeats 4000000 in
set_option maxRecDepth 100000 in
theorem mt_X1_turned (l : Launch) (a0 : Int64) (a1 : Int32) (a2 : Int32) : Met l yX1_turned (ws_ yX1_turned cX1_turned 7 (some .long)) ({ frames := 1, cells := 0, slots := 0, locals := 22 } : Room) (fun v _ => v = ([.long a0, .int a1, .int a2] : List Value).toArray) (QcReadL (g_X1_turned a0 a1 a2)) 0 0 (fun _ => False) := by
  refine Met.ofW (cc := cX1_turned) (maxL := 7) (ret := (some .long)) (by decide) rfl ?_
  intro p e s m args below meth c s₁ B hml hv
  obtain rfl : args = ([.long a0, .int a1, .int a2] : List Value).toArray := hv
  have hx := B.exec
  have hb := B.bytes
  have hr := B.returns
  have hts := atoms_spec (ws := (ws_ yX1_turned cX1_turned 7 (some .long))) B.pre
  have hts : ∀ w ∈ lw_all, w.before _ s = true := fun w h => hts w (List.mem_cons_of_mem _ h)
  have hown : s.vm.findClass RX1 = some m.cls := findClass_of_methodNamed B.named
  have hlocks := B.notSynchronized
  obtain ⟨R, hR⟩ : ∃ R, R = g_X1_turned a0 a1 a2 := ⟨_, rfl⟩
  rw [← hR]
  have hl := lv_entry ([.long a0, .int a1, .int a2] : List Value) (n := 7) (Nat.le_of_ble_eq_true rfl)
  rw [lg_entry_eq]
  generalize (lg_sl ([.long a0, .int a1, .int a2] : List Value) ++ List.replicate (7 - (lg_sl ([.long a0, .int a1, .int a2] : List Value)).length) Slot.unset).toArray = ls at hl ⊢
  have hl : lv_has ls 7 [(0, .long a0), (2, .int a1), (3, .int a2)] := hl
  have B6 : ∀ (n : Nat) (v4 : Int64) (v6 : Int32) (ls : Array Slot), (a1.toInt - (v6).toInt).toNat < n → lv_has ls 7 [(2, .int a1), (3, .int a2), (4, .long v4), (6, .int v6)] → R = g_X1_turned_6 a0 a1 a2 n v4 v6 → W p l e (headSpec (ws_ yX1_turned cX1_turned 7 (some .long)) ({ frames := 1, cells := 0, slots := 0, locals := 22 } : Room)).room s m ([.long a0, .int a1, .int a2] : List Value).toArray below meth c s.heap [] 0 0 (MQ below (QcReadL R) ([.long a0, .int a1, .int a2] : List Value).toArray s 0 0 (fun _ => False)) (F0 m 6 ls []) := by
    intro n
    induction n with
    | zero => intro v4 v6 ls hc hl hR; exact absurd hc (Nat.not_lt_zero _)
    | succ n ih =>
      intro v4 v6 ls hc hl hR
      rw [g_X1_turned_6] at hR
      refine lv_iload hx hb dX1_turned_6 (lv_at hl 3 rfl) ?_
      refine lv_iload_n hx hb dX1_turned_8 rfl (lv_at hl 0 rfl) ?_
      refine lv_icmp_ge (tgt := 46) hx hb dX1_turned_9 (by decide) (fun hc9 => ?_) (fun hc9 => ?_)
      · have hR := hR.trans (if_pos hc9)
        refine lv_lload hx hb dX1_turned_46 (lv_at hl 2 rfl) ?_
        exact W.lret (v := v4) hx hb hr (fun t ht hW => jr_l hR ht) jnil dX1_turned_48
      · have hR := hR.trans (if_neg hc9)
        refine lv_lload hx hb dX1_turned_12 (lv_at hl 2 rfl) ?_
        refine lv_iconst (v := 1) hx hb dX1_turned_14 (by decide) ?_
        refine lv_lshl (v := (j_lshl v4 1)) hx hb dX1_turned_15 rfl ?_
        refine lv_iload_n hx hb dX1_turned_16 rfl (lv_at hl 1 rfl) ?_
        refine jw_callJ (W.runS (As := [.long (j_lshl v4 1), .int a2]) (rest := []) ⟨hx, hb, hml, hown, hts⟩ (mt_X1_cut l (j_lshl v4 1) a2) (va_cwS 2 hts (lw_S q129 q130 q5 q131) rfl rfl rfl (by decide +kernel) ⟨Nat.le_of_ble_eq_true rfl, Nat.le_of_ble_eq_true rfl⟩) preEq rfl rfl hl.1 rfl (lv_room (Nat.le_of_ble_eq_true rfl)) dX1_turned_17 ⟨Nat.le_of_ble_eq_true rfl, Nat.le_of_ble_eq_true rfl⟩) ?_
        refine lv_lload hx hb dX1_turned_20 (lv_at hl 2 rfl) ?_
        refine lv_iload_n hx hb dX1_turned_22 rfl (lv_at hl 1 rfl) ?_
        refine lv_iconst (v := 1) hx hb dX1_turned_23 (by decide) ?_
        refine lv_isub hx hb dX1_turned_24 ?_
        refine jw_callI (W.runS (As := [.long v4, .int (a2 - 1)]) (rest := [.long (g_X1_cut (j_lshl v4 1) a2)]) ⟨hx, hb, hml, hown, hts⟩ (mt_X1_isSet l v4 (a2 - 1)) (va_cwS 2 hts (lw_S q138 q139 q5 q140) rfl rfl rfl (by decide +kernel) ⟨Nat.le_of_ble_eq_true rfl, Nat.le_of_ble_eq_true rfl⟩) preEq rfl rfl hl.1 rfl (lv_room (Nat.le_of_ble_eq_true rfl)) dX1_turned_25 ⟨Nat.le_of_ble_eq_true rfl, Nat.le_of_ble_eq_true rfl⟩) ?_
        refine lv_if_eq (tgt := 35) hx hb dX1_turned_28 (by decide) (fun hc28 => ?_) (fun hc28 => ?_)
        · have hR := hR.trans (if_pos hc28)
          refine lv_iconst (v := 0) hx hb dX1_turned_35 (by decide) ?_
          refine lv_i2l (v := ((0 : Int32)).toInt64) hx hb dX1_turned_36 rfl ?_
          refine lv_lor hx hb dX1_turned_37 ?_
          refine lv_lstore (lv' := [(4, .long ((g_X1_cut (j_lshl v4 1) a2) ||| (((0 : Int32)).toInt64))), (2, .int a1), (3, .int a2), (6, .int v6)]) hx hb dX1_turned_38 hl (by decide) rfl (fun ls hl => ?_)
          refine lv_iinc (v := (v6 + 1)) (lv' := [(6, .int (v6 + 1)), (4, .long ((g_X1_cut (j_lshl v4 1) a2) ||| (((0 : Int32)).toInt64))), (2, .int a1), (3, .int a2)]) hx hb dX1_turned_40 hl (k := 3) rfl rfl (by decide) rfl (fun ls hl => ?_)
          refine lv_goto (tgt := 6) hx hb dX1_turned_43 (by decide) ?_
          exact ih ((g_X1_cut (j_lshl v4 1) a2) ||| (((0 : Int32)).toInt64)) (v6 + 1) ls (jl_up hc hc9) (lv_sub hl [2, 3, 1, 0] rfl) hR
        · have hR := hR.trans (if_neg hc28)
          refine lv_iconst (v := 1) hx hb dX1_turned_31 (by decide) ?_
          refine lv_goto (tgt := 36) hx hb dX1_turned_32 (by decide) ?_
          refine lv_i2l (v := ((1 : Int32)).toInt64) hx hb dX1_turned_36 rfl ?_
          refine lv_lor hx hb dX1_turned_37 ?_
          refine lv_lstore (lv' := [(4, .long ((g_X1_cut (j_lshl v4 1) a2) ||| (((1 : Int32)).toInt64))), (2, .int a1), (3, .int a2), (6, .int v6)]) hx hb dX1_turned_38 hl (by decide) rfl (fun ls hl => ?_)
          refine lv_iinc (v := (v6 + 1)) (lv' := [(6, .int (v6 + 1)), (4, .long ((g_X1_cut (j_lshl v4 1) a2) ||| (((1 : Int32)).toInt64))), (2, .int a1), (3, .int a2)]) hx hb dX1_turned_40 hl (k := 3) rfl rfl (by decide) rfl (fun ls hl => ?_)
          refine lv_goto (tgt := 6) hx hb dX1_turned_43 (by decide) ?_
          exact ih ((g_X1_cut (j_lshl v4 1) a2) ||| (((1 : Int32)).toInt64)) (v6 + 1) ls (jl_up hc hc9) (lv_sub hl [2, 3, 1, 0] rfl) hR
  unfold g_X1_turned at hR
  refine lv_lload_n hx hb dX1_turned_0 rfl (lv_at hl 0 rfl) ?_
  refine lv_lstore (lv' := [(4, .long a0), (0, .long a0), (2, .int a1), (3, .int a2)]) hx hb dX1_turned_1 hl (by decide) rfl (fun ls hl => ?_)
  refine lv_iconst (v := 0) hx hb dX1_turned_3 (by decide) ?_
  refine lv_istore (lv' := [(6, .int 0), (4, .long a0), (0, .long a0), (2, .int a1), (3, .int a2)]) hx hb dX1_turned_4 hl (by decide) rfl (fun ls hl => ?_)
  exact B6 ((a1.toInt - (0 : Int32).toInt).toNat + 1) a0 0 ls (Nat.lt_succ_self _) (lv_sub hl [3, 4, 1, 0] rfl) hR
abbrev cX1_product : ByteArray := prog_4_method_21_code
def yX1_product : MethodName := ⟨RX1, "product", "(JJI)J"⟩
theorem dX1_product_0 : decode cX1_product 0 = .ok (.lconst 0, 1) := by decide +kernel
theorem dX1_product_1 : decode cX1_product 1 = .ok (.lstore 5, 2) := by decide +kernel
theorem dX1_product_3 : decode cX1_product 3 = .ok (.iconst 0, 1) := by decide +kernel
theorem dX1_product_4 : decode cX1_product 4 = .ok (.istore 7, 2) := by decide +kernel
theorem dX1_product_6 : decode cX1_product 6 = .ok (.iload 7, 2) := by decide +kernel
theorem dX1_product_8 : decode cX1_product 8 = .ok (.iload 4, 2) := by decide +kernel
theorem dX1_product_10 : decode cX1_product 10 = .ok (.if_icmp .ge 27, 3) := by decide +kernel
theorem dX1_product_13 : decode cX1_product 13 = .ok (.lload_n 2, 1) := by decide +kernel
theorem dX1_product_14 : decode cX1_product 14 = .ok (.iload 7, 2) := by decide +kernel
theorem dX1_product_16 : decode cX1_product 16 = .ok (.invokestatic 58, 3) := by decide +kernel
theorem dX1_product_19 : decode cX1_product 19 = .ok (.ifCond .eq 12, 3) := by decide +kernel
theorem dX1_product_22 : decode cX1_product 22 = .ok (.lload 5, 2) := by decide +kernel
theorem dX1_product_24 : decode cX1_product 24 = .ok (.lload_n 0, 1) := by decide +kernel
theorem dX1_product_25 : decode cX1_product 25 = .ok (.iload 7, 2) := by decide +kernel
theorem dX1_product_27 : decode cX1_product 27 = .ok (.lshl, 1) := by decide +kernel
theorem dX1_product_28 : decode cX1_product 28 = .ok (.ladd, 1) := by decide +kernel
theorem dX1_product_29 : decode cX1_product 29 = .ok (.lstore 5, 2) := by decide +kernel
theorem dX1_product_31 : decode cX1_product 31 = .ok (.iinc 7 1, 3) := by decide +kernel
theorem dX1_product_34 : decode cX1_product 34 = .ok (.goto (-28), 3) := by decide +kernel
theorem dX1_product_37 : decode cX1_product 37 = .ok (.lload 5, 2) := by decide +kernel
theorem dX1_product_39 : decode cX1_product 39 = .ok (.lreturn, 1) := by decide +kernel
set_option maxHeartbeats 4000000 in
set_option maxRecDepth 100000 in
theorem mt_X1_product (l : Launch) (a0 : Int64) (a1 : Int64) (a2 : Int32) : Met l yX1_product (ws_ yX1_product cX1_product 8 (some .long)) ({ frames := 1, cells := 0, slots := 0, locals := 22 } : Room) (fun v _ => v = ([.long a0, .long a1, .int a2] : List Value).toArray) (QcReadL (g_X1_product a0 a1 a2)) 0 0 (fun _ => False) := by
  refine Met.ofW (cc := cX1_product) (maxL := 8) (ret := (some .long)) (by decide) rfl ?_
  intro p e s m args below meth c s₁ B hml hv
  obtain rfl : args = ([.long a0, .long a1, .int a2] : List Value).toArray := hv
  have hx := B.exec
  have hb := B.bytes
  have hr := B.returns
  have hts := atoms_spec (ws := (ws_ yX1_product cX1_product 8 (some .long))) B.pre
  have hts : ∀ w ∈ lw_all, w.before _ s = true := fun w h => hts w (List.mem_cons_of_mem _ h)
  have hown : s.vm.findClass RX1 = some m.cls := findClass_of_methodNamed B.named
  have hlocks := B.notSynchronized
  obtain ⟨R, hR⟩ : ∃ R, R = g_X1_product a0 a1 a2 := ⟨_, rfl⟩
  rw [← hR]
  have hl := lv_entry ([.long a0, .long a1, .int a2] : List Value) (n := 8) (Nat.le_of_ble_eq_true rfl)
  rw [lg_entry_eq]
  generalize (lg_sl ([.long a0, .long a1, .int a2] : List Value) ++ List.replicate (8 - (lg_sl ([.long a0, .long a1, .int a2] : List Value)).length) Slot.unset).toArray = ls at hl ⊢
  have hl : lv_has ls 8 [(0, .long a0), (2, .long a1), (4, .int a2)] := hl
  have B6 : ∀ (n : Nat) (v5 : Int64) (v7 : Int32) (ls : Array Slot), (a2.toInt - (v7).toInt).toNat < n → lv_has ls 8 [(0, .long a0), (2, .long a1), (4, .int a2), (5, .long v5), (7, .int v7)] → R = g_X1_product_6 a0 a1 a2 n v5 v7 → W p l e (headSpec (ws_ yX1_product cX1_product 8 (some .long)) ({ frames := 1, cells := 0, slots := 0, locals := 22 } : Room)).room s m ([.long a0, .long a1, .int a2] : List Value).toArray below meth c s.heap [] 0 0 (MQ below (QcReadL R) ([.long a0, .long a1, .int a2] : List Value).toArray s 0 0 (fun _ => False)) (F0 m 6 ls []) := by
    intro n
    induction n with
    | zero => intro v5 v7 ls hc hl hR; exact absurd hc (Nat.not_lt_zero _)
    | succ n ih =>
      intro v5 v7 ls hc hl hR
      rw [g_X1_product_6] at hR
      refine lv_iload hx hb dX1_product_6 (lv_at hl 4 rfl) ?_
      refine lv_iload hx hb dX1_product_8 (lv_at hl 2 rfl) ?_
      refine lv_icmp_ge (tgt := 37) hx hb dX1_product_10 (by decide) (fun hc10 => ?_) (fun hc10 => ?_)
      · have hR := hR.trans (if_pos hc10)
        refine lv_lload hx hb dX1_product_37 (lv_at hl 3 rfl) ?_
        exact W.lret (v := v5) hx hb hr (fun t ht hW => jr_l hR ht) jnil dX1_product_39
      · have hR := hR.trans (if_neg hc10)
        refine lv_lload_n hx hb dX1_product_13 rfl (lv_at hl 1 rfl) ?_
        refine lv_iload hx hb dX1_product_14 (lv_at hl 4 rfl) ?_
        refine jw_callI (W.runS (As := [.long a1, .int v7]) (rest := []) ⟨hx, hb, hml, hown, hts⟩ (mt_X1_isSet l a1 v7) (va_cwS 2 hts (lw_S q138 q139 q5 q140) rfl rfl rfl (by decide +kernel) ⟨Nat.le_of_ble_eq_true rfl, Nat.le_of_ble_eq_true rfl⟩) preEq rfl rfl hl.1 rfl (lv_room (Nat.le_of_ble_eq_true rfl)) dX1_product_16 ⟨Nat.le_of_ble_eq_true rfl, Nat.le_of_ble_eq_true rfl⟩) ?_
        refine lv_if_eq (tgt := 31) hx hb dX1_product_19 (by decide) (fun hc19 => ?_) (fun hc19 => ?_)
        · have hR := hR.trans (if_pos hc19)
          refine lv_iinc (v := (v7 + 1)) (lv' := [(7, .int (v7 + 1)), (0, .long a0), (2, .long a1), (4, .int a2), (5, .long v5)]) hx hb dX1_product_31 hl (k := 4) rfl rfl (by decide) rfl (fun ls hl => ?_)
          refine lv_goto (tgt := 6) hx hb dX1_product_34 (by decide) ?_
          exact ih v5 (v7 + 1) ls (jl_up hc hc10) (lv_sub hl [1, 2, 3, 4, 0] rfl) hR
        · have hR := hR.trans (if_neg hc19)
          refine lv_lload hx hb dX1_product_22 (lv_at hl 3 rfl) ?_
          refine lv_lload_n hx hb dX1_product_24 rfl (lv_at hl 0 rfl) ?_
          refine lv_iload hx hb dX1_product_25 (lv_at hl 4 rfl) ?_
          refine lv_lshl (v := (j_lshl a0 v7)) hx hb dX1_product_27 rfl ?_
          refine lv_ladd hx hb dX1_product_28 ?_
          refine lv_lstore (lv' := [(5, .long (v5 + (j_lshl a0 v7))), (0, .long a0), (2, .long a1), (4, .int a2), (7, .int v7)]) hx hb dX1_product_29 hl (by decide) rfl (fun ls hl => ?_)
          refine lv_iinc (v := (v7 + 1)) (lv' := [(7, .int (v7 + 1)), (5, .long (v5 + (j_lshl a0 v7))), (0, .long a0), (2, .long a1), (4, .int a2)]) hx hb dX1_product_31 hl (k := 4) rfl rfl (by decide) rfl (fun ls hl => ?_)
          refine lv_goto (tgt := 6) hx hb dX1_product_34 (by decide) ?_
          exact ih (v5 + (j_lshl a0 v7)) (v7 + 1) ls (jl_up hc hc10) (lv_sub hl [2, 3, 4, 1, 0] rfl) hR
  unfold g_X1_product at hR
  refine lv_lconst (v := 0) hx hb dX1_product_0 (by decide) ?_
  refine lv_lstore (lv' := [(5, .long 0), (0, .long a0), (2, .long a1), (4, .int a2)]) hx hb dX1_product_1 hl (by decide) rfl (fun ls hl => ?_)
  refine lv_iconst (v := 0) hx hb dX1_product_3 (by decide) ?_
  refine lv_istore (lv' := [(7, .int 0), (5, .long 0), (0, .long a0), (2, .long a1), (4, .int a2)]) hx hb dX1_product_4 hl (by decide) rfl (fun ls hl => ?_)
  exact B6 ((a2.toInt - (0 : Int32).toInt).toNat + 1) 0 0 ls (Nat.lt_succ_self _) (lv_sub hl [2, 3, 4, 1, 0] rfl) hR
abbrev cX1_one : ByteArray := prog_4_method_13_code
def yX1_one : MethodName := ⟨RX1, "one", "(IJI)J"⟩
theorem dX1_one_0 : decode cX1_one 0 = .ok (.iload_n 0, 1) := by decide +kernel
theorem dX1_one_1 : decode cX1_one 1 = .ok (.lookupswitch 174 #[(69, 123), (80, 123), (103, 135), (104, 143), (105, 151), (121, 135), (122, 143), (123, 151), (167, 158), (172, 158), (173, 165), (192, 167), (194, 167), (196, 158)], 123) := by decide +kernel
theorem dX1_one_124 : decode cX1_one 124 = .ok (.lload_n 1, 1) := by decide +kernel
theorem dX1_one_125 : decode cX1_one 125 = .ok (.lconst 0, 1) := by decide +kernel
theorem dX1_one_126 : decode cX1_one 126 = .ok (.lcmp, 1) := by decide +kernel
theorem dX1_one_127 : decode cX1_one 127 = .ok (.ifCond .ne 7, 3) := by decide +kernel
theorem dX1_one_130 : decode cX1_one 130 = .ok (.lconst 1, 1) := by decide +kernel
theorem dX1_one_131 : decode cX1_one 131 = .ok (.goto 4, 3) := by decide +kernel
theorem dX1_one_134 : decode cX1_one 134 = .ok (.lconst 0, 1) := by decide +kernel
theorem dX1_one_135 : decode cX1_one 135 = .ok (.lreturn, 1) := by decide +kernel
theorem dX1_one_136 : decode cX1_one 136 = .ok (.lload_n 1, 1) := by decide +kernel
theorem dX1_one_137 : decode cX1_one 137 = .ok (.iload_n 3, 1) := by decide +kernel
theorem dX1_one_138 : decode cX1_one 138 = .ok (.iconst 1, 1) := by decide +kernel
theorem dX1_one_139 : decode cX1_one 139 = .ok (.invokestatic 47, 3) := by decide +kernel
theorem dX1_one_142 : decode cX1_one 142 = .ok (.i2l, 1) := by decide +kernel
theorem dX1_one_143 : decode cX1_one 143 = .ok (.lreturn, 1) := by decide +kernel
theorem dX1_one_144 : decode cX1_one 144 = .ok (.lload_n 1, 1) := by decide +kernel
theorem dX1_one_145 : decode cX1_one 145 = .ok (.iload_n 3, 1) := by decide +kernel
theorem dX1_one_146 : decode cX1_one 146 = .ok (.iconst 0, 1) := by decide +kernel
theorem dX1_one_147 : decode cX1_one 147 = .ok (.invokestatic 47, 3) := by decide +kernel
theorem dX1_one_150 : decode cX1_one 150 = .ok (.i2l, 1) := by decide +kernel
theorem dX1_one_151 : decode cX1_one 151 = .ok (.lreturn, 1) := by decide +kernel
theorem dX1_one_152 : decode cX1_one 152 = .ok (.lload_n 1, 1) := by decide +kernel
theorem dX1_one_153 : decode cX1_one 153 = .ok (.iload_n 3, 1) := by decide +kernel
theorem dX1_one_154 : decode cX1_one 154 = .ok (.invokestatic 51, 3) := by decide +kernel
theorem dX1_one_157 : decode cX1_one 157 = .ok (.i2l, 1) := by decide +kernel
theorem dX1_one_158 : decode cX1_one 158 = .ok (.lreturn, 1) := by decide +kernel
theorem dX1_one_159 : decode cX1_one 159 = .ok (.lload_n 1, 1) := by decide +kernel
theorem dX1_one_160 : decode cX1_one 160 = .ok (.bipush 32, 2) := by decide +kernel
theorem dX1_one_162 : decode cX1_one 162 = .ok (.invokestatic 55, 3) := by decide +kernel
theorem dX1_one_165 : decode cX1_one 165 = .ok (.lreturn, 1) := by decide +kernel
theorem dX1_one_166 : decode cX1_one 166 = .ok (.lload_n 1, 1) := by decide +kernel
theorem dX1_one_167 : decode cX1_one 167 = .ok (.lreturn, 1) := by decide +kernel
theorem dX1_one_168 : decode cX1_one 168 = .ok (.lload_n 1, 1) := by decide +kernel
theorem dX1_one_169 : decode cX1_one 169 = .ok (.bipush 8, 2) := by decide +kernel
theorem dX1_one_171 : decode cX1_one 171 = .ok (.invokestatic 55, 3) := by decide +kernel
theorem dX1_one_174 : decode cX1_one 174 = .ok (.lreturn, 1) := by decide +kernel
theorem dX1_one_175 : decode cX1_one 175 = .ok (.lload_n 1, 1) := by decide +kernel
theorem dX1_one_176 : decode cX1_one 176 = .ok (.bipush 16, 2) := by decide +kernel
theorem dX1_one_178 : decode cX1_one 178 = .ok (.invokestatic 55, 3) := by decide +kernel
theorem dX1_one_181 : decode cX1_one 181 = .ok (.lreturn, 1) := by decide +kernel
set_option maxHeartbeats 4000000 in
set_option maxRecDepth 100000 in
theorem mt_X1_one (l : Launch) (a0 : Int32) (a1 : Int64) (a2 : Int32) : Met l yX1_one (ws_ yX1_one cX1_one 4 (some .long)) ({ frames := 2, cells := 0, slots := 0, locals := 46 } : Room) (fun v _ => v = ([.int a0, .long a1, .int a2] : List Value).toArray) (QcReadL (g_X1_one a0 a1 a2)) 0 0 (fun _ => False) := by
  refine Met.ofW (cc := cX1_one) (maxL := 4) (ret := (some .long)) (by decide) rfl ?_
  intro p e s m args below meth c s₁ B hml hv
  obtain rfl : args = ([.int a0, .long a1, .int a2] : List Value).toArray := hv
  have hx := B.exec
  have hb := B.bytes
  have hr := B.returns
  have hts := atoms_spec (ws := (ws_ yX1_one cX1_one 4 (some .long))) B.pre
  have hts : ∀ w ∈ lw_all, w.before _ s = true := fun w h => hts w (List.mem_cons_of_mem _ h)
  have hown : s.vm.findClass RX1 = some m.cls := findClass_of_methodNamed B.named
  have hlocks := B.notSynchronized
  obtain ⟨R, hR⟩ : ∃ R, R = g_X1_one a0 a1 a2 := ⟨_, rfl⟩
  rw [← hR]
  have hl := lv_entry ([.int a0, .long a1, .int a2] : List Value) (n := 4) (Nat.le_of_ble_eq_true rfl)
  rw [lg_entry_eq]
  generalize (lg_sl ([.int a0, .long a1, .int a2] : List Value) ++ List.replicate (4 - (lg_sl ([.int a0, .long a1, .int a2] : List Value)).length) Slot.unset).toArray = ls at hl ⊢
  have hl : lv_has ls 4 [(0, .int a0), (1, .long a1), (3, .int a2)] := hl
  unfold g_X1_one at hR
  refine lv_iload_n hx hb dX1_one_0 rfl (lv_at hl 0 rfl) ?_
  by_cases hk69 : a0 = 69
  · have hR := hR.trans (if_pos hk69)
    refine lv_lookup (off := 123) (tgt := 124) hx hb dX1_one_1 (by decide) (by rw [hk69]; rfl) (by decide) ?_
    refine lv_lload_n hx hb dX1_one_124 rfl (lv_at hl 1 rfl) ?_
    refine lv_lconst (v := 0) hx hb dX1_one_125 (by decide) ?_
    refine W.lcmp hx hb dX1_one_126 ?_
    refine lv_if_ne (tgt := 134) hx hb dX1_one_127 (by decide) (fun hc127 => ?_) (fun hc127 => ?_)
    · have hR := hR.trans (if_neg hc127)
      refine lv_lconst (v := 0) hx hb dX1_one_134 (by decide) ?_
      exact W.lret (v := 0) hx hb hr (fun t ht hW => jr_l hR ht) jnil dX1_one_135
    · have hR := hR.trans (if_pos hc127)
      refine lv_lconst (v := 1) hx hb dX1_one_130 (by decide) ?_
      refine lv_goto (tgt := 135) hx hb dX1_one_131 (by decide) ?_
      exact W.lret (v := 1) hx hb hr (fun t ht hW => jr_l hR ht) jnil dX1_one_135
  have hR := hR.trans (if_neg hk69)
  by_cases hk80 : a0 = 80
  · have hR := hR.trans (if_pos hk80)
    refine lv_lookup (off := 123) (tgt := 124) hx hb dX1_one_1 (by decide) (by rw [hk80]; rfl) (by decide) ?_
    refine lv_lload_n hx hb dX1_one_124 rfl (lv_at hl 1 rfl) ?_
    refine lv_lconst (v := 0) hx hb dX1_one_125 (by decide) ?_
    refine W.lcmp hx hb dX1_one_126 ?_
    refine lv_if_ne (tgt := 134) hx hb dX1_one_127 (by decide) (fun hc127 => ?_) (fun hc127 => ?_)
    · have hR := hR.trans (if_neg hc127)
      refine lv_lconst (v := 0) hx hb dX1_one_134 (by decide) ?_
      exact W.lret (v := 0) hx hb hr (fun t ht hW => jr_l hR ht) jnil dX1_one_135
    · have hR := hR.trans (if_pos hc127)
      refine lv_lconst (v := 1) hx hb dX1_one_130 (by decide) ?_
      refine lv_goto (tgt := 135) hx hb dX1_one_131 (by decide) ?_
      exact W.lret (v := 1) hx hb hr (fun t ht hW => jr_l hR ht) jnil dX1_one_135
  have hR := hR.trans (if_neg hk80)
  by_cases hk103 : a0 = 103
  · have hR := hR.trans (if_pos hk103)
    refine lv_lookup (off := 135) (tgt := 136) hx hb dX1_one_1 (by decide) (by rw [hk103]; rfl) (by decide) ?_
    refine lv_lload_n hx hb dX1_one_136 rfl (lv_at hl 1 rfl) ?_
    refine lv_iload_n hx hb dX1_one_137 rfl (lv_at hl 2 rfl) ?_
    refine lv_iconst (v := 1) hx hb dX1_one_138 (by decide) ?_
    refine jw_callI (W.runS (As := [.long a1, .int a2, .int 1]) (rest := []) ⟨hx, hb, hml, hown, hts⟩ (mt_X1_zeros l a1 a2 1) (va_cwS 3 hts (lw_S q135 q136 q5 q137) rfl rfl rfl (by decide +kernel) ⟨Nat.le_of_ble_eq_true rfl, Nat.le_of_ble_eq_true rfl⟩) preEq rfl rfl hl.1 rfl (lv_room (Nat.le_of_ble_eq_true rfl)) dX1_one_139 ⟨Nat.le_of_ble_eq_true rfl, Nat.le_of_ble_eq_true rfl⟩) ?_
    refine lv_i2l (v := (g_X1_zeros a1 a2 1).toInt64) hx hb dX1_one_142 rfl ?_
    exact W.lret (v := ((g_X1_zeros a1 a2 1).toInt64)) hx hb hr (fun t ht hW => jr_l hR ht) jnil dX1_one_143
  have hR := hR.trans (if_neg hk103)
  by_cases hk104 : a0 = 104
  · have hR := hR.trans (if_pos hk104)
    refine lv_lookup (off := 143) (tgt := 144) hx hb dX1_one_1 (by decide) (by rw [hk104]; rfl) (by decide) ?_
    refine lv_lload_n hx hb dX1_one_144 rfl (lv_at hl 1 rfl) ?_
    refine lv_iload_n hx hb dX1_one_145 rfl (lv_at hl 2 rfl) ?_
    refine lv_iconst (v := 0) hx hb dX1_one_146 (by decide) ?_
    refine jw_callI (W.runS (As := [.long a1, .int a2, .int 0]) (rest := []) ⟨hx, hb, hml, hown, hts⟩ (mt_X1_zeros l a1 a2 0) (va_cwS 3 hts (lw_S q135 q136 q5 q137) rfl rfl rfl (by decide +kernel) ⟨Nat.le_of_ble_eq_true rfl, Nat.le_of_ble_eq_true rfl⟩) preEq rfl rfl hl.1 rfl (lv_room (Nat.le_of_ble_eq_true rfl)) dX1_one_147 ⟨Nat.le_of_ble_eq_true rfl, Nat.le_of_ble_eq_true rfl⟩) ?_
    refine lv_i2l (v := (g_X1_zeros a1 a2 0).toInt64) hx hb dX1_one_150 rfl ?_
    exact W.lret (v := ((g_X1_zeros a1 a2 0).toInt64)) hx hb hr (fun t ht hW => jr_l hR ht) jnil dX1_one_151
  have hR := hR.trans (if_neg hk104)
  by_cases hk105 : a0 = 105
  · have hR := hR.trans (if_pos hk105)
    refine lv_lookup (off := 151) (tgt := 152) hx hb dX1_one_1 (by decide) (by rw [hk105]; rfl) (by decide) ?_
    refine lv_lload_n hx hb dX1_one_152 rfl (lv_at hl 1 rfl) ?_
    refine lv_iload_n hx hb dX1_one_153 rfl (lv_at hl 2 rfl) ?_
    refine jw_callI (W.runS (As := [.long a1, .int a2]) (rest := []) ⟨hx, hb, hml, hown, hts⟩ (mt_X1_ones l a1 a2) (va_cwS 2 hts (lw_S q141 q142 q5 q143) rfl rfl rfl (by decide +kernel) ⟨Nat.le_of_ble_eq_true rfl, Nat.le_of_ble_eq_true rfl⟩) preEq rfl rfl hl.1 rfl (lv_room (Nat.le_of_ble_eq_true rfl)) dX1_one_154 ⟨Nat.le_of_ble_eq_true rfl, Nat.le_of_ble_eq_true rfl⟩) ?_
    refine lv_i2l (v := (g_X1_ones a1 a2).toInt64) hx hb dX1_one_157 rfl ?_
    exact W.lret (v := ((g_X1_ones a1 a2).toInt64)) hx hb hr (fun t ht hW => jr_l hR ht) jnil dX1_one_158
  have hR := hR.trans (if_neg hk105)
  by_cases hk121 : a0 = 121
  · have hR := hR.trans (if_pos hk121)
    refine lv_lookup (off := 135) (tgt := 136) hx hb dX1_one_1 (by decide) (by rw [hk121]; rfl) (by decide) ?_
    refine lv_lload_n hx hb dX1_one_136 rfl (lv_at hl 1 rfl) ?_
    refine lv_iload_n hx hb dX1_one_137 rfl (lv_at hl 2 rfl) ?_
    refine lv_iconst (v := 1) hx hb dX1_one_138 (by decide) ?_
    refine jw_callI (W.runS (As := [.long a1, .int a2, .int 1]) (rest := []) ⟨hx, hb, hml, hown, hts⟩ (mt_X1_zeros l a1 a2 1) (va_cwS 3 hts (lw_S q135 q136 q5 q137) rfl rfl rfl (by decide +kernel) ⟨Nat.le_of_ble_eq_true rfl, Nat.le_of_ble_eq_true rfl⟩) preEq rfl rfl hl.1 rfl (lv_room (Nat.le_of_ble_eq_true rfl)) dX1_one_139 ⟨Nat.le_of_ble_eq_true rfl, Nat.le_of_ble_eq_true rfl⟩) ?_
    refine lv_i2l (v := (g_X1_zeros a1 a2 1).toInt64) hx hb dX1_one_142 rfl ?_
    exact W.lret (v := ((g_X1_zeros a1 a2 1).toInt64)) hx hb hr (fun t ht hW => jr_l hR ht) jnil dX1_one_143
  have hR := hR.trans (if_neg hk121)
  by_cases hk122 : a0 = 122
  · have hR := hR.trans (if_pos hk122)
    refine lv_lookup (off := 143) (tgt := 144) hx hb dX1_one_1 (by decide) (by rw [hk122]; rfl) (by decide) ?_
    refine lv_lload_n hx hb dX1_one_144 rfl (lv_at hl 1 rfl) ?_
    refine lv_iload_n hx hb dX1_one_145 rfl (lv_at hl 2 rfl) ?_
    refine lv_iconst (v := 0) hx hb dX1_one_146 (by decide) ?_
    refine jw_callI (W.runS (As := [.long a1, .int a2, .int 0]) (rest := []) ⟨hx, hb, hml, hown, hts⟩ (mt_X1_zeros l a1 a2 0) (va_cwS 3 hts (lw_S q135 q136 q5 q137) rfl rfl rfl (by decide +kernel) ⟨Nat.le_of_ble_eq_true rfl, Nat.le_of_ble_eq_true rfl⟩) preEq rfl rfl hl.1 rfl (lv_room (Nat.le_of_ble_eq_true rfl)) dX1_one_147 ⟨Nat.le_of_ble_eq_true rfl, Nat.le_of_ble_eq_true rfl⟩) ?_
    refine lv_i2l (v := (g_X1_zeros a1 a2 0).toInt64) hx hb dX1_one_150 rfl ?_
    exact W.lret (v := ((g_X1_zeros a1 a2 0).toInt64)) hx hb hr (fun t ht hW => jr_l hR ht) jnil dX1_one_151
  have hR := hR.trans (if_neg hk122)
  by_cases hk123 : a0 = 123
  · have hR := hR.trans (if_pos hk123)
    refine lv_lookup (off := 151) (tgt := 152) hx hb dX1_one_1 (by decide) (by rw [hk123]; rfl) (by decide) ?_
    refine lv_lload_n hx hb dX1_one_152 rfl (lv_at hl 1 rfl) ?_
    refine lv_iload_n hx hb dX1_one_153 rfl (lv_at hl 2 rfl) ?_
    refine jw_callI (W.runS (As := [.long a1, .int a2]) (rest := []) ⟨hx, hb, hml, hown, hts⟩ (mt_X1_ones l a1 a2) (va_cwS 2 hts (lw_S q141 q142 q5 q143) rfl rfl rfl (by decide +kernel) ⟨Nat.le_of_ble_eq_true rfl, Nat.le_of_ble_eq_true rfl⟩) preEq rfl rfl hl.1 rfl (lv_room (Nat.le_of_ble_eq_true rfl)) dX1_one_154 ⟨Nat.le_of_ble_eq_true rfl, Nat.le_of_ble_eq_true rfl⟩) ?_
    refine lv_i2l (v := (g_X1_ones a1 a2).toInt64) hx hb dX1_one_157 rfl ?_
    exact W.lret (v := ((g_X1_ones a1 a2).toInt64)) hx hb hr (fun t ht hW => jr_l hR ht) jnil dX1_one_158
  have hR := hR.trans (if_neg hk123)
  by_cases hk167 : a0 = 167
  · have hR := hR.trans (if_pos hk167)
    refine lv_lookup (off := 158) (tgt := 159) hx hb dX1_one_1 (by decide) (by rw [hk167]; rfl) (by decide) ?_
    refine lv_lload_n hx hb dX1_one_159 rfl (lv_at hl 1 rfl) ?_
    refine lv_bipush (v := 32) hx hb dX1_one_160 (by decide) ?_
    refine jw_callJ (W.runS (As := [.long a1, .int 32]) (rest := []) ⟨hx, hb, hml, hown, hts⟩ (mt_X1_signed l a1 32) (va_cwS 2 hts (lw_S q144 q145 q5 q146) rfl rfl rfl (by decide +kernel) ⟨Nat.le_of_ble_eq_true rfl, Nat.le_of_ble_eq_true rfl⟩) preEq rfl rfl hl.1 rfl (lv_room (Nat.le_of_ble_eq_true rfl)) dX1_one_162 ⟨Nat.le_of_ble_eq_true rfl, Nat.le_of_ble_eq_true rfl⟩) ?_
    exact W.lret (v := (g_X1_signed a1 32)) hx hb hr (fun t ht hW => jr_l hR ht) jnil dX1_one_165
  have hR := hR.trans (if_neg hk167)
  by_cases hk172 : a0 = 172
  · have hR := hR.trans (if_pos hk172)
    refine lv_lookup (off := 158) (tgt := 159) hx hb dX1_one_1 (by decide) (by rw [hk172]; rfl) (by decide) ?_
    refine lv_lload_n hx hb dX1_one_159 rfl (lv_at hl 1 rfl) ?_
    refine lv_bipush (v := 32) hx hb dX1_one_160 (by decide) ?_
    refine jw_callJ (W.runS (As := [.long a1, .int 32]) (rest := []) ⟨hx, hb, hml, hown, hts⟩ (mt_X1_signed l a1 32) (va_cwS 2 hts (lw_S q144 q145 q5 q146) rfl rfl rfl (by decide +kernel) ⟨Nat.le_of_ble_eq_true rfl, Nat.le_of_ble_eq_true rfl⟩) preEq rfl rfl hl.1 rfl (lv_room (Nat.le_of_ble_eq_true rfl)) dX1_one_162 ⟨Nat.le_of_ble_eq_true rfl, Nat.le_of_ble_eq_true rfl⟩) ?_
    exact W.lret (v := (g_X1_signed a1 32)) hx hb hr (fun t ht hW => jr_l hR ht) jnil dX1_one_165
  have hR := hR.trans (if_neg hk172)
  by_cases hk173 : a0 = 173
  · have hR := hR.trans (if_pos hk173)
    refine lv_lookup (off := 165) (tgt := 166) hx hb dX1_one_1 (by decide) (by rw [hk173]; rfl) (by decide) ?_
    refine lv_lload_n hx hb dX1_one_166 rfl (lv_at hl 1 rfl) ?_
    exact W.lret (v := a1) hx hb hr (fun t ht hW => jr_l hR ht) jnil dX1_one_167
  have hR := hR.trans (if_neg hk173)
  by_cases hk192 : a0 = 192
  · have hR := hR.trans (if_pos hk192)
    refine lv_lookup (off := 167) (tgt := 168) hx hb dX1_one_1 (by decide) (by rw [hk192]; rfl) (by decide) ?_
    refine lv_lload_n hx hb dX1_one_168 rfl (lv_at hl 1 rfl) ?_
    refine lv_bipush (v := 8) hx hb dX1_one_169 (by decide) ?_
    refine jw_callJ (W.runS (As := [.long a1, .int 8]) (rest := []) ⟨hx, hb, hml, hown, hts⟩ (mt_X1_signed l a1 8) (va_cwS 2 hts (lw_S q144 q145 q5 q146) rfl rfl rfl (by decide +kernel) ⟨Nat.le_of_ble_eq_true rfl, Nat.le_of_ble_eq_true rfl⟩) preEq rfl rfl hl.1 rfl (lv_room (Nat.le_of_ble_eq_true rfl)) dX1_one_171 ⟨Nat.le_of_ble_eq_true rfl, Nat.le_of_ble_eq_true rfl⟩) ?_
    exact W.lret (v := (g_X1_signed a1 8)) hx hb hr (fun t ht hW => jr_l hR ht) jnil dX1_one_174
  have hR := hR.trans (if_neg hk192)
  by_cases hk194 : a0 = 194
  · have hR := hR.trans (if_pos hk194)
    refine lv_lookup (off := 167) (tgt := 168) hx hb dX1_one_1 (by decide) (by rw [hk194]; rfl) (by decide) ?_
    refine lv_lload_n hx hb dX1_one_168 rfl (lv_at hl 1 rfl) ?_
    refine lv_bipush (v := 8) hx hb dX1_one_169 (by decide) ?_
    refine jw_callJ (W.runS (As := [.long a1, .int 8]) (rest := []) ⟨hx, hb, hml, hown, hts⟩ (mt_X1_signed l a1 8) (va_cwS 2 hts (lw_S q144 q145 q5 q146) rfl rfl rfl (by decide +kernel) ⟨Nat.le_of_ble_eq_true rfl, Nat.le_of_ble_eq_true rfl⟩) preEq rfl rfl hl.1 rfl (lv_room (Nat.le_of_ble_eq_true rfl)) dX1_one_171 ⟨Nat.le_of_ble_eq_true rfl, Nat.le_of_ble_eq_true rfl⟩) ?_
    exact W.lret (v := (g_X1_signed a1 8)) hx hb hr (fun t ht hW => jr_l hR ht) jnil dX1_one_174
  have hR := hR.trans (if_neg hk194)
  by_cases hk196 : a0 = 196
  · have hR := hR.trans (if_pos hk196)
    refine lv_lookup (off := 158) (tgt := 159) hx hb dX1_one_1 (by decide) (by rw [hk196]; rfl) (by decide) ?_
    refine lv_lload_n hx hb dX1_one_159 rfl (lv_at hl 1 rfl) ?_
    refine lv_bipush (v := 32) hx hb dX1_one_160 (by decide) ?_
    refine jw_callJ (W.runS (As := [.long a1, .int 32]) (rest := []) ⟨hx, hb, hml, hown, hts⟩ (mt_X1_signed l a1 32) (va_cwS 2 hts (lw_S q144 q145 q5 q146) rfl rfl rfl (by decide +kernel) ⟨Nat.le_of_ble_eq_true rfl, Nat.le_of_ble_eq_true rfl⟩) preEq rfl rfl hl.1 rfl (lv_room (Nat.le_of_ble_eq_true rfl)) dX1_one_162 ⟨Nat.le_of_ble_eq_true rfl, Nat.le_of_ble_eq_true rfl⟩) ?_
    exact W.lret (v := (g_X1_signed a1 32)) hx hb hr (fun t ht hW => jr_l hR ht) jnil dX1_one_165
  have hR := hR.trans (if_neg hk196)
  refine lv_lookup (off := 174) (tgt := 175) hx hb dX1_one_1 (by decide) (by show Op.lookupswitch.offset [(69, 123), (80, 123), (103, 135), (104, 143), (105, 151), (121, 135), (122, 143), (123, 151), (167, 158), (172, 158), (173, 165), (192, 167), (194, 167), (196, 158)] 174 _ = 174; rw [lv_osw hk69 (by decide), lv_osw hk80 (by decide), lv_osw hk103 (by decide), lv_osw hk104 (by decide), lv_osw hk105 (by decide), lv_osw hk121 (by decide), lv_osw hk122 (by decide), lv_osw hk123 (by decide), lv_osw hk167 (by decide), lv_osw hk172 (by decide), lv_osw hk173 (by decide), lv_osw hk192 (by decide), lv_osw hk194 (by decide), lv_osw hk196 (by decide)]; rfl) (by decide) ?_
  refine lv_lload_n hx hb dX1_one_175 rfl (lv_at hl 1 rfl) ?_
  refine lv_bipush (v := 16) hx hb dX1_one_176 (by decide) ?_
  refine jw_callJ (W.runS (As := [.long a1, .int 16]) (rest := []) ⟨hx, hb, hml, hown, hts⟩ (mt_X1_signed l a1 16) (va_cwS 2 hts (lw_S q144 q145 q5 q146) rfl rfl rfl (by decide +kernel) ⟨Nat.le_of_ble_eq_true rfl, Nat.le_of_ble_eq_true rfl⟩) preEq rfl rfl hl.1 rfl (lv_room (Nat.le_of_ble_eq_true rfl)) dX1_one_178 ⟨Nat.le_of_ble_eq_true rfl, Nat.le_of_ble_eq_true rfl⟩) ?_
  exact W.lret (v := (g_X1_signed a1 16)) hx hb hr (fun t ht hW => jr_l hR ht) jnil dX1_one_181
abbrev cX1_compared : ByteArray := prog_4_method_18_code
def yX1_compared : MethodName := ⟨RX1, "compared", "(IJJI)Z"⟩
theorem dX1_compared_0 : decode cX1_compared 0 = .ok (.iload_n 0, 1) := by decide +kernel
theorem dX1_compared_1 : decode cX1_compared 1 = .ok (.iconst 2, 1) := by decide +kernel
theorem dX1_compared_2 : decode cX1_compared 2 = .ok (.if_icmp .ge 32, 3) := by decide +kernel
theorem dX1_compared_5 : decode cX1_compared 5 = .ok (.lload_n 1, 1) := by decide +kernel
theorem dX1_compared_6 : decode cX1_compared 6 = .ok (.lload_n 3, 1) := by decide +kernel
theorem dX1_compared_7 : decode cX1_compared 7 = .ok (.lcmp, 1) := by decide +kernel
theorem dX1_compared_8 : decode cX1_compared 8 = .ok (.ifCond .ne 7, 3) := by decide +kernel
theorem dX1_compared_11 : decode cX1_compared 11 = .ok (.iconst 1, 1) := by decide +kernel
theorem dX1_compared_12 : decode cX1_compared 12 = .ok (.goto 4, 3) := by decide +kernel
theorem dX1_compared_15 : decode cX1_compared 15 = .ok (.iconst 0, 1) := by decide +kernel
theorem dX1_compared_16 : decode cX1_compared 16 = .ok (.iload_n 0, 1) := by decide +kernel
theorem dX1_compared_17 : decode cX1_compared 17 = .ok (.ifCond .ne 7, 3) := by decide +kernel
theorem dX1_compared_20 : decode cX1_compared 20 = .ok (.iconst 1, 1) := by decide +kernel
theorem dX1_compared_21 : decode cX1_compared 21 = .ok (.goto 4, 3) := by decide +kernel
theorem dX1_compared_24 : decode cX1_compared 24 = .ok (.iconst 0, 1) := by decide +kernel
theorem dX1_compared_25 : decode cX1_compared 25 = .ok (.if_icmp .ne 7, 3) := by decide +kernel
theorem dX1_compared_28 : decode cX1_compared 28 = .ok (.iconst 1, 1) := by decide +kernel
theorem dX1_compared_29 : decode cX1_compared 29 = .ok (.goto 4, 3) := by decide +kernel
theorem dX1_compared_32 : decode cX1_compared 32 = .ok (.iconst 0, 1) := by decide +kernel
theorem dX1_compared_33 : decode cX1_compared 33 = .ok (.ireturn, 1) := by decide +kernel
theorem dX1_compared_34 : decode cX1_compared 34 = .ok (.iload_n 0, 1) := by decide +kernel
theorem dX1_compared_35 : decode cX1_compared 35 = .ok (.iconst 2, 1) := by decide +kernel
theorem dX1_compared_36 : decode cX1_compared 36 = .ok (.irem, 1) := by decide +kernel
theorem dX1_compared_37 : decode cX1_compared 37 = .ok (.iconst 1, 1) := by decide +kernel
theorem dX1_compared_38 : decode cX1_compared 38 = .ok (.if_icmp .ne 7, 3) := by decide +kernel
theorem dX1_compared_41 : decode cX1_compared 41 = .ok (.iconst 1, 1) := by decide +kernel
theorem dX1_compared_42 : decode cX1_compared 42 = .ok (.goto 4, 3) := by decide +kernel
theorem dX1_compared_45 : decode cX1_compared 45 = .ok (.iconst 0, 1) := by decide +kernel
theorem dX1_compared_46 : decode cX1_compared 46 = .ok (.istore 6, 2) := by decide +kernel
theorem dX1_compared_48 : decode cX1_compared 48 = .ok (.iload 6, 2) := by decide +kernel
theorem dX1_compared_50 : decode cX1_compared 50 = .ok (.ifCond .eq 7, 3) := by decide +kernel
theorem dX1_compared_53 : decode cX1_compared 53 = .ok (.lconst 0, 1) := by decide +kernel
theorem dX1_compared_54 : decode cX1_compared 54 = .ok (.goto 9, 3) := by decide +kernel
theorem dX1_compared_57 : decode cX1_compared 57 = .ok (.lconst 1, 1) := by decide +kernel
theorem dX1_compared_58 : decode cX1_compared 58 = .ok (.iload 5, 2) := by decide +kernel
theorem dX1_compared_60 : decode cX1_compared 60 = .ok (.iconst 1, 1) := by decide +kernel
theorem dX1_compared_61 : decode cX1_compared 61 = .ok (.isub, 1) := by decide +kernel
theorem dX1_compared_62 : decode cX1_compared 62 = .ok (.lshl, 1) := by decide +kernel
theorem dX1_compared_63 : decode cX1_compared 63 = .ok (.lstore 7, 2) := by decide +kernel
theorem dX1_compared_65 : decode cX1_compared 65 = .ok (.lload_n 1, 1) := by decide +kernel
theorem dX1_compared_66 : decode cX1_compared 66 = .ok (.lload 7, 2) := by decide +kernel
theorem dX1_compared_68 : decode cX1_compared 68 = .ok (.lxor, 1) := by decide +kernel
theorem dX1_compared_69 : decode cX1_compared 69 = .ok (.lload_n 3, 1) := by decide +kernel
theorem dX1_compared_70 : decode cX1_compared 70 = .ok (.lload 7, 2) := by decide +kernel
theorem dX1_compared_72 : decode cX1_compared 72 = .ok (.lxor, 1) := by decide +kernel
theorem dX1_compared_73 : decode cX1_compared 73 = .ok (.invokestatic 62, 3) := by decide +kernel
theorem dX1_compared_76 : decode cX1_compared 76 = .ok (.istore 9, 2) := by decide +kernel
theorem dX1_compared_78 : decode cX1_compared 78 = .ok (.lload_n 3, 1) := by decide +kernel
theorem dX1_compared_79 : decode cX1_compared 79 = .ok (.lload 7, 2) := by decide +kernel
theorem dX1_compared_81 : decode cX1_compared 81 = .ok (.lxor, 1) := by decide +kernel
theorem dX1_compared_82 : decode cX1_compared 82 = .ok (.lload_n 1, 1) := by decide +kernel
theorem dX1_compared_83 : decode cX1_compared 83 = .ok (.lload 7, 2) := by decide +kernel
theorem dX1_compared_85 : decode cX1_compared 85 = .ok (.lxor, 1) := by decide +kernel
theorem dX1_compared_86 : decode cX1_compared 86 = .ok (.invokestatic 62, 3) := by decide +kernel
theorem dX1_compared_89 : decode cX1_compared 89 = .ok (.istore 10, 2) := by decide +kernel
theorem dX1_compared_91 : decode cX1_compared 91 = .ok (.iload_n 0, 1) := by decide +kernel
theorem dX1_compared_92 : decode cX1_compared 92 = .ok (.iconst 4, 1) := by decide +kernel
theorem dX1_compared_93 : decode cX1_compared 93 = .ok (.if_icmp .ge 8, 3) := by decide +kernel
theorem dX1_compared_96 : decode cX1_compared 96 = .ok (.iload 9, 2) := by decide +kernel
theorem dX1_compared_98 : decode cX1_compared 98 = .ok (.goto 43, 3) := by decide +kernel
theorem dX1_compared_101 : decode cX1_compared 101 = .ok (.iload_n 0, 1) := by decide +kernel
theorem dX1_compared_102 : decode cX1_compared 102 = .ok (.bipush 6, 2) := by decide +kernel
theorem dX1_compared_104 : decode cX1_compared 104 = .ok (.if_icmp .ge 8, 3) := by decide +kernel
theorem dX1_compared_107 : decode cX1_compared 107 = .ok (.iload 10, 2) := by decide +kernel
theorem dX1_compared_109 : decode cX1_compared 109 = .ok (.goto 32, 3) := by decide +kernel
theorem dX1_compared_112 : decode cX1_compared 112 = .ok (.iload_n 0, 1) := by decide +kernel
theorem dX1_compared_113 : decode cX1_compared 113 = .ok (.bipush 8, 2) := by decide +kernel
theorem dX1_compared_115 : decode cX1_compared 115 = .ok (.if_icmp .ge 16, 3) := by decide +kernel
theorem dX1_compared_118 : decode cX1_compared 118 = .ok (.iload 10, 2) := by decide +kernel
theorem dX1_compared_120 : decode cX1_compared 120 = .ok (.ifCond .ne 7, 3) := by decide +kernel
theorem dX1_compared_123 : decode cX1_compared 123 = .ok (.iconst 1, 1) := by decide +kernel
theorem dX1_compared_124 : decode cX1_compared 124 = .ok (.goto 17, 3) := by decide +kernel
theorem dX1_compared_127 : decode cX1_compared 127 = .ok (.iconst 0, 1) := by decide +kernel
theorem dX1_compared_128 : decode cX1_compared 128 = .ok (.goto 13, 3) := by decide +kernel
theorem dX1_compared_131 : decode cX1_compared 131 = .ok (.iload 9, 2) := by decide +kernel
theorem dX1_compared_133 : decode cX1_compared 133 = .ok (.ifCond .ne 7, 3) := by decide +kernel
theorem dX1_compared_136 : decode cX1_compared 136 = .ok (.iconst 1, 1) := by decide +kernel
theorem dX1_compared_137 : decode cX1_compared 137 = .ok (.goto 4, 3) := by decide +kernel
theorem dX1_compared_140 : decode cX1_compared 140 = .ok (.iconst 0, 1) := by decide +kernel
theorem dX1_compared_141 : decode cX1_compared 141 = .ok (.ireturn, 1) := by decide +kernel
set_option maxHeartbeats 4000000 in
set_option maxRecDepth 100000 in
theorem mt_X1_compared (l : Launch) (a0 : Int32) (a1 : Int64) (a2 : Int64) (a3 : Int32) : Met l yX1_compared (ws_ yX1_compared cX1_compared 11 (some .boolean)) ({ frames := 2, cells := 0, slots := 0, locals := 46 } : Room) (fun v _ => v = ([.int a0, .long a1, .long a2, .int a3] : List Value).toArray) (QcRead (bi (g_X1_compared a0 a1 a2 a3))) 0 0 (fun _ => False) := by
  refine Met.ofW (cc := cX1_compared) (maxL := 11) (ret := (some .boolean)) (by decide) rfl ?_
  intro p e s m args below meth c s₁ B hml hv
  obtain rfl : args = ([.int a0, .long a1, .long a2, .int a3] : List Value).toArray := hv
  have hx := B.exec
  have hb := B.bytes
  have hr := B.returns
  have hts := atoms_spec (ws := (ws_ yX1_compared cX1_compared 11 (some .boolean))) B.pre
  have hts : ∀ w ∈ lw_all, w.before _ s = true := fun w h => hts w (List.mem_cons_of_mem _ h)
  have hown : s.vm.findClass RX1 = some m.cls := findClass_of_methodNamed B.named
  have hlocks := B.notSynchronized
  obtain ⟨R, hR⟩ : ∃ R, R = g_X1_compared a0 a1 a2 a3 := ⟨_, rfl⟩
  rw [← hR]
  have hl := lv_entry ([.int a0, .long a1, .long a2, .int a3] : List Value) (n := 11) (Nat.le_of_ble_eq_true rfl)
  rw [lg_entry_eq]
  generalize (lg_sl ([.int a0, .long a1, .long a2, .int a3] : List Value) ++ List.replicate (11 - (lg_sl ([.int a0, .long a1, .long a2, .int a3] : List Value)).length) Slot.unset).toArray = ls at hl ⊢
  have hl : lv_has ls 11 [(0, .int a0), (1, .long a1), (3, .long a2), (5, .int a3)] := hl
  have B63 : ∀ (s0 : Int64) (ls : Array Slot), lv_has ls 11 [(0, .int a0), (1, .long a1), (3, .long a2)] → R = g_X1_compared_63 a0 a1 a2 a3 s0 → W p l e (headSpec (ws_ yX1_compared cX1_compared 11 (some .boolean)) ({ frames := 2, cells := 0, slots := 0, locals := 46 } : Room)).room s m ([.int a0, .long a1, .long a2, .int a3] : List Value).toArray below meth c s.heap [] 0 0 (MQ below (QcRead (bi R)) ([.int a0, .long a1, .long a2, .int a3] : List Value).toArray s 0 0 (fun _ => False)) (F0 m 63 ls [.long s0]) := by
    intro s0 ls hl hR
    unfold g_X1_compared_63 at hR
    refine lv_lstore (lv' := [(7, .long s0), (0, .int a0), (1, .long a1), (3, .long a2)]) hx hb dX1_compared_63 hl (by decide) rfl (fun ls hl => ?_)
    refine lv_lload_n hx hb dX1_compared_65 rfl (lv_at hl 2 rfl) ?_
    refine lv_lload hx hb dX1_compared_66 (lv_at hl 0 rfl) ?_
    refine lv_lxor hx hb dX1_compared_68 ?_
    refine lv_lload_n hx hb dX1_compared_69 rfl (lv_at hl 3 rfl) ?_
    refine lv_lload hx hb dX1_compared_70 (lv_at hl 0 rfl) ?_
    refine lv_lxor hx hb dX1_compared_72 ?_
    refine jw_callI (W.runS (As := [.long (a1 ^^^ s0), .long (a2 ^^^ s0)]) (rest := []) ⟨hx, hb, hml, hown, hts⟩ (mt_X1_isBelow l (a1 ^^^ s0) (a2 ^^^ s0)) (va_cwS 2 hts (lw_S q154 q155 q5 q156) rfl rfl rfl (by decide +kernel) ⟨Nat.le_of_ble_eq_true rfl, Nat.le_of_ble_eq_true rfl⟩) preEq rfl rfl hl.1 rfl (lv_room (Nat.le_of_ble_eq_true rfl)) dX1_compared_73 ⟨Nat.le_of_ble_eq_true rfl, Nat.le_of_ble_eq_true rfl⟩) ?_
    refine lv_istore (lv' := [(9, .int (bi (g_X1_isBelow (a1 ^^^ s0) (a2 ^^^ s0)))), (7, .long s0), (0, .int a0), (1, .long a1), (3, .long a2)]) hx hb dX1_compared_76 hl (by decide) rfl (fun ls hl => ?_)
    refine lv_lload_n hx hb dX1_compared_78 rfl (lv_at hl 4 rfl) ?_
    refine lv_lload hx hb dX1_compared_79 (lv_at hl 1 rfl) ?_
    refine lv_lxor hx hb dX1_compared_81 ?_
    refine lv_lload_n hx hb dX1_compared_82 rfl (lv_at hl 3 rfl) ?_
    refine lv_lload hx hb dX1_compared_83 (lv_at hl 1 rfl) ?_
    refine lv_lxor hx hb dX1_compared_85 ?_
    refine jw_callI (W.runS (As := [.long (a2 ^^^ s0), .long (a1 ^^^ s0)]) (rest := []) ⟨hx, hb, hml, hown, hts⟩ (mt_X1_isBelow l (a2 ^^^ s0) (a1 ^^^ s0)) (va_cwS 2 hts (lw_S q154 q155 q5 q156) rfl rfl rfl (by decide +kernel) ⟨Nat.le_of_ble_eq_true rfl, Nat.le_of_ble_eq_true rfl⟩) preEq rfl rfl hl.1 rfl (lv_room (Nat.le_of_ble_eq_true rfl)) dX1_compared_86 ⟨Nat.le_of_ble_eq_true rfl, Nat.le_of_ble_eq_true rfl⟩) ?_
    refine lv_istore (lv' := [(10, .int (bi (g_X1_isBelow (a2 ^^^ s0) (a1 ^^^ s0)))), (9, .int (bi (g_X1_isBelow (a1 ^^^ s0) (a2 ^^^ s0)))), (7, .long s0), (0, .int a0), (1, .long a1), (3, .long a2)]) hx hb dX1_compared_89 hl (by decide) rfl (fun ls hl => ?_)
    refine lv_iload_n hx hb dX1_compared_91 rfl (lv_at hl 3 rfl) ?_
    refine lv_iconst (v := 4) hx hb dX1_compared_92 (by decide) ?_
    refine lv_icmp_ge (tgt := 101) hx hb dX1_compared_93 (by decide) (fun hc93 => ?_) (fun hc93 => ?_)
    · have hR := hR.trans (if_pos hc93)
      refine lv_iload_n hx hb dX1_compared_101 rfl (lv_at hl 3 rfl) ?_
      refine lv_bipush (v := 6) hx hb dX1_compared_102 (by decide) ?_
      refine lv_icmp_ge (tgt := 112) hx hb dX1_compared_104 (by decide) (fun hc104 => ?_) (fun hc104 => ?_)
      · have hR := hR.trans (if_pos hc104)
        refine lv_iload_n hx hb dX1_compared_112 rfl (lv_at hl 3 rfl) ?_
        refine lv_bipush (v := 8) hx hb dX1_compared_113 (by decide) ?_
        refine lv_icmp_ge (tgt := 131) hx hb dX1_compared_115 (by decide) (fun hc115 => ?_) (fun hc115 => ?_)
        · have hR := hR.trans (if_pos hc115)
          refine lv_iload hx hb dX1_compared_131 (lv_at hl 1 rfl) ?_
          refine lv_if_ne (tgt := 140) hx hb dX1_compared_133 (by decide) (fun hc133 => ?_) (fun hc133 => ?_)
          · have hR := hR.trans (if_neg hc133)
            refine lv_iconst (v := 0) hx hb dX1_compared_140 (by decide) ?_
            exact W.zret (v := 0) hx hb hr rfl (fun t ht hW => jr_z hR rfl ht) jnil dX1_compared_141
          · have hR := hR.trans (if_pos hc133)
            refine lv_iconst (v := 1) hx hb dX1_compared_136 (by decide) ?_
            refine lv_goto (tgt := 141) hx hb dX1_compared_137 (by decide) ?_
            exact W.zret (v := 1) hx hb hr rfl (fun t ht hW => jr_z hR rfl ht) jnil dX1_compared_141
        · have hR := hR.trans (if_neg hc115)
          refine lv_iload hx hb dX1_compared_118 (lv_at hl 0 rfl) ?_
          refine lv_if_ne (tgt := 127) hx hb dX1_compared_120 (by decide) (fun hc120 => ?_) (fun hc120 => ?_)
          · have hR := hR.trans (if_neg hc120)
            refine lv_iconst (v := 0) hx hb dX1_compared_127 (by decide) ?_
            refine lv_goto (tgt := 141) hx hb dX1_compared_128 (by decide) ?_
            exact W.zret (v := 0) hx hb hr rfl (fun t ht hW => jr_z hR rfl ht) jnil dX1_compared_141
          · have hR := hR.trans (if_pos hc120)
            refine lv_iconst (v := 1) hx hb dX1_compared_123 (by decide) ?_
            refine lv_goto (tgt := 141) hx hb dX1_compared_124 (by decide) ?_
            exact W.zret (v := 1) hx hb hr rfl (fun t ht hW => jr_z hR rfl ht) jnil dX1_compared_141
      · have hR := hR.trans (if_neg hc104)
        refine lv_iload hx hb dX1_compared_107 (lv_at hl 0 rfl) ?_
        refine lv_goto (tgt := 141) hx hb dX1_compared_109 (by decide) ?_
        exact W.zret (v := (bi (g_X1_isBelow (a2 ^^^ s0) (a1 ^^^ s0)))) hx hb hr (narrow_bi _) (fun t ht hW => jr_z hR rfl ht) jnil dX1_compared_141
    · have hR := hR.trans (if_neg hc93)
      refine lv_iload hx hb dX1_compared_96 (lv_at hl 1 rfl) ?_
      refine lv_goto (tgt := 141) hx hb dX1_compared_98 (by decide) ?_
      exact W.zret (v := (bi (g_X1_isBelow (a1 ^^^ s0) (a2 ^^^ s0)))) hx hb hr (narrow_bi _) (fun t ht hW => jr_z hR rfl ht) jnil dX1_compared_141
  have B46 : ∀ (s0 : Int32) (ls : Array Slot), lv_has ls 11 [(0, .int a0), (1, .long a1), (3, .long a2), (5, .int a3)] → R = g_X1_compared_46 a0 a1 a2 a3 s0 → W p l e (headSpec (ws_ yX1_compared cX1_compared 11 (some .boolean)) ({ frames := 2, cells := 0, slots := 0, locals := 46 } : Room)).room s m ([.int a0, .long a1, .long a2, .int a3] : List Value).toArray below meth c s.heap [] 0 0 (MQ below (QcRead (bi R)) ([.int a0, .long a1, .long a2, .int a3] : List Value).toArray s 0 0 (fun _ => False)) (F0 m 46 ls [.int s0]) := by
    intro s0 ls hl hR
    unfold g_X1_compared_46 at hR
    refine lv_istore (lv' := [(6, .int s0), (0, .int a0), (1, .long a1), (3, .long a2), (5, .int a3)]) hx hb dX1_compared_46 hl (by decide) rfl (fun ls hl => ?_)
    refine lv_iload hx hb dX1_compared_48 (lv_at hl 0 rfl) ?_
    refine lv_if_eq (tgt := 57) hx hb dX1_compared_50 (by decide) (fun hc50 => ?_) (fun hc50 => ?_)
    · have hR := hR.trans (if_pos hc50)
      refine lv_lconst (v := 1) hx hb dX1_compared_57 (by decide) ?_
      refine lv_iload hx hb dX1_compared_58 (lv_at hl 4 rfl) ?_
      refine lv_iconst (v := 1) hx hb dX1_compared_60 (by decide) ?_
      refine lv_isub hx hb dX1_compared_61 ?_
      refine lv_lshl (v := (j_lshl 1 (a3 - 1))) hx hb dX1_compared_62 rfl ?_
      exact B63 (j_lshl 1 (a3 - 1)) ls (lv_sub hl [1, 2, 3] rfl) hR
    · have hR := hR.trans (if_neg hc50)
      refine lv_lconst (v := 0) hx hb dX1_compared_53 (by decide) ?_
      refine lv_goto (tgt := 63) hx hb dX1_compared_54 (by decide) ?_
      exact B63 0 ls (lv_sub hl [1, 2, 3] rfl) hR
  unfold g_X1_compared at hR
  refine lv_iload_n hx hb dX1_compared_0 rfl (lv_at hl 0 rfl) ?_
  refine lv_iconst (v := 2) hx hb dX1_compared_1 (by decide) ?_
  refine lv_icmp_ge (tgt := 34) hx hb dX1_compared_2 (by decide) (fun hc2 => ?_) (fun hc2 => ?_)
  · have hR := hR.trans (if_pos hc2)
    refine lv_iload_n hx hb dX1_compared_34 rfl (lv_at hl 0 rfl) ?_
    refine lv_iconst (v := 2) hx hb dX1_compared_35 (by decide) ?_
    refine lv_irem hx hb dX1_compared_36 (by decide) ?_
    refine lv_iconst (v := 1) hx hb dX1_compared_37 (by decide) ?_
    refine lv_icmp_ne (tgt := 45) hx hb dX1_compared_38 (by decide) (fun hc38 => ?_) (fun hc38 => ?_)
    · have hR := hR.trans (if_neg hc38)
      refine lv_iconst (v := 0) hx hb dX1_compared_45 (by decide) ?_
      exact B46 0 ls (lv_sub hl [0, 1, 2, 3] rfl) hR
    · have hR := hR.trans (if_pos hc38)
      refine lv_iconst (v := 1) hx hb dX1_compared_41 (by decide) ?_
      refine lv_goto (tgt := 46) hx hb dX1_compared_42 (by decide) ?_
      exact B46 1 ls (lv_sub hl [0, 1, 2, 3] rfl) hR
  · have hR := hR.trans (if_neg hc2)
    refine lv_lload_n hx hb dX1_compared_5 rfl (lv_at hl 1 rfl) ?_
    refine lv_lload_n hx hb dX1_compared_6 rfl (lv_at hl 2 rfl) ?_
    refine W.lcmp hx hb dX1_compared_7 ?_
    refine lv_if_ne (tgt := 15) hx hb dX1_compared_8 (by decide) (fun hc8 => ?_) (fun hc8 => ?_)
    · have hR := hR.trans (if_neg hc8)
      refine lv_iconst (v := 0) hx hb dX1_compared_15 (by decide) ?_
      refine lv_iload_n hx hb dX1_compared_16 rfl (lv_at hl 0 rfl) ?_
      refine lv_if_ne (tgt := 24) hx hb dX1_compared_17 (by decide) (fun hc17 => ?_) (fun hc17 => ?_)
      · have hR := hR.trans (if_neg hc17)
        refine lv_iconst (v := 0) hx hb dX1_compared_24 (by decide) ?_
        refine lv_icmp_ne (tgt := 32) hx hb dX1_compared_25 (by decide) (fun hc25 => absurd hc25 (by decide)) (fun hc25 => ?_)
        refine lv_iconst (v := 1) hx hb dX1_compared_28 (by decide) ?_
        refine lv_goto (tgt := 33) hx hb dX1_compared_29 (by decide) ?_
        exact W.zret (v := 1) hx hb hr rfl (fun t ht hW => jr_z hR rfl ht) jnil dX1_compared_33
      · have hR := hR.trans (if_pos hc17)
        refine lv_iconst (v := 1) hx hb dX1_compared_20 (by decide) ?_
        refine lv_goto (tgt := 25) hx hb dX1_compared_21 (by decide) ?_
        refine lv_icmp_ne (tgt := 32) hx hb dX1_compared_25 (by decide) (fun hc25 => ?_) (fun hc25 => absurd hc25 (by decide))
        refine lv_iconst (v := 0) hx hb dX1_compared_32 (by decide) ?_
        exact W.zret (v := 0) hx hb hr rfl (fun t ht hW => jr_z hR rfl ht) jnil dX1_compared_33
    · have hR := hR.trans (if_pos hc8)
      refine lv_iconst (v := 1) hx hb dX1_compared_11 (by decide) ?_
      refine lv_goto (tgt := 16) hx hb dX1_compared_12 (by decide) ?_
      refine lv_iload_n hx hb dX1_compared_16 rfl (lv_at hl 0 rfl) ?_
      refine lv_if_ne (tgt := 24) hx hb dX1_compared_17 (by decide) (fun hc17 => ?_) (fun hc17 => ?_)
      · have hR := hR.trans (if_neg hc17)
        refine lv_iconst (v := 0) hx hb dX1_compared_24 (by decide) ?_
        refine lv_icmp_ne (tgt := 32) hx hb dX1_compared_25 (by decide) (fun hc25 => ?_) (fun hc25 => absurd hc25 (by decide))
        refine lv_iconst (v := 0) hx hb dX1_compared_32 (by decide) ?_
        exact W.zret (v := 0) hx hb hr rfl (fun t ht hW => jr_z hR rfl ht) jnil dX1_compared_33
      · have hR := hR.trans (if_pos hc17)
        refine lv_iconst (v := 1) hx hb dX1_compared_20 (by decide) ?_
        refine lv_goto (tgt := 25) hx hb dX1_compared_21 (by decide) ?_
        refine lv_icmp_ne (tgt := 32) hx hb dX1_compared_25 (by decide) (fun hc25 => absurd hc25 (by decide)) (fun hc25 => ?_)
        refine lv_iconst (v := 1) hx hb dX1_compared_28 (by decide) ?_
        refine lv_goto (tgt := 33) hx hb dX1_compared_29 (by decide) ?_
        exact W.zret (v := 1) hx hb hr rfl (fun t ht hW => jr_z hR rfl ht) jnil dX1_compared_33
end
section
set_option maxRecDepth 100000
abbrev cX1_told : ByteArray := prog_4_method_9_code
def yX1_told : MethodName := ⟨RX1, "told", "(J)I"⟩
theorem dX1_told_0 : decode cX1_told 0 = .ok (.aload_n 0, 1) := by decide +kernel
theorem dX1_told_1 : decode cX1_told 1 = .ok (.lload_n 1, 1) := by decide +kernel
theorem dX1_told_2 : decode cX1_told 2 = .ok (.putfield 19, 3) := by decide +kernel
theorem dX1_told_5 : decode cX1_told 5 = .ok (.iconst 0, 1) := by decide +kernel
theorem dX1_told_6 : decode cX1_told 6 = .ok (.ireturn, 1) := by decide +kernel
set_option maxHeartbeats 4000000 in
set_option maxRecDepth 100000 in
theorem mt_X1_told (l : Launch) (dC : Nat → ClassId) (dI : Nat → Nat → Nat) (h0 sz : Nat) (f : Int64) (a0 : Int64) : Met l yX1_told (ws_ yX1_told cX1_told 3 (some .int)) ({ frames := 0, cells := 0, slots := 0, locals := 0 } : Room) (va_Pc ([.ref h0, .long a0] : List Value) (fun U => U.heap.size = sz ∧ va_P (dC, dI) vwCl [(h0, .inr (1, [.long f]))] U.heap ∧ va_K (dC, dI) vwCl [] U ∧ va_D (fun _ => True) [(h0, .inr (1, [.long f]))])) (va_Qi (fun (r : Int32) (u : Int64) => r = (g_X1_told a0 f).1 ∧ u = (g_X1_told a0 f).2) (Bw1 dC dI (va_A [(h0, .inr (1, [.long f]))] sz) h0) (va_A [(h0, .inr (1, [.long f]))] sz)) 0 0 (va_A [(h0, .inr (1, [.long f]))] sz) := by
  refine Met.ofW (cc := cX1_told) (maxL := 3) (ret := (some .int)) (by decide) rfl ?_
  intro p e s m args below meth c s₁ B hml hv
  obtain ⟨rfl, hsz, hP, hK, hD0⟩ := hv
  have hx := B.exec
  have hb := B.bytes
  have hr := B.returns
  have hts := atoms_spec (ws := (ws_ yX1_told cX1_told 3 (some .int))) B.pre
  have hts : ∀ w ∈ lw_all, w.before _ s = true := fun w h => hts w (List.mem_cons_of_mem _ h)
  have hown : s.vm.findClass RX1 = some m.cls := findClass_of_methodNamed B.named
  have hlocks := B.notSynchronized
  subst hsz
  have hD := hD0.self (sz := s.heap.size)
  generalize hAe : va_A [(h0, .inr (1, [.long f]))] s.heap.size = A at hD ⊢
  have hA : ∀ q : Nat, s.heap.size ≤ q → A q := fun q h => by rw [← hAe]; exact Or.inr h
  have hS : va_S A s.heap s.heap [] := va_S.rf
  have hP : va_P (dC, dI) vwCl [(h0, .inr (1, [.long f]))] s.heap := hP
  obtain ⟨R, hR⟩ : ∃ R, R = g_X1_told a0 f := ⟨_, rfl⟩
  rw [← hR]
  have hl := lv_entry ([.ref h0, .long a0] : List Value) (n := 3) (Nat.le_of_ble_eq_true rfl)
  rw [lg_entry_eq]
  generalize (lg_sl ([.ref h0, .long a0] : List Value) ++ List.replicate (3 - (lg_sl ([.ref h0, .long a0] : List Value)).length) Slot.unset).toArray = ls at hl ⊢
  have hl : lv_has ls 3 [(0, .ref h0), (1, .long a0)] := hl
  unfold g_X1_told at hR
  refine lv_aload_n hx hb dX1_told_0 rfl (lv_at hl 0 rfl) ?_
  refine lv_lload_n hx hb dX1_told_1 rfl (lv_at hl 1 rfl) ?_
  refine va_put (D := (dC, dI)) (ci := 1) (v := .long a0) (ty := .long) (C := RX1) (T := TX1) (N := 1) hx hb hts in_X1 tyX1 tyX1_ok nmX1 hown hK hP hD hS 0 rfl rfl 0 (by decide) (hts _ q99) (fun _ h9 => h9) rfl (by decide +kernel) rfl rfl (Nat.le_of_ble_eq_true rfl) dX1_told_2 (fun H locs hP hD hS => ?_)
  have hP : va_P (dC, dI) vwCl [(h0, .inr (1, [.long a0]))] H := hP
  have hD : va_D A [(h0, .inr (1, [.long a0]))] := hD
  refine lv_iconst (v := 0) hx hb dX1_told_5 (by decide) ?_
  exact W.iret (v := 0) hx hb hr (fun t ht hW => ⟨⟨0, a0, rfl, ⟨by rw [hR], by rw [hR]⟩, by rw [ht]; exact hP, va_K.moved hW.alike hK, hD⟩, hS.F ht⟩) hS.2.2 dX1_told_6
abbrev cX1_divided : ByteArray := prog_4_method_22_code
def yX1_divided : MethodName := ⟨RX1, "divided", "(IJJI)I"⟩
theorem dX1_divided_0 : decode cX1_divided 0 = .ok (.lload 4, 2) := by decide +kernel
theorem dX1_divided_2 : decode cX1_divided 2 = .ok (.lconst 0, 1) := by decide +kernel
theorem dX1_divided_3 : decode cX1_divided 3 = .ok (.lcmp, 1) := by decide +kernel
theorem dX1_divided_4 : decode cX1_divided 4 = .ok (.ifCond .ne 5, 3) := by decide +kernel
theorem dX1_divided_7 : decode cX1_divided 7 = .ok (.iconst 3, 1) := by decide +kernel
theorem dX1_divided_8 : decode cX1_divided 8 = .ok (.ireturn, 1) := by decide +kernel
theorem dX1_divided_9 : decode cX1_divided 9 = .ok (.iload_n 1, 1) := by decide +kernel
theorem dX1_divided_10 : decode cX1_divided 10 = .ok (.iconst 2, 1) := by decide +kernel
theorem dX1_divided_11 : decode cX1_divided 11 = .ok (.irem, 1) := by decide +kernel
theorem dX1_divided_12 : decode cX1_divided 12 = .ok (.ifCond .ne 7, 3) := by decide +kernel
theorem dX1_divided_15 : decode cX1_divided 15 = .ok (.iconst 1, 1) := by decide +kernel
theorem dX1_divided_16 : decode cX1_divided 16 = .ok (.goto 4, 3) := by decide +kernel
theorem dX1_divided_19 : decode cX1_divided 19 = .ok (.iconst 0, 1) := by decide +kernel
theorem dX1_divided_20 : decode cX1_divided 20 = .ok (.istore 7, 2) := by decide +kernel
theorem dX1_divided_22 : decode cX1_divided 22 = .ok (.lconst 1, 1) := by decide +kernel
theorem dX1_divided_23 : decode cX1_divided 23 = .ok (.iload 6, 2) := by decide +kernel
theorem dX1_divided_25 : decode cX1_divided 25 = .ok (.iconst 1, 1) := by decide +kernel
theorem dX1_divided_26 : decode cX1_divided 26 = .ok (.isub, 1) := by decide +kernel
theorem dX1_divided_27 : decode cX1_divided 27 = .ok (.lshl, 1) := by decide +kernel
theorem dX1_divided_28 : decode cX1_divided 28 = .ok (.lstore 8, 2) := by decide +kernel
theorem dX1_divided_30 : decode cX1_divided 30 = .ok (.iload 7, 2) := by decide +kernel
theorem dX1_divided_32 : decode cX1_divided 32 = .ok (.ifCond .ne 21, 3) := by decide +kernel
theorem dX1_divided_35 : decode cX1_divided 35 = .ok (.lload 4, 2) := by decide +kernel
theorem dX1_divided_37 : decode cX1_divided 37 = .ok (.lconst 1, 1) := by decide +kernel
theorem dX1_divided_38 : decode cX1_divided 38 = .ok (.ladd, 1) := by decide +kernel
theorem dX1_divided_39 : decode cX1_divided 39 = .ok (.iload 6, 2) := by decide +kernel
theorem dX1_divided_41 : decode cX1_divided 41 = .ok (.invokestatic 23, 3) := by decide +kernel
theorem dX1_divided_44 : decode cX1_divided 44 = .ok (.lconst 0, 1) := by decide +kernel
theorem dX1_divided_45 : decode cX1_divided 45 = .ok (.lcmp, 1) := by decide +kernel
theorem dX1_divided_46 : decode cX1_divided 46 = .ok (.ifCond .ne 7, 3) := by decide +kernel
theorem dX1_divided_49 : decode cX1_divided 49 = .ok (.iconst 1, 1) := by decide +kernel
theorem dX1_divided_50 : decode cX1_divided 50 = .ok (.goto 4, 3) := by decide +kernel
theorem dX1_divided_53 : decode cX1_divided 53 = .ok (.iconst 0, 1) := by decide +kernel
theorem dX1_divided_54 : decode cX1_divided 54 = .ok (.istore 10, 2) := by decide +kernel
theorem dX1_divided_56 : decode cX1_divided 56 = .ok (.iload_n 1, 1) := by decide +kernel
theorem dX1_divided_57 : decode cX1_divided 57 = .ok (.iconst 3, 1) := by decide +kernel
theorem dX1_divided_58 : decode cX1_divided 58 = .ok (.if_icmp .ne 17, 3) := by decide +kernel
theorem dX1_divided_61 : decode cX1_divided 61 = .ok (.iload 10, 2) := by decide +kernel
theorem dX1_divided_63 : decode cX1_divided 63 = .ok (.ifCond .eq 12, 3) := by decide +kernel
theorem dX1_divided_66 : decode cX1_divided 66 = .ok (.lload_n 2, 1) := by decide +kernel
theorem dX1_divided_67 : decode cX1_divided 67 = .ok (.lload 8, 2) := by decide +kernel
theorem dX1_divided_69 : decode cX1_divided 69 = .ok (.lcmp, 1) := by decide +kernel
theorem dX1_divided_70 : decode cX1_divided 70 = .ok (.ifCond .ne 5, 3) := by decide +kernel
theorem dX1_divided_73 : decode cX1_divided 73 = .ok (.iconst 4, 1) := by decide +kernel
theorem dX1_divided_74 : decode cX1_divided 74 = .ok (.ireturn, 1) := by decide +kernel
theorem dX1_divided_75 : decode cX1_divided 75 = .ok (.iload 7, 2) := by decide +kernel
theorem dX1_divided_77 : decode cX1_divided 77 = .ok (.ifCond .ne 18, 3) := by decide +kernel
theorem dX1_divided_80 : decode cX1_divided 80 = .ok (.lload_n 2, 1) := by decide +kernel
theorem dX1_divided_81 : decode cX1_divided 81 = .ok (.iload 6, 2) := by decide +kernel
theorem dX1_divided_83 : decode cX1_divided 83 = .ok (.iconst 1, 1) := by decide +kernel
theorem dX1_divided_84 : decode cX1_divided 84 = .ok (.isub, 1) := by decide +kernel
theorem dX1_divided_85 : decode cX1_divided 85 = .ok (.invokestatic 58, 3) := by decide +kernel
theorem dX1_divided_88 : decode cX1_divided 88 = .ok (.ifCond .eq 7, 3) := by decide +kernel
theorem dX1_divided_91 : decode cX1_divided 91 = .ok (.iconst 1, 1) := by decide +kernel
theorem dX1_divided_92 : decode cX1_divided 92 = .ok (.goto 4, 3) := by decide +kernel
theorem dX1_divided_95 : decode cX1_divided 95 = .ok (.iconst 0, 1) := by decide +kernel
theorem dX1_divided_96 : decode cX1_divided 96 = .ok (.istore 11, 2) := by decide +kernel
theorem dX1_divided_98 : decode cX1_divided 98 = .ok (.iload 7, 2) := by decide +kernel
theorem dX1_divided_100 : decode cX1_divided 100 = .ok (.ifCond .ne 19, 3) := by decide +kernel
theorem dX1_divided_103 : decode cX1_divided 103 = .ok (.lload 4, 2) := by decide +kernel
theorem dX1_divided_105 : decode cX1_divided 105 = .ok (.iload 6, 2) := by decide +kernel
theorem dX1_divided_107 : decode cX1_divided 107 = .ok (.iconst 1, 1) := by decide +kernel
theorem dX1_divided_108 : decode cX1_divided 108 = .ok (.isub, 1) := by decide +kernel
theorem dX1_divided_109 : decode cX1_divided 109 = .ok (.invokestatic 58, 3) := by decide +kernel
theorem dX1_divided_112 : decode cX1_divided 112 = .ok (.ifCond .eq 7, 3) := by decide +kernel
theorem dX1_divided_115 : decode cX1_divided 115 = .ok (.iconst 1, 1) := by decide +kernel
theorem dX1_divided_116 : decode cX1_divided 116 = .ok (.goto 4, 3) := by decide +kernel
theorem dX1_divided_119 : decode cX1_divided 119 = .ok (.iconst 0, 1) := by decide +kernel
theorem dX1_divided_120 : decode cX1_divided 120 = .ok (.istore 12, 2) := by decide +kernel
theorem dX1_divided_122 : decode cX1_divided 122 = .ok (.iload 11, 2) := by decide +kernel
theorem dX1_divided_124 : decode cX1_divided 124 = .ok (.ifCond .eq 13, 3) := by decide +kernel
theorem dX1_divided_127 : decode cX1_divided 127 = .ok (.lload_n 2, 1) := by decide +kernel
theorem dX1_divided_128 : decode cX1_divided 128 = .ok (.lneg, 1) := by decide +kernel
theorem dX1_divided_129 : decode cX1_divided 129 = .ok (.iload 6, 2) := by decide +kernel
theorem dX1_divided_131 : decode cX1_divided 131 = .ok (.invokestatic 23, 3) := by decide +kernel
theorem dX1_divided_134 : decode cX1_divided 134 = .ok (.goto 4, 3) := by decide +kernel
theorem dX1_divided_137 : decode cX1_divided 137 = .ok (.lload_n 2, 1) := by decide +kernel
theorem dX1_divided_138 : decode cX1_divided 138 = .ok (.lstore 13, 2) := by decide +kernel
theorem dX1_divided_140 : decode cX1_divided 140 = .ok (.iload 12, 2) := by decide +kernel
theorem dX1_divided_142 : decode cX1_divided 142 = .ok (.ifCond .eq 14, 3) := by decide +kernel
theorem dX1_divided_145 : decode cX1_divided 145 = .ok (.lload 4, 2) := by decide +kernel
theorem dX1_divided_147 : decode cX1_divided 147 = .ok (.lneg, 1) := by decide +kernel
theorem dX1_divided_148 : decode cX1_divided 148 = .ok (.iload 6, 2) := by decide +kernel
theorem dX1_divided_150 : decode cX1_divided 150 = .ok (.invokestatic 23, 3) := by decide +kernel
theorem dX1_divided_153 : decode cX1_divided 153 = .ok (.goto 5, 3) := by decide +kernel
theorem dX1_divided_156 : decode cX1_divided 156 = .ok (.lload 4, 2) := by decide +kernel
theorem dX1_divided_158 : decode cX1_divided 158 = .ok (.lstore 15, 2) := by decide +kernel
theorem dX1_divided_160 : decode cX1_divided 160 = .ok (.lconst 0, 1) := by decide +kernel
theorem dX1_divided_161 : decode cX1_divided 161 = .ok (.lstore 17, 2) := by decide +kernel
theorem dX1_divided_163 : decode cX1_divided 163 = .ok (.lconst 0, 1) := by decide +kernel
theorem dX1_divided_164 : decode cX1_divided 164 = .ok (.lstore 19, 2) := by decide +kernel
theorem dX1_divided_166 : decode cX1_divided 166 = .ok (.iload 6, 2) := by decide +kernel
theorem dX1_divided_168 : decode cX1_divided 168 = .ok (.iconst 1, 1) := by decide +kernel
theorem dX1_divided_169 : decode cX1_divided 169 = .ok (.isub, 1) := by decide +kernel
theorem dX1_divided_170 : decode cX1_divided 170 = .ok (.istore 21, 2) := by decide +kernel
theorem dX1_divided_172 : decode cX1_divided 172 = .ok (.iload 21, 2) := by decide +kernel
theorem dX1_divided_174 : decode cX1_divided 174 = .ok (.ifCond .lt 72, 3) := by decide +kernel
theorem dX1_divided_177 : decode cX1_divided 177 = .ok (.lload 19, 2) := by decide +kernel
theorem dX1_divided_179 : decode cX1_divided 179 = .ok (.bipush 63, 2) := by decide +kernel
theorem dX1_divided_181 : decode cX1_divided 181 = .ok (.invokestatic 58, 3) := by decide +kernel
theorem dX1_divided_184 : decode cX1_divided 184 = .ok (.istore 22, 2) := by decide +kernel
theorem dX1_divided_186 : decode cX1_divided 186 = .ok (.lload 19, 2) := by decide +kernel
theorem dX1_divided_188 : decode cX1_divided 188 = .ok (.iconst 1, 1) := by decide +kernel
theorem dX1_divided_189 : decode cX1_divided 189 = .ok (.lshl, 1) := by decide +kernel
theorem dX1_divided_190 : decode cX1_divided 190 = .ok (.lload 13, 2) := by decide +kernel
theorem dX1_divided_192 : decode cX1_divided 192 = .ok (.iload 21, 2) := by decide +kernel
theorem dX1_divided_194 : decode cX1_divided 194 = .ok (.invokestatic 58, 3) := by decide +kernel
theorem dX1_divided_197 : decode cX1_divided 197 = .ok (.ifCond .eq 7, 3) := by decide +kernel
theorem dX1_divided_200 : decode cX1_divided 200 = .ok (.iconst 1, 1) := by decide +kernel
theorem dX1_divided_201 : decode cX1_divided 201 = .ok (.goto 4, 3) := by decide +kernel
theorem dX1_divided_204 : decode cX1_divided 204 = .ok (.iconst 0, 1) := by decide +kernel
theorem dX1_divided_205 : decode cX1_divided 205 = .ok (.i2l, 1) := by decide +kernel
theorem dX1_divided_206 : decode cX1_divided 206 = .ok (.lor, 1) := by decide +kernel
theorem dX1_divided_207 : decode cX1_divided 207 = .ok (.lstore 19, 2) := by decide +kernel
theorem dX1_divided_209 : decode cX1_divided 209 = .ok (.iload 22, 2) := by decide +kernel
theorem dX1_divided_211 : decode cX1_divided 211 = .ok (.ifCond .ne 13, 3) := by decide +kernel
theorem dX1_divided_214 : decode cX1_divided 214 = .ok (.lload 19, 2) := by decide +kernel
theorem dX1_divided_216 : decode cX1_divided 216 = .ok (.lload 15, 2) := by decide +kernel
theorem dX1_divided_218 : decode cX1_divided 218 = .ok (.invokestatic 62, 3) := by decide +kernel
theorem dX1_divided_221 : decode cX1_divided 221 = .ok (.ifCond .ne 19, 3) := by decide +kernel
theorem dX1_divided_224 : decode cX1_divided 224 = .ok (.lload 19, 2) := by decide +kernel
theorem dX1_divided_226 : decode cX1_divided 226 = .ok (.lload 15, 2) := by decide +kernel
theorem dX1_divided_228 : decode cX1_divided 228 = .ok (.lsub, 1) := by decide +kernel
theorem dX1_divided_229 : decode cX1_divided 229 = .ok (.lstore 19, 2) := by decide +kernel
theorem dX1_divided_231 : decode cX1_divided 231 = .ok (.lload 17, 2) := by decide +kernel
theorem dX1_divided_233 : decode cX1_divided 233 = .ok (.lconst 1, 1) := by decide +kernel
theorem dX1_divided_234 : decode cX1_divided 234 = .ok (.iload 21, 2) := by decide +kernel
theorem dX1_divided_236 : decode cX1_divided 236 = .ok (.lshl, 1) := by decide +kernel
theorem dX1_divided_237 : decode cX1_divided 237 = .ok (.lor, 1) := by decide +kernel
theorem dX1_divided_238 : decode cX1_divided 238 = .ok (.lstore 17, 2) := by decide +kernel
theorem dX1_divided_240 : decode cX1_divided 240 = .ok (.iinc 21 (-1), 3) := by decide +kernel
theorem dX1_divided_243 : decode cX1_divided 243 = .ok (.goto (-71), 3) := by decide +kernel
theorem dX1_divided_246 : decode cX1_divided 246 = .ok (.iload_n 1, 1) := by decide +kernel
theorem dX1_divided_247 : decode cX1_divided 247 = .ok (.iconst 5, 1) := by decide +kernel
theorem dX1_divided_248 : decode cX1_divided 248 = .ok (.if_icmp .ge 21, 3) := by decide +kernel
theorem dX1_divided_251 : decode cX1_divided 251 = .ok (.iload 11, 2) := by decide +kernel
theorem dX1_divided_253 : decode cX1_divided 253 = .ok (.iload 12, 2) := by decide +kernel
theorem dX1_divided_255 : decode cX1_divided 255 = .ok (.if_icmp .eq 9, 3) := by decide +kernel
theorem dX1_divided_258 : decode cX1_divided 258 = .ok (.lload 17, 2) := by decide +kernel
theorem dX1_divided_260 : decode cX1_divided 260 = .ok (.lneg, 1) := by decide +kernel
theorem dX1_divided_261 : decode cX1_divided 261 = .ok (.goto 21, 3) := by decide +kernel
theorem dX1_divided_264 : decode cX1_divided 264 = .ok (.lload 17, 2) := by decide +kernel
theorem dX1_divided_266 : decode cX1_divided 266 = .ok (.goto 16, 3) := by decide +kernel
theorem dX1_divided_269 : decode cX1_divided 269 = .ok (.iload 11, 2) := by decide +kernel
theorem dX1_divided_271 : decode cX1_divided 271 = .ok (.ifCond .eq 9, 3) := by decide +kernel
theorem dX1_divided_274 : decode cX1_divided 274 = .ok (.lload 19, 2) := by decide +kernel
theorem dX1_divided_276 : decode cX1_divided 276 = .ok (.lneg, 1) := by decide +kernel
theorem dX1_divided_277 : decode cX1_divided 277 = .ok (.goto 5, 3) := by decide +kernel
theorem dX1_divided_280 : decode cX1_divided 280 = .ok (.lload 19, 2) := by decide +kernel
theorem dX1_divided_282 : decode cX1_divided 282 = .ok (.lstore 21, 2) := by decide +kernel
theorem dX1_divided_284 : decode cX1_divided 284 = .ok (.aload_n 0, 1) := by decide +kernel
theorem dX1_divided_285 : decode cX1_divided 285 = .ok (.lload 21, 2) := by decide +kernel
theorem dX1_divided_287 : decode cX1_divided 287 = .ok (.iload 6, 2) := by decide +kernel
theorem dX1_divided_289 : decode cX1_divided 289 = .ok (.invokestatic 55, 3) := by decide +kernel
theorem dX1_divided_292 : decode cX1_divided 292 = .ok (.invokevirtual 35, 3) := by decide +kernel
theorem dX1_divided_295 : decode cX1_divided 295 = .ok (.ireturn, 1) := by decide +kernel
set_option maxHeartbeats 4000000 in
set_option maxRecDepth 100000 in
theorem mt_X1_divided (l : Launch) (dC : Nat → ClassId) (dI : Nat → Nat → Nat) (h0 sz : Nat) (f : Int64) (a0 : Int32) (a1 : Int64) (a2 : Int64) (a3 : Int32) : Met l yX1_divided (ws_ yX1_divided cX1_divided 23 (some .int)) ({ frames := 2, cells := 0, slots := 0, locals := 46 } : Room) (va_Pc ([.ref h0, .int a0, .long a1, .long a2, .int a3] : List Value) (fun U => U.heap.size = sz ∧ va_P (dC, dI) vwCl [(h0, .inr (1, [.long f]))] U.heap ∧ va_K (dC, dI) vwCl [] U ∧ va_D (fun _ => True) [(h0, .inr (1, [.long f]))])) (va_Qi (fun (r : Int32) (u : Int64) => r = (g_X1_divided a0 a1 a2 a3 f).1 ∧ u = (g_X1_divided a0 a1 a2 a3 f).2) (Bw1 dC dI (va_A [(h0, .inr (1, [.long f]))] sz) h0) (va_A [(h0, .inr (1, [.long f]))] sz)) 0 0 (va_A [(h0, .inr (1, [.long f]))] sz) := by
  refine Met.ofW (cc := cX1_divided) (maxL := 23) (ret := (some .int)) (by decide) rfl ?_
  intro p e s m args below meth c s₁ B hml hv
  obtain ⟨rfl, hsz, hP, hK, hD0⟩ := hv
  have hx := B.exec
  have hb := B.bytes
  have hr := B.returns
  have hts := atoms_spec (ws := (ws_ yX1_divided cX1_divided 23 (some .int))) B.pre
  have hts : ∀ w ∈ lw_all, w.before _ s = true := fun w h => hts w (List.mem_cons_of_mem _ h)
  have hown : s.vm.findClass RX1 = some m.cls := findClass_of_methodNamed B.named
  have hlocks := B.notSynchronized
  subst hsz
  have hD := hD0.self (sz := s.heap.size)
  generalize hAe : va_A [(h0, .inr (1, [.long f]))] s.heap.size = A at hD ⊢
  have hA : ∀ q : Nat, s.heap.size ≤ q → A q := fun q h => by rw [← hAe]; exact Or.inr h
  have hS : va_S A s.heap s.heap [] := va_S.rf
  have hP : va_P (dC, dI) vwCl [(h0, .inr (1, [.long f]))] s.heap := hP
  obtain ⟨R, hR⟩ : ∃ R, R = g_X1_divided a0 a1 a2 a3 f := ⟨_, rfl⟩
  rw [← hR]
  have hl := lv_entry ([.ref h0, .int a0, .long a1, .long a2, .int a3] : List Value) (n := 23) (Nat.le_of_ble_eq_true rfl)
  rw [lg_entry_eq]
  generalize (lg_sl ([.ref h0, .int a0, .long a1, .long a2, .int a3] : List Value) ++ List.replicate (23 - (lg_sl ([.ref h0, .int a0, .long a1, .long a2, .int a3] : List Value)).length) Slot.unset).toArray = ls at hl ⊢
  have hl : lv_has ls 23 [(0, .ref h0), (1, .int a0), (2, .long a1), (4, .long a2), (6, .int a3)] := hl
  have B282 : ∀ (s0 : Int64) (ls : Array Slot), lv_has ls 23 [(0, .ref h0), (6, .int a3)] → R = g_X1_divided_282 a0 a1 a2 a3 f s0 → W p l e (headSpec (ws_ yX1_divided cX1_divided 23 (some .int)) ({ frames := 2, cells := 0, slots := 0, locals := 46 } : Room)).room s m ([.ref h0, .int a0, .long a1, .long a2, .int a3] : List Value).toArray below meth c s.heap [] 0 0 (MQ below (va_Qi (fun (r : Int32) (u : Int64) => r = R.1 ∧ u = R.2) (Bw1 dC dI A h0) A) ([.ref h0, .int a0, .long a1, .long a2, .int a3] : List Value).toArray s 0 0 A) (F0 m 282 ls [.long s0]) := by
    intro s0 ls hl hR
    unfold g_X1_divided_282 at hR
    refine lv_lstore (lv' := [(21, .long s0), (0, .ref h0), (6, .int a3)]) hx hb dX1_divided_282 hl (by decide) rfl (fun ls hl => ?_)
    refine lv_aload_n hx hb dX1_divided_284 rfl (lv_at hl 1 rfl) ?_
    refine lv_lload hx hb dX1_divided_285 (lv_at hl 0 rfl) ?_
    refine lv_iload hx hb dX1_divided_287 (lv_at hl 2 rfl) ?_
    refine jw_callJ (W.runS (As := [.long s0, .int a3]) (rest := [.ref h0]) ⟨hx, hb, hml, hown, hts⟩ (mt_X1_signed l s0 a3) (va_cwS 2 hts (lw_S q144 q145 q5 q146) rfl rfl rfl (by decide +kernel) ⟨Nat.le_of_ble_eq_true rfl, Nat.le_of_ble_eq_true rfl⟩) preEq rfl rfl hl.1 rfl (lv_room (Nat.le_of_ble_eq_true rfl)) dX1_divided_289 ⟨Nat.le_of_ble_eq_true rfl, Nat.le_of_ble_eq_true rfl⟩) ?_
    have hFc := va_free (wc := [(h0, .inr (1, [.long f]))]) hD hS hA [0] rfl
    refine va_calli (va_runV (As := [.long (g_X1_signed s0 a3)]) (rest := []) ⟨hx, hb, hml, hown, hts⟩ (mt_X1_told l dC dI h0 s.heap.size f (g_X1_signed s0 a3)) (cwV 1 hts (lw_V q147 q149 qs0 q5 q150) rfl rfl rfl (by decide +kernel) ⟨Nat.le_of_ble_eq_true rfl, Nat.le_of_ble_eq_true rfl⟩) ⟨fun a U g mk q => by obtain ⟨q0, q1, qP, qK, qD⟩ := q; exact ⟨q0, q1, qP, va_K.moved (u := U) (U := U.calling g mk a) (Vm.Alike.refl U.vm) qK, qD⟩, va_recv hK hP (ci := 1) (q0 := 0) rfl rfl, fun U hU hW => ⟨rfl, by rw [hU], by rw [hU]; exact hP, va_K.moved hW.alike hK, hD.weaken (fun _ _ _ _ => trivial)⟩⟩ rfl rfl hl.1 rfl (lv_room (Nat.le_of_ble_eq_true rfl)) dX1_divided_292 ⟨Nat.le_of_ble_eq_true rfl, Nat.le_of_ble_eq_true rfl⟩) hS (fun q _ h => hFc q h) hFc (fun r u t H1 locs ht hvm hw hB hz1 hk1 hS => ?_)
    obtain ⟨hP1, hK1, hD1⟩ := hB
    rw [ht] at hP1
    have hK1 := va_K.moved hvm.symm hK1
    exact W.iret (v := r) hx hb hr (fun t ht hW => ⟨⟨r, u, rfl, ⟨by rw [hR]; exact hw.1, by rw [hR]; exact hw.2⟩, by rw [ht]; exact hP1, va_K.moved hW.alike hK1, hD1.weaken (fun _ q _ h => hFc q.1 h)⟩, hS.F ht⟩) hS.2.2 dX1_divided_295
  have B172 : ∀ (n : Nat) (v11 : Int32) (v12 : Int32) (v13 : Int64) (v15 : Int64) (v17 : Int64) (v19 : Int64) (v21 : Int32) (ls : Array Slot), ((v21).toInt + 1).toNat < n → lv_has ls 23 [(0, .ref h0), (1, .int a0), (6, .int a3), (11, .int v11), (12, .int v12), (13, .long v13), (15, .long v15), (17, .long v17), (19, .long v19), (21, .int v21)] → R = g_X1_divided_172 a0 a1 a2 a3 f n v11 v12 v13 v15 v17 v19 v21 → W p l e (headSpec (ws_ yX1_divided cX1_divided 23 (some .int)) ({ frames := 2, cells := 0, slots := 0, locals := 46 } : Room)).room s m ([.ref h0, .int a0, .long a1, .long a2, .int a3] : List Value).toArray below meth c s.heap [] 0 0 (MQ below (va_Qi (fun (r : Int32) (u : Int64) => r = R.1 ∧ u = R.2) (Bw1 dC dI A h0) A) ([.ref h0, .int a0, .long a1, .long a2, .int a3] : List Value).toArray s 0 0 A) (F0 m 172 ls []) := by
    intro n
    induction n with
    | zero => intro v11 v12 v13 v15 v17 v19 v21 ls hc hl hR; exact absurd hc (Nat.not_lt_zero _)
    | succ n ih =>
      intro v11 v12 v13 v15 v17 v19 v21 ls hc hl hR
      rw [g_X1_divided_172] at hR
      refine lv_iload hx hb dX1_divided_172 (lv_at hl 9 rfl) ?_
      refine lv_if_lt (tgt := 246) hx hb dX1_divided_174 (by decide) (fun hc174 => ?_) (fun hc174 => ?_)
      · have hR := hR.trans (if_pos hc174)
        refine lv_iload_n hx hb dX1_divided_246 rfl (lv_at hl 1 rfl) ?_
        refine lv_iconst (v := 5) hx hb dX1_divided_247 (by decide) ?_
        refine lv_icmp_ge (tgt := 269) hx hb dX1_divided_248 (by decide) (fun hc248 => ?_) (fun hc248 => ?_)
        · have hR := hR.trans (if_pos hc248)
          refine lv_iload hx hb dX1_divided_269 (lv_at hl 3 rfl) ?_
          refine lv_if_eq (tgt := 280) hx hb dX1_divided_271 (by decide) (fun hc271 => ?_) (fun hc271 => ?_)
          · have hR := hR.trans (if_pos hc271)
            refine lv_lload hx hb dX1_divided_280 (lv_at hl 8 rfl) ?_
            exact B282 v19 ls (lv_sub hl [0, 2] rfl) hR
          · have hR := hR.trans (if_neg hc271)
            refine lv_lload hx hb dX1_divided_274 (lv_at hl 8 rfl) ?_
            refine lv_lneg hx hb dX1_divided_276 ?_
            refine lv_goto (tgt := 282) hx hb dX1_divided_277 (by decide) ?_
            exact B282 (-v19) ls (lv_sub hl [0, 2] rfl) hR
        · have hR := hR.trans (if_neg hc248)
          refine lv_iload hx hb dX1_divided_251 (lv_at hl 3 rfl) ?_
          refine lv_iload hx hb dX1_divided_253 (lv_at hl 4 rfl) ?_
          refine lv_icmp_eq (tgt := 264) hx hb dX1_divided_255 (by decide) (fun hc255 => ?_) (fun hc255 => ?_)
          · have hR := hR.trans (if_pos hc255)
            refine lv_lload hx hb dX1_divided_264 (lv_at hl 7 rfl) ?_
            refine lv_goto (tgt := 282) hx hb dX1_divided_266 (by decide) ?_
            exact B282 v17 ls (lv_sub hl [0, 2] rfl) hR
          · have hR := hR.trans (if_neg hc255)
            refine lv_lload hx hb dX1_divided_258 (lv_at hl 7 rfl) ?_
            refine lv_lneg hx hb dX1_divided_260 ?_
            refine lv_goto (tgt := 282) hx hb dX1_divided_261 (by decide) ?_
            exact B282 (-v17) ls (lv_sub hl [0, 2] rfl) hR
      · have hR := hR.trans (if_neg hc174)
        refine lv_lload hx hb dX1_divided_177 (lv_at hl 8 rfl) ?_
        refine lv_bipush (v := 63) hx hb dX1_divided_179 (by decide) ?_
        refine jw_callI (W.runS (As := [.long v19, .int 63]) (rest := []) ⟨hx, hb, hml, hown, hts⟩ (mt_X1_isSet l v19 63) (va_cwS 2 hts (lw_S q138 q139 q5 q140) rfl rfl rfl (by decide +kernel) ⟨Nat.le_of_ble_eq_true rfl, Nat.le_of_ble_eq_true rfl⟩) preEq rfl rfl hl.1 rfl (lv_room (Nat.le_of_ble_eq_true rfl)) dX1_divided_181 ⟨Nat.le_of_ble_eq_true rfl, Nat.le_of_ble_eq_true rfl⟩) ?_
        refine lv_istore (lv' := [(22, .int (bi (g_X1_isSet v19 63))), (0, .ref h0), (1, .int a0), (6, .int a3), (11, .int v11), (12, .int v12), (13, .long v13), (15, .long v15), (17, .long v17), (19, .long v19), (21, .int v21)]) hx hb dX1_divided_184 hl (by decide) rfl (fun ls hl => ?_)
        refine lv_lload hx hb dX1_divided_186 (lv_at hl 9 rfl) ?_
        refine lv_iconst (v := 1) hx hb dX1_divided_188 (by decide) ?_
        refine lv_lshl (v := (j_lshl v19 1)) hx hb dX1_divided_189 rfl ?_
        refine lv_lload hx hb dX1_divided_190 (lv_at hl 6 rfl) ?_
        refine lv_iload hx hb dX1_divided_192 (lv_at hl 10 rfl) ?_
        refine jw_callI (W.runS (As := [.long v13, .int v21]) (rest := [.long (j_lshl v19 1)]) ⟨hx, hb, hml, hown, hts⟩ (mt_X1_isSet l v13 v21) (va_cwS 2 hts (lw_S q138 q139 q5 q140) rfl rfl rfl (by decide +kernel) ⟨Nat.le_of_ble_eq_true rfl, Nat.le_of_ble_eq_true rfl⟩) preEq rfl rfl hl.1 rfl (lv_room (Nat.le_of_ble_eq_true rfl)) dX1_divided_194 ⟨Nat.le_of_ble_eq_true rfl, Nat.le_of_ble_eq_true rfl⟩) ?_
        refine lv_if_eq (tgt := 204) hx hb dX1_divided_197 (by decide) (fun hc197 => ?_) (fun hc197 => ?_)
        · have hR := hR.trans (if_pos hc197)
          refine lv_iconst (v := 0) hx hb dX1_divided_204 (by decide) ?_
          refine lv_i2l (v := ((0 : Int32)).toInt64) hx hb dX1_divided_205 rfl ?_
          refine lv_lor hx hb dX1_divided_206 ?_
          refine lv_lstore (lv' := [(19, .long ((j_lshl v19 1) ||| (((0 : Int32)).toInt64))), (22, .int (bi (g_X1_isSet v19 63))), (0, .ref h0), (1, .int a0), (6, .int a3), (11, .int v11), (12, .int v12), (13, .long v13), (15, .long v15), (17, .long v17), (21, .int v21)]) hx hb dX1_divided_207 hl (by decide) rfl (fun ls hl => ?_)
          refine lv_iload hx hb dX1_divided_209 (lv_at hl 1 rfl) ?_
          refine lv_if_ne (tgt := 224) hx hb dX1_divided_211 (by decide) (fun hc211 => ?_) (fun hc211 => ?_)
          · have hR := hR.trans (if_neg hc211)
            refine lv_lload hx hb dX1_divided_224 (lv_at hl 0 rfl) ?_
            refine lv_lload hx hb dX1_divided_226 (lv_at hl 8 rfl) ?_
            refine lv_lsub hx hb dX1_divided_228 ?_
            refine lv_lstore (lv' := [(19, .long (((j_lshl v19 1) ||| (((0 : Int32)).toInt64)) - v15)), (22, .int (bi (g_X1_isSet v19 63))), (0, .ref h0), (1, .int a0), (6, .int a3), (11, .int v11), (12, .int v12), (13, .long v13), (15, .long v15), (17, .long v17), (21, .int v21)]) hx hb dX1_divided_229 hl (by decide) rfl (fun ls hl => ?_)
            refine lv_lload hx hb dX1_divided_231 (lv_at hl 9 rfl) ?_
            refine lv_lconst (v := 1) hx hb dX1_divided_233 (by decide) ?_
            refine lv_iload hx hb dX1_divided_234 (lv_at hl 10 rfl) ?_
            refine lv_lshl (v := (j_lshl 1 v21)) hx hb dX1_divided_236 rfl ?_
            refine lv_lor hx hb dX1_divided_237 ?_
            refine lv_lstore (lv' := [(17, .long (v17 ||| (j_lshl 1 v21))), (19, .long (((j_lshl v19 1) ||| (((0 : Int32)).toInt64)) - v15)), (22, .int (bi (g_X1_isSet v19 63))), (0, .ref h0), (1, .int a0), (6, .int a3), (11, .int v11), (12, .int v12), (13, .long v13), (15, .long v15), (21, .int v21)]) hx hb dX1_divided_238 hl (by decide) rfl (fun ls hl => ?_)
            refine lv_iinc (v := (v21 + (-1))) (lv' := [(21, .int (v21 + (-1))), (17, .long (v17 ||| (j_lshl 1 v21))), (19, .long (((j_lshl v19 1) ||| (((0 : Int32)).toInt64)) - v15)), (22, .int (bi (g_X1_isSet v19 63))), (0, .ref h0), (1, .int a0), (6, .int a3), (11, .int v11), (12, .int v12), (13, .long v13), (15, .long v15)]) hx hb dX1_divided_240 hl (k := 10) rfl rfl (by decide) rfl (fun ls hl => ?_)
            refine lv_goto (tgt := 172) hx hb dX1_divided_243 (by decide) ?_
            exact ih v11 v12 v13 v15 (v17 ||| (j_lshl 1 v21)) (((j_lshl v19 1) ||| (((0 : Int32)).toInt64)) - v15) (v21 + (-1)) ls (jl_dn hc hc174) (lv_sub hl [4, 5, 6, 7, 8, 9, 10, 1, 2, 0] rfl) hR
          · have hR := hR.trans (if_pos hc211)
            refine lv_lload hx hb dX1_divided_214 (lv_at hl 0 rfl) ?_
            refine lv_lload hx hb dX1_divided_216 (lv_at hl 8 rfl) ?_
            refine jw_callI (W.runS (As := [.long ((j_lshl v19 1) ||| (((0 : Int32)).toInt64)), .long v15]) (rest := []) ⟨hx, hb, hml, hown, hts⟩ (mt_X1_isBelow l ((j_lshl v19 1) ||| (((0 : Int32)).toInt64)) v15) (va_cwS 2 hts (lw_S q154 q155 q5 q156) rfl rfl rfl (by decide +kernel) ⟨Nat.le_of_ble_eq_true rfl, Nat.le_of_ble_eq_true rfl⟩) preEq rfl rfl hl.1 rfl (lv_room (Nat.le_of_ble_eq_true rfl)) dX1_divided_218 ⟨Nat.le_of_ble_eq_true rfl, Nat.le_of_ble_eq_true rfl⟩) ?_
            refine lv_if_ne (tgt := 240) hx hb dX1_divided_221 (by decide) (fun hc221 => ?_) (fun hc221 => ?_)
            · have hR := hR.trans (if_neg hc221)
              refine lv_iinc (v := (v21 + (-1))) (lv' := [(21, .int (v21 + (-1))), (19, .long ((j_lshl v19 1) ||| (((0 : Int32)).toInt64))), (22, .int (bi (g_X1_isSet v19 63))), (0, .ref h0), (1, .int a0), (6, .int a3), (11, .int v11), (12, .int v12), (13, .long v13), (15, .long v15), (17, .long v17)]) hx hb dX1_divided_240 hl (k := 10) rfl rfl (by decide) rfl (fun ls hl => ?_)
              refine lv_goto (tgt := 172) hx hb dX1_divided_243 (by decide) ?_
              exact ih v11 v12 v13 v15 v17 ((j_lshl v19 1) ||| (((0 : Int32)).toInt64)) (v21 + (-1)) ls (jl_dn hc hc174) (lv_sub hl [3, 4, 5, 6, 7, 8, 9, 10, 1, 0] rfl) hR
            · have hR := hR.trans (if_pos hc221)
              refine lv_lload hx hb dX1_divided_224 (lv_at hl 0 rfl) ?_
              refine lv_lload hx hb dX1_divided_226 (lv_at hl 8 rfl) ?_
              refine lv_lsub hx hb dX1_divided_228 ?_
              refine lv_lstore (lv' := [(19, .long (((j_lshl v19 1) ||| (((0 : Int32)).toInt64)) - v15)), (22, .int (bi (g_X1_isSet v19 63))), (0, .ref h0), (1, .int a0), (6, .int a3), (11, .int v11), (12, .int v12), (13, .long v13), (15, .long v15), (17, .long v17), (21, .int v21)]) hx hb dX1_divided_229 hl (by decide) rfl (fun ls hl => ?_)
              refine lv_lload hx hb dX1_divided_231 (lv_at hl 9 rfl) ?_
              refine lv_lconst (v := 1) hx hb dX1_divided_233 (by decide) ?_
              refine lv_iload hx hb dX1_divided_234 (lv_at hl 10 rfl) ?_
              refine lv_lshl (v := (j_lshl 1 v21)) hx hb dX1_divided_236 rfl ?_
              refine lv_lor hx hb dX1_divided_237 ?_
              refine lv_lstore (lv' := [(17, .long (v17 ||| (j_lshl 1 v21))), (19, .long (((j_lshl v19 1) ||| (((0 : Int32)).toInt64)) - v15)), (22, .int (bi (g_X1_isSet v19 63))), (0, .ref h0), (1, .int a0), (6, .int a3), (11, .int v11), (12, .int v12), (13, .long v13), (15, .long v15), (21, .int v21)]) hx hb dX1_divided_238 hl (by decide) rfl (fun ls hl => ?_)
              refine lv_iinc (v := (v21 + (-1))) (lv' := [(21, .int (v21 + (-1))), (17, .long (v17 ||| (j_lshl 1 v21))), (19, .long (((j_lshl v19 1) ||| (((0 : Int32)).toInt64)) - v15)), (22, .int (bi (g_X1_isSet v19 63))), (0, .ref h0), (1, .int a0), (6, .int a3), (11, .int v11), (12, .int v12), (13, .long v13), (15, .long v15)]) hx hb dX1_divided_240 hl (k := 10) rfl rfl (by decide) rfl (fun ls hl => ?_)
              refine lv_goto (tgt := 172) hx hb dX1_divided_243 (by decide) ?_
              exact ih v11 v12 v13 v15 (v17 ||| (j_lshl 1 v21)) (((j_lshl v19 1) ||| (((0 : Int32)).toInt64)) - v15) (v21 + (-1)) ls (jl_dn hc hc174) (lv_sub hl [4, 5, 6, 7, 8, 9, 10, 1, 2, 0] rfl) hR
        · have hR := hR.trans (if_neg hc197)
          refine lv_iconst (v := 1) hx hb dX1_divided_200 (by decide) ?_
          refine lv_goto (tgt := 205) hx hb dX1_divided_201 (by decide) ?_
          refine lv_i2l (v := ((1 : Int32)).toInt64) hx hb dX1_divided_205 rfl ?_
          refine lv_lor hx hb dX1_divided_206 ?_
          refine lv_lstore (lv' := [(19, .long ((j_lshl v19 1) ||| (((1 : Int32)).toInt64))), (22, .int (bi (g_X1_isSet v19 63))), (0, .ref h0), (1, .int a0), (6, .int a3), (11, .int v11), (12, .int v12), (13, .long v13), (15, .long v15), (17, .long v17), (21, .int v21)]) hx hb dX1_divided_207 hl (by decide) rfl (fun ls hl => ?_)
          refine lv_iload hx hb dX1_divided_209 (lv_at hl 1 rfl) ?_
          refine lv_if_ne (tgt := 224) hx hb dX1_divided_211 (by decide) (fun hc211 => ?_) (fun hc211 => ?_)
          · have hR := hR.trans (if_neg hc211)
            refine lv_lload hx hb dX1_divided_224 (lv_at hl 0 rfl) ?_
            refine lv_lload hx hb dX1_divided_226 (lv_at hl 8 rfl) ?_
            refine lv_lsub hx hb dX1_divided_228 ?_
            refine lv_lstore (lv' := [(19, .long (((j_lshl v19 1) ||| (((1 : Int32)).toInt64)) - v15)), (22, .int (bi (g_X1_isSet v19 63))), (0, .ref h0), (1, .int a0), (6, .int a3), (11, .int v11), (12, .int v12), (13, .long v13), (15, .long v15), (17, .long v17), (21, .int v21)]) hx hb dX1_divided_229 hl (by decide) rfl (fun ls hl => ?_)
            refine lv_lload hx hb dX1_divided_231 (lv_at hl 9 rfl) ?_
            refine lv_lconst (v := 1) hx hb dX1_divided_233 (by decide) ?_
            refine lv_iload hx hb dX1_divided_234 (lv_at hl 10 rfl) ?_
            refine lv_lshl (v := (j_lshl 1 v21)) hx hb dX1_divided_236 rfl ?_
            refine lv_lor hx hb dX1_divided_237 ?_
            refine lv_lstore (lv' := [(17, .long (v17 ||| (j_lshl 1 v21))), (19, .long (((j_lshl v19 1) ||| (((1 : Int32)).toInt64)) - v15)), (22, .int (bi (g_X1_isSet v19 63))), (0, .ref h0), (1, .int a0), (6, .int a3), (11, .int v11), (12, .int v12), (13, .long v13), (15, .long v15), (21, .int v21)]) hx hb dX1_divided_238 hl (by decide) rfl (fun ls hl => ?_)
            refine lv_iinc (v := (v21 + (-1))) (lv' := [(21, .int (v21 + (-1))), (17, .long (v17 ||| (j_lshl 1 v21))), (19, .long (((j_lshl v19 1) ||| (((1 : Int32)).toInt64)) - v15)), (22, .int (bi (g_X1_isSet v19 63))), (0, .ref h0), (1, .int a0), (6, .int a3), (11, .int v11), (12, .int v12), (13, .long v13), (15, .long v15)]) hx hb dX1_divided_240 hl (k := 10) rfl rfl (by decide) rfl (fun ls hl => ?_)
            refine lv_goto (tgt := 172) hx hb dX1_divided_243 (by decide) ?_
            exact ih v11 v12 v13 v15 (v17 ||| (j_lshl 1 v21)) (((j_lshl v19 1) ||| (((1 : Int32)).toInt64)) - v15) (v21 + (-1)) ls (jl_dn hc hc174) (lv_sub hl [4, 5, 6, 7, 8, 9, 10, 1, 2, 0] rfl) hR
          · have hR := hR.trans (if_pos hc211)
            refine lv_lload hx hb dX1_divided_214 (lv_at hl 0 rfl) ?_
            refine lv_lload hx hb dX1_divided_216 (lv_at hl 8 rfl) ?_
            refine jw_callI (W.runS (As := [.long ((j_lshl v19 1) ||| (((1 : Int32)).toInt64)), .long v15]) (rest := []) ⟨hx, hb, hml, hown, hts⟩ (mt_X1_isBelow l ((j_lshl v19 1) ||| (((1 : Int32)).toInt64)) v15) (va_cwS 2 hts (lw_S q154 q155 q5 q156) rfl rfl rfl (by decide +kernel) ⟨Nat.le_of_ble_eq_true rfl, Nat.le_of_ble_eq_true rfl⟩) preEq rfl rfl hl.1 rfl (lv_room (Nat.le_of_ble_eq_true rfl)) dX1_divided_218 ⟨Nat.le_of_ble_eq_true rfl, Nat.le_of_ble_eq_true rfl⟩) ?_
            refine lv_if_ne (tgt := 240) hx hb dX1_divided_221 (by decide) (fun hc221 => ?_) (fun hc221 => ?_)
            · have hR := hR.trans (if_neg hc221)
              refine lv_iinc (v := (v21 + (-1))) (lv' := [(21, .int (v21 + (-1))), (19, .long ((j_lshl v19 1) ||| (((1 : Int32)).toInt64))), (22, .int (bi (g_X1_isSet v19 63))), (0, .ref h0), (1, .int a0), (6, .int a3), (11, .int v11), (12, .int v12), (13, .long v13), (15, .long v15), (17, .long v17)]) hx hb dX1_divided_240 hl (k := 10) rfl rfl (by decide) rfl (fun ls hl => ?_)
              refine lv_goto (tgt := 172) hx hb dX1_divided_243 (by decide) ?_
              exact ih v11 v12 v13 v15 v17 ((j_lshl v19 1) ||| (((1 : Int32)).toInt64)) (v21 + (-1)) ls (jl_dn hc hc174) (lv_sub hl [3, 4, 5, 6, 7, 8, 9, 10, 1, 0] rfl) hR
            · have hR := hR.trans (if_pos hc221)
              refine lv_lload hx hb dX1_divided_224 (lv_at hl 0 rfl) ?_
              refine lv_lload hx hb dX1_divided_226 (lv_at hl 8 rfl) ?_
              refine lv_lsub hx hb dX1_divided_228 ?_
              refine lv_lstore (lv' := [(19, .long (((j_lshl v19 1) ||| (((1 : Int32)).toInt64)) - v15)), (22, .int (bi (g_X1_isSet v19 63))), (0, .ref h0), (1, .int a0), (6, .int a3), (11, .int v11), (12, .int v12), (13, .long v13), (15, .long v15), (17, .long v17), (21, .int v21)]) hx hb dX1_divided_229 hl (by decide) rfl (fun ls hl => ?_)
              refine lv_lload hx hb dX1_divided_231 (lv_at hl 9 rfl) ?_
              refine lv_lconst (v := 1) hx hb dX1_divided_233 (by decide) ?_
              refine lv_iload hx hb dX1_divided_234 (lv_at hl 10 rfl) ?_
              refine lv_lshl (v := (j_lshl 1 v21)) hx hb dX1_divided_236 rfl ?_
              refine lv_lor hx hb dX1_divided_237 ?_
              refine lv_lstore (lv' := [(17, .long (v17 ||| (j_lshl 1 v21))), (19, .long (((j_lshl v19 1) ||| (((1 : Int32)).toInt64)) - v15)), (22, .int (bi (g_X1_isSet v19 63))), (0, .ref h0), (1, .int a0), (6, .int a3), (11, .int v11), (12, .int v12), (13, .long v13), (15, .long v15), (21, .int v21)]) hx hb dX1_divided_238 hl (by decide) rfl (fun ls hl => ?_)
              refine lv_iinc (v := (v21 + (-1))) (lv' := [(21, .int (v21 + (-1))), (17, .long (v17 ||| (j_lshl 1 v21))), (19, .long (((j_lshl v19 1) ||| (((1 : Int32)).toInt64)) - v15)), (22, .int (bi (g_X1_isSet v19 63))), (0, .ref h0), (1, .int a0), (6, .int a3), (11, .int v11), (12, .int v12), (13, .long v13), (15, .long v15)]) hx hb dX1_divided_240 hl (k := 10) rfl rfl (by decide) rfl (fun ls hl => ?_)
              refine lv_goto (tgt := 172) hx hb dX1_divided_243 (by decide) ?_
              exact ih v11 v12 v13 v15 (v17 ||| (j_lshl 1 v21)) (((j_lshl v19 1) ||| (((1 : Int32)).toInt64)) - v15) (v21 + (-1)) ls (jl_dn hc hc174) (lv_sub hl [4, 5, 6, 7, 8, 9, 10, 1, 2, 0] rfl) hR
  have B158 : ∀ (v11 : Int32) (v12 : Int32) (v13 : Int64) (s0 : Int64) (ls : Array Slot), lv_has ls 23 [(0, .ref h0), (1, .int a0), (6, .int a3), (11, .int v11), (12, .int v12), (13, .long v13)] → R = g_X1_divided_158 a0 a1 a2 a3 f v11 v12 v13 s0 → W p l e (headSpec (ws_ yX1_divided cX1_divided 23 (some .int)) ({ frames := 2, cells := 0, slots := 0, locals := 46 } : Room)).room s m ([.ref h0, .int a0, .long a1, .long a2, .int a3] : List Value).toArray below meth c s.heap [] 0 0 (MQ below (va_Qi (fun (r : Int32) (u : Int64) => r = R.1 ∧ u = R.2) (Bw1 dC dI A h0) A) ([.ref h0, .int a0, .long a1, .long a2, .int a3] : List Value).toArray s 0 0 A) (F0 m 158 ls [.long s0]) := by
    intro v11 v12 v13 s0 ls hl hR
    unfold g_X1_divided_158 at hR
    refine lv_lstore (lv' := [(15, .long s0), (0, .ref h0), (1, .int a0), (6, .int a3), (11, .int v11), (12, .int v12), (13, .long v13)]) hx hb dX1_divided_158 hl (by decide) rfl (fun ls hl => ?_)
    refine lv_lconst (v := 0) hx hb dX1_divided_160 (by decide) ?_
    refine lv_lstore (lv' := [(17, .long 0), (15, .long s0), (0, .ref h0), (1, .int a0), (6, .int a3), (11, .int v11), (12, .int v12), (13, .long v13)]) hx hb dX1_divided_161 hl (by decide) rfl (fun ls hl => ?_)
    refine lv_lconst (v := 0) hx hb dX1_divided_163 (by decide) ?_
    refine lv_lstore (lv' := [(19, .long 0), (17, .long 0), (15, .long s0), (0, .ref h0), (1, .int a0), (6, .int a3), (11, .int v11), (12, .int v12), (13, .long v13)]) hx hb dX1_divided_164 hl (by decide) rfl (fun ls hl => ?_)
    refine lv_iload hx hb dX1_divided_166 (lv_at hl 5 rfl) ?_
    refine lv_iconst (v := 1) hx hb dX1_divided_168 (by decide) ?_
    refine lv_isub hx hb dX1_divided_169 ?_
    refine lv_istore (lv' := [(21, .int (a3 - 1)), (19, .long 0), (17, .long 0), (15, .long s0), (0, .ref h0), (1, .int a0), (6, .int a3), (11, .int v11), (12, .int v12), (13, .long v13)]) hx hb dX1_divided_170 hl (by decide) rfl (fun ls hl => ?_)
    exact B172 ((((a3 - 1) : Int32).toInt + 1).toNat + 1) v11 v12 v13 s0 0 0 (a3 - 1) ls (Nat.lt_succ_self _) (lv_sub hl [4, 5, 6, 7, 8, 9, 3, 2, 1, 0] rfl) hR
  have B138 : ∀ (v11 : Int32) (v12 : Int32) (s0 : Int64) (ls : Array Slot), lv_has ls 23 [(0, .ref h0), (1, .int a0), (4, .long a2), (6, .int a3), (11, .int v11), (12, .int v12)] → R = g_X1_divided_138 a0 a1 a2 a3 f v11 v12 s0 → W p l e (headSpec (ws_ yX1_divided cX1_divided 23 (some .int)) ({ frames := 2, cells := 0, slots := 0, locals := 46 } : Room)).room s m ([.ref h0, .int a0, .long a1, .long a2, .int a3] : List Value).toArray below meth c s.heap [] 0 0 (MQ below (va_Qi (fun (r : Int32) (u : Int64) => r = R.1 ∧ u = R.2) (Bw1 dC dI A h0) A) ([.ref h0, .int a0, .long a1, .long a2, .int a3] : List Value).toArray s 0 0 A) (F0 m 138 ls [.long s0]) := by
    intro v11 v12 s0 ls hl hR
    unfold g_X1_divided_138 at hR
    refine lv_lstore (lv' := [(13, .long s0), (0, .ref h0), (1, .int a0), (4, .long a2), (6, .int a3), (11, .int v11), (12, .int v12)]) hx hb dX1_divided_138 hl (by decide) rfl (fun ls hl => ?_)
    refine lv_iload hx hb dX1_divided_140 (lv_at hl 6 rfl) ?_
    refine lv_if_eq (tgt := 156) hx hb dX1_divided_142 (by decide) (fun hc142 => ?_) (fun hc142 => ?_)
    · have hR := hR.trans (if_pos hc142)
      refine lv_lload hx hb dX1_divided_156 (lv_at hl 3 rfl) ?_
      exact B158 v11 v12 s0 a2 ls (lv_sub hl [1, 2, 4, 5, 6, 0] rfl) hR
    · have hR := hR.trans (if_neg hc142)
      refine lv_lload hx hb dX1_divided_145 (lv_at hl 3 rfl) ?_
      refine lv_lneg hx hb dX1_divided_147 ?_
      refine lv_iload hx hb dX1_divided_148 (lv_at hl 4 rfl) ?_
      refine jw_callJ (W.runS (As := [.long (-a2), .int a3]) (rest := []) ⟨hx, hb, hml, hown, hts⟩ (mt_X1_cut l (-a2) a3) (va_cwS 2 hts (lw_S q129 q130 q5 q131) rfl rfl rfl (by decide +kernel) ⟨Nat.le_of_ble_eq_true rfl, Nat.le_of_ble_eq_true rfl⟩) preEq rfl rfl hl.1 rfl (lv_room (Nat.le_of_ble_eq_true rfl)) dX1_divided_150 ⟨Nat.le_of_ble_eq_true rfl, Nat.le_of_ble_eq_true rfl⟩) ?_
      refine lv_goto (tgt := 158) hx hb dX1_divided_153 (by decide) ?_
      exact B158 v11 v12 s0 (g_X1_cut (-a2) a3) ls (lv_sub hl [1, 2, 4, 5, 6, 0] rfl) hR
  have B120 : ∀ (v11 : Int32) (s0 : Int32) (ls : Array Slot), lv_has ls 23 [(0, .ref h0), (1, .int a0), (2, .long a1), (4, .long a2), (6, .int a3), (11, .int v11)] → R = g_X1_divided_120 a0 a1 a2 a3 f v11 s0 → W p l e (headSpec (ws_ yX1_divided cX1_divided 23 (some .int)) ({ frames := 2, cells := 0, slots := 0, locals := 46 } : Room)).room s m ([.ref h0, .int a0, .long a1, .long a2, .int a3] : List Value).toArray below meth c s.heap [] 0 0 (MQ below (va_Qi (fun (r : Int32) (u : Int64) => r = R.1 ∧ u = R.2) (Bw1 dC dI A h0) A) ([.ref h0, .int a0, .long a1, .long a2, .int a3] : List Value).toArray s 0 0 A) (F0 m 120 ls [.int s0]) := by
    intro v11 s0 ls hl hR
    unfold g_X1_divided_120 at hR
    refine lv_istore (lv' := [(12, .int s0), (0, .ref h0), (1, .int a0), (2, .long a1), (4, .long a2), (6, .int a3), (11, .int v11)]) hx hb dX1_divided_120 hl (by decide) rfl (fun ls hl => ?_)
    refine lv_iload hx hb dX1_divided_122 (lv_at hl 6 rfl) ?_
    refine lv_if_eq (tgt := 137) hx hb dX1_divided_124 (by decide) (fun hc124 => ?_) (fun hc124 => ?_)
    · have hR := hR.trans (if_pos hc124)
      refine lv_lload_n hx hb dX1_divided_137 rfl (lv_at hl 3 rfl) ?_
      exact B138 v11 s0 a1 ls (lv_sub hl [1, 2, 4, 5, 6, 0] rfl) hR
    · have hR := hR.trans (if_neg hc124)
      refine lv_lload_n hx hb dX1_divided_127 rfl (lv_at hl 3 rfl) ?_
      refine lv_lneg hx hb dX1_divided_128 ?_
      refine lv_iload hx hb dX1_divided_129 (lv_at hl 5 rfl) ?_
      refine jw_callJ (W.runS (As := [.long (-a1), .int a3]) (rest := []) ⟨hx, hb, hml, hown, hts⟩ (mt_X1_cut l (-a1) a3) (va_cwS 2 hts (lw_S q129 q130 q5 q131) rfl rfl rfl (by decide +kernel) ⟨Nat.le_of_ble_eq_true rfl, Nat.le_of_ble_eq_true rfl⟩) preEq rfl rfl hl.1 rfl (lv_room (Nat.le_of_ble_eq_true rfl)) dX1_divided_131 ⟨Nat.le_of_ble_eq_true rfl, Nat.le_of_ble_eq_true rfl⟩) ?_
      refine lv_goto (tgt := 138) hx hb dX1_divided_134 (by decide) ?_
      exact B138 v11 s0 (g_X1_cut (-a1) a3) ls (lv_sub hl [1, 2, 4, 5, 6, 0] rfl) hR
  have B96 : ∀ (v7 : Int32) (s0 : Int32) (ls : Array Slot), lv_has ls 23 [(0, .ref h0), (1, .int a0), (2, .long a1), (4, .long a2), (6, .int a3), (7, .int v7)] → R = g_X1_divided_96 a0 a1 a2 a3 f v7 s0 → W p l e (headSpec (ws_ yX1_divided cX1_divided 23 (some .int)) ({ frames := 2, cells := 0, slots := 0, locals := 46 } : Room)).room s m ([.ref h0, .int a0, .long a1, .long a2, .int a3] : List Value).toArray below meth c s.heap [] 0 0 (MQ below (va_Qi (fun (r : Int32) (u : Int64) => r = R.1 ∧ u = R.2) (Bw1 dC dI A h0) A) ([.ref h0, .int a0, .long a1, .long a2, .int a3] : List Value).toArray s 0 0 A) (F0 m 96 ls [.int s0]) := by
    intro v7 s0 ls hl hR
    unfold g_X1_divided_96 at hR
    refine lv_istore (lv' := [(11, .int s0), (0, .ref h0), (1, .int a0), (2, .long a1), (4, .long a2), (6, .int a3), (7, .int v7)]) hx hb dX1_divided_96 hl (by decide) rfl (fun ls hl => ?_)
    refine lv_iload hx hb dX1_divided_98 (lv_at hl 6 rfl) ?_
    refine lv_if_ne (tgt := 119) hx hb dX1_divided_100 (by decide) (fun hc100 => ?_) (fun hc100 => ?_)
    · have hR := hR.trans (if_neg hc100)
      refine lv_iconst (v := 0) hx hb dX1_divided_119 (by decide) ?_
      exact B120 s0 0 ls (lv_sub hl [1, 2, 3, 4, 5, 0] rfl) hR
    · have hR := hR.trans (if_pos hc100)
      refine lv_lload hx hb dX1_divided_103 (lv_at hl 4 rfl) ?_
      refine lv_iload hx hb dX1_divided_105 (lv_at hl 5 rfl) ?_
      refine lv_iconst (v := 1) hx hb dX1_divided_107 (by decide) ?_
      refine lv_isub hx hb dX1_divided_108 ?_
      refine jw_callI (W.runS (As := [.long a2, .int (a3 - 1)]) (rest := []) ⟨hx, hb, hml, hown, hts⟩ (mt_X1_isSet l a2 (a3 - 1)) (va_cwS 2 hts (lw_S q138 q139 q5 q140) rfl rfl rfl (by decide +kernel) ⟨Nat.le_of_ble_eq_true rfl, Nat.le_of_ble_eq_true rfl⟩) preEq rfl rfl hl.1 rfl (lv_room (Nat.le_of_ble_eq_true rfl)) dX1_divided_109 ⟨Nat.le_of_ble_eq_true rfl, Nat.le_of_ble_eq_true rfl⟩) ?_
      refine lv_if_eq (tgt := 119) hx hb dX1_divided_112 (by decide) (fun hc112 => ?_) (fun hc112 => ?_)
      · have hR := hR.trans (if_pos hc112)
        refine lv_iconst (v := 0) hx hb dX1_divided_119 (by decide) ?_
        exact B120 s0 0 ls (lv_sub hl [1, 2, 3, 4, 5, 0] rfl) hR
      · have hR := hR.trans (if_neg hc112)
        refine lv_iconst (v := 1) hx hb dX1_divided_115 (by decide) ?_
        refine lv_goto (tgt := 120) hx hb dX1_divided_116 (by decide) ?_
        exact B120 s0 1 ls (lv_sub hl [1, 2, 3, 4, 5, 0] rfl) hR
  have B75 : ∀ (v7 : Int32) (ls : Array Slot), lv_has ls 23 [(0, .ref h0), (1, .int a0), (2, .long a1), (4, .long a2), (6, .int a3), (7, .int v7)] → R = g_X1_divided_75 a0 a1 a2 a3 f v7 → W p l e (headSpec (ws_ yX1_divided cX1_divided 23 (some .int)) ({ frames := 2, cells := 0, slots := 0, locals := 46 } : Room)).room s m ([.ref h0, .int a0, .long a1, .long a2, .int a3] : List Value).toArray below meth c s.heap [] 0 0 (MQ below (va_Qi (fun (r : Int32) (u : Int64) => r = R.1 ∧ u = R.2) (Bw1 dC dI A h0) A) ([.ref h0, .int a0, .long a1, .long a2, .int a3] : List Value).toArray s 0 0 A) (F0 m 75 ls []) := by
    intro v7 ls hl hR
    unfold g_X1_divided_75 at hR
    refine lv_iload hx hb dX1_divided_75 (lv_at hl 5 rfl) ?_
    refine lv_if_ne (tgt := 95) hx hb dX1_divided_77 (by decide) (fun hc77 => ?_) (fun hc77 => ?_)
    · have hR := hR.trans (if_neg hc77)
      refine lv_iconst (v := 0) hx hb dX1_divided_95 (by decide) ?_
      exact B96 v7 0 ls (lv_sub hl [0, 1, 2, 3, 4, 5] rfl) hR
    · have hR := hR.trans (if_pos hc77)
      refine lv_lload_n hx hb dX1_divided_80 rfl (lv_at hl 2 rfl) ?_
      refine lv_iload hx hb dX1_divided_81 (lv_at hl 4 rfl) ?_
      refine lv_iconst (v := 1) hx hb dX1_divided_83 (by decide) ?_
      refine lv_isub hx hb dX1_divided_84 ?_
      refine jw_callI (W.runS (As := [.long a1, .int (a3 - 1)]) (rest := []) ⟨hx, hb, hml, hown, hts⟩ (mt_X1_isSet l a1 (a3 - 1)) (va_cwS 2 hts (lw_S q138 q139 q5 q140) rfl rfl rfl (by decide +kernel) ⟨Nat.le_of_ble_eq_true rfl, Nat.le_of_ble_eq_true rfl⟩) preEq rfl rfl hl.1 rfl (lv_room (Nat.le_of_ble_eq_true rfl)) dX1_divided_85 ⟨Nat.le_of_ble_eq_true rfl, Nat.le_of_ble_eq_true rfl⟩) ?_
      refine lv_if_eq (tgt := 95) hx hb dX1_divided_88 (by decide) (fun hc88 => ?_) (fun hc88 => ?_)
      · have hR := hR.trans (if_pos hc88)
        refine lv_iconst (v := 0) hx hb dX1_divided_95 (by decide) ?_
        exact B96 v7 0 ls (lv_sub hl [0, 1, 2, 3, 4, 5] rfl) hR
      · have hR := hR.trans (if_neg hc88)
        refine lv_iconst (v := 1) hx hb dX1_divided_91 (by decide) ?_
        refine lv_goto (tgt := 96) hx hb dX1_divided_92 (by decide) ?_
        exact B96 v7 1 ls (lv_sub hl [0, 1, 2, 3, 4, 5] rfl) hR
  have B54 : ∀ (v7 : Int32) (v8 : Int64) (s0 : Int32) (ls : Array Slot), lv_has ls 23 [(0, .ref h0), (1, .int a0), (2, .long a1), (4, .long a2), (6, .int a3), (7, .int v7), (8, .long v8)] → R = g_X1_divided_54 a0 a1 a2 a3 f v7 v8 s0 → W p l e (headSpec (ws_ yX1_divided cX1_divided 23 (some .int)) ({ frames := 2, cells := 0, slots := 0, locals := 46 } : Room)).room s m ([.ref h0, .int a0, .long a1, .long a2, .int a3] : List Value).toArray below meth c s.heap [] 0 0 (MQ below (va_Qi (fun (r : Int32) (u : Int64) => r = R.1 ∧ u = R.2) (Bw1 dC dI A h0) A) ([.ref h0, .int a0, .long a1, .long a2, .int a3] : List Value).toArray s 0 0 A) (F0 m 54 ls [.int s0]) := by
    intro v7 v8 s0 ls hl hR
    unfold g_X1_divided_54 at hR
    refine lv_istore (lv' := [(10, .int s0), (0, .ref h0), (1, .int a0), (2, .long a1), (4, .long a2), (6, .int a3), (7, .int v7), (8, .long v8)]) hx hb dX1_divided_54 hl (by decide) rfl (fun ls hl => ?_)
    refine lv_iload_n hx hb dX1_divided_56 rfl (lv_at hl 2 rfl) ?_
    refine lv_iconst (v := 3) hx hb dX1_divided_57 (by decide) ?_
    refine lv_icmp_ne (tgt := 75) hx hb dX1_divided_58 (by decide) (fun hc58 => ?_) (fun hc58 => ?_)
    · have hR := hR.trans (if_neg hc58)
      exact B75 v7 ls (lv_sub hl [1, 2, 3, 4, 5, 6] rfl) hR
    · have hR := hR.trans (if_pos hc58)
      refine lv_iload hx hb dX1_divided_61 (lv_at hl 0 rfl) ?_
      refine lv_if_eq (tgt := 75) hx hb dX1_divided_63 (by decide) (fun hc63 => ?_) (fun hc63 => ?_)
      · have hR := hR.trans (if_pos hc63)
        exact B75 v7 ls (lv_sub hl [1, 2, 3, 4, 5, 6] rfl) hR
      · have hR := hR.trans (if_neg hc63)
        refine lv_lload_n hx hb dX1_divided_66 rfl (lv_at hl 3 rfl) ?_
        refine lv_lload hx hb dX1_divided_67 (lv_at hl 7 rfl) ?_
        refine W.lcmp hx hb dX1_divided_69 ?_
        refine lv_if_ne (tgt := 75) hx hb dX1_divided_70 (by decide) (fun hc70 => ?_) (fun hc70 => ?_)
        · have hR := hR.trans (if_neg hc70)
          exact B75 v7 ls (lv_sub hl [1, 2, 3, 4, 5, 6] rfl) hR
        · have hR := hR.trans (if_pos hc70)
          refine lv_iconst (v := 4) hx hb dX1_divided_73 (by decide) ?_
          exact W.iret (v := 4) hx hb hr (fun t ht hW => ⟨⟨4, f, rfl, ⟨by rw [hR], by rw [hR]⟩, by rw [ht]; exact hP, va_K.moved hW.alike hK, hD⟩, hS.F ht⟩) hS.2.2 dX1_divided_74
  have B20 : ∀ (s0 : Int32) (ls : Array Slot), lv_has ls 23 [(0, .ref h0), (1, .int a0), (2, .long a1), (4, .long a2), (6, .int a3)] → R = g_X1_divided_20 a0 a1 a2 a3 f s0 → W p l e (headSpec (ws_ yX1_divided cX1_divided 23 (some .int)) ({ frames := 2, cells := 0, slots := 0, locals := 46 } : Room)).room s m ([.ref h0, .int a0, .long a1, .long a2, .int a3] : List Value).toArray below meth c s.heap [] 0 0 (MQ below (va_Qi (fun (r : Int32) (u : Int64) => r = R.1 ∧ u = R.2) (Bw1 dC dI A h0) A) ([.ref h0, .int a0, .long a1, .long a2, .int a3] : List Value).toArray s 0 0 A) (F0 m 20 ls [.int s0]) := by
    intro s0 ls hl hR
    unfold g_X1_divided_20 at hR
    refine lv_istore (lv' := [(7, .int s0), (0, .ref h0), (1, .int a0), (2, .long a1), (4, .long a2), (6, .int a3)]) hx hb dX1_divided_20 hl (by decide) rfl (fun ls hl => ?_)
    refine lv_lconst (v := 1) hx hb dX1_divided_22 (by decide) ?_
    refine lv_iload hx hb dX1_divided_23 (lv_at hl 5 rfl) ?_
    refine lv_iconst (v := 1) hx hb dX1_divided_25 (by decide) ?_
    refine lv_isub hx hb dX1_divided_26 ?_
    refine lv_lshl (v := (j_lshl 1 (a3 - 1))) hx hb dX1_divided_27 rfl ?_
    refine lv_lstore (lv' := [(8, .long (j_lshl 1 (a3 - 1))), (7, .int s0), (0, .ref h0), (1, .int a0), (2, .long a1), (4, .long a2), (6, .int a3)]) hx hb dX1_divided_28 hl (by decide) rfl (fun ls hl => ?_)
    refine lv_iload hx hb dX1_divided_30 (lv_at hl 1 rfl) ?_
    refine lv_if_ne (tgt := 53) hx hb dX1_divided_32 (by decide) (fun hc32 => ?_) (fun hc32 => ?_)
    · have hR := hR.trans (if_neg hc32)
      refine lv_iconst (v := 0) hx hb dX1_divided_53 (by decide) ?_
      exact B54 s0 (j_lshl 1 (a3 - 1)) 0 ls (lv_sub hl [2, 3, 4, 5, 6, 1, 0] rfl) hR
    · have hR := hR.trans (if_pos hc32)
      refine lv_lload hx hb dX1_divided_35 (lv_at hl 5 rfl) ?_
      refine lv_lconst (v := 1) hx hb dX1_divided_37 (by decide) ?_
      refine lv_ladd hx hb dX1_divided_38 ?_
      refine lv_iload hx hb dX1_divided_39 (lv_at hl 6 rfl) ?_
      refine jw_callJ (W.runS (As := [.long (a2 + 1), .int a3]) (rest := []) ⟨hx, hb, hml, hown, hts⟩ (mt_X1_cut l (a2 + 1) a3) (va_cwS 2 hts (lw_S q129 q130 q5 q131) rfl rfl rfl (by decide +kernel) ⟨Nat.le_of_ble_eq_true rfl, Nat.le_of_ble_eq_true rfl⟩) preEq rfl rfl hl.1 rfl (lv_room (Nat.le_of_ble_eq_true rfl)) dX1_divided_41 ⟨Nat.le_of_ble_eq_true rfl, Nat.le_of_ble_eq_true rfl⟩) ?_
      refine lv_lconst (v := 0) hx hb dX1_divided_44 (by decide) ?_
      refine W.lcmp hx hb dX1_divided_45 ?_
      refine lv_if_ne (tgt := 53) hx hb dX1_divided_46 (by decide) (fun hc46 => ?_) (fun hc46 => ?_)
      · have hR := hR.trans (if_neg hc46)
        refine lv_iconst (v := 0) hx hb dX1_divided_53 (by decide) ?_
        exact B54 s0 (j_lshl 1 (a3 - 1)) 0 ls (lv_sub hl [2, 3, 4, 5, 6, 1, 0] rfl) hR
      · have hR := hR.trans (if_pos hc46)
        refine lv_iconst (v := 1) hx hb dX1_divided_49 (by decide) ?_
        refine lv_goto (tgt := 54) hx hb dX1_divided_50 (by decide) ?_
        exact B54 s0 (j_lshl 1 (a3 - 1)) 1 ls (lv_sub hl [2, 3, 4, 5, 6, 1, 0] rfl) hR
  unfold g_X1_divided at hR
  refine lv_lload hx hb dX1_divided_0 (lv_at hl 3 rfl) ?_
  refine lv_lconst (v := 0) hx hb dX1_divided_2 (by decide) ?_
  refine W.lcmp hx hb dX1_divided_3 ?_
  refine lv_if_ne (tgt := 9) hx hb dX1_divided_4 (by decide) (fun hc4 => ?_) (fun hc4 => ?_)
  · have hR := hR.trans (if_neg hc4)
    refine lv_iload_n hx hb dX1_divided_9 rfl (lv_at hl 1 rfl) ?_
    refine lv_iconst (v := 2) hx hb dX1_divided_10 (by decide) ?_
    refine lv_irem hx hb dX1_divided_11 (by decide) ?_
    refine lv_if_ne (tgt := 19) hx hb dX1_divided_12 (by decide) (fun hc12 => ?_) (fun hc12 => ?_)
    · have hR := hR.trans (if_neg hc12)
      refine lv_iconst (v := 0) hx hb dX1_divided_19 (by decide) ?_
      exact B20 0 ls (lv_sub hl [0, 1, 2, 3, 4] rfl) hR
    · have hR := hR.trans (if_pos hc12)
      refine lv_iconst (v := 1) hx hb dX1_divided_15 (by decide) ?_
      refine lv_goto (tgt := 20) hx hb dX1_divided_16 (by decide) ?_
      exact B20 1 ls (lv_sub hl [0, 1, 2, 3, 4] rfl) hR
  · have hR := hR.trans (if_pos hc4)
    refine lv_iconst (v := 3) hx hb dX1_divided_7 (by decide) ?_
    exact W.iret (v := 3) hx hb hr (fun t ht hW => ⟨⟨3, f, rfl, ⟨by rw [hR], by rw [hR]⟩, by rw [ht]; exact hP, va_K.moved hW.alike hK, hD⟩, hS.F ht⟩) hS.2.2 dX1_divided_8
abbrev cX1_two : ByteArray := prog_4_method_19_code
def yX1_two : MethodName := ⟨RX1, "two", "(IJJI)I"⟩
theorem dX1_two_0 : decode cX1_two 0 = .ok (.iload_n 1, 1) := by decide +kernel
theorem dX1_two_1 : decode cX1_two 1 = .ok (.iconst 3, 1) := by decide +kernel
theorem dX1_two_2 : decode cX1_two 2 = .ok (.if_icmp .lt 20, 3) := by decide +kernel
theorem dX1_two_5 : decode cX1_two 5 = .ok (.iload_n 1, 1) := by decide +kernel
theorem dX1_two_6 : decode cX1_two 6 = .ok (.bipush 6, 2) := by decide +kernel
theorem dX1_two_8 : decode cX1_two 8 = .ok (.if_icmp .gt 14, 3) := by decide +kernel
theorem dX1_two_11 : decode cX1_two 11 = .ok (.aload_n 0, 1) := by decide +kernel
theorem dX1_two_12 : decode cX1_two 12 = .ok (.iload_n 1, 1) := by decide +kernel
theorem dX1_two_13 : decode cX1_two 13 = .ok (.lload_n 2, 1) := by decide +kernel
theorem dX1_two_14 : decode cX1_two 14 = .ok (.lload 4, 2) := by decide +kernel
theorem dX1_two_16 : decode cX1_two 16 = .ok (.iload 6, 2) := by decide +kernel
theorem dX1_two_18 : decode cX1_two 18 = .ok (.invokevirtual 66, 3) := by decide +kernel
theorem dX1_two_21 : decode cX1_two 21 = .ok (.ireturn, 1) := by decide +kernel
theorem dX1_two_22 : decode cX1_two 22 = .ok (.lload 4, 2) := by decide +kernel
theorem dX1_two_24 : decode cX1_two 24 = .ok (.iload 6, 2) := by decide +kernel
theorem dX1_two_26 : decode cX1_two 26 = .ok (.iconst 1, 1) := by decide +kernel
theorem dX1_two_27 : decode cX1_two 27 = .ok (.isub, 1) := by decide +kernel
theorem dX1_two_28 : decode cX1_two 28 = .ok (.i2l, 1) := by decide +kernel
theorem dX1_two_29 : decode cX1_two 29 = .ok (.land, 1) := by decide +kernel
theorem dX1_two_30 : decode cX1_two 30 = .ok (.l2i, 1) := by decide +kernel
theorem dX1_two_31 : decode cX1_two 31 = .ok (.istore 7, 2) := by decide +kernel
theorem dX1_two_33 : decode cX1_two 33 = .ok (.iload_n 1, 1) := by decide +kernel
theorem dX1_two_34 : decode cX1_two 34 = .ok (.tableswitch 156 0 12 #[66, 75, 84, 156, 156, 156, 156, 97, 106, 115, 124, 133, 147], 66) := by decide +kernel
theorem dX1_two_100 : decode cX1_two 100 = .ok (.lload_n 2, 1) := by decide +kernel
theorem dX1_two_101 : decode cX1_two 101 = .ok (.lload 4, 2) := by decide +kernel
theorem dX1_two_103 : decode cX1_two 103 = .ok (.ladd, 1) := by decide +kernel
theorem dX1_two_104 : decode cX1_two 104 = .ok (.lstore 8, 2) := by decide +kernel
theorem dX1_two_106 : decode cX1_two 106 = .ok (.goto 108, 3) := by decide +kernel
theorem dX1_two_109 : decode cX1_two 109 = .ok (.lload_n 2, 1) := by decide +kernel
theorem dX1_two_110 : decode cX1_two 110 = .ok (.lload 4, 2) := by decide +kernel
theorem dX1_two_112 : decode cX1_two 112 = .ok (.lsub, 1) := by decide +kernel
theorem dX1_two_113 : decode cX1_two 113 = .ok (.lstore 8, 2) := by decide +kernel
theorem dX1_two_115 : decode cX1_two 115 = .ok (.goto 99, 3) := by decide +kernel
theorem dX1_two_118 : decode cX1_two 118 = .ok (.lload_n 2, 1) := by decide +kernel
theorem dX1_two_119 : decode cX1_two 119 = .ok (.lload 4, 2) := by decide +kernel
theorem dX1_two_121 : decode cX1_two 121 = .ok (.iload 6, 2) := by decide +kernel
theorem dX1_two_123 : decode cX1_two 123 = .ok (.invokestatic 69, 3) := by decide +kernel
theorem dX1_two_126 : decode cX1_two 126 = .ok (.lstore 8, 2) := by decide +kernel
theorem dX1_two_128 : decode cX1_two 128 = .ok (.goto 86, 3) := by decide +kernel
theorem dX1_two_131 : decode cX1_two 131 = .ok (.lload_n 2, 1) := by decide +kernel
theorem dX1_two_132 : decode cX1_two 132 = .ok (.lload 4, 2) := by decide +kernel
theorem dX1_two_134 : decode cX1_two 134 = .ok (.land, 1) := by decide +kernel
theorem dX1_two_135 : decode cX1_two 135 = .ok (.lstore 8, 2) := by decide +kernel
theorem dX1_two_137 : decode cX1_two 137 = .ok (.goto 77, 3) := by decide +kernel
theorem dX1_two_140 : decode cX1_two 140 = .ok (.lload_n 2, 1) := by decide +kernel
theorem dX1_two_141 : decode cX1_two 141 = .ok (.lload 4, 2) := by decide +kernel
theorem dX1_two_143 : decode cX1_two 143 = .ok (.lor, 1) := by decide +kernel
theorem dX1_two_144 : decode cX1_two 144 = .ok (.lstore 8, 2) := by decide +kernel
theorem dX1_two_146 : decode cX1_two 146 = .ok (.goto 68, 3) := by decide +kernel
theorem dX1_two_149 : decode cX1_two 149 = .ok (.lload_n 2, 1) := by decide +kernel
theorem dX1_two_150 : decode cX1_two 150 = .ok (.lload 4, 2) := by decide +kernel
theorem dX1_two_152 : decode cX1_two 152 = .ok (.lxor, 1) := by decide +kernel
theorem dX1_two_153 : decode cX1_two 153 = .ok (.lstore 8, 2) := by decide +kernel
theorem dX1_two_155 : decode cX1_two 155 = .ok (.goto 59, 3) := by decide +kernel
theorem dX1_two_158 : decode cX1_two 158 = .ok (.lload_n 2, 1) := by decide +kernel
theorem dX1_two_159 : decode cX1_two 159 = .ok (.iload 7, 2) := by decide +kernel
theorem dX1_two_161 : decode cX1_two 161 = .ok (.lshl, 1) := by decide +kernel
theorem dX1_two_162 : decode cX1_two 162 = .ok (.lstore 8, 2) := by decide +kernel
theorem dX1_two_164 : decode cX1_two 164 = .ok (.goto 50, 3) := by decide +kernel
theorem dX1_two_167 : decode cX1_two 167 = .ok (.lload_n 2, 1) := by decide +kernel
theorem dX1_two_168 : decode cX1_two 168 = .ok (.iload 6, 2) := by decide +kernel
theorem dX1_two_170 : decode cX1_two 170 = .ok (.invokestatic 55, 3) := by decide +kernel
theorem dX1_two_173 : decode cX1_two 173 = .ok (.iload 7, 2) := by decide +kernel
theorem dX1_two_175 : decode cX1_two 175 = .ok (.lshr, 1) := by decide +kernel
theorem dX1_two_176 : decode cX1_two 176 = .ok (.lstore 8, 2) := by decide +kernel
theorem dX1_two_178 : decode cX1_two 178 = .ok (.goto 36, 3) := by decide +kernel
theorem dX1_two_181 : decode cX1_two 181 = .ok (.lload_n 2, 1) := by decide +kernel
theorem dX1_two_182 : decode cX1_two 182 = .ok (.iload 7, 2) := by decide +kernel
theorem dX1_two_184 : decode cX1_two 184 = .ok (.lushr, 1) := by decide +kernel
theorem dX1_two_185 : decode cX1_two 185 = .ok (.lstore 8, 2) := by decide +kernel
theorem dX1_two_187 : decode cX1_two 187 = .ok (.goto 27, 3) := by decide +kernel
theorem dX1_two_190 : decode cX1_two 190 = .ok (.lload_n 2, 1) := by decide +kernel
theorem dX1_two_191 : decode cX1_two 191 = .ok (.iload_n 1, 1) := by decide +kernel
theorem dX1_two_192 : decode cX1_two 192 = .ok (.bipush 13, 2) := by decide +kernel
theorem dX1_two_194 : decode cX1_two 194 = .ok (.if_icmp .ne 8, 3) := by decide +kernel
theorem dX1_two_197 : decode cX1_two 197 = .ok (.iload 7, 2) := by decide +kernel
theorem dX1_two_199 : decode cX1_two 199 = .ok (.goto 8, 3) := by decide +kernel
theorem dX1_two_202 : decode cX1_two 202 = .ok (.iload 6, 2) := by decide +kernel
theorem dX1_two_204 : decode cX1_two 204 = .ok (.iload 7, 2) := by decide +kernel
theorem dX1_two_206 : decode cX1_two 206 = .ok (.isub, 1) := by decide +kernel
theorem dX1_two_207 : decode cX1_two 207 = .ok (.iload 6, 2) := by decide +kernel
theorem dX1_two_209 : decode cX1_two 209 = .ok (.invokestatic 73, 3) := by decide +kernel
theorem dX1_two_212 : decode cX1_two 212 = .ok (.lstore 8, 2) := by decide +kernel
theorem dX1_two_214 : decode cX1_two 214 = .ok (.aload_n 0, 1) := by decide +kernel
theorem dX1_two_215 : decode cX1_two 215 = .ok (.lload 8, 2) := by decide +kernel
theorem dX1_two_217 : decode cX1_two 217 = .ok (.iload 6, 2) := by decide +kernel
theorem dX1_two_219 : decode cX1_two 219 = .ok (.invokestatic 55, 3) := by decide +kernel
theorem dX1_two_222 : decode cX1_two 222 = .ok (.invokevirtual 35, 3) := by decide +kernel
theorem dX1_two_225 : decode cX1_two 225 = .ok (.ireturn, 1) := by decide +kernel
set_option maxHeartbeats 4000000 in
set_option maxRecDepth 100000 in
theorem mt_X1_two (l : Launch) (dC : Nat → ClassId) (dI : Nat → Nat → Nat) (h0 sz : Nat) (f : Int64) (a0 : Int32) (a1 : Int64) (a2 : Int64) (a3 : Int32) : Met l yX1_two (ws_ yX1_two cX1_two 10 (some .int)) ({ frames := 3, cells := 0, slots := 0, locals := 88 } : Room) (va_Pc ([.ref h0, .int a0, .long a1, .long a2, .int a3] : List Value) (fun U => U.heap.size = sz ∧ va_P (dC, dI) vwCl [(h0, .inr (1, [.long f]))] U.heap ∧ va_K (dC, dI) vwCl [] U ∧ va_D (fun _ => True) [(h0, .inr (1, [.long f]))])) (va_Qi (fun (r : Int32) (u : Int64) => r = (g_X1_two a0 a1 a2 a3 f).1 ∧ u = (g_X1_two a0 a1 a2 a3 f).2) (Bw1 dC dI (va_A [(h0, .inr (1, [.long f]))] sz) h0) (va_A [(h0, .inr (1, [.long f]))] sz)) 0 0 (va_A [(h0, .inr (1, [.long f]))] sz) := by
  refine Met.ofW (cc := cX1_two) (maxL := 10) (ret := (some .int)) (by decide) rfl ?_
  intro p e s m args below meth c s₁ B hml hv
  obtain ⟨rfl, hsz, hP, hK, hD0⟩ := hv
  have hx := B.exec
  have hb := B.bytes
  have hr := B.returns
  have hts := atoms_spec (ws := (ws_ yX1_two cX1_two 10 (some .int))) B.pre
  have hts : ∀ w ∈ lw_all, w.before _ s = true := fun w h => hts w (List.mem_cons_of_mem _ h)
  have hown : s.vm.findClass RX1 = some m.cls := findClass_of_methodNamed B.named
  have hlocks := B.notSynchronized
  subst hsz
  have hD := hD0.self (sz := s.heap.size)
  generalize hAe : va_A [(h0, .inr (1, [.long f]))] s.heap.size = A at hD ⊢
  have hA : ∀ q : Nat, s.heap.size ≤ q → A q := fun q h => by rw [← hAe]; exact Or.inr h
  have hS : va_S A s.heap s.heap [] := va_S.rf
  have hP : va_P (dC, dI) vwCl [(h0, .inr (1, [.long f]))] s.heap := hP
  obtain ⟨R, hR⟩ : ∃ R, R = g_X1_two a0 a1 a2 a3 f := ⟨_, rfl⟩
  rw [← hR]
  have hl := lv_entry ([.ref h0, .int a0, .long a1, .long a2, .int a3] : List Value) (n := 10) (Nat.le_of_ble_eq_true rfl)
  rw [lg_entry_eq]
  generalize (lg_sl ([.ref h0, .int a0, .long a1, .long a2, .int a3] : List Value) ++ List.replicate (10 - (lg_sl ([.ref h0, .int a0, .long a1, .long a2, .int a3] : List Value)).length) Slot.unset).toArray = ls at hl ⊢
  have hl : lv_has ls 10 [(0, .ref h0), (1, .int a0), (2, .long a1), (4, .long a2), (6, .int a3)] := hl
  have B214 : ∀ (v8 : Int64) (ls : Array Slot), lv_has ls 10 [(0, .ref h0), (6, .int a3), (8, .long v8)] → R = g_X1_two_214 a0 a1 a2 a3 f v8 → W p l e (headSpec (ws_ yX1_two cX1_two 10 (some .int)) ({ frames := 3, cells := 0, slots := 0, locals := 88 } : Room)).room s m ([.ref h0, .int a0, .long a1, .long a2, .int a3] : List Value).toArray below meth c s.heap [] 0 0 (MQ below (va_Qi (fun (r : Int32) (u : Int64) => r = R.1 ∧ u = R.2) (Bw1 dC dI A h0) A) ([.ref h0, .int a0, .long a1, .long a2, .int a3] : List Value).toArray s 0 0 A) (F0 m 214 ls []) := by
    intro v8 ls hl hR
    unfold g_X1_two_214 at hR
    refine lv_aload_n hx hb dX1_two_214 rfl (lv_at hl 0 rfl) ?_
    refine lv_lload hx hb dX1_two_215 (lv_at hl 2 rfl) ?_
    refine lv_iload hx hb dX1_two_217 (lv_at hl 1 rfl) ?_
    refine jw_callJ (W.runS (As := [.long v8, .int a3]) (rest := [.ref h0]) ⟨hx, hb, hml, hown, hts⟩ (mt_X1_signed l v8 a3) (va_cwS 2 hts (lw_S q144 q145 q5 q146) rfl rfl rfl (by decide +kernel) ⟨Nat.le_of_ble_eq_true rfl, Nat.le_of_ble_eq_true rfl⟩) preEq rfl rfl hl.1 rfl (lv_room (Nat.le_of_ble_eq_true rfl)) dX1_two_219 ⟨Nat.le_of_ble_eq_true rfl, Nat.le_of_ble_eq_true rfl⟩) ?_
    have hFc := va_free (wc := [(h0, .inr (1, [.long f]))]) hD hS hA [0] rfl
    refine va_calli (va_runV (As := [.long (g_X1_signed v8 a3)]) (rest := []) ⟨hx, hb, hml, hown, hts⟩ (mt_X1_told l dC dI h0 s.heap.size f (g_X1_signed v8 a3)) (cwV 1 hts (lw_V q147 q149 qs0 q5 q150) rfl rfl rfl (by decide +kernel) ⟨Nat.le_of_ble_eq_true rfl, Nat.le_of_ble_eq_true rfl⟩) ⟨fun a U g mk q => by obtain ⟨q0, q1, qP, qK, qD⟩ := q; exact ⟨q0, q1, qP, va_K.moved (u := U) (U := U.calling g mk a) (Vm.Alike.refl U.vm) qK, qD⟩, va_recv hK hP (ci := 1) (q0 := 0) rfl rfl, fun U hU hW => ⟨rfl, by rw [hU], by rw [hU]; exact hP, va_K.moved hW.alike hK, hD.weaken (fun _ _ _ _ => trivial)⟩⟩ rfl rfl hl.1 rfl (lv_room (Nat.le_of_ble_eq_true rfl)) dX1_two_222 ⟨Nat.le_of_ble_eq_true rfl, Nat.le_of_ble_eq_true rfl⟩) hS (fun q _ h => hFc q h) hFc (fun r u t H1 locs ht hvm hw hB hz1 hk1 hS => ?_)
    obtain ⟨hP1, hK1, hD1⟩ := hB
    rw [ht] at hP1
    have hK1 := va_K.moved hvm.symm hK1
    exact W.iret (v := r) hx hb hr (fun t ht hW => ⟨⟨r, u, rfl, ⟨by rw [hR]; exact hw.1, by rw [hR]; exact hw.2⟩, by rw [ht]; exact hP1, va_K.moved hW.alike hK1, hD1.weaken (fun _ q _ h => hFc q.1 h)⟩, hS.F ht⟩) hS.2.2 dX1_two_225
  have B207 : ∀ (s0 : Int32) (s1 : Int64) (ls : Array Slot), lv_has ls 10 [(0, .ref h0), (6, .int a3)] → R = g_X1_two_207 a0 a1 a2 a3 f s0 s1 → W p l e (headSpec (ws_ yX1_two cX1_two 10 (some .int)) ({ frames := 3, cells := 0, slots := 0, locals := 88 } : Room)).room s m ([.ref h0, .int a0, .long a1, .long a2, .int a3] : List Value).toArray below meth c s.heap [] 0 0 (MQ below (va_Qi (fun (r : Int32) (u : Int64) => r = R.1 ∧ u = R.2) (Bw1 dC dI A h0) A) ([.ref h0, .int a0, .long a1, .long a2, .int a3] : List Value).toArray s 0 0 A) (F0 m 207 ls [.int s0, .long s1]) := by
    intro s0 s1 ls hl hR
    unfold g_X1_two_207 at hR
    refine lv_iload hx hb dX1_two_207 (lv_at hl 1 rfl) ?_
    refine jw_callJ (W.runS (As := [.long s1, .int s0, .int a3]) (rest := []) ⟨hx, hb, hml, hown, hts⟩ (mt_X1_turned l s1 s0 a3) (va_cwS 3 hts (lw_S q168 q169 q5 q170) rfl rfl rfl (by decide +kernel) ⟨Nat.le_of_ble_eq_true rfl, Nat.le_of_ble_eq_true rfl⟩) preEq rfl rfl hl.1 rfl (lv_room (Nat.le_of_ble_eq_true rfl)) dX1_two_209 ⟨Nat.le_of_ble_eq_true rfl, Nat.le_of_ble_eq_true rfl⟩) ?_
    refine lv_lstore (lv' := [(8, .long (g_X1_turned s1 s0 a3)), (0, .ref h0), (6, .int a3)]) hx hb dX1_two_212 hl (by decide) rfl (fun ls hl => ?_)
    exact B214 (g_X1_turned s1 s0 a3) ls (lv_sub hl [1, 2, 0] rfl) hR
  have B190 : ∀ (v7 : Int32) (ls : Array Slot), lv_has ls 10 [(0, .ref h0), (1, .int a0), (2, .long a1), (6, .int a3), (7, .int v7)] → R = g_X1_two_190 a0 a1 a2 a3 f v7 → W p l e (headSpec (ws_ yX1_two cX1_two 10 (some .int)) ({ frames := 3, cells := 0, slots := 0, locals := 88 } : Room)).room s m ([.ref h0, .int a0, .long a1, .long a2, .int a3] : List Value).toArray below meth c s.heap [] 0 0 (MQ below (va_Qi (fun (r : Int32) (u : Int64) => r = R.1 ∧ u = R.2) (Bw1 dC dI A h0) A) ([.ref h0, .int a0, .long a1, .long a2, .int a3] : List Value).toArray s 0 0 A) (F0 m 190 ls []) := by
    intro v7 ls hl hR
    unfold g_X1_two_190 at hR
    refine lv_lload_n hx hb dX1_two_190 rfl (lv_at hl 2 rfl) ?_
    refine lv_iload_n hx hb dX1_two_191 rfl (lv_at hl 1 rfl) ?_
    refine lv_bipush (v := 13) hx hb dX1_two_192 (by decide) ?_
    refine lv_icmp_ne (tgt := 202) hx hb dX1_two_194 (by decide) (fun hc194 => ?_) (fun hc194 => ?_)
    · have hR := hR.trans (if_neg hc194)
      refine lv_iload hx hb dX1_two_202 (lv_at hl 3 rfl) ?_
      refine lv_iload hx hb dX1_two_204 (lv_at hl 4 rfl) ?_
      refine lv_isub hx hb dX1_two_206 ?_
      exact B207 (a3 - v7) a1 ls (lv_sub hl [0, 3] rfl) hR
    · have hR := hR.trans (if_pos hc194)
      refine lv_iload hx hb dX1_two_197 (lv_at hl 4 rfl) ?_
      refine lv_goto (tgt := 207) hx hb dX1_two_199 (by decide) ?_
      exact B207 v7 a1 ls (lv_sub hl [0, 3] rfl) hR
  have B22 : ∀  (ls : Array Slot), lv_has ls 10 [(0, .ref h0), (1, .int a0), (2, .long a1), (4, .long a2), (6, .int a3)] → R = g_X1_two_22 a0 a1 a2 a3 f  → W p l e (headSpec (ws_ yX1_two cX1_two 10 (some .int)) ({ frames := 3, cells := 0, slots := 0, locals := 88 } : Room)).room s m ([.ref h0, .int a0, .long a1, .long a2, .int a3] : List Value).toArray below meth c s.heap [] 0 0 (MQ below (va_Qi (fun (r : Int32) (u : Int64) => r = R.1 ∧ u = R.2) (Bw1 dC dI A h0) A) ([.ref h0, .int a0, .long a1, .long a2, .int a3] : List Value).toArray s 0 0 A) (F0 m 22 ls []) := by
    intro  ls hl hR
    unfold g_X1_two_22 at hR
    refine lv_lload hx hb dX1_two_22 (lv_at hl 3 rfl) ?_
    refine lv_iload hx hb dX1_two_24 (lv_at hl 4 rfl) ?_
    refine lv_iconst (v := 1) hx hb dX1_two_26 (by decide) ?_
    refine lv_isub hx hb dX1_two_27 ?_
    refine lv_i2l (v := (a3 - 1).toInt64) hx hb dX1_two_28 rfl ?_
    refine lv_land hx hb dX1_two_29 ?_
    refine lv_l2i (v := (a2 &&& ((a3 - 1).toInt64)).toInt32) hx hb dX1_two_30 rfl ?_
    refine lv_istore (lv' := [(7, .int ((a2 &&& ((a3 - 1).toInt64)).toInt32)), (0, .ref h0), (1, .int a0), (2, .long a1), (4, .long a2), (6, .int a3)]) hx hb dX1_two_31 hl (by decide) rfl (fun ls hl => ?_)
    refine lv_iload_n hx hb dX1_two_33 rfl (lv_at hl 2 rfl) ?_
    by_cases hk0 : a0 = 0
    · have hR := hR.trans (if_pos hk0)
      refine lv_tableIn (off := 66) (tgt := 100) hx hb dX1_two_34 (by rw [hk0]; decide) (by rw [hk0]; decide) (by rw [hk0]; rfl) (by decide) ?_
      refine lv_lload_n hx hb dX1_two_100 rfl (lv_at hl 3 rfl) ?_
      refine lv_lload hx hb dX1_two_101 (lv_at hl 4 rfl) ?_
      refine lv_ladd hx hb dX1_two_103 ?_
      refine lv_lstore (lv' := [(8, .long (a1 + a2)), (7, .int ((a2 &&& ((a3 - 1).toInt64)).toInt32)), (0, .ref h0), (1, .int a0), (2, .long a1), (4, .long a2), (6, .int a3)]) hx hb dX1_two_104 hl (by decide) rfl (fun ls hl => ?_)
      refine lv_goto (tgt := 214) hx hb dX1_two_106 (by decide) ?_
      exact B214 (a1 + a2) ls (lv_sub hl [2, 6, 0] rfl) hR
    have hR := hR.trans (if_neg hk0)
    by_cases hk1 : a0 = 1
    · have hR := hR.trans (if_pos hk1)
      refine lv_tableIn (off := 75) (tgt := 109) hx hb dX1_two_34 (by rw [hk1]; decide) (by rw [hk1]; decide) (by rw [hk1]; rfl) (by decide) ?_
      refine lv_lload_n hx hb dX1_two_109 rfl (lv_at hl 3 rfl) ?_
      refine lv_lload hx hb dX1_two_110 (lv_at hl 4 rfl) ?_
      refine lv_lsub hx hb dX1_two_112 ?_
      refine lv_lstore (lv' := [(8, .long (a1 - a2)), (7, .int ((a2 &&& ((a3 - 1).toInt64)).toInt32)), (0, .ref h0), (1, .int a0), (2, .long a1), (4, .long a2), (6, .int a3)]) hx hb dX1_two_113 hl (by decide) rfl (fun ls hl => ?_)
      refine lv_goto (tgt := 214) hx hb dX1_two_115 (by decide) ?_
      exact B214 (a1 - a2) ls (lv_sub hl [2, 6, 0] rfl) hR
    have hR := hR.trans (if_neg hk1)
    by_cases hk2 : a0 = 2
    · have hR := hR.trans (if_pos hk2)
      refine lv_tableIn (off := 84) (tgt := 118) hx hb dX1_two_34 (by rw [hk2]; decide) (by rw [hk2]; decide) (by rw [hk2]; rfl) (by decide) ?_
      refine lv_lload_n hx hb dX1_two_118 rfl (lv_at hl 3 rfl) ?_
      refine lv_lload hx hb dX1_two_119 (lv_at hl 4 rfl) ?_
      refine lv_iload hx hb dX1_two_121 (lv_at hl 5 rfl) ?_
      refine jw_callJ (W.runS (As := [.long a1, .long a2, .int a3]) (rest := []) ⟨hx, hb, hml, hown, hts⟩ (mt_X1_product l a1 a2 a3) (va_cwS 3 hts (lw_S q165 q166 q5 q167) rfl rfl rfl (by decide +kernel) ⟨Nat.le_of_ble_eq_true rfl, Nat.le_of_ble_eq_true rfl⟩) preEq rfl rfl hl.1 rfl (lv_room (Nat.le_of_ble_eq_true rfl)) dX1_two_123 ⟨Nat.le_of_ble_eq_true rfl, Nat.le_of_ble_eq_true rfl⟩) ?_
      refine lv_lstore (lv' := [(8, .long (g_X1_product a1 a2 a3)), (7, .int ((a2 &&& ((a3 - 1).toInt64)).toInt32)), (0, .ref h0), (1, .int a0), (2, .long a1), (4, .long a2), (6, .int a3)]) hx hb dX1_two_126 hl (by decide) rfl (fun ls hl => ?_)
      refine lv_goto (tgt := 214) hx hb dX1_two_128 (by decide) ?_
      exact B214 (g_X1_product a1 a2 a3) ls (lv_sub hl [2, 6, 0] rfl) hR
    have hR := hR.trans (if_neg hk2)
    by_cases hk3 : a0 = 3
    · have hR := hR.trans (if_pos hk3)
      refine lv_tableIn (off := 156) (tgt := 190) hx hb dX1_two_34 (by rw [hk3]; decide) (by rw [hk3]; decide) (by rw [hk3]; rfl) (by decide) ?_
      exact B190 ((a2 &&& ((a3 - 1).toInt64)).toInt32) ls (lv_sub hl [1, 2, 3, 5, 0] rfl) hR
    have hR := hR.trans (if_neg hk3)
    by_cases hk4 : a0 = 4
    · have hR := hR.trans (if_pos hk4)
      refine lv_tableIn (off := 156) (tgt := 190) hx hb dX1_two_34 (by rw [hk4]; decide) (by rw [hk4]; decide) (by rw [hk4]; rfl) (by decide) ?_
      exact B190 ((a2 &&& ((a3 - 1).toInt64)).toInt32) ls (lv_sub hl [1, 2, 3, 5, 0] rfl) hR
    have hR := hR.trans (if_neg hk4)
    by_cases hk5 : a0 = 5
    · have hR := hR.trans (if_pos hk5)
      refine lv_tableIn (off := 156) (tgt := 190) hx hb dX1_two_34 (by rw [hk5]; decide) (by rw [hk5]; decide) (by rw [hk5]; rfl) (by decide) ?_
      exact B190 ((a2 &&& ((a3 - 1).toInt64)).toInt32) ls (lv_sub hl [1, 2, 3, 5, 0] rfl) hR
    have hR := hR.trans (if_neg hk5)
    by_cases hk6 : a0 = 6
    · have hR := hR.trans (if_pos hk6)
      refine lv_tableIn (off := 156) (tgt := 190) hx hb dX1_two_34 (by rw [hk6]; decide) (by rw [hk6]; decide) (by rw [hk6]; rfl) (by decide) ?_
      exact B190 ((a2 &&& ((a3 - 1).toInt64)).toInt32) ls (lv_sub hl [1, 2, 3, 5, 0] rfl) hR
    have hR := hR.trans (if_neg hk6)
    by_cases hk7 : a0 = 7
    · have hR := hR.trans (if_pos hk7)
      refine lv_tableIn (off := 97) (tgt := 131) hx hb dX1_two_34 (by rw [hk7]; decide) (by rw [hk7]; decide) (by rw [hk7]; rfl) (by decide) ?_
      refine lv_lload_n hx hb dX1_two_131 rfl (lv_at hl 3 rfl) ?_
      refine lv_lload hx hb dX1_two_132 (lv_at hl 4 rfl) ?_
      refine lv_land hx hb dX1_two_134 ?_
      refine lv_lstore (lv' := [(8, .long (a1 &&& a2)), (7, .int ((a2 &&& ((a3 - 1).toInt64)).toInt32)), (0, .ref h0), (1, .int a0), (2, .long a1), (4, .long a2), (6, .int a3)]) hx hb dX1_two_135 hl (by decide) rfl (fun ls hl => ?_)
      refine lv_goto (tgt := 214) hx hb dX1_two_137 (by decide) ?_
      exact B214 (a1 &&& a2) ls (lv_sub hl [2, 6, 0] rfl) hR
    have hR := hR.trans (if_neg hk7)
    by_cases hk8 : a0 = 8
    · have hR := hR.trans (if_pos hk8)
      refine lv_tableIn (off := 106) (tgt := 140) hx hb dX1_two_34 (by rw [hk8]; decide) (by rw [hk8]; decide) (by rw [hk8]; rfl) (by decide) ?_
      refine lv_lload_n hx hb dX1_two_140 rfl (lv_at hl 3 rfl) ?_
      refine lv_lload hx hb dX1_two_141 (lv_at hl 4 rfl) ?_
      refine lv_lor hx hb dX1_two_143 ?_
      refine lv_lstore (lv' := [(8, .long (a1 ||| a2)), (7, .int ((a2 &&& ((a3 - 1).toInt64)).toInt32)), (0, .ref h0), (1, .int a0), (2, .long a1), (4, .long a2), (6, .int a3)]) hx hb dX1_two_144 hl (by decide) rfl (fun ls hl => ?_)
      refine lv_goto (tgt := 214) hx hb dX1_two_146 (by decide) ?_
      exact B214 (a1 ||| a2) ls (lv_sub hl [2, 6, 0] rfl) hR
    have hR := hR.trans (if_neg hk8)
    by_cases hk9 : a0 = 9
    · have hR := hR.trans (if_pos hk9)
      refine lv_tableIn (off := 115) (tgt := 149) hx hb dX1_two_34 (by rw [hk9]; decide) (by rw [hk9]; decide) (by rw [hk9]; rfl) (by decide) ?_
      refine lv_lload_n hx hb dX1_two_149 rfl (lv_at hl 3 rfl) ?_
      refine lv_lload hx hb dX1_two_150 (lv_at hl 4 rfl) ?_
      refine lv_lxor hx hb dX1_two_152 ?_
      refine lv_lstore (lv' := [(8, .long (a1 ^^^ a2)), (7, .int ((a2 &&& ((a3 - 1).toInt64)).toInt32)), (0, .ref h0), (1, .int a0), (2, .long a1), (4, .long a2), (6, .int a3)]) hx hb dX1_two_153 hl (by decide) rfl (fun ls hl => ?_)
      refine lv_goto (tgt := 214) hx hb dX1_two_155 (by decide) ?_
      exact B214 (a1 ^^^ a2) ls (lv_sub hl [2, 6, 0] rfl) hR
    have hR := hR.trans (if_neg hk9)
    by_cases hk10 : a0 = 10
    · have hR := hR.trans (if_pos hk10)
      refine lv_tableIn (off := 124) (tgt := 158) hx hb dX1_two_34 (by rw [hk10]; decide) (by rw [hk10]; decide) (by rw [hk10]; rfl) (by decide) ?_
      refine lv_lload_n hx hb dX1_two_158 rfl (lv_at hl 3 rfl) ?_
      refine lv_iload hx hb dX1_two_159 (lv_at hl 0 rfl) ?_
      refine lv_lshl (v := (j_lshl a1 ((a2 &&& ((a3 - 1).toInt64)).toInt32))) hx hb dX1_two_161 rfl ?_
      refine lv_lstore (lv' := [(8, .long (j_lshl a1 ((a2 &&& ((a3 - 1).toInt64)).toInt32))), (7, .int ((a2 &&& ((a3 - 1).toInt64)).toInt32)), (0, .ref h0), (1, .int a0), (2, .long a1), (4, .long a2), (6, .int a3)]) hx hb dX1_two_162 hl (by decide) rfl (fun ls hl => ?_)
      refine lv_goto (tgt := 214) hx hb dX1_two_164 (by decide) ?_
      exact B214 (j_lshl a1 ((a2 &&& ((a3 - 1).toInt64)).toInt32)) ls (lv_sub hl [2, 6, 0] rfl) hR
    have hR := hR.trans (if_neg hk10)
    by_cases hk11 : a0 = 11
    · have hR := hR.trans (if_pos hk11)
      refine lv_tableIn (off := 133) (tgt := 167) hx hb dX1_two_34 (by rw [hk11]; decide) (by rw [hk11]; decide) (by rw [hk11]; rfl) (by decide) ?_
      refine lv_lload_n hx hb dX1_two_167 rfl (lv_at hl 3 rfl) ?_
      refine lv_iload hx hb dX1_two_168 (lv_at hl 5 rfl) ?_
      refine jw_callJ (W.runS (As := [.long a1, .int a3]) (rest := []) ⟨hx, hb, hml, hown, hts⟩ (mt_X1_signed l a1 a3) (va_cwS 2 hts (lw_S q144 q145 q5 q146) rfl rfl rfl (by decide +kernel) ⟨Nat.le_of_ble_eq_true rfl, Nat.le_of_ble_eq_true rfl⟩) preEq rfl rfl hl.1 rfl (lv_room (Nat.le_of_ble_eq_true rfl)) dX1_two_170 ⟨Nat.le_of_ble_eq_true rfl, Nat.le_of_ble_eq_true rfl⟩) ?_
      refine lv_iload hx hb dX1_two_173 (lv_at hl 0 rfl) ?_
      refine lv_lshr (v := (j_lshr (g_X1_signed a1 a3) ((a2 &&& ((a3 - 1).toInt64)).toInt32))) hx hb dX1_two_175 rfl ?_
      refine lv_lstore (lv' := [(8, .long (j_lshr (g_X1_signed a1 a3) ((a2 &&& ((a3 - 1).toInt64)).toInt32))), (7, .int ((a2 &&& ((a3 - 1).toInt64)).toInt32)), (0, .ref h0), (1, .int a0), (2, .long a1), (4, .long a2), (6, .int a3)]) hx hb dX1_two_176 hl (by decide) rfl (fun ls hl => ?_)
      refine lv_goto (tgt := 214) hx hb dX1_two_178 (by decide) ?_
      exact B214 (j_lshr (g_X1_signed a1 a3) ((a2 &&& ((a3 - 1).toInt64)).toInt32)) ls (lv_sub hl [2, 6, 0] rfl) hR
    have hR := hR.trans (if_neg hk11)
    by_cases hk12 : a0 = 12
    · have hR := hR.trans (if_pos hk12)
      refine lv_tableIn (off := 147) (tgt := 181) hx hb dX1_two_34 (by rw [hk12]; decide) (by rw [hk12]; decide) (by rw [hk12]; rfl) (by decide) ?_
      refine lv_lload_n hx hb dX1_two_181 rfl (lv_at hl 3 rfl) ?_
      refine lv_iload hx hb dX1_two_182 (lv_at hl 0 rfl) ?_
      refine lv_lushr (v := (j_lushr a1 ((a2 &&& ((a3 - 1).toInt64)).toInt32))) hx hb dX1_two_184 rfl ?_
      refine lv_lstore (lv' := [(8, .long (j_lushr a1 ((a2 &&& ((a3 - 1).toInt64)).toInt32))), (7, .int ((a2 &&& ((a3 - 1).toInt64)).toInt32)), (0, .ref h0), (1, .int a0), (2, .long a1), (4, .long a2), (6, .int a3)]) hx hb dX1_two_185 hl (by decide) rfl (fun ls hl => ?_)
      refine lv_goto (tgt := 214) hx hb dX1_two_187 (by decide) ?_
      exact B214 (j_lushr a1 ((a2 &&& ((a3 - 1).toInt64)).toInt32)) ls (lv_sub hl [2, 6, 0] rfl) hR
    have hR := hR.trans (if_neg hk12)
    refine lv_tableOut (tgt := 190) hx hb dX1_two_34 (by have e0 := lv_neT (a := 0) hk0 (by decide); have e1 := lv_neT (a := 1) hk1 (by decide); have e2 := lv_neT (a := 2) hk2 (by decide); have e3 := lv_neT (a := 3) hk3 (by decide); have e4 := lv_neT (a := 4) hk4 (by decide); have e5 := lv_neT (a := 5) hk5 (by decide); have e6 := lv_neT (a := 6) hk6 (by decide); have e7 := lv_neT (a := 7) hk7 (by decide); have e8 := lv_neT (a := 8) hk8 (by decide); have e9 := lv_neT (a := 9) hk9 (by decide); have e10 := lv_neT (a := 10) hk10 (by decide); have e11 := lv_neT (a := 11) hk11 (by decide); have e12 := lv_neT (a := 12) hk12 (by decide); omega) (by decide) ?_
    exact B190 ((a2 &&& ((a3 - 1).toInt64)).toInt32) ls (lv_sub hl [1, 2, 3, 5, 0] rfl) hR
  unfold g_X1_two at hR
  refine lv_iload_n hx hb dX1_two_0 rfl (lv_at hl 1 rfl) ?_
  refine lv_iconst (v := 3) hx hb dX1_two_1 (by decide) ?_
  refine lv_icmp_lt (tgt := 22) hx hb dX1_two_2 (by decide) (fun hc2 => ?_) (fun hc2 => ?_)
  · have hR := hR.trans (if_pos hc2)
    exact B22  ls (lv_sub hl [0, 1, 2, 3, 4] rfl) hR
  · have hR := hR.trans (if_neg hc2)
    refine lv_iload_n hx hb dX1_two_5 rfl (lv_at hl 1 rfl) ?_
    refine lv_bipush (v := 6) hx hb dX1_two_6 (by decide) ?_
    refine lv_icmp_gt (tgt := 22) hx hb dX1_two_8 (by decide) (fun hc8 => ?_) (fun hc8 => ?_)
    · have hR := hR.trans (if_pos hc8)
      exact B22  ls (lv_sub hl [0, 1, 2, 3, 4] rfl) hR
    · have hR := hR.trans (if_neg hc8)
      refine lv_aload_n hx hb dX1_two_11 rfl (lv_at hl 0 rfl) ?_
      refine lv_iload_n hx hb dX1_two_12 rfl (lv_at hl 1 rfl) ?_
      refine lv_lload_n hx hb dX1_two_13 rfl (lv_at hl 2 rfl) ?_
      refine lv_lload hx hb dX1_two_14 (lv_at hl 3 rfl) ?_
      refine lv_iload hx hb dX1_two_16 (lv_at hl 4 rfl) ?_
      have hFc := va_free (wc := [(h0, .inr (1, [.long f]))]) hD hS hA [0] rfl
      refine va_calli (va_runV (As := [.int a0, .long a1, .long a2, .int a3]) (rest := []) ⟨hx, hb, hml, hown, hts⟩ (mt_X1_divided l dC dI h0 s.heap.size f a0 a1 a2 a3) (cwV 4 hts (lw_V q161 q163 qs2 q5 q164) rfl rfl rfl (by decide +kernel) ⟨Nat.le_of_ble_eq_true rfl, Nat.le_of_ble_eq_true rfl⟩) ⟨fun a U g mk q => by obtain ⟨q0, q1, qP, qK, qD⟩ := q; exact ⟨q0, q1, qP, va_K.moved (u := U) (U := U.calling g mk a) (Vm.Alike.refl U.vm) qK, qD⟩, va_recv hK hP (ci := 1) (q0 := 0) rfl rfl, fun U hU hW => ⟨rfl, by rw [hU], by rw [hU]; exact hP, va_K.moved hW.alike hK, hD.weaken (fun _ _ _ _ => trivial)⟩⟩ rfl rfl hl.1 rfl (lv_room (Nat.le_of_ble_eq_true rfl)) dX1_two_18 ⟨Nat.le_of_ble_eq_true rfl, Nat.le_of_ble_eq_true rfl⟩) hS (fun q _ h => hFc q h) hFc (fun r u t H1 locs ht hvm hw hB hz1 hk1 hS => ?_)
      obtain ⟨hP1, hK1, hD1⟩ := hB
      rw [ht] at hP1
      have hK1 := va_K.moved hvm.symm hK1
      exact W.iret (v := r) hx hb hr (fun t ht hW => ⟨⟨r, u, rfl, ⟨by rw [hR]; exact hw.1, by rw [hR]; exact hw.2⟩, by rw [ht]; exact hP1, va_K.moved hW.alike hK1, hD1.weaken (fun _ q _ h => hFc q.1 h)⟩, hS.F ht⟩) hS.2.2 dX1_two_21
abbrev cX1_work : ByteArray := prog_4_method_12_code
def yX1_work : MethodName := ⟨RX1, "work", "(IJJ)I"⟩
theorem dX1_work_0 : decode cX1_work 0 = .ok (.aload_n 0, 1) := by decide +kernel
theorem dX1_work_1 : decode cX1_work 1 = .ok (.iload_n 1, 1) := by decide +kernel
theorem dX1_work_2 : decode cX1_work 2 = .ok (.invokevirtual 27, 3) := by decide +kernel
theorem dX1_work_5 : decode cX1_work 5 = .ok (.istore 6, 2) := by decide +kernel
theorem dX1_work_7 : decode cX1_work 7 = .ok (.iload 6, 2) := by decide +kernel
theorem dX1_work_9 : decode cX1_work 9 = .ok (.ifCond .ne 5, 3) := by decide +kernel
theorem dX1_work_12 : decode cX1_work 12 = .ok (.iconst (-1), 1) := by decide +kernel
theorem dX1_work_13 : decode cX1_work 13 = .ok (.ireturn, 1) := by decide +kernel
theorem dX1_work_14 : decode cX1_work 14 = .ok (.iload_n 1, 1) := by decide +kernel
theorem dX1_work_15 : decode cX1_work 15 = .ok (.invokestatic 7, 3) := by decide +kernel
theorem dX1_work_18 : decode cX1_work 18 = .ok (.ifCond .eq 8, 3) := by decide +kernel
theorem dX1_work_21 : decode cX1_work 21 = .ok (.bipush 64, 2) := by decide +kernel
theorem dX1_work_23 : decode cX1_work 23 = .ok (.goto 5, 3) := by decide +kernel
theorem dX1_work_26 : decode cX1_work 26 = .ok (.bipush 32, 2) := by decide +kernel
theorem dX1_work_28 : decode cX1_work 28 = .ok (.istore 7, 2) := by decide +kernel
theorem dX1_work_30 : decode cX1_work 30 = .ok (.lload_n 2, 1) := by decide +kernel
theorem dX1_work_31 : decode cX1_work 31 = .ok (.iload 7, 2) := by decide +kernel
theorem dX1_work_33 : decode cX1_work 33 = .ok (.invokestatic 23, 3) := by decide +kernel
theorem dX1_work_36 : decode cX1_work 36 = .ok (.lstore 8, 2) := by decide +kernel
theorem dX1_work_38 : decode cX1_work 38 = .ok (.lload 4, 2) := by decide +kernel
theorem dX1_work_40 : decode cX1_work 40 = .ok (.iload 7, 2) := by decide +kernel
theorem dX1_work_42 : decode cX1_work 42 = .ok (.invokestatic 23, 3) := by decide +kernel
theorem dX1_work_45 : decode cX1_work 45 = .ok (.lstore 10, 2) := by decide +kernel
theorem dX1_work_47 : decode cX1_work 47 = .ok (.iload 6, 2) := by decide +kernel
theorem dX1_work_49 : decode cX1_work 49 = .ok (.iconst 1, 1) := by decide +kernel
theorem dX1_work_50 : decode cX1_work 50 = .ok (.if_icmp .ne 16, 3) := by decide +kernel
theorem dX1_work_53 : decode cX1_work 53 = .ok (.aload_n 0, 1) := by decide +kernel
theorem dX1_work_54 : decode cX1_work 54 = .ok (.iload_n 1, 1) := by decide +kernel
theorem dX1_work_55 : decode cX1_work 55 = .ok (.lload 8, 2) := by decide +kernel
theorem dX1_work_57 : decode cX1_work 57 = .ok (.iload 7, 2) := by decide +kernel
theorem dX1_work_59 : decode cX1_work 59 = .ok (.invokestatic 31, 3) := by decide +kernel
theorem dX1_work_62 : decode cX1_work 62 = .ok (.invokevirtual 35, 3) := by decide +kernel
theorem dX1_work_65 : decode cX1_work 65 = .ok (.ireturn, 1) := by decide +kernel
theorem dX1_work_66 : decode cX1_work 66 = .ok (.iload_n 1, 1) := by decide +kernel
theorem dX1_work_67 : decode cX1_work 67 = .ok (.bipush 100, 2) := by decide +kernel
theorem dX1_work_69 : decode cX1_work 69 = .ok (.if_icmp .ge 41, 3) := by decide +kernel
theorem dX1_work_72 : decode cX1_work 72 = .ok (.aload_n 0, 1) := by decide +kernel
theorem dX1_work_73 : decode cX1_work 73 = .ok (.iload_n 1, 1) := by decide +kernel
theorem dX1_work_74 : decode cX1_work 74 = .ok (.iload 7, 2) := by decide +kernel
theorem dX1_work_76 : decode cX1_work 76 = .ok (.bipush 64, 2) := by decide +kernel
theorem dX1_work_78 : decode cX1_work 78 = .ok (.if_icmp .ne 8, 3) := by decide +kernel
theorem dX1_work_81 : decode cX1_work 81 = .ok (.bipush 81, 2) := by decide +kernel
theorem dX1_work_83 : decode cX1_work 83 = .ok (.goto 5, 3) := by decide +kernel
theorem dX1_work_86 : decode cX1_work 86 = .ok (.bipush 70, 2) := by decide +kernel
theorem dX1_work_88 : decode cX1_work 88 = .ok (.isub, 1) := by decide +kernel
theorem dX1_work_89 : decode cX1_work 89 = .ok (.lload 8, 2) := by decide +kernel
theorem dX1_work_91 : decode cX1_work 91 = .ok (.lload 10, 2) := by decide +kernel
theorem dX1_work_93 : decode cX1_work 93 = .ok (.iload 7, 2) := by decide +kernel
theorem dX1_work_95 : decode cX1_work 95 = .ok (.invokestatic 39, 3) := by decide +kernel
theorem dX1_work_98 : decode cX1_work 98 = .ok (.ifCond .eq 7, 3) := by decide +kernel
theorem dX1_work_101 : decode cX1_work 101 = .ok (.lconst 1, 1) := by decide +kernel
theorem dX1_work_102 : decode cX1_work 102 = .ok (.goto 4, 3) := by decide +kernel
theorem dX1_work_105 : decode cX1_work 105 = .ok (.lconst 0, 1) := by decide +kernel
theorem dX1_work_106 : decode cX1_work 106 = .ok (.invokevirtual 35, 3) := by decide +kernel
theorem dX1_work_109 : decode cX1_work 109 = .ok (.ireturn, 1) := by decide +kernel
theorem dX1_work_110 : decode cX1_work 110 = .ok (.aload_n 0, 1) := by decide +kernel
theorem dX1_work_111 : decode cX1_work 111 = .ok (.iload_n 1, 1) := by decide +kernel
theorem dX1_work_112 : decode cX1_work 112 = .ok (.iload 7, 2) := by decide +kernel
theorem dX1_work_114 : decode cX1_work 114 = .ok (.bipush 64, 2) := by decide +kernel
theorem dX1_work_116 : decode cX1_work 116 = .ok (.if_icmp .ne 8, 3) := by decide +kernel
theorem dX1_work_119 : decode cX1_work 119 = .ok (.bipush 124, 2) := by decide +kernel
theorem dX1_work_121 : decode cX1_work 121 = .ok (.goto 5, 3) := by decide +kernel
theorem dX1_work_124 : decode cX1_work 124 = .ok (.bipush 106, 2) := by decide +kernel
theorem dX1_work_126 : decode cX1_work 126 = .ok (.isub, 1) := by decide +kernel
theorem dX1_work_127 : decode cX1_work 127 = .ok (.lload 8, 2) := by decide +kernel
theorem dX1_work_129 : decode cX1_work 129 = .ok (.lload 10, 2) := by decide +kernel
theorem dX1_work_131 : decode cX1_work 131 = .ok (.iload 7, 2) := by decide +kernel
theorem dX1_work_133 : decode cX1_work 133 = .ok (.invokevirtual 43, 3) := by decide +kernel
theorem dX1_work_136 : decode cX1_work 136 = .ok (.ireturn, 1) := by decide +kernel
set_option maxHeartbeats 4000000 in
set_option maxRecDepth 100000 in
theorem mt_X1_work (l : Launch) (dC : Nat → ClassId) (dI : Nat → Nat → Nat) (h0 sz : Nat) (f : Int64) (a0 : Int32) (a1 : Int64) (a2 : Int64) : Met l yX1_work (ws_ yX1_work cX1_work 12 (some .int)) ({ frames := 4, cells := 0, slots := 0, locals := 117 } : Room) (va_Pc ([.ref h0, .int a0, .long a1, .long a2] : List Value) (fun U => U.heap.size = sz ∧ va_P (dC, dI) vwCl [(h0, .inr (1, [.long f]))] U.heap ∧ va_K (dC, dI) vwCl [] U ∧ va_D (fun _ => True) [(h0, .inr (1, [.long f]))])) (va_Qi (fun (r : Int32) (u : Int64) => r = (g_X1_work a0 a1 a2 f).1 ∧ u = (g_X1_work a0 a1 a2 f).2) (Bw1 dC dI (va_A [(h0, .inr (1, [.long f]))] sz) h0) (va_A [(h0, .inr (1, [.long f]))] sz)) 0 0 (va_A [(h0, .inr (1, [.long f]))] sz) := by
  refine Met.ofW (cc := cX1_work) (maxL := 12) (ret := (some .int)) (by decide) rfl ?_
  intro p e s m args below meth c s₁ B hml hv
  obtain ⟨rfl, hsz, hP, hK, hD0⟩ := hv
  have hx := B.exec
  have hb := B.bytes
  have hr := B.returns
  have hts := atoms_spec (ws := (ws_ yX1_work cX1_work 12 (some .int))) B.pre
  have hts : ∀ w ∈ lw_all, w.before _ s = true := fun w h => hts w (List.mem_cons_of_mem _ h)
  have hown : s.vm.findClass RX1 = some m.cls := findClass_of_methodNamed B.named
  have hlocks := B.notSynchronized
  subst hsz
  have hD := hD0.self (sz := s.heap.size)
  generalize hAe : va_A [(h0, .inr (1, [.long f]))] s.heap.size = A at hD ⊢
  have hA : ∀ q : Nat, s.heap.size ≤ q → A q := fun q h => by rw [← hAe]; exact Or.inr h
  have hS : va_S A s.heap s.heap [] := va_S.rf
  have hP : va_P (dC, dI) vwCl [(h0, .inr (1, [.long f]))] s.heap := hP
  obtain ⟨R, hR⟩ : ∃ R, R = g_X1_work a0 a1 a2 f := ⟨_, rfl⟩
  rw [← hR]
  have hl := lv_entry ([.ref h0, .int a0, .long a1, .long a2] : List Value) (n := 12) (Nat.le_of_ble_eq_true rfl)
  rw [lg_entry_eq]
  generalize (lg_sl ([.ref h0, .int a0, .long a1, .long a2] : List Value) ++ List.replicate (12 - (lg_sl ([.ref h0, .int a0, .long a1, .long a2] : List Value)).length) Slot.unset).toArray = ls at hl ⊢
  have hl : lv_has ls 12 [(0, .ref h0), (1, .int a0), (2, .long a1), (4, .long a2)] := hl
  have B28 : ∀ (v6 : Int32) (s0 : Int32) (ls : Array Slot), lv_has ls 12 [(0, .ref h0), (1, .int a0), (2, .long a1), (4, .long a2), (6, .int v6)] → R = g_X1_work_28 a0 a1 a2 f v6 s0 → W p l e (headSpec (ws_ yX1_work cX1_work 12 (some .int)) ({ frames := 4, cells := 0, slots := 0, locals := 117 } : Room)).room s m ([.ref h0, .int a0, .long a1, .long a2] : List Value).toArray below meth c s.heap [] 0 0 (MQ below (va_Qi (fun (r : Int32) (u : Int64) => r = R.1 ∧ u = R.2) (Bw1 dC dI A h0) A) ([.ref h0, .int a0, .long a1, .long a2] : List Value).toArray s 0 0 A) (F0 m 28 ls [.int s0]) := by
    intro v6 s0 ls hl hR
    unfold g_X1_work_28 at hR
    refine lv_istore (lv' := [(7, .int s0), (0, .ref h0), (1, .int a0), (2, .long a1), (4, .long a2), (6, .int v6)]) hx hb dX1_work_28 hl (by decide) rfl (fun ls hl => ?_)
    refine lv_lload_n hx hb dX1_work_30 rfl (lv_at hl 3 rfl) ?_
    refine lv_iload hx hb dX1_work_31 (lv_at hl 0 rfl) ?_
    refine jw_callJ (W.runS (As := [.long a1, .int s0]) (rest := []) ⟨hx, hb, hml, hown, hts⟩ (mt_X1_cut l a1 s0) (va_cwS 2 hts (lw_S q129 q130 q5 q131) rfl rfl rfl (by decide +kernel) ⟨Nat.le_of_ble_eq_true rfl, Nat.le_of_ble_eq_true rfl⟩) preEq rfl rfl hl.1 rfl (lv_room (Nat.le_of_ble_eq_true rfl)) dX1_work_33 ⟨Nat.le_of_ble_eq_true rfl, Nat.le_of_ble_eq_true rfl⟩) ?_
    refine lv_lstore (lv' := [(8, .long (g_X1_cut a1 s0)), (7, .int s0), (0, .ref h0), (1, .int a0), (2, .long a1), (4, .long a2), (6, .int v6)]) hx hb dX1_work_36 hl (by decide) rfl (fun ls hl => ?_)
    refine lv_lload hx hb dX1_work_38 (lv_at hl 5 rfl) ?_
    refine lv_iload hx hb dX1_work_40 (lv_at hl 1 rfl) ?_
    refine jw_callJ (W.runS (As := [.long a2, .int s0]) (rest := []) ⟨hx, hb, hml, hown, hts⟩ (mt_X1_cut l a2 s0) (va_cwS 2 hts (lw_S q129 q130 q5 q131) rfl rfl rfl (by decide +kernel) ⟨Nat.le_of_ble_eq_true rfl, Nat.le_of_ble_eq_true rfl⟩) preEq rfl rfl hl.1 rfl (lv_room (Nat.le_of_ble_eq_true rfl)) dX1_work_42 ⟨Nat.le_of_ble_eq_true rfl, Nat.le_of_ble_eq_true rfl⟩) ?_
    refine lv_lstore (lv' := [(10, .long (g_X1_cut a2 s0)), (8, .long (g_X1_cut a1 s0)), (7, .int s0), (0, .ref h0), (1, .int a0), (2, .long a1), (4, .long a2), (6, .int v6)]) hx hb dX1_work_45 hl (by decide) rfl (fun ls hl => ?_)
    refine lv_iload hx hb dX1_work_47 (lv_at hl 7 rfl) ?_
    refine lv_iconst (v := 1) hx hb dX1_work_49 (by decide) ?_
    refine lv_icmp_ne (tgt := 66) hx hb dX1_work_50 (by decide) (fun hc50 => ?_) (fun hc50 => ?_)
    · have hR := hR.trans (if_neg hc50)
      refine lv_iload_n hx hb dX1_work_66 rfl (lv_at hl 4 rfl) ?_
      refine lv_bipush (v := 100) hx hb dX1_work_67 (by decide) ?_
      refine lv_icmp_ge (tgt := 110) hx hb dX1_work_69 (by decide) (fun hc69 => ?_) (fun hc69 => ?_)
      · have hR := hR.trans (if_pos hc69)
        refine lv_aload_n hx hb dX1_work_110 rfl (lv_at hl 3 rfl) ?_
        refine lv_iload_n hx hb dX1_work_111 rfl (lv_at hl 4 rfl) ?_
        refine lv_iload hx hb dX1_work_112 (lv_at hl 2 rfl) ?_
        refine lv_bipush (v := 64) hx hb dX1_work_114 (by decide) ?_
        refine lv_icmp_ne (tgt := 124) hx hb dX1_work_116 (by decide) (fun hc116 => ?_) (fun hc116 => ?_)
        · have hR := hR.trans (if_neg hc116)
          refine lv_bipush (v := 106) hx hb dX1_work_124 (by decide) ?_
          refine lv_isub hx hb dX1_work_126 ?_
          refine lv_lload hx hb dX1_work_127 (lv_at hl 1 rfl) ?_
          refine lv_lload hx hb dX1_work_129 (lv_at hl 0 rfl) ?_
          refine lv_iload hx hb dX1_work_131 (lv_at hl 2 rfl) ?_
          have hFc := va_free (wc := [(h0, .inr (1, [.long f]))]) hD hS hA [0] rfl
          refine va_calli (va_runV (As := [.int (a0 - 106), .long (g_X1_cut a1 s0), .long (g_X1_cut a2 s0), .int s0]) (rest := []) ⟨hx, hb, hml, hown, hts⟩ (mt_X1_two l dC dI h0 s.heap.size f (a0 - 106) (g_X1_cut a1 s0) (g_X1_cut a2 s0) s0) (cwV 4 hts (lw_V q157 q159 qs1 q5 q160) rfl rfl rfl (by decide +kernel) ⟨Nat.le_of_ble_eq_true rfl, Nat.le_of_ble_eq_true rfl⟩) ⟨fun a U g mk q => by obtain ⟨q0, q1, qP, qK, qD⟩ := q; exact ⟨q0, q1, qP, va_K.moved (u := U) (U := U.calling g mk a) (Vm.Alike.refl U.vm) qK, qD⟩, va_recv hK hP (ci := 1) (q0 := 0) rfl rfl, fun U hU hW => ⟨rfl, by rw [hU], by rw [hU]; exact hP, va_K.moved hW.alike hK, hD.weaken (fun _ _ _ _ => trivial)⟩⟩ rfl rfl hl.1 rfl (lv_room (Nat.le_of_ble_eq_true rfl)) dX1_work_133 ⟨Nat.le_of_ble_eq_true rfl, Nat.le_of_ble_eq_true rfl⟩) hS (fun q _ h => hFc q h) hFc (fun r u t H1 locs ht hvm hw hB hz1 hk1 hS => ?_)
          obtain ⟨hP1, hK1, hD1⟩ := hB
          rw [ht] at hP1
          have hK1 := va_K.moved hvm.symm hK1
          exact W.iret (v := r) hx hb hr (fun t ht hW => ⟨⟨r, u, rfl, ⟨by rw [hR]; exact hw.1, by rw [hR]; exact hw.2⟩, by rw [ht]; exact hP1, va_K.moved hW.alike hK1, hD1.weaken (fun _ q _ h => hFc q.1 h)⟩, hS.F ht⟩) hS.2.2 dX1_work_136
        · have hR := hR.trans (if_pos hc116)
          refine lv_bipush (v := 124) hx hb dX1_work_119 (by decide) ?_
          refine lv_goto (tgt := 126) hx hb dX1_work_121 (by decide) ?_
          refine lv_isub hx hb dX1_work_126 ?_
          refine lv_lload hx hb dX1_work_127 (lv_at hl 1 rfl) ?_
          refine lv_lload hx hb dX1_work_129 (lv_at hl 0 rfl) ?_
          refine lv_iload hx hb dX1_work_131 (lv_at hl 2 rfl) ?_
          have hFc := va_free (wc := [(h0, .inr (1, [.long f]))]) hD hS hA [0] rfl
          refine va_calli (va_runV (As := [.int (a0 - 124), .long (g_X1_cut a1 s0), .long (g_X1_cut a2 s0), .int s0]) (rest := []) ⟨hx, hb, hml, hown, hts⟩ (mt_X1_two l dC dI h0 s.heap.size f (a0 - 124) (g_X1_cut a1 s0) (g_X1_cut a2 s0) s0) (cwV 4 hts (lw_V q157 q159 qs1 q5 q160) rfl rfl rfl (by decide +kernel) ⟨Nat.le_of_ble_eq_true rfl, Nat.le_of_ble_eq_true rfl⟩) ⟨fun a U g mk q => by obtain ⟨q0, q1, qP, qK, qD⟩ := q; exact ⟨q0, q1, qP, va_K.moved (u := U) (U := U.calling g mk a) (Vm.Alike.refl U.vm) qK, qD⟩, va_recv hK hP (ci := 1) (q0 := 0) rfl rfl, fun U hU hW => ⟨rfl, by rw [hU], by rw [hU]; exact hP, va_K.moved hW.alike hK, hD.weaken (fun _ _ _ _ => trivial)⟩⟩ rfl rfl hl.1 rfl (lv_room (Nat.le_of_ble_eq_true rfl)) dX1_work_133 ⟨Nat.le_of_ble_eq_true rfl, Nat.le_of_ble_eq_true rfl⟩) hS (fun q _ h => hFc q h) hFc (fun r u t H1 locs ht hvm hw hB hz1 hk1 hS => ?_)
          obtain ⟨hP1, hK1, hD1⟩ := hB
          rw [ht] at hP1
          have hK1 := va_K.moved hvm.symm hK1
          exact W.iret (v := r) hx hb hr (fun t ht hW => ⟨⟨r, u, rfl, ⟨by rw [hR]; exact hw.1, by rw [hR]; exact hw.2⟩, by rw [ht]; exact hP1, va_K.moved hW.alike hK1, hD1.weaken (fun _ q _ h => hFc q.1 h)⟩, hS.F ht⟩) hS.2.2 dX1_work_136
      · have hR := hR.trans (if_neg hc69)
        refine lv_aload_n hx hb dX1_work_72 rfl (lv_at hl 3 rfl) ?_
        refine lv_iload_n hx hb dX1_work_73 rfl (lv_at hl 4 rfl) ?_
        refine lv_iload hx hb dX1_work_74 (lv_at hl 2 rfl) ?_
        refine lv_bipush (v := 64) hx hb dX1_work_76 (by decide) ?_
        refine lv_icmp_ne (tgt := 86) hx hb dX1_work_78 (by decide) (fun hc78 => ?_) (fun hc78 => ?_)
        · have hR := hR.trans (if_neg hc78)
          refine lv_bipush (v := 70) hx hb dX1_work_86 (by decide) ?_
          refine lv_isub hx hb dX1_work_88 ?_
          refine lv_lload hx hb dX1_work_89 (lv_at hl 1 rfl) ?_
          refine lv_lload hx hb dX1_work_91 (lv_at hl 0 rfl) ?_
          refine lv_iload hx hb dX1_work_93 (lv_at hl 2 rfl) ?_
          refine jw_callI (W.runS (As := [.int (a0 - 70), .long (g_X1_cut a1 s0), .long (g_X1_cut a2 s0), .int s0]) (rest := [.ref h0]) ⟨hx, hb, hml, hown, hts⟩ (mt_X1_compared l (a0 - 70) (g_X1_cut a1 s0) (g_X1_cut a2 s0) s0) (va_cwS 4 hts (lw_S q151 q152 q5 q153) rfl rfl rfl (by decide +kernel) ⟨Nat.le_of_ble_eq_true rfl, Nat.le_of_ble_eq_true rfl⟩) preEq rfl rfl hl.1 rfl (lv_room (Nat.le_of_ble_eq_true rfl)) dX1_work_95 ⟨Nat.le_of_ble_eq_true rfl, Nat.le_of_ble_eq_true rfl⟩) ?_
          refine lv_if_eq (tgt := 105) hx hb dX1_work_98 (by decide) (fun hc98 => ?_) (fun hc98 => ?_)
          · have hR := hR.trans (if_pos hc98)
            refine lv_lconst (v := 0) hx hb dX1_work_105 (by decide) ?_
            have hFc := va_free (wc := [(h0, .inr (1, [.long f]))]) hD hS hA [0] rfl
            refine va_calli (va_runV (As := [.long 0]) (rest := []) ⟨hx, hb, hml, hown, hts⟩ (mt_X1_told l dC dI h0 s.heap.size f 0) (cwV 1 hts (lw_V q147 q149 qs0 q5 q150) rfl rfl rfl (by decide +kernel) ⟨Nat.le_of_ble_eq_true rfl, Nat.le_of_ble_eq_true rfl⟩) ⟨fun a U g mk q => by obtain ⟨q0, q1, qP, qK, qD⟩ := q; exact ⟨q0, q1, qP, va_K.moved (u := U) (U := U.calling g mk a) (Vm.Alike.refl U.vm) qK, qD⟩, va_recv hK hP (ci := 1) (q0 := 0) rfl rfl, fun U hU hW => ⟨rfl, by rw [hU], by rw [hU]; exact hP, va_K.moved hW.alike hK, hD.weaken (fun _ _ _ _ => trivial)⟩⟩ rfl rfl hl.1 rfl (lv_room (Nat.le_of_ble_eq_true rfl)) dX1_work_106 ⟨Nat.le_of_ble_eq_true rfl, Nat.le_of_ble_eq_true rfl⟩) hS (fun q _ h => hFc q h) hFc (fun r u t H1 locs ht hvm hw hB hz1 hk1 hS => ?_)
            obtain ⟨hP1, hK1, hD1⟩ := hB
            rw [ht] at hP1
            have hK1 := va_K.moved hvm.symm hK1
            exact W.iret (v := r) hx hb hr (fun t ht hW => ⟨⟨r, u, rfl, ⟨by rw [hR]; exact hw.1, by rw [hR]; exact hw.2⟩, by rw [ht]; exact hP1, va_K.moved hW.alike hK1, hD1.weaken (fun _ q _ h => hFc q.1 h)⟩, hS.F ht⟩) hS.2.2 dX1_work_109
          · have hR := hR.trans (if_neg hc98)
            refine lv_lconst (v := 1) hx hb dX1_work_101 (by decide) ?_
            refine lv_goto (tgt := 106) hx hb dX1_work_102 (by decide) ?_
            have hFc := va_free (wc := [(h0, .inr (1, [.long f]))]) hD hS hA [0] rfl
            refine va_calli (va_runV (As := [.long 1]) (rest := []) ⟨hx, hb, hml, hown, hts⟩ (mt_X1_told l dC dI h0 s.heap.size f 1) (cwV 1 hts (lw_V q147 q149 qs0 q5 q150) rfl rfl rfl (by decide +kernel) ⟨Nat.le_of_ble_eq_true rfl, Nat.le_of_ble_eq_true rfl⟩) ⟨fun a U g mk q => by obtain ⟨q0, q1, qP, qK, qD⟩ := q; exact ⟨q0, q1, qP, va_K.moved (u := U) (U := U.calling g mk a) (Vm.Alike.refl U.vm) qK, qD⟩, va_recv hK hP (ci := 1) (q0 := 0) rfl rfl, fun U hU hW => ⟨rfl, by rw [hU], by rw [hU]; exact hP, va_K.moved hW.alike hK, hD.weaken (fun _ _ _ _ => trivial)⟩⟩ rfl rfl hl.1 rfl (lv_room (Nat.le_of_ble_eq_true rfl)) dX1_work_106 ⟨Nat.le_of_ble_eq_true rfl, Nat.le_of_ble_eq_true rfl⟩) hS (fun q _ h => hFc q h) hFc (fun r u t H1 locs ht hvm hw hB hz1 hk1 hS => ?_)
            obtain ⟨hP1, hK1, hD1⟩ := hB
            rw [ht] at hP1
            have hK1 := va_K.moved hvm.symm hK1
            exact W.iret (v := r) hx hb hr (fun t ht hW => ⟨⟨r, u, rfl, ⟨by rw [hR]; exact hw.1, by rw [hR]; exact hw.2⟩, by rw [ht]; exact hP1, va_K.moved hW.alike hK1, hD1.weaken (fun _ q _ h => hFc q.1 h)⟩, hS.F ht⟩) hS.2.2 dX1_work_109
        · have hR := hR.trans (if_pos hc78)
          refine lv_bipush (v := 81) hx hb dX1_work_81 (by decide) ?_
          refine lv_goto (tgt := 88) hx hb dX1_work_83 (by decide) ?_
          refine lv_isub hx hb dX1_work_88 ?_
          refine lv_lload hx hb dX1_work_89 (lv_at hl 1 rfl) ?_
          refine lv_lload hx hb dX1_work_91 (lv_at hl 0 rfl) ?_
          refine lv_iload hx hb dX1_work_93 (lv_at hl 2 rfl) ?_
          refine jw_callI (W.runS (As := [.int (a0 - 81), .long (g_X1_cut a1 s0), .long (g_X1_cut a2 s0), .int s0]) (rest := [.ref h0]) ⟨hx, hb, hml, hown, hts⟩ (mt_X1_compared l (a0 - 81) (g_X1_cut a1 s0) (g_X1_cut a2 s0) s0) (va_cwS 4 hts (lw_S q151 q152 q5 q153) rfl rfl rfl (by decide +kernel) ⟨Nat.le_of_ble_eq_true rfl, Nat.le_of_ble_eq_true rfl⟩) preEq rfl rfl hl.1 rfl (lv_room (Nat.le_of_ble_eq_true rfl)) dX1_work_95 ⟨Nat.le_of_ble_eq_true rfl, Nat.le_of_ble_eq_true rfl⟩) ?_
          refine lv_if_eq (tgt := 105) hx hb dX1_work_98 (by decide) (fun hc98 => ?_) (fun hc98 => ?_)
          · have hR := hR.trans (if_pos hc98)
            refine lv_lconst (v := 0) hx hb dX1_work_105 (by decide) ?_
            have hFc := va_free (wc := [(h0, .inr (1, [.long f]))]) hD hS hA [0] rfl
            refine va_calli (va_runV (As := [.long 0]) (rest := []) ⟨hx, hb, hml, hown, hts⟩ (mt_X1_told l dC dI h0 s.heap.size f 0) (cwV 1 hts (lw_V q147 q149 qs0 q5 q150) rfl rfl rfl (by decide +kernel) ⟨Nat.le_of_ble_eq_true rfl, Nat.le_of_ble_eq_true rfl⟩) ⟨fun a U g mk q => by obtain ⟨q0, q1, qP, qK, qD⟩ := q; exact ⟨q0, q1, qP, va_K.moved (u := U) (U := U.calling g mk a) (Vm.Alike.refl U.vm) qK, qD⟩, va_recv hK hP (ci := 1) (q0 := 0) rfl rfl, fun U hU hW => ⟨rfl, by rw [hU], by rw [hU]; exact hP, va_K.moved hW.alike hK, hD.weaken (fun _ _ _ _ => trivial)⟩⟩ rfl rfl hl.1 rfl (lv_room (Nat.le_of_ble_eq_true rfl)) dX1_work_106 ⟨Nat.le_of_ble_eq_true rfl, Nat.le_of_ble_eq_true rfl⟩) hS (fun q _ h => hFc q h) hFc (fun r u t H1 locs ht hvm hw hB hz1 hk1 hS => ?_)
            obtain ⟨hP1, hK1, hD1⟩ := hB
            rw [ht] at hP1
            have hK1 := va_K.moved hvm.symm hK1
            exact W.iret (v := r) hx hb hr (fun t ht hW => ⟨⟨r, u, rfl, ⟨by rw [hR]; exact hw.1, by rw [hR]; exact hw.2⟩, by rw [ht]; exact hP1, va_K.moved hW.alike hK1, hD1.weaken (fun _ q _ h => hFc q.1 h)⟩, hS.F ht⟩) hS.2.2 dX1_work_109
          · have hR := hR.trans (if_neg hc98)
            refine lv_lconst (v := 1) hx hb dX1_work_101 (by decide) ?_
            refine lv_goto (tgt := 106) hx hb dX1_work_102 (by decide) ?_
            have hFc := va_free (wc := [(h0, .inr (1, [.long f]))]) hD hS hA [0] rfl
            refine va_calli (va_runV (As := [.long 1]) (rest := []) ⟨hx, hb, hml, hown, hts⟩ (mt_X1_told l dC dI h0 s.heap.size f 1) (cwV 1 hts (lw_V q147 q149 qs0 q5 q150) rfl rfl rfl (by decide +kernel) ⟨Nat.le_of_ble_eq_true rfl, Nat.le_of_ble_eq_true rfl⟩) ⟨fun a U g mk q => by obtain ⟨q0, q1, qP, qK, qD⟩ := q; exact ⟨q0, q1, qP, va_K.moved (u := U) (U := U.calling g mk a) (Vm.Alike.refl U.vm) qK, qD⟩, va_recv hK hP (ci := 1) (q0 := 0) rfl rfl, fun U hU hW => ⟨rfl, by rw [hU], by rw [hU]; exact hP, va_K.moved hW.alike hK, hD.weaken (fun _ _ _ _ => trivial)⟩⟩ rfl rfl hl.1 rfl (lv_room (Nat.le_of_ble_eq_true rfl)) dX1_work_106 ⟨Nat.le_of_ble_eq_true rfl, Nat.le_of_ble_eq_true rfl⟩) hS (fun q _ h => hFc q h) hFc (fun r u t H1 locs ht hvm hw hB hz1 hk1 hS => ?_)
            obtain ⟨hP1, hK1, hD1⟩ := hB
            rw [ht] at hP1
            have hK1 := va_K.moved hvm.symm hK1
            exact W.iret (v := r) hx hb hr (fun t ht hW => ⟨⟨r, u, rfl, ⟨by rw [hR]; exact hw.1, by rw [hR]; exact hw.2⟩, by rw [ht]; exact hP1, va_K.moved hW.alike hK1, hD1.weaken (fun _ q _ h => hFc q.1 h)⟩, hS.F ht⟩) hS.2.2 dX1_work_109
    · have hR := hR.trans (if_pos hc50)
      refine lv_aload_n hx hb dX1_work_53 rfl (lv_at hl 3 rfl) ?_
      refine lv_iload_n hx hb dX1_work_54 rfl (lv_at hl 4 rfl) ?_
      refine lv_lload hx hb dX1_work_55 (lv_at hl 1 rfl) ?_
      refine lv_iload hx hb dX1_work_57 (lv_at hl 2 rfl) ?_
      refine jw_callJ (W.runS (As := [.int a0, .long (g_X1_cut a1 s0), .int s0]) (rest := [.ref h0]) ⟨hx, hb, hml, hown, hts⟩ (mt_X1_one l a0 (g_X1_cut a1 s0) s0) (va_cwS 3 hts (lw_S q132 q133 q5 q134) rfl rfl rfl (by decide +kernel) ⟨Nat.le_of_ble_eq_true rfl, Nat.le_of_ble_eq_true rfl⟩) preEq rfl rfl hl.1 rfl (lv_room (Nat.le_of_ble_eq_true rfl)) dX1_work_59 ⟨Nat.le_of_ble_eq_true rfl, Nat.le_of_ble_eq_true rfl⟩) ?_
      have hFc := va_free (wc := [(h0, .inr (1, [.long f]))]) hD hS hA [0] rfl
      refine va_calli (va_runV (As := [.long (g_X1_one a0 (g_X1_cut a1 s0) s0)]) (rest := []) ⟨hx, hb, hml, hown, hts⟩ (mt_X1_told l dC dI h0 s.heap.size f (g_X1_one a0 (g_X1_cut a1 s0) s0)) (cwV 1 hts (lw_V q147 q149 qs0 q5 q150) rfl rfl rfl (by decide +kernel) ⟨Nat.le_of_ble_eq_true rfl, Nat.le_of_ble_eq_true rfl⟩) ⟨fun a U g mk q => by obtain ⟨q0, q1, qP, qK, qD⟩ := q; exact ⟨q0, q1, qP, va_K.moved (u := U) (U := U.calling g mk a) (Vm.Alike.refl U.vm) qK, qD⟩, va_recv hK hP (ci := 1) (q0 := 0) rfl rfl, fun U hU hW => ⟨rfl, by rw [hU], by rw [hU]; exact hP, va_K.moved hW.alike hK, hD.weaken (fun _ _ _ _ => trivial)⟩⟩ rfl rfl hl.1 rfl (lv_room (Nat.le_of_ble_eq_true rfl)) dX1_work_62 ⟨Nat.le_of_ble_eq_true rfl, Nat.le_of_ble_eq_true rfl⟩) hS (fun q _ h => hFc q h) hFc (fun r u t H1 locs ht hvm hw hB hz1 hk1 hS => ?_)
      obtain ⟨hP1, hK1, hD1⟩ := hB
      rw [ht] at hP1
      have hK1 := va_K.moved hvm.symm hK1
      exact W.iret (v := r) hx hb hr (fun t ht hW => ⟨⟨r, u, rfl, ⟨by rw [hR]; exact hw.1, by rw [hR]; exact hw.2⟩, by rw [ht]; exact hP1, va_K.moved hW.alike hK1, hD1.weaken (fun _ q _ h => hFc q.1 h)⟩, hS.F ht⟩) hS.2.2 dX1_work_65
  unfold g_X1_work at hR
  refine lv_aload_n hx hb dX1_work_0 rfl (lv_at hl 0 rfl) ?_
  refine lv_iload_n hx hb dX1_work_1 rfl (lv_at hl 1 rfl) ?_
  refine jw_callI (W.runV (C := RX1) (b := h0) (As := [.int a0]) (rest := []) ⟨hx, hb, hml, hown, hts⟩ (mt_X1_takes l h0 a0) (cwV 1 hts (lw_V q128 q104 q105 q5 q106) rfl rfl rfl (by decide +kernel) ⟨Nat.le_of_ble_eq_true rfl, Nat.le_of_ble_eq_true rfl⟩) (preRc (va_recv hK hP (q0 := 0) rfl rfl)) rfl rfl hl.1 rfl (lv_room (Nat.le_of_ble_eq_true rfl)) dX1_work_2 ⟨Nat.le_of_ble_eq_true rfl, Nat.le_of_ble_eq_true rfl⟩) ?_
  refine lv_istore (lv' := [(6, .int (g_X1_takes a0)), (0, .ref h0), (1, .int a0), (2, .long a1), (4, .long a2)]) hx hb dX1_work_5 hl (by decide) rfl (fun ls hl => ?_)
  refine lv_iload hx hb dX1_work_7 (lv_at hl 0 rfl) ?_
  refine lv_if_ne (tgt := 14) hx hb dX1_work_9 (by decide) (fun hc9 => ?_) (fun hc9 => ?_)
  · have hR := hR.trans (if_neg hc9)
    refine lv_iload_n hx hb dX1_work_14 rfl (lv_at hl 2 rfl) ?_
    refine jw_callI (W.runS (As := [.int a0]) (rest := []) ⟨hx, hb, hml, hown, hts⟩ (mt_X1_isLongs l a0) (va_cwS 1 hts (lw_S q107 q108 q5 q109) rfl rfl rfl (by decide +kernel) ⟨Nat.le_of_ble_eq_true rfl, Nat.le_of_ble_eq_true rfl⟩) preEq rfl rfl hl.1 rfl (lv_room (Nat.le_of_ble_eq_true rfl)) dX1_work_15 ⟨Nat.le_of_ble_eq_true rfl, Nat.le_of_ble_eq_true rfl⟩) ?_
    refine lv_if_eq (tgt := 26) hx hb dX1_work_18 (by decide) (fun hc18 => ?_) (fun hc18 => ?_)
    · have hR := hR.trans (if_pos hc18)
      refine lv_bipush (v := 32) hx hb dX1_work_26 (by decide) ?_
      exact B28 (g_X1_takes a0) 32 ls (lv_sub hl [1, 2, 3, 4, 0] rfl) hR
    · have hR := hR.trans (if_neg hc18)
      refine lv_bipush (v := 64) hx hb dX1_work_21 (by decide) ?_
      refine lv_goto (tgt := 28) hx hb dX1_work_23 (by decide) ?_
      exact B28 (g_X1_takes a0) 64 ls (lv_sub hl [1, 2, 3, 4, 0] rfl) hR
  · have hR := hR.trans (if_pos hc9)
    refine lv_iconst (v := (-1)) hx hb dX1_work_12 (by decide) ?_
    exact W.iret (v := (-1)) hx hb hr (fun t ht hW => ⟨⟨(-1), f, rfl, ⟨by rw [hR], by rw [hR]⟩, by rw [ht]; exact hP, va_K.moved hW.alike hK, hD⟩, hS.F ht⟩) hS.2.2 dX1_work_13
end
section
set_option maxRecDepth 100000
abbrev cX0_isOne : ByteArray := prog_1_method_2_code
def yX0_isOne : MethodName := ⟨RX0, "isOne", "(I)Z"⟩
theorem dX0_isOne_0 : decode cX0_isOne 0 = .ok (.iload_n 0, 1) := by decide +kernel
theorem dX0_isOne_1 : decode cX0_isOne 1 = .ok (.bipush 69, 2) := by decide +kernel
theorem dX0_isOne_3 : decode cX0_isOne 3 = .ok (.if_icmp .eq 68, 3) := by decide +kernel
theorem dX0_isOne_6 : decode cX0_isOne 6 = .ok (.iload_n 0, 1) := by decide +kernel
theorem dX0_isOne_7 : decode cX0_isOne 7 = .ok (.bipush 80, 2) := by decide +kernel
theorem dX0_isOne_9 : decode cX0_isOne 9 = .ok (.if_icmp .eq 62, 3) := by decide +kernel
theorem dX0_isOne_12 : decode cX0_isOne 12 = .ok (.iload_n 0, 1) := by decide +kernel
theorem dX0_isOne_13 : decode cX0_isOne 13 = .ok (.bipush 103, 2) := by decide +kernel
theorem dX0_isOne_15 : decode cX0_isOne 15 = .ok (.if_icmp .lt 9, 3) := by decide +kernel
theorem dX0_isOne_18 : decode cX0_isOne 18 = .ok (.iload_n 0, 1) := by decide +kernel
theorem dX0_isOne_19 : decode cX0_isOne 19 = .ok (.bipush 105, 2) := by decide +kernel
theorem dX0_isOne_21 : decode cX0_isOne 21 = .ok (.if_icmp .le 50, 3) := by decide +kernel
theorem dX0_isOne_24 : decode cX0_isOne 24 = .ok (.iload_n 0, 1) := by decide +kernel
theorem dX0_isOne_25 : decode cX0_isOne 25 = .ok (.bipush 121, 2) := by decide +kernel
theorem dX0_isOne_27 : decode cX0_isOne 27 = .ok (.if_icmp .lt 9, 3) := by decide +kernel
theorem dX0_isOne_30 : decode cX0_isOne 30 = .ok (.iload_n 0, 1) := by decide +kernel
theorem dX0_isOne_31 : decode cX0_isOne 31 = .ok (.bipush 123, 2) := by decide +kernel
theorem dX0_isOne_33 : decode cX0_isOne 33 = .ok (.if_icmp .le 38, 3) := by decide +kernel
theorem dX0_isOne_36 : decode cX0_isOne 36 = .ok (.iload_n 0, 1) := by decide +kernel
theorem dX0_isOne_37 : decode cX0_isOne 37 = .ok (.sipush 167, 3) := by decide +kernel
theorem dX0_isOne_40 : decode cX0_isOne 40 = .ok (.if_icmp .eq 31, 3) := by decide +kernel
theorem dX0_isOne_43 : decode cX0_isOne 43 = .ok (.iload_n 0, 1) := by decide +kernel
theorem dX0_isOne_44 : decode cX0_isOne 44 = .ok (.sipush 172, 3) := by decide +kernel
theorem dX0_isOne_47 : decode cX0_isOne 47 = .ok (.if_icmp .eq 24, 3) := by decide +kernel
theorem dX0_isOne_50 : decode cX0_isOne 50 = .ok (.iload_n 0, 1) := by decide +kernel
theorem dX0_isOne_51 : decode cX0_isOne 51 = .ok (.sipush 173, 3) := by decide +kernel
theorem dX0_isOne_54 : decode cX0_isOne 54 = .ok (.if_icmp .eq 17, 3) := by decide +kernel
theorem dX0_isOne_57 : decode cX0_isOne 57 = .ok (.iload_n 0, 1) := by decide +kernel
theorem dX0_isOne_58 : decode cX0_isOne 58 = .ok (.sipush 192, 3) := by decide +kernel
theorem dX0_isOne_61 : decode cX0_isOne 61 = .ok (.if_icmp .lt 14, 3) := by decide +kernel
theorem dX0_isOne_64 : decode cX0_isOne 64 = .ok (.iload_n 0, 1) := by decide +kernel
theorem dX0_isOne_65 : decode cX0_isOne 65 = .ok (.sipush 196, 3) := by decide +kernel
theorem dX0_isOne_68 : decode cX0_isOne 68 = .ok (.if_icmp .gt 7, 3) := by decide +kernel
theorem dX0_isOne_71 : decode cX0_isOne 71 = .ok (.iconst 1, 1) := by decide +kernel
theorem dX0_isOne_72 : decode cX0_isOne 72 = .ok (.goto 4, 3) := by decide +kernel
theorem dX0_isOne_75 : decode cX0_isOne 75 = .ok (.iconst 0, 1) := by decide +kernel
theorem dX0_isOne_76 : decode cX0_isOne 76 = .ok (.ireturn, 1) := by decide +kernel
set_option maxHeartbeats 4000000 in
set_option maxRecDepth 100000 in
theorem mt_X0_isOne (l : Launch) (a0 : Int32) : Met l yX0_isOne (ws_ yX0_isOne cX0_isOne 1 (some .boolean)) ({ frames := 0, cells := 0, slots := 0, locals := 0 } : Room) (fun v _ => v = ([.int a0] : List Value).toArray) (QcRead (bi (g_X0_isOne a0))) 0 0 (fun _ => False) := by
  refine Met.ofW (cc := cX0_isOne) (maxL := 1) (ret := (some .boolean)) (by decide) rfl ?_
  intro p e s m args below meth c s₁ B hml hv
  obtain rfl : args = ([.int a0] : List Value).toArray := hv
  have hx := B.exec
  have hb := B.bytes
  have hr := B.returns
  have hts := atoms_spec (ws := (ws_ yX0_isOne cX0_isOne 1 (some .boolean))) B.pre
  have hts : ∀ w ∈ lw_all, w.before _ s = true := fun w h => hts w (List.mem_cons_of_mem _ h)
  have hown : s.vm.findClass RX0 = some m.cls := findClass_of_methodNamed B.named
  have hlocks := B.notSynchronized
  obtain ⟨R, hR⟩ : ∃ R, R = g_X0_isOne a0 := ⟨_, rfl⟩
  rw [← hR]
  have hl := lv_entry ([.int a0] : List Value) (n := 1) (Nat.le_of_ble_eq_true rfl)
  rw [lg_entry_eq]
  generalize (lg_sl ([.int a0] : List Value) ++ List.replicate (1 - (lg_sl ([.int a0] : List Value)).length) Slot.unset).toArray = ls at hl ⊢
  have hl : lv_has ls 1 [(0, .int a0)] := hl
  have B36 : ∀  (ls : Array Slot), lv_has ls 1 [(0, .int a0)] → R = g_X0_isOne_36 a0  → W p l e (headSpec (ws_ yX0_isOne cX0_isOne 1 (some .boolean)) ({ frames := 0, cells := 0, slots := 0, locals := 0 } : Room)).room s m ([.int a0] : List Value).toArray below meth c s.heap [] 0 0 (MQ below (QcRead (bi R)) ([.int a0] : List Value).toArray s 0 0 (fun _ => False)) (F0 m 36 ls []) := by
    intro  ls hl hR
    unfold g_X0_isOne_36 at hR
    refine lv_iload_n hx hb dX0_isOne_36 rfl (lv_at hl 0 rfl) ?_
    refine lv_sipush (v := 167) hx hb dX0_isOne_37 (by decide) ?_
    refine lv_icmp_eq (tgt := 71) hx hb dX0_isOne_40 (by decide) (fun hc40 => ?_) (fun hc40 => ?_)
    · have hR := hR.trans (if_pos hc40)
      refine lv_iconst (v := 1) hx hb dX0_isOne_71 (by decide) ?_
      refine lv_goto (tgt := 76) hx hb dX0_isOne_72 (by decide) ?_
      exact W.zret (v := 1) hx hb hr rfl (fun t ht hW => jr_z hR rfl ht) jnil dX0_isOne_76
    · have hR := hR.trans (if_neg hc40)
      refine lv_iload_n hx hb dX0_isOne_43 rfl (lv_at hl 0 rfl) ?_
      refine lv_sipush (v := 172) hx hb dX0_isOne_44 (by decide) ?_
      refine lv_icmp_eq (tgt := 71) hx hb dX0_isOne_47 (by decide) (fun hc47 => ?_) (fun hc47 => ?_)
      · have hR := hR.trans (if_pos hc47)
        refine lv_iconst (v := 1) hx hb dX0_isOne_71 (by decide) ?_
        refine lv_goto (tgt := 76) hx hb dX0_isOne_72 (by decide) ?_
        exact W.zret (v := 1) hx hb hr rfl (fun t ht hW => jr_z hR rfl ht) jnil dX0_isOne_76
      · have hR := hR.trans (if_neg hc47)
        refine lv_iload_n hx hb dX0_isOne_50 rfl (lv_at hl 0 rfl) ?_
        refine lv_sipush (v := 173) hx hb dX0_isOne_51 (by decide) ?_
        refine lv_icmp_eq (tgt := 71) hx hb dX0_isOne_54 (by decide) (fun hc54 => ?_) (fun hc54 => ?_)
        · have hR := hR.trans (if_pos hc54)
          refine lv_iconst (v := 1) hx hb dX0_isOne_71 (by decide) ?_
          refine lv_goto (tgt := 76) hx hb dX0_isOne_72 (by decide) ?_
          exact W.zret (v := 1) hx hb hr rfl (fun t ht hW => jr_z hR rfl ht) jnil dX0_isOne_76
        · have hR := hR.trans (if_neg hc54)
          refine lv_iload_n hx hb dX0_isOne_57 rfl (lv_at hl 0 rfl) ?_
          refine lv_sipush (v := 192) hx hb dX0_isOne_58 (by decide) ?_
          refine lv_icmp_lt (tgt := 75) hx hb dX0_isOne_61 (by decide) (fun hc61 => ?_) (fun hc61 => ?_)
          · have hR := hR.trans (if_pos hc61)
            refine lv_iconst (v := 0) hx hb dX0_isOne_75 (by decide) ?_
            exact W.zret (v := 0) hx hb hr rfl (fun t ht hW => jr_z hR rfl ht) jnil dX0_isOne_76
          · have hR := hR.trans (if_neg hc61)
            refine lv_iload_n hx hb dX0_isOne_64 rfl (lv_at hl 0 rfl) ?_
            refine lv_sipush (v := 196) hx hb dX0_isOne_65 (by decide) ?_
            refine lv_icmp_gt (tgt := 75) hx hb dX0_isOne_68 (by decide) (fun hc68 => ?_) (fun hc68 => ?_)
            · have hR := hR.trans (if_pos hc68)
              refine lv_iconst (v := 0) hx hb dX0_isOne_75 (by decide) ?_
              exact W.zret (v := 0) hx hb hr rfl (fun t ht hW => jr_z hR rfl ht) jnil dX0_isOne_76
            · have hR := hR.trans (if_neg hc68)
              refine lv_iconst (v := 1) hx hb dX0_isOne_71 (by decide) ?_
              refine lv_goto (tgt := 76) hx hb dX0_isOne_72 (by decide) ?_
              exact W.zret (v := 1) hx hb hr rfl (fun t ht hW => jr_z hR rfl ht) jnil dX0_isOne_76
  have B24 : ∀  (ls : Array Slot), lv_has ls 1 [(0, .int a0)] → R = g_X0_isOne_24 a0  → W p l e (headSpec (ws_ yX0_isOne cX0_isOne 1 (some .boolean)) ({ frames := 0, cells := 0, slots := 0, locals := 0 } : Room)).room s m ([.int a0] : List Value).toArray below meth c s.heap [] 0 0 (MQ below (QcRead (bi R)) ([.int a0] : List Value).toArray s 0 0 (fun _ => False)) (F0 m 24 ls []) := by
    intro  ls hl hR
    unfold g_X0_isOne_24 at hR
    refine lv_iload_n hx hb dX0_isOne_24 rfl (lv_at hl 0 rfl) ?_
    refine lv_bipush (v := 121) hx hb dX0_isOne_25 (by decide) ?_
    refine lv_icmp_lt (tgt := 36) hx hb dX0_isOne_27 (by decide) (fun hc27 => ?_) (fun hc27 => ?_)
    · have hR := hR.trans (if_pos hc27)
      exact B36  ls (lv_sub hl [0] rfl) hR
    · have hR := hR.trans (if_neg hc27)
      refine lv_iload_n hx hb dX0_isOne_30 rfl (lv_at hl 0 rfl) ?_
      refine lv_bipush (v := 123) hx hb dX0_isOne_31 (by decide) ?_
      refine lv_icmp_le (tgt := 71) hx hb dX0_isOne_33 (by decide) (fun hc33 => ?_) (fun hc33 => ?_)
      · have hR := hR.trans (if_pos hc33)
        refine lv_iconst (v := 1) hx hb dX0_isOne_71 (by decide) ?_
        refine lv_goto (tgt := 76) hx hb dX0_isOne_72 (by decide) ?_
        exact W.zret (v := 1) hx hb hr rfl (fun t ht hW => jr_z hR rfl ht) jnil dX0_isOne_76
      · have hR := hR.trans (if_neg hc33)
        exact B36  ls (lv_sub hl [0] rfl) hR
  unfold g_X0_isOne at hR
  refine lv_iload_n hx hb dX0_isOne_0 rfl (lv_at hl 0 rfl) ?_
  refine lv_bipush (v := 69) hx hb dX0_isOne_1 (by decide) ?_
  refine lv_icmp_eq (tgt := 71) hx hb dX0_isOne_3 (by decide) (fun hc3 => ?_) (fun hc3 => ?_)
  · have hR := hR.trans (if_pos hc3)
    refine lv_iconst (v := 1) hx hb dX0_isOne_71 (by decide) ?_
    refine lv_goto (tgt := 76) hx hb dX0_isOne_72 (by decide) ?_
    exact W.zret (v := 1) hx hb hr rfl (fun t ht hW => jr_z hR rfl ht) jnil dX0_isOne_76
  · have hR := hR.trans (if_neg hc3)
    refine lv_iload_n hx hb dX0_isOne_6 rfl (lv_at hl 0 rfl) ?_
    refine lv_bipush (v := 80) hx hb dX0_isOne_7 (by decide) ?_
    refine lv_icmp_eq (tgt := 71) hx hb dX0_isOne_9 (by decide) (fun hc9 => ?_) (fun hc9 => ?_)
    · have hR := hR.trans (if_pos hc9)
      refine lv_iconst (v := 1) hx hb dX0_isOne_71 (by decide) ?_
      refine lv_goto (tgt := 76) hx hb dX0_isOne_72 (by decide) ?_
      exact W.zret (v := 1) hx hb hr rfl (fun t ht hW => jr_z hR rfl ht) jnil dX0_isOne_76
    · have hR := hR.trans (if_neg hc9)
      refine lv_iload_n hx hb dX0_isOne_12 rfl (lv_at hl 0 rfl) ?_
      refine lv_bipush (v := 103) hx hb dX0_isOne_13 (by decide) ?_
      refine lv_icmp_lt (tgt := 24) hx hb dX0_isOne_15 (by decide) (fun hc15 => ?_) (fun hc15 => ?_)
      · have hR := hR.trans (if_pos hc15)
        exact B24  ls (lv_sub hl [0] rfl) hR
      · have hR := hR.trans (if_neg hc15)
        refine lv_iload_n hx hb dX0_isOne_18 rfl (lv_at hl 0 rfl) ?_
        refine lv_bipush (v := 105) hx hb dX0_isOne_19 (by decide) ?_
        refine lv_icmp_le (tgt := 71) hx hb dX0_isOne_21 (by decide) (fun hc21 => ?_) (fun hc21 => ?_)
        · have hR := hR.trans (if_pos hc21)
          refine lv_iconst (v := 1) hx hb dX0_isOne_71 (by decide) ?_
          refine lv_goto (tgt := 76) hx hb dX0_isOne_72 (by decide) ?_
          exact W.zret (v := 1) hx hb hr rfl (fun t ht hW => jr_z hR rfl ht) jnil dX0_isOne_76
        · have hR := hR.trans (if_neg hc21)
          exact B24  ls (lv_sub hl [0] rfl) hR
abbrev cX0_takes : ByteArray := prog_1_method_3_code
def yX0_takes : MethodName := ⟨RX0, "takes", "(I)I"⟩
theorem dX0_takes_0 : decode cX0_takes 0 = .ok (.iload_n 1, 1) := by decide +kernel
theorem dX0_takes_1 : decode cX0_takes 1 = .ok (.invokestatic 13, 3) := by decide +kernel
theorem dX0_takes_4 : decode cX0_takes 4 = .ok (.ifCond .eq 7, 3) := by decide +kernel
theorem dX0_takes_7 : decode cX0_takes 7 = .ok (.iconst 2, 1) := by decide +kernel
theorem dX0_takes_8 : decode cX0_takes 8 = .ok (.goto 15, 3) := by decide +kernel
theorem dX0_takes_11 : decode cX0_takes 11 = .ok (.iload_n 1, 1) := by decide +kernel
theorem dX0_takes_12 : decode cX0_takes 12 = .ok (.invokestatic 19, 3) := by decide +kernel
theorem dX0_takes_15 : decode cX0_takes 15 = .ok (.ifCond .eq 7, 3) := by decide +kernel
theorem dX0_takes_18 : decode cX0_takes 18 = .ok (.iconst 1, 1) := by decide +kernel
theorem dX0_takes_19 : decode cX0_takes 19 = .ok (.goto 4, 3) := by decide +kernel
theorem dX0_takes_22 : decode cX0_takes 22 = .ok (.iconst 0, 1) := by decide +kernel
theorem dX0_takes_23 : decode cX0_takes 23 = .ok (.ireturn, 1) := by decide +kernel
set_option maxHeartbeats 4000000 in
set_option maxRecDepth 100000 in
theorem mt_X0_takes (l : Launch) (h0 : Nat) (a0 : Int32) : Met l yX0_takes (ws_ yX0_takes cX0_takes 2 (some .int)) ({ frames := 1, cells := 0, slots := 0, locals := 20 } : Room) (fun v U => v = ([.ref h0, .int a0] : List Value).toArray ∧ rc_ok RX0 h0 U) (QcRead (g_X0_takes a0)) 0 0 (fun _ => False) := by
  refine Met.ofW (cc := cX0_takes) (maxL := 2) (ret := (some .int)) (by decide) rfl ?_
  intro p e s m args below meth c s₁ B hml hv
  obtain ⟨rfl, hrc⟩ := hv
  have hx := B.exec
  have hb := B.bytes
  have hr := B.returns
  have hts := atoms_spec (ws := (ws_ yX0_takes cX0_takes 2 (some .int))) B.pre
  have hts : ∀ w ∈ lw_all, w.before _ s = true := fun w h => hts w (List.mem_cons_of_mem _ h)
  have hown : s.vm.findClass RX0 = some m.cls := findClass_of_methodNamed B.named
  have hlocks := B.notSynchronized
  obtain ⟨R, hR⟩ : ∃ R, R = g_X0_takes a0 := ⟨_, rfl⟩
  rw [← hR]
  have hl := lv_entry ([.ref h0, .int a0] : List Value) (n := 2) (Nat.le_of_ble_eq_true rfl)
  rw [lg_entry_eq]
  generalize (lg_sl ([.ref h0, .int a0] : List Value) ++ List.replicate (2 - (lg_sl ([.ref h0, .int a0] : List Value)).length) Slot.unset).toArray = ls at hl ⊢
  have hl : lv_has ls 2 [(0, .ref h0), (1, .int a0)] := hl
  unfold g_X0_takes at hR
  refine lv_iload_n hx hb dX0_takes_0 rfl (lv_at hl 1 rfl) ?_
  refine jw_callI (W.runS (As := [.int a0]) (rest := []) ⟨hx, hb, hml, hown, hts⟩ (mt_X2_isTwo l a0) (va_cwS 1 hts (lw_S q24 q25 q6 q26) rfl rfl rfl (by decide +kernel) ⟨Nat.le_of_ble_eq_true rfl, Nat.le_of_ble_eq_true rfl⟩) preEq rfl rfl hl.1 rfl (lv_room (Nat.le_of_ble_eq_true rfl)) dX0_takes_1 ⟨Nat.le_of_ble_eq_true rfl, Nat.le_of_ble_eq_true rfl⟩) ?_
  refine lv_if_eq (tgt := 11) hx hb dX0_takes_4 (by decide) (fun hc4 => ?_) (fun hc4 => ?_)
  · have hR := hR.trans (if_pos hc4)
    refine lv_iload_n hx hb dX0_takes_11 rfl (lv_at hl 1 rfl) ?_
    refine jw_callI (W.runS (As := [.int a0]) (rest := []) ⟨hx, hb, hml, hown, hts⟩ (mt_X0_isOne l a0) (va_cwS 1 hts (lw_S q27 q28 q4 q29) rfl rfl rfl (by decide +kernel) ⟨Nat.le_of_ble_eq_true rfl, Nat.le_of_ble_eq_true rfl⟩) preEq rfl rfl hl.1 rfl (lv_room (Nat.le_of_ble_eq_true rfl)) dX0_takes_12 ⟨Nat.le_of_ble_eq_true rfl, Nat.le_of_ble_eq_true rfl⟩) ?_
    refine lv_if_eq (tgt := 22) hx hb dX0_takes_15 (by decide) (fun hc15 => ?_) (fun hc15 => ?_)
    · have hR := hR.trans (if_pos hc15)
      refine lv_iconst (v := 0) hx hb dX0_takes_22 (by decide) ?_
      exact W.iret (v := 0) hx hb hr (fun t ht hW => jr_i hR ht) jnil dX0_takes_23
    · have hR := hR.trans (if_neg hc15)
      refine lv_iconst (v := 1) hx hb dX0_takes_18 (by decide) ?_
      refine lv_goto (tgt := 23) hx hb dX0_takes_19 (by decide) ?_
      exact W.iret (v := 1) hx hb hr (fun t ht hW => jr_i hR ht) jnil dX0_takes_23
  · have hR := hR.trans (if_neg hc4)
    refine lv_iconst (v := 2) hx hb dX0_takes_7 (by decide) ?_
    refine lv_goto (tgt := 23) hx hb dX0_takes_8 (by decide) ?_
    exact W.iret (v := 2) hx hb hr (fun t ht hW => jr_i hR ht) jnil dX0_takes_23
abbrev cX0_takesLongs : ByteArray := prog_1_method_4_code
def yX0_takesLongs : MethodName := ⟨RX0, "takesLongs", "(I)Z"⟩
theorem dX0_takesLongs_0 : decode cX0_takesLongs 0 = .ok (.aload_n 0, 1) := by decide +kernel
theorem dX0_takesLongs_1 : decode cX0_takesLongs 1 = .ok (.iload_n 1, 1) := by decide +kernel
theorem dX0_takesLongs_2 : decode cX0_takesLongs 2 = .ok (.invokevirtual 22, 3) := by decide +kernel
theorem dX0_takesLongs_5 : decode cX0_takesLongs 5 = .ok (.ifCond .le 16, 3) := by decide +kernel
theorem dX0_takesLongs_8 : decode cX0_takesLongs 8 = .ok (.iload_n 1, 1) := by decide +kernel
theorem dX0_takesLongs_9 : decode cX0_takesLongs 9 = .ok (.invokestatic 26, 3) := by decide +kernel
theorem dX0_takesLongs_12 : decode cX0_takesLongs 12 = .ok (.bipush 126, 2) := by decide +kernel
theorem dX0_takesLongs_14 : decode cX0_takesLongs 14 = .ok (.if_icmp .ne 7, 3) := by decide +kernel
theorem dX0_takesLongs_17 : decode cX0_takesLongs 17 = .ok (.iconst 1, 1) := by decide +kernel
theorem dX0_takesLongs_18 : decode cX0_takesLongs 18 = .ok (.goto 4, 3) := by decide +kernel
theorem dX0_takesLongs_21 : decode cX0_takesLongs 21 = .ok (.iconst 0, 1) := by decide +kernel
theorem dX0_takesLongs_22 : decode cX0_takesLongs 22 = .ok (.ireturn, 1) := by decide +kernel
set_option maxHeartbeats 4000000 in
set_option maxRecDepth 100000 in
theorem mt_X0_takesLongs (l : Launch) (h0 : Nat) (a0 : Int32) : Met l yX0_takesLongs (ws_ yX0_takesLongs cX0_takesLongs 2 (some .boolean)) ({ frames := 2, cells := 0, slots := 0, locals := 41 } : Room) (fun v U => v = ([.ref h0, .int a0] : List Value).toArray ∧ rc_ok RX0 h0 U) (QcRead (bi (g_X0_takesLongs a0))) 0 0 (fun _ => False) := by
  refine Met.ofW (cc := cX0_takesLongs) (maxL := 2) (ret := (some .boolean)) (by decide) rfl ?_
  intro p e s m args below meth c s₁ B hml hv
  obtain ⟨rfl, hrc⟩ := hv
  have hx := B.exec
  have hb := B.bytes
  have hr := B.returns
  have hts := atoms_spec (ws := (ws_ yX0_takesLongs cX0_takesLongs 2 (some .boolean))) B.pre
  have hts : ∀ w ∈ lw_all, w.before _ s = true := fun w h => hts w (List.mem_cons_of_mem _ h)
  have hown : s.vm.findClass RX0 = some m.cls := findClass_of_methodNamed B.named
  have hlocks := B.notSynchronized
  obtain ⟨R, hR⟩ : ∃ R, R = g_X0_takesLongs a0 := ⟨_, rfl⟩
  rw [← hR]
  have hl := lv_entry ([.ref h0, .int a0] : List Value) (n := 2) (Nat.le_of_ble_eq_true rfl)
  rw [lg_entry_eq]
  generalize (lg_sl ([.ref h0, .int a0] : List Value) ++ List.replicate (2 - (lg_sl ([.ref h0, .int a0] : List Value)).length) Slot.unset).toArray = ls at hl ⊢
  have hl : lv_has ls 2 [(0, .ref h0), (1, .int a0)] := hl
  unfold g_X0_takesLongs at hR
  refine lv_aload_n hx hb dX0_takesLongs_0 rfl (lv_at hl 0 rfl) ?_
  refine lv_iload_n hx hb dX0_takesLongs_1 rfl (lv_at hl 1 rfl) ?_
  refine jw_callI (W.runV (C := RX0) (b := h0) (As := [.int a0]) (rest := []) ⟨hx, hb, hml, hown, hts⟩ (mt_X0_takes l h0 a0) (cwV 1 hts (lw_V q34 q21 q22 q4 q23) rfl rfl rfl (by decide +kernel) ⟨Nat.le_of_ble_eq_true rfl, Nat.le_of_ble_eq_true rfl⟩) (preRc hrc) rfl rfl hl.1 rfl (lv_room (Nat.le_of_ble_eq_true rfl)) dX0_takesLongs_2 ⟨Nat.le_of_ble_eq_true rfl, Nat.le_of_ble_eq_true rfl⟩) ?_
  refine lv_if_le (tgt := 21) hx hb dX0_takesLongs_5 (by decide) (fun hc5 => ?_) (fun hc5 => ?_)
  · have hR := hR.trans (if_pos hc5)
    refine lv_iconst (v := 0) hx hb dX0_takesLongs_21 (by decide) ?_
    exact W.zret (v := 0) hx hb hr rfl (fun t ht hW => jr_z hR rfl ht) jnil dX0_takesLongs_22
  · have hR := hR.trans (if_neg hc5)
    refine lv_iload_n hx hb dX0_takesLongs_8 rfl (lv_at hl 1 rfl) ?_
    refine jw_callI (W.runS (As := [.int a0]) (rest := []) ⟨hx, hb, hml, hown, hts⟩ (mt_X2_takes l a0) (va_cwS 1 hts (lw_S q35 q36 q6 q37) rfl rfl rfl (by decide +kernel) ⟨Nat.le_of_ble_eq_true rfl, Nat.le_of_ble_eq_true rfl⟩) preEq rfl rfl hl.1 rfl (lv_room (Nat.le_of_ble_eq_true rfl)) dX0_takesLongs_9 ⟨Nat.le_of_ble_eq_true rfl, Nat.le_of_ble_eq_true rfl⟩) ?_
    refine lv_bipush (v := 126) hx hb dX0_takesLongs_12 (by decide) ?_
    refine lv_icmp_ne (tgt := 21) hx hb dX0_takesLongs_14 (by decide) (fun hc14 => ?_) (fun hc14 => ?_)
    · have hR := hR.trans (if_neg hc14)
      refine lv_iconst (v := 0) hx hb dX0_takesLongs_21 (by decide) ?_
      exact W.zret (v := 0) hx hb hr rfl (fun t ht hW => jr_z hR rfl ht) jnil dX0_takesLongs_22
    · have hR := hR.trans (if_pos hc14)
      refine lv_iconst (v := 1) hx hb dX0_takesLongs_17 (by decide) ?_
      refine lv_goto (tgt := 22) hx hb dX0_takesLongs_18 (by decide) ?_
      exact W.zret (v := 1) hx hb hr rfl (fun t ht hW => jr_z hR rfl ht) jnil dX0_takesLongs_22
abbrev cX0_leavesLong : ByteArray := prog_1_method_5_code
def yX0_leavesLong : MethodName := ⟨RX0, "leavesLong", "(I)Z"⟩
theorem dX0_leavesLong_0 : decode cX0_leavesLong 0 = .ok (.aload_n 0, 1) := by decide +kernel
theorem dX0_leavesLong_1 : decode cX0_leavesLong 1 = .ok (.iload_n 1, 1) := by decide +kernel
theorem dX0_leavesLong_2 : decode cX0_leavesLong 2 = .ok (.invokevirtual 22, 3) := by decide +kernel
theorem dX0_leavesLong_5 : decode cX0_leavesLong 5 = .ok (.ifCond .le 16, 3) := by decide +kernel
theorem dX0_leavesLong_8 : decode cX0_leavesLong 8 = .ok (.iload_n 1, 1) := by decide +kernel
theorem dX0_leavesLong_9 : decode cX0_leavesLong 9 = .ok (.invokestatic 27, 3) := by decide +kernel
theorem dX0_leavesLong_12 : decode cX0_leavesLong 12 = .ok (.bipush 126, 2) := by decide +kernel
theorem dX0_leavesLong_14 : decode cX0_leavesLong 14 = .ok (.if_icmp .ne 7, 3) := by decide +kernel
theorem dX0_leavesLong_17 : decode cX0_leavesLong 17 = .ok (.iconst 1, 1) := by decide +kernel
theorem dX0_leavesLong_18 : decode cX0_leavesLong 18 = .ok (.goto 4, 3) := by decide +kernel
theorem dX0_leavesLong_21 : decode cX0_leavesLong 21 = .ok (.iconst 0, 1) := by decide +kernel
theorem dX0_leavesLong_22 : decode cX0_leavesLong 22 = .ok (.ireturn, 1) := by decide +kernel
set_option maxHeartbeats 4000000 in
set_option maxRecDepth 100000 in
theorem mt_X0_leavesLong (l : Launch) (h0 : Nat) (a0 : Int32) : Met l yX0_leavesLong (ws_ yX0_leavesLong cX0_leavesLong 2 (some .boolean)) ({ frames := 2, cells := 0, slots := 0, locals := 41 } : Room) (fun v U => v = ([.ref h0, .int a0] : List Value).toArray ∧ rc_ok RX0 h0 U) (QcRead (bi (g_X0_leavesLong a0))) 0 0 (fun _ => False) := by
  refine Met.ofW (cc := cX0_leavesLong) (maxL := 2) (ret := (some .boolean)) (by decide) rfl ?_
  intro p e s m args below meth c s₁ B hml hv
  obtain ⟨rfl, hrc⟩ := hv
  have hx := B.exec
  have hb := B.bytes
  have hr := B.returns
  have hts := atoms_spec (ws := (ws_ yX0_leavesLong cX0_leavesLong 2 (some .boolean))) B.pre
  have hts : ∀ w ∈ lw_all, w.before _ s = true := fun w h => hts w (List.mem_cons_of_mem _ h)
  have hown : s.vm.findClass RX0 = some m.cls := findClass_of_methodNamed B.named
  have hlocks := B.notSynchronized
  obtain ⟨R, hR⟩ : ∃ R, R = g_X0_leavesLong a0 := ⟨_, rfl⟩
  rw [← hR]
  have hl := lv_entry ([.ref h0, .int a0] : List Value) (n := 2) (Nat.le_of_ble_eq_true rfl)
  rw [lg_entry_eq]
  generalize (lg_sl ([.ref h0, .int a0] : List Value) ++ List.replicate (2 - (lg_sl ([.ref h0, .int a0] : List Value)).length) Slot.unset).toArray = ls at hl ⊢
  have hl : lv_has ls 2 [(0, .ref h0), (1, .int a0)] := hl
  unfold g_X0_leavesLong at hR
  refine lv_aload_n hx hb dX0_leavesLong_0 rfl (lv_at hl 0 rfl) ?_
  refine lv_iload_n hx hb dX0_leavesLong_1 rfl (lv_at hl 1 rfl) ?_
  refine jw_callI (W.runV (C := RX0) (b := h0) (As := [.int a0]) (rest := []) ⟨hx, hb, hml, hown, hts⟩ (mt_X0_takes l h0 a0) (cwV 1 hts (lw_V q34 q21 q22 q4 q23) rfl rfl rfl (by decide +kernel) ⟨Nat.le_of_ble_eq_true rfl, Nat.le_of_ble_eq_true rfl⟩) (preRc hrc) rfl rfl hl.1 rfl (lv_room (Nat.le_of_ble_eq_true rfl)) dX0_leavesLong_2 ⟨Nat.le_of_ble_eq_true rfl, Nat.le_of_ble_eq_true rfl⟩) ?_
  refine lv_if_le (tgt := 21) hx hb dX0_leavesLong_5 (by decide) (fun hc5 => ?_) (fun hc5 => ?_)
  · have hR := hR.trans (if_pos hc5)
    refine lv_iconst (v := 0) hx hb dX0_leavesLong_21 (by decide) ?_
    exact W.zret (v := 0) hx hb hr rfl (fun t ht hW => jr_z hR rfl ht) jnil dX0_leavesLong_22
  · have hR := hR.trans (if_neg hc5)
    refine lv_iload_n hx hb dX0_leavesLong_8 rfl (lv_at hl 1 rfl) ?_
    refine jw_callI (W.runS (As := [.int a0]) (rest := []) ⟨hx, hb, hml, hown, hts⟩ (mt_X2_leaves l a0) (va_cwS 1 hts (lw_S q42 q43 q6 q44) rfl rfl rfl (by decide +kernel) ⟨Nat.le_of_ble_eq_true rfl, Nat.le_of_ble_eq_true rfl⟩) preEq rfl rfl hl.1 rfl (lv_room (Nat.le_of_ble_eq_true rfl)) dX0_leavesLong_9 ⟨Nat.le_of_ble_eq_true rfl, Nat.le_of_ble_eq_true rfl⟩) ?_
    refine lv_bipush (v := 126) hx hb dX0_leavesLong_12 (by decide) ?_
    refine lv_icmp_ne (tgt := 21) hx hb dX0_leavesLong_14 (by decide) (fun hc14 => ?_) (fun hc14 => ?_)
    · have hR := hR.trans (if_neg hc14)
      refine lv_iconst (v := 0) hx hb dX0_leavesLong_21 (by decide) ?_
      exact W.zret (v := 0) hx hb hr rfl (fun t ht hW => jr_z hR rfl ht) jnil dX0_leavesLong_22
    · have hR := hR.trans (if_pos hc14)
      refine lv_iconst (v := 1) hx hb dX0_leavesLong_17 (by decide) ?_
      refine lv_goto (tgt := 22) hx hb dX0_leavesLong_18 (by decide) ?_
      exact W.zret (v := 1) hx hb hr rfl (fun t ht hW => jr_z hR rfl ht) jnil dX0_leavesLong_22
end
section
/-! longs as natural numbers below 2^64 -/
def un (x : Int64) : Nat := x.toUInt64.toNat
theorem un_lt (x : Int64) : un x < 18446744073709551616 := x.toUInt64.toNat_lt
theorem un_inj {x y : Int64} (h : un x = un y) : x = y := congrArg UInt64.toInt64 (UInt64.toNat_inj.mp h)
theorem un_add (x y : Int64) : un (x + y) = (un x + un y) % 18446744073709551616 := by
  show (x.toUInt64 + y.toUInt64).toNat = _
  exact UInt64.toNat_add _ _
theorem un_sub (x y : Int64) : un (x - y) = (18446744073709551616 - un y + un x) % 18446744073709551616 := by
  show (x.toUInt64 - y.toUInt64).toNat = _
  exact UInt64.toNat_sub _ _
theorem un_neg (x : Int64) : un (-x) = (18446744073709551616 - un x) % 18446744073709551616 := by
  show (-x.toBitVec).toNat = _
  rw [BitVec.toNat_neg]
  rfl
theorem un_mul (x y : Int64) : un (x * y) = (un x * un y) % 18446744073709551616 := by
  show (x.toUInt64 * y.toUInt64).toNat = _
  exact UInt64.toNat_mul _ _
theorem un_and (x y : Int64) : un (x &&& y) = un x &&& un y := by
  show (x.toUInt64 &&& y.toUInt64).toNat = _
  exact UInt64.toNat_and _ _
theorem un_or (x y : Int64) : un (x ||| y) = un x ||| un y := by
  show (x.toUInt64 ||| y.toUInt64).toNat = _
  exact UInt64.toNat_or _ _
theorem un_xor (x y : Int64) : un (x ^^^ y) = un x ^^^ un y := by
  show (x.toUInt64 ^^^ y.toUInt64).toNat = _
  exact UInt64.toNat_xor _ _
theorem un_0 : un 0 = 0 := by decide
theorem un_1 : un 1 = 1 := by decide
theorem un_lN {n : Nat} (h : n < 18446744073709551616) : un (lN n) = n := by
  show (BitVec.ofNat 64 n).toNat = n
  rw [BitVec.toNat_ofNat]
  exact Nat.mod_eq_of_lt h
theorem lN_un (x : Int64) : lN (un x) = x := un_inj (un_lN (un_lt x))
theorem un_int (x : Int64) : x.toInt = if 2 * un x < 18446744073709551616 then (un x : Int) else (un x : Int) - 18446744073709551616 := BitVec.toInt_eq_toNat_cond _
theorem un_z (x : Int64) : x = 0 ↔ un x = 0 := ⟨fun h => by rw [h]; exact un_0, fun h => un_inj (by rw [h]; exact un_0.symm)⟩
theorem un_and1 (x : Int64) : un (x &&& 1) = un x % 2 := by
  rw [un_and, un_1]
  exact Nat.and_two_pow_sub_one_eq_mod _ 1
theorem un_lo (x : Int64) : un (x &&& 4294967295) = un x % 4294967296 := by
  rw [un_and]
  exact Nat.and_two_pow_sub_one_eq_mod _ 32
/-! shifts by a small number -/
theorem sh_u : ∀ k, k < 64 → ((nI k).toInt64.toUInt64 &&& Int64.toUInt64 63).toNat % 64 = k := by decide +kernel
theorem sh_s : ∀ k, k < 64 → (((nI k).toInt64 &&& 63).toBitVec.smod 64).toNat = k := by decide +kernel
theorem un_lushr (x : Int64) {k : Nat} (hk : k < 64) : un (j_lushr x (nI k)) = un x / 2 ^ k := by
  unfold j_lushr
  show (x.toUInt64 >>> ((nI k).toInt64.toUInt64 &&& Int64.toUInt64 63)).toNat = _
  rw [UInt64.toNat_shiftRight, Nat.shiftRight_eq_div_pow, sh_u k hk]
  rfl
theorem un_lshl (x : Int64) {k : Nat} (hk : k < 64) : un (j_lshl x (nI k)) = un x * 2 ^ k % 18446744073709551616 := by
  unfold j_lshl
  show (x.toBitVec <<< (((nI k).toInt64 &&& 63).toBitVec.smod 64).toNat).toNat = _
  rw [sh_s k hk, BitVec.toNat_shiftLeft, Nat.shiftLeft_eq]
  rfl
theorem bv_lshr (x : Int64) {k : Nat} (hk : k < 64) : (j_lshr x (nI k)).toBitVec = x.toBitVec.sshiftRight k := by
  unfold j_lshr
  show x.toBitVec.sshiftRight (((nI k).toInt64 &&& 63).toBitVec.smod 64).toNat = _
  rw [sh_s k hk]
theorem ti_lshr (x : Int64) {k : Nat} (hk : k < 64) : (j_lshr x (nI k)).toInt = x.toInt / 2 ^ k := by
  show (j_lshr x (nI k)).toBitVec.toInt = _
  rw [bv_lshr x hk, BitVec.toInt_sshiftRight, Int.shiftRight_eq_div_pow]
  rfl
theorem lshr_bit (x : Int64) {k : Nat} (hk : k < 64) : un (j_lshr x (nI k) &&& 1) = ((un x).testBit k).toNat := by
  rw [un_and1]
  have h : (j_lshr x (nI k)).toBitVec.getLsbD 0 = (un x).testBit k := by
    rw [bv_lshr x hk, BitVec.getLsbD_sshiftRight]
    simp [hk]
    rfl
  have h2 : (j_lshr x (nI k)).toBitVec.getLsbD 0 = decide (un (j_lshr x (nI k)) % 2 = 1) := by
    show (un (j_lshr x (nI k))).testBit 0 = _
    rw [Nat.testBit_zero]
  rw [h] at h2
  rw [h2]
  by_cases e : un (j_lshr x (nI k)) % 2 = 1
  · simp [e]
  · have : un (j_lshr x (nI k)) % 2 = 0 := by omega
    simp [this]
theorem lshr_z (x : Int64) {k : Nat} (hk : k < 64) : (j_lshr x (nI k) &&& 1) = 0 ↔ (un x).testBit k = false := by
  rw [un_z, lshr_bit x hk]
  cases (un x).testBit k <;> decide
/-! the reference's words: one bit, the lowest bits, the sign -/
theorem isSet_bit (x : Int64) {k : Nat} (hk : k < 64) : g_X1_isSet x (nI k) = (un x).testBit k := by
  unfold g_X1_isSet
  simp only [lg_cmp_eq]
  have h : un (j_lushr x (nI k) &&& 1) = un x / 2 ^ k % 2 := by rw [un_and1, un_lushr x hk]
  rw [Nat.testBit_eq_decide_div_mod_eq]
  by_cases e : un x / 2 ^ k % 2 = 1
  · rw [if_pos (un_inj (by rw [h, e]; exact un_1.symm)), decide_eq_true e]
  · rw [if_neg (fun z => e (by rw [← h, z]; exact un_1)), decide_eq_false e]
theorem p2_lt {k : Nat} (hk : k < 64) : 2 ^ k < 18446744073709551616 := Nat.pow_lt_pow_right (a := 2) (by decide) hk
theorem cut_64 (x : Int64) : g_X1_cut x 64 = x := rfl
theorem cut_un (x : Int64) {k : Nat} (hk : k < 64) : un (g_X1_cut x (nI k)) = un x % 2 ^ k := by
  unfold g_X1_cut
  have h64 : ¬ nI k = 64 := by
    intro e
    have e2 : nI k = nI 64 := e
    rw [nI_eq (by omega) (by omega)] at e2
    omega
  have hp := p2_lt hk
  have hq : 0 < 2 ^ k := Nat.two_pow_pos k
  rw [if_neg h64, un_and]
  have h1 : un (j_lshl 1 (nI k) - 1) = 2 ^ k - 1 := by
    rw [un_sub, un_lshl 1 hk, un_1, Nat.one_mul, Nat.mod_eq_of_lt hp]
    omega
  rw [h1, Nat.and_two_pow_sub_one_eq_mod]
theorem signed_64 (x : Int64) : g_X1_signed x 64 = x := rfl
theorem signed_un (x : Int64) {k : Nat} (hk : k + 1 < 64) : un (g_X1_signed x (nI (k + 1))) = if un x % 2 ^ (k + 1) < 2 ^ k then un x % 2 ^ (k + 1) else un x % 2 ^ (k + 1) + (18446744073709551616 - 2 ^ (k + 1)) := by
  unfold g_X1_signed
  have h64 : ¬ nI (k + 1) = 64 := by
    intro e
    have e2 : nI (k + 1) = nI 64 := e
    rw [nI_eq (by omega) (by omega)] at e2
    omega
  have hp := p2_lt hk
  have hp63 : 2 ^ (k + 1) ≤ 9223372036854775808 := Nat.pow_le_pow_right (n := 2) (by decide) (show k + 1 ≤ 63 by omega)
  have hq : 0 < 2 ^ k := Nat.two_pow_pos k
  have hs : 2 ^ (k + 1) = 2 * 2 ^ k := by rw [Nat.pow_succ]; omega
  rw [if_neg h64, nI_pred]
  simp only [lg_cmp_eq]
  have hc : un (g_X1_cut x (nI (k + 1))) = un x % 2 ^ (k + 1) := cut_un x hk
  generalize g_X1_cut x (nI (k + 1)) = y at hc ⊢
  have hu : un x % 2 ^ (k + 1) < 2 ^ (k + 1) := Nat.mod_lt _ (by omega)
  rw [← hc] at hu ⊢
  have ht : (j_lshr y (nI k)).toInt = ((un y / 2 ^ k : Nat) : Int) := by
    rw [ti_lshr y (by omega), un_int, if_pos (by omega)]
    simp
  by_cases e : un y < 2 ^ k
  · rw [if_pos e, if_neg]
    intro z
    rw [z, Nat.div_eq_of_lt e] at ht
    exact absurd ht (by decide)
  · have hd : un y / 2 ^ k = 1 := by
      apply Nat.div_eq_of_lt_le <;> omega
    rw [if_neg e, if_pos (Int64.toInt_inj.mp (by rw [ht, hd]; rfl)), un_sub, un_lshl 1 (show k + 1 < 64 from hk), un_1, Nat.one_mul, Nat.mod_eq_of_lt hp]
    omega
/-! ints within longs -/
def u3 (x : Int32) : Nat := x.toUInt32.toNat
theorem u3_lt (x : Int32) : u3 x < 4294967296 := x.toUInt32.toNat_lt
theorem u3_inj {x y : Int32} (h : u3 x = u3 y) : x = y := congrArg UInt32.toInt32 (UInt32.toNat_inj.mp h)
theorem u3_int (x : Int32) : x.toInt = if 2 * u3 x < 4294967296 then (u3 x : Int) else (u3 x : Int) - 4294967296 := BitVec.toInt_eq_toNat_cond _
theorem u3_nI {n : Nat} (h : n < 4294967296) : u3 (nI n) = n := by
  show (BitVec.ofNat 32 n).toNat = n
  rw [BitVec.toNat_ofNat]
  exact Nat.mod_eq_of_lt h
theorem u3_l2i (x : Int64) : u3 x.toInt32 = un x % 4294967296 := by
  show (x.toBitVec.signExtend 32).toNat = _
  rw [BitVec.signExtend_eq_setWidth_of_le _ (by decide), BitVec.toNat_setWidth]
  rfl
theorem un_i2l (x : Int32) : un x.toInt64 = if u3 x < 2147483648 then u3 x else u3 x + 18446744069414584320 := by
  have h1 := Int32.toInt_toInt64 x
  rw [un_int, u3_int] at h1
  have h2 := un_lt x.toInt64
  have h3 := u3_lt x
  by_cases e : u3 x < 2147483648
  · rw [if_pos e]
    rw [if_pos (show 2 * u3 x < 4294967296 by omega)] at h1
    split at h1 <;> omega
  · rw [if_neg e]
    rw [if_neg (show ¬ 2 * u3 x < 4294967296 by omega)] at h1
    split at h1 <;> omega
theorem l2i_i2l (x : Int32) : x.toInt64.toInt32 = x := by
  apply u3_inj
  rw [u3_l2i, un_i2l]
  have h3 := u3_lt x
  split <;> omega
theorem signed_32 (x : Int64) : g_X1_signed x 32 = x.toInt32.toInt64 := by
  apply un_inj
  have h : un (g_X1_signed x 32) = _ := signed_un x (k := 31) (by decide)
  rw [h, un_i2l, u3_l2i]
theorem signed_un8 (x : Int64) : un (g_X1_signed x 8) = if un x % 256 < 128 then un x % 256 else un x % 256 + 18446744073709551360 := signed_un x (k := 7) (by decide)
theorem signed_un16 (x : Int64) : un (g_X1_signed x 16) = if un x % 65536 < 32768 then un x % 65536 else un x % 65536 + 18446744073709486080 := signed_un x (k := 15) (by decide)
theorem cut_32 (x : Int64) : un (g_X1_cut x 32) = un x % 4294967296 := cut_un x (k := 32) (by decide)
theorem cut_l2i (x : Int64) : (g_X1_cut x 32).toInt32 = x.toInt32 := by
  apply u3_inj
  rw [u3_l2i, u3_l2i, cut_32]
  omega
end
section
/-! the loops over bits -/
theorem mod_step (x k : Nat) : x % 2 ^ (k + 1) = x % 2 ^ k + 2 ^ k * (x.testBit k).toNat := by
  rw [Nat.mod_pow_succ, Nat.testBit_eq_decide_div_mod_eq]
  rcases Nat.mod_two_eq_zero_or_one (x / 2 ^ k) with h | h
  · rw [h]; simp
  · rw [h]; simp
theorem below_loop (x y : Int64) : ∀ (k : Nat), k ≤ 64 → ∀ n, k < n → g_X1_isBelow_4 x y n (nI k + (-1)) = decide (un x % 2 ^ k < un y % 2 ^ k) := by
  intro k
  induction k with
  | zero =>
    intro _ n hn
    obtain ⟨n, rfl⟩ : ∃ j, n = j + 1 := ⟨n - 1, by omega⟩
    rw [g_X1_isBelow_4, if_pos (by decide)]
    simp [Nat.mod_one]
  | succ k ih =>
    intro hk n hn
    obtain ⟨n, rfl⟩ : ∃ j, n = j + 1 := ⟨n - 1, by omega⟩
    rw [pk_m1, g_X1_isBelow_4, if_neg (nI_pos (by omega)), isSet_bit x (by omega), isSet_bit y (by omega), ih (by omega) n (by omega), mod_step, mod_step]
    simp only [bi_inj]
    have h1 : un x % 2 ^ k < 2 ^ k := Nat.mod_lt _ (Nat.two_pow_pos k)
    have h2 : un y % 2 ^ k < 2 ^ k := Nat.mod_lt _ (Nat.two_pow_pos k)
    generalize 2 ^ k = p at h1 h2 ⊢
    generalize un x % p = a at h1 ⊢
    generalize un y % p = b at h2 ⊢
    cases (un x).testBit k <;> cases (un y).testBit k <;> simp <;> omega
theorem below_un (x y : Int64) : g_X1_isBelow x y = decide (un x < un y) := by
  have h := below_loop x y 64 (by decide) (((63 : Int32).toInt + 1).toNat + 1) (by decide)
  have h2 : nI 64 + (-1) = 63 := by decide
  rw [h2] at h
  have h3 : (2 : Nat) ^ 64 = 18446744073709551616 := by decide
  rw [h3, Nat.mod_eq_of_lt (un_lt x), Nat.mod_eq_of_lt (un_lt y)] at h
  exact h
/-- the same bits below b -/
def same (b : Nat) (x y : Int64) : Prop := ∀ j, j < b → (un x).testBit j = (un y).testBit j
theorem lead_loop {x y : Int64} {b : Nat} (hb : b ≤ 64) (h : same b x y) : ∀ (n k : Nat), k ≤ b → g_X2_leading_2 x (nI b) n (nI k) = (g_X1_zeros_3 y (nI b) 1 n (nI k)).toInt64 := by
  intro n
  induction n with
  | zero => intro k _; rw [g_X2_leading_2, g_X1_zeros_3]; decide
  | succ n ih =>
    intro k hk
    rw [g_X2_leading_2, g_X1_zeros_3]
    rcases Nat.lt_or_ge k b with q | q
    · have e1 : nI b - 1 - nI k = nI (b - 1 - k) := by
        obtain ⟨c, rfl⟩ : ∃ c, b = c + 1 := ⟨b - 1, by omega⟩
        rw [nI_pred, pk_sub (by omega)]
        rfl
      rw [if_neg (nI_ge q (by omega)), if_neg (nI_ge q (by omega)), e1]
      rw [if_neg (show ¬ (1 : Int32) = 0 by decide)]
      simp only [lg_cmp_eq, lshr_z x (show b - 1 - k < 64 by omega), isSet_bit y (show b - 1 - k < 64 by omega), bi_0]
      rw [h (b - 1 - k) (by omega), nI_1, ih (k + 1) (by omega)]
      split <;> rfl
    · rw [if_pos (nI_le q (by omega)), if_pos (nI_le q (by omega))]
theorem lead_eq {x y : Int64} {b : Nat} (hb : b ≤ 64) (h : same b x y) : g_X2_leading x (nI b) = (g_X1_zeros y (nI b) 1).toInt64 := lead_loop hb h _ 0 (Nat.zero_le _)
theorem trail_loop {x y : Int64} {b : Nat} (hb : b ≤ 64) (h : same b x y) : ∀ (n k : Nat), k ≤ b → g_X2_trailing_2 x (nI b) n (nI k) = (g_X1_zeros_3 y (nI b) 0 n (nI k)).toInt64 := by
  intro n
  induction n with
  | zero => intro k _; rw [g_X2_trailing_2, g_X1_zeros_3]; decide
  | succ n ih =>
    intro k hk
    rw [g_X2_trailing_2, g_X1_zeros_3]
    rcases Nat.lt_or_ge k b with q | q
    · rw [if_neg (nI_ge q (by omega)), if_neg (nI_ge q (by omega))]
      rw [if_pos (show (0 : Int32) = 0 from rfl)]
      simp only [lg_cmp_eq, lshr_z x (show k < 64 by omega), isSet_bit y (show k < 64 by omega), bi_0]
      rw [h k q, nI_1, ih (k + 1) (by omega)]
      split <;> rfl
    · rw [if_pos (nI_le q (by omega)), if_pos (nI_le q (by omega))]
theorem trail_eq {x y : Int64} {b : Nat} (hb : b ≤ 64) (h : same b x y) : g_X2_trailing x (nI b) = (g_X1_zeros y (nI b) 0).toInt64 := trail_loop hb h _ 0 (Nat.zero_le _)
theorem lshr_i (x : Int64) {k : Nat} (hk : k < 64) : (j_lshr x (nI k) &&& 1).toInt32 = bi ((un x).testBit k) := by
  apply u3_inj
  rw [u3_l2i, lshr_bit x hk]
  cases (un x).testBit k <;> decide
theorem ones_loop {x y : Int64} {b : Nat} (hb : b ≤ 64) (h : same b x y) : ∀ (n k : Nat) (s : Int32), k ≤ b → g_X2_ones_5 x (nI b) n s (nI k) = (g_X1_ones_5 y (nI b) n s (nI k)).toInt64 := by
  intro n
  induction n with
  | zero => intro k s _; rw [g_X2_ones_5, g_X1_ones_5]; decide
  | succ n ih =>
    intro k s hk
    rw [g_X2_ones_5, g_X1_ones_5]
    rcases Nat.lt_or_ge k b with q | q
    · rw [if_neg (nI_ge q (by omega)), if_neg (nI_ge q (by omega)), lshr_i x (show k < 64 by omega), isSet_bit y (show k < 64 by omega), nI_1, ih (k + 1) _ (by omega), h k q]
      cases (un y).testBit k
      · rw [if_pos (by decide), show bi false = 0 from rfl, Int32.add_zero]
      · rw [if_neg (by decide), show bi true = 1 from rfl]
    · rw [if_pos (nI_le q (by omega)), if_pos (nI_le q (by omega))]
theorem ones_eq {x y : Int64} {b : Nat} (hb : b ≤ 64) (h : same b x y) : g_X2_ones x (nI b) = (g_X1_ones y (nI b)).toInt64 := ones_loop hb h _ 0 0 (Nat.zero_le _)
theorem same_rf (b : Nat) (x : Int64) : same b x x := fun _ _ => rfl
theorem tb_mod {x k b : Nat} (h : k < b) : (x % 2 ^ b).testBit k = x.testBit k := by
  rw [Nat.testBit_mod_two_pow, decide_eq_true h, Bool.true_and]
theorem same_of {b : Nat} {x y : Int64} (h : un x % 2 ^ b = un y % 2 ^ b) : same b x y := fun j hj => by rw [← tb_mod hj, h, tb_mod hj]
theorem same_32 (a : Int64) : same 32 a.toInt32.toInt64 (g_X1_cut a 32) := by
  apply same_of
  rw [cut_32, un_i2l, u3_l2i]
  have h := un_lt a
  split <;> omega
/-! the product -/
theorem prod_loop (x y : Int64) {b : Nat} (hb : b ≤ 64) : ∀ (n k : Nat) (s : Int64), k ≤ b → b - k < n → un (g_X1_product_6 x y (nI b) n s (nI k)) = (un s + un x * (2 ^ k * ((un y % 2 ^ b) / 2 ^ k))) % 18446744073709551616 := by
  intro n
  induction n with
  | zero => intro k s _ h; exact absurd h (Nat.not_lt_zero _)
  | succ n ih =>
    intro k s hk hn
    rw [g_X1_product_6]
    rcases Nat.lt_or_ge k b with q | q
    · rw [if_neg (nI_ge q (by omega)), isSet_bit y (show k < 64 by omega), nI_1]
      have e1 : 2 ^ k * ((un y % 2 ^ b) / 2 ^ k) = 2 ^ (k + 1) * ((un y % 2 ^ b) / 2 ^ (k + 1)) + 2 ^ k * ((un y).testBit k).toNat := by
        have e2 := Nat.div_add_mod (un y % 2 ^ b) (2 ^ k)
        have e3 := Nat.div_add_mod (un y % 2 ^ b) (2 ^ (k + 1))
        rw [mod_step, tb_mod q] at e3
        omega
      rw [e1, Nat.mul_add]
      cases (un y).testBit k
      · rw [if_pos (by decide), ih (k + 1) _ (by omega) (by omega)]
        simp
      · rw [if_neg (by decide), ih (k + 1) _ (by omega) (by omega), un_add, un_lshl x (show k < 64 by omega)]
        simp only [Bool.toNat_true, Nat.mul_one]
        generalize un x * 2 ^ k = P
        generalize un x * (2 ^ (k + 1) * (un y % 2 ^ b / 2 ^ (k + 1))) = T
        omega
    · have hkb : k = b := by omega
      subst hkb
      rw [if_pos (nI_le (Nat.le_refl _) (by omega)), Nat.div_eq_of_lt (Nat.mod_lt _ (Nat.two_pow_pos k)), Nat.mul_zero, Nat.mul_zero, Nat.add_zero, Nat.mod_eq_of_lt (un_lt s)]
theorem prod_un (x y : Int64) {b : Nat} (hb : b ≤ 64) : un (g_X1_product x y (nI b)) = (un x * (un y % 2 ^ b)) % 18446744073709551616 := by
  have e0 : (nI b).toInt = (b : Int) := nI_toInt (by omega)
  have h := prod_loop x y hb (((nI b).toInt - (0 : Int32).toInt).toNat + 1) 0 0 (Nat.zero_le _) (by
    rw [e0]
    have : (0 : Int32).toInt = 0 := by decide
    omega)
  rw [un_0, Nat.zero_add, Nat.pow_zero, Nat.one_mul, Nat.div_one] at h
  exact h
theorem prod_64 (x y : Int64) : g_X1_product x y 64 = x * y := by
  apply un_inj
  have h : un (g_X1_product x y 64) = _ := prod_un x y (b := 64) (by decide)
  rw [h, un_mul]
  have h3 : (2 : Nat) ^ 64 = 18446744073709551616 := by decide
  rw [h3, Nat.mod_eq_of_lt (un_lt y)]
theorem prod_32 (x y : Int64) (hy : un y < 4294967296) : g_X1_product x y 32 = x * y := by
  apply un_inj
  have h : un (g_X1_product x y 32) = _ := prod_un x y (b := 32) (by decide)
  rw [h, un_mul]
  have h3 : (2 : Nat) ^ 32 = 4294967296 := by decide
  rw [h3, Nat.mod_eq_of_lt hy]
end
section
/-! turning by places -/
def rl (b j v : Nat) : Nat := (v % 2 ^ (b - j)) * 2 ^ j + v / 2 ^ (b - j)
theorem rl_step {b j v : Nat} (hj : j < b) (hv : v < 2 ^ b) : rl b (j + 1) v = rl b j ((2 * v) % 2 ^ b + v / 2 ^ (b - 1)) := by
  obtain ⟨i, rfl⟩ : ∃ i, b = j + 1 + i := ⟨b - (j + 1), by omega⟩
  have e1 : j + 1 + i - (j + 1) = i := by omega
  have e2 : j + 1 + i - j = i + 1 := by omega
  have e3 : j + 1 + i - 1 = j + i := by omega
  unfold rl
  rw [e1, e2, e3]
  have h1 : 2 ^ (j + 1 + i) = 2 * (2 ^ j * 2 ^ i) := by rw [Nat.pow_add, Nat.pow_succ, Nat.mul_comm (2 ^ j) 2, Nat.mul_assoc]
  have h2 : 2 ^ (j + i) = 2 ^ j * 2 ^ i := Nat.pow_add _ _ _
  have h3 : 2 ^ (i + 1) = 2 * 2 ^ i := by rw [Nat.pow_succ, Nat.mul_comm]
  have h4 : 2 ^ (j + 1) = 2 * 2 ^ j := by rw [Nat.pow_succ, Nat.mul_comm]
  have hp : 0 < 2 ^ j := Nat.two_pow_pos j
  have hr : 0 < 2 ^ i := Nat.two_pow_pos i
  rw [h1] at hv
  rw [h1, h2, h3, h4]
  generalize 2 ^ j = p at hp hv ⊢
  generalize 2 ^ i = r at hr hv ⊢
  have hv1 := Nat.div_add_mod v (p * r)
  have hw : v % (p * r) < p * r := Nat.mod_lt _ (Nat.mul_pos hp hr)
  have hhi : v / (p * r) < 2 := Nat.div_lt_of_lt_mul (by rw [Nat.mul_comm]; exact hv)
  have e5 : 2 * v % (2 * (p * r)) = 2 * (v % (p * r)) := Nat.mul_mod_mul_left _ _ _
  rw [e5]
  generalize v / (p * r) = hi at hv1 hhi ⊢
  generalize v % (p * r) = w at hv1 hw ⊢
  have hw1 := Nat.div_add_mod w r
  have hb : w % r < r := Nat.mod_lt _ hr
  generalize w / r = a at hw1 ⊢
  generalize w % r = c at hw1 hb ⊢
  have q1 : v = c + (hi * p + a) * r := by
    rw [← hv1, ← hw1, Nat.add_mul, Nat.mul_comm (p * r) hi, Nat.mul_assoc hi p r, Nat.mul_comm r a]
    omega
  have q2 : 2 * w + hi = (2 * c + hi) + a * (2 * r) := by
    rw [← hw1, Nat.mul_add, Nat.mul_comm r a, Nat.mul_left_comm a 2 r]
    omega
  rw [q2, q1, Nat.add_mul_mod_self_right, Nat.add_mul_div_right _ _ hr, Nat.add_mul_mod_self_right, Nat.add_mul_div_right _ _ (by omega), Nat.mod_eq_of_lt hb, Nat.div_eq_of_lt hb, Nat.mod_eq_of_lt (show 2 * c + hi < 2 * r by omega), Nat.div_eq_of_lt (show 2 * c + hi < 2 * r by omega), Nat.add_mul, Nat.mul_left_comm c 2 p, Nat.mul_assoc 2 c p]
  omega
theorem rl_0 {b v : Nat} (hv : v < 2 ^ b) : rl b 0 v = v := by
  unfold rl
  rw [Nat.sub_zero, Nat.mod_eq_of_lt hv, Nat.div_eq_of_lt hv, Nat.pow_zero]
  omega
theorem rl_b (b v : Nat) : rl b b v = v := by
  unfold rl
  rw [Nat.sub_self, Nat.pow_zero, Nat.mod_one, Nat.div_one, Nat.zero_mul, Nat.zero_add]
theorem cut_all (x : Int64) {k : Nat} (hk : k ≤ 64) : un (g_X1_cut x (nI k)) = un x % 2 ^ k := by
  rcases Nat.lt_or_ge k 64 with q | q
  · exact cut_un x q
  · have e : k = 64 := by omega
    subst e
    have h : g_X1_cut x (nI 64) = x := cut_64 x
    rw [h]
    exact (Nat.mod_eq_of_lt (un_lt x)).symm
theorem or_bit {x z : Int64} (hx : un x % 2 = 0) (hz : un z < 2) : un (x ||| z) = un x + un z := by
  rw [un_or]
  have h2 : un x = 2 ^ 1 * (un x / 2) := by omega
  rw [h2]
  exact (Nat.two_pow_add_eq_or_of_lt (i := 1) hz _).symm
theorem turn_val (v : Int64) {c : Nat} (hb : c + 1 ≤ 64) (hv : un v < 2 ^ (c + 1)) (z : Int64) (hz : un z = ((un v).testBit c).toNat) : un (g_X1_cut (j_lshl v 1) (nI (c + 1)) ||| z) = (2 * un v) % 2 ^ (c + 1) + un v / 2 ^ c := by
  have e1 : un (j_lshl v 1) = un v * 2 ^ 1 % 18446744073709551616 := un_lshl v (k := 1) (by decide)
  have hp : 2 ^ (c + 1) = 2 * 2 ^ c := by rw [Nat.pow_succ, Nat.mul_comm]
  have hc : un (g_X1_cut (j_lshl v 1) (nI (c + 1))) = (2 * un v) % 2 ^ (c + 1) := by
    rw [cut_all _ hb, e1]
    have hd : 2 ^ (c + 1) ∣ 18446744073709551616 := Nat.pow_dvd_pow 2 hb
    rw [Nat.mod_mod_of_dvd _ hd, Nat.pow_one, Nat.mul_comm]
  have ht : ((un v).testBit c).toNat = un v / 2 ^ c := by
    rw [Nat.testBit_eq_decide_div_mod_eq]
    have h2 : un v / 2 ^ c < 2 := Nat.div_lt_of_lt_mul (by rw [Nat.mul_comm, ← hp]; exact hv)
    generalize un v / 2 ^ c = q at h2 ⊢
    rcases (show q = 0 ∨ q = 1 by omega) with e | e <;> rw [e] <;> rfl
  rw [or_bit, hc, hz, ht]
  · rw [hc, hp, Nat.mul_mod_mul_left]
    exact Nat.mul_mod_right 2 _
  · rw [hz]
    cases (un v).testBit c <;> decide
theorem turn_lt {v c : Nat} (hv : v < 2 ^ (c + 1)) : (2 * v) % 2 ^ (c + 1) + v / 2 ^ c < 2 ^ (c + 1) := by
  have hp : 2 ^ (c + 1) = 2 * 2 ^ c := by rw [Nat.pow_succ, Nat.mul_comm]
  have h2 : v / 2 ^ c < 2 := Nat.div_lt_of_lt_mul (by rw [Nat.mul_comm, ← hp]; exact hv)
  have h3 : 0 < 2 ^ c := Nat.two_pow_pos c
  rw [hp, Nat.mul_mod_mul_left]
  have h4 : v % 2 ^ c < 2 ^ c := Nat.mod_lt _ h3
  omega
theorem turn_loop (x0 : Int64) {c K : Nat} (hb : c + 1 ≤ 64) (hK : K ≤ c + 1) : ∀ (n k : Nat) (v : Int64), k ≤ K → K - k < n → un v < 2 ^ (c + 1) → un (g_X1_turned_6 x0 (nI K) (nI (c + 1)) n v (nI k)) = rl (c + 1) (K - k) (un v) := by
  intro n
  induction n with
  | zero => intro k v _ h; exact absurd h (Nat.not_lt_zero _)
  | succ n ih =>
    intro k v hk hn hv
    rw [g_X1_turned_6]
    rcases Nat.lt_or_ge k K with q | q
    · rw [if_neg (nI_ge q (by omega)), nI_pred, isSet_bit v (show c < 64 by omega), nI_1]
      have e1 : K - k = (K - (k + 1)) + 1 := by omega
      have e2 : rl (c + 1) (K - k) (un v) = rl (c + 1) (K - (k + 1)) ((2 * un v) % 2 ^ (c + 1) + un v / 2 ^ c) := by
        rw [e1]
        exact rl_step (by omega) hv
      rw [e2]
      have hlt := turn_lt hv
      cases hB : (un v).testBit c
      · rw [if_pos (by decide)]
        have hz := turn_val v hb hv ((0 : Int32).toInt64) (by rw [hB]; decide)
        rw [ih (k + 1) _ (by omega) (by omega) (by rw [hz]; exact hlt), hz]
      · rw [if_neg (by decide)]
        have hz := turn_val v hb hv ((1 : Int32).toInt64) (by rw [hB]; decide)
        rw [ih (k + 1) _ (by omega) (by omega) (by rw [hz]; exact hlt), hz]
    · have hkb : k = K := by omega
      subst hkb
      rw [if_pos (nI_le (Nat.le_refl _) (by omega)), Nat.sub_self, rl_0 hv]
theorem turn_un (v : Int64) {c K : Nat} (hb : c + 1 ≤ 64) (hK : K ≤ c + 1) (hv : un v < 2 ^ (c + 1)) : un (g_X1_turned v (nI K) (nI (c + 1))) = rl (c + 1) K (un v) := by
  have e0 : (nI K).toInt = (K : Int) := nI_toInt (by omega)
  exact turn_loop v hb hK (((nI K).toInt - (0 : Int32).toInt).toNat + 1) 0 v (Nat.zero_le _) (by
    rw [e0]
    have : (0 : Int32).toInt = 0 := by decide
    omega) hv
/-! the class: two shifts and an 'or' -/
theorem rl_or {b k a : Nat} (hk : k ≤ b) (ha : a < 2 ^ b) : (a * 2 ^ k % 2 ^ b) ||| (a / 2 ^ (b - k)) = rl b k a := by
  have h1 : 2 ^ b = 2 ^ (b - k) * 2 ^ k := by rw [← Nat.pow_add]; congr 1; omega
  unfold rl
  have hq : a / 2 ^ (b - k) < 2 ^ k := Nat.div_lt_of_lt_mul (by rw [← h1]; exact ha)
  rw [h1, Nat.mul_mod_mul_right, Nat.mul_comm (a % 2 ^ (b - k)) (2 ^ k)]
  exact (Nat.two_pow_add_eq_or_of_lt hq _).symm
theorem by_64 (b : Int64) : (b.toInt32 &&& 63) = nI (un b % 64) := by
  rw [pk_and b.toInt32 6 (by decide)]
  congr 1
  have h : b.toInt32.toBitVec.toNat = un b % 4294967296 := u3_l2i b
  rw [h]
  omega
theorem rest_64 : ∀ k, k < 64 → ((64 - nI k) &&& 63 : Int32) = nI ((64 - k) % 64) := by decide +kernel
theorem by_m64 (b : Int64) : (b &&& ((64 - 1 : Int32)).toInt64).toInt32 = nI (un b % 64) := by
  apply u3_inj
  rw [u3_l2i, un_and, u3_nI (by omega)]
  have h : un ((64 - 1 : Int32)).toInt64 = 2 ^ 6 - 1 := by decide
  rw [h, Nat.and_two_pow_sub_one_eq_mod]
  omega
theorem by_m32 (b : Int64) : (b &&& ((32 - 1 : Int32)).toInt64).toInt32 = nI (un b % 32) := by
  apply u3_inj
  rw [u3_l2i, un_and, u3_nI (by omega)]
  have h : un ((32 - 1 : Int32)).toInt64 = 2 ^ 5 - 1 := by decide
  rw [h, Nat.and_two_pow_sub_one_eq_mod]
  omega
theorem rotl_64 (a : Int64) {k : Nat} (hk : k < 64) : un (j_lshl a (nI k) ||| j_lushr a ((64 - nI k) &&& 63)) = rl 64 k (un a) := by
  rw [rest_64 k hk, un_or, un_lshl a hk, un_lushr a (show (64 - k) % 64 < 64 by omega)]
  have ha : un a < 2 ^ 64 := un_lt a
  rcases Nat.eq_zero_or_pos k with e | e
  · subst e
    rw [rl_0 ha]
    simp only [Nat.pow_zero, Nat.mul_one, Nat.sub_zero, Nat.mod_self, Nat.div_one]
    rw [Nat.mod_eq_of_lt (un_lt a), Nat.or_self]
  · rw [Nat.mod_eq_of_lt (show 64 - k < 64 by omega)]
    exact rl_or (b := 64) (by omega) ha
theorem rotr_64 (a : Int64) {k : Nat} (hk : k < 64) : un (j_lushr a (nI k) ||| j_lshl a ((64 - nI k) &&& 63)) = rl 64 (64 - k) (un a) := by
  rw [rest_64 k hk, un_or, un_lshl a (show (64 - k) % 64 < 64 by omega), un_lushr a hk]
  have ha : un a < 2 ^ 64 := un_lt a
  rcases Nat.eq_zero_or_pos k with e | e
  · subst e
    rw [Nat.sub_zero, rl_b]
    simp only [Nat.pow_zero, Nat.mul_one, Nat.mod_self, Nat.div_one]
    rw [Nat.mod_eq_of_lt (un_lt a), Nat.or_self]
  · rw [Nat.mod_eq_of_lt (show 64 - k < 64 by omega), Nat.or_comm]
    have h := rl_or (b := 64) (k := 64 - k) (by omega) ha
    rw [show 64 - (64 - k) = k by omega] at h
    exact h
/-! the same for ints -/
theorem u3_and (x y : Int32) : u3 (x &&& y) = u3 x &&& u3 y := by
  show (x.toUInt32 &&& y.toUInt32).toNat = _
  exact UInt32.toNat_and _ _
theorem u3_or (x y : Int32) : u3 (x ||| y) = u3 x ||| u3 y := by
  show (x.toUInt32 ||| y.toUInt32).toNat = _
  exact UInt32.toNat_or _ _
theorem u3_xor (x y : Int32) : u3 (x ^^^ y) = u3 x ^^^ u3 y := by
  show (x.toUInt32 ^^^ y.toUInt32).toNat = _
  exact UInt32.toNat_xor _ _
theorem si_s : ∀ k, k < 32 → ((nI k &&& 31).toBitVec.smod 32).toNat = k := by decide +kernel
theorem si_u : ∀ k, k < 32 → ((nI k).toUInt32 &&& Int32.toUInt32 31).toNat % 32 = k := by decide +kernel
theorem u3_shl (x : Int32) {k : Nat} (hk : k < 32) : u3 (x <<< (nI k &&& 31)) = u3 x * 2 ^ k % 4294967296 := by
  show (x.toBitVec <<< ((nI k &&& 31).toBitVec.smod 32).toNat).toNat = _
  rw [si_s k hk, BitVec.toNat_shiftLeft, Nat.shiftLeft_eq]
  rfl
theorem u3_ushr (x : Int32) {k : Nat} (hk : k < 32) : u3 (j_iushr x (nI k)) = u3 x / 2 ^ k := by
  unfold j_iushr
  show (x.toUInt32 >>> ((nI k).toUInt32 &&& Int32.toUInt32 31)).toNat = _
  rw [UInt32.toNat_shiftRight, Nat.shiftRight_eq_div_pow, si_u k hk]
  rfl
theorem ti_shr (x : Int32) {k : Nat} (hk : k < 32) : (x >>> (nI k &&& 31)).toInt = x.toInt / 2 ^ k := by
  rw [pk_shr x _ k (si_s k hk), Int.shiftRight_eq_div_pow]
  rfl
theorem by_32 (b : Int32) : (b &&& 31) = nI (u3 b % 32) := pk_and b 5 (by decide)
theorem rest_32 : ∀ k, k < 32 → ((32 - nI k) &&& 31 : Int32) = nI ((32 - k) % 32) := by decide +kernel
theorem rotl_32 (a : Int32) {k : Nat} (hk : k < 32) : u3 (a <<< (nI k &&& 31) ||| j_iushr a ((32 - nI k) &&& 31)) = rl 32 k (u3 a) := by
  rw [rest_32 k hk, u3_or, u3_shl a hk, u3_ushr a (show (32 - k) % 32 < 32 by omega)]
  have ha : u3 a < 2 ^ 32 := u3_lt a
  rcases Nat.eq_zero_or_pos k with e | e
  · subst e
    rw [rl_0 ha]
    simp only [Nat.pow_zero, Nat.mul_one, Nat.sub_zero, Nat.mod_self, Nat.div_one]
    rw [Nat.mod_eq_of_lt (u3_lt a), Nat.or_self]
  · rw [Nat.mod_eq_of_lt (show 32 - k < 32 by omega)]
    exact rl_or (b := 32) (by omega) ha
theorem rotr_32 (a : Int32) {k : Nat} (hk : k < 32) : u3 (j_iushr a (nI k) ||| a <<< (((32 - nI k) &&& 31) &&& 31)) = rl 32 (32 - k) (u3 a) := by
  rw [rest_32 k hk, u3_or, u3_shl a (show (32 - k) % 32 < 32 by omega), u3_ushr a hk]
  have ha : u3 a < 2 ^ 32 := u3_lt a
  rcases Nat.eq_zero_or_pos k with e | e
  · subst e
    rw [Nat.sub_zero, rl_b]
    simp only [Nat.pow_zero, Nat.mul_one, Nat.mod_self, Nat.div_one]
    rw [Nat.mod_eq_of_lt (u3_lt a), Nat.or_self]
  · rw [Nat.mod_eq_of_lt (show 32 - k < 32 by omega), Nat.or_comm]
    have h := rl_or (b := 32) (k := 32 - k) (by omega) ha
    rw [show 32 - (32 - k) = k by omega] at h
    exact h
end
section
/-! order without sign, the class's quotient, comparisons -/
theorem cmp_eq (x y : Int64) : g_J0_compare x y = lg_cmp x y := by
  unfold g_J0_compare lg_cmp
  by_cases h1 : x > y
  · simp only [if_pos h1]; decide
  · by_cases h2 : x = y
    · simp only [if_neg h1, if_pos h2]; decide
    · simp only [if_neg h1, if_neg h2]; decide
theorem un_min : un (-9223372036854775808) = 9223372036854775808 := by decide
theorem mn_int (x : Int64) : (x + (-9223372036854775808)).toInt = (un x : Int) - 9223372036854775808 := by
  have h := un_lt x
  rw [un_int, un_add, un_min]
  split <;> omega
theorem order_lt (a b : Int64) : g_X2_order a b < 0 ↔ un a < un b := by
  unfold g_X2_order
  rw [cmp_eq, lg_cmp_lt, Int64.lt_iff_toInt_lt, mn_int, mn_int]
  omega
theorem order_le (a b : Int64) : g_X2_order a b ≤ 0 ↔ un a ≤ un b := by
  unfold g_X2_order
  rw [cmp_eq, lg_cmp_le, Int64.le_iff_toInt_le, mn_int, mn_int]
  omega
theorem order_ge (a b : Int64) : 0 ≤ g_X2_order a b ↔ un b ≤ un a := by
  unfold g_X2_order
  rw [cmp_eq, lg_cmp_ge, Int64.le_iff_toInt_le, mn_int, mn_int]
  omega
theorem order_gt (a b : Int64) : 0 < g_X2_order a b ↔ un b < un a := by
  unfold g_X2_order
  rw [cmp_eq, lg_cmp_gt, Int64.lt_iff_toInt_lt, mn_int, mn_int]
  omega
theorem div_un {a b : Int64} (ha : un a < 9223372036854775808) (h0 : 0 < un b) (hb : un b < 9223372036854775808) : un (a / b) = un a / un b := by
  have h := pk_lDiv (a := un a) (b := un b) ha h0 hb
  rw [lN_un, lN_un] at h
  have h2 : un a / un b ≤ un a := Nat.div_le_self _ _
  rw [h, un_lN (by omega)]
theorem rem_un {a b : Int64} (ha : un a < 9223372036854775808) (h0 : 0 < un b) (hb : un b < 9223372036854775808) : un (a - a / b * b) = un a % un b := by
  have h := pk_lRem (a := un a) (b := un b) ha h0 hb
  rw [lN_un, lN_un] at h
  have h2 : un a % un b ≤ un a := Nat.mod_le _ _
  rw [h, un_lN (by omega)]
theorem un_pos {b : Int64} (hb : ¬ b = 0) : 0 < un b := by
  rcases Nat.eq_zero_or_pos (un b) with e | e
  · exact absurd ((un_z b).mpr e) hb
  · exact e
theorem lt0_un (a : Int64) : a < 0 ↔ 9223372036854775808 ≤ un a := by
  have h := un_lt a
  have z : (0 : Int64).toInt = 0 := by decide
  rw [Int64.lt_iff_toInt_lt, z, un_int]
  split <;> omega
theorem ge0_un (a : Int64) : 0 ≤ a ↔ un a < 9223372036854775808 := by
  have h := un_lt a
  have z : (0 : Int64).toInt = 0 := by decide
  rw [Int64.le_iff_toInt_le, z, un_int]
  split <;> omega
theorem quot_un (a b : Int64) (hb : ¬ b = 0) : un (g_X2_quotient a b) = un a / un b := by
  unfold g_X2_quotient
  have hb0 := un_pos hb
  have ha := un_lt a
  have hbl := un_lt b
  simp only [lg_cmp_ge, lg_cmp_lt, order_lt, lt0_un, ge0_un]
  by_cases h1 : un b < 9223372036854775808
  · rw [if_pos h1]
    by_cases h2 : 9223372036854775808 ≤ un a
    · rw [if_pos h2]
      have e1 : un (j_lushr a 1) = un a / 2 := un_lushr a (k := 1) (by decide)
      have e2 : un (j_lushr a 1 / b) = un a / 2 / un b := by rw [div_un (by omega) hb0 h1, e1]
      have hd := Nat.div_add_mod (un a / 2) (un b)
      have hr : un a / 2 % un b < un b := Nat.mod_lt _ hb0
      have e3 : un (j_lshl (j_lushr a 1 / b) 1) = un (j_lushr a 1 / b) * 2 ^ 1 % 18446744073709551616 := un_lshl _ (k := 1) (by decide)
      rw [e2] at e3
      generalize j_lshl (j_lushr a 1 / b) 1 = q at e3 ⊢
      generalize un a / 2 / un b = t at e3 hd
      have ht : t ≤ un b * t := Nat.le_mul_of_pos_left t hb0
      have e4 : un q = 2 * t := by omega
      have e5 : un (q * b) = 2 * (un b * t) := by
        rw [un_mul, e4, Nat.mul_assoc, Nat.mul_comm t (un b)]
        omega
      have e6 : un (a - q * b) = un a - 2 * (un b * t) := by
        rw [un_sub, e5]
        omega
      rw [e6]
      by_cases h3 : un a - 2 * (un b * t) < un b
      · rw [if_pos h3, e4]
        symm
        apply Nat.div_eq_of_lt_le
        · rw [Nat.mul_assoc, Nat.mul_comm t]; omega
        · rw [Nat.add_mul, Nat.mul_assoc, Nat.mul_comm t]; omega
      · rw [if_neg h3, un_add, e4, un_1]
        symm
        have e7 : (2 * t + 1) % 18446744073709551616 = 2 * t + 1 := by omega
        rw [e7]
        apply Nat.div_eq_of_lt_le
        · rw [Nat.add_mul, Nat.mul_assoc, Nat.mul_comm t]; omega
        · rw [Nat.add_mul, Nat.add_mul, Nat.mul_assoc, Nat.mul_comm t]; omega
    · rw [if_neg h2]
      exact div_un (by omega) hb0 h1
  · rw [if_neg h1]
    by_cases h2 : un a < un b
    · rw [if_pos h2, Nat.div_eq_of_lt h2, un_0]
    · rw [if_neg h2, un_1]
      symm
      apply Nat.div_eq_of_lt_le <;> omega
/-! 'xor' with the sign's bit -/
theorem nat_x63 {a : Nat} (h : a < 18446744073709551616) : a ^^^ 2 ^ 63 = (a + 9223372036854775808) % 18446744073709551616 := by
  have h1 : (a ^^^ 2 ^ 63) % 2 ^ 63 = a % 2 ^ 63 := by rw [Nat.xor_mod_two_pow, Nat.mod_self, Nat.xor_zero]
  have h2 : (a ^^^ 2 ^ 63) / 2 ^ 63 = (a / 2 ^ 63) ^^^ 1 := by rw [Nat.xor_div_two_pow, Nat.div_self (Nat.two_pow_pos 63)]
  have h3 : a / 2 ^ 63 = 0 ∨ a / 2 ^ 63 = 1 := by omega
  generalize a ^^^ 2 ^ 63 = t at h1 h2
  rcases h3 with h3 | h3
  · rw [h3] at h2
    have h2 : t / 2 ^ 63 = 1 := h2
    omega
  · rw [h3] at h2
    have h2 : t / 2 ^ 63 = 0 := h2
    omega
theorem nat_x31 {a : Nat} (h : a < 4294967296) : a ^^^ 2 ^ 31 = (a + 2147483648) % 4294967296 := by
  have h1 : (a ^^^ 2 ^ 31) % 2 ^ 31 = a % 2 ^ 31 := by rw [Nat.xor_mod_two_pow, Nat.mod_self, Nat.xor_zero]
  have h2 : (a ^^^ 2 ^ 31) / 2 ^ 31 = (a / 2 ^ 31) ^^^ 1 := by rw [Nat.xor_div_two_pow, Nat.div_self (Nat.two_pow_pos 31)]
  have h3 : a / 2 ^ 31 = 0 ∨ a / 2 ^ 31 = 1 := by omega
  generalize a ^^^ 2 ^ 31 = t at h1 h2
  rcases h3 with h3 | h3
  · rw [h3] at h2
    have h2 : t / 2 ^ 31 = 1 := h2
    omega
  · rw [h3] at h2
    have h2 : t / 2 ^ 31 = 0 := h2
    omega
theorem sx_64 (x y : Int64) : un (x ^^^ j_lshl 1 (64 - 1)) < un (y ^^^ j_lshl 1 (64 - 1)) ↔ x < y := by
  have ht : un (j_lshl 1 (64 - 1)) = 2 ^ 63 := by decide
  have hx := un_lt x
  have hy := un_lt y
  rw [un_xor, un_xor, ht, nat_x63 hx, nat_x63 hy, Int64.lt_iff_toInt_lt, un_int, un_int]
  split <;> split <;> omega
theorem se_32 (a : Int64) : un a.toInt32.toInt64 = if un a % 4294967296 < 2147483648 then un a % 4294967296 else un a % 4294967296 + 18446744069414584320 := by
  rw [un_i2l, u3_l2i]
theorem sx_32 (a b : Int64) : un (g_X1_cut a 32 ^^^ j_lshl 1 (32 - 1)) < un (g_X1_cut b 32 ^^^ j_lshl 1 (32 - 1)) ↔ a.toInt32.toInt64 < b.toInt32.toInt64 := by
  have ht : un (j_lshl 1 (32 - 1)) = 2 ^ 31 := by decide
  rw [un_xor, un_xor, ht, nat_x31 (by rw [cut_32]; omega), nat_x31 (by rw [cut_32]; omega), cut_32, cut_32, Int64.lt_iff_toInt_lt, Int32.toInt_toInt64, Int32.toInt_toInt64, u3_int, u3_int, u3_l2i, u3_l2i]
  split <;> split <;> omega
theorem ux_32 (a b : Int64) : un (g_X1_cut a 32) < un (g_X1_cut b 32) ↔ un a.toInt32.toInt64 < un b.toInt32.toInt64 := by
  rw [cut_32, cut_32, se_32, se_32]
  split <;> split <;> omega
theorem ex_32 (a b : Int64) : g_X1_cut a 32 = g_X1_cut b 32 ↔ a.toInt32.toInt64 = b.toInt32.toInt64 := by
  constructor
  · intro h
    rw [← cut_l2i a, ← cut_l2i b, h]
  · intro h
    apply un_inj
    have h2 := congrArg un h
    rw [se_32, se_32] at h2
    rw [cut_32, cut_32]
    split at h2 <;> split at h2 <;> omega
/-- what a width's comparisons rest on -/
def cmpOk (b : Int32) (x y x' y' : Int64) : Prop := (x = y ↔ x' = y') ∧ (un (x ^^^ j_lshl 1 (b - 1)) < un (y ^^^ j_lshl 1 (b - 1)) ↔ x' < y') ∧ (un (y ^^^ j_lshl 1 (b - 1)) < un (x ^^^ j_lshl 1 (b - 1)) ↔ y' < x') ∧ (un x < un y ↔ un x' < un y') ∧ (un y < un x ↔ un y' < un x')
theorem ok_64 (x y : Int64) : cmpOk 64 x y x y := ⟨Iff.rfl, sx_64 x y, sx_64 y x, Iff.rfl, Iff.rfl⟩
theorem ok_32 (a b : Int64) : cmpOk 32 (g_X1_cut a 32) (g_X1_cut b 32) a.toInt32.toInt64 b.toInt32.toInt64 := ⟨ex_32 a b, sx_32 a b, sx_32 b a, ux_32 a b, ux_32 b a⟩
theorem tf_ite {P C : Prop} [Decidable P] [Decidable C] (h : P ↔ ¬ C) : decide P = (if C then false else true) := by
  by_cases c : C
  · rw [if_pos c, decide_eq_false (fun p => h.mp p c)]
  · rw [if_neg c, decide_eq_true (h.mpr c)]
theorem ft_ite {P C : Prop} [Decidable P] [Decidable C] (h : P ↔ C) : (if bi (decide P) = 0 then true else false) = (if C then false else true) := by
  by_cases c : C
  · rw [if_pos c, decide_eq_true (h.mpr c), if_neg (by decide)]
  · rw [if_neg c, decide_eq_false (fun p => c (h.mp p)), if_pos (by decide)]
theorem nle_lt (x y : Int64) : x < y ↔ ¬ y ≤ x := by
  rw [Int64.lt_iff_toInt_lt, Int64.le_iff_toInt_le]
  omega
theorem x_0 (x : Int64) : x ^^^ 0 = x := un_inj (by rw [un_xor, un_0, Nat.xor_zero])
end
section
section CG
variable {b : Int32} {x y x' y' : Int64}
theorem cg_0 (h : cmpOk b x y x' y') : g_X1_compared 0 x y b = g_X2_holds 0 x' y' := by
  unfold g_X2_holds
  rw [if_pos (show (0 : Int32) = 0 by decide)]
  unfold g_X1_compared
  rw [if_neg (show ¬ (2 : Int32) ≤ 0 by decide), if_pos (show (0 : Int32) = 0 by decide), if_pos (show (0 : Int32) = 0 by decide)]
  simp only [lg_cmp_eq, h.1]
theorem cg_1 (h : cmpOk b x y x' y') : g_X1_compared 1 x y b = g_X2_holds 1 x' y' := by
  unfold g_X2_holds
  rw [if_neg (show ¬ (1 : Int32) = 0 by decide), if_pos (show (1 : Int32) = 1 by decide)]
  unfold g_X1_compared
  rw [if_neg (show ¬ (2 : Int32) ≤ 1 by decide), if_neg (show ¬ (1 : Int32) = 0 by decide), if_neg (show ¬ (1 : Int32) = 0 by decide)]
  simp only [lg_cmp_eq, h.1]
theorem cg_2 (h : cmpOk b x y x' y') : g_X1_compared 2 x y b = g_X2_holds 2 x' y' := by
  unfold g_X2_holds
  rw [if_neg (show ¬ (2 : Int32) = 0 by decide), if_neg (show ¬ (2 : Int32) = 1 by decide), if_pos (show (2 : Int32) = 2 by decide)]
  unfold g_X1_compared
  rw [if_pos (show (2 : Int32) ≤ 2 by decide), if_neg (show ¬ ((2 : Int32) - 2 / 2 * 2) = 1 by decide)]
  unfold g_X1_compared_46
  rw [if_pos (show (0 : Int32) = 0 by decide)]
  unfold g_X1_compared_63
  rw [if_neg (show ¬ (4 : Int32) ≤ 2 by decide)]
  rw [below_un]
  apply tf_ite
  rw [lg_cmp_ge, h.2.1, nle_lt]
theorem cg_3 (h : cmpOk b x y x' y') : g_X1_compared 3 x y b = g_X2_holds 3 x' y' := by
  unfold g_X2_holds
  rw [if_neg (show ¬ (3 : Int32) = 0 by decide), if_neg (show ¬ (3 : Int32) = 1 by decide), if_neg (show ¬ (3 : Int32) = 2 by decide), if_pos (show (3 : Int32) = 3 by decide)]
  unfold g_X1_compared
  rw [if_pos (show (2 : Int32) ≤ 3 by decide), if_pos (show ((3 : Int32) - 3 / 2 * 2) = 1 by decide)]
  unfold g_X1_compared_46
  rw [if_neg (show ¬ (1 : Int32) = 0 by decide)]
  unfold g_X1_compared_63
  rw [if_neg (show ¬ (4 : Int32) ≤ 3 by decide)]
  rw [below_un, x_0, x_0]
  apply tf_ite
  rw [order_ge, h.2.2.2.1, Nat.not_le]
theorem cg_4 (h : cmpOk b x y x' y') : g_X1_compared 4 x y b = g_X2_holds 4 x' y' := by
  unfold g_X2_holds
  rw [if_neg (show ¬ (4 : Int32) = 0 by decide), if_neg (show ¬ (4 : Int32) = 1 by decide), if_neg (show ¬ (4 : Int32) = 2 by decide), if_neg (show ¬ (4 : Int32) = 3 by decide), if_pos (show (4 : Int32) = 4 by decide)]
  unfold g_X1_compared
  rw [if_pos (show (2 : Int32) ≤ 4 by decide), if_neg (show ¬ ((4 : Int32) - 4 / 2 * 2) = 1 by decide)]
  unfold g_X1_compared_46
  rw [if_pos (show (0 : Int32) = 0 by decide)]
  unfold g_X1_compared_63
  rw [if_pos (show (4 : Int32) ≤ 4 by decide), if_neg (show ¬ (6 : Int32) ≤ 4 by decide)]
  rw [below_un]
  apply tf_ite
  rw [lg_cmp_le, h.2.2.1, nle_lt]
theorem cg_5 (h : cmpOk b x y x' y') : g_X1_compared 5 x y b = g_X2_holds 5 x' y' := by
  unfold g_X2_holds
  rw [if_neg (show ¬ (5 : Int32) = 0 by decide), if_neg (show ¬ (5 : Int32) = 1 by decide), if_neg (show ¬ (5 : Int32) = 2 by decide), if_neg (show ¬ (5 : Int32) = 3 by decide), if_neg (show ¬ (5 : Int32) = 4 by decide), if_pos (show (5 : Int32) = 5 by decide)]
  unfold g_X1_compared
  rw [if_pos (show (2 : Int32) ≤ 5 by decide), if_pos (show ((5 : Int32) - 5 / 2 * 2) = 1 by decide)]
  unfold g_X1_compared_46
  rw [if_neg (show ¬ (1 : Int32) = 0 by decide)]
  unfold g_X1_compared_63
  rw [if_pos (show (4 : Int32) ≤ 5 by decide), if_neg (show ¬ (6 : Int32) ≤ 5 by decide)]
  rw [below_un, x_0, x_0]
  apply tf_ite
  rw [order_le, h.2.2.2.2, Nat.not_le]
theorem cg_6 (h : cmpOk b x y x' y') : g_X1_compared 6 x y b = g_X2_holds 6 x' y' := by
  unfold g_X2_holds
  rw [if_neg (show ¬ (6 : Int32) = 0 by decide), if_neg (show ¬ (6 : Int32) = 1 by decide), if_neg (show ¬ (6 : Int32) = 2 by decide), if_neg (show ¬ (6 : Int32) = 3 by decide), if_neg (show ¬ (6 : Int32) = 4 by decide), if_neg (show ¬ (6 : Int32) = 5 by decide), if_pos (show (6 : Int32) = 6 by decide)]
  unfold g_X1_compared
  rw [if_pos (show (2 : Int32) ≤ 6 by decide), if_neg (show ¬ ((6 : Int32) - 6 / 2 * 2) = 1 by decide)]
  unfold g_X1_compared_46
  rw [if_pos (show (0 : Int32) = 0 by decide)]
  unfold g_X1_compared_63
  rw [if_pos (show (4 : Int32) ≤ 6 by decide), if_pos (show (6 : Int32) ≤ 6 by decide), if_neg (show ¬ (8 : Int32) ≤ 6 by decide)]
  rw [below_un]
  apply ft_ite
  rw [lg_cmp_gt, h.2.2.1]
theorem cg_7 (h : cmpOk b x y x' y') : g_X1_compared 7 x y b = g_X2_holds 7 x' y' := by
  unfold g_X2_holds
  rw [if_neg (show ¬ (7 : Int32) = 0 by decide), if_neg (show ¬ (7 : Int32) = 1 by decide), if_neg (show ¬ (7 : Int32) = 2 by decide), if_neg (show ¬ (7 : Int32) = 3 by decide), if_neg (show ¬ (7 : Int32) = 4 by decide), if_neg (show ¬ (7 : Int32) = 5 by decide), if_neg (show ¬ (7 : Int32) = 6 by decide), if_pos (show (7 : Int32) = 7 by decide)]
  unfold g_X1_compared
  rw [if_pos (show (2 : Int32) ≤ 7 by decide), if_pos (show ((7 : Int32) - 7 / 2 * 2) = 1 by decide)]
  unfold g_X1_compared_46
  rw [if_neg (show ¬ (1 : Int32) = 0 by decide)]
  unfold g_X1_compared_63
  rw [if_pos (show (4 : Int32) ≤ 7 by decide), if_pos (show (6 : Int32) ≤ 7 by decide), if_neg (show ¬ (8 : Int32) ≤ 7 by decide)]
  rw [below_un, x_0, x_0]
  apply ft_ite
  rw [order_gt, h.2.2.2.2]
theorem cg_8 (h : cmpOk b x y x' y') : g_X1_compared 8 x y b = g_X2_holds 8 x' y' := by
  unfold g_X2_holds
  rw [if_neg (show ¬ (8 : Int32) = 0 by decide), if_neg (show ¬ (8 : Int32) = 1 by decide), if_neg (show ¬ (8 : Int32) = 2 by decide), if_neg (show ¬ (8 : Int32) = 3 by decide), if_neg (show ¬ (8 : Int32) = 4 by decide), if_neg (show ¬ (8 : Int32) = 5 by decide), if_neg (show ¬ (8 : Int32) = 6 by decide), if_neg (show ¬ (8 : Int32) = 7 by decide), if_pos (show (8 : Int32) = 8 by decide)]
  unfold g_X1_compared
  rw [if_pos (show (2 : Int32) ≤ 8 by decide), if_neg (show ¬ ((8 : Int32) - 8 / 2 * 2) = 1 by decide)]
  unfold g_X1_compared_46
  rw [if_pos (show (0 : Int32) = 0 by decide)]
  unfold g_X1_compared_63
  rw [if_pos (show (4 : Int32) ≤ 8 by decide), if_pos (show (6 : Int32) ≤ 8 by decide), if_pos (show (8 : Int32) ≤ 8 by decide)]
  rw [below_un]
  apply ft_ite
  rw [lg_cmp_lt, h.2.1]
theorem cg_9 (h : cmpOk b x y x' y') : g_X1_compared 9 x y b = g_X2_holds 9 x' y' := by
  unfold g_X2_holds
  rw [if_neg (show ¬ (9 : Int32) = 0 by decide), if_neg (show ¬ (9 : Int32) = 1 by decide), if_neg (show ¬ (9 : Int32) = 2 by decide), if_neg (show ¬ (9 : Int32) = 3 by decide), if_neg (show ¬ (9 : Int32) = 4 by decide), if_neg (show ¬ (9 : Int32) = 5 by decide), if_neg (show ¬ (9 : Int32) = 6 by decide), if_neg (show ¬ (9 : Int32) = 7 by decide), if_neg (show ¬ (9 : Int32) = 8 by decide)]
  unfold g_X1_compared
  rw [if_pos (show (2 : Int32) ≤ 9 by decide), if_pos (show ((9 : Int32) - 9 / 2 * 2) = 1 by decide)]
  unfold g_X1_compared_46
  rw [if_neg (show ¬ (1 : Int32) = 0 by decide)]
  unfold g_X1_compared_63
  rw [if_pos (show (4 : Int32) ≤ 9 by decide), if_pos (show (6 : Int32) ≤ 9 by decide), if_pos (show (8 : Int32) ≤ 9 by decide)]
  rw [below_un, x_0, x_0]
  apply ft_ite
  rw [order_lt, h.2.2.2.1]
end CG
end
section
/-! the long division, place by place -/
theorem ts_nt {x : Bool} (h : ¬ x = true) : x = false := by cases x <;> simp_all
theorem dm_step {P Q b : Nat} (hQ : 0 < Q) : (Q ≤ 2 * (P % Q) + b → 2 * (P % Q) + b < 2 * Q → (2 * P + b) / Q = 2 * (P / Q) + 1 ∧ (2 * P + b) % Q = 2 * (P % Q) + b - Q) ∧ (2 * (P % Q) + b < Q → (2 * P + b) / Q = 2 * (P / Q) ∧ (2 * P + b) % Q = 2 * (P % Q) + b) := by
  have h := Nat.div_add_mod P Q
  generalize P / Q = t at h ⊢
  generalize P % Q = r at h ⊢
  constructor
  · intro h1 h2
    have e : 2 * P + b = (2 * r + b - Q) + Q * (2 * t + 1) := by
      rw [← h, Nat.mul_add, Nat.mul_add, Nat.mul_left_comm]
      omega
    rw [e, Nat.add_mul_div_left _ _ hQ, Nat.add_mul_mod_self_left, Nat.mod_eq_of_lt (show 2 * r + b - Q < Q by omega), Nat.div_eq_of_lt (show 2 * r + b - Q < Q by omega)]
    omega
  · intro h1
    have e : 2 * P + b = (2 * r + b) + Q * (2 * t) := by
      rw [← h, Nat.mul_add, Nat.mul_left_comm]
      omega
    rw [e, Nat.add_mul_div_left _ _ hQ, Nat.add_mul_mod_self_left, Nat.mod_eq_of_lt h1, Nat.div_eq_of_lt h1]
    omega
theorem nw_un (r z : Int64) (hz : un z < 2) : un (j_lshl r 1 ||| z) = (2 * un r) % 18446744073709551616 + un z := by
  have e1 : un (j_lshl r 1) = un r * 2 ^ 1 % 18446744073709551616 := un_lshl r (k := 1) (by decide)
  rw [or_bit (by omega) hz]
  omega
theorem or_pow {quo : Int64} {t k : Nat} (hk : k < 64) (h : un quo = t * 2 ^ (k + 1)) : un (quo ||| j_lshl 1 (nI k)) = (2 * t + 1) * 2 ^ k := by
  have e1 : un (j_lshl 1 (nI k)) = 2 ^ k := by
    rw [un_lshl 1 hk, un_1, Nat.one_mul, Nat.mod_eq_of_lt (p2_lt hk)]
  have e2 : 2 ^ (k + 1) = 2 * 2 ^ k := by rw [Nat.pow_succ, Nat.mul_comm]
  have h0 : 0 < 2 ^ k := Nat.two_pow_pos k
  rw [un_or, e1, h, Nat.mul_comm t, ← Nat.two_pow_add_eq_or_of_lt (i := k + 1) (show 2 ^ k < 2 ^ (k + 1) by omega), e2, Nat.add_mul, Nat.mul_assoc 2, Nat.mul_assoc 2, Nat.mul_comm t]
  omega
theorem dv_core {p q rest quo z : Int64} {k b : Nat} (hk : k < 64) (hQ : 0 < un q) (hb : un p / 2 ^ k = 2 * (un p / 2 ^ (k + 1)) + b) (hb2 : b < 2) (hz : un z = b) (h1 : un quo = un p / 2 ^ (k + 1) / un q * 2 ^ (k + 1)) (h2 : un rest = un p / 2 ^ (k + 1) % un q) :
    ((9223372036854775808 ≤ un rest ∨ ¬ un (j_lshl rest 1 ||| z) < un q) → un (quo ||| j_lshl 1 (nI k)) = un p / 2 ^ k / un q * 2 ^ k ∧ un ((j_lshl rest 1 ||| z) - q) = un p / 2 ^ k % un q) ∧
    (¬ 9223372036854775808 ≤ un rest → un (j_lshl rest 1 ||| z) < un q → un quo = un p / 2 ^ k / un q * 2 ^ k ∧ un (j_lshl rest 1 ||| z) = un p / 2 ^ k % un q) := by
  have hn := nw_un rest z (by omega)
  have hs := dm_step (P := un p / 2 ^ (k + 1)) (b := b) hQ
  have hr : un rest < un q := by rw [h2]; exact Nat.mod_lt _ hQ
  have hql := un_lt q
  rw [hb]
  rw [← h2] at hs
  have e2 : 2 ^ (k + 1) = 2 * 2 ^ k := by rw [Nat.pow_succ, Nat.mul_comm]
  constructor
  · intro hc
    obtain ⟨g1, g2⟩ := hs.1 (by omega) (by omega)
    rw [g1, g2]
    refine ⟨or_pow hk h1, ?_⟩
    rw [un_sub, hn, hz]
    omega
  · intro hc1 hc2
    obtain ⟨g1, g2⟩ := hs.2 (by omega)
    rw [g1, g2]
    refine ⟨?_, by omega⟩
    rw [h1, e2, Nat.mul_comm 2 (_ / _), Nat.mul_assoc]
/-- what follows the loop -/
def dv_end (a0 : Int32) (a1 a2 : Int64) (a3 : Int32) (f : Int64) (v11 v12 : Int32) (v17 v19 : Int64) : Int32 × Int64 :=
  (if 5 ≤ a0 then (if v11 = 0 then g_X1_divided_282 a0 a1 a2 a3 f v19 else g_X1_divided_282 a0 a1 a2 a3 f (-v19)) else (if v11 = v12 then g_X1_divided_282 a0 a1 a2 a3 f v17 else g_X1_divided_282 a0 a1 a2 a3 f (-v17)))
theorem tb_63 (x : Int64) : (un x).testBit 63 = false ↔ ¬ 9223372036854775808 ≤ un x := by
  have h := un_lt x
  rw [Nat.testBit_eq_decide_div_mod_eq, decide_eq_false_iff_not]
  omega
theorem dv_loop (a0 : Int32) (a1 a2 : Int64) (a3 : Int32) (f : Int64) (v11 v12 : Int32) {p q : Int64} (hQ : 0 < un q) : ∀ (k : Nat), k ≤ 64 → ∀ (n : Nat) (quo rest : Int64), k < n → un quo = un p / 2 ^ k / un q * 2 ^ k → un rest = un p / 2 ^ k % un q →
    g_X1_divided_172 a0 a1 a2 a3 f n v11 v12 p q quo rest (nI k + (-1)) = dv_end a0 a1 a2 a3 f v11 v12 (lN (un p / un q)) (lN (un p % un q)) := by
  intro k
  induction k with
  | zero =>
    intro _ n quo rest hn h1 h2
    obtain ⟨n, rfl⟩ : ∃ j, n = j + 1 := ⟨n - 1, by omega⟩
    rw [Nat.pow_zero, Nat.div_one, Nat.mul_one] at h1
    rw [Nat.pow_zero, Nat.div_one] at h2
    rw [g_X1_divided_172, if_pos (by decide), ← h1, ← h2, lN_un, lN_un]
    rfl
  | succ k ih =>
    intro hk n quo rest hn h1 h2
    obtain ⟨n, rfl⟩ : ∃ j, n = j + 1 := ⟨n - 1, by omega⟩
    have h63 : g_X1_isSet rest 63 = (un rest).testBit 63 := isSet_bit rest (k := 63) (by decide)
    rw [pk_m1, g_X1_divided_172, if_neg (nI_pos (by omega)), isSet_bit p (show k < 64 by omega), h63]
    simp only [below_un, bi_0, decide_eq_false_iff_not, tb_63]
    have hpk : un p / 2 ^ (k + 1) = un p / 2 ^ k / 2 := by rw [Nat.pow_succ, Nat.div_div_eq_div_mul]
    cases hB : (un p).testBit k
    · rw [if_pos rfl]
      rw [Nat.testBit_eq_decide_div_mod_eq, decide_eq_false_iff_not] at hB
      have hc := dv_core (p := p) (q := q) (rest := rest) (quo := quo) (z := (0 : Int32).toInt64) (k := k) (b := 0) (by omega) hQ (by rw [hpk]; omega) (by decide) (by decide) h1 h2
      by_cases c1 : 9223372036854775808 ≤ un rest
      · rw [if_neg (fun z => z c1)]
        obtain ⟨g1, g2⟩ := hc.1 (Or.inl c1)
        exact ih (by omega) n _ _ (by omega) g1 g2
      · rw [if_pos c1]
        by_cases c2 : un (j_lshl rest 1 ||| (0 : Int32).toInt64) < un q
        · rw [if_neg (fun z => z c2)]
          obtain ⟨g1, g2⟩ := hc.2 c1 c2
          exact ih (by omega) n _ _ (by omega) g1 g2
        · rw [if_pos c2]
          obtain ⟨g1, g2⟩ := hc.1 (Or.inr c2)
          exact ih (by omega) n _ _ (by omega) g1 g2
    · rw [if_neg (by decide)]
      rw [Nat.testBit_eq_decide_div_mod_eq, decide_eq_true_iff] at hB
      have hc := dv_core (p := p) (q := q) (rest := rest) (quo := quo) (z := (1 : Int32).toInt64) (k := k) (b := 1) (by omega) hQ (by rw [hpk]; omega) (by decide) (by decide) h1 h2
      by_cases c1 : 9223372036854775808 ≤ un rest
      · rw [if_neg (fun z => z c1)]
        obtain ⟨g1, g2⟩ := hc.1 (Or.inl c1)
        exact ih (by omega) n _ _ (by omega) g1 g2
      · rw [if_pos c1]
        by_cases c2 : un (j_lshl rest 1 ||| (1 : Int32).toInt64) < un q
        · rw [if_neg (fun z => z c2)]
          obtain ⟨g1, g2⟩ := hc.2 c1 c2
          exact ih (by omega) n _ _ (by omega) g1 g2
        · rw [if_pos c2]
          obtain ⟨g1, g2⟩ := hc.1 (Or.inr c2)
          exact ih (by omega) n _ _ (by omega) g1 g2
theorem dv_158 (a0 : Int32) (a1 a2 : Int64) (f : Int64) (v11 v12 : Int32) {p q : Int64} {c : Nat} (hc : c + 1 ≤ 64) (hQ : 0 < un q) (hp : un p < 2 ^ (c + 1)) :
    g_X1_divided_158 a0 a1 a2 (nI (c + 1)) f v11 v12 p q = dv_end a0 a1 a2 (nI (c + 1)) f v11 v12 (lN (un p / un q)) (lN (un p % un q)) := by
  unfold g_X1_divided_158
  have e : nI (c + 1) - 1 = nI (c + 1) + (-1) := by rw [nI_pred, pk_m1]
  have e0 : (nI (c + 1) + (-1)).toInt = (c : Int) := by rw [pk_m1]; exact nI_toInt (by omega)
  rw [e]
  refine dv_loop a0 a1 a2 (nI (c + 1)) f v11 v12 hQ (c + 1) hc _ 0 0 (by rw [e0]; omega) ?_ ?_
  · rw [Nat.div_eq_of_lt hp, Nat.zero_div, Nat.zero_mul]
    exact un_0
  · rw [Nat.div_eq_of_lt hp, Nat.zero_mod]
    exact un_0
/-- the amount of a number of c + 1 bits -/
def mag (c : Nat) (x : Int64) : Nat := if (un x).testBit c then 2 ^ (c + 1) - un x else un x
theorem neg_mag {c : Nat} (hc : c = 31 ∨ c = 63) {x : Int64} (hx : un x < 2 ^ (c + 1)) (h : (un x).testBit c = true) : un (g_X1_cut (-x) (nI (c + 1))) = 2 ^ (c + 1) - un x := by
  rw [Nat.testBit_eq_decide_div_mod_eq, decide_eq_true_iff] at h
  rw [cut_all _ (show c + 1 ≤ 64 by omega), un_neg]
  rcases hc with rfl | rfl
  · omega
  · omega
theorem mag_lt {c : Nat} (hc : c = 31 ∨ c = 63) {x : Int64} (hx : un x < 2 ^ (c + 1)) : mag c x < 2 ^ (c + 1) := by
  unfold mag
  by_cases h : (un x).testBit c = true
  · rw [if_pos h]
    rw [Nat.testBit_eq_decide_div_mod_eq, decide_eq_true_iff] at h
    rcases hc with rfl | rfl
    · omega
    · omega
  · rw [if_neg h]
    exact hx
theorem mag_pos {c : Nat} {x : Int64} (hx : un x < 2 ^ (c + 1)) (h0 : 0 < un x) : 0 < mag c x := by
  unfold mag
  split <;> omega
section DV
variable {a0 : Int32} {x y f : Int64} {c : Nat}
theorem dv_138 (hc : c = 31 ∨ c = 63) (v11 : Int32) {p : Int64} (hp : un p < 2 ^ (c + 1)) (hy : un y < 2 ^ (c + 1)) (h0 : 0 < un y) :
    g_X1_divided_138 a0 x y (nI (c + 1)) f v11 (bi ((un y).testBit c)) p = dv_end a0 x y (nI (c + 1)) f v11 (bi ((un y).testBit c)) (lN (un p / mag c y)) (lN (un p % mag c y)) := by
  unfold g_X1_divided_138
  have hm := mag_pos hy h0
  by_cases h : (un y).testBit c = true
  · have e : un (g_X1_cut (-y) (nI (c + 1))) = mag c y := by rw [neg_mag hc hy h]; unfold mag; rw [if_pos h]
    rw [if_neg (by rw [h]; decide), dv_158 a0 x y f v11 _ (show c + 1 ≤ 64 by omega) (by rw [e]; exact hm) hp, e]
  · have e : un y = mag c y := by unfold mag; rw [if_neg h]
    rw [if_pos (by rw [ts_nt h]; decide), dv_158 a0 x y f v11 _ (show c + 1 ≤ 64 by omega) h0 hp, ← e]
theorem dv_120 (hc : c = 31 ∨ c = 63) (hx : un x < 2 ^ (c + 1)) (hy : un y < 2 ^ (c + 1)) (h0 : 0 < un y) :
    g_X1_divided_120 a0 x y (nI (c + 1)) f (bi ((un x).testBit c)) (bi ((un y).testBit c)) = dv_end a0 x y (nI (c + 1)) f (bi ((un x).testBit c)) (bi ((un y).testBit c)) (lN (mag c x / mag c y)) (lN (mag c x % mag c y)) := by
  unfold g_X1_divided_120
  have hm := mag_lt hc hx
  by_cases h : (un x).testBit c = true
  · have e : un (g_X1_cut (-x) (nI (c + 1))) = mag c x := by rw [neg_mag hc hx h]; unfold mag; rw [if_pos h]
    rw [if_neg (by rw [h]; decide), dv_138 hc _ (by rw [e]; exact hm) hy h0, e]
  · have e : un x = mag c x := by unfold mag; rw [if_neg h]
    rw [if_pos (by rw [ts_nt h]; decide), dv_138 hc _ hx hy h0, ← e]
theorem dv_75 (hc : c = 31 ∨ c = 63) (hx : un x < 2 ^ (c + 1)) (hy : un y < 2 ^ (c + 1)) (h0 : 0 < un y) :
    g_X1_divided_75 a0 x y (nI (c + 1)) f 0 = dv_end a0 x y (nI (c + 1)) f (bi ((un x).testBit c)) (bi ((un y).testBit c)) (lN (mag c x / mag c y)) (lN (mag c x % mag c y)) := by
  rw [← dv_120 hc hx hy h0]
  unfold g_X1_divided_75 g_X1_divided_96
  rw [nI_pred, isSet_bit x (show c < 64 by omega), isSet_bit y (show c < 64 by omega)]
  cases (un x).testBit c <;> cases (un y).testBit c <;> simp [bi]
theorem dv_wide (hc : c = 31 ∨ c = 63) (hx : un x < 2 ^ (c + 1)) (h0 : 0 < un y) (h3 : ¬ a0 = 3) :
    g_X1_divided_20 a0 x y (nI (c + 1)) f 1 = dv_end a0 x y (nI (c + 1)) f 0 0 (lN (un x / un y)) (lN (un x % un y)) := by
  unfold g_X1_divided_20
  rw [if_neg (by decide)]
  unfold g_X1_divided_54
  rw [if_neg h3]
  unfold g_X1_divided_75
  rw [if_neg (by decide)]
  unfold g_X1_divided_96
  rw [if_neg (by decide)]
  unfold g_X1_divided_120
  rw [if_pos rfl]
  unfold g_X1_divided_138
  rw [if_pos rfl]
  exact dv_158 a0 x y f 0 0 (show c + 1 ≤ 64 by omega) h0 hx
end DV
end
section
/-! division with sign; ints and longs -/
theorem div_ofInt (x y : Int64) : x / y = Int64.ofInt (x.toInt.tdiv y.toInt) := Int64.toInt_inj.mp (by rw [Int64.toInt_div, Int64.toInt_ofInt])
theorem rem_ofInt (x y : Int64) : x - x / y * y = Int64.ofInt (x.toInt.tmod y.toInt) := by
  rw [Int.tmod_def, Int64.ofInt_sub, Int64.ofInt_mul, Int64.ofInt_toInt, Int64.ofInt_toInt, ← div_ofInt, Int64.mul_comm y]
theorem div_ofInt3 (x y : Int32) : x / y = Int32.ofInt (x.toInt.tdiv y.toInt) := Int32.toInt_inj.mp (by rw [Int32.toInt_div, Int32.toInt_ofInt])
theorem rem_ofInt3 (x y : Int32) : x - x / y * y = Int32.ofInt (x.toInt.tmod y.toInt) := by
  rw [Int.tmod_def, Int32.ofInt_sub, Int32.ofInt_mul, Int32.ofInt_toInt, Int32.ofInt_toInt, ← div_ofInt3, Int32.mul_comm y]
theorem lN_ofInt (n : Nat) : lN n = Int64.ofInt (n : Int) := Int64.ofInt_eq_ofNat.symm
theorem sg_64 (x : Int64) : x.toInt = if (un x).testBit 63 = true then -(mag 63 x : Int) else (mag 63 x : Int) := by
  have h := un_lt x
  unfold mag
  rw [un_int]
  by_cases e : (un x).testBit 63 = true
  · rw [if_pos e, if_pos e]
    rw [Nat.testBit_eq_decide_div_mod_eq, decide_eq_true_iff] at e
    rw [if_neg (by omega)]
    omega
  · rw [if_neg e, if_neg e]
    rw [Nat.testBit_eq_decide_div_mod_eq, decide_eq_true_iff] at e
    rw [if_pos (by omega)]
theorem sg_32 (a : Int64) : a.toInt32.toInt = if (un (g_X1_cut a 32)).testBit 31 = true then -(mag 31 (g_X1_cut a 32) : Int) else (mag 31 (g_X1_cut a 32) : Int) := by
  have h := u3_lt a.toInt32
  have e0 : un (g_X1_cut a 32) = u3 a.toInt32 := by rw [cut_32, u3_l2i]
  unfold mag
  rw [u3_int, e0]
  by_cases e : (u3 a.toInt32).testBit 31 = true
  · rw [if_pos e, if_pos e]
    rw [Nat.testBit_eq_decide_div_mod_eq, decide_eq_true_iff] at e
    rw [if_neg (by omega)]
    omega
  · rw [if_neg e, if_neg e]
    rw [Nat.testBit_eq_decide_div_mod_eq, decide_eq_true_iff] at e
    rw [if_pos (by omega)]
theorem td_sg {m o : Bool} {A B : Nat} {X Y : Int} (hX : X = if m = true then -(A : Int) else (A : Int)) (hY : Y = if o = true then -(B : Int) else (B : Int)) : X.tdiv Y = if m = o then ((A / B : Nat) : Int) else -((A / B : Nat) : Int) := by
  rw [hX, hY, Int.ofNat_tdiv]
  cases m <;> cases o <;> simp
theorem tm_sg {m o : Bool} {A B : Nat} {X Y : Int} (hX : X = if m = true then -(A : Int) else (A : Int)) (hY : Y = if o = true then -(B : Int) else (B : Int)) : X.tmod Y = if m = true then -((A % B : Nat) : Int) else ((A % B : Nat) : Int) := by
  rw [hX, hY, Int.ofNat_tmod]
  cases m <;> cases o <;> simp
section DE
variable {x y f : Int64} {b : Int32} {m o : Bool} {Q R : Int64}
theorem dv_end_3 : dv_end 3 x y b f (bi m) (bi o) Q R = (0, g_X1_signed (if m = o then Q else -Q) b) := by
  unfold dv_end g_X1_divided_282 g_X1_told
  rw [if_neg (show ¬ (5 : Int32) ≤ 3 by decide)]
  cases m <;> cases o <;> simp [bi]
theorem dv_end_5 : dv_end 5 x y b f (bi m) (bi o) Q R = (0, g_X1_signed (if m = true then -R else R) b) := by
  unfold dv_end g_X1_divided_282 g_X1_told
  rw [if_pos (show (5 : Int32) ≤ 5 by decide)]
  cases m <;> cases o <;> simp [bi]
theorem dv_end_4 : dv_end 4 x y b f 0 0 Q R = (0, g_X1_signed Q b) := by
  unfold dv_end g_X1_divided_282 g_X1_told
  rw [if_neg (show ¬ (5 : Int32) ≤ 4 by decide), if_pos rfl]
theorem dv_end_6 : dv_end 6 x y b f 0 0 Q R = (0, g_X1_signed R b) := by
  unfold dv_end g_X1_divided_282 g_X1_told
  rw [if_pos (show (5 : Int32) ≤ 6 by decide), if_pos rfl]
theorem g20_3 : g_X1_divided_20 3 x y b f 0 = if g_X1_cut (y + 1) b = 0 ∧ x = j_lshl 1 (b - 1) then (4, f) else g_X1_divided_75 3 x y b f 0 := by
  unfold g_X1_divided_20 g_X1_divided_54
  by_cases h1 : g_X1_cut (y + 1) b = 0
  · by_cases h2 : x = j_lshl 1 (b - 1)
    · simp [lg_cmp_eq, h1, h2]
    · simp [lg_cmp_eq, h1, h2]
  · simp [lg_cmp_eq, h1]
theorem g20_5 : g_X1_divided_20 5 x y b f 0 = g_X1_divided_75 5 x y b f 0 := by
  unfold g_X1_divided_20 g_X1_divided_54
  have h5 : ¬ (5 : Int32) = 3 := by decide
  by_cases h1 : g_X1_cut (y + 1) b = 0
  · simp [lg_cmp_eq, h1]
  · simp [lg_cmp_eq, h1]
theorem gdv_0 (w : Int32) : g_X1_divided w x 0 b f = (3, f) := by
  unfold g_X1_divided
  rw [if_pos ((lg_cmp_eq 0 0).mpr rfl)]
theorem gdv_3 (h : ¬ y = 0) : g_X1_divided 3 x y b f = g_X1_divided_20 3 x y b f 0 := by
  unfold g_X1_divided
  simp only [lg_cmp_eq]
  rw [if_neg h, if_neg (by decide)]
theorem gdv_4 (h : ¬ y = 0) : g_X1_divided 4 x y b f = g_X1_divided_20 4 x y b f 1 := by
  unfold g_X1_divided
  simp only [lg_cmp_eq]
  rw [if_neg h, if_pos (by decide)]
theorem gdv_5 (h : ¬ y = 0) : g_X1_divided 5 x y b f = g_X1_divided_20 5 x y b f 0 := by
  unfold g_X1_divided
  simp only [lg_cmp_eq]
  rw [if_neg h, if_neg (by decide)]
theorem gdv_6 (h : ¬ y = 0) : g_X1_divided 6 x y b f = g_X1_divided_20 6 x y b f 1 := by
  unfold g_X1_divided
  simp only [lg_cmp_eq]
  rw [if_neg h, if_pos (by decide)]
end DE
/-! longs -/
section L64
variable {x y f : Int64}
theorem l64 (x : Int64) : un x < 2 ^ (63 + 1) := un_lt x
theorem m64 {y : Int64} : g_X1_cut (y + 1) 64 = 0 ↔ y = -1 := by
  rw [cut_64]
  constructor
  · intro h
    have h2 := congrArg un h
    rw [un_add, un_1, un_0] at h2
    have h3 := un_lt y
    apply un_inj
    have e : un (-1) = 18446744073709551615 := by decide
    omega
  · intro h
    rw [h]
    decide
theorem least64 : j_lshl 1 (64 - 1) = -9223372036854775808 := by decide
theorem dv64_3 (h : ¬ y = 0) : g_X1_divided 3 x y 64 f = if x = -9223372036854775808 ∧ y = -1 then (4, f) else (0, x / y) := by
  rw [gdv_3 h, g20_3, least64]
  have e : (g_X1_cut (y + 1) 64 = 0 ∧ x = -9223372036854775808) ↔ (x = -9223372036854775808 ∧ y = -1) := by rw [m64, and_comm]
  simp only [e]
  by_cases t : x = -9223372036854775808 ∧ y = -1
  · rw [if_pos t, if_pos t]
  · rw [if_neg t, if_neg t]
    have h75 := dv_75 (a0 := 3) (x := x) (y := y) (f := f) (c := 63) (Or.inr rfl) (l64 x) (l64 y) (un_pos h)
    have h75 : g_X1_divided_75 3 x y 64 f 0 = _ := h75
    rw [h75, dv_end_3, div_ofInt x y, td_sg (sg_64 x) (sg_64 y), lN_ofInt]
    have e64 : ∀ z, g_X1_signed z (nI (63 + 1)) = z := signed_64
    rw [e64]
    split
    · rfl
    · rw [Int64.ofInt_neg]
theorem dv64_5 (h : ¬ y = 0) : g_X1_divided 5 x y 64 f = (0, x - x / y * y) := by
  rw [gdv_5 h, g20_5]
  have h75 := dv_75 (a0 := 5) (x := x) (y := y) (f := f) (c := 63) (Or.inr rfl) (l64 x) (l64 y) (un_pos h)
  have h75 : g_X1_divided_75 5 x y 64 f 0 = _ := h75
  rw [h75, dv_end_5, rem_ofInt x y, tm_sg (sg_64 x) (sg_64 y), lN_ofInt]
  have e64 : ∀ z, g_X1_signed z (nI (63 + 1)) = z := signed_64
  rw [e64]
  split
  · rw [Int64.ofInt_neg]
  · rfl
theorem dv64_4 (h : ¬ y = 0) : g_X1_divided 4 x y 64 f = (0, lN (un x / un y)) := by
  rw [gdv_4 h]
  have hw := dv_wide (a0 := 4) (x := x) (y := y) (f := f) (c := 63) (Or.inr rfl) (l64 x) (un_pos h) (by decide)
  have hw : g_X1_divided_20 4 x y 64 f 1 = _ := hw
  rw [hw, dv_end_4]
  have e64 : ∀ z, g_X1_signed z (nI (63 + 1)) = z := signed_64
  rw [e64]
theorem dv64_6 (h : ¬ y = 0) : g_X1_divided 6 x y 64 f = (0, lN (un x % un y)) := by
  rw [gdv_6 h]
  have hw := dv_wide (a0 := 6) (x := x) (y := y) (f := f) (c := 63) (Or.inr rfl) (l64 x) (un_pos h) (by decide)
  have hw : g_X1_divided_20 6 x y 64 f 1 = _ := hw
  rw [hw, dv_end_6]
  have e64 : ∀ z, g_X1_signed z (nI (63 + 1)) = z := signed_64
  rw [e64]
theorem quot_lN (h : ¬ y = 0) : g_X2_quotient x y = lN (un x / un y) := by
  apply un_inj
  have h1 := un_lt x
  have h2 : un x / un y ≤ un x := Nat.div_le_self _ _
  rw [quot_un x y h, un_lN (by omega)]
theorem qrem_lN (h : ¬ y = 0) : x - g_X2_quotient x y * y = lN (un x % un y) := by
  apply un_inj
  have h1 := un_lt x
  have h2 : un x % un y ≤ un x := Nat.mod_le _ _
  have h3 := Nat.div_add_mod (un x) (un y)
  rw [un_lN (by omega), un_sub, un_mul, quot_un x y h, Nat.mul_comm (un x / un y)]
  generalize un y * (un x / un y) = t at h3 ⊢
  omega
end L64
/-! ints -/
section I32
variable {a b f : Int64}
theorem c32 (a : Int64) : un (g_X1_cut a 32) < 2 ^ (31 + 1) := by
  rw [cut_32]
  omega
theorem z32 : g_X1_cut b 32 = 0 ↔ b.toInt32.toInt64 = 0 := by
  have h := ex_32 b 0
  have e1 : g_X1_cut 0 32 = 0 := by decide
  have e2 : (0 : Int64).toInt32.toInt64 = 0 := by decide
  rw [e1, e2] at h
  exact h
theorem m32 : g_X1_cut (g_X1_cut b 32 + 1) 32 = 0 ↔ b.toInt32.toInt64 = -1 := by
  have h1 := un_lt b
  rw [un_z, cut_32, un_add, cut_32, un_1]
  constructor
  · intro h
    apply un_inj
    have e : un (-1) = 18446744073709551615 := by decide
    rw [se_32, e]
    split <;> omega
  · intro h
    have h2 := congrArg un h
    have e : un (-1) = 18446744073709551615 := by decide
    rw [se_32, e] at h2
    split at h2 <;> omega
theorem least32 : g_X1_cut a 32 = j_lshl 1 (32 - 1) ↔ a.toInt32.toInt64 = -2147483648 := by
  have e1 : un (j_lshl 1 (32 - 1)) = 2147483648 := by decide
  have e2 : un (-2147483648) = 18446744071562067968 := by decide
  constructor
  · intro h
    have h2 := congrArg un h
    rw [cut_32, e1] at h2
    apply un_inj
    rw [se_32, e2]
    split <;> omega
  · intro h
    have h2 := congrArg un h
    rw [se_32, e2] at h2
    apply un_inj
    rw [cut_32, e1]
    split at h2 <;> omega
theorem s32_of {z : Int} {r : Int32} (h : Int32.ofInt z = r) : g_X1_signed (Int64.ofInt z) 32 = r.toInt64 := by
  rw [signed_32, Int64.toInt32_ofInt, h]
theorem dv32_3 (h : ¬ b.toInt32.toInt64 = 0) : g_X1_divided 3 (g_X1_cut a 32) (g_X1_cut b 32) 32 f = if a.toInt32.toInt64 = -2147483648 ∧ b.toInt32.toInt64 = -1 then (4, f) else (0, (a.toInt32 / b.toInt32).toInt64) := by
  have h0 : ¬ g_X1_cut b 32 = 0 := fun z => h (z32.mp z)
  rw [gdv_3 h0, g20_3]
  have e : (g_X1_cut (g_X1_cut b 32 + 1) 32 = 0 ∧ g_X1_cut a 32 = j_lshl 1 (32 - 1)) ↔ (a.toInt32.toInt64 = -2147483648 ∧ b.toInt32.toInt64 = -1) := by rw [m32, least32, and_comm]
  simp only [e]
  by_cases t : a.toInt32.toInt64 = -2147483648 ∧ b.toInt32.toInt64 = -1
  · rw [if_pos t, if_pos t]
  · rw [if_neg t, if_neg t]
    have h75 := dv_75 (a0 := 3) (x := g_X1_cut a 32) (y := g_X1_cut b 32) (f := f) (c := 31) (Or.inl rfl) (c32 a) (c32 b) (un_pos h0)
    have h75 : g_X1_divided_75 3 (g_X1_cut a 32) (g_X1_cut b 32) 32 f 0 = _ := h75
    rw [h75, dv_end_3, div_ofInt3, td_sg (sg_32 a) (sg_32 b), lN_ofInt]
    have e32 : ∀ z, g_X1_signed z (nI (31 + 1)) = g_X1_signed z 32 := fun _ => rfl
    rw [e32]
    split
    · rw [s32_of rfl]
    · rw [← Int64.ofInt_neg, s32_of rfl]
theorem dv32_5 (h : ¬ b.toInt32.toInt64 = 0) : g_X1_divided 5 (g_X1_cut a 32) (g_X1_cut b 32) 32 f = (0, (a.toInt32 - a.toInt32 / b.toInt32 * b.toInt32).toInt64) := by
  have h0 : ¬ g_X1_cut b 32 = 0 := fun z => h (z32.mp z)
  rw [gdv_5 h0, g20_5]
  have h75 := dv_75 (a0 := 5) (x := g_X1_cut a 32) (y := g_X1_cut b 32) (f := f) (c := 31) (Or.inl rfl) (c32 a) (c32 b) (un_pos h0)
  have h75 : g_X1_divided_75 5 (g_X1_cut a 32) (g_X1_cut b 32) 32 f 0 = _ := h75
  rw [h75, dv_end_5, rem_ofInt3, tm_sg (sg_32 a) (sg_32 b), lN_ofInt]
  have e32 : ∀ z, g_X1_signed z (nI (31 + 1)) = g_X1_signed z 32 := fun _ => rfl
  rw [e32]
  split
  · rw [← Int64.ofInt_neg, s32_of rfl]
  · rw [s32_of rfl]
theorem dv32_4 (h : ¬ b.toInt32.toInt64 = 0) : g_X1_divided 4 (g_X1_cut a 32) (g_X1_cut b 32) 32 f = (0, (g_X1_cut a 32 / g_X1_cut b 32).toInt32.toInt64) := by
  have h0 : ¬ g_X1_cut b 32 = 0 := fun z => h (z32.mp z)
  rw [gdv_4 h0]
  have hw := dv_wide (a0 := 4) (x := g_X1_cut a 32) (y := g_X1_cut b 32) (f := f) (c := 31) (Or.inl rfl) (c32 a) (un_pos h0) (by decide)
  have hw : g_X1_divided_20 4 (g_X1_cut a 32) (g_X1_cut b 32) 32 f 1 = _ := hw
  have ha := c32 a
  have hb := c32 b
  rw [hw, dv_end_4, ← div_un (by omega) (un_pos h0) (by omega), lN_un]
  have e32 : ∀ z, g_X1_signed z (nI (31 + 1)) = z.toInt32.toInt64 := signed_32
  rw [e32]
theorem dv32_6 (h : ¬ b.toInt32.toInt64 = 0) : g_X1_divided 6 (g_X1_cut a 32) (g_X1_cut b 32) 32 f = (0, (g_X1_cut a 32 - g_X1_cut a 32 / g_X1_cut b 32 * g_X1_cut b 32).toInt32.toInt64) := by
  have h0 : ¬ g_X1_cut b 32 = 0 := fun z => h (z32.mp z)
  rw [gdv_6 h0]
  have hw := dv_wide (a0 := 6) (x := g_X1_cut a 32) (y := g_X1_cut b 32) (f := f) (c := 31) (Or.inl rfl) (c32 a) (un_pos h0) (by decide)
  have hw : g_X1_divided_20 6 (g_X1_cut a 32) (g_X1_cut b 32) 32 f 1 = _ := hw
  have ha := c32 a
  have hb := c32 b
  rw [hw, dv_end_6, ← rem_un (by omega) (un_pos h0) (by omega), lN_un]
  have e32 : ∀ z, g_X1_signed z (nI (31 + 1)) = z.toInt32.toInt64 := signed_32
  rw [e32]
/-- an int without sign, as a long -/
theorem low_32 (a : Int64) : a.toInt32.toInt64 &&& 4294967295 = g_X1_cut a 32 := by
  apply un_inj
  rw [un_lo, cut_32, se_32]
  split <;> omega
theorem by_c32 (b : Int64) : un (g_X1_cut b 32) % 32 = u3 b.toInt32 % 32 := by
  rw [cut_32, u3_l2i]
theorem shl_32 (a : Int64) {k : Nat} (hk : k < 32) : (j_lshl (g_X1_cut a 32) (nI k)).toInt32 = a.toInt32 <<< (nI k &&& 31) := by
  apply u3_inj
  rw [u3_l2i, un_lshl _ (show k < 64 by omega), u3_shl _ hk, cut_32, u3_l2i]
  omega
theorem shr_32 (a : Int64) {k : Nat} (hk : k < 32) : (j_lshr a.toInt32.toInt64 (nI k)).toInt32 = a.toInt32 >>> (nI k &&& 31) := by
  apply Int32.toInt_inj.mp
  have h1 : (j_lshr a.toInt32.toInt64 (nI k)).toInt = a.toInt32.toInt / 2 ^ k := by rw [ti_lshr _ (show k < 64 by omega), Int32.toInt_toInt64]
  have h2 : (a.toInt32 >>> (nI k &&& 31)).toInt = a.toInt32.toInt / 2 ^ k := ti_shr _ hk
  have h3 := Int32.toInt_lt (a.toInt32 >>> (nI k &&& 31))
  have h4 := Int32.le_toInt (a.toInt32 >>> (nI k &&& 31))
  rw [Int64.toInt_toInt32, h1, ← h2]
  exact Int.bmod_eq_of_le (by omega) (by omega)
theorem ushr_32 (a : Int64) {k : Nat} (hk : k < 32) : (j_lushr (g_X1_cut a 32) (nI k)).toInt32 = j_iushr a.toInt32 (nI k) := by
  apply u3_inj
  rw [u3_l2i, un_lushr _ (show k < 64 by omega), u3_ushr _ hk, cut_32, u3_l2i]
  have h : un a % 4294967296 / 2 ^ k ≤ un a % 4294967296 := Nat.div_le_self _ _
  have h2 : un a % 4294967296 < 4294967296 := Nat.mod_lt _ (by decide)
  generalize un a % 4294967296 / 2 ^ k = t at h ⊢
  omega
theorem turn_32 (a : Int64) {K : Nat} (hK : K ≤ 32) {r : Int32} (h : u3 r = rl 32 K (u3 a.toInt32)) : (g_X1_turned (g_X1_cut a 32) (nI K) 32).toInt32 = r := by
  apply u3_inj
  have ht : un (g_X1_turned (g_X1_cut a 32) (nI K) 32) = _ := turn_un (g_X1_cut a 32) (c := 31) (by decide) hK (c32 a)
  have e : rl (31 + 1) K (un (g_X1_cut a 32)) = u3 r := by rw [h, u3_l2i, cut_32]
  have hr := u3_lt r
  rw [u3_l2i, ht, e]
  omega
theorem turn_64 (a : Int64) {K : Nat} (hK : K ≤ 64) {r : Int64} (h : un r = rl 64 K (un a)) : g_X1_turned a (nI K) 64 = r := by
  apply un_inj
  have ht : un (g_X1_turned a (nI K) 64) = _ := turn_un a (c := 63) (by decide) hK (un_lt a)
  rw [ht, h]
end I32
/-! bytes and shorts -/
theorem un_i8 (z : Int32) : un z.toInt8.toInt32.toInt64 = if u3 z % 256 < 128 then u3 z % 256 else u3 z % 256 + 18446744073709551360 := by
  have h1 : z.toInt8.toInt32.toInt64.toInt = z.toInt8.toInt := by rw [Int32.toInt_toInt64, Int8.toInt_toInt32]
  have h2 : z.toInt8.toInt = if 2 * (u3 z % 256) < 256 then ((u3 z % 256 : Nat) : Int) else ((u3 z % 256 : Nat) : Int) - 256 := by
    have e : z.toInt8.toBitVec.toNat = u3 z % 256 := by
      show (z.toBitVec.signExtend 8).toNat = _
      rw [BitVec.signExtend_eq_setWidth_of_le _ (by decide), BitVec.toNat_setWidth]
      rfl
    have e2 : z.toInt8.toInt = _ := BitVec.toInt_eq_toNat_cond z.toInt8.toBitVec
    rw [e] at e2
    exact e2
  rw [h2, un_int] at h1
  have h3 := un_lt z.toInt8.toInt32.toInt64
  split at h1 <;> split at h1 <;> split <;> omega
theorem un_i16 (z : Int32) : un z.toInt16.toInt32.toInt64 = if u3 z % 65536 < 32768 then u3 z % 65536 else u3 z % 65536 + 18446744073709486080 := by
  have h1 : z.toInt16.toInt32.toInt64.toInt = z.toInt16.toInt := by rw [Int32.toInt_toInt64, Int16.toInt_toInt32]
  have h2 : z.toInt16.toInt = if 2 * (u3 z % 65536) < 65536 then ((u3 z % 65536 : Nat) : Int) else ((u3 z % 65536 : Nat) : Int) - 65536 := by
    have e : z.toInt16.toBitVec.toNat = u3 z % 65536 := by
      show (z.toBitVec.signExtend 16).toNat = _
      rw [BitVec.signExtend_eq_setWidth_of_le _ (by decide), BitVec.toNat_setWidth]
      rfl
    have e2 : z.toInt16.toInt = _ := BitVec.toInt_eq_toNat_cond z.toInt16.toBitVec
    rw [e] at e2
    exact e2
  rw [h2, un_int] at h1
  have h3 := un_lt z.toInt16.toInt32.toInt64
  split at h1 <;> split at h1 <;> split <;> omega
theorem s8_l (a : Int64) : g_X1_signed a 8 = a.toInt32.toInt8.toInt32.toInt64 := by
  apply un_inj
  rw [signed_un8, un_i8, u3_l2i, show un a % 4294967296 % 256 = un a % 256 by omega]
theorem s16_l (a : Int64) : g_X1_signed a 16 = a.toInt32.toInt16.toInt32.toInt64 := by
  apply un_inj
  rw [signed_un16, un_i16, u3_l2i, show un a % 4294967296 % 65536 = un a % 65536 by omega]
end
section
/-! traps -/
theorem tr30_0 (c : Int32) (x y : Int64) : g_X2_trap_30 c x y 0 = 0 := by
  unfold g_X2_trap_30
  rw [if_pos rfl]
theorem trap_no {c : Int32} (x y : Int64) (h1 : c < 109 ∨ ¬ c ≤ 112) (h2 : c < 127 ∨ 130 < c) : g_X2_trap c x y = 0 := by
  have e12 : g_X2_trap_12 c x y = 0 := by
    unfold g_X2_trap_12
    by_cases k : c < 127
    · rw [if_pos k]; exact tr30_0 c x y
    · rw [if_neg k, if_pos (h2.resolve_left k)]; exact tr30_0 c x y
  unfold g_X2_trap
  by_cases k : c < 109
  · rw [if_pos k, e12]
  · rw [if_neg k, if_neg (h1.resolve_left k), e12]
theorem trap_is {c : Int32} (x y : Int64) (h : (109 ≤ c.toInt ∧ c.toInt ≤ 112) ∨ (127 ≤ c.toInt ∧ c.toInt ≤ 130)) : g_X2_trap c x y = g_X2_trap_30 c x y 1 := by
  have e1 : (109 : Int32).toInt = 109 := by decide
  have e2 : (112 : Int32).toInt = 112 := by decide
  have e3 : (127 : Int32).toInt = 127 := by decide
  have e4 : (130 : Int32).toInt = 130 := by decide
  unfold g_X2_trap g_X2_trap_12
  simp only [Int32.lt_iff_toInt_lt, Int32.le_iff_toInt_le, e1, e2, e3, e4]
  rcases h with h | h
  · rw [if_neg (by omega), if_pos (by omega)]
  · rw [if_neg (by omega), if_neg (by omega), if_neg (by omega), if_neg (by omega)]
theorem tr30_z (c : Int32) (x : Int64) : g_X2_trap_30 c x 0 1 = 3 := by
  unfold g_X2_trap_30
  rw [if_neg (show ¬ (1 : Int32) = 0 by decide), if_pos ((lg_cmp_eq 0 0).mpr rfl)]
theorem tr30_o {c : Int32} (x y : Int64) (h1 : ¬ c = 109) (h2 : ¬ c = 127) : g_X2_trap_30 c x y 1 = if y = 0 then 3 else 0 := by
  unfold g_X2_trap_30 g_X2_trap_71
  rw [if_neg (show ¬ (1 : Int32) = 0 by decide), if_neg h1, if_neg h2]
  by_cases h0 : y = 0
  · rw [if_pos ((lg_cmp_eq y 0).mpr h0), if_pos h0]
  · rw [if_neg (fun z => h0 ((lg_cmp_eq y 0).mp z)), if_neg h0]
theorem tr30_109 (x y : Int64) : g_X2_trap_30 109 x y 1 = if y = 0 then 3 else if x = -2147483648 ∧ y = -1 then 4 else 0 := by
  unfold g_X2_trap_30 g_X2_trap_71
  rw [if_neg (show ¬ (1 : Int32) = 0 by decide), if_pos (show (109 : Int32) = 109 from rfl), if_neg (show ¬ (109 : Int32) = 127 by decide)]
  by_cases h0 : y = 0
  · rw [if_pos ((lg_cmp_eq y 0).mpr h0), if_pos h0]
  · rw [if_neg (fun z => h0 ((lg_cmp_eq y 0).mp z)), if_neg h0]
    by_cases h1 : x = -2147483648
    · by_cases h2 : y = -1
      · rw [if_pos ((lg_cmp_eq _ _).mpr h1), if_pos ((lg_cmp_eq _ _).mpr h2), if_pos ⟨h1, h2⟩]
      · rw [if_pos ((lg_cmp_eq _ _).mpr h1), if_neg (fun z => h2 ((lg_cmp_eq _ _).mp z)), if_neg (fun z => h2 z.2)]
    · rw [if_neg (fun z => h1 ((lg_cmp_eq _ _).mp z)), if_neg (fun z => h1 z.1)]
theorem tr30_127 (x y : Int64) : g_X2_trap_30 127 x y 1 = if y = 0 then 3 else if x = -9223372036854775808 ∧ y = -1 then 4 else 0 := by
  unfold g_X2_trap_30 g_X2_trap_71
  rw [if_neg (show ¬ (1 : Int32) = 0 by decide), if_neg (show ¬ (127 : Int32) = 109 by decide), if_pos (show (127 : Int32) = 127 from rfl)]
  by_cases h0 : y = 0
  · rw [if_pos ((lg_cmp_eq y 0).mpr h0), if_pos h0]
  · rw [if_neg (fun z => h0 ((lg_cmp_eq y 0).mp z)), if_neg h0]
    by_cases h1 : x = -9223372036854775808
    · by_cases h2 : y = -1
      · rw [if_pos ((lg_cmp_eq _ _).mpr h1), if_pos ((lg_cmp_eq _ _).mpr h2), if_pos ⟨h1, h2⟩]
      · rw [if_pos ((lg_cmp_eq _ _).mpr h1), if_neg (fun z => h2 ((lg_cmp_eq _ _).mp z)), if_neg (fun z => h2 z.2)]
    · rw [if_neg (fun z => h1 ((lg_cmp_eq _ _).mp z)), if_neg (fun z => h1 z.1)]
/-! what the class's walk asks of the divisor -/
theorem tk_ints {c : Int32} (h1 : 109 ≤ c.toInt) (h2 : c.toInt ≤ 112) : g_X2_takes c = 127 := by
  have e1 : (69 : Int32).toInt = 69 := by decide
  have e2 : (79 : Int32).toInt = 79 := by decide
  have e3 : (103 : Int32).toInt = 103 := by decide
  have e4 : (120 : Int32).toInt = 120 := by decide
  unfold g_X2_takes g_X2_takes_12 g_X2_takes_52
  simp only [Int32.lt_iff_toInt_lt, Int32.le_iff_toInt_le, e1, e2, e3, e4]
  rw [if_neg (by omega), if_neg (by omega), if_neg (by omega), if_pos (by omega)]
theorem jt_z {c : Int32} {x y : Int64} (h : (109 ≤ c.toInt ∧ c.toInt ≤ 112) ∨ (127 ≤ c.toInt ∧ c.toInt ≤ 130)) (ht : g_X2_trap c x y ≤ 0) : ¬ y = 0 := by
  intro e
  rw [e, trap_is x 0 h, tr30_z] at ht
  exact absurd ht (by decide)
theorem jt_L1 {c : Int32} {x y : Int64} (hc : g_X2_takes c = 126) (ht : g_X2_trap c x y ≤ 0) : 109 ≤ c.toInt → c.toInt ≤ 112 → ¬ y.toInt32 = 0 := by
  intro h1 h2
  rw [tk_ints h1 h2] at hc
  exact absurd hc (by decide)
theorem jt_L2 {c : Int32} {x y : Int64} (hc : g_X2_takes c = 126) (ht : g_X2_trap c x y ≤ 0) : 127 ≤ c.toInt → c.toInt ≤ 130 → ¬ y = 0 := fun h1 h2 => jt_z (Or.inr ⟨h1, h2⟩) ht
theorem jt_I1 {c : Int32} {x y : Int64} (hc : ¬ g_X2_takes c = 126) (ht : g_X2_trap c x.toInt32.toInt64 y.toInt32.toInt64 ≤ 0) : 109 ≤ c.toInt → c.toInt ≤ 112 → ¬ y.toInt32.toInt64.toInt32 = 0 := by
  intro h1 h2 e
  rw [l2i_i2l] at e
  exact jt_z (Or.inl ⟨h1, h2⟩) ht (by rw [e]; decide)
theorem jt_I2 {c : Int32} {x y : Int64} (hc : ¬ g_X2_takes c = 126) (ht : g_X2_trap c x.toInt32.toInt64 y.toInt32.toInt64 ≤ 0) : 127 ≤ c.toInt → c.toInt ≤ 130 → ¬ y.toInt32.toInt64 = 0 := fun h1 h2 => jt_z (Or.inr ⟨h1, h2⟩) ht
/-! the forms of 'work' -/
section FW
variable {c : Int32} {a b f x y : Int64}
theorem xw_L (h1 : g_X0_takes c = 2) (h2 : g_X2_takes c = 126) : g_X0_work c a b f = if g_X2_trap c a b ≤ 0 then (0, g_X2_two c a b) else (g_X2_trap c a b, f) := by
  unfold g_X0_work g_X0_work_102
  rw [h1, if_neg (show ¬ (2 : Int32) = 0 by decide), if_pos h2, if_pos (show (2 : Int32) = 2 from rfl)]
theorem xw_I (h1 : g_X0_takes c = 2) (h2 : ¬ g_X2_takes c = 126) : g_X0_work c a b f = if g_X2_trap c a.toInt32.toInt64 b.toInt32.toInt64 ≤ 0 then (0, g_X2_two c a.toInt32.toInt64 b.toInt32.toInt64) else (g_X2_trap c a.toInt32.toInt64 b.toInt32.toInt64, f) := by
  unfold g_X0_work g_X0_work_102
  rw [h1, if_neg (show ¬ (2 : Int32) = 0 by decide), if_neg h2, if_pos (show (2 : Int32) = 2 from rfl)]
theorem xw_1L (h1 : g_X0_takes c = 1) (h2 : g_X2_takes c = 126) (ht : g_X2_trap c a b = 0) : g_X0_work c a b f = (0, g_X2_one c a) := by
  unfold g_X0_work g_X0_work_102
  rw [h1, if_neg (show ¬ (1 : Int32) = 0 by decide), if_pos h2, if_neg (show ¬ (1 : Int32) = 2 by decide), ht, if_pos (show (0 : Int32) ≤ 0 by decide)]
theorem xw_1I (h1 : g_X0_takes c = 1) (h2 : ¬ g_X2_takes c = 126) (ht : g_X2_trap c a.toInt32.toInt64 b.toInt32.toInt64 = 0) : g_X0_work c a b f = (0, g_X2_one c a.toInt32.toInt64) := by
  unfold g_X0_work g_X0_work_102
  rw [h1, if_neg (show ¬ (1 : Int32) = 0 by decide), if_neg h2, if_neg (show ¬ (1 : Int32) = 2 by decide), ht, if_pos (show (0 : Int32) ≤ 0 by decide)]
theorem mw_1L (h1 : g_X1_takes c = 1) (h2 : g_X1_isLongs c = true) : g_X1_work c a b f = (0, g_X1_one c a 64) := by
  unfold g_X1_work g_X1_work_28 g_X1_told
  rw [h1, h2, if_neg (show ¬ (1 : Int32) = 0 by decide), if_neg (show ¬ bi true = 0 by decide), if_pos (show (1 : Int32) = 1 from rfl), cut_64]
theorem mw_1I (h1 : g_X1_takes c = 1) (h2 : g_X1_isLongs c = false) : g_X1_work c a b f = (0, g_X1_one c (g_X1_cut a 32) 32) := by
  unfold g_X1_work g_X1_work_28 g_X1_told
  rw [h1, h2, if_neg (show ¬ (1 : Int32) = 0 by decide), if_pos (show bi false = 0 by decide), if_pos (show (1 : Int32) = 1 from rfl)]
theorem mw_2L (h1 : g_X1_takes c = 2) (h2 : g_X1_isLongs c = true) (h3 : 100 ≤ c) : g_X1_work c a b f = g_X1_two (c - 124) a b 64 f := by
  unfold g_X1_work g_X1_work_28
  rw [h1, h2, if_neg (show ¬ (2 : Int32) = 0 by decide), if_neg (show ¬ bi true = 0 by decide), if_neg (show ¬ (2 : Int32) = 1 by decide), if_pos h3, if_pos (show (64 : Int32) = 64 from rfl), cut_64, cut_64]
theorem mw_2I (h1 : g_X1_takes c = 2) (h2 : g_X1_isLongs c = false) (h3 : 100 ≤ c) : g_X1_work c a b f = g_X1_two (c - 106) (g_X1_cut a 32) (g_X1_cut b 32) 32 f := by
  unfold g_X1_work g_X1_work_28
  rw [h1, h2, if_neg (show ¬ (2 : Int32) = 0 by decide), if_pos (show bi false = 0 by decide), if_neg (show ¬ (2 : Int32) = 1 by decide), if_pos h3, if_neg (show ¬ (32 : Int32) = 64 by decide)]
theorem mw_cL (h1 : g_X1_takes c = 2) (h2 : g_X1_isLongs c = true) (h3 : ¬ 100 ≤ c) : g_X1_work c a b f = if bi (g_X1_compared (c - 81) a b 64) = 0 then (0, 0) else (0, 1) := by
  unfold g_X1_work g_X1_work_28 g_X1_told
  rw [h1, h2, if_neg (show ¬ (2 : Int32) = 0 by decide), if_neg (show ¬ bi true = 0 by decide), if_neg (show ¬ (2 : Int32) = 1 by decide), if_neg h3, if_pos (show (64 : Int32) = 64 from rfl), cut_64, cut_64]
theorem mw_cI (h1 : g_X1_takes c = 2) (h2 : g_X1_isLongs c = false) (h3 : ¬ 100 ≤ c) : g_X1_work c a b f = if bi (g_X1_compared (c - 70) (g_X1_cut a 32) (g_X1_cut b 32) 32) = 0 then (0, 0) else (0, 1) := by
  unfold g_X1_work g_X1_work_28 g_X1_told
  rw [h1, h2, if_neg (show ¬ (2 : Int32) = 0 by decide), if_pos (show bi false = 0 by decide), if_neg (show ¬ (2 : Int32) = 1 by decide), if_neg h3, if_neg (show ¬ (32 : Int32) = 64 by decide)]
theorem tw_c1 (h : ¬ 79 < c) : g_X2_two c x y = if bi (g_X2_holds (c - 70) x y) = 0 then 0 else 1 := by
  unfold g_X2_two
  rw [if_neg h]
theorem tw_c2 (h : 79 < c) (h2 : ¬ 90 < c) : g_X2_two c x y = if bi (g_X2_holds (c - 81) x y) = 0 then 0 else 1 := by
  unfold g_X2_two
  rw [if_pos h, if_neg h2]
theorem tw_I (h : 79 < c) (h2 : 90 < c) (h3 : ¬ 120 < c) : g_X2_two c x y = (g_X2_ints (c - 106) x.toInt32 y.toInt32).toInt64 := by
  unfold g_X2_two
  rw [if_pos h, if_pos h2, if_neg h3]
theorem tw_L (h : 79 < c) (h2 : 90 < c) (h3 : 120 < c) : g_X2_two c x y = g_X2_longs (c - 124) x y := by
  unfold g_X2_two
  rw [if_pos h, if_pos h2, if_pos h3]
theorem gt_dv {d : Int32} (h1 : ¬ c < 3) (h2 : ¬ 6 < c) : g_X1_two c x y d f = g_X1_divided c x y d f := by
  unfold g_X1_two
  rw [if_neg h1, if_neg h2]
end FW
end
section
section OP
variable {a b f x y : Int64} {A B d : Int32}
theorem in_0 : g_X2_ints 0 A B = (A + B) := by
  unfold g_X2_ints
  rw [if_pos (show (0 : Int32) = 0 by decide)]
theorem lo_0 : g_X2_longs 0 x y = (x + y) := by
  unfold g_X2_longs
  rw [if_pos (show (0 : Int32) = 0 by decide)]
theorem in_1 : g_X2_ints 1 A B = (A - B) := by
  unfold g_X2_ints
  rw [if_neg (show ¬ (1 : Int32) = 0 by decide), if_pos (show (1 : Int32) = 1 by decide)]
theorem lo_1 : g_X2_longs 1 x y = (x - y) := by
  unfold g_X2_longs
  rw [if_neg (show ¬ (1 : Int32) = 0 by decide), if_pos (show (1 : Int32) = 1 by decide)]
theorem in_2 : g_X2_ints 2 A B = (A * B) := by
  unfold g_X2_ints
  rw [if_neg (show ¬ (2 : Int32) = 0 by decide), if_neg (show ¬ (2 : Int32) = 1 by decide), if_pos (show (2 : Int32) = 2 by decide)]
theorem lo_2 : g_X2_longs 2 x y = (x * y) := by
  unfold g_X2_longs
  rw [if_neg (show ¬ (2 : Int32) = 0 by decide), if_neg (show ¬ (2 : Int32) = 1 by decide), if_pos (show (2 : Int32) = 2 by decide)]
theorem in_3 : g_X2_ints 3 A B = (A / B) := by
  unfold g_X2_ints
  rw [if_neg (show ¬ (3 : Int32) = 0 by decide), if_neg (show ¬ (3 : Int32) = 1 by decide), if_neg (show ¬ (3 : Int32) = 2 by decide), if_pos (show (3 : Int32) = 3 by decide)]
theorem lo_3 : g_X2_longs 3 x y = (x / y) := by
  unfold g_X2_longs
  rw [if_neg (show ¬ (3 : Int32) = 0 by decide), if_neg (show ¬ (3 : Int32) = 1 by decide), if_neg (show ¬ (3 : Int32) = 2 by decide), if_pos (show (3 : Int32) = 3 by decide)]
theorem in_4 : g_X2_ints 4 A B = (((A.toInt64 &&& 4294967295) / (B.toInt64 &&& 4294967295)).toInt32) := by
  unfold g_X2_ints
  rw [if_neg (show ¬ (4 : Int32) = 0 by decide), if_neg (show ¬ (4 : Int32) = 1 by decide), if_neg (show ¬ (4 : Int32) = 2 by decide), if_neg (show ¬ (4 : Int32) = 3 by decide), if_pos (show (4 : Int32) = 4 by decide)]
theorem lo_4 : g_X2_longs 4 x y = (g_X2_quotient x y) := by
  unfold g_X2_longs
  rw [if_neg (show ¬ (4 : Int32) = 0 by decide), if_neg (show ¬ (4 : Int32) = 1 by decide), if_neg (show ¬ (4 : Int32) = 2 by decide), if_neg (show ¬ (4 : Int32) = 3 by decide), if_pos (show (4 : Int32) = 4 by decide)]
theorem in_5 : g_X2_ints 5 A B = (if B = -1 then 0 else A - A / B * B) := by
  unfold g_X2_ints
  rw [if_neg (show ¬ (5 : Int32) = 0 by decide), if_neg (show ¬ (5 : Int32) = 1 by decide), if_neg (show ¬ (5 : Int32) = 2 by decide), if_neg (show ¬ (5 : Int32) = 3 by decide), if_neg (show ¬ (5 : Int32) = 4 by decide), if_pos (show (5 : Int32) = 5 by decide)]
theorem lo_5 : g_X2_longs 5 x y = (if lg_cmp y (-1) = 0 then 0 else x - x / y * y) := by
  unfold g_X2_longs
  rw [if_neg (show ¬ (5 : Int32) = 0 by decide), if_neg (show ¬ (5 : Int32) = 1 by decide), if_neg (show ¬ (5 : Int32) = 2 by decide), if_neg (show ¬ (5 : Int32) = 3 by decide), if_neg (show ¬ (5 : Int32) = 4 by decide), if_pos (show (5 : Int32) = 5 by decide)]
theorem in_6 : g_X2_ints 6 A B = (((A.toInt64 &&& 4294967295) - (A.toInt64 &&& 4294967295) / (B.toInt64 &&& 4294967295) * (B.toInt64 &&& 4294967295)).toInt32) := by
  unfold g_X2_ints
  rw [if_neg (show ¬ (6 : Int32) = 0 by decide), if_neg (show ¬ (6 : Int32) = 1 by decide), if_neg (show ¬ (6 : Int32) = 2 by decide), if_neg (show ¬ (6 : Int32) = 3 by decide), if_neg (show ¬ (6 : Int32) = 4 by decide), if_neg (show ¬ (6 : Int32) = 5 by decide), if_pos (show (6 : Int32) = 6 by decide)]
theorem lo_6 : g_X2_longs 6 x y = (x - g_X2_quotient x y * y) := by
  unfold g_X2_longs
  rw [if_neg (show ¬ (6 : Int32) = 0 by decide), if_neg (show ¬ (6 : Int32) = 1 by decide), if_neg (show ¬ (6 : Int32) = 2 by decide), if_neg (show ¬ (6 : Int32) = 3 by decide), if_neg (show ¬ (6 : Int32) = 4 by decide), if_neg (show ¬ (6 : Int32) = 5 by decide), if_pos (show (6 : Int32) = 6 by decide)]
theorem in_7 : g_X2_ints 7 A B = (A &&& B) := by
  unfold g_X2_ints
  rw [if_neg (show ¬ (7 : Int32) = 0 by decide), if_neg (show ¬ (7 : Int32) = 1 by decide), if_neg (show ¬ (7 : Int32) = 2 by decide), if_neg (show ¬ (7 : Int32) = 3 by decide), if_neg (show ¬ (7 : Int32) = 4 by decide), if_neg (show ¬ (7 : Int32) = 5 by decide), if_neg (show ¬ (7 : Int32) = 6 by decide), if_pos (show (7 : Int32) = 7 by decide)]
theorem lo_7 : g_X2_longs 7 x y = (x &&& y) := by
  unfold g_X2_longs
  rw [if_neg (show ¬ (7 : Int32) = 0 by decide), if_neg (show ¬ (7 : Int32) = 1 by decide), if_neg (show ¬ (7 : Int32) = 2 by decide), if_neg (show ¬ (7 : Int32) = 3 by decide), if_neg (show ¬ (7 : Int32) = 4 by decide), if_neg (show ¬ (7 : Int32) = 5 by decide), if_neg (show ¬ (7 : Int32) = 6 by decide), if_pos (show (7 : Int32) = 7 by decide)]
theorem in_8 : g_X2_ints 8 A B = (A ||| B) := by
  unfold g_X2_ints
  rw [if_neg (show ¬ (8 : Int32) = 0 by decide), if_neg (show ¬ (8 : Int32) = 1 by decide), if_neg (show ¬ (8 : Int32) = 2 by decide), if_neg (show ¬ (8 : Int32) = 3 by decide), if_neg (show ¬ (8 : Int32) = 4 by decide), if_neg (show ¬ (8 : Int32) = 5 by decide), if_neg (show ¬ (8 : Int32) = 6 by decide), if_neg (show ¬ (8 : Int32) = 7 by decide), if_pos (show (8 : Int32) = 8 by decide)]
theorem lo_8 : g_X2_longs 8 x y = (x ||| y) := by
  unfold g_X2_longs
  rw [if_neg (show ¬ (8 : Int32) = 0 by decide), if_neg (show ¬ (8 : Int32) = 1 by decide), if_neg (show ¬ (8 : Int32) = 2 by decide), if_neg (show ¬ (8 : Int32) = 3 by decide), if_neg (show ¬ (8 : Int32) = 4 by decide), if_neg (show ¬ (8 : Int32) = 5 by decide), if_neg (show ¬ (8 : Int32) = 6 by decide), if_neg (show ¬ (8 : Int32) = 7 by decide), if_pos (show (8 : Int32) = 8 by decide)]
theorem in_9 : g_X2_ints 9 A B = (A ^^^ B) := by
  unfold g_X2_ints
  rw [if_neg (show ¬ (9 : Int32) = 0 by decide), if_neg (show ¬ (9 : Int32) = 1 by decide), if_neg (show ¬ (9 : Int32) = 2 by decide), if_neg (show ¬ (9 : Int32) = 3 by decide), if_neg (show ¬ (9 : Int32) = 4 by decide), if_neg (show ¬ (9 : Int32) = 5 by decide), if_neg (show ¬ (9 : Int32) = 6 by decide), if_neg (show ¬ (9 : Int32) = 7 by decide), if_neg (show ¬ (9 : Int32) = 8 by decide), if_pos (show (9 : Int32) = 9 by decide)]
theorem lo_9 : g_X2_longs 9 x y = (x ^^^ y) := by
  unfold g_X2_longs
  rw [if_neg (show ¬ (9 : Int32) = 0 by decide), if_neg (show ¬ (9 : Int32) = 1 by decide), if_neg (show ¬ (9 : Int32) = 2 by decide), if_neg (show ¬ (9 : Int32) = 3 by decide), if_neg (show ¬ (9 : Int32) = 4 by decide), if_neg (show ¬ (9 : Int32) = 5 by decide), if_neg (show ¬ (9 : Int32) = 6 by decide), if_neg (show ¬ (9 : Int32) = 7 by decide), if_neg (show ¬ (9 : Int32) = 8 by decide), if_pos (show (9 : Int32) = 9 by decide)]
theorem in_10 : g_X2_ints 10 A B = (A <<< ((B &&& 31) &&& 31)) := by
  unfold g_X2_ints
  rw [if_neg (show ¬ (10 : Int32) = 0 by decide), if_neg (show ¬ (10 : Int32) = 1 by decide), if_neg (show ¬ (10 : Int32) = 2 by decide), if_neg (show ¬ (10 : Int32) = 3 by decide), if_neg (show ¬ (10 : Int32) = 4 by decide), if_neg (show ¬ (10 : Int32) = 5 by decide), if_neg (show ¬ (10 : Int32) = 6 by decide), if_neg (show ¬ (10 : Int32) = 7 by decide), if_neg (show ¬ (10 : Int32) = 8 by decide), if_neg (show ¬ (10 : Int32) = 9 by decide), if_pos (show (10 : Int32) = 10 by decide)]
theorem lo_10 : g_X2_longs 10 x y = (j_lshl x (y.toInt32 &&& 63)) := by
  unfold g_X2_longs
  rw [if_neg (show ¬ (10 : Int32) = 0 by decide), if_neg (show ¬ (10 : Int32) = 1 by decide), if_neg (show ¬ (10 : Int32) = 2 by decide), if_neg (show ¬ (10 : Int32) = 3 by decide), if_neg (show ¬ (10 : Int32) = 4 by decide), if_neg (show ¬ (10 : Int32) = 5 by decide), if_neg (show ¬ (10 : Int32) = 6 by decide), if_neg (show ¬ (10 : Int32) = 7 by decide), if_neg (show ¬ (10 : Int32) = 8 by decide), if_neg (show ¬ (10 : Int32) = 9 by decide), if_pos (show (10 : Int32) = 10 by decide)]
theorem in_11 : g_X2_ints 11 A B = (A >>> ((B &&& 31) &&& 31)) := by
  unfold g_X2_ints
  rw [if_neg (show ¬ (11 : Int32) = 0 by decide), if_neg (show ¬ (11 : Int32) = 1 by decide), if_neg (show ¬ (11 : Int32) = 2 by decide), if_neg (show ¬ (11 : Int32) = 3 by decide), if_neg (show ¬ (11 : Int32) = 4 by decide), if_neg (show ¬ (11 : Int32) = 5 by decide), if_neg (show ¬ (11 : Int32) = 6 by decide), if_neg (show ¬ (11 : Int32) = 7 by decide), if_neg (show ¬ (11 : Int32) = 8 by decide), if_neg (show ¬ (11 : Int32) = 9 by decide), if_neg (show ¬ (11 : Int32) = 10 by decide), if_pos (show (11 : Int32) = 11 by decide)]
theorem lo_11 : g_X2_longs 11 x y = (j_lshr x (y.toInt32 &&& 63)) := by
  unfold g_X2_longs
  rw [if_neg (show ¬ (11 : Int32) = 0 by decide), if_neg (show ¬ (11 : Int32) = 1 by decide), if_neg (show ¬ (11 : Int32) = 2 by decide), if_neg (show ¬ (11 : Int32) = 3 by decide), if_neg (show ¬ (11 : Int32) = 4 by decide), if_neg (show ¬ (11 : Int32) = 5 by decide), if_neg (show ¬ (11 : Int32) = 6 by decide), if_neg (show ¬ (11 : Int32) = 7 by decide), if_neg (show ¬ (11 : Int32) = 8 by decide), if_neg (show ¬ (11 : Int32) = 9 by decide), if_neg (show ¬ (11 : Int32) = 10 by decide), if_pos (show (11 : Int32) = 11 by decide)]
theorem in_12 : g_X2_ints 12 A B = (j_iushr A (B &&& 31)) := by
  unfold g_X2_ints
  rw [if_neg (show ¬ (12 : Int32) = 0 by decide), if_neg (show ¬ (12 : Int32) = 1 by decide), if_neg (show ¬ (12 : Int32) = 2 by decide), if_neg (show ¬ (12 : Int32) = 3 by decide), if_neg (show ¬ (12 : Int32) = 4 by decide), if_neg (show ¬ (12 : Int32) = 5 by decide), if_neg (show ¬ (12 : Int32) = 6 by decide), if_neg (show ¬ (12 : Int32) = 7 by decide), if_neg (show ¬ (12 : Int32) = 8 by decide), if_neg (show ¬ (12 : Int32) = 9 by decide), if_neg (show ¬ (12 : Int32) = 10 by decide), if_neg (show ¬ (12 : Int32) = 11 by decide), if_pos (show (12 : Int32) = 12 by decide)]
theorem lo_12 : g_X2_longs 12 x y = (j_lushr x (y.toInt32 &&& 63)) := by
  unfold g_X2_longs
  rw [if_neg (show ¬ (12 : Int32) = 0 by decide), if_neg (show ¬ (12 : Int32) = 1 by decide), if_neg (show ¬ (12 : Int32) = 2 by decide), if_neg (show ¬ (12 : Int32) = 3 by decide), if_neg (show ¬ (12 : Int32) = 4 by decide), if_neg (show ¬ (12 : Int32) = 5 by decide), if_neg (show ¬ (12 : Int32) = 6 by decide), if_neg (show ¬ (12 : Int32) = 7 by decide), if_neg (show ¬ (12 : Int32) = 8 by decide), if_neg (show ¬ (12 : Int32) = 9 by decide), if_neg (show ¬ (12 : Int32) = 10 by decide), if_neg (show ¬ (12 : Int32) = 11 by decide), if_pos (show (12 : Int32) = 12 by decide)]
theorem in_13 : g_X2_ints 13 A B = ((A <<< ((B &&& 31) &&& 31)) ||| (j_iushr A ((32 - (B &&& 31)) &&& 31))) := by
  unfold g_X2_ints
  rw [if_neg (show ¬ (13 : Int32) = 0 by decide), if_neg (show ¬ (13 : Int32) = 1 by decide), if_neg (show ¬ (13 : Int32) = 2 by decide), if_neg (show ¬ (13 : Int32) = 3 by decide), if_neg (show ¬ (13 : Int32) = 4 by decide), if_neg (show ¬ (13 : Int32) = 5 by decide), if_neg (show ¬ (13 : Int32) = 6 by decide), if_neg (show ¬ (13 : Int32) = 7 by decide), if_neg (show ¬ (13 : Int32) = 8 by decide), if_neg (show ¬ (13 : Int32) = 9 by decide), if_neg (show ¬ (13 : Int32) = 10 by decide), if_neg (show ¬ (13 : Int32) = 11 by decide), if_neg (show ¬ (13 : Int32) = 12 by decide), if_pos (show (13 : Int32) = 13 by decide)]
theorem lo_13 : g_X2_longs 13 x y = ((j_lshl x (y.toInt32 &&& 63)) ||| (j_lushr x ((64 - (y.toInt32 &&& 63)) &&& 63))) := by
  unfold g_X2_longs
  rw [if_neg (show ¬ (13 : Int32) = 0 by decide), if_neg (show ¬ (13 : Int32) = 1 by decide), if_neg (show ¬ (13 : Int32) = 2 by decide), if_neg (show ¬ (13 : Int32) = 3 by decide), if_neg (show ¬ (13 : Int32) = 4 by decide), if_neg (show ¬ (13 : Int32) = 5 by decide), if_neg (show ¬ (13 : Int32) = 6 by decide), if_neg (show ¬ (13 : Int32) = 7 by decide), if_neg (show ¬ (13 : Int32) = 8 by decide), if_neg (show ¬ (13 : Int32) = 9 by decide), if_neg (show ¬ (13 : Int32) = 10 by decide), if_neg (show ¬ (13 : Int32) = 11 by decide), if_neg (show ¬ (13 : Int32) = 12 by decide), if_pos (show (13 : Int32) = 13 by decide)]
theorem in_14 : g_X2_ints 14 A B = ((j_iushr A (B &&& 31)) ||| (A <<< (((32 - (B &&& 31)) &&& 31) &&& 31))) := by
  unfold g_X2_ints
  rw [if_neg (show ¬ (14 : Int32) = 0 by decide), if_neg (show ¬ (14 : Int32) = 1 by decide), if_neg (show ¬ (14 : Int32) = 2 by decide), if_neg (show ¬ (14 : Int32) = 3 by decide), if_neg (show ¬ (14 : Int32) = 4 by decide), if_neg (show ¬ (14 : Int32) = 5 by decide), if_neg (show ¬ (14 : Int32) = 6 by decide), if_neg (show ¬ (14 : Int32) = 7 by decide), if_neg (show ¬ (14 : Int32) = 8 by decide), if_neg (show ¬ (14 : Int32) = 9 by decide), if_neg (show ¬ (14 : Int32) = 10 by decide), if_neg (show ¬ (14 : Int32) = 11 by decide), if_neg (show ¬ (14 : Int32) = 12 by decide), if_neg (show ¬ (14 : Int32) = 13 by decide)]
theorem lo_14 : g_X2_longs 14 x y = ((j_lushr x (y.toInt32 &&& 63)) ||| (j_lshl x ((64 - (y.toInt32 &&& 63)) &&& 63))) := by
  unfold g_X2_longs
  rw [if_neg (show ¬ (14 : Int32) = 0 by decide), if_neg (show ¬ (14 : Int32) = 1 by decide), if_neg (show ¬ (14 : Int32) = 2 by decide), if_neg (show ¬ (14 : Int32) = 3 by decide), if_neg (show ¬ (14 : Int32) = 4 by decide), if_neg (show ¬ (14 : Int32) = 5 by decide), if_neg (show ¬ (14 : Int32) = 6 by decide), if_neg (show ¬ (14 : Int32) = 7 by decide), if_neg (show ¬ (14 : Int32) = 8 by decide), if_neg (show ¬ (14 : Int32) = 9 by decide), if_neg (show ¬ (14 : Int32) = 10 by decide), if_neg (show ¬ (14 : Int32) = 11 by decide), if_neg (show ¬ (14 : Int32) = 12 by decide), if_neg (show ¬ (14 : Int32) = 13 by decide)]
theorem mt2_0 : g_X1_two 0 x y d f = (0, g_X1_signed (x + y) d) := by
  unfold g_X1_two
  rw [if_pos (show (0 : Int32) < 3 by decide)]
  unfold g_X1_two_22
  rw [if_pos (show (0 : Int32) = 0 by decide)]
  rfl
theorem mt2_1 : g_X1_two 1 x y d f = (0, g_X1_signed (x - y) d) := by
  unfold g_X1_two
  rw [if_pos (show (1 : Int32) < 3 by decide)]
  unfold g_X1_two_22
  rw [if_neg (show ¬ (1 : Int32) = 0 by decide), if_pos (show (1 : Int32) = 1 by decide)]
  rfl
theorem mt2_2 : g_X1_two 2 x y d f = (0, g_X1_signed (g_X1_product x y d) d) := by
  unfold g_X1_two
  rw [if_pos (show (2 : Int32) < 3 by decide)]
  unfold g_X1_two_22
  rw [if_neg (show ¬ (2 : Int32) = 0 by decide), if_neg (show ¬ (2 : Int32) = 1 by decide), if_pos (show (2 : Int32) = 2 by decide)]
  rfl
theorem mt2_7 : g_X1_two 7 x y d f = (0, g_X1_signed (x &&& y) d) := by
  unfold g_X1_two
  rw [if_neg (show ¬ (7 : Int32) < 3 by decide), if_pos (show (6 : Int32) < 7 by decide)]
  unfold g_X1_two_22
  rw [if_neg (show ¬ (7 : Int32) = 0 by decide), if_neg (show ¬ (7 : Int32) = 1 by decide), if_neg (show ¬ (7 : Int32) = 2 by decide), if_neg (show ¬ (7 : Int32) = 3 by decide), if_neg (show ¬ (7 : Int32) = 4 by decide), if_neg (show ¬ (7 : Int32) = 5 by decide), if_neg (show ¬ (7 : Int32) = 6 by decide), if_pos (show (7 : Int32) = 7 by decide)]
  rfl
theorem mt2_8 : g_X1_two 8 x y d f = (0, g_X1_signed (x ||| y) d) := by
  unfold g_X1_two
  rw [if_neg (show ¬ (8 : Int32) < 3 by decide), if_pos (show (6 : Int32) < 8 by decide)]
  unfold g_X1_two_22
  rw [if_neg (show ¬ (8 : Int32) = 0 by decide), if_neg (show ¬ (8 : Int32) = 1 by decide), if_neg (show ¬ (8 : Int32) = 2 by decide), if_neg (show ¬ (8 : Int32) = 3 by decide), if_neg (show ¬ (8 : Int32) = 4 by decide), if_neg (show ¬ (8 : Int32) = 5 by decide), if_neg (show ¬ (8 : Int32) = 6 by decide), if_neg (show ¬ (8 : Int32) = 7 by decide), if_pos (show (8 : Int32) = 8 by decide)]
  rfl
theorem mt2_9 : g_X1_two 9 x y d f = (0, g_X1_signed (x ^^^ y) d) := by
  unfold g_X1_two
  rw [if_neg (show ¬ (9 : Int32) < 3 by decide), if_pos (show (6 : Int32) < 9 by decide)]
  unfold g_X1_two_22
  rw [if_neg (show ¬ (9 : Int32) = 0 by decide), if_neg (show ¬ (9 : Int32) = 1 by decide), if_neg (show ¬ (9 : Int32) = 2 by decide), if_neg (show ¬ (9 : Int32) = 3 by decide), if_neg (show ¬ (9 : Int32) = 4 by decide), if_neg (show ¬ (9 : Int32) = 5 by decide), if_neg (show ¬ (9 : Int32) = 6 by decide), if_neg (show ¬ (9 : Int32) = 7 by decide), if_neg (show ¬ (9 : Int32) = 8 by decide), if_pos (show (9 : Int32) = 9 by decide)]
  rfl
theorem mt2_10 : g_X1_two 10 x y d f = (0, g_X1_signed (j_lshl x ((y &&& (d - 1).toInt64).toInt32)) d) := by
  unfold g_X1_two
  rw [if_neg (show ¬ (10 : Int32) < 3 by decide), if_pos (show (6 : Int32) < 10 by decide)]
  unfold g_X1_two_22
  rw [if_neg (show ¬ (10 : Int32) = 0 by decide), if_neg (show ¬ (10 : Int32) = 1 by decide), if_neg (show ¬ (10 : Int32) = 2 by decide), if_neg (show ¬ (10 : Int32) = 3 by decide), if_neg (show ¬ (10 : Int32) = 4 by decide), if_neg (show ¬ (10 : Int32) = 5 by decide), if_neg (show ¬ (10 : Int32) = 6 by decide), if_neg (show ¬ (10 : Int32) = 7 by decide), if_neg (show ¬ (10 : Int32) = 8 by decide), if_neg (show ¬ (10 : Int32) = 9 by decide), if_pos (show (10 : Int32) = 10 by decide)]
  rfl
theorem mt2_11 : g_X1_two 11 x y d f = (0, g_X1_signed (j_lshr (g_X1_signed x d) ((y &&& (d - 1).toInt64).toInt32)) d) := by
  unfold g_X1_two
  rw [if_neg (show ¬ (11 : Int32) < 3 by decide), if_pos (show (6 : Int32) < 11 by decide)]
  unfold g_X1_two_22
  rw [if_neg (show ¬ (11 : Int32) = 0 by decide), if_neg (show ¬ (11 : Int32) = 1 by decide), if_neg (show ¬ (11 : Int32) = 2 by decide), if_neg (show ¬ (11 : Int32) = 3 by decide), if_neg (show ¬ (11 : Int32) = 4 by decide), if_neg (show ¬ (11 : Int32) = 5 by decide), if_neg (show ¬ (11 : Int32) = 6 by decide), if_neg (show ¬ (11 : Int32) = 7 by decide), if_neg (show ¬ (11 : Int32) = 8 by decide), if_neg (show ¬ (11 : Int32) = 9 by decide), if_neg (show ¬ (11 : Int32) = 10 by decide), if_pos (show (11 : Int32) = 11 by decide)]
  rfl
theorem mt2_12 : g_X1_two 12 x y d f = (0, g_X1_signed (j_lushr x ((y &&& (d - 1).toInt64).toInt32)) d) := by
  unfold g_X1_two
  rw [if_neg (show ¬ (12 : Int32) < 3 by decide), if_pos (show (6 : Int32) < 12 by decide)]
  unfold g_X1_two_22
  rw [if_neg (show ¬ (12 : Int32) = 0 by decide), if_neg (show ¬ (12 : Int32) = 1 by decide), if_neg (show ¬ (12 : Int32) = 2 by decide), if_neg (show ¬ (12 : Int32) = 3 by decide), if_neg (show ¬ (12 : Int32) = 4 by decide), if_neg (show ¬ (12 : Int32) = 5 by decide), if_neg (show ¬ (12 : Int32) = 6 by decide), if_neg (show ¬ (12 : Int32) = 7 by decide), if_neg (show ¬ (12 : Int32) = 8 by decide), if_neg (show ¬ (12 : Int32) = 9 by decide), if_neg (show ¬ (12 : Int32) = 10 by decide), if_neg (show ¬ (12 : Int32) = 11 by decide), if_pos (show (12 : Int32) = 12 by decide)]
  rfl
theorem mt2_13 : g_X1_two 13 x y d f = (0, g_X1_signed (g_X1_turned x ((y &&& (d - 1).toInt64).toInt32) d) d) := by
  unfold g_X1_two
  rw [if_neg (show ¬ (13 : Int32) < 3 by decide), if_pos (show (6 : Int32) < 13 by decide)]
  unfold g_X1_two_22
  rw [if_neg (show ¬ (13 : Int32) = 0 by decide), if_neg (show ¬ (13 : Int32) = 1 by decide), if_neg (show ¬ (13 : Int32) = 2 by decide), if_neg (show ¬ (13 : Int32) = 3 by decide), if_neg (show ¬ (13 : Int32) = 4 by decide), if_neg (show ¬ (13 : Int32) = 5 by decide), if_neg (show ¬ (13 : Int32) = 6 by decide), if_neg (show ¬ (13 : Int32) = 7 by decide), if_neg (show ¬ (13 : Int32) = 8 by decide), if_neg (show ¬ (13 : Int32) = 9 by decide), if_neg (show ¬ (13 : Int32) = 10 by decide), if_neg (show ¬ (13 : Int32) = 11 by decide), if_neg (show ¬ (13 : Int32) = 12 by decide)]
  unfold g_X1_two_190
  rw [if_pos (show (13 : Int32) = 13 by decide)]
  unfold g_X1_two_207
  rfl
theorem mt2_14 : g_X1_two 14 x y d f = (0, g_X1_signed (g_X1_turned x (d - ((y &&& (d - 1).toInt64).toInt32)) d) d) := by
  unfold g_X1_two
  rw [if_neg (show ¬ (14 : Int32) < 3 by decide), if_pos (show (6 : Int32) < 14 by decide)]
  unfold g_X1_two_22
  rw [if_neg (show ¬ (14 : Int32) = 0 by decide), if_neg (show ¬ (14 : Int32) = 1 by decide), if_neg (show ¬ (14 : Int32) = 2 by decide), if_neg (show ¬ (14 : Int32) = 3 by decide), if_neg (show ¬ (14 : Int32) = 4 by decide), if_neg (show ¬ (14 : Int32) = 5 by decide), if_neg (show ¬ (14 : Int32) = 6 by decide), if_neg (show ¬ (14 : Int32) = 7 by decide), if_neg (show ¬ (14 : Int32) = 8 by decide), if_neg (show ¬ (14 : Int32) = 9 by decide), if_neg (show ¬ (14 : Int32) = 10 by decide), if_neg (show ¬ (14 : Int32) = 11 by decide), if_neg (show ¬ (14 : Int32) = 12 by decide)]
  unfold g_X1_two_190
  rw [if_neg (show ¬ (14 : Int32) = 13 by decide)]
  unfold g_X1_two_207
  rfl
theorem oc_69 : g_X2_one 69 x = (if lg_cmp x 0 = 0 then 1 else 0) := by
  unfold g_X2_one
  rw [if_pos (show (69 : Int32) = 69 by decide)]
theorem om_69 : g_X1_one 69 x d = (if lg_cmp x 0 = 0 then 1 else 0) := by
  unfold g_X1_one
  rw [if_pos (show (69 : Int32) = 69 by decide)]
theorem oc_80 : g_X2_one 80 x = (if lg_cmp x 0 = 0 then 1 else 0) := by
  unfold g_X2_one
  rw [if_neg (show ¬ (80 : Int32) = 69 by decide), if_pos (show (80 : Int32) = 80 by decide)]
theorem om_80 : g_X1_one 80 x d = (if lg_cmp x 0 = 0 then 1 else 0) := by
  unfold g_X1_one
  rw [if_neg (show ¬ (80 : Int32) = 69 by decide), if_pos (show (80 : Int32) = 80 by decide)]
theorem oc_103 : g_X2_one 103 x = (g_X2_leading x 32) := by
  unfold g_X2_one
  rw [if_neg (show ¬ (103 : Int32) = 69 by decide), if_neg (show ¬ (103 : Int32) = 80 by decide), if_pos (show (103 : Int32) = 103 by decide)]
theorem om_103 : g_X1_one 103 x d = ((g_X1_zeros x d 1).toInt64) := by
  unfold g_X1_one
  rw [if_neg (show ¬ (103 : Int32) = 69 by decide), if_neg (show ¬ (103 : Int32) = 80 by decide), if_pos (show (103 : Int32) = 103 by decide)]
theorem oc_104 : g_X2_one 104 x = (g_X2_trailing x 32) := by
  unfold g_X2_one
  rw [if_neg (show ¬ (104 : Int32) = 69 by decide), if_neg (show ¬ (104 : Int32) = 80 by decide), if_neg (show ¬ (104 : Int32) = 103 by decide), if_pos (show (104 : Int32) = 104 by decide)]
theorem om_104 : g_X1_one 104 x d = ((g_X1_zeros x d 0).toInt64) := by
  unfold g_X1_one
  rw [if_neg (show ¬ (104 : Int32) = 69 by decide), if_neg (show ¬ (104 : Int32) = 80 by decide), if_neg (show ¬ (104 : Int32) = 103 by decide), if_pos (show (104 : Int32) = 104 by decide)]
theorem oc_105 : g_X2_one 105 x = (g_X2_ones x 32) := by
  unfold g_X2_one
  rw [if_neg (show ¬ (105 : Int32) = 69 by decide), if_neg (show ¬ (105 : Int32) = 80 by decide), if_neg (show ¬ (105 : Int32) = 103 by decide), if_neg (show ¬ (105 : Int32) = 104 by decide), if_pos (show (105 : Int32) = 105 by decide)]
theorem om_105 : g_X1_one 105 x d = ((g_X1_ones x d).toInt64) := by
  unfold g_X1_one
  rw [if_neg (show ¬ (105 : Int32) = 69 by decide), if_neg (show ¬ (105 : Int32) = 80 by decide), if_neg (show ¬ (105 : Int32) = 103 by decide), if_neg (show ¬ (105 : Int32) = 104 by decide), if_pos (show (105 : Int32) = 105 by decide)]
theorem oc_121 : g_X2_one 121 x = (g_X2_leading x 64) := by
  unfold g_X2_one
  rw [if_neg (show ¬ (121 : Int32) = 69 by decide), if_neg (show ¬ (121 : Int32) = 80 by decide), if_neg (show ¬ (121 : Int32) = 103 by decide), if_neg (show ¬ (121 : Int32) = 104 by decide), if_neg (show ¬ (121 : Int32) = 105 by decide), if_pos (show (121 : Int32) = 121 by decide)]
theorem om_121 : g_X1_one 121 x d = ((g_X1_zeros x d 1).toInt64) := by
  unfold g_X1_one
  rw [if_neg (show ¬ (121 : Int32) = 69 by decide), if_neg (show ¬ (121 : Int32) = 80 by decide), if_neg (show ¬ (121 : Int32) = 103 by decide), if_neg (show ¬ (121 : Int32) = 104 by decide), if_neg (show ¬ (121 : Int32) = 105 by decide), if_pos (show (121 : Int32) = 121 by decide)]
theorem oc_122 : g_X2_one 122 x = (g_X2_trailing x 64) := by
  unfold g_X2_one
  rw [if_neg (show ¬ (122 : Int32) = 69 by decide), if_neg (show ¬ (122 : Int32) = 80 by decide), if_neg (show ¬ (122 : Int32) = 103 by decide), if_neg (show ¬ (122 : Int32) = 104 by decide), if_neg (show ¬ (122 : Int32) = 105 by decide), if_neg (show ¬ (122 : Int32) = 121 by decide), if_pos (show (122 : Int32) = 122 by decide)]
theorem om_122 : g_X1_one 122 x d = ((g_X1_zeros x d 0).toInt64) := by
  unfold g_X1_one
  rw [if_neg (show ¬ (122 : Int32) = 69 by decide), if_neg (show ¬ (122 : Int32) = 80 by decide), if_neg (show ¬ (122 : Int32) = 103 by decide), if_neg (show ¬ (122 : Int32) = 104 by decide), if_neg (show ¬ (122 : Int32) = 105 by decide), if_neg (show ¬ (122 : Int32) = 121 by decide), if_pos (show (122 : Int32) = 122 by decide)]
theorem oc_123 : g_X2_one 123 x = (g_X2_ones x 64) := by
  unfold g_X2_one
  rw [if_neg (show ¬ (123 : Int32) = 69 by decide), if_neg (show ¬ (123 : Int32) = 80 by decide), if_neg (show ¬ (123 : Int32) = 103 by decide), if_neg (show ¬ (123 : Int32) = 104 by decide), if_neg (show ¬ (123 : Int32) = 105 by decide), if_neg (show ¬ (123 : Int32) = 121 by decide), if_neg (show ¬ (123 : Int32) = 122 by decide), if_pos (show (123 : Int32) = 123 by decide)]
theorem om_123 : g_X1_one 123 x d = ((g_X1_ones x d).toInt64) := by
  unfold g_X1_one
  rw [if_neg (show ¬ (123 : Int32) = 69 by decide), if_neg (show ¬ (123 : Int32) = 80 by decide), if_neg (show ¬ (123 : Int32) = 103 by decide), if_neg (show ¬ (123 : Int32) = 104 by decide), if_neg (show ¬ (123 : Int32) = 105 by decide), if_neg (show ¬ (123 : Int32) = 121 by decide), if_neg (show ¬ (123 : Int32) = 122 by decide), if_pos (show (123 : Int32) = 123 by decide)]
theorem oc_167 : g_X2_one 167 x = (x.toInt32.toInt64) := by
  unfold g_X2_one
  rw [if_neg (show ¬ (167 : Int32) = 69 by decide), if_neg (show ¬ (167 : Int32) = 80 by decide), if_neg (show ¬ (167 : Int32) = 103 by decide), if_neg (show ¬ (167 : Int32) = 104 by decide), if_neg (show ¬ (167 : Int32) = 105 by decide), if_neg (show ¬ (167 : Int32) = 121 by decide), if_neg (show ¬ (167 : Int32) = 122 by decide), if_neg (show ¬ (167 : Int32) = 123 by decide), if_pos (show (167 : Int32) = 167 by decide)]
theorem om_167 : g_X1_one 167 x d = (g_X1_signed x 32) := by
  unfold g_X1_one
  rw [if_neg (show ¬ (167 : Int32) = 69 by decide), if_neg (show ¬ (167 : Int32) = 80 by decide), if_neg (show ¬ (167 : Int32) = 103 by decide), if_neg (show ¬ (167 : Int32) = 104 by decide), if_neg (show ¬ (167 : Int32) = 105 by decide), if_neg (show ¬ (167 : Int32) = 121 by decide), if_neg (show ¬ (167 : Int32) = 122 by decide), if_neg (show ¬ (167 : Int32) = 123 by decide), if_pos (show (167 : Int32) = 167 by decide)]
theorem oc_172 : g_X2_one 172 x = (x) := by
  unfold g_X2_one
  rw [if_neg (show ¬ (172 : Int32) = 69 by decide), if_neg (show ¬ (172 : Int32) = 80 by decide), if_neg (show ¬ (172 : Int32) = 103 by decide), if_neg (show ¬ (172 : Int32) = 104 by decide), if_neg (show ¬ (172 : Int32) = 105 by decide), if_neg (show ¬ (172 : Int32) = 121 by decide), if_neg (show ¬ (172 : Int32) = 122 by decide), if_neg (show ¬ (172 : Int32) = 123 by decide), if_neg (show ¬ (172 : Int32) = 167 by decide), if_pos (show (172 : Int32) = 172 by decide)]
theorem om_172 : g_X1_one 172 x d = (g_X1_signed x 32) := by
  unfold g_X1_one
  rw [if_neg (show ¬ (172 : Int32) = 69 by decide), if_neg (show ¬ (172 : Int32) = 80 by decide), if_neg (show ¬ (172 : Int32) = 103 by decide), if_neg (show ¬ (172 : Int32) = 104 by decide), if_neg (show ¬ (172 : Int32) = 105 by decide), if_neg (show ¬ (172 : Int32) = 121 by decide), if_neg (show ¬ (172 : Int32) = 122 by decide), if_neg (show ¬ (172 : Int32) = 123 by decide), if_neg (show ¬ (172 : Int32) = 167 by decide), if_pos (show (172 : Int32) = 172 by decide)]
theorem oc_173 : g_X2_one 173 x = (x &&& 4294967295) := by
  unfold g_X2_one
  rw [if_neg (show ¬ (173 : Int32) = 69 by decide), if_neg (show ¬ (173 : Int32) = 80 by decide), if_neg (show ¬ (173 : Int32) = 103 by decide), if_neg (show ¬ (173 : Int32) = 104 by decide), if_neg (show ¬ (173 : Int32) = 105 by decide), if_neg (show ¬ (173 : Int32) = 121 by decide), if_neg (show ¬ (173 : Int32) = 122 by decide), if_neg (show ¬ (173 : Int32) = 123 by decide), if_neg (show ¬ (173 : Int32) = 167 by decide), if_neg (show ¬ (173 : Int32) = 172 by decide), if_pos (show (173 : Int32) = 173 by decide)]
theorem om_173 : g_X1_one 173 x d = (x) := by
  unfold g_X1_one
  rw [if_neg (show ¬ (173 : Int32) = 69 by decide), if_neg (show ¬ (173 : Int32) = 80 by decide), if_neg (show ¬ (173 : Int32) = 103 by decide), if_neg (show ¬ (173 : Int32) = 104 by decide), if_neg (show ¬ (173 : Int32) = 105 by decide), if_neg (show ¬ (173 : Int32) = 121 by decide), if_neg (show ¬ (173 : Int32) = 122 by decide), if_neg (show ¬ (173 : Int32) = 123 by decide), if_neg (show ¬ (173 : Int32) = 167 by decide), if_neg (show ¬ (173 : Int32) = 172 by decide), if_pos (show (173 : Int32) = 173 by decide)]
theorem oc_192 : g_X2_one 192 x = (x.toInt32.toInt8.toInt32.toInt64) := by
  unfold g_X2_one
  rw [if_neg (show ¬ (192 : Int32) = 69 by decide), if_neg (show ¬ (192 : Int32) = 80 by decide), if_neg (show ¬ (192 : Int32) = 103 by decide), if_neg (show ¬ (192 : Int32) = 104 by decide), if_neg (show ¬ (192 : Int32) = 105 by decide), if_neg (show ¬ (192 : Int32) = 121 by decide), if_neg (show ¬ (192 : Int32) = 122 by decide), if_neg (show ¬ (192 : Int32) = 123 by decide), if_neg (show ¬ (192 : Int32) = 167 by decide), if_neg (show ¬ (192 : Int32) = 172 by decide), if_neg (show ¬ (192 : Int32) = 173 by decide), if_pos (show (192 : Int32) = 192 by decide)]
theorem om_192 : g_X1_one 192 x d = (g_X1_signed x 8) := by
  unfold g_X1_one
  rw [if_neg (show ¬ (192 : Int32) = 69 by decide), if_neg (show ¬ (192 : Int32) = 80 by decide), if_neg (show ¬ (192 : Int32) = 103 by decide), if_neg (show ¬ (192 : Int32) = 104 by decide), if_neg (show ¬ (192 : Int32) = 105 by decide), if_neg (show ¬ (192 : Int32) = 121 by decide), if_neg (show ¬ (192 : Int32) = 122 by decide), if_neg (show ¬ (192 : Int32) = 123 by decide), if_neg (show ¬ (192 : Int32) = 167 by decide), if_neg (show ¬ (192 : Int32) = 172 by decide), if_neg (show ¬ (192 : Int32) = 173 by decide), if_pos (show (192 : Int32) = 192 by decide)]
theorem oc_193 : g_X2_one 193 x = (x.toInt32.toInt16.toInt32.toInt64) := by
  unfold g_X2_one
  rw [if_neg (show ¬ (193 : Int32) = 69 by decide), if_neg (show ¬ (193 : Int32) = 80 by decide), if_neg (show ¬ (193 : Int32) = 103 by decide), if_neg (show ¬ (193 : Int32) = 104 by decide), if_neg (show ¬ (193 : Int32) = 105 by decide), if_neg (show ¬ (193 : Int32) = 121 by decide), if_neg (show ¬ (193 : Int32) = 122 by decide), if_neg (show ¬ (193 : Int32) = 123 by decide), if_neg (show ¬ (193 : Int32) = 167 by decide), if_neg (show ¬ (193 : Int32) = 172 by decide), if_neg (show ¬ (193 : Int32) = 173 by decide), if_neg (show ¬ (193 : Int32) = 192 by decide), if_pos (show (193 : Int32) = 193 by decide)]
theorem om_193 : g_X1_one 193 x d = (g_X1_signed x 16) := by
  unfold g_X1_one
  rw [if_neg (show ¬ (193 : Int32) = 69 by decide), if_neg (show ¬ (193 : Int32) = 80 by decide), if_neg (show ¬ (193 : Int32) = 103 by decide), if_neg (show ¬ (193 : Int32) = 104 by decide), if_neg (show ¬ (193 : Int32) = 105 by decide), if_neg (show ¬ (193 : Int32) = 121 by decide), if_neg (show ¬ (193 : Int32) = 122 by decide), if_neg (show ¬ (193 : Int32) = 123 by decide), if_neg (show ¬ (193 : Int32) = 167 by decide), if_neg (show ¬ (193 : Int32) = 172 by decide), if_neg (show ¬ (193 : Int32) = 173 by decide), if_neg (show ¬ (193 : Int32) = 192 by decide), if_neg (show ¬ (193 : Int32) = 194 by decide), if_neg (show ¬ (193 : Int32) = 196 by decide)]
theorem oc_194 : g_X2_one 194 x = (x.toInt32.toInt8.toInt32.toInt64) := by
  unfold g_X2_one
  rw [if_neg (show ¬ (194 : Int32) = 69 by decide), if_neg (show ¬ (194 : Int32) = 80 by decide), if_neg (show ¬ (194 : Int32) = 103 by decide), if_neg (show ¬ (194 : Int32) = 104 by decide), if_neg (show ¬ (194 : Int32) = 105 by decide), if_neg (show ¬ (194 : Int32) = 121 by decide), if_neg (show ¬ (194 : Int32) = 122 by decide), if_neg (show ¬ (194 : Int32) = 123 by decide), if_neg (show ¬ (194 : Int32) = 167 by decide), if_neg (show ¬ (194 : Int32) = 172 by decide), if_neg (show ¬ (194 : Int32) = 173 by decide), if_neg (show ¬ (194 : Int32) = 192 by decide), if_neg (show ¬ (194 : Int32) = 193 by decide), if_pos (show (194 : Int32) = 194 by decide)]
theorem om_194 : g_X1_one 194 x d = (g_X1_signed x 8) := by
  unfold g_X1_one
  rw [if_neg (show ¬ (194 : Int32) = 69 by decide), if_neg (show ¬ (194 : Int32) = 80 by decide), if_neg (show ¬ (194 : Int32) = 103 by decide), if_neg (show ¬ (194 : Int32) = 104 by decide), if_neg (show ¬ (194 : Int32) = 105 by decide), if_neg (show ¬ (194 : Int32) = 121 by decide), if_neg (show ¬ (194 : Int32) = 122 by decide), if_neg (show ¬ (194 : Int32) = 123 by decide), if_neg (show ¬ (194 : Int32) = 167 by decide), if_neg (show ¬ (194 : Int32) = 172 by decide), if_neg (show ¬ (194 : Int32) = 173 by decide), if_neg (show ¬ (194 : Int32) = 192 by decide), if_pos (show (194 : Int32) = 194 by decide)]
theorem oc_195 : g_X2_one 195 x = (x.toInt32.toInt16.toInt32.toInt64) := by
  unfold g_X2_one
  rw [if_neg (show ¬ (195 : Int32) = 69 by decide), if_neg (show ¬ (195 : Int32) = 80 by decide), if_neg (show ¬ (195 : Int32) = 103 by decide), if_neg (show ¬ (195 : Int32) = 104 by decide), if_neg (show ¬ (195 : Int32) = 105 by decide), if_neg (show ¬ (195 : Int32) = 121 by decide), if_neg (show ¬ (195 : Int32) = 122 by decide), if_neg (show ¬ (195 : Int32) = 123 by decide), if_neg (show ¬ (195 : Int32) = 167 by decide), if_neg (show ¬ (195 : Int32) = 172 by decide), if_neg (show ¬ (195 : Int32) = 173 by decide), if_neg (show ¬ (195 : Int32) = 192 by decide), if_neg (show ¬ (195 : Int32) = 193 by decide), if_neg (show ¬ (195 : Int32) = 194 by decide), if_pos (show (195 : Int32) = 195 by decide)]
theorem om_195 : g_X1_one 195 x d = (g_X1_signed x 16) := by
  unfold g_X1_one
  rw [if_neg (show ¬ (195 : Int32) = 69 by decide), if_neg (show ¬ (195 : Int32) = 80 by decide), if_neg (show ¬ (195 : Int32) = 103 by decide), if_neg (show ¬ (195 : Int32) = 104 by decide), if_neg (show ¬ (195 : Int32) = 105 by decide), if_neg (show ¬ (195 : Int32) = 121 by decide), if_neg (show ¬ (195 : Int32) = 122 by decide), if_neg (show ¬ (195 : Int32) = 123 by decide), if_neg (show ¬ (195 : Int32) = 167 by decide), if_neg (show ¬ (195 : Int32) = 172 by decide), if_neg (show ¬ (195 : Int32) = 173 by decide), if_neg (show ¬ (195 : Int32) = 192 by decide), if_neg (show ¬ (195 : Int32) = 194 by decide), if_neg (show ¬ (195 : Int32) = 196 by decide)]
theorem oc_196 : g_X2_one 196 x = (x.toInt32.toInt64) := by
  unfold g_X2_one
  rw [if_neg (show ¬ (196 : Int32) = 69 by decide), if_neg (show ¬ (196 : Int32) = 80 by decide), if_neg (show ¬ (196 : Int32) = 103 by decide), if_neg (show ¬ (196 : Int32) = 104 by decide), if_neg (show ¬ (196 : Int32) = 105 by decide), if_neg (show ¬ (196 : Int32) = 121 by decide), if_neg (show ¬ (196 : Int32) = 122 by decide), if_neg (show ¬ (196 : Int32) = 123 by decide), if_neg (show ¬ (196 : Int32) = 167 by decide), if_neg (show ¬ (196 : Int32) = 172 by decide), if_neg (show ¬ (196 : Int32) = 173 by decide), if_neg (show ¬ (196 : Int32) = 192 by decide), if_neg (show ¬ (196 : Int32) = 193 by decide), if_neg (show ¬ (196 : Int32) = 194 by decide), if_neg (show ¬ (196 : Int32) = 195 by decide)]
theorem om_196 : g_X1_one 196 x d = (g_X1_signed x 32) := by
  unfold g_X1_one
  rw [if_neg (show ¬ (196 : Int32) = 69 by decide), if_neg (show ¬ (196 : Int32) = 80 by decide), if_neg (show ¬ (196 : Int32) = 103 by decide), if_neg (show ¬ (196 : Int32) = 104 by decide), if_neg (show ¬ (196 : Int32) = 105 by decide), if_neg (show ¬ (196 : Int32) = 121 by decide), if_neg (show ¬ (196 : Int32) = 122 by decide), if_neg (show ¬ (196 : Int32) = 123 by decide), if_neg (show ¬ (196 : Int32) = 167 by decide), if_neg (show ¬ (196 : Int32) = 172 by decide), if_neg (show ¬ (196 : Int32) = 173 by decide), if_neg (show ¬ (196 : Int32) = 192 by decide), if_neg (show ¬ (196 : Int32) = 194 by decide), if_pos (show (196 : Int32) = 196 by decide)]
end OP
end
section
/-! small things that the operations ask -/
theorem rem_m1 (x : Int64) : x - x / (-1) * (-1) = 0 := by
  rw [rem_ofInt, show (-1 : Int64).toInt = -1 by decide, Int.tmod_neg, Int.tmod_one]
  rfl
theorem rem_m1i (x : Int32) : x - x / (-1) * (-1) = 0 := by
  rw [rem_ofInt3, show (-1 : Int32).toInt = -1 by decide, Int.tmod_neg, Int.tmod_one]
  rfl
theorem by31 {k : Nat} (hk : k < 32) : (nI k &&& 31) = nI k := by
  have h : ∀ j, j < 32 → (nI j &&& 31) = nI j := by decide +kernel
  exact h k hk
theorem turn_64x (a : Int64) {k : Int32} {K : Nat} (hK : K ≤ 64) (e : k = nI K) {r : Int64} (h : un r = rl 64 K (un a)) : g_X1_turned a k 64 = r := by
  rw [e]
  exact turn_64 a hK h
theorem turn_32x (a : Int64) {k : Int32} {K : Nat} (hK : K ≤ 32) (e : k = nI K) {r : Int32} (h : u3 r = rl 32 K (u3 a.toInt32)) : (g_X1_turned (g_X1_cut a 32) k 32).toInt32 = r := by
  rw [e]
  exact turn_32 a hK h
section OQ
variable {a b f : Int64}
theorem op_69 : g_X0_work 69 a b f = g_X1_work 69 a b f := by
  rw [xw_1I (c := 69) (by decide +kernel) (by decide +kernel) (trap_no _ _ (by decide +kernel) (by decide +kernel)), mw_1I (c := 69) (by decide +kernel) (by decide +kernel), oc_69, om_69]
  simp only [lg_cmp_eq, z32]
theorem op_80 : g_X0_work 80 a b f = g_X1_work 80 a b f := by
  rw [xw_1L (c := 80) (by decide +kernel) (by decide +kernel) (trap_no _ _ (by decide +kernel) (by decide +kernel)), mw_1L (c := 80) (by decide +kernel) (by decide +kernel), oc_80, om_80]
theorem op_103 : g_X0_work 103 a b f = g_X1_work 103 a b f := by
  rw [xw_1I (c := 103) (by decide +kernel) (by decide +kernel) (trap_no _ _ (by decide +kernel) (by decide +kernel)), mw_1I (c := 103) (by decide +kernel) (by decide +kernel), oc_103, om_103]
  have h : g_X2_leading a.toInt32.toInt64 32 = (g_X1_zeros (g_X1_cut a 32) 32 1).toInt64 := lead_eq (b := 32) (by decide) (same_32 a)
  rw [h]
theorem op_104 : g_X0_work 104 a b f = g_X1_work 104 a b f := by
  rw [xw_1I (c := 104) (by decide +kernel) (by decide +kernel) (trap_no _ _ (by decide +kernel) (by decide +kernel)), mw_1I (c := 104) (by decide +kernel) (by decide +kernel), oc_104, om_104]
  have h : g_X2_trailing a.toInt32.toInt64 32 = (g_X1_zeros (g_X1_cut a 32) 32 0).toInt64 := trail_eq (b := 32) (by decide) (same_32 a)
  rw [h]
theorem op_105 : g_X0_work 105 a b f = g_X1_work 105 a b f := by
  rw [xw_1I (c := 105) (by decide +kernel) (by decide +kernel) (trap_no _ _ (by decide +kernel) (by decide +kernel)), mw_1I (c := 105) (by decide +kernel) (by decide +kernel), oc_105, om_105]
  have h : g_X2_ones a.toInt32.toInt64 32 = (g_X1_ones (g_X1_cut a 32) 32).toInt64 := ones_eq (b := 32) (by decide) (same_32 a)
  rw [h]
theorem op_121 : g_X0_work 121 a b f = g_X1_work 121 a b f := by
  rw [xw_1L (c := 121) (by decide +kernel) (by decide +kernel) (trap_no _ _ (by decide +kernel) (by decide +kernel)), mw_1L (c := 121) (by decide +kernel) (by decide +kernel), oc_121, om_121]
  have h : g_X2_leading a 64 = (g_X1_zeros a 64 1).toInt64 := lead_eq (b := 64) (by decide) (same_rf 64 a)
  rw [h]
theorem op_122 : g_X0_work 122 a b f = g_X1_work 122 a b f := by
  rw [xw_1L (c := 122) (by decide +kernel) (by decide +kernel) (trap_no _ _ (by decide +kernel) (by decide +kernel)), mw_1L (c := 122) (by decide +kernel) (by decide +kernel), oc_122, om_122]
  have h : g_X2_trailing a 64 = (g_X1_zeros a 64 0).toInt64 := trail_eq (b := 64) (by decide) (same_rf 64 a)
  rw [h]
theorem op_123 : g_X0_work 123 a b f = g_X1_work 123 a b f := by
  rw [xw_1L (c := 123) (by decide +kernel) (by decide +kernel) (trap_no _ _ (by decide +kernel) (by decide +kernel)), mw_1L (c := 123) (by decide +kernel) (by decide +kernel), oc_123, om_123]
  have h : g_X2_ones a 64 = (g_X1_ones a 64).toInt64 := ones_eq (b := 64) (by decide) (same_rf 64 a)
  rw [h]
theorem op_167 : g_X0_work 167 a b f = g_X1_work 167 a b f := by
  rw [xw_1L (c := 167) (by decide +kernel) (by decide +kernel) (trap_no _ _ (by decide +kernel) (by decide +kernel)), mw_1L (c := 167) (by decide +kernel) (by decide +kernel), oc_167, om_167]
  rw [signed_32]
theorem op_172 : g_X0_work 172 a b f = g_X1_work 172 a b f := by
  rw [xw_1I (c := 172) (by decide +kernel) (by decide +kernel) (trap_no _ _ (by decide +kernel) (by decide +kernel)), mw_1I (c := 172) (by decide +kernel) (by decide +kernel), oc_172, om_172]
  rw [signed_32, cut_l2i]
theorem op_173 : g_X0_work 173 a b f = g_X1_work 173 a b f := by
  rw [xw_1I (c := 173) (by decide +kernel) (by decide +kernel) (trap_no _ _ (by decide +kernel) (by decide +kernel)), mw_1I (c := 173) (by decide +kernel) (by decide +kernel), oc_173, om_173]
  rw [low_32]
theorem op_192 : g_X0_work 192 a b f = g_X1_work 192 a b f := by
  rw [xw_1I (c := 192) (by decide +kernel) (by decide +kernel) (trap_no _ _ (by decide +kernel) (by decide +kernel)), mw_1I (c := 192) (by decide +kernel) (by decide +kernel), oc_192, om_192]
  rw [s8_l, cut_l2i, l2i_i2l]
theorem op_193 : g_X0_work 193 a b f = g_X1_work 193 a b f := by
  rw [xw_1I (c := 193) (by decide +kernel) (by decide +kernel) (trap_no _ _ (by decide +kernel) (by decide +kernel)), mw_1I (c := 193) (by decide +kernel) (by decide +kernel), oc_193, om_193]
  rw [s16_l, cut_l2i, l2i_i2l]
theorem op_194 : g_X0_work 194 a b f = g_X1_work 194 a b f := by
  rw [xw_1L (c := 194) (by decide +kernel) (by decide +kernel) (trap_no _ _ (by decide +kernel) (by decide +kernel)), mw_1L (c := 194) (by decide +kernel) (by decide +kernel), oc_194, om_194]
  rw [s8_l]
theorem op_195 : g_X0_work 195 a b f = g_X1_work 195 a b f := by
  rw [xw_1L (c := 195) (by decide +kernel) (by decide +kernel) (trap_no _ _ (by decide +kernel) (by decide +kernel)), mw_1L (c := 195) (by decide +kernel) (by decide +kernel), oc_195, om_195]
  rw [s16_l]
theorem op_196 : g_X0_work 196 a b f = g_X1_work 196 a b f := by
  rw [xw_1L (c := 196) (by decide +kernel) (by decide +kernel) (trap_no _ _ (by decide +kernel) (by decide +kernel)), mw_1L (c := 196) (by decide +kernel) (by decide +kernel), oc_196, om_196]
  rw [signed_32]
theorem op_70 : g_X0_work 70 a b f = g_X1_work 70 a b f := by
  rw [xw_I (c := 70) (by decide +kernel) (by decide +kernel), trap_no (c := 70) _ _ (by decide +kernel) (by decide +kernel), if_pos (show (0 : Int32) ≤ 0 by decide), tw_c1 (c := 70) (by decide +kernel), mw_cI (c := 70) (by decide +kernel) (by decide +kernel) (by decide +kernel), show (70 : Int32) - 70 = 0 by decide, cg_0 (ok_32 a b)]
  split <;> rfl
theorem op_81 : g_X0_work 81 a b f = g_X1_work 81 a b f := by
  rw [xw_L (c := 81) (by decide +kernel) (by decide +kernel), trap_no (c := 81) _ _ (by decide +kernel) (by decide +kernel), if_pos (show (0 : Int32) ≤ 0 by decide), tw_c2 (c := 81) (by decide +kernel) (by decide +kernel), mw_cL (c := 81) (by decide +kernel) (by decide +kernel) (by decide +kernel), show (81 : Int32) - 81 = 0 by decide, cg_0 (ok_64 a b)]
  split <;> rfl
theorem op_71 : g_X0_work 71 a b f = g_X1_work 71 a b f := by
  rw [xw_I (c := 71) (by decide +kernel) (by decide +kernel), trap_no (c := 71) _ _ (by decide +kernel) (by decide +kernel), if_pos (show (0 : Int32) ≤ 0 by decide), tw_c1 (c := 71) (by decide +kernel), mw_cI (c := 71) (by decide +kernel) (by decide +kernel) (by decide +kernel), show (71 : Int32) - 70 = 1 by decide, cg_1 (ok_32 a b)]
  split <;> rfl
theorem op_82 : g_X0_work 82 a b f = g_X1_work 82 a b f := by
  rw [xw_L (c := 82) (by decide +kernel) (by decide +kernel), trap_no (c := 82) _ _ (by decide +kernel) (by decide +kernel), if_pos (show (0 : Int32) ≤ 0 by decide), tw_c2 (c := 82) (by decide +kernel) (by decide +kernel), mw_cL (c := 82) (by decide +kernel) (by decide +kernel) (by decide +kernel), show (82 : Int32) - 81 = 1 by decide, cg_1 (ok_64 a b)]
  split <;> rfl
theorem op_72 : g_X0_work 72 a b f = g_X1_work 72 a b f := by
  rw [xw_I (c := 72) (by decide +kernel) (by decide +kernel), trap_no (c := 72) _ _ (by decide +kernel) (by decide +kernel), if_pos (show (0 : Int32) ≤ 0 by decide), tw_c1 (c := 72) (by decide +kernel), mw_cI (c := 72) (by decide +kernel) (by decide +kernel) (by decide +kernel), show (72 : Int32) - 70 = 2 by decide, cg_2 (ok_32 a b)]
  split <;> rfl
theorem op_83 : g_X0_work 83 a b f = g_X1_work 83 a b f := by
  rw [xw_L (c := 83) (by decide +kernel) (by decide +kernel), trap_no (c := 83) _ _ (by decide +kernel) (by decide +kernel), if_pos (show (0 : Int32) ≤ 0 by decide), tw_c2 (c := 83) (by decide +kernel) (by decide +kernel), mw_cL (c := 83) (by decide +kernel) (by decide +kernel) (by decide +kernel), show (83 : Int32) - 81 = 2 by decide, cg_2 (ok_64 a b)]
  split <;> rfl
theorem op_73 : g_X0_work 73 a b f = g_X1_work 73 a b f := by
  rw [xw_I (c := 73) (by decide +kernel) (by decide +kernel), trap_no (c := 73) _ _ (by decide +kernel) (by decide +kernel), if_pos (show (0 : Int32) ≤ 0 by decide), tw_c1 (c := 73) (by decide +kernel), mw_cI (c := 73) (by decide +kernel) (by decide +kernel) (by decide +kernel), show (73 : Int32) - 70 = 3 by decide, cg_3 (ok_32 a b)]
  split <;> rfl
theorem op_84 : g_X0_work 84 a b f = g_X1_work 84 a b f := by
  rw [xw_L (c := 84) (by decide +kernel) (by decide +kernel), trap_no (c := 84) _ _ (by decide +kernel) (by decide +kernel), if_pos (show (0 : Int32) ≤ 0 by decide), tw_c2 (c := 84) (by decide +kernel) (by decide +kernel), mw_cL (c := 84) (by decide +kernel) (by decide +kernel) (by decide +kernel), show (84 : Int32) - 81 = 3 by decide, cg_3 (ok_64 a b)]
  split <;> rfl
theorem op_74 : g_X0_work 74 a b f = g_X1_work 74 a b f := by
  rw [xw_I (c := 74) (by decide +kernel) (by decide +kernel), trap_no (c := 74) _ _ (by decide +kernel) (by decide +kernel), if_pos (show (0 : Int32) ≤ 0 by decide), tw_c1 (c := 74) (by decide +kernel), mw_cI (c := 74) (by decide +kernel) (by decide +kernel) (by decide +kernel), show (74 : Int32) - 70 = 4 by decide, cg_4 (ok_32 a b)]
  split <;> rfl
theorem op_85 : g_X0_work 85 a b f = g_X1_work 85 a b f := by
  rw [xw_L (c := 85) (by decide +kernel) (by decide +kernel), trap_no (c := 85) _ _ (by decide +kernel) (by decide +kernel), if_pos (show (0 : Int32) ≤ 0 by decide), tw_c2 (c := 85) (by decide +kernel) (by decide +kernel), mw_cL (c := 85) (by decide +kernel) (by decide +kernel) (by decide +kernel), show (85 : Int32) - 81 = 4 by decide, cg_4 (ok_64 a b)]
  split <;> rfl
theorem op_75 : g_X0_work 75 a b f = g_X1_work 75 a b f := by
  rw [xw_I (c := 75) (by decide +kernel) (by decide +kernel), trap_no (c := 75) _ _ (by decide +kernel) (by decide +kernel), if_pos (show (0 : Int32) ≤ 0 by decide), tw_c1 (c := 75) (by decide +kernel), mw_cI (c := 75) (by decide +kernel) (by decide +kernel) (by decide +kernel), show (75 : Int32) - 70 = 5 by decide, cg_5 (ok_32 a b)]
  split <;> rfl
theorem op_86 : g_X0_work 86 a b f = g_X1_work 86 a b f := by
  rw [xw_L (c := 86) (by decide +kernel) (by decide +kernel), trap_no (c := 86) _ _ (by decide +kernel) (by decide +kernel), if_pos (show (0 : Int32) ≤ 0 by decide), tw_c2 (c := 86) (by decide +kernel) (by decide +kernel), mw_cL (c := 86) (by decide +kernel) (by decide +kernel) (by decide +kernel), show (86 : Int32) - 81 = 5 by decide, cg_5 (ok_64 a b)]
  split <;> rfl
theorem op_76 : g_X0_work 76 a b f = g_X1_work 76 a b f := by
  rw [xw_I (c := 76) (by decide +kernel) (by decide +kernel), trap_no (c := 76) _ _ (by decide +kernel) (by decide +kernel), if_pos (show (0 : Int32) ≤ 0 by decide), tw_c1 (c := 76) (by decide +kernel), mw_cI (c := 76) (by decide +kernel) (by decide +kernel) (by decide +kernel), show (76 : Int32) - 70 = 6 by decide, cg_6 (ok_32 a b)]
  split <;> rfl
theorem op_87 : g_X0_work 87 a b f = g_X1_work 87 a b f := by
  rw [xw_L (c := 87) (by decide +kernel) (by decide +kernel), trap_no (c := 87) _ _ (by decide +kernel) (by decide +kernel), if_pos (show (0 : Int32) ≤ 0 by decide), tw_c2 (c := 87) (by decide +kernel) (by decide +kernel), mw_cL (c := 87) (by decide +kernel) (by decide +kernel) (by decide +kernel), show (87 : Int32) - 81 = 6 by decide, cg_6 (ok_64 a b)]
  split <;> rfl
theorem op_77 : g_X0_work 77 a b f = g_X1_work 77 a b f := by
  rw [xw_I (c := 77) (by decide +kernel) (by decide +kernel), trap_no (c := 77) _ _ (by decide +kernel) (by decide +kernel), if_pos (show (0 : Int32) ≤ 0 by decide), tw_c1 (c := 77) (by decide +kernel), mw_cI (c := 77) (by decide +kernel) (by decide +kernel) (by decide +kernel), show (77 : Int32) - 70 = 7 by decide, cg_7 (ok_32 a b)]
  split <;> rfl
theorem op_88 : g_X0_work 88 a b f = g_X1_work 88 a b f := by
  rw [xw_L (c := 88) (by decide +kernel) (by decide +kernel), trap_no (c := 88) _ _ (by decide +kernel) (by decide +kernel), if_pos (show (0 : Int32) ≤ 0 by decide), tw_c2 (c := 88) (by decide +kernel) (by decide +kernel), mw_cL (c := 88) (by decide +kernel) (by decide +kernel) (by decide +kernel), show (88 : Int32) - 81 = 7 by decide, cg_7 (ok_64 a b)]
  split <;> rfl
theorem op_78 : g_X0_work 78 a b f = g_X1_work 78 a b f := by
  rw [xw_I (c := 78) (by decide +kernel) (by decide +kernel), trap_no (c := 78) _ _ (by decide +kernel) (by decide +kernel), if_pos (show (0 : Int32) ≤ 0 by decide), tw_c1 (c := 78) (by decide +kernel), mw_cI (c := 78) (by decide +kernel) (by decide +kernel) (by decide +kernel), show (78 : Int32) - 70 = 8 by decide, cg_8 (ok_32 a b)]
  split <;> rfl
theorem op_89 : g_X0_work 89 a b f = g_X1_work 89 a b f := by
  rw [xw_L (c := 89) (by decide +kernel) (by decide +kernel), trap_no (c := 89) _ _ (by decide +kernel) (by decide +kernel), if_pos (show (0 : Int32) ≤ 0 by decide), tw_c2 (c := 89) (by decide +kernel) (by decide +kernel), mw_cL (c := 89) (by decide +kernel) (by decide +kernel) (by decide +kernel), show (89 : Int32) - 81 = 8 by decide, cg_8 (ok_64 a b)]
  split <;> rfl
theorem op_79 : g_X0_work 79 a b f = g_X1_work 79 a b f := by
  rw [xw_I (c := 79) (by decide +kernel) (by decide +kernel), trap_no (c := 79) _ _ (by decide +kernel) (by decide +kernel), if_pos (show (0 : Int32) ≤ 0 by decide), tw_c1 (c := 79) (by decide +kernel), mw_cI (c := 79) (by decide +kernel) (by decide +kernel) (by decide +kernel), show (79 : Int32) - 70 = 9 by decide, cg_9 (ok_32 a b)]
  split <;> rfl
theorem op_90 : g_X0_work 90 a b f = g_X1_work 90 a b f := by
  rw [xw_L (c := 90) (by decide +kernel) (by decide +kernel), trap_no (c := 90) _ _ (by decide +kernel) (by decide +kernel), if_pos (show (0 : Int32) ≤ 0 by decide), tw_c2 (c := 90) (by decide +kernel) (by decide +kernel), mw_cL (c := 90) (by decide +kernel) (by decide +kernel) (by decide +kernel), show (90 : Int32) - 81 = 9 by decide, cg_9 (ok_64 a b)]
  split <;> rfl
theorem op_124 : g_X0_work 124 a b f = g_X1_work 124 a b f := by
  rw [xw_L (c := 124) (by decide +kernel) (by decide +kernel), trap_no (c := 124) _ _ (by decide +kernel) (by decide +kernel), if_pos (show (0 : Int32) ≤ 0 by decide), tw_L (c := 124) (by decide +kernel) (by decide +kernel) (by decide +kernel), mw_2L (c := 124) (by decide +kernel) (by decide +kernel) (by decide +kernel), show (124 : Int32) - 124 = 0 by decide, lo_0, mt2_0, signed_64]
theorem op_125 : g_X0_work 125 a b f = g_X1_work 125 a b f := by
  rw [xw_L (c := 125) (by decide +kernel) (by decide +kernel), trap_no (c := 125) _ _ (by decide +kernel) (by decide +kernel), if_pos (show (0 : Int32) ≤ 0 by decide), tw_L (c := 125) (by decide +kernel) (by decide +kernel) (by decide +kernel), mw_2L (c := 125) (by decide +kernel) (by decide +kernel) (by decide +kernel), show (125 : Int32) - 124 = 1 by decide, lo_1, mt2_1, signed_64]
theorem op_131 : g_X0_work 131 a b f = g_X1_work 131 a b f := by
  rw [xw_L (c := 131) (by decide +kernel) (by decide +kernel), trap_no (c := 131) _ _ (by decide +kernel) (by decide +kernel), if_pos (show (0 : Int32) ≤ 0 by decide), tw_L (c := 131) (by decide +kernel) (by decide +kernel) (by decide +kernel), mw_2L (c := 131) (by decide +kernel) (by decide +kernel) (by decide +kernel), show (131 : Int32) - 124 = 7 by decide, lo_7, mt2_7, signed_64]
theorem op_132 : g_X0_work 132 a b f = g_X1_work 132 a b f := by
  rw [xw_L (c := 132) (by decide +kernel) (by decide +kernel), trap_no (c := 132) _ _ (by decide +kernel) (by decide +kernel), if_pos (show (0 : Int32) ≤ 0 by decide), tw_L (c := 132) (by decide +kernel) (by decide +kernel) (by decide +kernel), mw_2L (c := 132) (by decide +kernel) (by decide +kernel) (by decide +kernel), show (132 : Int32) - 124 = 8 by decide, lo_8, mt2_8, signed_64]
theorem op_133 : g_X0_work 133 a b f = g_X1_work 133 a b f := by
  rw [xw_L (c := 133) (by decide +kernel) (by decide +kernel), trap_no (c := 133) _ _ (by decide +kernel) (by decide +kernel), if_pos (show (0 : Int32) ≤ 0 by decide), tw_L (c := 133) (by decide +kernel) (by decide +kernel) (by decide +kernel), mw_2L (c := 133) (by decide +kernel) (by decide +kernel) (by decide +kernel), show (133 : Int32) - 124 = 9 by decide, lo_9, mt2_9, signed_64]
theorem op_126 : g_X0_work 126 a b f = g_X1_work 126 a b f := by
  rw [xw_L (c := 126) (by decide +kernel) (by decide +kernel), trap_no (c := 126) _ _ (by decide +kernel) (by decide +kernel), if_pos (show (0 : Int32) ≤ 0 by decide), tw_L (c := 126) (by decide +kernel) (by decide +kernel) (by decide +kernel), mw_2L (c := 126) (by decide +kernel) (by decide +kernel) (by decide +kernel), show (126 : Int32) - 124 = 2 by decide, lo_2, mt2_2, signed_64]
  rw [prod_64]
theorem op_134 : g_X0_work 134 a b f = g_X1_work 134 a b f := by
  rw [xw_L (c := 134) (by decide +kernel) (by decide +kernel), trap_no (c := 134) _ _ (by decide +kernel) (by decide +kernel), if_pos (show (0 : Int32) ≤ 0 by decide), tw_L (c := 134) (by decide +kernel) (by decide +kernel) (by decide +kernel), mw_2L (c := 134) (by decide +kernel) (by decide +kernel) (by decide +kernel), show (134 : Int32) - 124 = 10 by decide, lo_10, mt2_10, signed_64]
  rw [by_64, by_m64]
theorem op_135 : g_X0_work 135 a b f = g_X1_work 135 a b f := by
  rw [xw_L (c := 135) (by decide +kernel) (by decide +kernel), trap_no (c := 135) _ _ (by decide +kernel) (by decide +kernel), if_pos (show (0 : Int32) ≤ 0 by decide), tw_L (c := 135) (by decide +kernel) (by decide +kernel) (by decide +kernel), mw_2L (c := 135) (by decide +kernel) (by decide +kernel) (by decide +kernel), show (135 : Int32) - 124 = 11 by decide, lo_11, mt2_11, signed_64]
  rw [by_64, by_m64, signed_64]
theorem op_136 : g_X0_work 136 a b f = g_X1_work 136 a b f := by
  rw [xw_L (c := 136) (by decide +kernel) (by decide +kernel), trap_no (c := 136) _ _ (by decide +kernel) (by decide +kernel), if_pos (show (0 : Int32) ≤ 0 by decide), tw_L (c := 136) (by decide +kernel) (by decide +kernel) (by decide +kernel), mw_2L (c := 136) (by decide +kernel) (by decide +kernel) (by decide +kernel), show (136 : Int32) - 124 = 12 by decide, lo_12, mt2_12, signed_64]
  rw [by_64, by_m64]
theorem op_137 : g_X0_work 137 a b f = g_X1_work 137 a b f := by
  rw [xw_L (c := 137) (by decide +kernel) (by decide +kernel), trap_no (c := 137) _ _ (by decide +kernel) (by decide +kernel), if_pos (show (0 : Int32) ≤ 0 by decide), tw_L (c := 137) (by decide +kernel) (by decide +kernel) (by decide +kernel), mw_2L (c := 137) (by decide +kernel) (by decide +kernel) (by decide +kernel), show (137 : Int32) - 124 = 13 by decide, lo_13, mt2_13, signed_64]
  have hk : un b % 64 < 64 := Nat.mod_lt _ (by decide)
  rw [by_64, by_m64, turn_64 a (by omega) (rotl_64 a hk)]
theorem op_138 : g_X0_work 138 a b f = g_X1_work 138 a b f := by
  rw [xw_L (c := 138) (by decide +kernel) (by decide +kernel), trap_no (c := 138) _ _ (by decide +kernel) (by decide +kernel), if_pos (show (0 : Int32) ≤ 0 by decide), tw_L (c := 138) (by decide +kernel) (by decide +kernel) (by decide +kernel), mw_2L (c := 138) (by decide +kernel) (by decide +kernel) (by decide +kernel), show (138 : Int32) - 124 = 14 by decide, lo_14, mt2_14, signed_64]
  have hk : un b % 64 < 64 := Nat.mod_lt _ (by decide)
  have e : (64 : Int32) - nI (un b % 64) = nI (64 - un b % 64) := pk_sub (a := 64) (by omega)
  rw [by_64, by_m64, turn_64x a (by omega) e (rotr_64 a hk)]
theorem op_127 : g_X0_work 127 a b f = g_X1_work 127 a b f := by
  rw [xw_L (c := 127) (by decide +kernel) (by decide +kernel), trap_is (c := 127) _ _ (by decide), tr30_127, tw_L (c := 127) (by decide +kernel) (by decide +kernel) (by decide +kernel), mw_2L (c := 127) (by decide +kernel) (by decide +kernel) (by decide +kernel), show (127 : Int32) - 124 = 3 by decide, gt_dv (c := 3) (by decide +kernel) (by decide +kernel), lo_3]
  by_cases h : b = 0
  · rw [if_pos h, h, gdv_0, if_neg (show ¬ (3 : Int32) ≤ 0 by decide)]
  · rw [if_neg h]
    rw [dv64_3 h]
    by_cases t : a = -9223372036854775808 ∧ b = -1
    · rw [if_pos t, if_pos t, if_neg (show ¬ (4 : Int32) ≤ 0 by decide)]
    · rw [if_neg t, if_neg t, if_pos (show (0 : Int32) ≤ 0 by decide)]
theorem op_128 : g_X0_work 128 a b f = g_X1_work 128 a b f := by
  rw [xw_L (c := 128) (by decide +kernel) (by decide +kernel), trap_is (c := 128) _ _ (by decide), tr30_o (c := 128) _ _ (by decide +kernel) (by decide +kernel), tw_L (c := 128) (by decide +kernel) (by decide +kernel) (by decide +kernel), mw_2L (c := 128) (by decide +kernel) (by decide +kernel) (by decide +kernel), show (128 : Int32) - 124 = 4 by decide, gt_dv (c := 4) (by decide +kernel) (by decide +kernel), lo_4]
  by_cases h : b = 0
  · rw [if_pos h, h, gdv_0, if_neg (show ¬ (3 : Int32) ≤ 0 by decide)]
  · rw [if_neg h]
    rw [if_pos (show (0 : Int32) ≤ 0 by decide), dv64_4 h, quot_lN h]
theorem op_129 : g_X0_work 129 a b f = g_X1_work 129 a b f := by
  rw [xw_L (c := 129) (by decide +kernel) (by decide +kernel), trap_is (c := 129) _ _ (by decide), tr30_o (c := 129) _ _ (by decide +kernel) (by decide +kernel), tw_L (c := 129) (by decide +kernel) (by decide +kernel) (by decide +kernel), mw_2L (c := 129) (by decide +kernel) (by decide +kernel) (by decide +kernel), show (129 : Int32) - 124 = 5 by decide, gt_dv (c := 5) (by decide +kernel) (by decide +kernel), lo_5]
  by_cases h : b = 0
  · rw [if_pos h, h, gdv_0, if_neg (show ¬ (3 : Int32) ≤ 0 by decide)]
  · rw [if_neg h]
    rw [if_pos (show (0 : Int32) ≤ 0 by decide), dv64_5 h]
    by_cases t : b = -1
    · rw [if_pos ((lg_cmp_eq _ _).mpr t), t, rem_m1]
    · rw [if_neg (fun z => t ((lg_cmp_eq _ _).mp z))]
theorem op_130 : g_X0_work 130 a b f = g_X1_work 130 a b f := by
  rw [xw_L (c := 130) (by decide +kernel) (by decide +kernel), trap_is (c := 130) _ _ (by decide), tr30_o (c := 130) _ _ (by decide +kernel) (by decide +kernel), tw_L (c := 130) (by decide +kernel) (by decide +kernel) (by decide +kernel), mw_2L (c := 130) (by decide +kernel) (by decide +kernel) (by decide +kernel), show (130 : Int32) - 124 = 6 by decide, gt_dv (c := 6) (by decide +kernel) (by decide +kernel), lo_6]
  by_cases h : b = 0
  · rw [if_pos h, h, gdv_0, if_neg (show ¬ (3 : Int32) ≤ 0 by decide)]
  · rw [if_neg h]
    rw [if_pos (show (0 : Int32) ≤ 0 by decide), dv64_6 h, qrem_lN h]
theorem op_106 : g_X0_work 106 a b f = g_X1_work 106 a b f := by
  rw [xw_I (c := 106) (by decide +kernel) (by decide +kernel), trap_no (c := 106) _ _ (by decide +kernel) (by decide +kernel), if_pos (show (0 : Int32) ≤ 0 by decide), tw_I (c := 106) (by decide +kernel) (by decide +kernel) (by decide +kernel), mw_2I (c := 106) (by decide +kernel) (by decide +kernel) (by decide +kernel), show (106 : Int32) - 106 = 0 by decide, in_0, mt2_0, signed_32, l2i_i2l, l2i_i2l]
  rw [Int64.toInt32_add, cut_l2i, cut_l2i]
theorem op_107 : g_X0_work 107 a b f = g_X1_work 107 a b f := by
  rw [xw_I (c := 107) (by decide +kernel) (by decide +kernel), trap_no (c := 107) _ _ (by decide +kernel) (by decide +kernel), if_pos (show (0 : Int32) ≤ 0 by decide), tw_I (c := 107) (by decide +kernel) (by decide +kernel) (by decide +kernel), mw_2I (c := 107) (by decide +kernel) (by decide +kernel) (by decide +kernel), show (107 : Int32) - 106 = 1 by decide, in_1, mt2_1, signed_32, l2i_i2l, l2i_i2l]
  rw [Int64.toInt32_sub, cut_l2i, cut_l2i]
theorem op_113 : g_X0_work 113 a b f = g_X1_work 113 a b f := by
  rw [xw_I (c := 113) (by decide +kernel) (by decide +kernel), trap_no (c := 113) _ _ (by decide +kernel) (by decide +kernel), if_pos (show (0 : Int32) ≤ 0 by decide), tw_I (c := 113) (by decide +kernel) (by decide +kernel) (by decide +kernel), mw_2I (c := 113) (by decide +kernel) (by decide +kernel) (by decide +kernel), show (113 : Int32) - 106 = 7 by decide, in_7, mt2_7, signed_32, l2i_i2l, l2i_i2l]
  rw [Int64.toInt32_and, cut_l2i, cut_l2i]
theorem op_114 : g_X0_work 114 a b f = g_X1_work 114 a b f := by
  rw [xw_I (c := 114) (by decide +kernel) (by decide +kernel), trap_no (c := 114) _ _ (by decide +kernel) (by decide +kernel), if_pos (show (0 : Int32) ≤ 0 by decide), tw_I (c := 114) (by decide +kernel) (by decide +kernel) (by decide +kernel), mw_2I (c := 114) (by decide +kernel) (by decide +kernel) (by decide +kernel), show (114 : Int32) - 106 = 8 by decide, in_8, mt2_8, signed_32, l2i_i2l, l2i_i2l]
  rw [Int64.toInt32_or, cut_l2i, cut_l2i]
theorem op_115 : g_X0_work 115 a b f = g_X1_work 115 a b f := by
  rw [xw_I (c := 115) (by decide +kernel) (by decide +kernel), trap_no (c := 115) _ _ (by decide +kernel) (by decide +kernel), if_pos (show (0 : Int32) ≤ 0 by decide), tw_I (c := 115) (by decide +kernel) (by decide +kernel) (by decide +kernel), mw_2I (c := 115) (by decide +kernel) (by decide +kernel) (by decide +kernel), show (115 : Int32) - 106 = 9 by decide, in_9, mt2_9, signed_32, l2i_i2l, l2i_i2l]
  rw [Int64.toInt32_xor, cut_l2i, cut_l2i]
theorem op_108 : g_X0_work 108 a b f = g_X1_work 108 a b f := by
  rw [xw_I (c := 108) (by decide +kernel) (by decide +kernel), trap_no (c := 108) _ _ (by decide +kernel) (by decide +kernel), if_pos (show (0 : Int32) ≤ 0 by decide), tw_I (c := 108) (by decide +kernel) (by decide +kernel) (by decide +kernel), mw_2I (c := 108) (by decide +kernel) (by decide +kernel) (by decide +kernel), show (108 : Int32) - 106 = 2 by decide, in_2, mt2_2, signed_32, l2i_i2l, l2i_i2l]
  rw [prod_32 _ _ (c32 b), Int64.toInt32_mul, cut_l2i, cut_l2i]
theorem op_116 : g_X0_work 116 a b f = g_X1_work 116 a b f := by
  rw [xw_I (c := 116) (by decide +kernel) (by decide +kernel), trap_no (c := 116) _ _ (by decide +kernel) (by decide +kernel), if_pos (show (0 : Int32) ≤ 0 by decide), tw_I (c := 116) (by decide +kernel) (by decide +kernel) (by decide +kernel), mw_2I (c := 116) (by decide +kernel) (by decide +kernel) (by decide +kernel), show (116 : Int32) - 106 = 10 by decide, in_10, mt2_10, signed_32, l2i_i2l, l2i_i2l]
  have hk : u3 b.toInt32 % 32 < 32 := Nat.mod_lt _ (by decide)
  rw [by_32 b.toInt32, by_m32, by_c32, shl_32 a hk]
theorem op_117 : g_X0_work 117 a b f = g_X1_work 117 a b f := by
  rw [xw_I (c := 117) (by decide +kernel) (by decide +kernel), trap_no (c := 117) _ _ (by decide +kernel) (by decide +kernel), if_pos (show (0 : Int32) ≤ 0 by decide), tw_I (c := 117) (by decide +kernel) (by decide +kernel) (by decide +kernel), mw_2I (c := 117) (by decide +kernel) (by decide +kernel) (by decide +kernel), show (117 : Int32) - 106 = 11 by decide, in_11, mt2_11, signed_32, l2i_i2l, l2i_i2l]
  have hk : u3 b.toInt32 % 32 < 32 := Nat.mod_lt _ (by decide)
  rw [by_32 b.toInt32, by_m32, by_c32, signed_32, cut_l2i, shr_32 a hk]
theorem op_118 : g_X0_work 118 a b f = g_X1_work 118 a b f := by
  rw [xw_I (c := 118) (by decide +kernel) (by decide +kernel), trap_no (c := 118) _ _ (by decide +kernel) (by decide +kernel), if_pos (show (0 : Int32) ≤ 0 by decide), tw_I (c := 118) (by decide +kernel) (by decide +kernel) (by decide +kernel), mw_2I (c := 118) (by decide +kernel) (by decide +kernel) (by decide +kernel), show (118 : Int32) - 106 = 12 by decide, in_12, mt2_12, signed_32, l2i_i2l, l2i_i2l]
  have hk : u3 b.toInt32 % 32 < 32 := Nat.mod_lt _ (by decide)
  rw [by_32 b.toInt32, by_m32, by_c32, ushr_32 a hk]
theorem op_119 : g_X0_work 119 a b f = g_X1_work 119 a b f := by
  rw [xw_I (c := 119) (by decide +kernel) (by decide +kernel), trap_no (c := 119) _ _ (by decide +kernel) (by decide +kernel), if_pos (show (0 : Int32) ≤ 0 by decide), tw_I (c := 119) (by decide +kernel) (by decide +kernel) (by decide +kernel), mw_2I (c := 119) (by decide +kernel) (by decide +kernel) (by decide +kernel), show (119 : Int32) - 106 = 13 by decide, in_13, mt2_13, signed_32, l2i_i2l, l2i_i2l]
  have hk : u3 b.toInt32 % 32 < 32 := Nat.mod_lt _ (by decide)
  rw [by_32 b.toInt32, by_m32, by_c32, turn_32 a (by omega) (rotl_32 a.toInt32 hk)]
theorem op_120 : g_X0_work 120 a b f = g_X1_work 120 a b f := by
  rw [xw_I (c := 120) (by decide +kernel) (by decide +kernel), trap_no (c := 120) _ _ (by decide +kernel) (by decide +kernel), if_pos (show (0 : Int32) ≤ 0 by decide), tw_I (c := 120) (by decide +kernel) (by decide +kernel) (by decide +kernel), mw_2I (c := 120) (by decide +kernel) (by decide +kernel) (by decide +kernel), show (120 : Int32) - 106 = 14 by decide, in_14, mt2_14, signed_32, l2i_i2l, l2i_i2l]
  have hk : u3 b.toInt32 % 32 < 32 := Nat.mod_lt _ (by decide)
  have e : (32 : Int32) - nI (u3 b.toInt32 % 32) = nI (32 - u3 b.toInt32 % 32) := pk_sub (a := 32) (by omega)
  rw [by_32 b.toInt32, by_m32, by_c32]
  rw [turn_32x a (by omega) e (rotr_32 a.toInt32 hk)]
theorem op_109 : g_X0_work 109 a b f = g_X1_work 109 a b f := by
  rw [xw_I (c := 109) (by decide +kernel) (by decide +kernel), trap_is (c := 109) _ _ (by decide), tr30_109, tw_I (c := 109) (by decide +kernel) (by decide +kernel) (by decide +kernel), mw_2I (c := 109) (by decide +kernel) (by decide +kernel) (by decide +kernel), show (109 : Int32) - 106 = 3 by decide, gt_dv (c := 3) (by decide +kernel) (by decide +kernel), in_3, l2i_i2l, l2i_i2l]
  by_cases h : b.toInt32.toInt64 = 0
  · rw [if_pos h, z32.mpr h, gdv_0, if_neg (show ¬ (3 : Int32) ≤ 0 by decide)]
  · rw [if_neg h]
    rw [dv32_3 h]
    by_cases t : a.toInt32.toInt64 = -2147483648 ∧ b.toInt32.toInt64 = -1
    · rw [if_pos t, if_pos t, if_neg (show ¬ (4 : Int32) ≤ 0 by decide)]
    · rw [if_neg t, if_neg t, if_pos (show (0 : Int32) ≤ 0 by decide)]
theorem op_110 : g_X0_work 110 a b f = g_X1_work 110 a b f := by
  rw [xw_I (c := 110) (by decide +kernel) (by decide +kernel), trap_is (c := 110) _ _ (by decide), tr30_o (c := 110) _ _ (by decide +kernel) (by decide +kernel), tw_I (c := 110) (by decide +kernel) (by decide +kernel) (by decide +kernel), mw_2I (c := 110) (by decide +kernel) (by decide +kernel) (by decide +kernel), show (110 : Int32) - 106 = 4 by decide, gt_dv (c := 4) (by decide +kernel) (by decide +kernel), in_4, l2i_i2l, l2i_i2l]
  by_cases h : b.toInt32.toInt64 = 0
  · rw [if_pos h, z32.mpr h, gdv_0, if_neg (show ¬ (3 : Int32) ≤ 0 by decide)]
  · rw [if_neg h]
    rw [if_pos (show (0 : Int32) ≤ 0 by decide), dv32_4 h, low_32, low_32]
theorem op_111 : g_X0_work 111 a b f = g_X1_work 111 a b f := by
  rw [xw_I (c := 111) (by decide +kernel) (by decide +kernel), trap_is (c := 111) _ _ (by decide), tr30_o (c := 111) _ _ (by decide +kernel) (by decide +kernel), tw_I (c := 111) (by decide +kernel) (by decide +kernel) (by decide +kernel), mw_2I (c := 111) (by decide +kernel) (by decide +kernel) (by decide +kernel), show (111 : Int32) - 106 = 5 by decide, gt_dv (c := 5) (by decide +kernel) (by decide +kernel), in_5, l2i_i2l, l2i_i2l]
  by_cases h : b.toInt32.toInt64 = 0
  · rw [if_pos h, z32.mpr h, gdv_0, if_neg (show ¬ (3 : Int32) ≤ 0 by decide)]
  · rw [if_neg h]
    rw [if_pos (show (0 : Int32) ≤ 0 by decide), dv32_5 h]
    by_cases t : b.toInt32 = -1
    · rw [if_pos t, t, rem_m1i]
    · rw [if_neg t]
theorem op_112 : g_X0_work 112 a b f = g_X1_work 112 a b f := by
  rw [xw_I (c := 112) (by decide +kernel) (by decide +kernel), trap_is (c := 112) _ _ (by decide), tr30_o (c := 112) _ _ (by decide +kernel) (by decide +kernel), tw_I (c := 112) (by decide +kernel) (by decide +kernel) (by decide +kernel), mw_2I (c := 112) (by decide +kernel) (by decide +kernel) (by decide +kernel), show (112 : Int32) - 106 = 6 by decide, gt_dv (c := 6) (by decide +kernel) (by decide +kernel), in_6, l2i_i2l, l2i_i2l]
  by_cases h : b.toInt32.toInt64 = 0
  · rw [if_pos h, z32.mpr h, gdv_0, if_neg (show ¬ (3 : Int32) ≤ 0 by decide)]
  · rw [if_neg h]
    rw [if_pos (show (0 : Int32) ≤ 0 by decide), dv32_6 h, low_32, low_32]
end OQ
end
section
theorem lit_ne {c k : Int32} {n : Int} (h : ¬ c = k) (hk : k.toInt = n) : ¬ c.toInt = n := lv_neT h hk
theorem none_x (c : Int32) (hz : ¬ (69 ≤ c.toInt ∧ c.toInt ≤ 90) ∧ ¬ (103 ≤ c.toInt ∧ c.toInt ≤ 138) ∧ ¬ c.toInt = 167 ∧ ¬ c.toInt = 172 ∧ ¬ c.toInt = 173 ∧ ¬ (192 ≤ c.toInt ∧ c.toInt ≤ 196)) : g_X0_takes c = 0 ∧ g_X1_takes c = 0 := by
  have n69 : (69 : Int32).toInt = 69 := by decide
  have n70 : (70 : Int32).toInt = 70 := by decide
  have n79 : (79 : Int32).toInt = 79 := by decide
  have n80 : (80 : Int32).toInt = 80 := by decide
  have n81 : (81 : Int32).toInt = 81 := by decide
  have n90 : (90 : Int32).toInt = 90 := by decide
  have n103 : (103 : Int32).toInt = 103 := by decide
  have n105 : (105 : Int32).toInt = 105 := by decide
  have n106 : (106 : Int32).toInt = 106 := by decide
  have n120 : (120 : Int32).toInt = 120 := by decide
  have n121 : (121 : Int32).toInt = 121 := by decide
  have n123 : (123 : Int32).toInt = 123 := by decide
  have n124 : (124 : Int32).toInt = 124 := by decide
  have n138 : (138 : Int32).toInt = 138 := by decide
  have n167 : (167 : Int32).toInt = 167 := by decide
  have n172 : (172 : Int32).toInt = 172 := by decide
  have n173 : (173 : Int32).toInt = 173 := by decide
  have n192 : (192 : Int32).toInt = 192 := by decide
  have n193 : (193 : Int32).toInt = 193 := by decide
  have n194 : (194 : Int32).toInt = 194 := by decide
  have n196 : (196 : Int32).toInt = 196 := by decide
  have e1 : g_X2_isTwo c = false := by
    unfold g_X2_isTwo g_X2_isTwo_12 g_X2_isTwo_24 g_X2_isTwo_36
    simp only [Int32.lt_iff_toInt_lt, Int32.le_iff_toInt_le, ← Int32.toInt_inj, n69, n70, n79, n80, n81, n90, n103, n105, n106, n120, n121, n123, n124, n138, n167, n172, n173, n192, n193, n194, n196]
    repeat' split
    all_goals first | rfl | omega
  have e2 : g_X0_isOne c = false := by
    unfold g_X0_isOne g_X0_isOne_24 g_X0_isOne_36
    simp only [Int32.lt_iff_toInt_lt, Int32.le_iff_toInt_le, ← Int32.toInt_inj, n69, n70, n79, n80, n81, n90, n103, n105, n106, n120, n121, n123, n124, n138, n167, n172, n173, n192, n193, n194, n196]
    repeat' split
    all_goals first | rfl | omega
  have e3 : g_X1_isLongs c = false := by
    unfold g_X1_isLongs g_X1_isLongs_12 g_X1_isLongs_25
    simp only [Int32.lt_iff_toInt_lt, Int32.le_iff_toInt_le, ← Int32.toInt_inj, n69, n70, n79, n80, n81, n90, n103, n105, n106, n120, n121, n123, n124, n138, n167, n172, n173, n192, n193, n194, n196]
    repeat' split
    all_goals first | rfl | omega
  have e4 : g_X1_isInts c = false := by
    unfold g_X1_isInts g_X1_isInts_12 g_X1_isInts_24
    simp only [Int32.lt_iff_toInt_lt, Int32.le_iff_toInt_le, ← Int32.toInt_inj, n69, n70, n79, n80, n81, n90, n103, n105, n106, n120, n121, n123, n124, n138, n167, n172, n173, n192, n193, n194, n196]
    repeat' split
    all_goals first | rfl | omega
  unfold g_X0_takes g_X1_takes
  rw [e1, e2, e3, e4]
  exact ⟨by decide, by rw [if_pos (show bi false = 0 by decide), if_pos (show bi false = 0 by decide)]⟩
theorem ops_none (c : Int32) (a b f : Int64) (h69 : ¬ c = 69) (h70 : ¬ c = 70) (h71 : ¬ c = 71) (h72 : ¬ c = 72) (h73 : ¬ c = 73) (h74 : ¬ c = 74) (h75 : ¬ c = 75) (h76 : ¬ c = 76) (h77 : ¬ c = 77) (h78 : ¬ c = 78) (h79 : ¬ c = 79) (h80 : ¬ c = 80) (h81 : ¬ c = 81) (h82 : ¬ c = 82) (h83 : ¬ c = 83) (h84 : ¬ c = 84) (h85 : ¬ c = 85) (h86 : ¬ c = 86) (h87 : ¬ c = 87) (h88 : ¬ c = 88) (h89 : ¬ c = 89) (h90 : ¬ c = 90) (h103 : ¬ c = 103) (h104 : ¬ c = 104) (h105 : ¬ c = 105) (h106 : ¬ c = 106) (h107 : ¬ c = 107) (h108 : ¬ c = 108) (h109 : ¬ c = 109) (h110 : ¬ c = 110) (h111 : ¬ c = 111) (h112 : ¬ c = 112) (h113 : ¬ c = 113) (h114 : ¬ c = 114) (h115 : ¬ c = 115) (h116 : ¬ c = 116) (h117 : ¬ c = 117) (h118 : ¬ c = 118) (h119 : ¬ c = 119) (h120 : ¬ c = 120) (h121 : ¬ c = 121) (h122 : ¬ c = 122) (h123 : ¬ c = 123) (h124 : ¬ c = 124) (h125 : ¬ c = 125) (h126 : ¬ c = 126) (h127 : ¬ c = 127) (h128 : ¬ c = 128) (h129 : ¬ c = 129) (h130 : ¬ c = 130) (h131 : ¬ c = 131) (h132 : ¬ c = 132) (h133 : ¬ c = 133) (h134 : ¬ c = 134) (h135 : ¬ c = 135) (h136 : ¬ c = 136) (h137 : ¬ c = 137) (h138 : ¬ c = 138) (h167 : ¬ c = 167) (h172 : ¬ c = 172) (h173 : ¬ c = 173) (h192 : ¬ c = 192) (h193 : ¬ c = 193) (h194 : ¬ c = 194) (h195 : ¬ c = 195) (h196 : ¬ c = 196) : g_X0_work c a b f = g_X1_work c a b f := by
  have m69 := lit_ne (n := 69) h69 (by decide)
  have m70 := lit_ne (n := 70) h70 (by decide)
  have m71 := lit_ne (n := 71) h71 (by decide)
  have m72 := lit_ne (n := 72) h72 (by decide)
  have m73 := lit_ne (n := 73) h73 (by decide)
  have m74 := lit_ne (n := 74) h74 (by decide)
  have m75 := lit_ne (n := 75) h75 (by decide)
  have m76 := lit_ne (n := 76) h76 (by decide)
  have m77 := lit_ne (n := 77) h77 (by decide)
  have m78 := lit_ne (n := 78) h78 (by decide)
  have m79 := lit_ne (n := 79) h79 (by decide)
  have m80 := lit_ne (n := 80) h80 (by decide)
  have m81 := lit_ne (n := 81) h81 (by decide)
  have m82 := lit_ne (n := 82) h82 (by decide)
  have m83 := lit_ne (n := 83) h83 (by decide)
  have m84 := lit_ne (n := 84) h84 (by decide)
  have m85 := lit_ne (n := 85) h85 (by decide)
  have m86 := lit_ne (n := 86) h86 (by decide)
  have m87 := lit_ne (n := 87) h87 (by decide)
  have m88 := lit_ne (n := 88) h88 (by decide)
  have m89 := lit_ne (n := 89) h89 (by decide)
  have m90 := lit_ne (n := 90) h90 (by decide)
  have m103 := lit_ne (n := 103) h103 (by decide)
  have m104 := lit_ne (n := 104) h104 (by decide)
  have m105 := lit_ne (n := 105) h105 (by decide)
  have m106 := lit_ne (n := 106) h106 (by decide)
  have m107 := lit_ne (n := 107) h107 (by decide)
  have m108 := lit_ne (n := 108) h108 (by decide)
  have m109 := lit_ne (n := 109) h109 (by decide)
  have m110 := lit_ne (n := 110) h110 (by decide)
  have m111 := lit_ne (n := 111) h111 (by decide)
  have m112 := lit_ne (n := 112) h112 (by decide)
  have m113 := lit_ne (n := 113) h113 (by decide)
  have m114 := lit_ne (n := 114) h114 (by decide)
  have m115 := lit_ne (n := 115) h115 (by decide)
  have m116 := lit_ne (n := 116) h116 (by decide)
  have m117 := lit_ne (n := 117) h117 (by decide)
  have m118 := lit_ne (n := 118) h118 (by decide)
  have m119 := lit_ne (n := 119) h119 (by decide)
  have m120 := lit_ne (n := 120) h120 (by decide)
  have m121 := lit_ne (n := 121) h121 (by decide)
  have m122 := lit_ne (n := 122) h122 (by decide)
  have m123 := lit_ne (n := 123) h123 (by decide)
  have m124 := lit_ne (n := 124) h124 (by decide)
  have m125 := lit_ne (n := 125) h125 (by decide)
  have m126 := lit_ne (n := 126) h126 (by decide)
  have m127 := lit_ne (n := 127) h127 (by decide)
  have m128 := lit_ne (n := 128) h128 (by decide)
  have m129 := lit_ne (n := 129) h129 (by decide)
  have m130 := lit_ne (n := 130) h130 (by decide)
  have m131 := lit_ne (n := 131) h131 (by decide)
  have m132 := lit_ne (n := 132) h132 (by decide)
  have m133 := lit_ne (n := 133) h133 (by decide)
  have m134 := lit_ne (n := 134) h134 (by decide)
  have m135 := lit_ne (n := 135) h135 (by decide)
  have m136 := lit_ne (n := 136) h136 (by decide)
  have m137 := lit_ne (n := 137) h137 (by decide)
  have m138 := lit_ne (n := 138) h138 (by decide)
  have m167 := lit_ne (n := 167) h167 (by decide)
  have m172 := lit_ne (n := 172) h172 (by decide)
  have m173 := lit_ne (n := 173) h173 (by decide)
  have m192 := lit_ne (n := 192) h192 (by decide)
  have m193 := lit_ne (n := 193) h193 (by decide)
  have m194 := lit_ne (n := 194) h194 (by decide)
  have m195 := lit_ne (n := 195) h195 (by decide)
  have m196 := lit_ne (n := 196) h196 (by decide)
  obtain ⟨e1, e2⟩ := none_x c (by omega)
  unfold g_X0_work g_X1_work
  rw [e1, e2, if_pos rfl, if_pos rfl]
theorem ops_all (c : Int32) (a b f : Int64) : g_X0_work c a b f = g_X1_work c a b f := by
  by_cases h69 : c = 69
  · rw [h69]; exact op_69
  by_cases h70 : c = 70
  · rw [h70]; exact op_70
  by_cases h71 : c = 71
  · rw [h71]; exact op_71
  by_cases h72 : c = 72
  · rw [h72]; exact op_72
  by_cases h73 : c = 73
  · rw [h73]; exact op_73
  by_cases h74 : c = 74
  · rw [h74]; exact op_74
  by_cases h75 : c = 75
  · rw [h75]; exact op_75
  by_cases h76 : c = 76
  · rw [h76]; exact op_76
  by_cases h77 : c = 77
  · rw [h77]; exact op_77
  by_cases h78 : c = 78
  · rw [h78]; exact op_78
  by_cases h79 : c = 79
  · rw [h79]; exact op_79
  by_cases h80 : c = 80
  · rw [h80]; exact op_80
  by_cases h81 : c = 81
  · rw [h81]; exact op_81
  by_cases h82 : c = 82
  · rw [h82]; exact op_82
  by_cases h83 : c = 83
  · rw [h83]; exact op_83
  by_cases h84 : c = 84
  · rw [h84]; exact op_84
  by_cases h85 : c = 85
  · rw [h85]; exact op_85
  by_cases h86 : c = 86
  · rw [h86]; exact op_86
  by_cases h87 : c = 87
  · rw [h87]; exact op_87
  by_cases h88 : c = 88
  · rw [h88]; exact op_88
  by_cases h89 : c = 89
  · rw [h89]; exact op_89
  by_cases h90 : c = 90
  · rw [h90]; exact op_90
  by_cases h103 : c = 103
  · rw [h103]; exact op_103
  by_cases h104 : c = 104
  · rw [h104]; exact op_104
  by_cases h105 : c = 105
  · rw [h105]; exact op_105
  by_cases h106 : c = 106
  · rw [h106]; exact op_106
  by_cases h107 : c = 107
  · rw [h107]; exact op_107
  by_cases h108 : c = 108
  · rw [h108]; exact op_108
  by_cases h109 : c = 109
  · rw [h109]; exact op_109
  by_cases h110 : c = 110
  · rw [h110]; exact op_110
  by_cases h111 : c = 111
  · rw [h111]; exact op_111
  by_cases h112 : c = 112
  · rw [h112]; exact op_112
  by_cases h113 : c = 113
  · rw [h113]; exact op_113
  by_cases h114 : c = 114
  · rw [h114]; exact op_114
  by_cases h115 : c = 115
  · rw [h115]; exact op_115
  by_cases h116 : c = 116
  · rw [h116]; exact op_116
  by_cases h117 : c = 117
  · rw [h117]; exact op_117
  by_cases h118 : c = 118
  · rw [h118]; exact op_118
  by_cases h119 : c = 119
  · rw [h119]; exact op_119
  by_cases h120 : c = 120
  · rw [h120]; exact op_120
  by_cases h121 : c = 121
  · rw [h121]; exact op_121
  by_cases h122 : c = 122
  · rw [h122]; exact op_122
  by_cases h123 : c = 123
  · rw [h123]; exact op_123
  by_cases h124 : c = 124
  · rw [h124]; exact op_124
  by_cases h125 : c = 125
  · rw [h125]; exact op_125
  by_cases h126 : c = 126
  · rw [h126]; exact op_126
  by_cases h127 : c = 127
  · rw [h127]; exact op_127
  by_cases h128 : c = 128
  · rw [h128]; exact op_128
  by_cases h129 : c = 129
  · rw [h129]; exact op_129
  by_cases h130 : c = 130
  · rw [h130]; exact op_130
  by_cases h131 : c = 131
  · rw [h131]; exact op_131
  by_cases h132 : c = 132
  · rw [h132]; exact op_132
  by_cases h133 : c = 133
  · rw [h133]; exact op_133
  by_cases h134 : c = 134
  · rw [h134]; exact op_134
  by_cases h135 : c = 135
  · rw [h135]; exact op_135
  by_cases h136 : c = 136
  · rw [h136]; exact op_136
  by_cases h137 : c = 137
  · rw [h137]; exact op_137
  by_cases h138 : c = 138
  · rw [h138]; exact op_138
  by_cases h167 : c = 167
  · rw [h167]; exact op_167
  by_cases h172 : c = 172
  · rw [h172]; exact op_172
  by_cases h173 : c = 173
  · rw [h173]; exact op_173
  by_cases h192 : c = 192
  · rw [h192]; exact op_192
  by_cases h193 : c = 193
  · rw [h193]; exact op_193
  by_cases h194 : c = 194
  · rw [h194]; exact op_194
  by_cases h195 : c = 195
  · rw [h195]; exact op_195
  by_cases h196 : c = 196
  · rw [h196]; exact op_196
  exact ops_none c a b f h69 h70 h71 h72 h73 h74 h75 h76 h77 h78 h79 h80 h81 h82 h83 h84 h85 h86 h87 h88 h89 h90 h103 h104 h105 h106 h107 h108 h109 h110 h111 h112 h113 h114 h115 h116 h117 h118 h119 h120 h121 h122 h123 h124 h125 h126 h127 h128 h129 h130 h131 h132 h133 h134 h135 h136 h137 h138 h167 h172 h173 h192 h193 h194 h195 h196
end
section
/-! which numbers name operations, and of what kind -/
theorem k_X2_isTwo (c : Int32) : g_X2_isTwo c = decide (70 ≤ c.toInt ∧ c.toInt ≤ 79 ∨ 81 ≤ c.toInt ∧ c.toInt ≤ 90 ∨ 106 ≤ c.toInt ∧ c.toInt ≤ 120 ∨ 124 ≤ c.toInt ∧ c.toInt ≤ 138) := by
  have n69 : (69 : Int32).toInt = 69 := by decide
  have n70 : (70 : Int32).toInt = 70 := by decide
  have n79 : (79 : Int32).toInt = 79 := by decide
  have n80 : (80 : Int32).toInt = 80 := by decide
  have n81 : (81 : Int32).toInt = 81 := by decide
  have n90 : (90 : Int32).toInt = 90 := by decide
  have n103 : (103 : Int32).toInt = 103 := by decide
  have n105 : (105 : Int32).toInt = 105 := by decide
  have n106 : (106 : Int32).toInt = 106 := by decide
  have n120 : (120 : Int32).toInt = 120 := by decide
  have n121 : (121 : Int32).toInt = 121 := by decide
  have n123 : (123 : Int32).toInt = 123 := by decide
  have n124 : (124 : Int32).toInt = 124 := by decide
  have n138 : (138 : Int32).toInt = 138 := by decide
  have n167 : (167 : Int32).toInt = 167 := by decide
  have n172 : (172 : Int32).toInt = 172 := by decide
  have n173 : (173 : Int32).toInt = 173 := by decide
  have n192 : (192 : Int32).toInt = 192 := by decide
  have n193 : (193 : Int32).toInt = 193 := by decide
  have n194 : (194 : Int32).toInt = 194 := by decide
  have n196 : (196 : Int32).toInt = 196 := by decide
  unfold g_X2_isTwo g_X2_isTwo_12 g_X2_isTwo_24 g_X2_isTwo_36
  simp only [Int32.lt_iff_toInt_lt, Int32.le_iff_toInt_le, ← Int32.toInt_inj, n69, n70, n79, n80, n81, n90, n103, n105, n106, n120, n121, n123, n124, n138, n167, n172, n173, n192, n193, n194, n196]
  generalize c.toInt = z
  repeat' split
  all_goals first | (rw [decide_eq_true (by omega)]; done) | (rw [decide_eq_false (by omega)]; done)
theorem k_X0_isOne (c : Int32) : g_X0_isOne c = decide (c.toInt = 69 ∨ c.toInt = 80 ∨ 103 ≤ c.toInt ∧ c.toInt ≤ 105 ∨ 121 ≤ c.toInt ∧ c.toInt ≤ 123 ∨ c.toInt = 167 ∨ c.toInt = 172 ∨ c.toInt = 173 ∨ 192 ≤ c.toInt ∧ c.toInt ≤ 196) := by
  have n69 : (69 : Int32).toInt = 69 := by decide
  have n70 : (70 : Int32).toInt = 70 := by decide
  have n79 : (79 : Int32).toInt = 79 := by decide
  have n80 : (80 : Int32).toInt = 80 := by decide
  have n81 : (81 : Int32).toInt = 81 := by decide
  have n90 : (90 : Int32).toInt = 90 := by decide
  have n103 : (103 : Int32).toInt = 103 := by decide
  have n105 : (105 : Int32).toInt = 105 := by decide
  have n106 : (106 : Int32).toInt = 106 := by decide
  have n120 : (120 : Int32).toInt = 120 := by decide
  have n121 : (121 : Int32).toInt = 121 := by decide
  have n123 : (123 : Int32).toInt = 123 := by decide
  have n124 : (124 : Int32).toInt = 124 := by decide
  have n138 : (138 : Int32).toInt = 138 := by decide
  have n167 : (167 : Int32).toInt = 167 := by decide
  have n172 : (172 : Int32).toInt = 172 := by decide
  have n173 : (173 : Int32).toInt = 173 := by decide
  have n192 : (192 : Int32).toInt = 192 := by decide
  have n193 : (193 : Int32).toInt = 193 := by decide
  have n194 : (194 : Int32).toInt = 194 := by decide
  have n196 : (196 : Int32).toInt = 196 := by decide
  unfold g_X0_isOne g_X0_isOne_24 g_X0_isOne_36
  simp only [Int32.lt_iff_toInt_lt, Int32.le_iff_toInt_le, ← Int32.toInt_inj, n69, n70, n79, n80, n81, n90, n103, n105, n106, n120, n121, n123, n124, n138, n167, n172, n173, n192, n193, n194, n196]
  generalize c.toInt = z
  repeat' split
  all_goals first | (rw [decide_eq_true (by omega)]; done) | (rw [decide_eq_false (by omega)]; done)
theorem k_X1_isLongs (c : Int32) : g_X1_isLongs c = decide (80 ≤ c.toInt ∧ c.toInt ≤ 90 ∨ 121 ≤ c.toInt ∧ c.toInt ≤ 138 ∨ c.toInt = 167 ∨ 194 ≤ c.toInt ∧ c.toInt ≤ 196) := by
  have n69 : (69 : Int32).toInt = 69 := by decide
  have n70 : (70 : Int32).toInt = 70 := by decide
  have n79 : (79 : Int32).toInt = 79 := by decide
  have n80 : (80 : Int32).toInt = 80 := by decide
  have n81 : (81 : Int32).toInt = 81 := by decide
  have n90 : (90 : Int32).toInt = 90 := by decide
  have n103 : (103 : Int32).toInt = 103 := by decide
  have n105 : (105 : Int32).toInt = 105 := by decide
  have n106 : (106 : Int32).toInt = 106 := by decide
  have n120 : (120 : Int32).toInt = 120 := by decide
  have n121 : (121 : Int32).toInt = 121 := by decide
  have n123 : (123 : Int32).toInt = 123 := by decide
  have n124 : (124 : Int32).toInt = 124 := by decide
  have n138 : (138 : Int32).toInt = 138 := by decide
  have n167 : (167 : Int32).toInt = 167 := by decide
  have n172 : (172 : Int32).toInt = 172 := by decide
  have n173 : (173 : Int32).toInt = 173 := by decide
  have n192 : (192 : Int32).toInt = 192 := by decide
  have n193 : (193 : Int32).toInt = 193 := by decide
  have n194 : (194 : Int32).toInt = 194 := by decide
  have n196 : (196 : Int32).toInt = 196 := by decide
  unfold g_X1_isLongs g_X1_isLongs_12 g_X1_isLongs_25
  simp only [Int32.lt_iff_toInt_lt, Int32.le_iff_toInt_le, ← Int32.toInt_inj, n69, n70, n79, n80, n81, n90, n103, n105, n106, n120, n121, n123, n124, n138, n167, n172, n173, n192, n193, n194, n196]
  generalize c.toInt = z
  repeat' split
  all_goals first | (rw [decide_eq_true (by omega)]; done) | (rw [decide_eq_false (by omega)]; done)
theorem k_X1_isInts (c : Int32) : g_X1_isInts c = decide (69 ≤ c.toInt ∧ c.toInt ≤ 79 ∨ 103 ≤ c.toInt ∧ c.toInt ≤ 120 ∨ c.toInt = 172 ∨ c.toInt = 173 ∨ c.toInt = 192 ∨ c.toInt = 193) := by
  have n69 : (69 : Int32).toInt = 69 := by decide
  have n70 : (70 : Int32).toInt = 70 := by decide
  have n79 : (79 : Int32).toInt = 79 := by decide
  have n80 : (80 : Int32).toInt = 80 := by decide
  have n81 : (81 : Int32).toInt = 81 := by decide
  have n90 : (90 : Int32).toInt = 90 := by decide
  have n103 : (103 : Int32).toInt = 103 := by decide
  have n105 : (105 : Int32).toInt = 105 := by decide
  have n106 : (106 : Int32).toInt = 106 := by decide
  have n120 : (120 : Int32).toInt = 120 := by decide
  have n121 : (121 : Int32).toInt = 121 := by decide
  have n123 : (123 : Int32).toInt = 123 := by decide
  have n124 : (124 : Int32).toInt = 124 := by decide
  have n138 : (138 : Int32).toInt = 138 := by decide
  have n167 : (167 : Int32).toInt = 167 := by decide
  have n172 : (172 : Int32).toInt = 172 := by decide
  have n173 : (173 : Int32).toInt = 173 := by decide
  have n192 : (192 : Int32).toInt = 192 := by decide
  have n193 : (193 : Int32).toInt = 193 := by decide
  have n194 : (194 : Int32).toInt = 194 := by decide
  have n196 : (196 : Int32).toInt = 196 := by decide
  unfold g_X1_isInts g_X1_isInts_12 g_X1_isInts_24
  simp only [Int32.lt_iff_toInt_lt, Int32.le_iff_toInt_le, ← Int32.toInt_inj, n69, n70, n79, n80, n81, n90, n103, n105, n106, n120, n121, n123, n124, n138, n167, n172, n173, n192, n193, n194, n196]
  generalize c.toInt = z
  repeat' split
  all_goals first | (rw [decide_eq_true (by omega)]; done) | (rw [decide_eq_false (by omega)]; done)
theorem k_X1_isOne (c : Int32) : g_X1_isOne c = decide (c.toInt = 69 ∨ c.toInt = 80 ∨ 103 ≤ c.toInt ∧ c.toInt ≤ 105 ∨ 121 ≤ c.toInt ∧ c.toInt ≤ 123 ∨ 167 ≤ c.toInt) := by
  have n69 : (69 : Int32).toInt = 69 := by decide
  have n70 : (70 : Int32).toInt = 70 := by decide
  have n79 : (79 : Int32).toInt = 79 := by decide
  have n80 : (80 : Int32).toInt = 80 := by decide
  have n81 : (81 : Int32).toInt = 81 := by decide
  have n90 : (90 : Int32).toInt = 90 := by decide
  have n103 : (103 : Int32).toInt = 103 := by decide
  have n105 : (105 : Int32).toInt = 105 := by decide
  have n106 : (106 : Int32).toInt = 106 := by decide
  have n120 : (120 : Int32).toInt = 120 := by decide
  have n121 : (121 : Int32).toInt = 121 := by decide
  have n123 : (123 : Int32).toInt = 123 := by decide
  have n124 : (124 : Int32).toInt = 124 := by decide
  have n138 : (138 : Int32).toInt = 138 := by decide
  have n167 : (167 : Int32).toInt = 167 := by decide
  have n172 : (172 : Int32).toInt = 172 := by decide
  have n173 : (173 : Int32).toInt = 173 := by decide
  have n192 : (192 : Int32).toInt = 192 := by decide
  have n193 : (193 : Int32).toInt = 193 := by decide
  have n194 : (194 : Int32).toInt = 194 := by decide
  have n196 : (196 : Int32).toInt = 196 := by decide
  unfold g_X1_isOne g_X1_isOne_24 g_X1_isOne_36
  simp only [Int32.lt_iff_toInt_lt, Int32.le_iff_toInt_le, ← Int32.toInt_inj, n69, n70, n79, n80, n81, n90, n103, n105, n106, n120, n121, n123, n124, n138, n167, n172, n173, n192, n193, n194, n196]
  generalize c.toInt = z
  repeat' split
  all_goals first | (rw [decide_eq_true (by omega)]; done) | (rw [decide_eq_false (by omega)]; done)
theorem k_X1_leavesLong (c : Int32) : g_X1_leavesLong c = decide (121 ≤ c.toInt ∧ c.toInt ≤ 138 ∨ c.toInt = 172 ∨ c.toInt = 173 ∨ 194 ≤ c.toInt ∧ c.toInt ≤ 196) := by
  have n69 : (69 : Int32).toInt = 69 := by decide
  have n70 : (70 : Int32).toInt = 70 := by decide
  have n79 : (79 : Int32).toInt = 79 := by decide
  have n80 : (80 : Int32).toInt = 80 := by decide
  have n81 : (81 : Int32).toInt = 81 := by decide
  have n90 : (90 : Int32).toInt = 90 := by decide
  have n103 : (103 : Int32).toInt = 103 := by decide
  have n105 : (105 : Int32).toInt = 105 := by decide
  have n106 : (106 : Int32).toInt = 106 := by decide
  have n120 : (120 : Int32).toInt = 120 := by decide
  have n121 : (121 : Int32).toInt = 121 := by decide
  have n123 : (123 : Int32).toInt = 123 := by decide
  have n124 : (124 : Int32).toInt = 124 := by decide
  have n138 : (138 : Int32).toInt = 138 := by decide
  have n167 : (167 : Int32).toInt = 167 := by decide
  have n172 : (172 : Int32).toInt = 172 := by decide
  have n173 : (173 : Int32).toInt = 173 := by decide
  have n192 : (192 : Int32).toInt = 192 := by decide
  have n193 : (193 : Int32).toInt = 193 := by decide
  have n194 : (194 : Int32).toInt = 194 := by decide
  have n196 : (196 : Int32).toInt = 196 := by decide
  unfold g_X1_leavesLong g_X1_leavesLong_13
  simp only [Int32.lt_iff_toInt_lt, Int32.le_iff_toInt_le, ← Int32.toInt_inj, n69, n70, n79, n80, n81, n90, n103, n105, n106, n120, n121, n123, n124, n138, n167, n172, n173, n192, n193, n194, n196]
  generalize c.toInt = z
  repeat' split
  all_goals first | (rw [decide_eq_true (by omega)]; done) | (rw [decide_eq_false (by omega)]; done)
theorem k_takes (c : Int32) : g_X2_takes c = 126 ↔ ¬ (69 ≤ c.toInt ∧ c.toInt ≤ 79 ∨ 103 ≤ c.toInt ∧ c.toInt ≤ 120 ∨ c.toInt = 172 ∨ c.toInt = 173 ∨ c.toInt = 192 ∨ c.toInt = 193) := by
  have n69 : (69 : Int32).toInt = 69 := by decide
  have n70 : (70 : Int32).toInt = 70 := by decide
  have n79 : (79 : Int32).toInt = 79 := by decide
  have n80 : (80 : Int32).toInt = 80 := by decide
  have n81 : (81 : Int32).toInt = 81 := by decide
  have n90 : (90 : Int32).toInt = 90 := by decide
  have n103 : (103 : Int32).toInt = 103 := by decide
  have n105 : (105 : Int32).toInt = 105 := by decide
  have n106 : (106 : Int32).toInt = 106 := by decide
  have n120 : (120 : Int32).toInt = 120 := by decide
  have n121 : (121 : Int32).toInt = 121 := by decide
  have n123 : (123 : Int32).toInt = 123 := by decide
  have n124 : (124 : Int32).toInt = 124 := by decide
  have n138 : (138 : Int32).toInt = 138 := by decide
  have n167 : (167 : Int32).toInt = 167 := by decide
  have n172 : (172 : Int32).toInt = 172 := by decide
  have n173 : (173 : Int32).toInt = 173 := by decide
  have n192 : (192 : Int32).toInt = 192 := by decide
  have n193 : (193 : Int32).toInt = 193 := by decide
  have n194 : (194 : Int32).toInt = 194 := by decide
  have n196 : (196 : Int32).toInt = 196 := by decide
  have q : ¬ (127 : Int32) = 126 := by decide
  unfold g_X2_takes g_X2_takes_12 g_X2_takes_24 g_X2_takes_52
  simp only [Int32.lt_iff_toInt_lt, Int32.le_iff_toInt_le, ← Int32.toInt_inj, n69, n70, n79, n80, n81, n90, n103, n105, n106, n120, n121, n123, n124, n138, n167, n172, n173, n192, n193, n194, n196]
  generalize c.toInt = z
  repeat' split
  all_goals first | exact ⟨fun e => absurd e (by decide), fun e => absurd e (by omega)⟩ | exact ⟨fun _ => by omega, fun _ => rfl⟩
theorem k_leaves (c : Int32) : g_X2_leaves c = 126 ↔ ¬ (c.toInt ≤ 90 ∨ 103 ≤ c.toInt ∧ c.toInt ≤ 120 ∨ c.toInt = 167 ∨ c.toInt = 192 ∨ c.toInt = 193) := by
  have n69 : (69 : Int32).toInt = 69 := by decide
  have n70 : (70 : Int32).toInt = 70 := by decide
  have n79 : (79 : Int32).toInt = 79 := by decide
  have n80 : (80 : Int32).toInt = 80 := by decide
  have n81 : (81 : Int32).toInt = 81 := by decide
  have n90 : (90 : Int32).toInt = 90 := by decide
  have n103 : (103 : Int32).toInt = 103 := by decide
  have n105 : (105 : Int32).toInt = 105 := by decide
  have n106 : (106 : Int32).toInt = 106 := by decide
  have n120 : (120 : Int32).toInt = 120 := by decide
  have n121 : (121 : Int32).toInt = 121 := by decide
  have n123 : (123 : Int32).toInt = 123 := by decide
  have n124 : (124 : Int32).toInt = 124 := by decide
  have n138 : (138 : Int32).toInt = 138 := by decide
  have n167 : (167 : Int32).toInt = 167 := by decide
  have n172 : (172 : Int32).toInt = 172 := by decide
  have n173 : (173 : Int32).toInt = 173 := by decide
  have n192 : (192 : Int32).toInt = 192 := by decide
  have n193 : (193 : Int32).toInt = 193 := by decide
  have n194 : (194 : Int32).toInt = 194 := by decide
  have n196 : (196 : Int32).toInt = 196 := by decide
  unfold g_X2_leaves g_X2_leaves_18
  simp only [Int32.lt_iff_toInt_lt, Int32.le_iff_toInt_le, ← Int32.toInt_inj, n69, n70, n79, n80, n81, n90, n103, n105, n106, n120, n121, n123, n124, n138, n167, n172, n173, n192, n193, n194, n196]
  generalize c.toInt = z
  repeat' split
  all_goals first | exact ⟨fun e => absurd e (by decide), fun e => absurd e (by omega)⟩ | exact ⟨fun _ => by omega, fun _ => rfl⟩
theorem bi_dec {P : Prop} [Decidable P] : bi (decide P) = 0 ↔ ¬ P := by
  rw [bi_0, decide_eq_false_iff_not]
theorem cls_takes (c : Int32) : g_X0_takes c = g_X1_takes c := by
  unfold g_X0_takes g_X1_takes g_X1_takes_18
  rw [k_X2_isTwo, k_X0_isOne, k_X1_isLongs, k_X1_isInts, k_X1_isOne]
  simp only [bi_dec]
  generalize c.toInt = z
  repeat' split
  all_goals first | rfl | (exfalso; omega)
theorem le0 : ((0 : Int32) ≤ 0 ↔ True) ∧ ((1 : Int32) ≤ 0 ↔ False) ∧ ((2 : Int32) ≤ 0 ↔ False) := by decide
theorem tk_le (c : Int32) : g_X0_takes c ≤ 0 ↔ ¬ (70 ≤ c.toInt ∧ c.toInt ≤ 79 ∨ 81 ≤ c.toInt ∧ c.toInt ≤ 90 ∨ 106 ≤ c.toInt ∧ c.toInt ≤ 120 ∨ 124 ≤ c.toInt ∧ c.toInt ≤ 138) ∧ ¬ (c.toInt = 69 ∨ c.toInt = 80 ∨ 103 ≤ c.toInt ∧ c.toInt ≤ 105 ∨ 121 ≤ c.toInt ∧ c.toInt ≤ 123 ∨ c.toInt = 167 ∨ c.toInt = 172 ∨ c.toInt = 173 ∨ 192 ≤ c.toInt ∧ c.toInt ≤ 196) := by
  unfold g_X0_takes
  rw [k_X2_isTwo, k_X0_isOne]
  simp only [bi_dec]
  generalize c.toInt = z
  repeat' split
  · exact ⟨fun _ => ⟨by assumption, by assumption⟩, fun _ => le0.1.mpr trivial⟩
  · exact ⟨fun e => (le0.2.1.mp e).elim, fun e => absurd e.2 (by assumption)⟩
  · exact ⟨fun e => (le0.2.2.mp e).elim, fun e => absurd e.1 (by assumption)⟩
theorem cls_takesLongs (c : Int32) : g_X0_takesLongs c = g_X1_takesLongs c := by
  unfold g_X0_takesLongs g_X1_takesLongs
  rw [k_X1_isLongs]
  simp only [tk_le, k_takes]
  generalize c.toInt = z
  repeat' split
  all_goals first | (rw [decide_eq_true (by omega)]; done) | (rw [decide_eq_false (by omega)]; done)
theorem cls_leavesLong (c : Int32) : g_X0_leavesLong c = g_X1_leavesLong c := by
  unfold g_X0_leavesLong
  rw [k_X1_leavesLong]
  simp only [tk_le, k_leaves]
  generalize c.toInt = z
  repeat' split
  all_goals first | (rw [decide_eq_true (by omega)]; done) | (rw [decide_eq_false (by omega)]; done)
end
section
set_option maxRecDepth 100000
abbrev cX0_work : ByteArray := prog_1_method_6_code
def yX0_work : MethodName := ⟨RX0, "work", "(IJJ)I"⟩
theorem dX0_work_0 : decode cX0_work 0 = .ok (.aload_n 0, 1) := by decide +kernel
theorem dX0_work_1 : decode cX0_work 1 = .ok (.iload_n 1, 1) := by decide +kernel
theorem dX0_work_2 : decode cX0_work 2 = .ok (.invokevirtual 22, 3) := by decide +kernel
theorem dX0_work_5 : decode cX0_work 5 = .ok (.istore 6, 2) := by decide +kernel
theorem dX0_work_7 : decode cX0_work 7 = .ok (.iload 6, 2) := by decide +kernel
theorem dX0_work_9 : decode cX0_work 9 = .ok (.ifCond .ne 5, 3) := by decide +kernel
theorem dX0_work_12 : decode cX0_work 12 = .ok (.iconst (-1), 1) := by decide +kernel
theorem dX0_work_13 : decode cX0_work 13 = .ok (.ireturn, 1) := by decide +kernel
theorem dX0_work_14 : decode cX0_work 14 = .ok (.iload_n 1, 1) := by decide +kernel
theorem dX0_work_15 : decode cX0_work 15 = .ok (.invokestatic 26, 3) := by decide +kernel
theorem dX0_work_18 : decode cX0_work 18 = .ok (.bipush 126, 2) := by decide +kernel
theorem dX0_work_20 : decode cX0_work 20 = .ok (.if_icmp .ne 7, 3) := by decide +kernel
theorem dX0_work_23 : decode cX0_work 23 = .ok (.iconst 1, 1) := by decide +kernel
theorem dX0_work_24 : decode cX0_work 24 = .ok (.goto 4, 3) := by decide +kernel
theorem dX0_work_27 : decode cX0_work 27 = .ok (.iconst 0, 1) := by decide +kernel
theorem dX0_work_28 : decode cX0_work 28 = .ok (.istore 7, 2) := by decide +kernel
theorem dX0_work_30 : decode cX0_work 30 = .ok (.iload 7, 2) := by decide +kernel
theorem dX0_work_32 : decode cX0_work 32 = .ok (.ifCond .eq 7, 3) := by decide +kernel
theorem dX0_work_35 : decode cX0_work 35 = .ok (.lload_n 2, 1) := by decide +kernel
theorem dX0_work_36 : decode cX0_work 36 = .ok (.goto 6, 3) := by decide +kernel
theorem dX0_work_39 : decode cX0_work 39 = .ok (.lload_n 2, 1) := by decide +kernel
theorem dX0_work_40 : decode cX0_work 40 = .ok (.l2i, 1) := by decide +kernel
theorem dX0_work_41 : decode cX0_work 41 = .ok (.i2l, 1) := by decide +kernel
theorem dX0_work_42 : decode cX0_work 42 = .ok (.lstore 8, 2) := by decide +kernel
theorem dX0_work_44 : decode cX0_work 44 = .ok (.iload 7, 2) := by decide +kernel
theorem dX0_work_46 : decode cX0_work 46 = .ok (.ifCond .eq 8, 3) := by decide +kernel
theorem dX0_work_49 : decode cX0_work 49 = .ok (.lload 4, 2) := by decide +kernel
theorem dX0_work_51 : decode cX0_work 51 = .ok (.goto 7, 3) := by decide +kernel
theorem dX0_work_54 : decode cX0_work 54 = .ok (.lload 4, 2) := by decide +kernel
theorem dX0_work_56 : decode cX0_work 56 = .ok (.l2i, 1) := by decide +kernel
theorem dX0_work_57 : decode cX0_work 57 = .ok (.i2l, 1) := by decide +kernel
theorem dX0_work_58 : decode cX0_work 58 = .ok (.lstore 10, 2) := by decide +kernel
theorem dX0_work_60 : decode cX0_work 60 = .ok (.iload_n 1, 1) := by decide +kernel
theorem dX0_work_61 : decode cX0_work 61 = .ok (.lload 8, 2) := by decide +kernel
theorem dX0_work_63 : decode cX0_work 63 = .ok (.lload 10, 2) := by decide +kernel
theorem dX0_work_65 : decode cX0_work 65 = .ok (.invokestatic 30, 3) := by decide +kernel
theorem dX0_work_68 : decode cX0_work 68 = .ok (.istore 12, 2) := by decide +kernel
theorem dX0_work_70 : decode cX0_work 70 = .ok (.iload 12, 2) := by decide +kernel
theorem dX0_work_72 : decode cX0_work 72 = .ok (.ifCond .le 6, 3) := by decide +kernel
theorem dX0_work_75 : decode cX0_work 75 = .ok (.iload 12, 2) := by decide +kernel
theorem dX0_work_77 : decode cX0_work 77 = .ok (.ireturn, 1) := by decide +kernel
theorem dX0_work_78 : decode cX0_work 78 = .ok (.aload_n 0, 1) := by decide +kernel
theorem dX0_work_79 : decode cX0_work 79 = .ok (.iload 6, 2) := by decide +kernel
theorem dX0_work_81 : decode cX0_work 81 = .ok (.iconst 2, 1) := by decide +kernel
theorem dX0_work_82 : decode cX0_work 82 = .ok (.if_icmp .ne 14, 3) := by decide +kernel
theorem dX0_work_85 : decode cX0_work 85 = .ok (.iload_n 1, 1) := by decide +kernel
theorem dX0_work_86 : decode cX0_work 86 = .ok (.lload 8, 2) := by decide +kernel
theorem dX0_work_88 : decode cX0_work 88 = .ok (.lload 10, 2) := by decide +kernel
theorem dX0_work_90 : decode cX0_work 90 = .ok (.invokestatic 34, 3) := by decide +kernel
theorem dX0_work_93 : decode cX0_work 93 = .ok (.goto 9, 3) := by decide +kernel
theorem dX0_work_96 : decode cX0_work 96 = .ok (.iload_n 1, 1) := by decide +kernel
theorem dX0_work_97 : decode cX0_work 97 = .ok (.lload 8, 2) := by decide +kernel
theorem dX0_work_99 : decode cX0_work 99 = .ok (.invokestatic 38, 3) := by decide +kernel
theorem dX0_work_102 : decode cX0_work 102 = .ok (.putfield 7, 3) := by decide +kernel
theorem dX0_work_105 : decode cX0_work 105 = .ok (.iconst 0, 1) := by decide +kernel
theorem dX0_work_106 : decode cX0_work 106 = .ok (.ireturn, 1) := by decide +kernel
set_option maxHeartbeats 4000000 in
set_option maxRecDepth 100000 in
theorem mt_X0_work (l : Launch) (dC : Nat → ClassId) (dI : Nat → Nat → Nat) (h0 sz : Nat) (f : Int64) (a0 : Int32) (a1 : Int64) (a2 : Int64) : Met l yX0_work (ws_ yX0_work cX0_work 13 (some .int)) ({ frames := 5, cells := 0, slots := 0, locals := 121 } : Room) (va_Pc ([.ref h0, .int a0, .long a1, .long a2] : List Value) (fun U => U.heap.size = sz ∧ va_P (dC, dI) vwCl [(h0, .inr (0, [.long f]))] U.heap ∧ va_K (dC, dI) vwCl [] U ∧ va_D (fun _ => True) [(h0, .inr (0, [.long f]))])) (va_Qi (fun (r : Int32) (u : Int64) => r = (g_X0_work a0 a1 a2 f).1 ∧ u = (g_X0_work a0 a1 a2 f).2) (Bw0 dC dI (va_A [(h0, .inr (0, [.long f]))] sz) h0) (va_A [(h0, .inr (0, [.long f]))] sz)) 0 0 (va_A [(h0, .inr (0, [.long f]))] sz) := by
  refine Met.ofW (cc := cX0_work) (maxL := 13) (ret := (some .int)) (by decide) rfl ?_
  intro p e s m args below meth c s₁ B hml hv
  obtain ⟨rfl, hsz, hP, hK, hD0⟩ := hv
  have hx := B.exec
  have hb := B.bytes
  have hr := B.returns
  have hts := atoms_spec (ws := (ws_ yX0_work cX0_work 13 (some .int))) B.pre
  have hts : ∀ w ∈ lw_all, w.before _ s = true := fun w h => hts w (List.mem_cons_of_mem _ h)
  have hown : s.vm.findClass RX0 = some m.cls := findClass_of_methodNamed B.named
  have hlocks := B.notSynchronized
  subst hsz
  have hD := hD0.self (sz := s.heap.size)
  generalize hAe : va_A [(h0, .inr (0, [.long f]))] s.heap.size = A at hD ⊢
  have hA : ∀ q : Nat, s.heap.size ≤ q → A q := fun q h => by rw [← hAe]; exact Or.inr h
  have hS : va_S A s.heap s.heap [] := va_S.rf
  have hP : va_P (dC, dI) vwCl [(h0, .inr (0, [.long f]))] s.heap := hP
  obtain ⟨R, hR⟩ : ∃ R, R = g_X0_work a0 a1 a2 f := ⟨_, rfl⟩
  rw [← hR]
  have hl := lv_entry ([.ref h0, .int a0, .long a1, .long a2] : List Value) (n := 13) (Nat.le_of_ble_eq_true rfl)
  rw [lg_entry_eq]
  generalize (lg_sl ([.ref h0, .int a0, .long a1, .long a2] : List Value) ++ List.replicate (13 - (lg_sl ([.ref h0, .int a0, .long a1, .long a2] : List Value)).length) Slot.unset).toArray = ls at hl ⊢
  have hl : lv_has ls 13 [(0, .ref h0), (1, .int a0), (2, .long a1), (4, .long a2)] := hl
  have B102 : ∀ (s0 : Int64) (ls : Array Slot), lv_has ls 13 [] → R = g_X0_work_102 a0 a1 a2 f s0 → W p l e (headSpec (ws_ yX0_work cX0_work 13 (some .int)) ({ frames := 5, cells := 0, slots := 0, locals := 121 } : Room)).room s m ([.ref h0, .int a0, .long a1, .long a2] : List Value).toArray below meth c s.heap [] 0 0 (MQ below (va_Qi (fun (r : Int32) (u : Int64) => r = R.1 ∧ u = R.2) (Bw0 dC dI A h0) A) ([.ref h0, .int a0, .long a1, .long a2] : List Value).toArray s 0 0 A) (F0 m 102 ls [.long s0, .ref h0]) := by
    intro s0 ls hl hR
    unfold g_X0_work_102 at hR
    refine va_put (D := (dC, dI)) (ci := 0) (v := .long s0) (ty := .long) (C := RX0) (T := TX0) (N := 1) hx hb hts in_X0 tyX0 tyX0_ok nmX0 hown hK hP hD hS 0 rfl rfl 0 (by decide) (hts _ q16) (fun _ h9 => h9) rfl (by decide +kernel) rfl rfl (Nat.le_of_ble_eq_true rfl) dX0_work_102 (fun H locs hP hD hS => ?_)
    have hP : va_P (dC, dI) vwCl [(h0, .inr (0, [.long s0]))] H := hP
    have hD : va_D A [(h0, .inr (0, [.long s0]))] := hD
    refine lv_iconst (v := 0) hx hb dX0_work_105 (by decide) ?_
    exact W.iret (v := 0) hx hb hr (fun t ht hW => ⟨⟨0, s0, rfl, ⟨by rw [hR], by rw [hR]⟩, by rw [ht]; exact hP, va_K.moved hW.alike hK, hD⟩, hS.F ht⟩) hS.2.2 dX0_work_106
  unfold g_X0_work at hR
  refine lv_aload_n hx hb dX0_work_0 rfl (lv_at hl 0 rfl) ?_
  refine lv_iload_n hx hb dX0_work_1 rfl (lv_at hl 1 rfl) ?_
  refine jw_callI (W.runV (C := RX0) (b := h0) (As := [.int a0]) (rest := []) ⟨hx, hb, hml, hown, hts⟩ (mt_X0_takes l h0 a0) (cwV 1 hts (lw_V q34 q21 q22 q4 q23) rfl rfl rfl (by decide +kernel) ⟨Nat.le_of_ble_eq_true rfl, Nat.le_of_ble_eq_true rfl⟩) (preRc (va_recv hK hP (q0 := 0) rfl rfl)) rfl rfl hl.1 rfl (lv_room (Nat.le_of_ble_eq_true rfl)) dX0_work_2 ⟨Nat.le_of_ble_eq_true rfl, Nat.le_of_ble_eq_true rfl⟩) ?_
  refine lv_istore (lv' := [(6, .int (g_X0_takes a0)), (0, .ref h0), (1, .int a0), (2, .long a1), (4, .long a2)]) hx hb dX0_work_5 hl (by decide) rfl (fun ls hl => ?_)
  refine lv_iload hx hb dX0_work_7 (lv_at hl 0 rfl) ?_
  refine lv_if_ne (tgt := 14) hx hb dX0_work_9 (by decide) (fun hc9 => ?_) (fun hc9 => ?_)
  · have hR := hR.trans (if_neg hc9)
    refine lv_iload_n hx hb dX0_work_14 rfl (lv_at hl 2 rfl) ?_
    refine jw_callI (W.runS (As := [.int a0]) (rest := []) ⟨hx, hb, hml, hown, hts⟩ (mt_X2_takes l a0) (va_cwS 1 hts (lw_S q35 q36 q6 q37) rfl rfl rfl (by decide +kernel) ⟨Nat.le_of_ble_eq_true rfl, Nat.le_of_ble_eq_true rfl⟩) preEq rfl rfl hl.1 rfl (lv_room (Nat.le_of_ble_eq_true rfl)) dX0_work_15 ⟨Nat.le_of_ble_eq_true rfl, Nat.le_of_ble_eq_true rfl⟩) ?_
    refine lv_bipush (v := 126) hx hb dX0_work_18 (by decide) ?_
    refine lv_icmp_ne (tgt := 27) hx hb dX0_work_20 (by decide) (fun hc20 => ?_) (fun hc20 => ?_)
    · have hR := hR.trans (if_neg hc20)
      refine lv_iconst (v := 0) hx hb dX0_work_27 (by decide) ?_
      refine lv_istore (lv' := [(7, .int 0), (6, .int (g_X0_takes a0)), (0, .ref h0), (1, .int a0), (2, .long a1), (4, .long a2)]) hx hb dX0_work_28 hl (by decide) rfl (fun ls hl => ?_)
      refine lv_iload hx hb dX0_work_30 (lv_at hl 0 rfl) ?_
      refine lv_if_eq (tgt := 39) hx hb dX0_work_32 (by decide) (fun hc32 => ?_) (fun hc32 => absurd hc32 (by decide))
      refine lv_lload_n hx hb dX0_work_39 rfl (lv_at hl 4 rfl) ?_
      refine lv_l2i (v := a1.toInt32) hx hb dX0_work_40 rfl ?_
      refine lv_i2l (v := (a1.toInt32).toInt64) hx hb dX0_work_41 rfl ?_
      refine lv_lstore (lv' := [(8, .long ((a1.toInt32).toInt64)), (7, .int 0), (6, .int (g_X0_takes a0)), (0, .ref h0), (1, .int a0), (2, .long a1), (4, .long a2)]) hx hb dX0_work_42 hl (by decide) rfl (fun ls hl => ?_)
      refine lv_iload hx hb dX0_work_44 (lv_at hl 1 rfl) ?_
      refine lv_if_eq (tgt := 54) hx hb dX0_work_46 (by decide) (fun hc46 => ?_) (fun hc46 => absurd hc46 (by decide))
      refine lv_lload hx hb dX0_work_54 (lv_at hl 6 rfl) ?_
      refine lv_l2i (v := a2.toInt32) hx hb dX0_work_56 rfl ?_
      refine lv_i2l (v := (a2.toInt32).toInt64) hx hb dX0_work_57 rfl ?_
      refine lv_lstore (lv' := [(10, .long ((a2.toInt32).toInt64)), (8, .long ((a1.toInt32).toInt64)), (7, .int 0), (6, .int (g_X0_takes a0)), (0, .ref h0), (1, .int a0), (2, .long a1), (4, .long a2)]) hx hb dX0_work_58 hl (by decide) rfl (fun ls hl => ?_)
      refine lv_iload_n hx hb dX0_work_60 rfl (lv_at hl 5 rfl) ?_
      refine lv_lload hx hb dX0_work_61 (lv_at hl 1 rfl) ?_
      refine lv_lload hx hb dX0_work_63 (lv_at hl 0 rfl) ?_
      refine jw_callI (W.runS (As := [.int a0, .long ((a1.toInt32).toInt64), .long ((a2.toInt32).toInt64)]) (rest := []) ⟨hx, hb, hml, hown, hts⟩ (mt_X2_trap l a0 ((a1.toInt32).toInt64) ((a2.toInt32).toInt64)) (va_cwS 3 hts (lw_S q49 q50 q6 q51) rfl rfl rfl (by decide +kernel) ⟨Nat.le_of_ble_eq_true rfl, Nat.le_of_ble_eq_true rfl⟩) preEq rfl rfl hl.1 rfl (lv_room (Nat.le_of_ble_eq_true rfl)) dX0_work_65 ⟨Nat.le_of_ble_eq_true rfl, Nat.le_of_ble_eq_true rfl⟩) ?_
      refine lv_istore (lv' := [(12, .int (g_X2_trap a0 ((a1.toInt32).toInt64) ((a2.toInt32).toInt64))), (10, .long ((a2.toInt32).toInt64)), (8, .long ((a1.toInt32).toInt64)), (7, .int 0), (6, .int (g_X0_takes a0)), (0, .ref h0), (1, .int a0), (2, .long a1), (4, .long a2)]) hx hb dX0_work_68 hl (by decide) rfl (fun ls hl => ?_)
      refine lv_iload hx hb dX0_work_70 (lv_at hl 0 rfl) ?_
      refine lv_if_le (tgt := 78) hx hb dX0_work_72 (by decide) (fun hc72 => ?_) (fun hc72 => ?_)
      · have hR := hR.trans (if_pos hc72)
        refine lv_aload_n hx hb dX0_work_78 rfl (lv_at hl 5 rfl) ?_
        refine lv_iload hx hb dX0_work_79 (lv_at hl 4 rfl) ?_
        refine lv_iconst (v := 2) hx hb dX0_work_81 (by decide) ?_
        refine lv_icmp_ne (tgt := 96) hx hb dX0_work_82 (by decide) (fun hc82 => ?_) (fun hc82 => ?_)
        · have hR := hR.trans (if_neg hc82)
          refine lv_iload_n hx hb dX0_work_96 rfl (lv_at hl 6 rfl) ?_
          refine lv_lload hx hb dX0_work_97 (lv_at hl 2 rfl) ?_
          refine jw_callJ (W.runS (As := [.int a0, .long ((a1.toInt32).toInt64)]) (rest := [.ref h0]) ⟨hx, hb, hml, hown, hts⟩ (mt_X2_one l a0 ((a1.toInt32).toInt64)) (va_cwS 2 hts (lw_S q77 q78 q6 q79) rfl rfl rfl (by decide +kernel) ⟨Nat.le_of_ble_eq_true rfl, Nat.le_of_ble_eq_true rfl⟩) preEq rfl rfl hl.1 rfl (lv_room (Nat.le_of_ble_eq_true rfl)) dX0_work_99 ⟨Nat.le_of_ble_eq_true rfl, Nat.le_of_ble_eq_true rfl⟩) ?_
          exact B102 (g_X2_one a0 ((a1.toInt32).toInt64)) ls (lv_sub hl [] rfl) hR
        · have hR := hR.trans (if_pos hc82)
          refine lv_iload_n hx hb dX0_work_85 rfl (lv_at hl 6 rfl) ?_
          refine lv_lload hx hb dX0_work_86 (lv_at hl 2 rfl) ?_
          refine lv_lload hx hb dX0_work_88 (lv_at hl 1 rfl) ?_
          refine jw_callJ (W.runS (As := [.int a0, .long ((a1.toInt32).toInt64), .long ((a2.toInt32).toInt64)]) (rest := [.ref h0]) ⟨hx, hb, hml, hown, hts⟩ (mt_X2_two l a0 ((a1.toInt32).toInt64) ((a2.toInt32).toInt64) (jt_I1 hc20 hc72) (jt_I2 hc20 hc72)) (va_cwS 3 hts (lw_S q55 q56 q6 q57) rfl rfl rfl (by decide +kernel) ⟨Nat.le_of_ble_eq_true rfl, Nat.le_of_ble_eq_true rfl⟩) preEq rfl rfl hl.1 rfl (lv_room (Nat.le_of_ble_eq_true rfl)) dX0_work_90 ⟨Nat.le_of_ble_eq_true rfl, Nat.le_of_ble_eq_true rfl⟩) ?_
          refine lv_goto (tgt := 102) hx hb dX0_work_93 (by decide) ?_
          exact B102 (g_X2_two a0 ((a1.toInt32).toInt64) ((a2.toInt32).toInt64)) ls (lv_sub hl [] rfl) hR
      · have hR := hR.trans (if_neg hc72)
        refine lv_iload hx hb dX0_work_75 (lv_at hl 0 rfl) ?_
        exact W.iret (v := (g_X2_trap a0 ((a1.toInt32).toInt64) ((a2.toInt32).toInt64))) hx hb hr (fun t ht hW => ⟨⟨(g_X2_trap a0 ((a1.toInt32).toInt64) ((a2.toInt32).toInt64)), f, rfl, ⟨by rw [hR], by rw [hR]⟩, by rw [ht]; exact hP, va_K.moved hW.alike hK, hD⟩, hS.F ht⟩) hS.2.2 dX0_work_77
    · have hR := hR.trans (if_pos hc20)
      refine lv_iconst (v := 1) hx hb dX0_work_23 (by decide) ?_
      refine lv_goto (tgt := 28) hx hb dX0_work_24 (by decide) ?_
      refine lv_istore (lv' := [(7, .int 1), (6, .int (g_X0_takes a0)), (0, .ref h0), (1, .int a0), (2, .long a1), (4, .long a2)]) hx hb dX0_work_28 hl (by decide) rfl (fun ls hl => ?_)
      refine lv_iload hx hb dX0_work_30 (lv_at hl 0 rfl) ?_
      refine lv_if_eq (tgt := 39) hx hb dX0_work_32 (by decide) (fun hc32 => absurd hc32 (by decide)) (fun hc32 => ?_)
      refine lv_lload_n hx hb dX0_work_35 rfl (lv_at hl 4 rfl) ?_
      refine lv_goto (tgt := 42) hx hb dX0_work_36 (by decide) ?_
      refine lv_lstore (lv' := [(8, .long a1), (7, .int 1), (6, .int (g_X0_takes a0)), (0, .ref h0), (1, .int a0), (2, .long a1), (4, .long a2)]) hx hb dX0_work_42 hl (by decide) rfl (fun ls hl => ?_)
      refine lv_iload hx hb dX0_work_44 (lv_at hl 1 rfl) ?_
      refine lv_if_eq (tgt := 54) hx hb dX0_work_46 (by decide) (fun hc46 => absurd hc46 (by decide)) (fun hc46 => ?_)
      refine lv_lload hx hb dX0_work_49 (lv_at hl 6 rfl) ?_
      refine lv_goto (tgt := 58) hx hb dX0_work_51 (by decide) ?_
      refine lv_lstore (lv' := [(10, .long a2), (8, .long a1), (7, .int 1), (6, .int (g_X0_takes a0)), (0, .ref h0), (1, .int a0), (2, .long a1), (4, .long a2)]) hx hb dX0_work_58 hl (by decide) rfl (fun ls hl => ?_)
      refine lv_iload_n hx hb dX0_work_60 rfl (lv_at hl 5 rfl) ?_
      refine lv_lload hx hb dX0_work_61 (lv_at hl 1 rfl) ?_
      refine lv_lload hx hb dX0_work_63 (lv_at hl 0 rfl) ?_
      refine jw_callI (W.runS (As := [.int a0, .long a1, .long a2]) (rest := []) ⟨hx, hb, hml, hown, hts⟩ (mt_X2_trap l a0 a1 a2) (va_cwS 3 hts (lw_S q49 q50 q6 q51) rfl rfl rfl (by decide +kernel) ⟨Nat.le_of_ble_eq_true rfl, Nat.le_of_ble_eq_true rfl⟩) preEq rfl rfl hl.1 rfl (lv_room (Nat.le_of_ble_eq_true rfl)) dX0_work_65 ⟨Nat.le_of_ble_eq_true rfl, Nat.le_of_ble_eq_true rfl⟩) ?_
      refine lv_istore (lv' := [(12, .int (g_X2_trap a0 a1 a2)), (10, .long a2), (8, .long a1), (7, .int 1), (6, .int (g_X0_takes a0)), (0, .ref h0), (1, .int a0), (2, .long a1), (4, .long a2)]) hx hb dX0_work_68 hl (by decide) rfl (fun ls hl => ?_)
      refine lv_iload hx hb dX0_work_70 (lv_at hl 0 rfl) ?_
      refine lv_if_le (tgt := 78) hx hb dX0_work_72 (by decide) (fun hc72 => ?_) (fun hc72 => ?_)
      · have hR := hR.trans (if_pos hc72)
        refine lv_aload_n hx hb dX0_work_78 rfl (lv_at hl 5 rfl) ?_
        refine lv_iload hx hb dX0_work_79 (lv_at hl 4 rfl) ?_
        refine lv_iconst (v := 2) hx hb dX0_work_81 (by decide) ?_
        refine lv_icmp_ne (tgt := 96) hx hb dX0_work_82 (by decide) (fun hc82 => ?_) (fun hc82 => ?_)
        · have hR := hR.trans (if_neg hc82)
          refine lv_iload_n hx hb dX0_work_96 rfl (lv_at hl 6 rfl) ?_
          refine lv_lload hx hb dX0_work_97 (lv_at hl 2 rfl) ?_
          refine jw_callJ (W.runS (As := [.int a0, .long a1]) (rest := [.ref h0]) ⟨hx, hb, hml, hown, hts⟩ (mt_X2_one l a0 a1) (va_cwS 2 hts (lw_S q77 q78 q6 q79) rfl rfl rfl (by decide +kernel) ⟨Nat.le_of_ble_eq_true rfl, Nat.le_of_ble_eq_true rfl⟩) preEq rfl rfl hl.1 rfl (lv_room (Nat.le_of_ble_eq_true rfl)) dX0_work_99 ⟨Nat.le_of_ble_eq_true rfl, Nat.le_of_ble_eq_true rfl⟩) ?_
          exact B102 (g_X2_one a0 a1) ls (lv_sub hl [] rfl) hR
        · have hR := hR.trans (if_pos hc82)
          refine lv_iload_n hx hb dX0_work_85 rfl (lv_at hl 6 rfl) ?_
          refine lv_lload hx hb dX0_work_86 (lv_at hl 2 rfl) ?_
          refine lv_lload hx hb dX0_work_88 (lv_at hl 1 rfl) ?_
          refine jw_callJ (W.runS (As := [.int a0, .long a1, .long a2]) (rest := [.ref h0]) ⟨hx, hb, hml, hown, hts⟩ (mt_X2_two l a0 a1 a2 (jt_L1 hc20 hc72) (jt_L2 hc20 hc72)) (va_cwS 3 hts (lw_S q55 q56 q6 q57) rfl rfl rfl (by decide +kernel) ⟨Nat.le_of_ble_eq_true rfl, Nat.le_of_ble_eq_true rfl⟩) preEq rfl rfl hl.1 rfl (lv_room (Nat.le_of_ble_eq_true rfl)) dX0_work_90 ⟨Nat.le_of_ble_eq_true rfl, Nat.le_of_ble_eq_true rfl⟩) ?_
          refine lv_goto (tgt := 102) hx hb dX0_work_93 (by decide) ?_
          exact B102 (g_X2_two a0 a1 a2) ls (lv_sub hl [] rfl) hR
      · have hR := hR.trans (if_neg hc72)
        refine lv_iload hx hb dX0_work_75 (lv_at hl 0 rfl) ?_
        exact W.iret (v := (g_X2_trap a0 a1 a2)) hx hb hr (fun t ht hW => ⟨⟨(g_X2_trap a0 a1 a2), f, rfl, ⟨by rw [hR], by rw [hR]⟩, by rw [ht]; exact hP, va_K.moved hW.alike hK, hD⟩, hS.F ht⟩) hS.2.2 dX0_work_77
  · have hR := hR.trans (if_pos hc9)
    refine lv_iconst (v := (-1)) hx hb dX0_work_12 (by decide) ?_
    exact W.iret (v := (-1)) hx hb hr (fun t ht hW => ⟨⟨(-1), f, rfl, ⟨by rw [hR], by rw [hR]⟩, by rw [ht]; exact hP, va_K.moved hW.alike hK, hD⟩, hS.F ht⟩) hS.2.2 dX0_work_13
end
section
set_option maxRecDepth 100000
abbrev cX0_init : ByteArray := prog_1_method_1_code
def yX0_init : MethodName := ⟨RX0, "<init>", "()V"⟩
theorem dX0_init_0 : decode cX0_init 0 = .ok (.aload_n 0, 1) := by decide +kernel
theorem dX0_init_1 : decode cX0_init 1 = .ok (.invokespecial 1, 3) := by decide +kernel
theorem dX0_init_4 : decode cX0_init 4 = .ok (.aload_n 0, 1) := by decide +kernel
theorem dX0_init_5 : decode cX0_init 5 = .ok (.lconst 0, 1) := by decide +kernel
theorem dX0_init_6 : decode cX0_init 6 = .ok (.putfield 7, 3) := by decide +kernel
theorem dX0_init_9 : decode cX0_init 9 = .ok (.return_, 1) := by decide +kernel
abbrev cX0_result : ByteArray := prog_1_method_7_code
def yX0_result : MethodName := ⟨RX0, "result", "()J"⟩
theorem dX0_result_0 : decode cX0_result 0 = .ok (.aload_n 0, 1) := by decide +kernel
theorem dX0_result_1 : decode cX0_result 1 = .ok (.getfield 7, 3) := by decide +kernel
theorem dX0_result_4 : decode cX0_result 4 = .ok (.lreturn, 1) := by decide +kernel
set_option maxHeartbeats 4000000 in
set_option maxRecDepth 100000 in
theorem mt_X0_init (l : Launch) (dC : Nat → ClassId) (dI : Nat → Nat → Nat) (h0 sz : Nat) (f : Int64) : Met l yX0_init (ws_ yX0_init cX0_init 1 none) ({ frames := 1, cells := 0, slots := 0, locals := 12 } : Room) (va_Pc ([.ref h0] : List Value) (fun U => U.heap.size = sz ∧ va_P (dC, dI) vwCl [(h0, .inr (0, [.long f]))] U.heap ∧ va_K (dC, dI) vwCl [] U ∧ va_D (fun _ => True) [(h0, .inr (0, [.long f]))])) (va_Qv (fun u : Int64 => u = 0) (Bw0 dC dI (va_A [(h0, .inr (0, [.long f]))] sz) h0) (va_A [(h0, .inr (0, [.long f]))] sz)) 0 0 (va_A [(h0, .inr (0, [.long f]))] sz) := by
  refine Met.ofW (cc := cX0_init) (maxL := 1) (ret := none) (by decide) rfl ?_
  intro p e s m args below meth c s₁ B hml hv
  obtain ⟨rfl, hsz, hP, hK, hD0⟩ := hv
  have hx := B.exec
  have hb := B.bytes
  have hr := B.returns
  have hts := atoms_spec (ws := (ws_ yX0_init cX0_init 1 none)) B.pre
  have hts : ∀ w ∈ lw_all, w.before _ s = true := fun w h => hts w (List.mem_cons_of_mem _ h)
  have hown : s.vm.findClass RX0 = some m.cls := findClass_of_methodNamed B.named
  have hlocks := B.notSynchronized
  subst hsz
  have hD := hD0.self (sz := s.heap.size)
  generalize hAe : va_A [(h0, .inr (0, [.long f]))] s.heap.size = A at hD ⊢
  have hA : ∀ q : Nat, s.heap.size ≤ q → A q := fun q h => by rw [← hAe]; exact Or.inr h
  have hS : va_S A s.heap s.heap [] := va_S.rf
  have hP : va_P (dC, dI) vwCl [(h0, .inr (0, [.long f]))] s.heap := hP
  have hl := lv_entry ([.ref h0]) (n := 1) (Nat.le_of_ble_eq_true rfl)
  rw [lg_entry_eq]
  generalize (lg_sl ([.ref h0]) ++ List.replicate (1 - (lg_sl ([.ref h0])).length) Slot.unset).toArray = ls at hl ⊢
  have hl : lv_has ls 1 [(0, .ref h0)] := hl
  refine lv_aload_n hx hb dX0_init_0 rfl (lv_at hl 0 rfl) ?_
  refine W.objInit hx hb hown (hts _ q13) (hts _ q14) (hts _ q15) rfl (by rw [hml]; exact hl.1) rfl dX0_init_1 (Nat.le_of_ble_eq_true rfl) (Nat.le_of_ble_eq_true rfl) ?_
  refine W.eq (g2 := F0 m 4 ls []) rfl ?_
  refine lv_aload_n hx hb dX0_init_4 rfl (lv_at hl 0 rfl) ?_
  refine lv_lconst (v := 0) hx hb dX0_init_5 (by decide) ?_
  refine va_put (D := (dC, dI)) (ci := 0) (v := .long 0) (ty := .long) (C := RX0) (T := TX0) (N := 1) hx hb hts in_X0 tyX0 tyX0_ok nmX0 hown hK hP hD hS 0 rfl rfl 0 (by decide) (hts _ q16) (fun _ h9 => h9) rfl (by decide +kernel) rfl rfl (Nat.le_of_ble_eq_true rfl) dX0_init_6 (fun H locs hP hD hS => ?_)
  have hP : va_P (dC, dI) vwCl [(h0, .inr (0, [.long 0]))] H := hP
  have hD : va_D A [(h0, .inr (0, [.long 0]))] := hD
  exact W.vret hx hb hr (fun t ht hW => ⟨⟨0, rfl, rfl, by rw [ht]; exact hP, va_K.moved hW.alike hK, hD⟩, hS.F ht⟩) hS.2.2 dX0_init_9
set_option maxHeartbeats 4000000 in
set_option maxRecDepth 100000 in
theorem mt_X0_result (l : Launch) (dC : Nat → ClassId) (dI : Nat → Nat → Nat) (h0 : Nat) (f : Int64) : Met l yX0_result (ws_ yX0_result cX0_result 1 (some .long)) ({ frames := 0, cells := 0, slots := 0, locals := 0 } : Room) (fun v U => v = ([.ref h0] : List Value).toArray ∧ va_P (dC, dI) vwCl [(h0, .inr (0, [.long f]))] U.heap ∧ va_K (dC, dI) vwCl [] U) (QcReadL f) 0 0 (fun _ => False) := by
  refine Met.ofW (cc := cX0_result) (maxL := 1) (ret := (some .long)) (by decide) rfl ?_
  intro p e s m args below meth c s₁ B hml hv
  obtain ⟨rfl, hP, hK⟩ := hv
  have hx := B.exec
  have hb := B.bytes
  have hr := B.returns
  have hts := atoms_spec (ws := (ws_ yX0_result cX0_result 1 (some .long))) B.pre
  have hts : ∀ w ∈ lw_all, w.before _ s = true := fun w h => hts w (List.mem_cons_of_mem _ h)
  have hown : s.vm.findClass RX0 = some m.cls := findClass_of_methodNamed B.named
  have hlocks := B.notSynchronized
  have hl := lv_entry ([.ref h0]) (n := 1) (Nat.le_of_ble_eq_true rfl)
  rw [lg_entry_eq]
  generalize (lg_sl ([.ref h0]) ++ List.replicate (1 - (lg_sl ([.ref h0])).length) Slot.unset).toArray = ls at hl ⊢
  have hl : lv_has ls 1 [(0, .ref h0)] := hl
  refine lv_aload_n hx hb dX0_result_0 rfl (lv_at hl 0 rfl) ?_
  refine va_get (D := (dC, dI)) (ci := 0) (v := .long f) (C := RX0) (T := TX0) (N := 1) hx hb hts in_X0 hown hK hP 0 rfl rfl 0 (by decide) (hts _ q16) (fun _ h9 => h9) rfl dX0_result_1 ?_
  exact W.lret (v := f) hx hb hr (fun t ht hW => jr_l rfl ht) jnil dX0_result_4
abbrev cX1_init : ByteArray := prog_4_method_1_code
def yX1_init : MethodName := ⟨RX1, "<init>", "()V"⟩
theorem dX1_init_0 : decode cX1_init 0 = .ok (.aload_n 0, 1) := by decide +kernel
theorem dX1_init_1 : decode cX1_init 1 = .ok (.invokespecial 1, 3) := by decide +kernel
theorem dX1_init_4 : decode cX1_init 4 = .ok (.return_, 1) := by decide +kernel
abbrev cX1_result : ByteArray := prog_4_method_23_code
def yX1_result : MethodName := ⟨RX1, "result", "()J"⟩
theorem dX1_result_0 : decode cX1_result 0 = .ok (.aload_n 0, 1) := by decide +kernel
theorem dX1_result_1 : decode cX1_result 1 = .ok (.getfield 19, 3) := by decide +kernel
theorem dX1_result_4 : decode cX1_result 4 = .ok (.lreturn, 1) := by decide +kernel
set_option maxHeartbeats 4000000 in
set_option maxRecDepth 100000 in
theorem mt_X1_init (l : Launch) (dC : Nat → ClassId) (dI : Nat → Nat → Nat) (h0 sz : Nat) (f : Int64) : Met l yX1_init (ws_ yX1_init cX1_init 1 none) ({ frames := 1, cells := 0, slots := 0, locals := 12 } : Room) (va_Pc ([.ref h0] : List Value) (fun U => U.heap.size = sz ∧ va_P (dC, dI) vwCl [(h0, .inr (1, [.long f]))] U.heap ∧ va_K (dC, dI) vwCl [] U ∧ va_D (fun _ => True) [(h0, .inr (1, [.long f]))])) (va_Qv (fun u : Int64 => u = f) (Bw1 dC dI (va_A [(h0, .inr (1, [.long f]))] sz) h0) (va_A [(h0, .inr (1, [.long f]))] sz)) 0 0 (va_A [(h0, .inr (1, [.long f]))] sz) := by
  refine Met.ofW (cc := cX1_init) (maxL := 1) (ret := none) (by decide) rfl ?_
  intro p e s m args below meth c s₁ B hml hv
  obtain ⟨rfl, hsz, hP, hK, hD0⟩ := hv
  have hx := B.exec
  have hb := B.bytes
  have hr := B.returns
  have hts := atoms_spec (ws := (ws_ yX1_init cX1_init 1 none)) B.pre
  have hts : ∀ w ∈ lw_all, w.before _ s = true := fun w h => hts w (List.mem_cons_of_mem _ h)
  have hown : s.vm.findClass RX1 = some m.cls := findClass_of_methodNamed B.named
  have hlocks := B.notSynchronized
  subst hsz
  have hD := hD0.self (sz := s.heap.size)
  generalize hAe : va_A [(h0, .inr (1, [.long f]))] s.heap.size = A at hD ⊢
  have hA : ∀ q : Nat, s.heap.size ≤ q → A q := fun q h => by rw [← hAe]; exact Or.inr h
  have hS : va_S A s.heap s.heap [] := va_S.rf
  have hP : va_P (dC, dI) vwCl [(h0, .inr (1, [.long f]))] s.heap := hP
  have hl := lv_entry ([.ref h0]) (n := 1) (Nat.le_of_ble_eq_true rfl)
  rw [lg_entry_eq]
  generalize (lg_sl ([.ref h0]) ++ List.replicate (1 - (lg_sl ([.ref h0])).length) Slot.unset).toArray = ls at hl ⊢
  have hl : lv_has ls 1 [(0, .ref h0)] := hl
  refine lv_aload_n hx hb dX1_init_0 rfl (lv_at hl 0 rfl) ?_
  refine W.objInit hx hb hown (hts _ q98) (hts _ q14) (hts _ q15) rfl (by rw [hml]; exact hl.1) rfl dX1_init_1 (Nat.le_of_ble_eq_true rfl) (Nat.le_of_ble_eq_true rfl) ?_
  refine W.eq (g2 := F0 m 4 ls []) rfl ?_
  exact W.vret hx hb hr (fun t ht hW => ⟨⟨f, rfl, rfl, by rw [ht]; exact hP, va_K.moved hW.alike hK, hD⟩, hS.F ht⟩) hS.2.2 dX1_init_4
set_option maxHeartbeats 4000000 in
set_option maxRecDepth 100000 in
theorem mt_X1_result (l : Launch) (dC : Nat → ClassId) (dI : Nat → Nat → Nat) (h0 : Nat) (f : Int64) : Met l yX1_result (ws_ yX1_result cX1_result 1 (some .long)) ({ frames := 0, cells := 0, slots := 0, locals := 0 } : Room) (fun v U => v = ([.ref h0] : List Value).toArray ∧ va_P (dC, dI) vwCl [(h0, .inr (1, [.long f]))] U.heap ∧ va_K (dC, dI) vwCl [] U) (QcReadL f) 0 0 (fun _ => False) := by
  refine Met.ofW (cc := cX1_result) (maxL := 1) (ret := (some .long)) (by decide) rfl ?_
  intro p e s m args below meth c s₁ B hml hv
  obtain ⟨rfl, hP, hK⟩ := hv
  have hx := B.exec
  have hb := B.bytes
  have hr := B.returns
  have hts := atoms_spec (ws := (ws_ yX1_result cX1_result 1 (some .long))) B.pre
  have hts : ∀ w ∈ lw_all, w.before _ s = true := fun w h => hts w (List.mem_cons_of_mem _ h)
  have hown : s.vm.findClass RX1 = some m.cls := findClass_of_methodNamed B.named
  have hlocks := B.notSynchronized
  have hl := lv_entry ([.ref h0]) (n := 1) (Nat.le_of_ble_eq_true rfl)
  rw [lg_entry_eq]
  generalize (lg_sl ([.ref h0]) ++ List.replicate (1 - (lg_sl ([.ref h0])).length) Slot.unset).toArray = ls at hl ⊢
  have hl : lv_has ls 1 [(0, .ref h0)] := hl
  refine lv_aload_n hx hb dX1_result_0 rfl (lv_at hl 0 rfl) ?_
  refine va_get (D := (dC, dI)) (ci := 1) (v := .long f) (C := RX1) (T := TX1) (N := 1) hx hb hts in_X1 hown hK hP 0 rfl rfl 0 (by decide) (hts _ q99) (fun _ h9 => h9) rfl dX1_result_1 ?_
  exact W.lret (v := f) hx hb hr (fun t ht hW => jr_l rfl ht) jnil dX1_result_4
theorem preW {s : State} {H : Heap} {C : String} {D : va_G} {cl : List vw_C} {ws : va_W} {h : Nat} (hP : va_P D cl ws H) (hK : va_K D cl [] s) (hrc : ∃ cell : Cell, H[h]? = some cell ∧ cell.vm.isStatics = false ∧ s.vm.findClass C = some cell.cls) : PreV s H C h (fun v U => v = ([.ref h] : List Value).toArray ∧ va_P D cl ws U.heap ∧ va_K D cl [] U) [] :=
  ⟨fun a U g mk q => ⟨q.1, q.2.1, va_K.moved (u := U) (U := U.calling g mk a) (Vm.Alike.refl U.vm) q.2.2⟩, hrc, fun U hU hW => ⟨rfl, by rw [hU]; exact hP, va_K.moved hW.alike hK⟩⟩
end
section
/-! THE CLAIM OUT OF ONE WALK OF THE LAW'S BODY. Your part is whole_start (and what it stands on); all else here is the same for every law, but numbers. -/
def R_law : String := "WordArithmeticLaw"
def lw_P (b : Addr) (xs : List Int32) (args : Array Value) (s : State) : Prop := args = #[.ref b] ∧ s.IntsAt b xs ∧ xs.length ≤ 384 ∧ (Jvm.Cond.and given_1 narrow_1).before args s = true
def lw_Q (_ : Array Value) (s : State) (o : Outcome) (t : State) : Prop := o = .returned (some (.int 1)) ∧ Framed s o t [] 600000 7290000
def lw_Z (below : List Frame) (a : Array Value) (s : State) : State → Prop := fun t => ∃ o, t.status = .running ∧ Ended t below o ∧ lw_Q a s o t
/-- the law's own end, with 1 on the stack, nothing written that was there before, its room as the claim has it -/
theorem lw_ret {p : Program} {l : Launch} {e : Env} {s : State} {m : MethodId} {below : List Frame} {meth : Method} {c : Code} {b : Nat} (hx : p.tables.exec = Jvm.exec) (hb : c.code = code) (hr : meth.sig.returnType = ret) (hlocks : meth.locks = false) {pc : Nat} {H : Heap} {ls : Array Slot} (hdg : decode code pc = .ok (.ireturn, 1)) : W p l e room_1 s m #[Value.ref b] below meth c H [] 600000 7290000 (lw_Z below #[Value.ref b] s) (F0 m pc ls [.int 1]) := by
  intro T hT X
  obtain ⟨fs, hret, hrun, hended, hW, hframe⟩ := X.leave (v := some (.int 1)) (hlocks := hlocks) (fun h => by rw [hr] at h; cases h)
  have hmeth' : T.vm.method? m = some meth := X.method'
  refine ⟨T.setFrames fs, ?_, .returned (some (.int 1)), hrun, hended, rfl, ⟨_, rfl⟩, hW, hframe⟩
  jvm_step X.here [X.here.top, hx, hb, hdg, hmeth', hr, ret, narrow_b1]
  (try refine ⟨rfl, ?_⟩); (try refine ⟨rfl, ?_⟩)
  first | (intro acts; rw [hret _ acts rfl rfl rfl]) | rw [hret _ _ rfl rfl rfl]
  exact Steps.refl _
/-- what holds at the law's entry: the machine, the code, the tables' words (any of lw_tbl by 'hts w (by decide +kernel)'), the script of L ints xs at the cell b, what the Statement gives of the start (any of its parts by flat_of_before) -/
def lw_At (p : Program) (s : State) (m : MethodId) (meth : Method) (c : Code) (b L : Nat) (xs : Nat → Int32) : Prop :=
  p.tables.exec = Jvm.exec ∧ c.code = code ∧ meth.sig.returnType = ret ∧ c.maxLocals = 4 ∧ s.vm.findClass R_law = some m.cls ∧ (∀ w ∈ lw_tbl, w.before #[Value.ref b] s = true) ∧ va_X b L xs s s.heap ∧ b < s.heap.size ∧ meth.locks = false ∧ (Jvm.Cond.and given_1 narrow_1).before #[Value.ref b] s = true
end
section
/-! the law's own entry -/
set_option maxRecDepth 100000
abbrev cL_law : ByteArray := code
theorem dL_law_0 : decode cL_law 0 = .ok (.new 7, 3) := by decide +kernel
theorem dL_law_3 : decode cL_law 3 = .ok (.dup, 1) := by decide +kernel
theorem dL_law_4 : decode cL_law 4 = .ok (.invokespecial 9, 3) := by decide +kernel
theorem dL_law_7 : decode cL_law 7 = .ok (.astore_n 1, 1) := by decide +kernel
theorem dL_law_8 : decode cL_law 8 = .ok (.new 10, 3) := by decide +kernel
theorem dL_law_11 : decode cL_law 11 = .ok (.dup, 1) := by decide +kernel
theorem dL_law_12 : decode cL_law 12 = .ok (.invokespecial 12, 3) := by decide +kernel
theorem dL_law_15 : decode cL_law 15 = .ok (.astore_n 2, 1) := by decide +kernel
theorem dL_law_16 : decode cL_law 16 = .ok (.iconst 0, 1) := by decide +kernel
theorem dL_law_17 : decode cL_law 17 = .ok (.istore_n 3, 1) := by decide +kernel
theorem dL_law_18 : decode cL_law 18 = .ok (.iload_n 3, 1) := by decide +kernel
theorem dL_law_19 : decode cL_law 19 = .ok (.aload_n 0, 1) := by decide +kernel
theorem dL_law_20 : decode cL_law 20 = .ok (.arraylength, 1) := by decide +kernel
theorem dL_law_21 : decode cL_law 21 = .ok (.bipush 6, 2) := by decide +kernel
theorem dL_law_23 : decode cL_law 23 = .ok (.isub, 1) := by decide +kernel
theorem dL_law_24 : decode cL_law 24 = .ok (.if_icmp .gt 236, 3) := by decide +kernel
theorem dL_law_27 : decode cL_law 27 = .ok (.aload_n 0, 1) := by decide +kernel
theorem dL_law_28 : decode cL_law 28 = .ok (.iload_n 3, 1) := by decide +kernel
theorem dL_law_29 : decode cL_law 29 = .ok (.iaload, 1) := by decide +kernel
theorem dL_law_30 : decode cL_law 30 = .ok (.bipush 7, 2) := by decide +kernel
theorem dL_law_32 : decode cL_law 32 = .ok (.iand, 1) := by decide +kernel
theorem dL_law_33 : decode cL_law 33 = .ok (.tableswitch 221 0 4 #[35, 58, 81, 104, 207], 35) := by decide +kernel
theorem dL_law_68 : decode cL_law 68 = .ok (.aload_n 1, 1) := by decide +kernel
theorem dL_law_69 : decode cL_law 69 = .ok (.aload_n 0, 1) := by decide +kernel
theorem dL_law_70 : decode cL_law 70 = .ok (.iload_n 3, 1) := by decide +kernel
theorem dL_law_71 : decode cL_law 71 = .ok (.iconst 1, 1) := by decide +kernel
theorem dL_law_72 : decode cL_law 72 = .ok (.iadd, 1) := by decide +kernel
theorem dL_law_73 : decode cL_law 73 = .ok (.iaload, 1) := by decide +kernel
theorem dL_law_74 : decode cL_law 74 = .ok (.invokevirtual 13, 3) := by decide +kernel
theorem dL_law_77 : decode cL_law 77 = .ok (.aload_n 2, 1) := by decide +kernel
theorem dL_law_78 : decode cL_law 78 = .ok (.aload_n 0, 1) := by decide +kernel
theorem dL_law_79 : decode cL_law 79 = .ok (.iload_n 3, 1) := by decide +kernel
theorem dL_law_80 : decode cL_law 80 = .ok (.iconst 1, 1) := by decide +kernel
theorem dL_law_81 : decode cL_law 81 = .ok (.iadd, 1) := by decide +kernel
theorem dL_law_82 : decode cL_law 82 = .ok (.iaload, 1) := by decide +kernel
theorem dL_law_83 : decode cL_law 83 = .ok (.invokevirtual 17, 3) := by decide +kernel
theorem dL_law_86 : decode cL_law 86 = .ok (.if_icmp .eq 168, 3) := by decide +kernel
theorem dL_law_89 : decode cL_law 89 = .ok (.iconst 0, 1) := by decide +kernel
theorem dL_law_90 : decode cL_law 90 = .ok (.ireturn, 1) := by decide +kernel
theorem dL_law_91 : decode cL_law 91 = .ok (.aload_n 1, 1) := by decide +kernel
theorem dL_law_92 : decode cL_law 92 = .ok (.aload_n 0, 1) := by decide +kernel
theorem dL_law_93 : decode cL_law 93 = .ok (.iload_n 3, 1) := by decide +kernel
theorem dL_law_94 : decode cL_law 94 = .ok (.iconst 1, 1) := by decide +kernel
theorem dL_law_95 : decode cL_law 95 = .ok (.iadd, 1) := by decide +kernel
theorem dL_law_96 : decode cL_law 96 = .ok (.iaload, 1) := by decide +kernel
theorem dL_law_97 : decode cL_law 97 = .ok (.invokevirtual 18, 3) := by decide +kernel
theorem dL_law_100 : decode cL_law 100 = .ok (.aload_n 2, 1) := by decide +kernel
theorem dL_law_101 : decode cL_law 101 = .ok (.aload_n 0, 1) := by decide +kernel
theorem dL_law_102 : decode cL_law 102 = .ok (.iload_n 3, 1) := by decide +kernel
theorem dL_law_103 : decode cL_law 103 = .ok (.iconst 1, 1) := by decide +kernel
theorem dL_law_104 : decode cL_law 104 = .ok (.iadd, 1) := by decide +kernel
theorem dL_law_105 : decode cL_law 105 = .ok (.iaload, 1) := by decide +kernel
theorem dL_law_106 : decode cL_law 106 = .ok (.invokevirtual 22, 3) := by decide +kernel
theorem dL_law_109 : decode cL_law 109 = .ok (.if_icmp .eq 145, 3) := by decide +kernel
theorem dL_law_112 : decode cL_law 112 = .ok (.iconst 0, 1) := by decide +kernel
theorem dL_law_113 : decode cL_law 113 = .ok (.ireturn, 1) := by decide +kernel
theorem dL_law_114 : decode cL_law 114 = .ok (.aload_n 1, 1) := by decide +kernel
theorem dL_law_115 : decode cL_law 115 = .ok (.aload_n 0, 1) := by decide +kernel
theorem dL_law_116 : decode cL_law 116 = .ok (.iload_n 3, 1) := by decide +kernel
theorem dL_law_117 : decode cL_law 117 = .ok (.iconst 1, 1) := by decide +kernel
theorem dL_law_118 : decode cL_law 118 = .ok (.iadd, 1) := by decide +kernel
theorem dL_law_119 : decode cL_law 119 = .ok (.iaload, 1) := by decide +kernel
theorem dL_law_120 : decode cL_law 120 = .ok (.invokevirtual 23, 3) := by decide +kernel
theorem dL_law_123 : decode cL_law 123 = .ok (.aload_n 2, 1) := by decide +kernel
theorem dL_law_124 : decode cL_law 124 = .ok (.aload_n 0, 1) := by decide +kernel
theorem dL_law_125 : decode cL_law 125 = .ok (.iload_n 3, 1) := by decide +kernel
theorem dL_law_126 : decode cL_law 126 = .ok (.iconst 1, 1) := by decide +kernel
theorem dL_law_127 : decode cL_law 127 = .ok (.iadd, 1) := by decide +kernel
theorem dL_law_128 : decode cL_law 128 = .ok (.iaload, 1) := by decide +kernel
theorem dL_law_129 : decode cL_law 129 = .ok (.invokevirtual 26, 3) := by decide +kernel
theorem dL_law_132 : decode cL_law 132 = .ok (.if_icmp .eq 122, 3) := by decide +kernel
theorem dL_law_135 : decode cL_law 135 = .ok (.iconst 0, 1) := by decide +kernel
theorem dL_law_136 : decode cL_law 136 = .ok (.ireturn, 1) := by decide +kernel
theorem dL_law_137 : decode cL_law 137 = .ok (.aload_n 1, 1) := by decide +kernel
theorem dL_law_138 : decode cL_law 138 = .ok (.aload_n 0, 1) := by decide +kernel
theorem dL_law_139 : decode cL_law 139 = .ok (.iload_n 3, 1) := by decide +kernel
theorem dL_law_140 : decode cL_law 140 = .ok (.iconst 1, 1) := by decide +kernel
theorem dL_law_141 : decode cL_law 141 = .ok (.iadd, 1) := by decide +kernel
theorem dL_law_142 : decode cL_law 142 = .ok (.iaload, 1) := by decide +kernel
theorem dL_law_143 : decode cL_law 143 = .ok (.aload_n 0, 1) := by decide +kernel
theorem dL_law_144 : decode cL_law 144 = .ok (.iload_n 3, 1) := by decide +kernel
theorem dL_law_145 : decode cL_law 145 = .ok (.iconst 2, 1) := by decide +kernel
theorem dL_law_146 : decode cL_law 146 = .ok (.iadd, 1) := by decide +kernel
theorem dL_law_147 : decode cL_law 147 = .ok (.iaload, 1) := by decide +kernel
theorem dL_law_148 : decode cL_law 148 = .ok (.i2l, 1) := by decide +kernel
theorem dL_law_149 : decode cL_law 149 = .ok (.bipush 32, 2) := by decide +kernel
theorem dL_law_151 : decode cL_law 151 = .ok (.lshl, 1) := by decide +kernel
theorem dL_law_152 : decode cL_law 152 = .ok (.aload_n 0, 1) := by decide +kernel
theorem dL_law_153 : decode cL_law 153 = .ok (.iload_n 3, 1) := by decide +kernel
theorem dL_law_154 : decode cL_law 154 = .ok (.iconst 3, 1) := by decide +kernel
theorem dL_law_155 : decode cL_law 155 = .ok (.iadd, 1) := by decide +kernel
theorem dL_law_156 : decode cL_law 156 = .ok (.iaload, 1) := by decide +kernel
theorem dL_law_157 : decode cL_law 157 = .ok (.i2l, 1) := by decide +kernel
theorem dL_law_158 : decode cL_law 158 = .ok (.ldc2_w 27, 3) := by decide +kernel
theorem dL_law_161 : decode cL_law 161 = .ok (.land, 1) := by decide +kernel
theorem dL_law_162 : decode cL_law 162 = .ok (.lor, 1) := by decide +kernel
theorem dL_law_163 : decode cL_law 163 = .ok (.aload_n 0, 1) := by decide +kernel
theorem dL_law_164 : decode cL_law 164 = .ok (.iload_n 3, 1) := by decide +kernel
theorem dL_law_165 : decode cL_law 165 = .ok (.iconst 4, 1) := by decide +kernel
theorem dL_law_166 : decode cL_law 166 = .ok (.iadd, 1) := by decide +kernel
theorem dL_law_167 : decode cL_law 167 = .ok (.iaload, 1) := by decide +kernel
theorem dL_law_168 : decode cL_law 168 = .ok (.i2l, 1) := by decide +kernel
theorem dL_law_169 : decode cL_law 169 = .ok (.bipush 32, 2) := by decide +kernel
theorem dL_law_171 : decode cL_law 171 = .ok (.lshl, 1) := by decide +kernel
theorem dL_law_172 : decode cL_law 172 = .ok (.aload_n 0, 1) := by decide +kernel
theorem dL_law_173 : decode cL_law 173 = .ok (.iload_n 3, 1) := by decide +kernel
theorem dL_law_174 : decode cL_law 174 = .ok (.iconst 5, 1) := by decide +kernel
theorem dL_law_175 : decode cL_law 175 = .ok (.iadd, 1) := by decide +kernel
theorem dL_law_176 : decode cL_law 176 = .ok (.iaload, 1) := by decide +kernel
theorem dL_law_177 : decode cL_law 177 = .ok (.i2l, 1) := by decide +kernel
theorem dL_law_178 : decode cL_law 178 = .ok (.ldc2_w 27, 3) := by decide +kernel
theorem dL_law_181 : decode cL_law 181 = .ok (.land, 1) := by decide +kernel
theorem dL_law_182 : decode cL_law 182 = .ok (.lor, 1) := by decide +kernel
theorem dL_law_183 : decode cL_law 183 = .ok (.invokevirtual 29, 3) := by decide +kernel
theorem dL_law_186 : decode cL_law 186 = .ok (.aload_n 2, 1) := by decide +kernel
theorem dL_law_187 : decode cL_law 187 = .ok (.aload_n 0, 1) := by decide +kernel
theorem dL_law_188 : decode cL_law 188 = .ok (.iload_n 3, 1) := by decide +kernel
theorem dL_law_189 : decode cL_law 189 = .ok (.iconst 1, 1) := by decide +kernel
theorem dL_law_190 : decode cL_law 190 = .ok (.iadd, 1) := by decide +kernel
theorem dL_law_191 : decode cL_law 191 = .ok (.iaload, 1) := by decide +kernel
theorem dL_law_192 : decode cL_law 192 = .ok (.aload_n 0, 1) := by decide +kernel
theorem dL_law_193 : decode cL_law 193 = .ok (.iload_n 3, 1) := by decide +kernel
theorem dL_law_194 : decode cL_law 194 = .ok (.iconst 2, 1) := by decide +kernel
theorem dL_law_195 : decode cL_law 195 = .ok (.iadd, 1) := by decide +kernel
theorem dL_law_196 : decode cL_law 196 = .ok (.iaload, 1) := by decide +kernel
theorem dL_law_197 : decode cL_law 197 = .ok (.i2l, 1) := by decide +kernel
theorem dL_law_198 : decode cL_law 198 = .ok (.bipush 32, 2) := by decide +kernel
theorem dL_law_200 : decode cL_law 200 = .ok (.lshl, 1) := by decide +kernel
theorem dL_law_201 : decode cL_law 201 = .ok (.aload_n 0, 1) := by decide +kernel
theorem dL_law_202 : decode cL_law 202 = .ok (.iload_n 3, 1) := by decide +kernel
theorem dL_law_203 : decode cL_law 203 = .ok (.iconst 3, 1) := by decide +kernel
theorem dL_law_204 : decode cL_law 204 = .ok (.iadd, 1) := by decide +kernel
theorem dL_law_205 : decode cL_law 205 = .ok (.iaload, 1) := by decide +kernel
theorem dL_law_206 : decode cL_law 206 = .ok (.i2l, 1) := by decide +kernel
theorem dL_law_207 : decode cL_law 207 = .ok (.ldc2_w 27, 3) := by decide +kernel
theorem dL_law_210 : decode cL_law 210 = .ok (.land, 1) := by decide +kernel
theorem dL_law_211 : decode cL_law 211 = .ok (.lor, 1) := by decide +kernel
theorem dL_law_212 : decode cL_law 212 = .ok (.aload_n 0, 1) := by decide +kernel
theorem dL_law_213 : decode cL_law 213 = .ok (.iload_n 3, 1) := by decide +kernel
theorem dL_law_214 : decode cL_law 214 = .ok (.iconst 4, 1) := by decide +kernel
theorem dL_law_215 : decode cL_law 215 = .ok (.iadd, 1) := by decide +kernel
theorem dL_law_216 : decode cL_law 216 = .ok (.iaload, 1) := by decide +kernel
theorem dL_law_217 : decode cL_law 217 = .ok (.i2l, 1) := by decide +kernel
theorem dL_law_218 : decode cL_law 218 = .ok (.bipush 32, 2) := by decide +kernel
theorem dL_law_220 : decode cL_law 220 = .ok (.lshl, 1) := by decide +kernel
theorem dL_law_221 : decode cL_law 221 = .ok (.aload_n 0, 1) := by decide +kernel
theorem dL_law_222 : decode cL_law 222 = .ok (.iload_n 3, 1) := by decide +kernel
theorem dL_law_223 : decode cL_law 223 = .ok (.iconst 5, 1) := by decide +kernel
theorem dL_law_224 : decode cL_law 224 = .ok (.iadd, 1) := by decide +kernel
theorem dL_law_225 : decode cL_law 225 = .ok (.iaload, 1) := by decide +kernel
theorem dL_law_226 : decode cL_law 226 = .ok (.i2l, 1) := by decide +kernel
theorem dL_law_227 : decode cL_law 227 = .ok (.ldc2_w 27, 3) := by decide +kernel
theorem dL_law_230 : decode cL_law 230 = .ok (.land, 1) := by decide +kernel
theorem dL_law_231 : decode cL_law 231 = .ok (.lor, 1) := by decide +kernel
theorem dL_law_232 : decode cL_law 232 = .ok (.invokevirtual 33, 3) := by decide +kernel
theorem dL_law_235 : decode cL_law 235 = .ok (.if_icmp .eq 19, 3) := by decide +kernel
theorem dL_law_238 : decode cL_law 238 = .ok (.iconst 0, 1) := by decide +kernel
theorem dL_law_239 : decode cL_law 239 = .ok (.ireturn, 1) := by decide +kernel
theorem dL_law_240 : decode cL_law 240 = .ok (.aload_n 1, 1) := by decide +kernel
theorem dL_law_241 : decode cL_law 241 = .ok (.invokevirtual 34, 3) := by decide +kernel
theorem dL_law_244 : decode cL_law 244 = .ok (.aload_n 2, 1) := by decide +kernel
theorem dL_law_245 : decode cL_law 245 = .ok (.invokevirtual 38, 3) := by decide +kernel
theorem dL_law_248 : decode cL_law 248 = .ok (.lcmp, 1) := by decide +kernel
theorem dL_law_249 : decode cL_law 249 = .ok (.ifCond .eq 5, 3) := by decide +kernel
theorem dL_law_252 : decode cL_law 252 = .ok (.iconst 0, 1) := by decide +kernel
theorem dL_law_253 : decode cL_law 253 = .ok (.ireturn, 1) := by decide +kernel
theorem dL_law_254 : decode cL_law 254 = .ok (.iinc 3 6, 3) := by decide +kernel
theorem dL_law_257 : decode cL_law 257 = .ok (.goto (-239), 3) := by decide +kernel
theorem dL_law_260 : decode cL_law 260 = .ok (.iconst 1, 1) := by decide +kernel
theorem dL_law_261 : decode cL_law 261 = .ok (.ireturn, 1) := by decide +kernel
end
section
set_option maxRecDepth 100000
theorem lw_more {L i : Nat} (hL : L ≤ 384) (hi : i ≤ L + 6) (h : ¬ Int32.ofNat L - 6 < nI i) : i + 6 ≤ L := by
  rw [Int32.lt_iff_toInt_lt, nI_toInt (by omega)] at h
  have e : (Int32.ofNat L - 6).toInt = (L : Int) - 6 := pk_sub_toInt (a := L) (b := 6) (by omega) (by decide)
  rw [e] at h
  omega
theorem lw_ix {L i k : Nat} (hL : L ≤ 384) (h : i + 6 ≤ L) (hk : k < 6) {y : Int32} (hy : nI i + nI k = y) : vp_in y L := by
  rw [← hy, nI_add]
  exact vp_in_nI (by omega) (by omega)
set_option maxHeartbeats 4000000 in
set_option maxRecDepth 100000 in
/-- the law's loop: with i ints read, both objects hold the same number -/
theorem law_loop {p : Program} {l : Launch} {e : Env} {s : State} {m : MethodId} {below : List Frame} {meth : Method} {c : Code} {dC : Nat → ClassId} {dI : Nat → Nat → Nat} {b L : Nat} {xs : Nat → Int32} (hL : L ≤ 384) (C0 : lw_At p s m meth c b L xs) :
    ∀ (n i : Nat) (f : Int64), i ≤ L + 6 → L + 7 ≤ i + n → ∀ (q0 q1 : Nat) (H : Heap) (locs : List Loc), va_K (dC, dI) vwCl [] s → va_P (dC, dI) vwCl [(q0, .inr (0, [.long f])), (q1, .inr (1, [.long f]))] H → va_D (fun q : Nat => s.heap.size ≤ q) [(q0, .inr (0, [.long f])), (q1, .inr (1, [.long f]))] → va_S (fun q : Nat => s.heap.size ≤ q) s.heap H locs → ∀ (ls : Array Slot), lv_has ls 4 [(0, .ref b), (1, .ref q0), (2, .ref q1), (3, .int (nI i))] → W p l e room_1 s m #[Value.ref b] below meth c H locs 2 2 (lw_Z below #[Value.ref b] s) (F0 m 18 ls []) := by
  obtain ⟨hx, hb, hr, hml, hown, hts0, hX, hbl, hlocks, hgv⟩ := C0
  have hts : ∀ w ∈ lw_all, w.before #[Value.ref b] s = true := fun w h => hts0 w (lw_all_tbl h)
  have hA : ∀ q : Nat, s.heap.size ≤ q → (fun q : Nat => s.heap.size ≤ q) q := fun _ h => h
  have hbA : ¬ (fun q : Nat => s.heap.size ≤ q) b := Nat.not_le.mpr hbl
  intro n
  induction n with
  | zero => intro i f h1 h2; exact absurd h2 (by omega)
  | succ n ih =>
    intro i f hi hin q0 q1 H locs hK hP hD hS ls hl
    refine lv_iload_n hx hb dL_law_18 rfl (lv_at hl 3 rfl) ?_
    refine lv_aload_n hx hb dL_law_19 rfl (lv_at hl 0 rfl) ?_
    refine va_slen hx hb hX hbl hbA hS dL_law_20 ?_
    refine lv_bipush (v := 6) hx hb dL_law_21 (by decide) ?_
    refine lv_isub hx hb dL_law_23 ?_
    refine lv_icmp_gt (tgt := 260) hx hb dL_law_24 (by decide) (fun hg => ?_) (fun hg => ?_)
    · refine lv_iconst (v := 1) hx hb dL_law_260 (by decide) ?_
      refine va_forget (fun q hq => hS.2.2 q hq) ?_
      refine W.widen (k := 600000) (n := 7290000) (Nat.le_of_ble_eq_true rfl) (Nat.le_of_ble_eq_true rfl) ?_
      exact lw_ret hx hb hr hlocks dL_law_261
    have hm := lw_more hL hi hg
    have i0 : vp_in (nI i) L := vp_in_nI (by omega) (by omega)
    have i1 : vp_in (nI i + 1) L := lw_ix hL hm (k := 1) (by decide) rfl
    have i2 : vp_in (nI i + 2) L := lw_ix hL hm (k := 2) (by decide) rfl
    have i3 : vp_in (nI i + 3) L := lw_ix hL hm (k := 3) (by decide) rfl
    have i4 : vp_in (nI i + 4) L := lw_ix hL hm (k := 4) (by decide) rfl
    have i5 : vp_in (nI i + 5) L := lw_ix hL hm (k := 5) (by decide) rfl
    have back : ∀ (f : Int64) (H : Heap) (locs : List Loc), va_P (dC, dI) vwCl [(q0, .inr (0, [.long f])), (q1, .inr (1, [.long f]))] H → va_D (fun q : Nat => s.heap.size ≤ q) [(q0, .inr (0, [.long f])), (q1, .inr (1, [.long f]))] → va_S (fun q : Nat => s.heap.size ≤ q) s.heap H locs → ∀ (ls : Array Slot), lv_has ls 4 [(0, .ref b), (1, .ref q0), (2, .ref q1), (3, .int (nI i))] → W p l e room_1 s m #[Value.ref b] below meth c H locs 2 2 (lw_Z below #[Value.ref b] s) (F0 m 254 ls []) := by
      intro f H locs hP hD hS ls hl
      refine lv_iinc (v := nI (i + 6)) (lv' := [(3, .int (nI (i + 6))), (0, .ref b), (1, .ref q0), (2, .ref q1)]) hx hb dL_law_254 hl (k := 3) rfl (nI_add i 6) (by decide) rfl (fun ls hl => ?_)
      refine lv_goto (tgt := 18) hx hb dL_law_257 (by decide) ?_
      exact ih (i + 6) f (by omega) (by omega) q0 q1 H locs hK hP hD hS ls (lv_sub hl [1, 2, 3, 0] rfl)
    refine lv_aload_n hx hb dL_law_27 rfl (lv_at hl 0 rfl) ?_
    refine lv_iload_n hx hb dL_law_28 rfl (lv_at hl 3 rfl) ?_
    refine va_sld hx hb hX hbl hbA hS i0 dL_law_29 ?_
    refine lv_bipush (v := 7) hx hb dL_law_30 (by decide) ?_
    refine lv_iand hx hb dL_law_32 ?_
    refine lv_topi (fun w ew => ?_)
    by_cases hk0 : w = 0
    · refine lv_tableIn (off := 35) (tgt := 68) hx hb dL_law_33 (by rw [hk0]; decide) (by rw [hk0]; decide) (by rw [hk0]; rfl) (by decide) ?_
      refine lv_aload_n hx hb dL_law_68 rfl (lv_at hl 1 rfl) ?_
      refine lv_aload_n hx hb dL_law_69 rfl (lv_at hl 0 rfl) ?_
      refine lv_iload_n hx hb dL_law_70 rfl (lv_at hl 3 rfl) ?_
      refine lv_iconst (v := 1) hx hb dL_law_71 (by decide) ?_
      refine lv_iadd hx hb dL_law_72 ?_
      refine va_sld hx hb hX hbl hbA hS i1 dL_law_73 ?_
      refine jw_callI (W.runV (C := RX0) (b := q0) (As := [.int (xs (nI i + 1).toNatClampNeg)]) (rest := []) ⟨hx, hb, hml, hown, hts⟩ (mt_X0_takes l q0 (xs (nI i + 1).toNatClampNeg)) (cwV 1 hts (lw_V q20 q21 q22 q4 q23) rfl rfl rfl (by decide +kernel) ⟨Nat.le_of_ble_eq_true rfl, Nat.le_of_ble_eq_true rfl⟩) (preRc (va_recv hK hP (ci := 0) (q0 := 0) rfl rfl)) rfl rfl hl.1 rfl (lv_room (Nat.le_of_ble_eq_true rfl)) dL_law_74 ⟨Nat.le_of_ble_eq_true rfl, Nat.le_of_ble_eq_true rfl⟩) ?_
      refine lv_aload_n hx hb dL_law_77 rfl (lv_at hl 2 rfl) ?_
      refine lv_aload_n hx hb dL_law_78 rfl (lv_at hl 0 rfl) ?_
      refine lv_iload_n hx hb dL_law_79 rfl (lv_at hl 3 rfl) ?_
      refine lv_iconst (v := 1) hx hb dL_law_80 (by decide) ?_
      refine lv_iadd hx hb dL_law_81 ?_
      refine va_sld hx hb hX hbl hbA hS i1 dL_law_82 ?_
      refine jw_callI (W.runV (C := RX1) (b := q1) (As := [.int (xs (nI i + 1).toNatClampNeg)]) (rest := [.int (g_X0_takes (xs (nI i + 1).toNatClampNeg))]) ⟨hx, hb, hml, hown, hts⟩ (mt_X1_takes l q1 (xs (nI i + 1).toNatClampNeg)) (cwV 1 hts (lw_V q103 q104 q105 q5 q106) rfl rfl rfl (by decide +kernel) ⟨Nat.le_of_ble_eq_true rfl, Nat.le_of_ble_eq_true rfl⟩) (preRc (va_recv hK hP (ci := 1) (q0 := 1) rfl rfl)) rfl rfl hl.1 rfl (lv_room (Nat.le_of_ble_eq_true rfl)) dL_law_83 ⟨Nat.le_of_ble_eq_true rfl, Nat.le_of_ble_eq_true rfl⟩) ?_
      refine lv_icmp_eq (tgt := 254) hx hb dL_law_86 (by decide) (fun hq => ?_) (fun hq => absurd (by rw [cls_takes]) hq)
      exact back f H locs hP hD hS ls hl
    by_cases hk1 : w = 1
    · refine lv_tableIn (off := 58) (tgt := 91) hx hb dL_law_33 (by rw [hk1]; decide) (by rw [hk1]; decide) (by rw [hk1]; rfl) (by decide) ?_
      refine lv_aload_n hx hb dL_law_91 rfl (lv_at hl 1 rfl) ?_
      refine lv_aload_n hx hb dL_law_92 rfl (lv_at hl 0 rfl) ?_
      refine lv_iload_n hx hb dL_law_93 rfl (lv_at hl 3 rfl) ?_
      refine lv_iconst (v := 1) hx hb dL_law_94 (by decide) ?_
      refine lv_iadd hx hb dL_law_95 ?_
      refine va_sld hx hb hX hbl hbA hS i1 dL_law_96 ?_
      refine jw_callI (W.runV (C := RX0) (b := q0) (As := [.int (xs (nI i + 1).toNatClampNeg)]) (rest := []) ⟨hx, hb, hml, hown, hts⟩ (mt_X0_takesLongs l q0 (xs (nI i + 1).toNatClampNeg)) (cwV 1 hts (lw_V q30 q31 q32 q4 q33) rfl rfl rfl (by decide +kernel) ⟨Nat.le_of_ble_eq_true rfl, Nat.le_of_ble_eq_true rfl⟩) (preRc (va_recv hK hP (ci := 0) (q0 := 0) rfl rfl)) rfl rfl hl.1 rfl (lv_room (Nat.le_of_ble_eq_true rfl)) dL_law_97 ⟨Nat.le_of_ble_eq_true rfl, Nat.le_of_ble_eq_true rfl⟩) ?_
      refine lv_aload_n hx hb dL_law_100 rfl (lv_at hl 2 rfl) ?_
      refine lv_aload_n hx hb dL_law_101 rfl (lv_at hl 0 rfl) ?_
      refine lv_iload_n hx hb dL_law_102 rfl (lv_at hl 3 rfl) ?_
      refine lv_iconst (v := 1) hx hb dL_law_103 (by decide) ?_
      refine lv_iadd hx hb dL_law_104 ?_
      refine va_sld hx hb hX hbl hbA hS i1 dL_law_105 ?_
      refine jw_callI (W.runV (C := RX1) (b := q1) (As := [.int (xs (nI i + 1).toNatClampNeg)]) (rest := [.int (bi (g_X0_takesLongs (xs (nI i + 1).toNatClampNeg)))]) ⟨hx, hb, hml, hown, hts⟩ (mt_X1_takesLongs l q1 (xs (nI i + 1).toNatClampNeg)) (cwV 1 hts (lw_V q116 q117 q118 q5 q119) rfl rfl rfl (by decide +kernel) ⟨Nat.le_of_ble_eq_true rfl, Nat.le_of_ble_eq_true rfl⟩) (preRc (va_recv hK hP (ci := 1) (q0 := 1) rfl rfl)) rfl rfl hl.1 rfl (lv_room (Nat.le_of_ble_eq_true rfl)) dL_law_106 ⟨Nat.le_of_ble_eq_true rfl, Nat.le_of_ble_eq_true rfl⟩) ?_
      refine lv_icmp_eq (tgt := 254) hx hb dL_law_109 (by decide) (fun hq => ?_) (fun hq => absurd (by rw [cls_takesLongs]) hq)
      exact back f H locs hP hD hS ls hl
    by_cases hk2 : w = 2
    · refine lv_tableIn (off := 81) (tgt := 114) hx hb dL_law_33 (by rw [hk2]; decide) (by rw [hk2]; decide) (by rw [hk2]; rfl) (by decide) ?_
      refine lv_aload_n hx hb dL_law_114 rfl (lv_at hl 1 rfl) ?_
      refine lv_aload_n hx hb dL_law_115 rfl (lv_at hl 0 rfl) ?_
      refine lv_iload_n hx hb dL_law_116 rfl (lv_at hl 3 rfl) ?_
      refine lv_iconst (v := 1) hx hb dL_law_117 (by decide) ?_
      refine lv_iadd hx hb dL_law_118 ?_
      refine va_sld hx hb hX hbl hbA hS i1 dL_law_119 ?_
      refine jw_callI (W.runV (C := RX0) (b := q0) (As := [.int (xs (nI i + 1).toNatClampNeg)]) (rest := []) ⟨hx, hb, hml, hown, hts⟩ (mt_X0_leavesLong l q0 (xs (nI i + 1).toNatClampNeg)) (cwV 1 hts (lw_V q38 q39 q40 q4 q41) rfl rfl rfl (by decide +kernel) ⟨Nat.le_of_ble_eq_true rfl, Nat.le_of_ble_eq_true rfl⟩) (preRc (va_recv hK hP (ci := 0) (q0 := 0) rfl rfl)) rfl rfl hl.1 rfl (lv_room (Nat.le_of_ble_eq_true rfl)) dL_law_120 ⟨Nat.le_of_ble_eq_true rfl, Nat.le_of_ble_eq_true rfl⟩) ?_
      refine lv_aload_n hx hb dL_law_123 rfl (lv_at hl 2 rfl) ?_
      refine lv_aload_n hx hb dL_law_124 rfl (lv_at hl 0 rfl) ?_
      refine lv_iload_n hx hb dL_law_125 rfl (lv_at hl 3 rfl) ?_
      refine lv_iconst (v := 1) hx hb dL_law_126 (by decide) ?_
      refine lv_iadd hx hb dL_law_127 ?_
      refine va_sld hx hb hX hbl hbA hS i1 dL_law_128 ?_
      refine jw_callI (W.runV (C := RX1) (b := q1) (As := [.int (xs (nI i + 1).toNatClampNeg)]) (rest := [.int (bi (g_X0_leavesLong (xs (nI i + 1).toNatClampNeg)))]) ⟨hx, hb, hml, hown, hts⟩ (mt_X1_leavesLong l q1 (xs (nI i + 1).toNatClampNeg)) (cwV 1 hts (lw_V q120 q121 q122 q5 q123) rfl rfl rfl (by decide +kernel) ⟨Nat.le_of_ble_eq_true rfl, Nat.le_of_ble_eq_true rfl⟩) (preRc (va_recv hK hP (ci := 1) (q0 := 1) rfl rfl)) rfl rfl hl.1 rfl (lv_room (Nat.le_of_ble_eq_true rfl)) dL_law_129 ⟨Nat.le_of_ble_eq_true rfl, Nat.le_of_ble_eq_true rfl⟩) ?_
      refine lv_icmp_eq (tgt := 254) hx hb dL_law_132 (by decide) (fun hq => ?_) (fun hq => absurd (by rw [cls_leavesLong]) hq)
      exact back f H locs hP hD hS ls hl
    by_cases hk3 : w = 3
    · refine lv_tableIn (off := 104) (tgt := 137) hx hb dL_law_33 (by rw [hk3]; decide) (by rw [hk3]; decide) (by rw [hk3]; rfl) (by decide) ?_
      refine lv_aload_n hx hb dL_law_137 rfl (lv_at hl 1 rfl) ?_
      refine lv_aload_n hx hb dL_law_138 rfl (lv_at hl 0 rfl) ?_
      refine lv_iload_n hx hb dL_law_139 rfl (lv_at hl 3 rfl) ?_
      refine lv_iconst (v := 1) hx hb dL_law_140 (by decide) ?_
      refine lv_iadd hx hb dL_law_141 ?_
      refine va_sld hx hb hX hbl hbA hS i1 dL_law_142 ?_
      refine lv_aload_n hx hb dL_law_143 rfl (lv_at hl 0 rfl) ?_
      refine lv_iload_n hx hb dL_law_144 rfl (lv_at hl 3 rfl) ?_
      refine lv_iconst (v := 2) hx hb dL_law_145 (by decide) ?_
      refine lv_iadd hx hb dL_law_146 ?_
      refine va_sld hx hb hX hbl hbA hS i2 dL_law_147 ?_
      refine lv_i2l (v := (xs (nI i + 2).toNatClampNeg).toInt64) hx hb dL_law_148 rfl ?_
      refine lv_bipush (v := 32) hx hb dL_law_149 (by decide) ?_
      refine lv_lshl (v := j_lshl (xs (nI i + 2).toNatClampNeg).toInt64 32) hx hb dL_law_151 rfl ?_
      refine lv_aload_n hx hb dL_law_152 rfl (lv_at hl 0 rfl) ?_
      refine lv_iload_n hx hb dL_law_153 rfl (lv_at hl 3 rfl) ?_
      refine lv_iconst (v := 3) hx hb dL_law_154 (by decide) ?_
      refine lv_iadd hx hb dL_law_155 ?_
      refine va_sld hx hb hX hbl hbA hS i3 dL_law_156 ?_
      refine lv_i2l (v := (xs (nI i + 3).toNatClampNeg).toInt64) hx hb dL_law_157 rfl ?_
      refine lv_ldc2 (v := 4294967295) hx hb hown (hts _ q175) dL_law_158 ?_
      refine lv_land hx hb dL_law_161 ?_
      refine lv_lor hx hb dL_law_162 ?_
      refine lv_topl (fun A eA => ?_)
      refine lv_aload_n hx hb dL_law_163 rfl (lv_at hl 0 rfl) ?_
      refine lv_iload_n hx hb dL_law_164 rfl (lv_at hl 3 rfl) ?_
      refine lv_iconst (v := 4) hx hb dL_law_165 (by decide) ?_
      refine lv_iadd hx hb dL_law_166 ?_
      refine va_sld hx hb hX hbl hbA hS i4 dL_law_167 ?_
      refine lv_i2l (v := (xs (nI i + 4).toNatClampNeg).toInt64) hx hb dL_law_168 rfl ?_
      refine lv_bipush (v := 32) hx hb dL_law_169 (by decide) ?_
      refine lv_lshl (v := j_lshl (xs (nI i + 4).toNatClampNeg).toInt64 32) hx hb dL_law_171 rfl ?_
      refine lv_aload_n hx hb dL_law_172 rfl (lv_at hl 0 rfl) ?_
      refine lv_iload_n hx hb dL_law_173 rfl (lv_at hl 3 rfl) ?_
      refine lv_iconst (v := 5) hx hb dL_law_174 (by decide) ?_
      refine lv_iadd hx hb dL_law_175 ?_
      refine va_sld hx hb hX hbl hbA hS i5 dL_law_176 ?_
      refine lv_i2l (v := (xs (nI i + 5).toNatClampNeg).toInt64) hx hb dL_law_177 rfl ?_
      refine lv_ldc2 (v := 4294967295) hx hb hown (hts _ q175) dL_law_178 ?_
      refine lv_land hx hb dL_law_181 ?_
      refine lv_lor hx hb dL_law_182 ?_
      refine lv_topl (fun B eB => ?_)
      have hPc := hP.sub (ws' := [(q0, .inr (0, [.long f]))]) [0] rfl
      have hDc := hD.sub (ws' := [(q0, .inr (0, [.long f]))]) [0] (by decide) rfl
      have hFc := va_free (wc := [(q0, .inr (0, [.long f]))]) hD hS hA [0] rfl
      refine va_calli (va_runV (As := [.int (xs (nI i + 1).toNatClampNeg), .long A, .long B]) (rest := []) ⟨hx, hb, hml, hown, hts⟩ (mt_X0_work l dC dI q0 H.size f (xs (nI i + 1).toNatClampNeg) A B) (cwV 3 hts (lw_V q45 q46 q47 q4 q48) rfl rfl rfl (by decide +kernel) ⟨Nat.le_of_ble_eq_true rfl, Nat.le_of_ble_eq_true rfl⟩) ⟨fun a U g mk q => by obtain ⟨q0, q1, qP, qK, qD⟩ := q; exact ⟨q0, q1, qP, va_K.moved (u := U) (U := U.calling g mk a) (Vm.Alike.refl U.vm) qK, qD⟩, va_recv hK hPc (ci := 0) (q0 := 0) rfl rfl, fun U hU hW => ⟨rfl, by rw [hU], by rw [hU]; exact hPc, va_K.moved hW.alike hK, hDc.weaken (fun _ _ _ _ => trivial)⟩⟩ rfl rfl hl.1 rfl (lv_room (Nat.le_of_ble_eq_true rfl)) dL_law_183 ⟨Nat.le_of_ble_eq_true rfl, Nat.le_of_ble_eq_true rfl⟩) hS (fun q _ h => hFc q h) hFc (fun r1 u1 t H1 locs ht hvm hw1 hB hz1 hk1 hS => ?_)
      obtain ⟨hP1, hK1, hD1⟩ := hB
      rw [ht] at hP1
      obtain ⟨hP, hD⟩ := va_join (wr := [(q1, .inr (1, [.long f]))]) (w1 := [(q0, .inr (0, [.long u1]))]) hP hD [0] [1] rfl rfl (by decide) (by decide) hk1 hFc hP1 hD1
      generalize H1 = H at hP hS ⊢
      have hP : va_P (dC, dI) vwCl [(q1, .inr (1, [.long f])), (q0, .inr (0, [.long u1]))] H := hP
      have hD : va_D (fun q : Nat => s.heap.size ≤ q) [(q1, .inr (1, [.long f])), (q0, .inr (0, [.long u1]))] := hD
      refine lv_aload_n hx hb dL_law_186 rfl (lv_at hl 2 rfl) ?_
      refine lv_aload_n hx hb dL_law_187 rfl (lv_at hl 0 rfl) ?_
      refine lv_iload_n hx hb dL_law_188 rfl (lv_at hl 3 rfl) ?_
      refine lv_iconst (v := 1) hx hb dL_law_189 (by decide) ?_
      refine lv_iadd hx hb dL_law_190 ?_
      refine va_sld hx hb hX hbl hbA hS i1 dL_law_191 ?_
      refine lv_aload_n hx hb dL_law_192 rfl (lv_at hl 0 rfl) ?_
      refine lv_iload_n hx hb dL_law_193 rfl (lv_at hl 3 rfl) ?_
      refine lv_iconst (v := 2) hx hb dL_law_194 (by decide) ?_
      refine lv_iadd hx hb dL_law_195 ?_
      refine va_sld hx hb hX hbl hbA hS i2 dL_law_196 ?_
      refine lv_i2l (v := (xs (nI i + 2).toNatClampNeg).toInt64) hx hb dL_law_197 rfl ?_
      refine lv_bipush (v := 32) hx hb dL_law_198 (by decide) ?_
      refine lv_lshl (v := j_lshl (xs (nI i + 2).toNatClampNeg).toInt64 32) hx hb dL_law_200 rfl ?_
      refine lv_aload_n hx hb dL_law_201 rfl (lv_at hl 0 rfl) ?_
      refine lv_iload_n hx hb dL_law_202 rfl (lv_at hl 3 rfl) ?_
      refine lv_iconst (v := 3) hx hb dL_law_203 (by decide) ?_
      refine lv_iadd hx hb dL_law_204 ?_
      refine va_sld hx hb hX hbl hbA hS i3 dL_law_205 ?_
      refine lv_i2l (v := (xs (nI i + 3).toNatClampNeg).toInt64) hx hb dL_law_206 rfl ?_
      refine lv_ldc2 (v := 4294967295) hx hb hown (hts _ q175) dL_law_207 ?_
      refine lv_land hx hb dL_law_210 ?_
      refine lv_lor hx hb dL_law_211 ?_
      refine lv_topl (fun A2 eA2 => ?_)
      obtain rfl : A = A2 := eA.trans eA2.symm
      refine lv_aload_n hx hb dL_law_212 rfl (lv_at hl 0 rfl) ?_
      refine lv_iload_n hx hb dL_law_213 rfl (lv_at hl 3 rfl) ?_
      refine lv_iconst (v := 4) hx hb dL_law_214 (by decide) ?_
      refine lv_iadd hx hb dL_law_215 ?_
      refine va_sld hx hb hX hbl hbA hS i4 dL_law_216 ?_
      refine lv_i2l (v := (xs (nI i + 4).toNatClampNeg).toInt64) hx hb dL_law_217 rfl ?_
      refine lv_bipush (v := 32) hx hb dL_law_218 (by decide) ?_
      refine lv_lshl (v := j_lshl (xs (nI i + 4).toNatClampNeg).toInt64 32) hx hb dL_law_220 rfl ?_
      refine lv_aload_n hx hb dL_law_221 rfl (lv_at hl 0 rfl) ?_
      refine lv_iload_n hx hb dL_law_222 rfl (lv_at hl 3 rfl) ?_
      refine lv_iconst (v := 5) hx hb dL_law_223 (by decide) ?_
      refine lv_iadd hx hb dL_law_224 ?_
      refine va_sld hx hb hX hbl hbA hS i5 dL_law_225 ?_
      refine lv_i2l (v := (xs (nI i + 5).toNatClampNeg).toInt64) hx hb dL_law_226 rfl ?_
      refine lv_ldc2 (v := 4294967295) hx hb hown (hts _ q175) dL_law_227 ?_
      refine lv_land hx hb dL_law_230 ?_
      refine lv_lor hx hb dL_law_231 ?_
      refine lv_topl (fun B2 eB2 => ?_)
      obtain rfl : B = B2 := eB.trans eB2.symm
      have hPc := hP.sub (ws' := [(q1, .inr (1, [.long f]))]) [0] rfl
      have hDc := hD.sub (ws' := [(q1, .inr (1, [.long f]))]) [0] (by decide) rfl
      have hFc := va_free (wc := [(q1, .inr (1, [.long f]))]) hD hS hA [0] rfl
      refine va_calli (va_runV (As := [.int (xs (nI i + 1).toNatClampNeg), .long A, .long B]) (rest := [.int r1]) ⟨hx, hb, hml, hown, hts⟩ (mt_X1_work l dC dI q1 H.size f (xs (nI i + 1).toNatClampNeg) A B) (cwV 3 hts (lw_V q124 q125 q126 q5 q127) rfl rfl rfl (by decide +kernel) ⟨Nat.le_of_ble_eq_true rfl, Nat.le_of_ble_eq_true rfl⟩) ⟨fun a U g mk q => by obtain ⟨q0, q1, qP, qK, qD⟩ := q; exact ⟨q0, q1, qP, va_K.moved (u := U) (U := U.calling g mk a) (Vm.Alike.refl U.vm) qK, qD⟩, va_recv hK hPc (ci := 1) (q0 := 0) rfl rfl, fun U hU hW => ⟨rfl, by rw [hU], by rw [hU]; exact hPc, va_K.moved hW.alike hK, hDc.weaken (fun _ _ _ _ => trivial)⟩⟩ rfl rfl hl.1 rfl (lv_room (Nat.le_of_ble_eq_true rfl)) dL_law_232 ⟨Nat.le_of_ble_eq_true rfl, Nat.le_of_ble_eq_true rfl⟩) hS (fun q _ h => hFc q h) hFc (fun r2 u2 t H1 locs ht hvm hw2 hB hz1 hk1 hS => ?_)
      obtain ⟨hP1, hK1, hD1⟩ := hB
      rw [ht] at hP1
      obtain ⟨hP, hD⟩ := va_join (wr := [(q0, .inr (0, [.long u1]))]) (w1 := [(q1, .inr (1, [.long u2]))]) hP hD [0] [1] rfl rfl (by decide) (by decide) hk1 hFc hP1 hD1
      generalize H1 = H at hP hS ⊢
      have hP : va_P (dC, dI) vwCl [(q0, .inr (0, [.long u1])), (q1, .inr (1, [.long u2]))] H := hP
      have hD : va_D (fun q : Nat => s.heap.size ≤ q) [(q0, .inr (0, [.long u1])), (q1, .inr (1, [.long u2]))] := hD
      have e1 : r1 = r2 := by rw [hw1.1, hw2.1, ops_all]
      have e2 : u1 = u2 := by rw [hw1.2, hw2.2, ops_all]
      refine lv_icmp_eq (tgt := 254) hx hb dL_law_235 (by decide) (fun hq => ?_) (fun hq => absurd e1 hq)
      subst e2
      exact back u1 H locs hP hD hS ls hl
    by_cases hk4 : w = 4
    · refine lv_tableIn (off := 207) (tgt := 240) hx hb dL_law_33 (by rw [hk4]; decide) (by rw [hk4]; decide) (by rw [hk4]; rfl) (by decide) ?_
      refine lv_aload_n hx hb dL_law_240 rfl (lv_at hl 1 rfl) ?_
      have hPa := hP.sub (ws' := [(q0, .inr (0, [.long f]))]) [0] rfl
      have hPb := hP.sub (ws' := [(q1, .inr (1, [.long f]))]) [1] rfl
      refine jw_callJ (W.runV (C := RX0) (b := q0) (As := []) (rest := []) ⟨hx, hb, hml, hown, hts⟩ (mt_X0_result l dC dI q0 f) (cwV 0 hts (lw_V q89 q90 q91 q4 q92) rfl rfl rfl (by decide +kernel) ⟨Nat.le_of_ble_eq_true rfl, Nat.le_of_ble_eq_true rfl⟩) (preW hPa hK (va_recv hK hPa (ci := 0) (q0 := 0) rfl rfl)) rfl rfl hl.1 rfl (lv_room (Nat.le_of_ble_eq_true rfl)) dL_law_241 ⟨Nat.le_of_ble_eq_true rfl, Nat.le_of_ble_eq_true rfl⟩) ?_
      refine lv_aload_n hx hb dL_law_244 rfl (lv_at hl 2 rfl) ?_
      refine jw_callJ (W.runV (C := RX1) (b := q1) (As := []) (rest := [.long f]) ⟨hx, hb, hml, hown, hts⟩ (mt_X1_result l dC dI q1 f) (cwV 0 hts (lw_V q171 q172 q173 q5 q174) rfl rfl rfl (by decide +kernel) ⟨Nat.le_of_ble_eq_true rfl, Nat.le_of_ble_eq_true rfl⟩) (preW hPb hK (va_recv hK hPb (ci := 1) (q0 := 0) rfl rfl)) rfl rfl hl.1 rfl (lv_room (Nat.le_of_ble_eq_true rfl)) dL_law_245 ⟨Nat.le_of_ble_eq_true rfl, Nat.le_of_ble_eq_true rfl⟩) ?_
      refine W.lcmp hx hb dL_law_248 ?_
      refine lv_if_eq (tgt := 254) hx hb dL_law_249 (by decide) (fun hq => ?_) (fun hq => absurd ((lg_cmp_eq f f).mpr rfl) hq)
      exact back f H locs hP hD hS ls hl
    refine lv_tableOut (tgt := 254) hx hb dL_law_33 (by have e0 := lv_neT (a := 0) hk0 (by decide); have e1 := lv_neT (a := 1) hk1 (by decide); have e2 := lv_neT (a := 2) hk2 (by decide); have e3 := lv_neT (a := 3) hk3 (by decide); have e4 := lv_neT (a := 4) hk4 (by decide); omega) (by decide) ?_
    exact back f H locs hP hD hS ls hl
set_option maxHeartbeats 4000000 in
set_option maxRecDepth 100000 in
theorem whole_start {p : Program} {e : Env} {s : State} {m : MethodId} {below : List Frame} {meth : Method} {c : Code} (l : Launch) {b L : Nat} {xs : Nat → Int32} (hL : L ≤ 384) (C0 : lw_At p s m meth c b L xs) : W p l e room_1 s m #[Value.ref b] below meth c s.heap [] 0 0 (lw_Z below #[Value.ref b] s) (entryFrame m ([Value.ref b] : List Value).toArray 4) := by
  obtain ⟨hx, hb, hr, hml, hown, hts0, hX, hbl, hlocks, hgv⟩ := id C0
  have hts : ∀ w ∈ lw_all, w.before #[Value.ref b] s = true := fun w h => hts0 w (lw_all_tbl h)
  have hA : ∀ q : Nat, s.heap.size ≤ q → (fun q : Nat => s.heap.size ≤ q) q := fun _ h => h
  have hbA : ¬ (fun q : Nat => s.heap.size ≤ q) b := Nat.not_le.mpr hbl
  obtain ⟨c0_, iS0, hKn0⟩ := u_known (C := RX0) (T := TX0) (N := 1) (n := 1) hts in_X0 (hts _ q9)
  obtain ⟨c1_, iS1, hKn1⟩ := u_known (C := RX1) (T := TX1) (N := 1) (n := 1) hts in_X1 (hts _ q94)
  obtain ⟨dC, dI, hKc⟩ : ∃ (dC : Nat → ClassId) (dI : Nat → Nat → Nat), ∀ (k : Nat) (q : vw_C), vwCl[k]? = some q → u_Kn s q.1 q.2.1 q.2.2 (dC k) (dI k) := by
    refine ⟨fun k => if k = 0 then c0_ else c1_, fun k => if k = 0 then iS0 else iS1, ?_⟩
    intro k q hq
    match k, hq with
    | 0, hq => cases hq; exact hKn0
    | 1, hq => cases hq; exact hKn1
    | k + 2, hq => simp [vwCl] at hq
  have hS : va_S (fun q : Nat => s.heap.size ≤ q) s.heap s.heap [] := va_S.rf
  have hK : va_K (dC, dI) vwCl [] s := ⟨hKc, fun k q h => by simp at h⟩
  have hP : va_P (dC, dI) vwCl [] s.heap := fun k q h => by simp at h
  have hD : va_D (fun q : Nat => s.heap.size ≤ q) [] := ⟨fun i j p q h => by simp at h, fun k q h => by simp at h⟩
  have hl := lv_entry ([.ref b]) (n := 4) (Nat.le_of_ble_eq_true rfl)
  rw [lg_entry_eq]
  generalize (lg_sl ([.ref b]) ++ List.replicate (4 - (lg_sl ([.ref b])).length) Slot.unset).toArray = ls at hl ⊢
  have hl : lv_has ls 4 [(0, .ref b)] := hl
  refine va_new (ci := 0) (fs := [.long 0]) (C := RX0) (T := TX0) (N := 1) hx hb hts in_X0 tyX0 tyX0_ok hown (hts _ q8) (hts _ q9) (hts _ q4) hK hP hD hS hA rfl (fun j hj => by rcases (show j = 0 by omega) with rfl <;> rfl) (Nat.le_of_ble_eq_true rfl) (Nat.le_of_ble_eq_true rfl) dL_law_0 (fun qa H hP hD hS => ?_)
  have hP : va_P (dC, dI) vwCl [(qa, .inr (0, [.long 0]))] H := hP
  have hD : va_D (fun q : Nat => s.heap.size ≤ q) [(qa, .inr (0, [.long 0]))] := hD
  refine W.widen (k := 1) (n := 1) (Nat.le_of_ble_eq_true rfl) (Nat.le_of_ble_eq_true rfl) ?_
  refine lv_dup hx hb dL_law_3 rfl ?_
  have hPc := hP.sub (ws' := [(qa, .inr (0, [.long 0]))]) [0] rfl
  have hDc := hD.sub (ws' := [(qa, .inr (0, [.long 0]))]) [0] (by decide) rfl
  have hFc := va_free (wc := [(qa, .inr (0, [.long 0]))]) hD hS hA [0] rfl
  refine va_callv (va_runI (As := []) (rest := [.ref qa]) ⟨hx, hb, hml, hown, hts⟩ (mt_X0_init l dC dI qa H.size 0) (cwI 0 hts (lw_meth q12) rfl rfl rfl (hts _ q4) (hts _ q10) (hts _ q11) rfl (by decide +kernel) ⟨Nat.le_of_ble_eq_true rfl, Nat.le_of_ble_eq_true rfl⟩) ⟨fun a U g mk q => by obtain ⟨q0, q1, qP, qK, qD⟩ := q; exact ⟨q0, q1, qP, va_K.moved (u := U) (U := U.calling g mk a) (Vm.Alike.refl U.vm) qK, qD⟩, fun U hU hW => ⟨rfl, by rw [hU], by rw [hU]; exact hPc, va_K.moved hW.alike hK, hDc.weaken (fun _ _ _ _ => trivial)⟩⟩ rfl rfl hl.1 rfl (lv_room (Nat.le_of_ble_eq_true rfl)) dL_law_4 ⟨Nat.le_of_ble_eq_true rfl, Nat.le_of_ble_eq_true rfl⟩) hS (fun q _ h => hFc q h) hFc (fun u t H1 locs ht hvm hw hB hz1 hk1 hS => ?_)
  have hw : u = 0 := hw
  subst hw
  obtain ⟨hP1, hK1, hD1⟩ := hB
  rw [ht] at hP1
  obtain ⟨hP, hD⟩ := va_join (wr := []) (w1 := [(qa, .inr (0, [.long 0]))]) hP hD [0] [] rfl rfl (by decide) (by decide) hk1 hFc hP1 hD1
  generalize H1 = H at hP hS ⊢
  have hP : va_P (dC, dI) vwCl [(qa, .inr (0, [.long 0]))] H := hP
  have hD : va_D (fun q : Nat => s.heap.size ≤ q) [(qa, .inr (0, [.long 0]))] := hD
  refine lv_astore_n (lv' := [(1, .ref qa), (0, .ref b)]) hx hb dL_law_7 rfl hl (by decide) rfl (fun ls hl => ?_)
  refine va_new (ci := 1) (fs := [.long 0]) (C := RX1) (T := TX1) (N := 1) hx hb hts in_X1 tyX1 tyX1_ok hown (hts _ q93) (hts _ q94) (hts _ q5) hK hP hD hS hA rfl (fun j hj => by rcases (show j = 0 by omega) with rfl <;> rfl) (Nat.le_of_ble_eq_true rfl) (Nat.le_of_ble_eq_true rfl) dL_law_8 (fun qb H hP hD hS => ?_)
  have hP : va_P (dC, dI) vwCl [(qa, .inr (0, [.long 0])), (qb, .inr (1, [.long 0]))] H := hP
  have hD : va_D (fun q : Nat => s.heap.size ≤ q) [(qa, .inr (0, [.long 0])), (qb, .inr (1, [.long 0]))] := hD
  refine W.widen (k := 2) (n := 2) (Nat.le_of_ble_eq_true rfl) (Nat.le_of_ble_eq_true rfl) ?_
  refine lv_dup hx hb dL_law_11 rfl ?_
  have hPc := hP.sub (ws' := [(qb, .inr (1, [.long 0]))]) [1] rfl
  have hDc := hD.sub (ws' := [(qb, .inr (1, [.long 0]))]) [1] (by decide) rfl
  have hFc := va_free (wc := [(qb, .inr (1, [.long 0]))]) hD hS hA [1] rfl
  refine va_callv (va_runI (As := []) (rest := [.ref qb]) ⟨hx, hb, hml, hown, hts⟩ (mt_X1_init l dC dI qb H.size 0) (cwI 0 hts (lw_meth q97) rfl rfl rfl (hts _ q5) (hts _ q95) (hts _ q96) rfl (by decide +kernel) ⟨Nat.le_of_ble_eq_true rfl, Nat.le_of_ble_eq_true rfl⟩) ⟨fun a U g mk q => by obtain ⟨q0, q1, qP, qK, qD⟩ := q; exact ⟨q0, q1, qP, va_K.moved (u := U) (U := U.calling g mk a) (Vm.Alike.refl U.vm) qK, qD⟩, fun U hU hW => ⟨rfl, by rw [hU], by rw [hU]; exact hPc, va_K.moved hW.alike hK, hDc.weaken (fun _ _ _ _ => trivial)⟩⟩ rfl rfl hl.1 rfl (lv_room (Nat.le_of_ble_eq_true rfl)) dL_law_12 ⟨Nat.le_of_ble_eq_true rfl, Nat.le_of_ble_eq_true rfl⟩) hS (fun q _ h => hFc q h) hFc (fun u t H1 locs ht hvm hw hB hz1 hk1 hS => ?_)
  have hw : u = 0 := hw
  subst hw
  obtain ⟨hP1, hK1, hD1⟩ := hB
  rw [ht] at hP1
  obtain ⟨hP, hD⟩ := va_join (wr := [(qa, .inr (0, [.long 0]))]) (w1 := [(qb, .inr (1, [.long 0]))]) hP hD [1] [0] rfl rfl (by decide) (by decide) hk1 hFc hP1 hD1
  generalize H1 = H at hP hS ⊢
  have hP : va_P (dC, dI) vwCl [(qa, .inr (0, [.long 0])), (qb, .inr (1, [.long 0]))] H := hP
  have hD : va_D (fun q : Nat => s.heap.size ≤ q) [(qa, .inr (0, [.long 0])), (qb, .inr (1, [.long 0]))] := hD
  refine lv_astore_n (lv' := [(2, .ref qb), (1, .ref qa), (0, .ref b)]) hx hb dL_law_15 rfl hl (by decide) rfl (fun ls hl => ?_)
  refine lv_iconst (v := 0) hx hb dL_law_16 (by decide) ?_
  refine lv_istore_n (lv' := [(3, .int 0), (2, .ref qb), (1, .ref qa), (0, .ref b)]) hx hb dL_law_17 rfl hl (by decide) rfl (fun ls hl => ?_)
  exact law_loop hL C0 (L + 7) 0 0 (by omega) (by omega) qa qb _ _ hK hP hD hS ls (lv_sub hl [3, 2, 1, 0] rfl)
end
section
set_option maxHeartbeats 4000000 in
theorem lw_walk (l : Launch) (b : Addr) (xs : List Int32) : MetFree l x (headSpec (Jvm.Cond.code x code maxLocals ret :: tables_1) room_1) (lw_P b xs) (fun _ _ _ _ _ => True) lw_Q := by
  refine MetFree.of_bodyS (code := code) (maxLocals := maxLocals) (ret := ret) (by decide) ?_ ?_
  · intro args s m h hn
    obtain ⟨meth, c, h1, h2, h3, h4, h5, h6, -, -⟩ := Cond.code_spec hn (atoms_spec (ws := Jvm.Cond.code x code maxLocals ret :: tables_1) h _ List.mem_cons_self)
    exact ⟨meth, c, h1, h2, h3, h4, h5, h6⟩
  · intro p e s m args below meth c s₁ B hml0 hP _
    obtain ⟨rfl, hx, hbd, hgv⟩ := hP
    obtain ⟨scr, harrAt, hlist, hof, hsmall⟩ := hx
    obtain ⟨hcb, hkn, -, -⟩ := State.arrayAt?_spec harrAt
    have hown : s.vm.findClass R_law = some m.cls := findClass_of_methodNamed B.named
    have hts0 : ∀ c ∈ (Jvm.Cond.code x code maxLocals ret :: tables_1), c.before #[Value.ref b] s = true := atoms_spec (ws := Jvm.Cond.code x code maxLocals ret :: tables_1) B.pre
    have hts : ∀ w ∈ lw_tbl, w.before #[Value.ref b] s = true := k2_hts_sels lw_privs (fun w hw => hts0 w (List.mem_cons_of_mem _ hw)) lw_privs_ok
    have hml : c.maxLocals = 4 := B.maxLocals_eq (hts0 _ List.mem_cons_self)
    have X₀ : Stand p l e room_1 s m #[Value.ref b] below meth c s₁ [] 0 0 := Stand.of_body B
    have hh0 : s₁.heap = s.heap := by rw [B.state]; rfl
    have hsz : scr.slots.size = xs.length := by rw [← Array.length_toList, hlist, List.length_map]
    have hval : ∀ j : Nat, j < xs.length → scr.slots[j]? = some (.int (xs.getD j 0)) := fun j hj => by
      rw [← Array.getElem?_toList, hlist]
      simp [hj]
    have hbl : b < s.heap.size := (Array.getElem?_eq_some_iff.mp hcb).1
    have hX : va_X b xs.length (fun j => xs.getD j 0) s s.heap := ⟨scr, hcb, hof, hkn, hsz, hval⟩
    have K : W p l e room_1 s m #[Value.ref b] below meth c s₁.heap [] 0 0 (lw_Z below #[Value.ref b] s) (entryFrame m ([Value.ref b] : List Value).toArray 4) := by
      rw [hh0]
      exact whole_start l hbd ⟨B.exec, B.bytes, B.returns, hml, hown, hts, hX, hbl, B.notSynchronized, hgv⟩
    obtain ⟨t, a1, o, b1, b2, b3⟩ := K s₁ rfl X₀
    exact ⟨t, o, a1, b1, b2, b3⟩
theorem lw_pre_spec {args : Array Value} {s : State} (h : (Jvm.Cond.and given_1 narrow_1).before args s = true) (hr : rest_1_c.before args s = true) : ∃ (b : Addr) (xs : List Int32), lw_P b xs args s := by
  have hs := flat_of_before _ h
  have hq := flat_of_before _ hr
  have hc : (Cond.count 1).before args s = true := hs _ (by decide +kernel)
  have harr : (Cond.arrayOf (.arg 0) .int).before args s = true := hs _ (by decide +kernel)
  have hle : (Cond.le (.length (.arg 0)) (.int 384)).before args s = true := hs _ (by decide +kernel)
  have hlen : (Cond.isInt (.length (.arg 0))).before args s = true := hq _ (by decide +kernel)
  have hall : (Cond.all (.arg 0) (.isInt (.elem (.arg 0) (.index 0)))).before args s = true := hq _ (by decide +kernel)
  obtain ⟨b, xs, hb, hx⟩ := State.ints_of_pre rfl harr hlen hall
  have hsm : xs.length < 2 ^ 31 := hx.choose_spec.2.2.2
  have hev : (Term.length (.arg 0)).eval args s none [] s = some (.int xs.length.toInt32) := hx.length_eval hb
  have hv := Cond.le_ints hev (show (Term.int 384).eval args s none [] s = some (.int 384) from rfl)
  have hd : xs.length.toInt32 ≤ 384 := by
    simpa [Cond.before, Cond.holds, hv] using hle
  have hN : xs.length ≤ 384 := (Int32.ofNat_le_ofNat hsm (by decide)).mp (show Int32.ofNat xs.length ≤ Int32.ofNat 384 from hd)
  exact ⟨b, xs, Cond.one_arg hc (show args[0]? = some (.ref b) from hb), hx, hN, h⟩
theorem lw_comes (l : Launch) : Comes l x (Jvm.Cond.code x code maxLocals ret :: tables_1) room_1 (fun tb e args s => Calls_1 tb e args s ∧ rest_1 tb e args s ∧ Pre_1 tb e args s)
    (fun _ _ args s o t => lw_Q args s o t) := by
  intro p e ha hc hk s m args below hf hfit hheap happ hpre
  obtain ⟨b, xs, hP⟩ := lw_pre_spec hpre.2.2 hpre.2.1
  obtain ⟨k, o, h1, h2, h3, hQ⟩ := lw_walk l b xs p e ha hc hk s m args below hf ((Spec.applies_iff_loose hf).mp happ).1 hP trivial
  exact ⟨k, o, h1, h2, h3, hQ⟩
theorem lw_frame {s t : State} {o : Outcome} {args : Array Value} (h : Framed s o t [] 600000 7290000) :
    Framed s o t (fieldLocs frame_1_writes args s ++ arrayLocs frame_1_arrays args s ++ staticLocs frame_1_statics s) 600000 7290000 := h
theorem lw_limb (L : Cond) (hL : ∀ (args : Array Value) (s t : State), L.after args s (.returned (some (.int 1))) t = true) :
    ArmFor flags0 classFile x code maxLocals ret World_1 tables_1 room_1 Calls_1 rest_1 Pre_1
      (fun tb e a s o t => postC L tb e a s o t ∧ Framed s o t (fieldLocs frame_1_writes a s ++ arrayLocs frame_1_arrays a s ++ staticLocs frame_1_statics s) 600000 7290000) := by
  intro l _ _ _ p e ha hc hk s m args below hf hfit hheap happ hpre
  obtain ⟨k, o, h1, h2, h3, rfl, hF⟩ := lw_comes l p e ha hc hk s m args below hf hfit hheap happ hpre
  exact ⟨k, _, h1, h2, h3, hL args s _, lw_frame hF⟩
theorem i_vc : Claimed_1_1 ∧ Claimed_1_2 := ⟨lw_limb limb_1_1 (fun args s t => by simp [limb_1_1, Cond.after, Cond.holds, Cond.value]), lw_limb limb_1_2 (fun args s t => Cond.after_iff.mpr (by
  first | (rw [show limb_1_2 = Cond.eq .result (.int 1) from rfl, Cond.eq_ints (x := 1) (y := 1) rfl rfl]; simp; done) | (simp [limb_1_2, Cond.value, Term.eval]; done)))⟩
end
