section
-- ===== PART A: goes FIRST, ahead of the names: the tables' words, and 'selects' of the private methods out of them =====
/-- a private method of a class that the tables say can be made, by its rows of tables_1 -/
def lw_okq (q : MethodName × Nat) : Prop := (q.1.cls ≠ "java/lang/invoke/MethodHandle" ∧ q.1.cls ≠ "java/lang/invoke/VarHandle") ∧ Cond.instantiable q.1.cls q.2 ∈ tables_1 ∧ Cond.privateMethod q.1 ∈ tables_1 ∧ Cond.instanceMethod q.1 ∈ tables_1
set_option maxRecDepth 100000
theorem lw_p0 : lw_okq (⟨"TrellisDesk", "from", "(III)I"⟩, 8) := ⟨⟨by decide +kernel, by decide +kernel⟩, List.mem_of_getElem? (i := 4) rfl, List.mem_of_getElem? (i := 52) rfl, List.mem_of_getElem? (i := 53) rfl⟩
theorem lw_p1 : lw_okq (⟨"TrellisDesk", "pays", "(II)I"⟩, 8) := ⟨⟨by decide +kernel, by decide +kernel⟩, List.mem_of_getElem? (i := 4) rfl, List.mem_of_getElem? (i := 56) rfl, List.mem_of_getElem? (i := 57) rfl⟩
def lw_privs_1 : List (MethodName × Nat) := [(⟨"TrellisDesk", "from", "(III)I"⟩, 8), (⟨"TrellisDesk", "pays", "(II)I"⟩, 8)]
theorem lw_r1 : ∀ q ∈ lw_privs_1, lw_okq q := List.forall_mem_cons.mpr ⟨lw_p0, List.forall_mem_cons.mpr ⟨lw_p1, fun _ h => absurd h List.not_mem_nil⟩⟩
def lw_privs : List (MethodName × Nat) := lw_privs_1
def lw_tbl : List Cond := k2_sels lw_privs ++ tables_1
theorem lw_privs_ok : ∀ q ∈ lw_privs, lw_okq q := lw_r1
-- ===== ONE list of words for every method: the tables' words that hold all through a run =====
def lw_all : List Cond := lw_tbl.filter goodWord
/-- a word of the tables by its place: claim/WORDS.tsv -/
theorem lw_w {w : Cond} (i : Nat) (h : lw_tbl[i]? = some w) (g : goodWord w = true) : w ∈ lw_all := List.mem_filter.mpr ⟨List.mem_of_getElem? h, g⟩
theorem lw_all_tbl {w : Cond} (h : w ∈ lw_all) : w ∈ lw_tbl := (List.mem_filter.mp h).1
theorem lw_self : GoodIn lw_all lw_all := fun w h => ⟨h, good_of_word (List.mem_filter.mp h).2⟩
/-- a class's field words, by their places -/
theorem lw_in (ws : List Cond) (ps : List Nat) (hp : ws = ps.filterMap (fun i => lw_tbl[i]?)) (hg : ws.all goodWord = true) : ∀ w ∈ ws, w ∈ lw_all := by
  intro w h
  have h1 := List.all_eq_true.mp hg w h
  rw [hp] at h
  obtain ⟨i, -, hi⟩ := List.mem_filterMap.mp h
  exact lw_w i hi h1
/-- the words of a contract for the method y with code b, L locals, answer r -/
abbrev ws_ (y : MethodName) (b : ByteArray) (L : Nat) (r : Option FieldType) : List Cond := Cond.code y b L r :: lw_all
theorem lw_meth {y : MethodName} {b : ByteArray} {L : Nat} {r : Option FieldType} (h : Cond.code y b L r ∈ lw_all) : GoodIn lw_all (ws_ y b L r) := by
  intro w hw
  rcases List.mem_cons.mp hw with e | e
  · rw [e]
    exact lw_self _ h
  · exact lw_self _ e
theorem lw_app {a c : List Cond} (ha : ∀ w ∈ a, w ∈ lw_all) (hc : GoodIn lw_all c) : GoodIn lw_all (a ++ c) := by
  intro w hw
  rcases List.mem_append.mp hw with e | e
  · exact lw_self w (ha w e)
  · exact hc w e
/-- what a call through an object asks: cwV n hts (lw_V ..) -/
theorem lw_V {own : String} {idx : Nat} {C : String} {y : MethodName} {b : ByteArray} {L : Nat} {r : Option FieldType} (h1 : Cond.methodLink own idx y ∈ lw_all) (h2 : Cond.instanceMethod y ∈ lw_all) (h3 : Cond.selects C y y ∈ lw_all) (h4 : Cond.initialized C ∈ lw_all) (h5 : Cond.code y b L r ∈ lw_all) : GoodIn lw_all (wsV own idx C y (ws_ y b L r)) := by
  refine lw_app ?_ (lw_meth h5)
  intro w hw
  simp only [List.mem_cons, List.not_mem_nil, or_false] at hw
  rcases hw with e | e | e | e
  · rw [e]; exact h1
  · rw [e]; exact h2
  · rw [e]; exact h3
  · rw [e]; exact h4
/-- what a static call asks: va_cwS n hts (lw_S ..) -/
theorem lw_S {own : String} {idx : Nat} {y : MethodName} {b : ByteArray} {L : Nat} {r : Option FieldType} (h1 : Cond.methodLink own idx y ∈ lw_all) (h2 : Cond.static y ∈ lw_all) (h3 : Cond.initialized y.cls ∈ lw_all) (h4 : Cond.code y b L r ∈ lw_all) : GoodIn lw_all (va_wsS own idx y (ws_ y b L r)) := by
  refine lw_app ?_ (lw_meth h4)
  intro w hw
  simp only [List.mem_cons, List.not_mem_nil, or_false] at hw
  rcases hw with e | e | e
  · rw [e]; exact h1
  · rw [e]; exact h2
  · rw [e]; exact h3
/-- the words of a contract for a method WITH HANDLERS (hh: its table) -/
abbrev wsW_ (y : MethodName) (b : ByteArray) (L : Nat) (r : Option FieldType) (hh : List (Nat × Nat × Nat × Nat)) : List Cond := Cond.codeWith y b L r hh :: lw_all
theorem lw_methW {y : MethodName} {b : ByteArray} {L : Nat} {r : Option FieldType} {hh : List (Nat × Nat × Nat × Nat)} (h : Cond.codeWith y b L r hh ∈ lw_all) : GoodIn lw_all (wsW_ y b L r hh) := by
  intro w hw
  rcases List.mem_cons.mp hw with e | e
  · rw [e]
    exact lw_self _ h
  · exact lw_self _ e
/-- any list of words by their places (lw_in), good -/
theorem lw_good {ws : List Cond} (h : ∀ w ∈ ws, w ∈ lw_all) : GoodIn lw_all ws := fun w hw => lw_self w (h w hw)
/-- what a call of a method with handlers asks: vx_cwVW n hts (lw_VW ..), vx_cwSW n hts (lw_SW ..) -/
theorem lw_VW {own : String} {idx : Nat} {C : String} {y : MethodName} {b : ByteArray} {L : Nat} {r : Option FieldType} {hh : List (Nat × Nat × Nat × Nat)} (h1 : Cond.methodLink own idx y ∈ lw_all) (h2 : Cond.instanceMethod y ∈ lw_all) (h3 : Cond.selects C y y ∈ lw_all) (h4 : Cond.initialized C ∈ lw_all) (h5 : Cond.codeWith y b L r hh ∈ lw_all) : GoodIn lw_all (wsV own idx C y (wsW_ y b L r hh)) := by
  refine lw_app ?_ (lw_methW h5)
  intro w hw
  simp only [List.mem_cons, List.not_mem_nil, or_false] at hw
  rcases hw with e | e | e | e
  · rw [e]; exact h1
  · rw [e]; exact h2
  · rw [e]; exact h3
  · rw [e]; exact h4
theorem lw_SW {own : String} {idx : Nat} {y : MethodName} {b : ByteArray} {L : Nat} {r : Option FieldType} {hh : List (Nat × Nat × Nat × Nat)} (h1 : Cond.methodLink own idx y ∈ lw_all) (h2 : Cond.static y ∈ lw_all) (h3 : Cond.initialized y.cls ∈ lw_all) (h4 : Cond.codeWith y b L r hh ∈ lw_all) : GoodIn lw_all (va_wsS own idx y (wsW_ y b L r hh)) := by
  refine lw_app ?_ (lw_methW h4)
  intro w hw
  simp only [List.mem_cons, List.not_mem_nil, or_false] at hw
  rcases hw with e | e | e
  · rw [e]; exact h1
  · rw [e]; exact h2
  · rw [e]; exact h3
/-- a word by its place in its run of the tables -/
theorem lw_at {r : List Cond} (hr : ∀ w ∈ r, w ∈ lw_tbl) {w : Cond} (i : Nat) (h : r[i]? = some w) : w ∈ lw_tbl := hr w (List.mem_of_getElem? h)
theorem lw_g {w : Cond} (h : w ∈ lw_tbl) (g : goodWord w = true) : w ∈ lw_all := List.mem_filter.mpr ⟨h, g⟩
theorem lw_ms : ∀ w ∈ k2_sels lw_privs, w ∈ lw_tbl := fun w h => show w ∈ k2_sels lw_privs ++ tables_1 from List.mem_append_left _ h
theorem lw_m0 : ∀ w ∈ tables_1, w ∈ lw_tbl := fun w h => show w ∈ k2_sels lw_privs ++ tables_1 from List.mem_append_right (k2_sels lw_privs) h
theorem qs0 : (Cond.selects "TrellisDesk" ⟨"TrellisDesk", "from", "(III)I"⟩ ⟨"TrellisDesk", "from", "(III)I"⟩) ∈ lw_all := lw_g (lw_at lw_ms 0 rfl) rfl
theorem qs1 : (Cond.selects "TrellisDesk" ⟨"TrellisDesk", "pays", "(II)I"⟩ ⟨"TrellisDesk", "pays", "(II)I"⟩) ∈ lw_all := lw_g (lw_at lw_ms 1 rfl) rfl
end
section
set_option maxRecDepth 100000
/-! TrellisDesk -/
def RX0 : String := "TrellisDesk"
def TX0 : u_T := fun k => match k with
  | 0 => ("TrellisDesk", "memory", "I", false)
  | 1 => ("TrellisDesk", "tap0", "I", false)
  | 2 => ("TrellisDesk", "tap1", "I", false)
  | 3 => ("TrellisDesk", "first", "[S", true)
  | 4 => ("TrellisDesk", "second", "[S", true)
  | 5 => ("TrellisDesk", "pairs", "I", false)
  | 6 => ("TrellisDesk", "decidedCost", "I", false)
  | _ => ("TrellisDesk", "rest", "[I", true)
def tyX0 : Nat → FieldType := fun k => match k with
  | 0 => .int
  | 1 => .int
  | 2 => .int
  | 3 => .array .short
  | 4 => .array .short
  | 5 => .int
  | 6 => .int
  | _ => .array .int
abbrev wsX00 : List Cond := u_ws RX0 TX0 8
theorem nmX0 : ∀ a, a < 8 → ∀ b, b < 8 → a ≠ b → (TX0 a).2.1 ≠ (TX0 b).2.1 := by decide +kernel
theorem tyX0_ok : ∀ k, k < 8 → parseFieldDescriptor (TX0 k).2.2.1 = some (tyX0 k) := by decide +kernel
abbrev cX0_init : ByteArray := prog_1_method_1_code
def yX0_init : MethodName := ⟨RX0, "<init>", "()V"⟩
abbrev cX0_shape : ByteArray := prog_1_method_2_code
def yX0_shape : MethodName := ⟨RX0, "shape", "(III)V"⟩
abbrev cX0_hear : ByteArray := prog_1_method_3_code
def yX0_hear : MethodName := ⟨RX0, "hear", "(II)Z"⟩
abbrev cX0_decide : ByteArray := prog_1_method_7_code
def yX0_decide : MethodName := ⟨RX0, "decide", "()I"⟩
abbrev cX0_from : ByteArray := prog_1_method_6_code
def yX0_from : MethodName := ⟨RX0, "from", "(III)I"⟩
abbrev cX0_pays : ByteArray := prog_1_method_5_code
def yX0_pays : MethodName := ⟨RX0, "pays", "(II)I"⟩
abbrev cX0_isOdd : ByteArray := prog_1_method_4_code
def yX0_isOdd : MethodName := ⟨RX0, "isOdd", "(I)Z"⟩
abbrev cX0_cost : ByteArray := prog_1_method_8_code
def yX0_cost : MethodName := ⟨RX0, "cost", "()I"⟩
abbrev cX0_heard : ByteArray := prog_1_method_9_code
def yX0_heard : MethodName := ⟨RX0, "heard", "()I"⟩
theorem q3 : (Jvm.Cond.initialized "TrellisDesk") ∈ lw_all := lw_g (lw_at lw_m0 1 rfl) rfl
theorem q6 : (Jvm.Cond.instantiable "TrellisDesk" (8 : Nat)) ∈ lw_all := lw_g (lw_at lw_m0 4 rfl) rfl
theorem q8 : (Jvm.Cond.instanceMethod ({ cls := "TrellisDesk", name := "<init>", desc := "()V" } : Jvm.MethodName)) ∈ lw_all := lw_g (lw_at lw_m0 6 rfl) rfl
theorem q9 : (Jvm.Cond.code ({ cls := "TrellisDesk", name := "<init>", desc := "()V" } : Jvm.MethodName) prog_1_method_1_code (1 : Nat) (Option.none : Option Jvm.ClassFile.FieldType)) ∈ lw_all := lw_g (lw_at lw_m0 7 rfl) rfl
theorem q10 : (Jvm.Cond.methodLink "TrellisDesk" (1 : Nat) ({ cls := "java/lang/Object", name := "<init>", desc := "()V" } : Jvm.MethodName)) ∈ lw_all := lw_g (lw_at lw_m0 8 rfl) rfl
theorem q13 : (Jvm.Cond.fieldLink "TrellisDesk" (7 : Nat) "TrellisDesk" "memory" "I") ∈ lw_all := lw_g (lw_at lw_m0 11 rfl) rfl
theorem q14 : (Jvm.Cond.fieldLink "TrellisDesk" (13 : Nat) "TrellisDesk" "tap0" "I") ∈ lw_all := lw_g (lw_at lw_m0 12 rfl) rfl
theorem q15 : (Jvm.Cond.fieldLink "TrellisDesk" (16 : Nat) "TrellisDesk" "tap1" "I") ∈ lw_all := lw_g (lw_at lw_m0 13 rfl) rfl
theorem q16 : (Jvm.Cond.fieldLink "TrellisDesk" (19 : Nat) "TrellisDesk" "first" "[S") ∈ lw_all := lw_g (lw_at lw_m0 14 rfl) rfl
theorem q17 : (Jvm.Cond.fieldLink "TrellisDesk" (23 : Nat) "TrellisDesk" "second" "[S") ∈ lw_all := lw_g (lw_at lw_m0 15 rfl) rfl
theorem q18 : (Jvm.Cond.fieldLink "TrellisDesk" (31 : Nat) "TrellisDesk" "pairs" "I") ∈ lw_all := lw_g (lw_at lw_m0 16 rfl) rfl
theorem q19 : (Jvm.Cond.fieldLink "TrellisDesk" (34 : Nat) "TrellisDesk" "decidedCost" "I") ∈ lw_all := lw_g (lw_at lw_m0 17 rfl) rfl
theorem q20 : (Jvm.Cond.fieldLink "TrellisDesk" (26 : Nat) "TrellisDesk" "rest" "[I") ∈ lw_all := lw_g (lw_at lw_m0 18 rfl) rfl
theorem q21 : (Jvm.Cond.lays "TrellisDesk" "TrellisDesk" "memory" "I") ∈ lw_all := lw_g (lw_at lw_m0 19 rfl) rfl
theorem q22 : (Jvm.Cond.soleField "TrellisDesk" "memory") ∈ lw_all := lw_g (lw_at lw_m0 20 rfl) rfl
theorem q23 : (Jvm.Cond.lays "TrellisDesk" "TrellisDesk" "tap0" "I") ∈ lw_all := lw_g (lw_at lw_m0 21 rfl) rfl
theorem q24 : (Jvm.Cond.soleField "TrellisDesk" "tap0") ∈ lw_all := lw_g (lw_at lw_m0 22 rfl) rfl
theorem q25 : (Jvm.Cond.lays "TrellisDesk" "TrellisDesk" "tap1" "I") ∈ lw_all := lw_g (lw_at lw_m0 23 rfl) rfl
theorem q26 : (Jvm.Cond.soleField "TrellisDesk" "tap1") ∈ lw_all := lw_g (lw_at lw_m0 24 rfl) rfl
theorem q27 : (Jvm.Cond.laysFinal "TrellisDesk" "TrellisDesk" "first" "[S") ∈ lw_all := lw_g (lw_at lw_m0 25 rfl) rfl
theorem q28 : (Jvm.Cond.soleField "TrellisDesk" "first") ∈ lw_all := lw_g (lw_at lw_m0 26 rfl) rfl
theorem q29 : (Jvm.Cond.laysFinal "TrellisDesk" "TrellisDesk" "second" "[S") ∈ lw_all := lw_g (lw_at lw_m0 27 rfl) rfl
theorem q30 : (Jvm.Cond.soleField "TrellisDesk" "second") ∈ lw_all := lw_g (lw_at lw_m0 28 rfl) rfl
theorem q31 : (Jvm.Cond.lays "TrellisDesk" "TrellisDesk" "pairs" "I") ∈ lw_all := lw_g (lw_at lw_m0 29 rfl) rfl
theorem q32 : (Jvm.Cond.soleField "TrellisDesk" "pairs") ∈ lw_all := lw_g (lw_at lw_m0 30 rfl) rfl
theorem q33 : (Jvm.Cond.lays "TrellisDesk" "TrellisDesk" "decidedCost" "I") ∈ lw_all := lw_g (lw_at lw_m0 31 rfl) rfl
theorem q34 : (Jvm.Cond.soleField "TrellisDesk" "decidedCost") ∈ lw_all := lw_g (lw_at lw_m0 32 rfl) rfl
theorem q35 : (Jvm.Cond.laysFinal "TrellisDesk" "TrellisDesk" "rest" "[I") ∈ lw_all := lw_g (lw_at lw_m0 33 rfl) rfl
theorem q36 : (Jvm.Cond.soleField "TrellisDesk" "rest") ∈ lw_all := lw_g (lw_at lw_m0 34 rfl) rfl
theorem q37 : (Jvm.Cond.superclass "TrellisDesk" "java/lang/Object") ∈ lw_all := lw_g (lw_at lw_m0 35 rfl) rfl
theorem q41 : (Jvm.Cond.instanceMethod ({ cls := "TrellisDesk", name := "shape", desc := "(III)V" } : Jvm.MethodName)) ∈ lw_all := lw_g (lw_at lw_m0 39 rfl) rfl
theorem q42 : (Jvm.Cond.selects "TrellisDesk" ({ cls := "TrellisDesk", name := "shape", desc := "(III)V" } : Jvm.MethodName) ({ cls := "TrellisDesk", name := "shape", desc := "(III)V" } : Jvm.MethodName)) ∈ lw_all := lw_g (lw_at lw_m0 40 rfl) rfl
theorem q43 : (Jvm.Cond.code ({ cls := "TrellisDesk", name := "shape", desc := "(III)V" } : Jvm.MethodName) prog_1_method_2_code (5 : Nat) (Option.none : Option Jvm.ClassFile.FieldType)) ∈ lw_all := lw_g (lw_at lw_m0 41 rfl) rfl
theorem q44 : (Jvm.Cond.constant "TrellisDesk" (30 : Nat) (2147483647 : Int32)) ∈ lw_all := lw_g (lw_at lw_m0 42 rfl) rfl
theorem q46 : (Jvm.Cond.instanceMethod ({ cls := "TrellisDesk", name := "hear", desc := "(II)Z" } : Jvm.MethodName)) ∈ lw_all := lw_g (lw_at lw_m0 44 rfl) rfl
theorem q47 : (Jvm.Cond.selects "TrellisDesk" ({ cls := "TrellisDesk", name := "hear", desc := "(II)Z" } : Jvm.MethodName) ({ cls := "TrellisDesk", name := "hear", desc := "(II)Z" } : Jvm.MethodName)) ∈ lw_all := lw_g (lw_at lw_m0 45 rfl) rfl
theorem q48 : (Jvm.Cond.code ({ cls := "TrellisDesk", name := "hear", desc := "(II)Z" } : Jvm.MethodName) prog_1_method_3_code (3 : Nat) (Option.some Jvm.ClassFile.FieldType.boolean)) ∈ lw_all := lw_g (lw_at lw_m0 46 rfl) rfl
theorem q50 : (Jvm.Cond.instanceMethod ({ cls := "TrellisDesk", name := "decide", desc := "()I" } : Jvm.MethodName)) ∈ lw_all := lw_g (lw_at lw_m0 48 rfl) rfl
theorem q51 : (Jvm.Cond.selects "TrellisDesk" ({ cls := "TrellisDesk", name := "decide", desc := "()I" } : Jvm.MethodName) ({ cls := "TrellisDesk", name := "decide", desc := "()I" } : Jvm.MethodName)) ∈ lw_all := lw_g (lw_at lw_m0 49 rfl) rfl
theorem q52 : (Jvm.Cond.code ({ cls := "TrellisDesk", name := "decide", desc := "()I" } : Jvm.MethodName) prog_1_method_7_code (7 : Nat) (Option.some Jvm.ClassFile.FieldType.int)) ∈ lw_all := lw_g (lw_at lw_m0 50 rfl) rfl
theorem q53 : (Jvm.Cond.methodLink "TrellisDesk" (45 : Nat) ({ cls := "TrellisDesk", name := "from", desc := "(III)I" } : Jvm.MethodName)) ∈ lw_all := lw_g (lw_at lw_m0 51 rfl) rfl
theorem q54 : (Jvm.Cond.privateMethod ({ cls := "TrellisDesk", name := "from", desc := "(III)I" } : Jvm.MethodName)) ∈ lw_tbl := lw_at lw_m0 52 rfl
theorem q55 : (Jvm.Cond.instanceMethod ({ cls := "TrellisDesk", name := "from", desc := "(III)I" } : Jvm.MethodName)) ∈ lw_all := lw_g (lw_at lw_m0 53 rfl) rfl
theorem q56 : (Jvm.Cond.code ({ cls := "TrellisDesk", name := "from", desc := "(III)I" } : Jvm.MethodName) prog_1_method_6_code (5 : Nat) (Option.some Jvm.ClassFile.FieldType.int)) ∈ lw_all := lw_g (lw_at lw_m0 54 rfl) rfl
theorem q57 : (Jvm.Cond.methodLink "TrellisDesk" (41 : Nat) ({ cls := "TrellisDesk", name := "pays", desc := "(II)I" } : Jvm.MethodName)) ∈ lw_all := lw_g (lw_at lw_m0 55 rfl) rfl
theorem q58 : (Jvm.Cond.privateMethod ({ cls := "TrellisDesk", name := "pays", desc := "(II)I" } : Jvm.MethodName)) ∈ lw_tbl := lw_at lw_m0 56 rfl
theorem q59 : (Jvm.Cond.instanceMethod ({ cls := "TrellisDesk", name := "pays", desc := "(II)I" } : Jvm.MethodName)) ∈ lw_all := lw_g (lw_at lw_m0 57 rfl) rfl
theorem q60 : (Jvm.Cond.code ({ cls := "TrellisDesk", name := "pays", desc := "(II)I" } : Jvm.MethodName) prog_1_method_5_code (3 : Nat) (Option.some Jvm.ClassFile.FieldType.int)) ∈ lw_all := lw_g (lw_at lw_m0 58 rfl) rfl
theorem q61 : (Jvm.Cond.methodLink "TrellisDesk" (37 : Nat) ({ cls := "TrellisDesk", name := "isOdd", desc := "(I)Z" } : Jvm.MethodName)) ∈ lw_all := lw_g (lw_at lw_m0 59 rfl) rfl
theorem q62 : (Jvm.Cond.static ({ cls := "TrellisDesk", name := "isOdd", desc := "(I)Z" } : Jvm.MethodName)) ∈ lw_all := lw_g (lw_at lw_m0 60 rfl) rfl
theorem q63 : (Jvm.Cond.code ({ cls := "TrellisDesk", name := "isOdd", desc := "(I)Z" } : Jvm.MethodName) prog_1_method_4_code (1 : Nat) (Option.some Jvm.ClassFile.FieldType.boolean)) ∈ lw_all := lw_g (lw_at lw_m0 61 rfl) rfl
theorem q65 : (Jvm.Cond.instanceMethod ({ cls := "TrellisDesk", name := "cost", desc := "()I" } : Jvm.MethodName)) ∈ lw_all := lw_g (lw_at lw_m0 63 rfl) rfl
theorem q66 : (Jvm.Cond.selects "TrellisDesk" ({ cls := "TrellisDesk", name := "cost", desc := "()I" } : Jvm.MethodName) ({ cls := "TrellisDesk", name := "cost", desc := "()I" } : Jvm.MethodName)) ∈ lw_all := lw_g (lw_at lw_m0 64 rfl) rfl
theorem q67 : (Jvm.Cond.code ({ cls := "TrellisDesk", name := "cost", desc := "()I" } : Jvm.MethodName) prog_1_method_8_code (1 : Nat) (Option.some Jvm.ClassFile.FieldType.int)) ∈ lw_all := lw_g (lw_at lw_m0 65 rfl) rfl
theorem q69 : (Jvm.Cond.instanceMethod ({ cls := "TrellisDesk", name := "heard", desc := "()I" } : Jvm.MethodName)) ∈ lw_all := lw_g (lw_at lw_m0 67 rfl) rfl
theorem q70 : (Jvm.Cond.selects "TrellisDesk" ({ cls := "TrellisDesk", name := "heard", desc := "()I" } : Jvm.MethodName) ({ cls := "TrellisDesk", name := "heard", desc := "()I" } : Jvm.MethodName)) ∈ lw_all := lw_g (lw_at lw_m0 68 rfl) rfl
theorem q71 : (Jvm.Cond.code ({ cls := "TrellisDesk", name := "heard", desc := "()I" } : Jvm.MethodName) prog_1_method_9_code (1 : Nat) (Option.some Jvm.ClassFile.FieldType.int)) ∈ lw_all := lw_g (lw_at lw_m0 69 rfl) rfl
theorem in_X0 : ∀ w ∈ wsX00, w ∈ lw_all := lw_in wsX00 [21, 23, 25, 27, 29, 31, 33, 35] (by decide +kernel) (by decide +kernel)
/-! TrellisDeskModel -/
def RX1 : String := "TrellisDeskModel"
def TX1 : u_T := fun k => match k with
  | 0 => ("TrellisDeskModel", "taps", "[I", true)
  | 1 => ("TrellisDeskModel", "memory", "I", false)
  | 2 => ("TrellisDeskModel", "cost", "[I", true)
  | 3 => ("TrellisDeskModel", "n", "I", false)
  | 4 => ("TrellisDeskModel", "told", "I", false)
  | _ => ("TrellisDeskModel", "message", "I", false)
def tyX1 : Nat → FieldType := fun k => match k with
  | 0 => .array .int
  | 1 => .int
  | 2 => .array .int
  | 3 => .int
  | 4 => .int
  | _ => .int
abbrev wsX10 : List Cond := u_ws RX1 TX1 6
theorem nmX1 : ∀ a, a < 6 → ∀ b, b < 6 → a ≠ b → (TX1 a).2.1 ≠ (TX1 b).2.1 := by decide +kernel
theorem tyX1_ok : ∀ k, k < 6 → parseFieldDescriptor (TX1 k).2.2.1 = some (tyX1 k) := by decide +kernel
abbrev cX1_shape : ByteArray := prog_3_method_1_code
def yX1_shape : MethodName := ⟨RX1, "shape", "(III)V"⟩
abbrev cX1_hear : ByteArray := prog_3_method_2_code
def yX1_hear : MethodName := ⟨RX1, "hear", "(II)Z"⟩
abbrev cX1_decide : ByteArray := prog_3_method_4_code
def yX1_decide : MethodName := ⟨RX1, "decide", "()I"⟩
abbrev cX1_odd : ByteArray := prog_3_method_3_code
def yX1_odd : MethodName := ⟨RX1, "odd", "(I)I"⟩
abbrev cX1_cost : ByteArray := prog_3_method_5_code
def yX1_cost : MethodName := ⟨RX1, "cost", "()I"⟩
abbrev cX1_heard : ByteArray := prog_3_method_6_code
def yX1_heard : MethodName := ⟨RX1, "heard", "()I"⟩
abbrev cX1_init : ByteArray := prog_3_method_7_code
def yX1_init : MethodName := ⟨RX1, "<init>", "()V"⟩
theorem q4 : (Jvm.Cond.initialized "TrellisDeskModel") ∈ lw_all := lw_g (lw_at lw_m0 2 rfl) rfl
theorem q73 : (Jvm.Cond.instanceMethod ({ cls := "TrellisDeskModel", name := "shape", desc := "(III)V" } : Jvm.MethodName)) ∈ lw_all := lw_g (lw_at lw_m0 71 rfl) rfl
theorem q74 : (Jvm.Cond.selects "TrellisDeskModel" ({ cls := "TrellisDeskModel", name := "shape", desc := "(III)V" } : Jvm.MethodName) ({ cls := "TrellisDeskModel", name := "shape", desc := "(III)V" } : Jvm.MethodName)) ∈ lw_all := lw_g (lw_at lw_m0 72 rfl) rfl
theorem q75 : (Jvm.Cond.code ({ cls := "TrellisDeskModel", name := "shape", desc := "(III)V" } : Jvm.MethodName) prog_3_method_1_code (5 : Nat) (Option.none : Option Jvm.ClassFile.FieldType)) ∈ lw_all := lw_g (lw_at lw_m0 73 rfl) rfl
theorem q76 : (Jvm.Cond.constant "TrellisDeskModel" (1 : Nat) (2147483647 : Int32)) ∈ lw_all := lw_g (lw_at lw_m0 74 rfl) rfl
theorem q78 : (Jvm.Cond.instanceMethod ({ cls := "TrellisDeskModel", name := "hear", desc := "(II)Z" } : Jvm.MethodName)) ∈ lw_all := lw_g (lw_at lw_m0 76 rfl) rfl
theorem q79 : (Jvm.Cond.selects "TrellisDeskModel" ({ cls := "TrellisDeskModel", name := "hear", desc := "(II)Z" } : Jvm.MethodName) ({ cls := "TrellisDeskModel", name := "hear", desc := "(II)Z" } : Jvm.MethodName)) ∈ lw_all := lw_g (lw_at lw_m0 77 rfl) rfl
theorem q80 : (Jvm.Cond.code ({ cls := "TrellisDeskModel", name := "hear", desc := "(II)Z" } : Jvm.MethodName) prog_3_method_2_code (3 : Nat) (Option.some Jvm.ClassFile.FieldType.boolean)) ∈ lw_all := lw_g (lw_at lw_m0 78 rfl) rfl
theorem q82 : (Jvm.Cond.instanceMethod ({ cls := "TrellisDeskModel", name := "decide", desc := "()I" } : Jvm.MethodName)) ∈ lw_all := lw_g (lw_at lw_m0 80 rfl) rfl
theorem q83 : (Jvm.Cond.selects "TrellisDeskModel" ({ cls := "TrellisDeskModel", name := "decide", desc := "()I" } : Jvm.MethodName) ({ cls := "TrellisDeskModel", name := "decide", desc := "()I" } : Jvm.MethodName)) ∈ lw_all := lw_g (lw_at lw_m0 81 rfl) rfl
theorem q84 : (Jvm.Cond.code ({ cls := "TrellisDeskModel", name := "decide", desc := "()I" } : Jvm.MethodName) prog_3_method_4_code (10 : Nat) (Option.some Jvm.ClassFile.FieldType.int)) ∈ lw_all := lw_g (lw_at lw_m0 82 rfl) rfl
theorem q85 : (Jvm.Cond.methodLink "TrellisDeskModel" (24 : Nat) ({ cls := "TrellisDeskModel", name := "odd", desc := "(I)I" } : Jvm.MethodName)) ∈ lw_all := lw_g (lw_at lw_m0 83 rfl) rfl
theorem q86 : (Jvm.Cond.static ({ cls := "TrellisDeskModel", name := "odd", desc := "(I)I" } : Jvm.MethodName)) ∈ lw_all := lw_g (lw_at lw_m0 84 rfl) rfl
theorem q87 : (Jvm.Cond.code ({ cls := "TrellisDeskModel", name := "odd", desc := "(I)I" } : Jvm.MethodName) prog_3_method_3_code (3 : Nat) (Option.some Jvm.ClassFile.FieldType.int)) ∈ lw_all := lw_g (lw_at lw_m0 85 rfl) rfl
theorem q89 : (Jvm.Cond.instanceMethod ({ cls := "TrellisDeskModel", name := "cost", desc := "()I" } : Jvm.MethodName)) ∈ lw_all := lw_g (lw_at lw_m0 87 rfl) rfl
theorem q90 : (Jvm.Cond.selects "TrellisDeskModel" ({ cls := "TrellisDeskModel", name := "cost", desc := "()I" } : Jvm.MethodName) ({ cls := "TrellisDeskModel", name := "cost", desc := "()I" } : Jvm.MethodName)) ∈ lw_all := lw_g (lw_at lw_m0 88 rfl) rfl
theorem q91 : (Jvm.Cond.code ({ cls := "TrellisDeskModel", name := "cost", desc := "()I" } : Jvm.MethodName) prog_3_method_5_code (6 : Nat) (Option.some Jvm.ClassFile.FieldType.int)) ∈ lw_all := lw_g (lw_at lw_m0 89 rfl) rfl
theorem q93 : (Jvm.Cond.instanceMethod ({ cls := "TrellisDeskModel", name := "heard", desc := "()I" } : Jvm.MethodName)) ∈ lw_all := lw_g (lw_at lw_m0 91 rfl) rfl
theorem q94 : (Jvm.Cond.selects "TrellisDeskModel" ({ cls := "TrellisDeskModel", name := "heard", desc := "()I" } : Jvm.MethodName) ({ cls := "TrellisDeskModel", name := "heard", desc := "()I" } : Jvm.MethodName)) ∈ lw_all := lw_g (lw_at lw_m0 92 rfl) rfl
theorem q95 : (Jvm.Cond.code ({ cls := "TrellisDeskModel", name := "heard", desc := "()I" } : Jvm.MethodName) prog_3_method_6_code (1 : Nat) (Option.some Jvm.ClassFile.FieldType.int)) ∈ lw_all := lw_g (lw_at lw_m0 93 rfl) rfl
theorem q97 : (Jvm.Cond.instantiable "TrellisDeskModel" (6 : Nat)) ∈ lw_all := lw_g (lw_at lw_m0 95 rfl) rfl
theorem q99 : (Jvm.Cond.instanceMethod ({ cls := "TrellisDeskModel", name := "<init>", desc := "()V" } : Jvm.MethodName)) ∈ lw_all := lw_g (lw_at lw_m0 97 rfl) rfl
theorem q100 : (Jvm.Cond.code ({ cls := "TrellisDeskModel", name := "<init>", desc := "()V" } : Jvm.MethodName) prog_3_method_7_code (1 : Nat) (Option.none : Option Jvm.ClassFile.FieldType)) ∈ lw_all := lw_g (lw_at lw_m0 98 rfl) rfl
theorem q101 : (Jvm.Cond.methodLink "TrellisDeskModel" (28 : Nat) ({ cls := "java/lang/Object", name := "<init>", desc := "()V" } : Jvm.MethodName)) ∈ lw_all := lw_g (lw_at lw_m0 99 rfl) rfl
theorem q102 : (Jvm.Cond.fieldLink "TrellisDeskModel" (8 : Nat) "TrellisDeskModel" "taps" "[I") ∈ lw_all := lw_g (lw_at lw_m0 100 rfl) rfl
theorem q103 : (Jvm.Cond.fieldLink "TrellisDeskModel" (2 : Nat) "TrellisDeskModel" "memory" "I") ∈ lw_all := lw_g (lw_at lw_m0 101 rfl) rfl
theorem q104 : (Jvm.Cond.fieldLink "TrellisDeskModel" (21 : Nat) "TrellisDeskModel" "cost" "[I") ∈ lw_all := lw_g (lw_at lw_m0 102 rfl) rfl
theorem q105 : (Jvm.Cond.fieldLink "TrellisDeskModel" (12 : Nat) "TrellisDeskModel" "n" "I") ∈ lw_all := lw_g (lw_at lw_m0 103 rfl) rfl
theorem q106 : (Jvm.Cond.fieldLink "TrellisDeskModel" (15 : Nat) "TrellisDeskModel" "told" "I") ∈ lw_all := lw_g (lw_at lw_m0 104 rfl) rfl
theorem q107 : (Jvm.Cond.fieldLink "TrellisDeskModel" (18 : Nat) "TrellisDeskModel" "message" "I") ∈ lw_all := lw_g (lw_at lw_m0 105 rfl) rfl
theorem q108 : (Jvm.Cond.laysFinal "TrellisDeskModel" "TrellisDeskModel" "taps" "[I") ∈ lw_all := lw_g (lw_at lw_m0 106 rfl) rfl
theorem q109 : (Jvm.Cond.soleField "TrellisDeskModel" "taps") ∈ lw_all := lw_g (lw_at lw_m0 107 rfl) rfl
theorem q110 : (Jvm.Cond.lays "TrellisDeskModel" "TrellisDeskModel" "memory" "I") ∈ lw_all := lw_g (lw_at lw_m0 108 rfl) rfl
theorem q111 : (Jvm.Cond.soleField "TrellisDeskModel" "memory") ∈ lw_all := lw_g (lw_at lw_m0 109 rfl) rfl
theorem q112 : (Jvm.Cond.laysFinal "TrellisDeskModel" "TrellisDeskModel" "cost" "[I") ∈ lw_all := lw_g (lw_at lw_m0 110 rfl) rfl
theorem q113 : (Jvm.Cond.soleField "TrellisDeskModel" "cost") ∈ lw_all := lw_g (lw_at lw_m0 111 rfl) rfl
theorem q114 : (Jvm.Cond.lays "TrellisDeskModel" "TrellisDeskModel" "n" "I") ∈ lw_all := lw_g (lw_at lw_m0 112 rfl) rfl
theorem q115 : (Jvm.Cond.soleField "TrellisDeskModel" "n") ∈ lw_all := lw_g (lw_at lw_m0 113 rfl) rfl
theorem q116 : (Jvm.Cond.lays "TrellisDeskModel" "TrellisDeskModel" "told" "I") ∈ lw_all := lw_g (lw_at lw_m0 114 rfl) rfl
theorem q117 : (Jvm.Cond.soleField "TrellisDeskModel" "told") ∈ lw_all := lw_g (lw_at lw_m0 115 rfl) rfl
theorem q118 : (Jvm.Cond.lays "TrellisDeskModel" "TrellisDeskModel" "message" "I") ∈ lw_all := lw_g (lw_at lw_m0 116 rfl) rfl
theorem q119 : (Jvm.Cond.soleField "TrellisDeskModel" "message") ∈ lw_all := lw_g (lw_at lw_m0 117 rfl) rfl
theorem q120 : (Jvm.Cond.superclass "TrellisDeskModel" "java/lang/Object") ∈ lw_all := lw_g (lw_at lw_m0 118 rfl) rfl
theorem in_X1 : ∀ w ∈ wsX10, w ∈ lw_all := lw_in wsX10 [108, 110, 112, 114, 116, 118] (by decide +kernel) (by decide +kernel)
/-! the law's own entry -/
abbrev cL_law : ByteArray := code
/-! java/lang/Object -/
def RJ0 : String := "java/lang/Object"
abbrev cJ0_init : ByteArray := object_method_1_code
def yJ0_init : MethodName := ⟨RJ0, "<init>", "()V"⟩
theorem q11 : (Jvm.Cond.instanceMethod ({ cls := "java/lang/Object", name := "<init>", desc := "()V" } : Jvm.MethodName)) ∈ lw_all := lw_g (lw_at lw_m0 9 rfl) rfl
theorem q12 : (Jvm.Cond.code ({ cls := "java/lang/Object", name := "<init>", desc := "()V" } : Jvm.MethodName) object_method_1_code (1 : Nat) (Option.none : Option Jvm.ClassFile.FieldType)) ∈ lw_all := lw_g (lw_at lw_m0 10 rfl) rfl
theorem q38 : (Jvm.Cond.arrayClass Jvm.ClassFile.FieldType.short) ∈ lw_all := lw_g (lw_at lw_m0 36 rfl) rfl
theorem q39 : (Jvm.Cond.arrayClass Jvm.ClassFile.FieldType.int) ∈ lw_all := lw_g (lw_at lw_m0 37 rfl) rfl
theorem q2 : (Jvm.Cond.initialized "TrellisDeskLaw") ∈ lw_all := lw_g (lw_at lw_m0 0 rfl) rfl
theorem q5 : (Jvm.Cond.classLink "TrellisDeskLaw" (7 : Nat) "TrellisDesk") ∈ lw_all := lw_g (lw_at lw_m0 3 rfl) rfl
theorem q7 : (Jvm.Cond.methodLink "TrellisDeskLaw" (9 : Nat) ({ cls := "TrellisDesk", name := "<init>", desc := "()V" } : Jvm.MethodName)) ∈ lw_all := lw_g (lw_at lw_m0 5 rfl) rfl
theorem q40 : (Jvm.Cond.methodLink "TrellisDeskLaw" (13 : Nat) ({ cls := "TrellisDesk", name := "shape", desc := "(III)V" } : Jvm.MethodName)) ∈ lw_all := lw_g (lw_at lw_m0 38 rfl) rfl
theorem q45 : (Jvm.Cond.methodLink "TrellisDeskLaw" (18 : Nat) ({ cls := "TrellisDesk", name := "hear", desc := "(II)Z" } : Jvm.MethodName)) ∈ lw_all := lw_g (lw_at lw_m0 43 rfl) rfl
theorem q49 : (Jvm.Cond.methodLink "TrellisDeskLaw" (23 : Nat) ({ cls := "TrellisDesk", name := "decide", desc := "()I" } : Jvm.MethodName)) ∈ lw_all := lw_g (lw_at lw_m0 47 rfl) rfl
theorem q64 : (Jvm.Cond.methodLink "TrellisDeskLaw" (28 : Nat) ({ cls := "TrellisDesk", name := "cost", desc := "()I" } : Jvm.MethodName)) ∈ lw_all := lw_g (lw_at lw_m0 62 rfl) rfl
theorem q68 : (Jvm.Cond.methodLink "TrellisDeskLaw" (32 : Nat) ({ cls := "TrellisDesk", name := "heard", desc := "()I" } : Jvm.MethodName)) ∈ lw_all := lw_g (lw_at lw_m0 66 rfl) rfl
theorem q72 : (Jvm.Cond.methodLink "TrellisDeskLaw" (17 : Nat) ({ cls := "TrellisDeskModel", name := "shape", desc := "(III)V" } : Jvm.MethodName)) ∈ lw_all := lw_g (lw_at lw_m0 70 rfl) rfl
theorem q77 : (Jvm.Cond.methodLink "TrellisDeskLaw" (22 : Nat) ({ cls := "TrellisDeskModel", name := "hear", desc := "(II)Z" } : Jvm.MethodName)) ∈ lw_all := lw_g (lw_at lw_m0 75 rfl) rfl
theorem q81 : (Jvm.Cond.methodLink "TrellisDeskLaw" (27 : Nat) ({ cls := "TrellisDeskModel", name := "decide", desc := "()I" } : Jvm.MethodName)) ∈ lw_all := lw_g (lw_at lw_m0 79 rfl) rfl
theorem q88 : (Jvm.Cond.methodLink "TrellisDeskLaw" (31 : Nat) ({ cls := "TrellisDeskModel", name := "cost", desc := "()I" } : Jvm.MethodName)) ∈ lw_all := lw_g (lw_at lw_m0 86 rfl) rfl
theorem q92 : (Jvm.Cond.methodLink "TrellisDeskLaw" (35 : Nat) ({ cls := "TrellisDeskModel", name := "heard", desc := "()I" } : Jvm.MethodName)) ∈ lw_all := lw_g (lw_at lw_m0 90 rfl) rfl
theorem q96 : (Jvm.Cond.classLink "TrellisDeskLaw" (10 : Nat) "TrellisDeskModel") ∈ lw_all := lw_g (lw_at lw_m0 94 rfl) rfl
theorem q98 : (Jvm.Cond.methodLink "TrellisDeskLaw" (12 : Nat) ({ cls := "TrellisDeskModel", name := "<init>", desc := "()V" } : Jvm.MethodName)) ∈ lw_all := lw_g (lw_at lw_m0 96 rfl) rfl
end
section
set_option maxRecDepth 100000
theorem dX0_init_0 : decode cX0_init 0 = .ok (.aload_n 0, 1) := by decide +kernel
theorem dX0_init_1 : decode cX0_init 1 = .ok (.invokespecial 1, 3) := by decide +kernel
theorem dX0_init_4 : decode cX0_init 4 = .ok (.aload_n 0, 1) := by decide +kernel
theorem dX0_init_5 : decode cX0_init 5 = .ok (.iconst 2, 1) := by decide +kernel
theorem dX0_init_6 : decode cX0_init 6 = .ok (.putfield 7, 3) := by decide +kernel
theorem dX0_init_9 : decode cX0_init 9 = .ok (.aload_n 0, 1) := by decide +kernel
theorem dX0_init_10 : decode cX0_init 10 = .ok (.bipush 7, 2) := by decide +kernel
theorem dX0_init_12 : decode cX0_init 12 = .ok (.putfield 13, 3) := by decide +kernel
theorem dX0_init_15 : decode cX0_init 15 = .ok (.aload_n 0, 1) := by decide +kernel
theorem dX0_init_16 : decode cX0_init 16 = .ok (.iconst 5, 1) := by decide +kernel
theorem dX0_init_17 : decode cX0_init 17 = .ok (.putfield 16, 3) := by decide +kernel
theorem dX0_init_20 : decode cX0_init 20 = .ok (.aload_n 0, 1) := by decide +kernel
theorem dX0_init_21 : decode cX0_init 21 = .ok (.bipush 12, 2) := by decide +kernel
theorem dX0_init_23 : decode cX0_init 23 = .ok (.newarray .short, 2) := by decide +kernel
theorem dX0_init_25 : decode cX0_init 25 = .ok (.putfield 19, 3) := by decide +kernel
theorem dX0_init_28 : decode cX0_init 28 = .ok (.aload_n 0, 1) := by decide +kernel
theorem dX0_init_29 : decode cX0_init 29 = .ok (.bipush 12, 2) := by decide +kernel
theorem dX0_init_31 : decode cX0_init 31 = .ok (.newarray .short, 2) := by decide +kernel
theorem dX0_init_33 : decode cX0_init 33 = .ok (.putfield 23, 3) := by decide +kernel
theorem dX0_init_36 : decode cX0_init 36 = .ok (.aload_n 0, 1) := by decide +kernel
theorem dX0_init_37 : decode cX0_init 37 = .ok (.sipush 416, 3) := by decide +kernel
theorem dX0_init_40 : decode cX0_init 40 = .ok (.newarray .int, 2) := by decide +kernel
theorem dX0_init_42 : decode cX0_init 42 = .ok (.putfield 26, 3) := by decide +kernel
theorem dX0_init_45 : decode cX0_init 45 = .ok (.return_, 1) := by decide +kernel
theorem dX0_shape_0 : decode cX0_shape 0 = .ok (.aload_n 0, 1) := by decide +kernel
theorem dX0_shape_1 : decode cX0_shape 1 = .ok (.iconst 1, 1) := by decide +kernel
theorem dX0_shape_2 : decode cX0_shape 2 = .ok (.iload_n 1, 1) := by decide +kernel
theorem dX0_shape_3 : decode cX0_shape 3 = .ok (.ldc 30, 2) := by decide +kernel
theorem dX0_shape_5 : decode cX0_shape 5 = .ok (.iand, 1) := by decide +kernel
theorem dX0_shape_6 : decode cX0_shape 6 = .ok (.iconst 5, 1) := by decide +kernel
theorem dX0_shape_7 : decode cX0_shape 7 = .ok (.irem, 1) := by decide +kernel
theorem dX0_shape_8 : decode cX0_shape 8 = .ok (.iadd, 1) := by decide +kernel
theorem dX0_shape_9 : decode cX0_shape 9 = .ok (.putfield 7, 3) := by decide +kernel
theorem dX0_shape_12 : decode cX0_shape 12 = .ok (.iconst 2, 1) := by decide +kernel
theorem dX0_shape_13 : decode cX0_shape 13 = .ok (.aload_n 0, 1) := by decide +kernel
theorem dX0_shape_14 : decode cX0_shape 14 = .ok (.getfield 7, 3) := by decide +kernel
theorem dX0_shape_17 : decode cX0_shape 17 = .ok (.ishl, 1) := by decide +kernel
theorem dX0_shape_18 : decode cX0_shape 18 = .ok (.iconst 1, 1) := by decide +kernel
theorem dX0_shape_19 : decode cX0_shape 19 = .ok (.isub, 1) := by decide +kernel
theorem dX0_shape_20 : decode cX0_shape 20 = .ok (.istore 4, 2) := by decide +kernel
theorem dX0_shape_22 : decode cX0_shape 22 = .ok (.aload_n 0, 1) := by decide +kernel
theorem dX0_shape_23 : decode cX0_shape 23 = .ok (.iload_n 2, 1) := by decide +kernel
theorem dX0_shape_24 : decode cX0_shape 24 = .ok (.iload 4, 2) := by decide +kernel
theorem dX0_shape_26 : decode cX0_shape 26 = .ok (.iand, 1) := by decide +kernel
theorem dX0_shape_27 : decode cX0_shape 27 = .ok (.putfield 13, 3) := by decide +kernel
theorem dX0_shape_30 : decode cX0_shape 30 = .ok (.aload_n 0, 1) := by decide +kernel
theorem dX0_shape_31 : decode cX0_shape 31 = .ok (.iload_n 3, 1) := by decide +kernel
theorem dX0_shape_32 : decode cX0_shape 32 = .ok (.iload 4, 2) := by decide +kernel
theorem dX0_shape_34 : decode cX0_shape 34 = .ok (.iand, 1) := by decide +kernel
theorem dX0_shape_35 : decode cX0_shape 35 = .ok (.putfield 16, 3) := by decide +kernel
theorem dX0_shape_38 : decode cX0_shape 38 = .ok (.aload_n 0, 1) := by decide +kernel
theorem dX0_shape_39 : decode cX0_shape 39 = .ok (.iconst 0, 1) := by decide +kernel
theorem dX0_shape_40 : decode cX0_shape 40 = .ok (.putfield 31, 3) := by decide +kernel
theorem dX0_shape_43 : decode cX0_shape 43 = .ok (.aload_n 0, 1) := by decide +kernel
theorem dX0_shape_44 : decode cX0_shape 44 = .ok (.iconst 0, 1) := by decide +kernel
theorem dX0_shape_45 : decode cX0_shape 45 = .ok (.putfield 34, 3) := by decide +kernel
theorem dX0_shape_48 : decode cX0_shape 48 = .ok (.return_, 1) := by decide +kernel
theorem dX0_hear_0 : decode cX0_hear 0 = .ok (.aload_n 0, 1) := by decide +kernel
theorem dX0_hear_1 : decode cX0_hear 1 = .ok (.getfield 31, 3) := by decide +kernel
theorem dX0_hear_4 : decode cX0_hear 4 = .ok (.bipush 12, 2) := by decide +kernel
theorem dX0_hear_6 : decode cX0_hear 6 = .ok (.if_icmp .ne 5, 3) := by decide +kernel
theorem dX0_hear_9 : decode cX0_hear 9 = .ok (.iconst 0, 1) := by decide +kernel
theorem dX0_hear_10 : decode cX0_hear 10 = .ok (.ireturn, 1) := by decide +kernel
theorem dX0_hear_11 : decode cX0_hear 11 = .ok (.aload_n 0, 1) := by decide +kernel
theorem dX0_hear_12 : decode cX0_hear 12 = .ok (.getfield 19, 3) := by decide +kernel
theorem dX0_hear_15 : decode cX0_hear 15 = .ok (.aload_n 0, 1) := by decide +kernel
theorem dX0_hear_16 : decode cX0_hear 16 = .ok (.getfield 31, 3) := by decide +kernel
theorem dX0_hear_19 : decode cX0_hear 19 = .ok (.iload_n 1, 1) := by decide +kernel
theorem dX0_hear_20 : decode cX0_hear 20 = .ok (.i2s, 1) := by decide +kernel
theorem dX0_hear_21 : decode cX0_hear 21 = .ok (.sastore, 1) := by decide +kernel
theorem dX0_hear_22 : decode cX0_hear 22 = .ok (.aload_n 0, 1) := by decide +kernel
theorem dX0_hear_23 : decode cX0_hear 23 = .ok (.getfield 23, 3) := by decide +kernel
theorem dX0_hear_26 : decode cX0_hear 26 = .ok (.aload_n 0, 1) := by decide +kernel
theorem dX0_hear_27 : decode cX0_hear 27 = .ok (.getfield 31, 3) := by decide +kernel
theorem dX0_hear_30 : decode cX0_hear 30 = .ok (.iload_n 2, 1) := by decide +kernel
theorem dX0_hear_31 : decode cX0_hear 31 = .ok (.i2s, 1) := by decide +kernel
theorem dX0_hear_32 : decode cX0_hear 32 = .ok (.sastore, 1) := by decide +kernel
theorem dX0_hear_33 : decode cX0_hear 33 = .ok (.aload_n 0, 1) := by decide +kernel
theorem dX0_hear_34 : decode cX0_hear 34 = .ok (.dup, 1) := by decide +kernel
theorem dX0_hear_35 : decode cX0_hear 35 = .ok (.getfield 31, 3) := by decide +kernel
theorem dX0_hear_38 : decode cX0_hear 38 = .ok (.iconst 1, 1) := by decide +kernel
theorem dX0_hear_39 : decode cX0_hear 39 = .ok (.iadd, 1) := by decide +kernel
theorem dX0_hear_40 : decode cX0_hear 40 = .ok (.putfield 31, 3) := by decide +kernel
theorem dX0_hear_43 : decode cX0_hear 43 = .ok (.iconst 1, 1) := by decide +kernel
theorem dX0_hear_44 : decode cX0_hear 44 = .ok (.ireturn, 1) := by decide +kernel
theorem dX0_decide_0 : decode cX0_decide 0 = .ok (.aload_n 0, 1) := by decide +kernel
theorem dX0_decide_1 : decode cX0_decide 1 = .ok (.getfield 31, 3) := by decide +kernel
theorem dX0_decide_4 : decode cX0_decide 4 = .ok (.aload_n 0, 1) := by decide +kernel
theorem dX0_decide_5 : decode cX0_decide 5 = .ok (.getfield 7, 3) := by decide +kernel
theorem dX0_decide_8 : decode cX0_decide 8 = .ok (.if_icmp .gt 5, 3) := by decide +kernel
theorem dX0_decide_11 : decode cX0_decide 11 = .ok (.iconst (-1), 1) := by decide +kernel
theorem dX0_decide_12 : decode cX0_decide 12 = .ok (.ireturn, 1) := by decide +kernel
theorem dX0_decide_13 : decode cX0_decide 13 = .ok (.aload_n 0, 1) := by decide +kernel
theorem dX0_decide_14 : decode cX0_decide 14 = .ok (.getfield 31, 3) := by decide +kernel
theorem dX0_decide_17 : decode cX0_decide 17 = .ok (.aload_n 0, 1) := by decide +kernel
theorem dX0_decide_18 : decode cX0_decide 18 = .ok (.getfield 7, 3) := by decide +kernel
theorem dX0_decide_21 : decode cX0_decide 21 = .ok (.isub, 1) := by decide +kernel
theorem dX0_decide_22 : decode cX0_decide 22 = .ok (.istore_n 1, 1) := by decide +kernel
theorem dX0_decide_23 : decode cX0_decide 23 = .ok (.iconst 1, 1) := by decide +kernel
theorem dX0_decide_24 : decode cX0_decide 24 = .ok (.aload_n 0, 1) := by decide +kernel
theorem dX0_decide_25 : decode cX0_decide 25 = .ok (.getfield 7, 3) := by decide +kernel
theorem dX0_decide_28 : decode cX0_decide 28 = .ok (.ishl, 1) := by decide +kernel
theorem dX0_decide_29 : decode cX0_decide 29 = .ok (.istore_n 2, 1) := by decide +kernel
theorem dX0_decide_30 : decode cX0_decide 30 = .ok (.iconst 0, 1) := by decide +kernel
theorem dX0_decide_31 : decode cX0_decide 31 = .ok (.istore_n 3, 1) := by decide +kernel
theorem dX0_decide_32 : decode cX0_decide 32 = .ok (.iload_n 3, 1) := by decide +kernel
theorem dX0_decide_33 : decode cX0_decide 33 = .ok (.iload_n 2, 1) := by decide +kernel
theorem dX0_decide_34 : decode cX0_decide 34 = .ok (.if_icmp .ge 24, 3) := by decide +kernel
theorem dX0_decide_37 : decode cX0_decide 37 = .ok (.aload_n 0, 1) := by decide +kernel
theorem dX0_decide_38 : decode cX0_decide 38 = .ok (.getfield 26, 3) := by decide +kernel
theorem dX0_decide_41 : decode cX0_decide 41 = .ok (.aload_n 0, 1) := by decide +kernel
theorem dX0_decide_42 : decode cX0_decide 42 = .ok (.getfield 31, 3) := by decide +kernel
theorem dX0_decide_45 : decode cX0_decide 45 = .ok (.bipush 32, 2) := by decide +kernel
theorem dX0_decide_47 : decode cX0_decide 47 = .ok (.imul, 1) := by decide +kernel
theorem dX0_decide_48 : decode cX0_decide 48 = .ok (.iload_n 3, 1) := by decide +kernel
theorem dX0_decide_49 : decode cX0_decide 49 = .ok (.iadd, 1) := by decide +kernel
theorem dX0_decide_50 : decode cX0_decide 50 = .ok (.iconst 0, 1) := by decide +kernel
theorem dX0_decide_51 : decode cX0_decide 51 = .ok (.iastore, 1) := by decide +kernel
theorem dX0_decide_52 : decode cX0_decide 52 = .ok (.iinc 3 1, 3) := by decide +kernel
theorem dX0_decide_55 : decode cX0_decide 55 = .ok (.goto (-23), 3) := by decide +kernel
theorem dX0_decide_58 : decode cX0_decide 58 = .ok (.aload_n 0, 1) := by decide +kernel
theorem dX0_decide_59 : decode cX0_decide 59 = .ok (.getfield 31, 3) := by decide +kernel
theorem dX0_decide_62 : decode cX0_decide 62 = .ok (.iconst 1, 1) := by decide +kernel
theorem dX0_decide_63 : decode cX0_decide 63 = .ok (.isub, 1) := by decide +kernel
theorem dX0_decide_64 : decode cX0_decide 64 = .ok (.istore_n 3, 1) := by decide +kernel
theorem dX0_decide_65 : decode cX0_decide 65 = .ok (.iload_n 3, 1) := by decide +kernel
theorem dX0_decide_66 : decode cX0_decide 66 = .ok (.ifCond .lt 80, 3) := by decide +kernel
theorem dX0_decide_69 : decode cX0_decide 69 = .ok (.iconst 0, 1) := by decide +kernel
theorem dX0_decide_70 : decode cX0_decide 70 = .ok (.istore 4, 2) := by decide +kernel
theorem dX0_decide_72 : decode cX0_decide 72 = .ok (.iload 4, 2) := by decide +kernel
theorem dX0_decide_74 : decode cX0_decide 74 = .ok (.iload_n 2, 1) := by decide +kernel
theorem dX0_decide_75 : decode cX0_decide 75 = .ok (.if_icmp .ge 65, 3) := by decide +kernel
theorem dX0_decide_78 : decode cX0_decide 78 = .ok (.aload_n 0, 1) := by decide +kernel
theorem dX0_decide_79 : decode cX0_decide 79 = .ok (.iload_n 3, 1) := by decide +kernel
theorem dX0_decide_80 : decode cX0_decide 80 = .ok (.iload 4, 2) := by decide +kernel
theorem dX0_decide_82 : decode cX0_decide 82 = .ok (.iconst 0, 1) := by decide +kernel
theorem dX0_decide_83 : decode cX0_decide 83 = .ok (.invokevirtual 45, 3) := by decide +kernel
theorem dX0_decide_86 : decode cX0_decide 86 = .ok (.istore 5, 2) := by decide +kernel
theorem dX0_decide_88 : decode cX0_decide 88 = .ok (.iload_n 3, 1) := by decide +kernel
theorem dX0_decide_89 : decode cX0_decide 89 = .ok (.iload_n 1, 1) := by decide +kernel
theorem dX0_decide_90 : decode cX0_decide 90 = .ok (.if_icmp .ge 14, 3) := by decide +kernel
theorem dX0_decide_93 : decode cX0_decide 93 = .ok (.aload_n 0, 1) := by decide +kernel
theorem dX0_decide_94 : decode cX0_decide 94 = .ok (.iload_n 3, 1) := by decide +kernel
theorem dX0_decide_95 : decode cX0_decide 95 = .ok (.iload 4, 2) := by decide +kernel
theorem dX0_decide_97 : decode cX0_decide 97 = .ok (.iconst 1, 1) := by decide +kernel
theorem dX0_decide_98 : decode cX0_decide 98 = .ok (.invokevirtual 45, 3) := by decide +kernel
theorem dX0_decide_101 : decode cX0_decide 101 = .ok (.goto 5, 3) := by decide +kernel
theorem dX0_decide_104 : decode cX0_decide 104 = .ok (.iload 5, 2) := by decide +kernel
theorem dX0_decide_106 : decode cX0_decide 106 = .ok (.istore 6, 2) := by decide +kernel
theorem dX0_decide_108 : decode cX0_decide 108 = .ok (.aload_n 0, 1) := by decide +kernel
theorem dX0_decide_109 : decode cX0_decide 109 = .ok (.getfield 26, 3) := by decide +kernel
theorem dX0_decide_112 : decode cX0_decide 112 = .ok (.iload_n 3, 1) := by decide +kernel
theorem dX0_decide_113 : decode cX0_decide 113 = .ok (.bipush 32, 2) := by decide +kernel
theorem dX0_decide_115 : decode cX0_decide 115 = .ok (.imul, 1) := by decide +kernel
theorem dX0_decide_116 : decode cX0_decide 116 = .ok (.iload 4, 2) := by decide +kernel
theorem dX0_decide_118 : decode cX0_decide 118 = .ok (.iadd, 1) := by decide +kernel
theorem dX0_decide_119 : decode cX0_decide 119 = .ok (.iload 6, 2) := by decide +kernel
theorem dX0_decide_121 : decode cX0_decide 121 = .ok (.iload 5, 2) := by decide +kernel
theorem dX0_decide_123 : decode cX0_decide 123 = .ok (.if_icmp .ge 8, 3) := by decide +kernel
theorem dX0_decide_126 : decode cX0_decide 126 = .ok (.iload 6, 2) := by decide +kernel
theorem dX0_decide_128 : decode cX0_decide 128 = .ok (.goto 5, 3) := by decide +kernel
theorem dX0_decide_131 : decode cX0_decide 131 = .ok (.iload 5, 2) := by decide +kernel
theorem dX0_decide_133 : decode cX0_decide 133 = .ok (.iastore, 1) := by decide +kernel
theorem dX0_decide_134 : decode cX0_decide 134 = .ok (.iinc 4 1, 3) := by decide +kernel
theorem dX0_decide_137 : decode cX0_decide 137 = .ok (.goto (-65), 3) := by decide +kernel
theorem dX0_decide_140 : decode cX0_decide 140 = .ok (.iinc 3 (-1), 3) := by decide +kernel
theorem dX0_decide_143 : decode cX0_decide 143 = .ok (.goto (-78), 3) := by decide +kernel
theorem dX0_decide_146 : decode cX0_decide 146 = .ok (.aload_n 0, 1) := by decide +kernel
theorem dX0_decide_147 : decode cX0_decide 147 = .ok (.aload_n 0, 1) := by decide +kernel
theorem dX0_decide_148 : decode cX0_decide 148 = .ok (.getfield 26, 3) := by decide +kernel
theorem dX0_decide_151 : decode cX0_decide 151 = .ok (.iconst 0, 1) := by decide +kernel
theorem dX0_decide_152 : decode cX0_decide 152 = .ok (.iaload, 1) := by decide +kernel
theorem dX0_decide_153 : decode cX0_decide 153 = .ok (.putfield 34, 3) := by decide +kernel
theorem dX0_decide_156 : decode cX0_decide 156 = .ok (.iconst 0, 1) := by decide +kernel
theorem dX0_decide_157 : decode cX0_decide 157 = .ok (.istore_n 3, 1) := by decide +kernel
theorem dX0_decide_158 : decode cX0_decide 158 = .ok (.iconst 0, 1) := by decide +kernel
theorem dX0_decide_159 : decode cX0_decide 159 = .ok (.istore 4, 2) := by decide +kernel
theorem dX0_decide_161 : decode cX0_decide 161 = .ok (.iconst 0, 1) := by decide +kernel
theorem dX0_decide_162 : decode cX0_decide 162 = .ok (.istore 5, 2) := by decide +kernel
theorem dX0_decide_164 : decode cX0_decide 164 = .ok (.iload 5, 2) := by decide +kernel
theorem dX0_decide_166 : decode cX0_decide 166 = .ok (.iload_n 1, 1) := by decide +kernel
theorem dX0_decide_167 : decode cX0_decide 167 = .ok (.if_icmp .ge 62, 3) := by decide +kernel
theorem dX0_decide_170 : decode cX0_decide 170 = .ok (.aload_n 0, 1) := by decide +kernel
theorem dX0_decide_171 : decode cX0_decide 171 = .ok (.iload 5, 2) := by decide +kernel
theorem dX0_decide_173 : decode cX0_decide 173 = .ok (.iload 4, 2) := by decide +kernel
theorem dX0_decide_175 : decode cX0_decide 175 = .ok (.iconst 0, 1) := by decide +kernel
theorem dX0_decide_176 : decode cX0_decide 176 = .ok (.invokevirtual 45, 3) := by decide +kernel
theorem dX0_decide_179 : decode cX0_decide 179 = .ok (.aload_n 0, 1) := by decide +kernel
theorem dX0_decide_180 : decode cX0_decide 180 = .ok (.getfield 26, 3) := by decide +kernel
theorem dX0_decide_183 : decode cX0_decide 183 = .ok (.iload 5, 2) := by decide +kernel
theorem dX0_decide_185 : decode cX0_decide 185 = .ok (.bipush 32, 2) := by decide +kernel
theorem dX0_decide_187 : decode cX0_decide 187 = .ok (.imul, 1) := by decide +kernel
theorem dX0_decide_188 : decode cX0_decide 188 = .ok (.iload 4, 2) := by decide +kernel
theorem dX0_decide_190 : decode cX0_decide 190 = .ok (.iadd, 1) := by decide +kernel
theorem dX0_decide_191 : decode cX0_decide 191 = .ok (.iaload, 1) := by decide +kernel
theorem dX0_decide_192 : decode cX0_decide 192 = .ok (.if_icmp .ne 7, 3) := by decide +kernel
theorem dX0_decide_195 : decode cX0_decide 195 = .ok (.iconst 0, 1) := by decide +kernel
theorem dX0_decide_196 : decode cX0_decide 196 = .ok (.goto 4, 3) := by decide +kernel
theorem dX0_decide_199 : decode cX0_decide 199 = .ok (.iconst 1, 1) := by decide +kernel
theorem dX0_decide_200 : decode cX0_decide 200 = .ok (.istore 6, 2) := by decide +kernel
theorem dX0_decide_202 : decode cX0_decide 202 = .ok (.iload_n 3, 1) := by decide +kernel
theorem dX0_decide_203 : decode cX0_decide 203 = .ok (.iconst 1, 1) := by decide +kernel
theorem dX0_decide_204 : decode cX0_decide 204 = .ok (.ishl, 1) := by decide +kernel
theorem dX0_decide_205 : decode cX0_decide 205 = .ok (.iload 6, 2) := by decide +kernel
theorem dX0_decide_207 : decode cX0_decide 207 = .ok (.ior, 1) := by decide +kernel
theorem dX0_decide_208 : decode cX0_decide 208 = .ok (.istore_n 3, 1) := by decide +kernel
theorem dX0_decide_209 : decode cX0_decide 209 = .ok (.iload 6, 2) := by decide +kernel
theorem dX0_decide_211 : decode cX0_decide 211 = .ok (.aload_n 0, 1) := by decide +kernel
theorem dX0_decide_212 : decode cX0_decide 212 = .ok (.getfield 7, 3) := by decide +kernel
theorem dX0_decide_215 : decode cX0_decide 215 = .ok (.ishl, 1) := by decide +kernel
theorem dX0_decide_216 : decode cX0_decide 216 = .ok (.iload 4, 2) := by decide +kernel
theorem dX0_decide_218 : decode cX0_decide 218 = .ok (.ior, 1) := by decide +kernel
theorem dX0_decide_219 : decode cX0_decide 219 = .ok (.iconst 1, 1) := by decide +kernel
theorem dX0_decide_220 : decode cX0_decide 220 = .ok (.ishr, 1) := by decide +kernel
theorem dX0_decide_221 : decode cX0_decide 221 = .ok (.istore 4, 2) := by decide +kernel
theorem dX0_decide_223 : decode cX0_decide 223 = .ok (.iinc 5 1, 3) := by decide +kernel
theorem dX0_decide_226 : decode cX0_decide 226 = .ok (.goto (-62), 3) := by decide +kernel
theorem dX0_decide_229 : decode cX0_decide 229 = .ok (.iload_n 3, 1) := by decide +kernel
theorem dX0_decide_230 : decode cX0_decide 230 = .ok (.ireturn, 1) := by decide +kernel
theorem dX0_from_0 : decode cX0_from 0 = .ok (.iload_n 3, 1) := by decide +kernel
theorem dX0_from_1 : decode cX0_from 1 = .ok (.aload_n 0, 1) := by decide +kernel
theorem dX0_from_2 : decode cX0_from 2 = .ok (.getfield 7, 3) := by decide +kernel
theorem dX0_from_5 : decode cX0_from 5 = .ok (.ishl, 1) := by decide +kernel
theorem dX0_from_6 : decode cX0_from 6 = .ok (.iload_n 2, 1) := by decide +kernel
theorem dX0_from_7 : decode cX0_from 7 = .ok (.ior, 1) := by decide +kernel
theorem dX0_from_8 : decode cX0_from 8 = .ok (.istore 4, 2) := by decide +kernel
theorem dX0_from_10 : decode cX0_from 10 = .ok (.aload_n 0, 1) := by decide +kernel
theorem dX0_from_11 : decode cX0_from 11 = .ok (.iload_n 1, 1) := by decide +kernel
theorem dX0_from_12 : decode cX0_from 12 = .ok (.iload 4, 2) := by decide +kernel
theorem dX0_from_14 : decode cX0_from 14 = .ok (.invokevirtual 41, 3) := by decide +kernel
theorem dX0_from_17 : decode cX0_from 17 = .ok (.aload_n 0, 1) := by decide +kernel
theorem dX0_from_18 : decode cX0_from 18 = .ok (.getfield 26, 3) := by decide +kernel
theorem dX0_from_21 : decode cX0_from 21 = .ok (.iload_n 1, 1) := by decide +kernel
theorem dX0_from_22 : decode cX0_from 22 = .ok (.iconst 1, 1) := by decide +kernel
theorem dX0_from_23 : decode cX0_from 23 = .ok (.iadd, 1) := by decide +kernel
theorem dX0_from_24 : decode cX0_from 24 = .ok (.bipush 32, 2) := by decide +kernel
theorem dX0_from_26 : decode cX0_from 26 = .ok (.imul, 1) := by decide +kernel
theorem dX0_from_27 : decode cX0_from 27 = .ok (.iload 4, 2) := by decide +kernel
theorem dX0_from_29 : decode cX0_from 29 = .ok (.iconst 1, 1) := by decide +kernel
theorem dX0_from_30 : decode cX0_from 30 = .ok (.ishr, 1) := by decide +kernel
theorem dX0_from_31 : decode cX0_from 31 = .ok (.iadd, 1) := by decide +kernel
theorem dX0_from_32 : decode cX0_from 32 = .ok (.iaload, 1) := by decide +kernel
theorem dX0_from_33 : decode cX0_from 33 = .ok (.iadd, 1) := by decide +kernel
theorem dX0_from_34 : decode cX0_from 34 = .ok (.ireturn, 1) := by decide +kernel
theorem dX0_pays_0 : decode cX0_pays 0 = .ok (.iload_n 2, 1) := by decide +kernel
theorem dX0_pays_1 : decode cX0_pays 1 = .ok (.aload_n 0, 1) := by decide +kernel
theorem dX0_pays_2 : decode cX0_pays 2 = .ok (.getfield 13, 3) := by decide +kernel
theorem dX0_pays_5 : decode cX0_pays 5 = .ok (.iand, 1) := by decide +kernel
theorem dX0_pays_6 : decode cX0_pays 6 = .ok (.invokestatic 37, 3) := by decide +kernel
theorem dX0_pays_9 : decode cX0_pays 9 = .ok (.ifCond .eq 12, 3) := by decide +kernel
theorem dX0_pays_12 : decode cX0_pays 12 = .ok (.aload_n 0, 1) := by decide +kernel
theorem dX0_pays_13 : decode cX0_pays 13 = .ok (.getfield 19, 3) := by decide +kernel
theorem dX0_pays_16 : decode cX0_pays 16 = .ok (.iload_n 1, 1) := by decide +kernel
theorem dX0_pays_17 : decode cX0_pays 17 = .ok (.saload, 1) := by decide +kernel
theorem dX0_pays_18 : decode cX0_pays 18 = .ok (.goto 4, 3) := by decide +kernel
theorem dX0_pays_21 : decode cX0_pays 21 = .ok (.iconst 0, 1) := by decide +kernel
theorem dX0_pays_22 : decode cX0_pays 22 = .ok (.iload_n 2, 1) := by decide +kernel
theorem dX0_pays_23 : decode cX0_pays 23 = .ok (.aload_n 0, 1) := by decide +kernel
theorem dX0_pays_24 : decode cX0_pays 24 = .ok (.getfield 16, 3) := by decide +kernel
theorem dX0_pays_27 : decode cX0_pays 27 = .ok (.iand, 1) := by decide +kernel
theorem dX0_pays_28 : decode cX0_pays 28 = .ok (.invokestatic 37, 3) := by decide +kernel
theorem dX0_pays_31 : decode cX0_pays 31 = .ok (.ifCond .eq 12, 3) := by decide +kernel
theorem dX0_pays_34 : decode cX0_pays 34 = .ok (.aload_n 0, 1) := by decide +kernel
theorem dX0_pays_35 : decode cX0_pays 35 = .ok (.getfield 23, 3) := by decide +kernel
theorem dX0_pays_38 : decode cX0_pays 38 = .ok (.iload_n 1, 1) := by decide +kernel
theorem dX0_pays_39 : decode cX0_pays 39 = .ok (.saload, 1) := by decide +kernel
theorem dX0_pays_40 : decode cX0_pays 40 = .ok (.goto 4, 3) := by decide +kernel
theorem dX0_pays_43 : decode cX0_pays 43 = .ok (.iconst 0, 1) := by decide +kernel
theorem dX0_pays_44 : decode cX0_pays 44 = .ok (.iadd, 1) := by decide +kernel
theorem dX0_pays_45 : decode cX0_pays 45 = .ok (.ireturn, 1) := by decide +kernel
theorem dX0_isOdd_0 : decode cX0_isOdd 0 = .ok (.sipush 27030, 3) := by decide +kernel
theorem dX0_isOdd_3 : decode cX0_isOdd 3 = .ok (.iload_n 0, 1) := by decide +kernel
theorem dX0_isOdd_4 : decode cX0_isOdd 4 = .ok (.iload_n 0, 1) := by decide +kernel
theorem dX0_isOdd_5 : decode cX0_isOdd 5 = .ok (.iconst 4, 1) := by decide +kernel
theorem dX0_isOdd_6 : decode cX0_isOdd 6 = .ok (.ishr, 1) := by decide +kernel
theorem dX0_isOdd_7 : decode cX0_isOdd 7 = .ok (.ixor, 1) := by decide +kernel
theorem dX0_isOdd_8 : decode cX0_isOdd 8 = .ok (.bipush 15, 2) := by decide +kernel
theorem dX0_isOdd_10 : decode cX0_isOdd 10 = .ok (.iand, 1) := by decide +kernel
theorem dX0_isOdd_11 : decode cX0_isOdd 11 = .ok (.ishr, 1) := by decide +kernel
theorem dX0_isOdd_12 : decode cX0_isOdd 12 = .ok (.iconst 1, 1) := by decide +kernel
theorem dX0_isOdd_13 : decode cX0_isOdd 13 = .ok (.iand, 1) := by decide +kernel
theorem dX0_isOdd_14 : decode cX0_isOdd 14 = .ok (.iconst 1, 1) := by decide +kernel
theorem dX0_isOdd_15 : decode cX0_isOdd 15 = .ok (.if_icmp .ne 7, 3) := by decide +kernel
theorem dX0_isOdd_18 : decode cX0_isOdd 18 = .ok (.iconst 1, 1) := by decide +kernel
theorem dX0_isOdd_19 : decode cX0_isOdd 19 = .ok (.goto 4, 3) := by decide +kernel
theorem dX0_isOdd_22 : decode cX0_isOdd 22 = .ok (.iconst 0, 1) := by decide +kernel
theorem dX0_isOdd_23 : decode cX0_isOdd 23 = .ok (.ireturn, 1) := by decide +kernel
theorem dX0_cost_0 : decode cX0_cost 0 = .ok (.aload_n 0, 1) := by decide +kernel
theorem dX0_cost_1 : decode cX0_cost 1 = .ok (.getfield 34, 3) := by decide +kernel
theorem dX0_cost_4 : decode cX0_cost 4 = .ok (.ireturn, 1) := by decide +kernel
theorem dX0_heard_0 : decode cX0_heard 0 = .ok (.aload_n 0, 1) := by decide +kernel
theorem dX0_heard_1 : decode cX0_heard 1 = .ok (.getfield 31, 3) := by decide +kernel
theorem dX0_heard_4 : decode cX0_heard 4 = .ok (.ireturn, 1) := by decide +kernel
end
section
set_option maxRecDepth 100000
theorem dX1_shape_0 : decode cX1_shape 0 = .ok (.aload_n 0, 1) := by decide +kernel
theorem dX1_shape_1 : decode cX1_shape 1 = .ok (.iconst 1, 1) := by decide +kernel
theorem dX1_shape_2 : decode cX1_shape 2 = .ok (.iload_n 1, 1) := by decide +kernel
theorem dX1_shape_3 : decode cX1_shape 3 = .ok (.ldc 1, 2) := by decide +kernel
theorem dX1_shape_5 : decode cX1_shape 5 = .ok (.iand, 1) := by decide +kernel
theorem dX1_shape_6 : decode cX1_shape 6 = .ok (.iconst 5, 1) := by decide +kernel
theorem dX1_shape_7 : decode cX1_shape 7 = .ok (.irem, 1) := by decide +kernel
theorem dX1_shape_8 : decode cX1_shape 8 = .ok (.iadd, 1) := by decide +kernel
theorem dX1_shape_9 : decode cX1_shape 9 = .ok (.putfield 2, 3) := by decide +kernel
theorem dX1_shape_12 : decode cX1_shape 12 = .ok (.iconst 2, 1) := by decide +kernel
theorem dX1_shape_13 : decode cX1_shape 13 = .ok (.aload_n 0, 1) := by decide +kernel
theorem dX1_shape_14 : decode cX1_shape 14 = .ok (.getfield 2, 3) := by decide +kernel
theorem dX1_shape_17 : decode cX1_shape 17 = .ok (.ishl, 1) := by decide +kernel
theorem dX1_shape_18 : decode cX1_shape 18 = .ok (.iconst 1, 1) := by decide +kernel
theorem dX1_shape_19 : decode cX1_shape 19 = .ok (.isub, 1) := by decide +kernel
theorem dX1_shape_20 : decode cX1_shape 20 = .ok (.istore 4, 2) := by decide +kernel
theorem dX1_shape_22 : decode cX1_shape 22 = .ok (.aload_n 0, 1) := by decide +kernel
theorem dX1_shape_23 : decode cX1_shape 23 = .ok (.getfield 8, 3) := by decide +kernel
theorem dX1_shape_26 : decode cX1_shape 26 = .ok (.iconst 0, 1) := by decide +kernel
theorem dX1_shape_27 : decode cX1_shape 27 = .ok (.iload_n 2, 1) := by decide +kernel
theorem dX1_shape_28 : decode cX1_shape 28 = .ok (.iload 4, 2) := by decide +kernel
theorem dX1_shape_30 : decode cX1_shape 30 = .ok (.iand, 1) := by decide +kernel
theorem dX1_shape_31 : decode cX1_shape 31 = .ok (.iastore, 1) := by decide +kernel
theorem dX1_shape_32 : decode cX1_shape 32 = .ok (.aload_n 0, 1) := by decide +kernel
theorem dX1_shape_33 : decode cX1_shape 33 = .ok (.getfield 8, 3) := by decide +kernel
theorem dX1_shape_36 : decode cX1_shape 36 = .ok (.iconst 1, 1) := by decide +kernel
theorem dX1_shape_37 : decode cX1_shape 37 = .ok (.iload_n 3, 1) := by decide +kernel
theorem dX1_shape_38 : decode cX1_shape 38 = .ok (.iload 4, 2) := by decide +kernel
theorem dX1_shape_40 : decode cX1_shape 40 = .ok (.iand, 1) := by decide +kernel
theorem dX1_shape_41 : decode cX1_shape 41 = .ok (.iastore, 1) := by decide +kernel
theorem dX1_shape_42 : decode cX1_shape 42 = .ok (.aload_n 0, 1) := by decide +kernel
theorem dX1_shape_43 : decode cX1_shape 43 = .ok (.iconst 0, 1) := by decide +kernel
theorem dX1_shape_44 : decode cX1_shape 44 = .ok (.putfield 12, 3) := by decide +kernel
theorem dX1_shape_47 : decode cX1_shape 47 = .ok (.aload_n 0, 1) := by decide +kernel
theorem dX1_shape_48 : decode cX1_shape 48 = .ok (.iconst (-1), 1) := by decide +kernel
theorem dX1_shape_49 : decode cX1_shape 49 = .ok (.putfield 15, 3) := by decide +kernel
theorem dX1_shape_52 : decode cX1_shape 52 = .ok (.aload_n 0, 1) := by decide +kernel
theorem dX1_shape_53 : decode cX1_shape 53 = .ok (.iconst 0, 1) := by decide +kernel
theorem dX1_shape_54 : decode cX1_shape 54 = .ok (.putfield 18, 3) := by decide +kernel
theorem dX1_shape_57 : decode cX1_shape 57 = .ok (.return_, 1) := by decide +kernel
theorem dX1_hear_0 : decode cX1_hear 0 = .ok (.aload_n 0, 1) := by decide +kernel
theorem dX1_hear_1 : decode cX1_hear 1 = .ok (.getfield 12, 3) := by decide +kernel
theorem dX1_hear_4 : decode cX1_hear 4 = .ok (.bipush 12, 2) := by decide +kernel
theorem dX1_hear_6 : decode cX1_hear 6 = .ok (.if_icmp .lt 5, 3) := by decide +kernel
theorem dX1_hear_9 : decode cX1_hear 9 = .ok (.iconst 0, 1) := by decide +kernel
theorem dX1_hear_10 : decode cX1_hear 10 = .ok (.ireturn, 1) := by decide +kernel
theorem dX1_hear_11 : decode cX1_hear 11 = .ok (.aload_n 0, 1) := by decide +kernel
theorem dX1_hear_12 : decode cX1_hear 12 = .ok (.getfield 21, 3) := by decide +kernel
theorem dX1_hear_15 : decode cX1_hear 15 = .ok (.iconst 2, 1) := by decide +kernel
theorem dX1_hear_16 : decode cX1_hear 16 = .ok (.aload_n 0, 1) := by decide +kernel
theorem dX1_hear_17 : decode cX1_hear 17 = .ok (.getfield 12, 3) := by decide +kernel
theorem dX1_hear_20 : decode cX1_hear 20 = .ok (.imul, 1) := by decide +kernel
theorem dX1_hear_21 : decode cX1_hear 21 = .ok (.iload_n 1, 1) := by decide +kernel
theorem dX1_hear_22 : decode cX1_hear 22 = .ok (.bipush 16, 2) := by decide +kernel
theorem dX1_hear_24 : decode cX1_hear 24 = .ok (.ishl, 1) := by decide +kernel
theorem dX1_hear_25 : decode cX1_hear 25 = .ok (.bipush 16, 2) := by decide +kernel
theorem dX1_hear_27 : decode cX1_hear 27 = .ok (.ishr, 1) := by decide +kernel
theorem dX1_hear_28 : decode cX1_hear 28 = .ok (.iastore, 1) := by decide +kernel
theorem dX1_hear_29 : decode cX1_hear 29 = .ok (.aload_n 0, 1) := by decide +kernel
theorem dX1_hear_30 : decode cX1_hear 30 = .ok (.getfield 21, 3) := by decide +kernel
theorem dX1_hear_33 : decode cX1_hear 33 = .ok (.iconst 2, 1) := by decide +kernel
theorem dX1_hear_34 : decode cX1_hear 34 = .ok (.aload_n 0, 1) := by decide +kernel
theorem dX1_hear_35 : decode cX1_hear 35 = .ok (.getfield 12, 3) := by decide +kernel
theorem dX1_hear_38 : decode cX1_hear 38 = .ok (.imul, 1) := by decide +kernel
theorem dX1_hear_39 : decode cX1_hear 39 = .ok (.iconst 1, 1) := by decide +kernel
theorem dX1_hear_40 : decode cX1_hear 40 = .ok (.iadd, 1) := by decide +kernel
theorem dX1_hear_41 : decode cX1_hear 41 = .ok (.iload_n 2, 1) := by decide +kernel
theorem dX1_hear_42 : decode cX1_hear 42 = .ok (.bipush 16, 2) := by decide +kernel
theorem dX1_hear_44 : decode cX1_hear 44 = .ok (.ishl, 1) := by decide +kernel
theorem dX1_hear_45 : decode cX1_hear 45 = .ok (.bipush 16, 2) := by decide +kernel
theorem dX1_hear_47 : decode cX1_hear 47 = .ok (.ishr, 1) := by decide +kernel
theorem dX1_hear_48 : decode cX1_hear 48 = .ok (.iastore, 1) := by decide +kernel
theorem dX1_hear_49 : decode cX1_hear 49 = .ok (.aload_n 0, 1) := by decide +kernel
theorem dX1_hear_50 : decode cX1_hear 50 = .ok (.aload_n 0, 1) := by decide +kernel
theorem dX1_hear_51 : decode cX1_hear 51 = .ok (.getfield 12, 3) := by decide +kernel
theorem dX1_hear_54 : decode cX1_hear 54 = .ok (.iconst 1, 1) := by decide +kernel
theorem dX1_hear_55 : decode cX1_hear 55 = .ok (.iadd, 1) := by decide +kernel
theorem dX1_hear_56 : decode cX1_hear 56 = .ok (.putfield 12, 3) := by decide +kernel
theorem dX1_hear_59 : decode cX1_hear 59 = .ok (.iconst 1, 1) := by decide +kernel
theorem dX1_hear_60 : decode cX1_hear 60 = .ok (.ireturn, 1) := by decide +kernel
theorem dX1_decide_0 : decode cX1_decide 0 = .ok (.aload_n 0, 1) := by decide +kernel
theorem dX1_decide_1 : decode cX1_decide 1 = .ok (.getfield 12, 3) := by decide +kernel
theorem dX1_decide_4 : decode cX1_decide 4 = .ok (.aload_n 0, 1) := by decide +kernel
theorem dX1_decide_5 : decode cX1_decide 5 = .ok (.getfield 2, 3) := by decide +kernel
theorem dX1_decide_8 : decode cX1_decide 8 = .ok (.if_icmp .gt 5, 3) := by decide +kernel
theorem dX1_decide_11 : decode cX1_decide 11 = .ok (.iconst (-1), 1) := by decide +kernel
theorem dX1_decide_12 : decode cX1_decide 12 = .ok (.ireturn, 1) := by decide +kernel
theorem dX1_decide_13 : decode cX1_decide 13 = .ok (.aload_n 0, 1) := by decide +kernel
theorem dX1_decide_14 : decode cX1_decide 14 = .ok (.getfield 12, 3) := by decide +kernel
theorem dX1_decide_17 : decode cX1_decide 17 = .ok (.aload_n 0, 1) := by decide +kernel
theorem dX1_decide_18 : decode cX1_decide 18 = .ok (.getfield 2, 3) := by decide +kernel
theorem dX1_decide_21 : decode cX1_decide 21 = .ok (.isub, 1) := by decide +kernel
theorem dX1_decide_22 : decode cX1_decide 22 = .ok (.istore_n 1, 1) := by decide +kernel
theorem dX1_decide_23 : decode cX1_decide 23 = .ok (.iconst 0, 1) := by decide +kernel
theorem dX1_decide_24 : decode cX1_decide 24 = .ok (.istore_n 2, 1) := by decide +kernel
theorem dX1_decide_25 : decode cX1_decide 25 = .ok (.iconst (-1), 1) := by decide +kernel
theorem dX1_decide_26 : decode cX1_decide 26 = .ok (.istore_n 3, 1) := by decide +kernel
theorem dX1_decide_27 : decode cX1_decide 27 = .ok (.iconst 0, 1) := by decide +kernel
theorem dX1_decide_28 : decode cX1_decide 28 = .ok (.istore 4, 2) := by decide +kernel
theorem dX1_decide_30 : decode cX1_decide 30 = .ok (.iload 4, 2) := by decide +kernel
theorem dX1_decide_32 : decode cX1_decide 32 = .ok (.iconst 1, 1) := by decide +kernel
theorem dX1_decide_33 : decode cX1_decide 33 = .ok (.iload_n 1, 1) := by decide +kernel
theorem dX1_decide_34 : decode cX1_decide 34 = .ok (.ishl, 1) := by decide +kernel
theorem dX1_decide_35 : decode cX1_decide 35 = .ok (.if_icmp .ge 154, 3) := by decide +kernel
theorem dX1_decide_38 : decode cX1_decide 38 = .ok (.iconst 0, 1) := by decide +kernel
theorem dX1_decide_39 : decode cX1_decide 39 = .ok (.istore 5, 2) := by decide +kernel
theorem dX1_decide_41 : decode cX1_decide 41 = .ok (.iconst 0, 1) := by decide +kernel
theorem dX1_decide_42 : decode cX1_decide 42 = .ok (.istore 6, 2) := by decide +kernel
theorem dX1_decide_44 : decode cX1_decide 44 = .ok (.iconst 0, 1) := by decide +kernel
theorem dX1_decide_45 : decode cX1_decide 45 = .ok (.istore 7, 2) := by decide +kernel
theorem dX1_decide_47 : decode cX1_decide 47 = .ok (.iload 7, 2) := by decide +kernel
theorem dX1_decide_49 : decode cX1_decide 49 = .ok (.aload_n 0, 1) := by decide +kernel
theorem dX1_decide_50 : decode cX1_decide 50 = .ok (.getfield 12, 3) := by decide +kernel
theorem dX1_decide_53 : decode cX1_decide 53 = .ok (.if_icmp .ge 114, 3) := by decide +kernel
theorem dX1_decide_56 : decode cX1_decide 56 = .ok (.iload 7, 2) := by decide +kernel
theorem dX1_decide_58 : decode cX1_decide 58 = .ok (.iload_n 1, 1) := by decide +kernel
theorem dX1_decide_59 : decode cX1_decide 59 = .ok (.if_icmp .ge 17, 3) := by decide +kernel
theorem dX1_decide_62 : decode cX1_decide 62 = .ok (.iload 4, 2) := by decide +kernel
theorem dX1_decide_64 : decode cX1_decide 64 = .ok (.iload_n 1, 1) := by decide +kernel
theorem dX1_decide_65 : decode cX1_decide 65 = .ok (.iconst 1, 1) := by decide +kernel
theorem dX1_decide_66 : decode cX1_decide 66 = .ok (.isub, 1) := by decide +kernel
theorem dX1_decide_67 : decode cX1_decide 67 = .ok (.iload 7, 2) := by decide +kernel
theorem dX1_decide_69 : decode cX1_decide 69 = .ok (.isub, 1) := by decide +kernel
theorem dX1_decide_70 : decode cX1_decide 70 = .ok (.ishr, 1) := by decide +kernel
theorem dX1_decide_71 : decode cX1_decide 71 = .ok (.iconst 1, 1) := by decide +kernel
theorem dX1_decide_72 : decode cX1_decide 72 = .ok (.iand, 1) := by decide +kernel
theorem dX1_decide_73 : decode cX1_decide 73 = .ok (.goto 4, 3) := by decide +kernel
theorem dX1_decide_76 : decode cX1_decide 76 = .ok (.iconst 0, 1) := by decide +kernel
theorem dX1_decide_77 : decode cX1_decide 77 = .ok (.istore 8, 2) := by decide +kernel
theorem dX1_decide_79 : decode cX1_decide 79 = .ok (.iload 8, 2) := by decide +kernel
theorem dX1_decide_81 : decode cX1_decide 81 = .ok (.aload_n 0, 1) := by decide +kernel
theorem dX1_decide_82 : decode cX1_decide 82 = .ok (.getfield 2, 3) := by decide +kernel
theorem dX1_decide_85 : decode cX1_decide 85 = .ok (.ishl, 1) := by decide +kernel
theorem dX1_decide_86 : decode cX1_decide 86 = .ok (.iload 5, 2) := by decide +kernel
theorem dX1_decide_88 : decode cX1_decide 88 = .ok (.ior, 1) := by decide +kernel
theorem dX1_decide_89 : decode cX1_decide 89 = .ok (.istore 9, 2) := by decide +kernel
theorem dX1_decide_91 : decode cX1_decide 91 = .ok (.iload 6, 2) := by decide +kernel
theorem dX1_decide_93 : decode cX1_decide 93 = .ok (.iload 9, 2) := by decide +kernel
theorem dX1_decide_95 : decode cX1_decide 95 = .ok (.aload_n 0, 1) := by decide +kernel
theorem dX1_decide_96 : decode cX1_decide 96 = .ok (.getfield 8, 3) := by decide +kernel
theorem dX1_decide_99 : decode cX1_decide 99 = .ok (.iconst 0, 1) := by decide +kernel
theorem dX1_decide_100 : decode cX1_decide 100 = .ok (.iaload, 1) := by decide +kernel
theorem dX1_decide_101 : decode cX1_decide 101 = .ok (.iand, 1) := by decide +kernel
theorem dX1_decide_102 : decode cX1_decide 102 = .ok (.invokestatic 24, 3) := by decide +kernel
theorem dX1_decide_105 : decode cX1_decide 105 = .ok (.ifCond .eq 15, 3) := by decide +kernel
theorem dX1_decide_108 : decode cX1_decide 108 = .ok (.aload_n 0, 1) := by decide +kernel
theorem dX1_decide_109 : decode cX1_decide 109 = .ok (.getfield 21, 3) := by decide +kernel
theorem dX1_decide_112 : decode cX1_decide 112 = .ok (.iconst 2, 1) := by decide +kernel
theorem dX1_decide_113 : decode cX1_decide 113 = .ok (.iload 7, 2) := by decide +kernel
theorem dX1_decide_115 : decode cX1_decide 115 = .ok (.imul, 1) := by decide +kernel
theorem dX1_decide_116 : decode cX1_decide 116 = .ok (.iaload, 1) := by decide +kernel
theorem dX1_decide_117 : decode cX1_decide 117 = .ok (.goto 4, 3) := by decide +kernel
theorem dX1_decide_120 : decode cX1_decide 120 = .ok (.iconst 0, 1) := by decide +kernel
theorem dX1_decide_121 : decode cX1_decide 121 = .ok (.iadd, 1) := by decide +kernel
theorem dX1_decide_122 : decode cX1_decide 122 = .ok (.iload 9, 2) := by decide +kernel
theorem dX1_decide_124 : decode cX1_decide 124 = .ok (.aload_n 0, 1) := by decide +kernel
theorem dX1_decide_125 : decode cX1_decide 125 = .ok (.getfield 8, 3) := by decide +kernel
theorem dX1_decide_128 : decode cX1_decide 128 = .ok (.iconst 1, 1) := by decide +kernel
theorem dX1_decide_129 : decode cX1_decide 129 = .ok (.iaload, 1) := by decide +kernel
theorem dX1_decide_130 : decode cX1_decide 130 = .ok (.iand, 1) := by decide +kernel
theorem dX1_decide_131 : decode cX1_decide 131 = .ok (.invokestatic 24, 3) := by decide +kernel
theorem dX1_decide_134 : decode cX1_decide 134 = .ok (.ifCond .eq 17, 3) := by decide +kernel
theorem dX1_decide_137 : decode cX1_decide 137 = .ok (.aload_n 0, 1) := by decide +kernel
theorem dX1_decide_138 : decode cX1_decide 138 = .ok (.getfield 21, 3) := by decide +kernel
theorem dX1_decide_141 : decode cX1_decide 141 = .ok (.iconst 2, 1) := by decide +kernel
theorem dX1_decide_142 : decode cX1_decide 142 = .ok (.iload 7, 2) := by decide +kernel
theorem dX1_decide_144 : decode cX1_decide 144 = .ok (.imul, 1) := by decide +kernel
theorem dX1_decide_145 : decode cX1_decide 145 = .ok (.iconst 1, 1) := by decide +kernel
theorem dX1_decide_146 : decode cX1_decide 146 = .ok (.iadd, 1) := by decide +kernel
theorem dX1_decide_147 : decode cX1_decide 147 = .ok (.iaload, 1) := by decide +kernel
theorem dX1_decide_148 : decode cX1_decide 148 = .ok (.goto 4, 3) := by decide +kernel
theorem dX1_decide_151 : decode cX1_decide 151 = .ok (.iconst 0, 1) := by decide +kernel
theorem dX1_decide_152 : decode cX1_decide 152 = .ok (.iadd, 1) := by decide +kernel
theorem dX1_decide_153 : decode cX1_decide 153 = .ok (.istore 6, 2) := by decide +kernel
theorem dX1_decide_155 : decode cX1_decide 155 = .ok (.iload 9, 2) := by decide +kernel
theorem dX1_decide_157 : decode cX1_decide 157 = .ok (.iconst 1, 1) := by decide +kernel
theorem dX1_decide_158 : decode cX1_decide 158 = .ok (.ishr, 1) := by decide +kernel
theorem dX1_decide_159 : decode cX1_decide 159 = .ok (.istore 5, 2) := by decide +kernel
theorem dX1_decide_161 : decode cX1_decide 161 = .ok (.iinc 7 1, 3) := by decide +kernel
theorem dX1_decide_164 : decode cX1_decide 164 = .ok (.goto (-117), 3) := by decide +kernel
theorem dX1_decide_167 : decode cX1_decide 167 = .ok (.iload_n 3, 1) := by decide +kernel
theorem dX1_decide_168 : decode cX1_decide 168 = .ok (.ifCond .lt 9, 3) := by decide +kernel
theorem dX1_decide_171 : decode cX1_decide 171 = .ok (.iload 6, 2) := by decide +kernel
theorem dX1_decide_173 : decode cX1_decide 173 = .ok (.iload_n 2, 1) := by decide +kernel
theorem dX1_decide_174 : decode cX1_decide 174 = .ok (.if_icmp .ge 9, 3) := by decide +kernel
theorem dX1_decide_177 : decode cX1_decide 177 = .ok (.iload 4, 2) := by decide +kernel
theorem dX1_decide_179 : decode cX1_decide 179 = .ok (.istore_n 3, 1) := by decide +kernel
theorem dX1_decide_180 : decode cX1_decide 180 = .ok (.iload 6, 2) := by decide +kernel
theorem dX1_decide_182 : decode cX1_decide 182 = .ok (.istore_n 2, 1) := by decide +kernel
theorem dX1_decide_183 : decode cX1_decide 183 = .ok (.iinc 4 1, 3) := by decide +kernel
theorem dX1_decide_186 : decode cX1_decide 186 = .ok (.goto (-156), 3) := by decide +kernel
theorem dX1_decide_189 : decode cX1_decide 189 = .ok (.aload_n 0, 1) := by decide +kernel
theorem dX1_decide_190 : decode cX1_decide 190 = .ok (.iload_n 3, 1) := by decide +kernel
theorem dX1_decide_191 : decode cX1_decide 191 = .ok (.putfield 18, 3) := by decide +kernel
theorem dX1_decide_194 : decode cX1_decide 194 = .ok (.aload_n 0, 1) := by decide +kernel
theorem dX1_decide_195 : decode cX1_decide 195 = .ok (.iload_n 1, 1) := by decide +kernel
theorem dX1_decide_196 : decode cX1_decide 196 = .ok (.putfield 15, 3) := by decide +kernel
theorem dX1_decide_199 : decode cX1_decide 199 = .ok (.iload_n 3, 1) := by decide +kernel
theorem dX1_decide_200 : decode cX1_decide 200 = .ok (.ireturn, 1) := by decide +kernel
theorem dX1_odd_0 : decode cX1_odd 0 = .ok (.iconst 0, 1) := by decide +kernel
theorem dX1_odd_1 : decode cX1_odd 1 = .ok (.istore_n 1, 1) := by decide +kernel
theorem dX1_odd_2 : decode cX1_odd 2 = .ok (.iload_n 0, 1) := by decide +kernel
theorem dX1_odd_3 : decode cX1_odd 3 = .ok (.istore_n 2, 1) := by decide +kernel
theorem dX1_odd_4 : decode cX1_odd 4 = .ok (.iload_n 2, 1) := by decide +kernel
theorem dX1_odd_5 : decode cX1_odd 5 = .ok (.ifCond .eq 16, 3) := by decide +kernel
theorem dX1_odd_8 : decode cX1_odd 8 = .ok (.iload_n 1, 1) := by decide +kernel
theorem dX1_odd_9 : decode cX1_odd 9 = .ok (.iload_n 2, 1) := by decide +kernel
theorem dX1_odd_10 : decode cX1_odd 10 = .ok (.iconst 1, 1) := by decide +kernel
theorem dX1_odd_11 : decode cX1_odd 11 = .ok (.iand, 1) := by decide +kernel
theorem dX1_odd_12 : decode cX1_odd 12 = .ok (.ixor, 1) := by decide +kernel
theorem dX1_odd_13 : decode cX1_odd 13 = .ok (.istore_n 1, 1) := by decide +kernel
theorem dX1_odd_14 : decode cX1_odd 14 = .ok (.iload_n 2, 1) := by decide +kernel
theorem dX1_odd_15 : decode cX1_odd 15 = .ok (.iconst 1, 1) := by decide +kernel
theorem dX1_odd_16 : decode cX1_odd 16 = .ok (.iushr, 1) := by decide +kernel
theorem dX1_odd_17 : decode cX1_odd 17 = .ok (.istore_n 2, 1) := by decide +kernel
theorem dX1_odd_18 : decode cX1_odd 18 = .ok (.goto (-14), 3) := by decide +kernel
theorem dX1_odd_21 : decode cX1_odd 21 = .ok (.iload_n 1, 1) := by decide +kernel
theorem dX1_odd_22 : decode cX1_odd 22 = .ok (.ireturn, 1) := by decide +kernel
theorem dX1_cost_0 : decode cX1_cost 0 = .ok (.aload_n 0, 1) := by decide +kernel
theorem dX1_cost_1 : decode cX1_cost 1 = .ok (.getfield 15, 3) := by decide +kernel
theorem dX1_cost_4 : decode cX1_cost 4 = .ok (.ifCond .ge 5, 3) := by decide +kernel
theorem dX1_cost_7 : decode cX1_cost 7 = .ok (.iconst 0, 1) := by decide +kernel
theorem dX1_cost_8 : decode cX1_cost 8 = .ok (.ireturn, 1) := by decide +kernel
theorem dX1_cost_9 : decode cX1_cost 9 = .ok (.iconst 0, 1) := by decide +kernel
theorem dX1_cost_10 : decode cX1_cost 10 = .ok (.istore_n 1, 1) := by decide +kernel
theorem dX1_cost_11 : decode cX1_cost 11 = .ok (.iconst 0, 1) := by decide +kernel
theorem dX1_cost_12 : decode cX1_cost 12 = .ok (.istore_n 2, 1) := by decide +kernel
theorem dX1_cost_13 : decode cX1_cost 13 = .ok (.iconst 0, 1) := by decide +kernel
theorem dX1_cost_14 : decode cX1_cost 14 = .ok (.istore_n 3, 1) := by decide +kernel
theorem dX1_cost_15 : decode cX1_cost 15 = .ok (.iload_n 3, 1) := by decide +kernel
theorem dX1_cost_16 : decode cX1_cost 16 = .ok (.aload_n 0, 1) := by decide +kernel
theorem dX1_cost_17 : decode cX1_cost 17 = .ok (.getfield 15, 3) := by decide +kernel
theorem dX1_cost_20 : decode cX1_cost 20 = .ok (.aload_n 0, 1) := by decide +kernel
theorem dX1_cost_21 : decode cX1_cost 21 = .ok (.getfield 2, 3) := by decide +kernel
theorem dX1_cost_24 : decode cX1_cost 24 = .ok (.iadd, 1) := by decide +kernel
theorem dX1_cost_25 : decode cX1_cost 25 = .ok (.if_icmp .ge 114, 3) := by decide +kernel
theorem dX1_cost_28 : decode cX1_cost 28 = .ok (.iload_n 3, 1) := by decide +kernel
theorem dX1_cost_29 : decode cX1_cost 29 = .ok (.aload_n 0, 1) := by decide +kernel
theorem dX1_cost_30 : decode cX1_cost 30 = .ok (.getfield 15, 3) := by decide +kernel
theorem dX1_cost_33 : decode cX1_cost 33 = .ok (.if_icmp .ge 21, 3) := by decide +kernel
theorem dX1_cost_36 : decode cX1_cost 36 = .ok (.aload_n 0, 1) := by decide +kernel
theorem dX1_cost_37 : decode cX1_cost 37 = .ok (.getfield 18, 3) := by decide +kernel
theorem dX1_cost_40 : decode cX1_cost 40 = .ok (.aload_n 0, 1) := by decide +kernel
theorem dX1_cost_41 : decode cX1_cost 41 = .ok (.getfield 15, 3) := by decide +kernel
theorem dX1_cost_44 : decode cX1_cost 44 = .ok (.iconst 1, 1) := by decide +kernel
theorem dX1_cost_45 : decode cX1_cost 45 = .ok (.isub, 1) := by decide +kernel
theorem dX1_cost_46 : decode cX1_cost 46 = .ok (.iload_n 3, 1) := by decide +kernel
theorem dX1_cost_47 : decode cX1_cost 47 = .ok (.isub, 1) := by decide +kernel
theorem dX1_cost_48 : decode cX1_cost 48 = .ok (.ishr, 1) := by decide +kernel
theorem dX1_cost_49 : decode cX1_cost 49 = .ok (.iconst 1, 1) := by decide +kernel
theorem dX1_cost_50 : decode cX1_cost 50 = .ok (.iand, 1) := by decide +kernel
theorem dX1_cost_51 : decode cX1_cost 51 = .ok (.goto 4, 3) := by decide +kernel
theorem dX1_cost_54 : decode cX1_cost 54 = .ok (.iconst 0, 1) := by decide +kernel
theorem dX1_cost_55 : decode cX1_cost 55 = .ok (.istore 4, 2) := by decide +kernel
theorem dX1_cost_57 : decode cX1_cost 57 = .ok (.iload 4, 2) := by decide +kernel
theorem dX1_cost_59 : decode cX1_cost 59 = .ok (.aload_n 0, 1) := by decide +kernel
theorem dX1_cost_60 : decode cX1_cost 60 = .ok (.getfield 2, 3) := by decide +kernel
theorem dX1_cost_63 : decode cX1_cost 63 = .ok (.ishl, 1) := by decide +kernel
theorem dX1_cost_64 : decode cX1_cost 64 = .ok (.iload_n 1, 1) := by decide +kernel
theorem dX1_cost_65 : decode cX1_cost 65 = .ok (.ior, 1) := by decide +kernel
theorem dX1_cost_66 : decode cX1_cost 66 = .ok (.istore 5, 2) := by decide +kernel
theorem dX1_cost_68 : decode cX1_cost 68 = .ok (.iload_n 2, 1) := by decide +kernel
theorem dX1_cost_69 : decode cX1_cost 69 = .ok (.iload 5, 2) := by decide +kernel
theorem dX1_cost_71 : decode cX1_cost 71 = .ok (.aload_n 0, 1) := by decide +kernel
theorem dX1_cost_72 : decode cX1_cost 72 = .ok (.getfield 8, 3) := by decide +kernel
theorem dX1_cost_75 : decode cX1_cost 75 = .ok (.iconst 0, 1) := by decide +kernel
theorem dX1_cost_76 : decode cX1_cost 76 = .ok (.iaload, 1) := by decide +kernel
theorem dX1_cost_77 : decode cX1_cost 77 = .ok (.iand, 1) := by decide +kernel
theorem dX1_cost_78 : decode cX1_cost 78 = .ok (.invokestatic 24, 3) := by decide +kernel
theorem dX1_cost_81 : decode cX1_cost 81 = .ok (.ifCond .eq 14, 3) := by decide +kernel
theorem dX1_cost_84 : decode cX1_cost 84 = .ok (.aload_n 0, 1) := by decide +kernel
theorem dX1_cost_85 : decode cX1_cost 85 = .ok (.getfield 21, 3) := by decide +kernel
theorem dX1_cost_88 : decode cX1_cost 88 = .ok (.iconst 2, 1) := by decide +kernel
theorem dX1_cost_89 : decode cX1_cost 89 = .ok (.iload_n 3, 1) := by decide +kernel
theorem dX1_cost_90 : decode cX1_cost 90 = .ok (.imul, 1) := by decide +kernel
theorem dX1_cost_91 : decode cX1_cost 91 = .ok (.iaload, 1) := by decide +kernel
theorem dX1_cost_92 : decode cX1_cost 92 = .ok (.goto 4, 3) := by decide +kernel
theorem dX1_cost_95 : decode cX1_cost 95 = .ok (.iconst 0, 1) := by decide +kernel
theorem dX1_cost_96 : decode cX1_cost 96 = .ok (.iadd, 1) := by decide +kernel
theorem dX1_cost_97 : decode cX1_cost 97 = .ok (.iload 5, 2) := by decide +kernel
theorem dX1_cost_99 : decode cX1_cost 99 = .ok (.aload_n 0, 1) := by decide +kernel
theorem dX1_cost_100 : decode cX1_cost 100 = .ok (.getfield 8, 3) := by decide +kernel
theorem dX1_cost_103 : decode cX1_cost 103 = .ok (.iconst 1, 1) := by decide +kernel
theorem dX1_cost_104 : decode cX1_cost 104 = .ok (.iaload, 1) := by decide +kernel
theorem dX1_cost_105 : decode cX1_cost 105 = .ok (.iand, 1) := by decide +kernel
theorem dX1_cost_106 : decode cX1_cost 106 = .ok (.invokestatic 24, 3) := by decide +kernel
theorem dX1_cost_109 : decode cX1_cost 109 = .ok (.ifCond .eq 16, 3) := by decide +kernel
theorem dX1_cost_112 : decode cX1_cost 112 = .ok (.aload_n 0, 1) := by decide +kernel
theorem dX1_cost_113 : decode cX1_cost 113 = .ok (.getfield 21, 3) := by decide +kernel
theorem dX1_cost_116 : decode cX1_cost 116 = .ok (.iconst 2, 1) := by decide +kernel
theorem dX1_cost_117 : decode cX1_cost 117 = .ok (.iload_n 3, 1) := by decide +kernel
theorem dX1_cost_118 : decode cX1_cost 118 = .ok (.imul, 1) := by decide +kernel
theorem dX1_cost_119 : decode cX1_cost 119 = .ok (.iconst 1, 1) := by decide +kernel
theorem dX1_cost_120 : decode cX1_cost 120 = .ok (.iadd, 1) := by decide +kernel
theorem dX1_cost_121 : decode cX1_cost 121 = .ok (.iaload, 1) := by decide +kernel
theorem dX1_cost_122 : decode cX1_cost 122 = .ok (.goto 4, 3) := by decide +kernel
theorem dX1_cost_125 : decode cX1_cost 125 = .ok (.iconst 0, 1) := by decide +kernel
theorem dX1_cost_126 : decode cX1_cost 126 = .ok (.iadd, 1) := by decide +kernel
theorem dX1_cost_127 : decode cX1_cost 127 = .ok (.istore_n 2, 1) := by decide +kernel
theorem dX1_cost_128 : decode cX1_cost 128 = .ok (.iload 5, 2) := by decide +kernel
theorem dX1_cost_130 : decode cX1_cost 130 = .ok (.iconst 1, 1) := by decide +kernel
theorem dX1_cost_131 : decode cX1_cost 131 = .ok (.ishr, 1) := by decide +kernel
theorem dX1_cost_132 : decode cX1_cost 132 = .ok (.istore_n 1, 1) := by decide +kernel
theorem dX1_cost_133 : decode cX1_cost 133 = .ok (.iinc 3 1, 3) := by decide +kernel
theorem dX1_cost_136 : decode cX1_cost 136 = .ok (.goto (-121), 3) := by decide +kernel
theorem dX1_cost_139 : decode cX1_cost 139 = .ok (.iload_n 2, 1) := by decide +kernel
theorem dX1_cost_140 : decode cX1_cost 140 = .ok (.ireturn, 1) := by decide +kernel
theorem dX1_heard_0 : decode cX1_heard 0 = .ok (.aload_n 0, 1) := by decide +kernel
theorem dX1_heard_1 : decode cX1_heard 1 = .ok (.getfield 12, 3) := by decide +kernel
theorem dX1_heard_4 : decode cX1_heard 4 = .ok (.ireturn, 1) := by decide +kernel
theorem dX1_init_0 : decode cX1_init 0 = .ok (.aload_n 0, 1) := by decide +kernel
theorem dX1_init_1 : decode cX1_init 1 = .ok (.invokespecial 28, 3) := by decide +kernel
theorem dX1_init_4 : decode cX1_init 4 = .ok (.aload_n 0, 1) := by decide +kernel
theorem dX1_init_5 : decode cX1_init 5 = .ok (.iconst 2, 1) := by decide +kernel
theorem dX1_init_6 : decode cX1_init 6 = .ok (.newarray .int, 2) := by decide +kernel
theorem dX1_init_8 : decode cX1_init 8 = .ok (.dup, 1) := by decide +kernel
theorem dX1_init_9 : decode cX1_init 9 = .ok (.iconst 0, 1) := by decide +kernel
theorem dX1_init_10 : decode cX1_init 10 = .ok (.bipush 7, 2) := by decide +kernel
theorem dX1_init_12 : decode cX1_init 12 = .ok (.iastore, 1) := by decide +kernel
theorem dX1_init_13 : decode cX1_init 13 = .ok (.dup, 1) := by decide +kernel
theorem dX1_init_14 : decode cX1_init 14 = .ok (.iconst 1, 1) := by decide +kernel
theorem dX1_init_15 : decode cX1_init 15 = .ok (.iconst 5, 1) := by decide +kernel
theorem dX1_init_16 : decode cX1_init 16 = .ok (.iastore, 1) := by decide +kernel
theorem dX1_init_17 : decode cX1_init 17 = .ok (.putfield 8, 3) := by decide +kernel
theorem dX1_init_20 : decode cX1_init 20 = .ok (.aload_n 0, 1) := by decide +kernel
theorem dX1_init_21 : decode cX1_init 21 = .ok (.iconst 2, 1) := by decide +kernel
theorem dX1_init_22 : decode cX1_init 22 = .ok (.putfield 2, 3) := by decide +kernel
theorem dX1_init_25 : decode cX1_init 25 = .ok (.aload_n 0, 1) := by decide +kernel
theorem dX1_init_26 : decode cX1_init 26 = .ok (.bipush 48, 2) := by decide +kernel
theorem dX1_init_28 : decode cX1_init 28 = .ok (.newarray .int, 2) := by decide +kernel
theorem dX1_init_30 : decode cX1_init 30 = .ok (.putfield 21, 3) := by decide +kernel
theorem dX1_init_33 : decode cX1_init 33 = .ok (.aload_n 0, 1) := by decide +kernel
theorem dX1_init_34 : decode cX1_init 34 = .ok (.iconst (-1), 1) := by decide +kernel
theorem dX1_init_35 : decode cX1_init 35 = .ok (.putfield 15, 3) := by decide +kernel
theorem dX1_init_38 : decode cX1_init 38 = .ok (.return_, 1) := by decide +kernel
end
section
set_option maxRecDepth 100000
theorem dL_law_0 : decode cL_law 0 = .ok (.new 7, 3) := by decide +kernel
theorem dL_law_3 : decode cL_law 3 = .ok (.dup, 1) := by decide +kernel
theorem dL_law_4 : decode cL_law 4 = .ok (.invokespecial 9, 3) := by decide +kernel
theorem dL_law_7 : decode cL_law 7 = .ok (.astore_n 1, 1) := by decide +kernel
theorem dL_law_8 : decode cL_law 8 = .ok (.new 10, 3) := by decide +kernel
theorem dL_law_11 : decode cL_law 11 = .ok (.dup, 1) := by decide +kernel
theorem dL_law_12 : decode cL_law 12 = .ok (.invokespecial 12, 3) := by decide +kernel
theorem dL_law_15 : decode cL_law 15 = .ok (.astore_n 2, 1) := by decide +kernel
theorem dL_law_16 : decode cL_law 16 = .ok (.iconst 0, 1) := by decide +kernel
theorem dL_law_17 : decode cL_law 17 = .ok (.istore_n 3, 1) := by decide +kernel
theorem dL_law_18 : decode cL_law 18 = .ok (.iload_n 3, 1) := by decide +kernel
theorem dL_law_19 : decode cL_law 19 = .ok (.aload_n 0, 1) := by decide +kernel
theorem dL_law_20 : decode cL_law 20 = .ok (.arraylength, 1) := by decide +kernel
theorem dL_law_21 : decode cL_law 21 = .ok (.iconst 4, 1) := by decide +kernel
theorem dL_law_22 : decode cL_law 22 = .ok (.isub, 1) := by decide +kernel
theorem dL_law_23 : decode cL_law 23 = .ok (.if_icmp .gt 164, 3) := by decide +kernel
theorem dL_law_26 : decode cL_law 26 = .ok (.aload_n 0, 1) := by decide +kernel
theorem dL_law_27 : decode cL_law 27 = .ok (.iload_n 3, 1) := by decide +kernel
theorem dL_law_28 : decode cL_law 28 = .ok (.iaload, 1) := by decide +kernel
theorem dL_law_29 : decode cL_law 29 = .ok (.bipush 7, 2) := by decide +kernel
theorem dL_law_31 : decode cL_law 31 = .ok (.iand, 1) := by decide +kernel
theorem dL_law_32 : decode cL_law 32 = .ok (.tableswitch 149 0 4 #[36, 77, 110, 123, 136], 36) := by decide +kernel
theorem dL_law_68 : decode cL_law 68 = .ok (.aload_n 1, 1) := by decide +kernel
theorem dL_law_69 : decode cL_law 69 = .ok (.aload_n 0, 1) := by decide +kernel
theorem dL_law_70 : decode cL_law 70 = .ok (.iload_n 3, 1) := by decide +kernel
theorem dL_law_71 : decode cL_law 71 = .ok (.iconst 1, 1) := by decide +kernel
theorem dL_law_72 : decode cL_law 72 = .ok (.iadd, 1) := by decide +kernel
theorem dL_law_73 : decode cL_law 73 = .ok (.iaload, 1) := by decide +kernel
theorem dL_law_74 : decode cL_law 74 = .ok (.aload_n 0, 1) := by decide +kernel
theorem dL_law_75 : decode cL_law 75 = .ok (.iload_n 3, 1) := by decide +kernel
theorem dL_law_76 : decode cL_law 76 = .ok (.iconst 2, 1) := by decide +kernel
theorem dL_law_77 : decode cL_law 77 = .ok (.iadd, 1) := by decide +kernel
theorem dL_law_78 : decode cL_law 78 = .ok (.iaload, 1) := by decide +kernel
theorem dL_law_79 : decode cL_law 79 = .ok (.aload_n 0, 1) := by decide +kernel
theorem dL_law_80 : decode cL_law 80 = .ok (.iload_n 3, 1) := by decide +kernel
theorem dL_law_81 : decode cL_law 81 = .ok (.iconst 3, 1) := by decide +kernel
theorem dL_law_82 : decode cL_law 82 = .ok (.iadd, 1) := by decide +kernel
theorem dL_law_83 : decode cL_law 83 = .ok (.iaload, 1) := by decide +kernel
theorem dL_law_84 : decode cL_law 84 = .ok (.invokevirtual 13, 3) := by decide +kernel
theorem dL_law_87 : decode cL_law 87 = .ok (.aload_n 2, 1) := by decide +kernel
theorem dL_law_88 : decode cL_law 88 = .ok (.aload_n 0, 1) := by decide +kernel
theorem dL_law_89 : decode cL_law 89 = .ok (.iload_n 3, 1) := by decide +kernel
theorem dL_law_90 : decode cL_law 90 = .ok (.iconst 1, 1) := by decide +kernel
theorem dL_law_91 : decode cL_law 91 = .ok (.iadd, 1) := by decide +kernel
theorem dL_law_92 : decode cL_law 92 = .ok (.iaload, 1) := by decide +kernel
theorem dL_law_93 : decode cL_law 93 = .ok (.aload_n 0, 1) := by decide +kernel
theorem dL_law_94 : decode cL_law 94 = .ok (.iload_n 3, 1) := by decide +kernel
theorem dL_law_95 : decode cL_law 95 = .ok (.iconst 2, 1) := by decide +kernel
theorem dL_law_96 : decode cL_law 96 = .ok (.iadd, 1) := by decide +kernel
theorem dL_law_97 : decode cL_law 97 = .ok (.iaload, 1) := by decide +kernel
theorem dL_law_98 : decode cL_law 98 = .ok (.aload_n 0, 1) := by decide +kernel
theorem dL_law_99 : decode cL_law 99 = .ok (.iload_n 3, 1) := by decide +kernel
theorem dL_law_100 : decode cL_law 100 = .ok (.iconst 3, 1) := by decide +kernel
theorem dL_law_101 : decode cL_law 101 = .ok (.iadd, 1) := by decide +kernel
theorem dL_law_102 : decode cL_law 102 = .ok (.iaload, 1) := by decide +kernel
theorem dL_law_103 : decode cL_law 103 = .ok (.invokevirtual 17, 3) := by decide +kernel
theorem dL_law_106 : decode cL_law 106 = .ok (.goto 75, 3) := by decide +kernel
theorem dL_law_109 : decode cL_law 109 = .ok (.aload_n 1, 1) := by decide +kernel
theorem dL_law_110 : decode cL_law 110 = .ok (.aload_n 0, 1) := by decide +kernel
theorem dL_law_111 : decode cL_law 111 = .ok (.iload_n 3, 1) := by decide +kernel
theorem dL_law_112 : decode cL_law 112 = .ok (.iconst 1, 1) := by decide +kernel
theorem dL_law_113 : decode cL_law 113 = .ok (.iadd, 1) := by decide +kernel
theorem dL_law_114 : decode cL_law 114 = .ok (.iaload, 1) := by decide +kernel
theorem dL_law_115 : decode cL_law 115 = .ok (.aload_n 0, 1) := by decide +kernel
theorem dL_law_116 : decode cL_law 116 = .ok (.iload_n 3, 1) := by decide +kernel
theorem dL_law_117 : decode cL_law 117 = .ok (.iconst 2, 1) := by decide +kernel
theorem dL_law_118 : decode cL_law 118 = .ok (.iadd, 1) := by decide +kernel
theorem dL_law_119 : decode cL_law 119 = .ok (.iaload, 1) := by decide +kernel
theorem dL_law_120 : decode cL_law 120 = .ok (.invokevirtual 18, 3) := by decide +kernel
theorem dL_law_123 : decode cL_law 123 = .ok (.aload_n 2, 1) := by decide +kernel
theorem dL_law_124 : decode cL_law 124 = .ok (.aload_n 0, 1) := by decide +kernel
theorem dL_law_125 : decode cL_law 125 = .ok (.iload_n 3, 1) := by decide +kernel
theorem dL_law_126 : decode cL_law 126 = .ok (.iconst 1, 1) := by decide +kernel
theorem dL_law_127 : decode cL_law 127 = .ok (.iadd, 1) := by decide +kernel
theorem dL_law_128 : decode cL_law 128 = .ok (.iaload, 1) := by decide +kernel
theorem dL_law_129 : decode cL_law 129 = .ok (.aload_n 0, 1) := by decide +kernel
theorem dL_law_130 : decode cL_law 130 = .ok (.iload_n 3, 1) := by decide +kernel
theorem dL_law_131 : decode cL_law 131 = .ok (.iconst 2, 1) := by decide +kernel
theorem dL_law_132 : decode cL_law 132 = .ok (.iadd, 1) := by decide +kernel
theorem dL_law_133 : decode cL_law 133 = .ok (.iaload, 1) := by decide +kernel
theorem dL_law_134 : decode cL_law 134 = .ok (.invokevirtual 22, 3) := by decide +kernel
theorem dL_law_137 : decode cL_law 137 = .ok (.if_icmp .eq 44, 3) := by decide +kernel
theorem dL_law_140 : decode cL_law 140 = .ok (.iconst 0, 1) := by decide +kernel
theorem dL_law_141 : decode cL_law 141 = .ok (.ireturn, 1) := by decide +kernel
theorem dL_law_142 : decode cL_law 142 = .ok (.aload_n 1, 1) := by decide +kernel
theorem dL_law_143 : decode cL_law 143 = .ok (.invokevirtual 23, 3) := by decide +kernel
theorem dL_law_146 : decode cL_law 146 = .ok (.aload_n 2, 1) := by decide +kernel
theorem dL_law_147 : decode cL_law 147 = .ok (.invokevirtual 27, 3) := by decide +kernel
theorem dL_law_150 : decode cL_law 150 = .ok (.if_icmp .eq 31, 3) := by decide +kernel
theorem dL_law_153 : decode cL_law 153 = .ok (.iconst 0, 1) := by decide +kernel
theorem dL_law_154 : decode cL_law 154 = .ok (.ireturn, 1) := by decide +kernel
theorem dL_law_155 : decode cL_law 155 = .ok (.aload_n 1, 1) := by decide +kernel
theorem dL_law_156 : decode cL_law 156 = .ok (.invokevirtual 28, 3) := by decide +kernel
theorem dL_law_159 : decode cL_law 159 = .ok (.aload_n 2, 1) := by decide +kernel
theorem dL_law_160 : decode cL_law 160 = .ok (.invokevirtual 31, 3) := by decide +kernel
theorem dL_law_163 : decode cL_law 163 = .ok (.if_icmp .eq 18, 3) := by decide +kernel
theorem dL_law_166 : decode cL_law 166 = .ok (.iconst 0, 1) := by decide +kernel
theorem dL_law_167 : decode cL_law 167 = .ok (.ireturn, 1) := by decide +kernel
theorem dL_law_168 : decode cL_law 168 = .ok (.aload_n 1, 1) := by decide +kernel
theorem dL_law_169 : decode cL_law 169 = .ok (.invokevirtual 32, 3) := by decide +kernel
theorem dL_law_172 : decode cL_law 172 = .ok (.aload_n 2, 1) := by decide +kernel
theorem dL_law_173 : decode cL_law 173 = .ok (.invokevirtual 35, 3) := by decide +kernel
theorem dL_law_176 : decode cL_law 176 = .ok (.if_icmp .eq 5, 3) := by decide +kernel
theorem dL_law_179 : decode cL_law 179 = .ok (.iconst 0, 1) := by decide +kernel
theorem dL_law_180 : decode cL_law 180 = .ok (.ireturn, 1) := by decide +kernel
theorem dL_law_181 : decode cL_law 181 = .ok (.iinc 3 4, 3) := by decide +kernel
theorem dL_law_184 : decode cL_law 184 = .ok (.goto (-166), 3) := by decide +kernel
theorem dL_law_187 : decode cL_law 187 = .ok (.iconst 1, 1) := by decide +kernel
theorem dL_law_188 : decode cL_law 188 = .ok (.ireturn, 1) := by decide +kernel
theorem dJ0_init_0 : decode cJ0_init 0 = .ok (.return_, 1) := by decide +kernel
end
section
/-! THE PLAIN LAW: no program in sight. mu: the register's memory, fr: how many letters are free, n: how many there are, P t r: what register r costs at letter t -/
/-- parity of the n low bits -/
def td_par : Nat → Nat → Nat
  | 0, _ => 0
  | n + 1, k => (k % 2 + td_par n (k / 2)) % 2
theorem td_par_0 : ∀ n : Nat, td_par n 0 = 0
  | 0 => rfl
  | n + 1 => by
    have h := td_par_0 n
    show (0 % 2 + td_par n (0 / 2)) % 2 = 0
    rw [show (0 / 2 : Nat) = 0 from rfl, h]
theorem td_par_lt : ∀ n k : Nat, td_par n k < 2
  | 0, _ => Nat.zero_lt_two
  | _ + 1, _ => Nat.mod_lt _ (by decide)
def td_pay (a b : Nat) (F G : Nat → Int) (t r : Nat) : Int := (if td_par 6 (r &&& a) = 1 then F t else 0) + (if td_par 6 (r &&& b) = 1 then G t else 0)
def td_best (P : Nat → Nat → Int) (mu fr : Nat) : Nat → Nat → Nat → Int
  | 0, _, _ => 0
  | k + 1, t, s => if t < fr ∧ P t (2 ^ mu + s) + td_best P mu fr k (t + 1) ((2 ^ mu + s) / 2) < P t s + td_best P mu fr k (t + 1) (s / 2) then P t (2 ^ mu + s) + td_best P mu fr k (t + 1) ((2 ^ mu + s) / 2) else P t s + td_best P mu fr k (t + 1) (s / 2)
theorem td_best_s (P : Nat → Nat → Int) (mu fr k t s : Nat) : td_best P mu fr (k + 1) t s = if t < fr ∧ P t (2 ^ mu + s) + td_best P mu fr k (t + 1) ((2 ^ mu + s) / 2) < P t s + td_best P mu fr k (t + 1) (s / 2) then P t (2 ^ mu + s) + td_best P mu fr k (t + 1) ((2 ^ mu + s) / 2) else P t s + td_best P mu fr k (t + 1) (s / 2) := rfl
def td_bit (fr m t : Nat) : Nat := if t < fr then m / 2 ^ (fr - (t + 1)) % 2 else 0
def td_reg (mu fr m t s : Nat) : Nat := td_bit fr m t * 2 ^ mu + s
def td_T (P : Nat → Nat → Int) (mu fr m : Nat) : Nat → Nat → Nat → Int
  | 0, _, _ => 0
  | k + 1, t, s => P t (td_reg mu fr m t s) + td_T P mu fr m k (t + 1) (td_reg mu fr m t s / 2)
def td_st (mu fr m : Nat) : Nat → Nat
  | 0 => 0
  | i + 1 => td_reg mu fr m i (td_st mu fr m i) / 2
def td_cs (P : Nat → Nat → Int) (mu fr m : Nat) : Nat → Int
  | 0 => 0
  | i + 1 => td_cs P mu fr m i + P i (td_reg mu fr m i (td_st mu fr m i))
theorem td_cs_T (P : Nat → Nat → Int) (mu fr m : Nat) : ∀ k i : Nat, td_cs P mu fr m (i + k) = td_cs P mu fr m i + td_T P mu fr m k i (td_st mu fr m i)
  | 0, i => by
    show td_cs P mu fr m i = td_cs P mu fr m i + 0
    omega
  | k + 1, i => by
    have h := td_cs_T P mu fr m k (i + 1)
    rw [show i + (k + 1) = i + 1 + k by omega, h]
    show td_cs P mu fr m i + P i (td_reg mu fr m i (td_st mu fr m i)) + td_T P mu fr m k (i + 1) (td_reg mu fr m i (td_st mu fr m i) / 2) = td_cs P mu fr m i + (P i (td_reg mu fr m i (td_st mu fr m i)) + td_T P mu fr m k (i + 1) (td_reg mu fr m i (td_st mu fr m i) / 2))
    omega
theorem td_T_cs (P : Nat → Nat → Int) (mu fr m n : Nat) : td_T P mu fr m n 0 0 = td_cs P mu fr m n := by
  have h := td_cs_T P mu fr m n 0
  rw [Nat.zero_add] at h
  rw [h]
  show _ = (0 : Int) + td_T P mu fr m n 0 0
  omega
theorem td_bit_lt (fr m t : Nat) : td_bit fr m t < 2 := by
  unfold td_bit
  split
  · exact Nat.mod_lt _ (by decide)
  · exact Nat.zero_lt_two
theorem td_reg_0 {mu fr m t s : Nat} (h : td_bit fr m t = 0) : td_reg mu fr m t s = s := by
  unfold td_reg
  rw [h, Nat.zero_mul, Nat.zero_add]
theorem td_reg_1 {mu fr m t s : Nat} (h : td_bit fr m t = 1) : td_reg mu fr m t s = 2 ^ mu + s := by
  unfold td_reg
  rw [h, Nat.one_mul]
theorem td_half {mu b s : Nat} (hb : b < 2) (hs : s < 2 ^ mu) : (b * 2 ^ mu + s) / 2 < 2 ^ mu := by
  have h : b * 2 ^ mu ≤ 1 * 2 ^ mu := Nat.mul_le_mul_right _ (by omega)
  omega
theorem td_st_lt (mu fr m : Nat) : ∀ i : Nat, td_st mu fr m i < 2 ^ mu
  | 0 => Nat.two_pow_pos mu
  | i + 1 => td_half (td_bit_lt fr m i) (td_st_lt mu fr m i)
theorem td_low (P : Nat → Nat → Int) (mu fr m : Nat) : ∀ k t s : Nat, td_best P mu fr k t s ≤ td_T P mu fr m k t s
  | 0, _, _ => Int.le_refl _
  | k + 1, t, s => by
    have h0 := td_low P mu fr m k (t + 1) (s / 2)
    have h1 := td_low P mu fr m k (t + 1) ((2 ^ mu + s) / 2)
    have hb := td_bit_lt fr m t
    have hc : td_bit fr m t = 0 ∨ (td_bit fr m t = 1 ∧ t < fr) := by
      by_cases ht : t < fr
      · omega
      · exact Or.inl (if_neg ht)
    unfold td_best td_T
    rcases hc with e | ⟨e, ht⟩
    · rw [td_reg_0 e]
      split
      · rename_i q
        omega
      · omega
    · rw [td_reg_1 e]
      split
      · omega
      · rename_i q
        have q2 : ¬ (P t (2 ^ mu + s) + td_best P mu fr k (t + 1) ((2 ^ mu + s) / 2) < P t s + td_best P mu fr k (t + 1) (s / 2)) := fun z => q ⟨ht, z⟩
        omega
theorem td_tail (P : Nat → Nat → Int) (mu fr m : Nat) : ∀ k t s : Nat, fr ≤ t → td_T P mu fr m k t s = td_best P mu fr k t s
  | 0, _, _, _ => rfl
  | k + 1, t, s, ht => by
    have h0 := td_tail P mu fr m k (t + 1) (s / 2) (by omega)
    unfold td_best td_T
    rw [td_reg_0 (if_neg (by omega)), if_neg (by omega), h0]
theorem td_div {m t fr : Nat} (h : t < fr) : m / 2 ^ (fr - t) = m / 2 ^ (fr - (t + 1)) / 2 := by
  rw [Nat.div_div_eq_div_mul, ← Nat.pow_succ, show (fr - (t + 1)).succ = fr - t by omega]
/-- reading the message off: t letters M are read, the register holds s -/
def td_RI (P : Nat → Nat → Int) (mu fr n t M s : Nat) : Prop := M < 2 ^ t ∧ s < 2 ^ mu ∧ ∃ C : Int, C + td_best P mu fr (n - t) t s = td_best P mu fr n 0 0 ∧ (∀ m : Nat, m / 2 ^ (fr - t) = M → td_T P mu fr m n 0 0 = C + td_T P mu fr m (n - t) t s) ∧ ∀ m : Nat, m / 2 ^ (fr - t) < M → td_best P mu fr n 0 0 < td_T P mu fr m n 0 0
theorem td_RI_0 (P : Nat → Nat → Int) (mu fr n : Nat) : td_RI P mu fr n 0 0 0 := by
  refine ⟨Nat.one_pos, Nat.two_pow_pos mu, 0, ?_, fun m _ => ?_, fun m h => absurd h (Nat.not_lt_zero _)⟩
  · show (0 : Int) + td_best P mu fr n 0 0 = _
    omega
  · show _ = (0 : Int) + td_T P mu fr m n 0 0
    omega
theorem td_RI_s0 {P : Nat → Nat → Int} {mu fr n t M s : Nat} (ht : t < fr) (hn : fr ≤ n) (h : td_RI P mu fr n t M s) (hz : P t s + td_best P mu fr (n - (t + 1)) (t + 1) (s / 2) = td_best P mu fr (n - t) t s) : td_RI P mu fr n (t + 1) (2 * M) (s / 2) := by
  obtain ⟨h1, h2, C, h3, h4, h5⟩ := h
  have hk : n - t = (n - (t + 1)) + 1 := by omega
  refine ⟨by rw [Nat.pow_succ]; omega, by omega, C + P t s, by omega, fun m hm => ?_, fun m hm => ?_⟩
  · have hb : td_bit fr m t = 0 := by
      unfold td_bit
      rw [if_pos ht]
      omega
    rw [h4 m (by rw [td_div ht]; omega), hk]
    show C + (P t (td_reg mu fr m t s) + td_T P mu fr m (n - (t + 1)) (t + 1) (td_reg mu fr m t s / 2)) = _
    rw [td_reg_0 hb]
    omega
  · exact h5 m (by rw [td_div ht]; omega)
theorem td_RI_s1 {P : Nat → Nat → Int} {mu fr n t M s : Nat} (ht : t < fr) (hn : fr ≤ n) (h : td_RI P mu fr n t M s) (hz : ¬ P t s + td_best P mu fr (n - (t + 1)) (t + 1) (s / 2) = td_best P mu fr (n - t) t s) : td_RI P mu fr n (t + 1) (2 * M + 1) ((2 ^ mu + s) / 2) := by
  obtain ⟨h1, h2, C, h3, h4, h5⟩ := h
  have hk : n - t = (n - (t + 1)) + 1 := by omega
  have hB : td_best P mu fr (n - t) t s = P t (2 ^ mu + s) + td_best P mu fr (n - (t + 1)) (t + 1) ((2 ^ mu + s) / 2) ∧ P t (2 ^ mu + s) + td_best P mu fr (n - (t + 1)) (t + 1) ((2 ^ mu + s) / 2) < P t s + td_best P mu fr (n - (t + 1)) (t + 1) (s / 2) := by
    rw [hk, td_best_s] at hz
    rw [hk, td_best_s]
    by_cases q : t < fr ∧ P t (2 ^ mu + s) + td_best P mu fr (n - (t + 1)) (t + 1) ((2 ^ mu + s) / 2) < P t s + td_best P mu fr (n - (t + 1)) (t + 1) (s / 2)
    · rw [if_pos q]
      exact ⟨rfl, q.2⟩
    · rw [if_neg q] at hz
      exact absurd rfl hz
  have hs2 : (2 ^ mu + s) / 2 < 2 ^ mu := by omega
  refine ⟨by rw [Nat.pow_succ]; omega, hs2, C + P t (2 ^ mu + s), by omega, fun m hm => ?_, fun m hm => ?_⟩
  · have hb : td_bit fr m t = 1 := by
      unfold td_bit
      rw [if_pos ht]
      omega
    rw [h4 m (by rw [td_div ht]; omega), hk]
    show C + (P t (td_reg mu fr m t s) + td_T P mu fr m (n - (t + 1)) (t + 1) (td_reg mu fr m t s / 2)) = _
    rw [td_reg_1 hb]
    omega
  · by_cases hq : m / 2 ^ (fr - t) < M
    · exact h5 m hq
    · have hd := td_div (m := m) ht
      have hb : td_bit fr m t = 0 := by
        unfold td_bit
        rw [if_pos ht]
        omega
      rw [h4 m (by omega), hk]
      show _ < C + (P t (td_reg mu fr m t s) + td_T P mu fr m (n - (t + 1)) (t + 1) (td_reg mu fr m t s / 2))
      rw [td_reg_0 hb]
      have hl := td_low P mu fr m (n - (t + 1)) (t + 1) (s / 2)
      omega
/-- M is the first of the cheapest messages -/
def td_arg (P : Nat → Nat → Int) (mu fr n M : Nat) : Prop := M < 2 ^ fr ∧ (∀ m : Nat, m < 2 ^ fr → td_T P mu fr M n 0 0 ≤ td_T P mu fr m n 0 0) ∧ ∀ m : Nat, m < M → td_T P mu fr M n 0 0 < td_T P mu fr m n 0 0
theorem td_RI_end {P : Nat → Nat → Int} {mu fr n M s : Nat} (hn : fr ≤ n) (h : td_RI P mu fr n fr M s) : td_arg P mu fr n M ∧ td_T P mu fr M n 0 0 = td_best P mu fr n 0 0 := by
  obtain ⟨h1, -, C, h3, h4, h5⟩ := h
  have e : td_T P mu fr M n 0 0 = td_best P mu fr n 0 0 := by
    rw [h4 M (by rw [Nat.sub_self, Nat.pow_zero, Nat.div_one]), td_tail P mu fr M _ _ _ (Nat.le_refl fr), h3]
  refine ⟨⟨h1, fun m _ => ?_, fun m hm => ?_⟩, e⟩
  · rw [e]
    exact td_low P mu fr m n 0 0
  · rw [e]
    exact h5 m (by rw [Nat.sub_self, Nat.pow_zero, Nat.div_one]; exact hm)
theorem td_arg_u {P : Nat → Nat → Int} {mu fr n M N : Nat} (h : td_arg P mu fr n M) (g : td_arg P mu fr n N) : M = N := by
  rcases Nat.lt_trichotomy M N with q | q | q
  · have h1 := g.2.2 M q
    have h2 := h.2.1 N g.1
    omega
  · exact q
  · have h1 := h.2.2 N q
    have h2 := g.2.1 M h.1
    omega
/-- every message below m is tried: B is the first of the cheapest -/
def td_AI (P : Nat → Nat → Int) (mu fr n m B : Nat) : Prop := B < m ∧ (∀ j : Nat, j < m → td_T P mu fr B n 0 0 ≤ td_T P mu fr j n 0 0) ∧ ∀ j : Nat, j < B → td_T P mu fr B n 0 0 < td_T P mu fr j n 0 0
theorem td_AI_1 (P : Nat → Nat → Int) (mu fr n : Nat) : td_AI P mu fr n 1 0 := by
  refine ⟨Nat.one_pos, fun j hj => ?_, fun j hj => absurd hj (Nat.not_lt_zero _)⟩
  rw [show j = 0 by omega]
  exact Int.le_refl _
theorem td_AI_new {P : Nat → Nat → Int} {mu fr n m B : Nat} (h : td_AI P mu fr n m B) (hc : td_T P mu fr m n 0 0 < td_T P mu fr B n 0 0) : td_AI P mu fr n (m + 1) m := by
  obtain ⟨h1, h2, h3⟩ := h
  refine ⟨Nat.lt_succ_self m, fun j hj => ?_, fun j hj => ?_⟩
  · by_cases e : j = m
    · rw [e]
      exact Int.le_refl _
    · have q := h2 j (by omega)
      omega
  · have q := h2 j hj
    omega
theorem td_AI_old {P : Nat → Nat → Int} {mu fr n m B : Nat} (h : td_AI P mu fr n m B) (hc : ¬ td_T P mu fr m n 0 0 < td_T P mu fr B n 0 0) : td_AI P mu fr n (m + 1) B := by
  obtain ⟨h1, h2, h3⟩ := h
  refine ⟨by omega, fun j hj => ?_, h3⟩
  by_cases e : j = m
  · rw [e]
    omega
  · exact h2 j (by omega)
theorem td_AI_end {P : Nat → Nat → Int} {mu fr n B : Nat} (h : td_AI P mu fr n (2 ^ fr) B) : td_arg P mu fr n B := h
/-- bounds -/
def td_bd (P : Nat → Nat → Int) : Prop := ∀ t r : Nat, -65536 ≤ P t r ∧ P t r ≤ 65536
theorem td_best_bd {P : Nat → Nat → Int} (hP : td_bd P) (mu fr : Nat) : ∀ k t s : Nat, -(65536 * (k : Int)) ≤ td_best P mu fr k t s ∧ td_best P mu fr k t s ≤ 65536 * (k : Int)
  | 0, _, _ => by
    show -(65536 * ((0 : Nat) : Int)) ≤ 0 ∧ (0 : Int) ≤ 65536 * ((0 : Nat) : Int)
    omega
  | k + 1, t, s => by
    have h0 := td_best_bd hP mu fr k (t + 1) (s / 2)
    have h1 := td_best_bd hP mu fr k (t + 1) ((2 ^ mu + s) / 2)
    have p0 := hP t s
    have p1 := hP t (2 ^ mu + s)
    unfold td_best
    split
    · omega
    · omega
theorem td_cs_bd {P : Nat → Nat → Int} (hP : td_bd P) (mu fr m : Nat) : ∀ i : Nat, -(65536 * (i : Int)) ≤ td_cs P mu fr m i ∧ td_cs P mu fr m i ≤ 65536 * (i : Int)
  | 0 => by
    show -(65536 * ((0 : Nat) : Int)) ≤ 0 ∧ (0 : Int) ≤ 65536 * ((0 : Nat) : Int)
    omega
  | i + 1 => by
    have h0 := td_cs_bd hP mu fr m i
    have p0 := hP i (td_reg mu fr m i (td_st mu fr m i))
    unfold td_cs
    omega
theorem td_T_bd {P : Nat → Nat → Int} (hP : td_bd P) (mu fr m n : Nat) : -(65536 * (n : Int)) ≤ td_T P mu fr m n 0 0 ∧ td_T P mu fr m n 0 0 ≤ 65536 * (n : Int) := by
  rw [td_T_cs]
  exact td_cs_bd hP mu fr m n
theorem td_T_congr {P P' : Nat → Nat → Int} (mu fr m N : Nat) (h : ∀ t r : Nat, t < N → P t r = P' t r) : ∀ k t s : Nat, t + k ≤ N → td_T P mu fr m k t s = td_T P' mu fr m k t s
  | 0, _, _, _ => rfl
  | k + 1, t, s, hk => by
    unfold td_T
    rw [h t _ (by omega), td_T_congr mu fr m N h k (t + 1) _ (by omega)]
theorem td_arg_congr {P P' : Nat → Nat → Int} {mu fr n M : Nat} (h : ∀ t r : Nat, t < n → P t r = P' t r) (g : td_arg P mu fr n M) : td_arg P' mu fr n M := by
  have e : ∀ m : Nat, td_T P mu fr m n 0 0 = td_T P' mu fr m n 0 0 := fun m => td_T_congr mu fr m n h n 0 0 (by omega)
  obtain ⟨g1, g2, g3⟩ := g
  refine ⟨g1, fun m hm => ?_, fun m hm => ?_⟩
  · rw [← e, ← e]
    exact g2 m hm
  · rw [← e, ← e]
    exact g3 m hm
end
section
/-! NUMBERS: what the bytecode's arithmetic is on Nat and Int. tb_ rows: began as rows of kit/laws/BITS.to-paste -/
def tb_bt (x : Int32) (i : Nat) : Bool := x.toBitVec.getLsbD i
theorem tb_ext {x y : Int32} (h : ∀ i, i < 32 → tb_bt x i = tb_bt y i) : x = y := Int32.toBitVec_inj.mp (BitVec.eq_of_getLsbD_eq (fun i hi => h i hi))
theorem tb_sl : ∀ n, n < 32 → ((nI n &&& 31).toBitVec.smod 32).toNat = n := by decide +kernel
theorem tb_shl (n : Nat) (hn : n < 32) (x : Int32) {i : Nat} (hi : i < 32) : tb_bt (x <<< (nI n &&& 31)) i = (decide (n ≤ i) && tb_bt x (i - n)) := by
  unfold tb_bt
  rw [Int32.toBitVec_shiftLeft]
  show (x.toBitVec <<< ((nI n &&& 31).toBitVec.smod 32).toNat).getLsbD i = _
  rw [tb_sl n hn, BitVec.getLsbD_shiftLeft]
  rcases Nat.lt_or_ge i n with h | h
  · simp [h, Nat.not_le.mpr h]
  · simp [hi, h, Nat.not_lt.mpr h]
theorem tb_sshr (n : Nat) (hn : n < 32) (x : Int32) {i : Nat} (hi : i < 32) : tb_bt (x >>> (nI n &&& 31)) i = if n + i < 32 then tb_bt x (n + i) else tb_bt x 31 := by
  unfold tb_bt
  rw [Int32.toBitVec_shiftRight]
  show (x.toBitVec.sshiftRight ((nI n &&& 31).toBitVec.smod 32).toNat).getLsbD i = _
  rw [tb_sl n hn, BitVec.getLsbD_sshiftRight, BitVec.msb_eq_getLsbD_last]
  simp [hi]
theorem tb_and (a b : Nat) : nI a &&& nI b = nI (a &&& b) := by
  apply Int32.toBitVec_inj.1
  show BitVec.ofNat 32 a &&& BitVec.ofNat 32 b = BitVec.ofNat 32 (a &&& b)
  apply BitVec.eq_of_getLsbD_eq
  intro i hi
  simp [hi]
theorem tb_or (a b : Nat) : nI a ||| nI b = nI (a ||| b) := by
  apply Int32.toBitVec_inj.1
  show BitVec.ofNat 32 a ||| BitVec.ofNat 32 b = BitVec.ofNat 32 (a ||| b)
  apply BitVec.eq_of_getLsbD_eq
  intro i hi
  simp [hi]
/-- a short, by the cast and by the two shifts -/
def td_sh (x : Int32) : Int32 := x.toInt16.toInt32
theorem td_sh_shift (x : Int32) : (x <<< (nI 16 &&& 31)) >>> (nI 16 &&& 31) = td_sh x := by
  apply tb_ext
  intro i hi
  rw [tb_sshr 16 (by decide) _ hi]
  have hR : tb_bt (td_sh x) i = if i < 16 then tb_bt x i else tb_bt x 15 := by
    show (BitVec.signExtend 32 (BitVec.signExtend 16 x.toBitVec)).getLsbD i = _
    rw [BitVec.getLsbD_signExtend, BitVec.msb_eq_getLsbD_last, BitVec.getLsbD_signExtend, BitVec.getLsbD_signExtend]
    by_cases h : i < 16
    · simp [tb_bt, h, hi, show i < 32 by omega]
    · simp [tb_bt, h, hi]
  rw [hR]
  by_cases h : i < 16
  · rw [if_pos (by omega), if_pos h, tb_shl 16 (by decide) x (by omega), show 16 + i - 16 = i by omega, decide_eq_true (by omega), Bool.true_and]
  · rw [if_neg (by omega), if_neg h, tb_shl 16 (by decide) x (by decide), decide_eq_true (by decide), Bool.true_and]
def td_short (f : Nat → Int32) : Prop := ∀ i : Nat, -32768 ≤ (f i).toInt ∧ (f i).toInt ≤ 32767
theorem td_sh_in (x : Int32) : -32768 ≤ (td_sh x).toInt ∧ (td_sh x).toInt ≤ 32767 := by
  unfold td_sh
  rw [Int16.toInt_toInt32]
  have h1 := Int16.le_toInt x.toInt16
  have h2 := Int16.toInt_lt x.toInt16
  omega
theorem td_short_0 : td_short (fun _ => 0) := fun _ => (by decide : -32768 ≤ (0 : Int32).toInt ∧ (0 : Int32).toInt ≤ 32767)
theorem td_short_u {f : Nat → Int32} (h : td_short f) (k : Nat) (x : Int32) : td_short (upd f k (td_sh x)) := by
  intro i
  unfold upd
  split
  · exact td_sh_in x
  · exact h i
theorem td_nar (x : Int32) : vp_nar .short (td_sh x) = td_sh x := pk_vs x
theorem tn_orK {k a b : Nat} (hb : b < 2 ^ k) : nI (a * 2 ^ k) ||| nI b = nI (a * 2 ^ k + b) := by
  rw [tb_or, ← Nat.shiftLeft_eq, Nat.shiftLeft_add_eq_or_of_lt hb]
theorem tn_shl {a k : Nat} (hk : k < 32) (h : a * 2 ^ k < 2 ^ 32) : nI a <<< (nI k &&& 31) = nI (a * 2 ^ k) := pk_shlN _ k (tb_sl k hk) h
theorem tn_shr {a k : Nat} (ha : a < 2 ^ 31) (hk : k < 32) : nI a >>> (nI k &&& 31) = nI (a / 2 ^ k) := pk_shrN ha _ k (tb_sl k hk)
theorem tn_half {a : Nat} (ha : a < 2 ^ 31) : nI a >>> (nI 1 &&& 31) = nI (a / 2) := tn_shr (k := 1) ha (by decide)
theorem tn_p2 {mu : Nat} (h : mu ≤ 5) : 2 ^ mu ≤ 32 := Nat.pow_le_pow_right (n := 2) (by decide) h
theorem tn_p11 {fr : Nat} (h : fr ≤ 12) : 2 ^ fr ≤ 4096 := Nat.pow_le_pow_right (n := 2) (by decide) h
theorem tn_regS {mu b s : Nat} (hmu : mu ≤ 5) (hb : b < 2) (hs : s < 2 ^ mu) : b * 2 ^ mu + s < 64 := by
  have h1 := tn_p2 hmu
  have h2 : b * 2 ^ mu ≤ 1 * 2 ^ mu := Nat.mul_le_mul_right _ (by omega)
  omega
/-- letter << memory | old -/
theorem tn_reg {mu b s : Nat} (hmu : mu ≤ 5) (hb : b < 2) (hs : s < 2 ^ mu) : nI b <<< (nI mu &&& 31) ||| nI s = nI (b * 2 ^ mu + s) := by
  have h1 := tn_p2 hmu
  have h2 : b * 2 ^ mu ≤ 1 * 2 ^ mu := Nat.mul_le_mul_right _ (by omega)
  rw [tn_shl (by omega) (by omega), tn_orK hs]
/-- message << 1 | letter -/
theorem tn_msg {M b : Nat} (hM : M < 2 ^ 30) (hb : b < 2) : nI M <<< (nI 1 &&& 31) ||| nI b = nI (2 * M + b) := by
  rw [tn_shl (k := 1) (by decide) (by omega), tn_orK (k := 1) hb, show M * 2 ^ 1 + b = 2 * M + b by omega]
theorem tn_1shl {k : Nat} (hk : k ≤ 12) : nI 1 <<< (nI k &&& 31) = nI (2 ^ k) := by
  have h := tn_p11 hk
  rw [tn_shl (by omega) (by omega), Nat.one_mul]
/-- m >> d & 1 -/
theorem tn_bit {m d : Nat} (hm : m < 2 ^ 31) (hd : d < 32) : nI m >>> (nI d &&& 31) &&& nI 1 = nI (m / 2 ^ d % 2) := by
  rw [tn_shr hm hd]
  exact pk_andN (Nat.lt_of_le_of_lt (Nat.div_le_self _ _) (by omega)) 1 (by decide)
theorem tn_isOdd : ∀ k, k < 64 → (nI 27030 >>> (((nI k ^^^ (nI k >>> (nI 4 &&& 31))) &&& nI 15) &&& 31)) &&& nI 1 = nI (td_par 6 k) := by decide +kernel
theorem tn_xor1 {b k : Nat} (hb : b < 2) (hk : k < 2 ^ 31) : nI b ^^^ (nI k &&& nI 1) = nI ((b + k % 2) % 2) := by
  have e : nI k &&& nI 1 = nI (k % 2) := pk_andN (by omega) 1 (by decide)
  rw [e]
  have h2 : k % 2 < 2 := Nat.mod_lt _ (by decide)
  exact (by decide +kernel : ∀ b, b < 2 → ∀ c, c < 2 → nI b ^^^ nI c = nI ((b + c) % 2)) b hb _ h2
theorem tn_ush1 {k : Nat} (hk : k < 2 ^ 31) : ((nI k).toUInt32 >>> ((nI 1).toUInt32 &&& Int32.toUInt32 31)).toInt32 = nI (k / 2) := pk_ushrN (k := 1) (by omega) _ (by decide)
theorem tn_and64 {r a : Nat} (h : r < 64) : r &&& a < 64 := Nat.lt_of_le_of_lt Nat.and_le_left h
/-- signed numbers -/
def tn_sm (x : Int) : Prop := -1000000 ≤ x ∧ x ≤ 1000000
theorem tn_toI {x : Int} (h : tn_sm x) : (Int32.ofInt x).toInt = x := by
  obtain ⟨h1, h2⟩ := h
  exact Int32.toInt_ofInt_of_le (by omega) (by omega)
theorem tn_ltI {x y : Int} (hx : tn_sm x) (hy : tn_sm y) : Int32.ofInt x < Int32.ofInt y ↔ x < y := by
  rw [Int32.lt_iff_toInt_lt, tn_toI hx, tn_toI hy]
theorem tn_leI {x y : Int} (hx : tn_sm x) (hy : tn_sm y) : Int32.ofInt x ≤ Int32.ofInt y ↔ x ≤ y := by
  rw [Int32.le_iff_toInt_le, tn_toI hx, tn_toI hy]
theorem tn_eqI {x y : Int} (hx : tn_sm x) (hy : tn_sm y) : Int32.ofInt x = Int32.ofInt y ↔ x = y := by
  rw [← Int32.toInt_inj, tn_toI hx, tn_toI hy]
def td_p32 (a b : Nat) (f g : Nat → Int32) (t r : Nat) : Int32 := (if td_par 6 (r &&& a) = 1 then f t else 0) + (if td_par 6 (r &&& b) = 1 then g t else 0)
/-- the costs as numbers: of the two arrays of shorts -/
def td_P (a b : Nat) (f g : Nat → Int32) : Nat → Nat → Int := td_pay a b (fun i => (f i).toInt) (fun i => (g i).toInt)
theorem td_p32_P (a b : Nat) (f g : Nat → Int32) (t r : Nat) : td_p32 a b f g t r = Int32.ofInt (td_P a b f g t r) := by
  unfold td_p32 td_P td_pay
  rw [Int32.ofInt_add]
  congr 1
  · split
    · rw [Int32.ofInt_toInt]
    · rfl
  · split
    · rw [Int32.ofInt_toInt]
    · rfl
theorem td_P_bd {a b : Nat} {f g : Nat → Int32} (hf : td_short f) (hg : td_short g) : td_bd (td_P a b f g) := by
  intro t r
  have h1 := hf t
  have h2 := hg t
  unfold td_P td_pay
  dsimp only
  split <;> split <;> omega
theorem td_P_congr {a b n : Nat} {f g f' g' : Nat → Int32} (hf : ∀ i, i < n → f i = f' i) (hg : ∀ i, i < n → g i = g' i) : ∀ t r : Nat, t < n → td_P a b f g t r = td_P a b f' g' t r := by
  intro t r ht
  unfold td_P td_pay
  dsimp only
  rw [hf t ht, hg t ht]
/-- shape's numbers -/
def td_mem (m : Int32) : Nat := 1 + m.toBitVec.toNat % 2 ^ 31 % 5
def td_tap (m a : Int32) : Nat := a.toBitVec.toNat % 2 ^ (td_mem m + 1)
theorem td_mem_in (m : Int32) : 1 ≤ td_mem m ∧ td_mem m ≤ 5 := by
  unfold td_mem
  have h : m.toBitVec.toNat % 2 ^ 31 % 5 < 5 := Nat.mod_lt _ (by decide)
  omega
theorem td_mem_c (m : Int32) : nI 1 + ((m &&& 2147483647) - (m &&& 2147483647) / nI 5 * nI 5) = nI (td_mem m) := by
  have e : m &&& 2147483647 = nI (m.toBitVec.toNat % 2 ^ 31) := pk_and m 31 (by decide +kernel)
  rw [e, pk_rem (Nat.mod_lt _ (by decide)) (by decide) (by decide), nI_add]
  rfl
theorem td_mask_c {mu : Nat} (h : mu ≤ 5) : nI 2 <<< (nI mu &&& 31) - nI 1 = nI (2 ^ (mu + 1) - 1) := by
  have h1 := tn_p2 h
  have h0 := Nat.two_pow_pos mu
  rw [tn_shl (by omega) (by omega), pk_sub (by omega), Nat.pow_succ, Nat.mul_comm]
theorem td_tap_c (m a : Int32) : a &&& nI (2 ^ (td_mem m + 1) - 1) = nI (td_tap m a) := by
  have h1 := tn_p2 (td_mem_in m).2
  have h0 := Nat.two_pow_pos (td_mem m)
  have h2 : 2 ^ (td_mem m + 1) = 2 * 2 ^ td_mem m := by rw [Nat.pow_succ, Nat.mul_comm]
  exact pk_and a (td_mem m + 1) (pk_tn (by omega))
end
section
/-! HELP: the two objects' pictures, starts and ends of contracts, calls that write nothing -/
abbrev td_cl : List vw_C := [(RX0, TX0, 8), (RX1, TX1, 6)]
/-- a TrellisDesk: memory mu, taps a b, n pairs, the cost dc; first f, second g, rest r -/
abbrev wX (h h1 h2 h3 : Nat) (c1 c2 c3 : ClassId) (mu a b n : Nat) (dc : Int32) (f g r : Nat → Int32) : va_W := [(h, .inr (0, [.int (nI mu), .int (nI a), .int (nI b), .ref h1, .ref h2, .int (nI n), .int dc, .ref h3])), (h1, .inl (c1, 12, .inl f)), (h2, .inl (c2, 12, .inl g)), (h3, .inl (c3, 416, .inl r))]
abbrev kX (c1 c2 c3 : ClassId) : List (ClassId × FieldType) := [(c1, .short), (c2, .short), (c3, .int)]
/-- a TrellisDeskModel: memory mu, n pairs, told, message; taps w, cost q -/
abbrev wY (k k1 k2 : Nat) (d1 d2 : ClassId) (mu n : Nat) (told msg : Int32) (w q : Nat → Int32) : va_W := [(k, .inr (1, [.ref k1, .int (nI mu), .ref k2, .int (nI n), .int told, .int msg])), (k1, .inl (d1, 2, .inl w)), (k2, .inl (d2, 48, .inl q))]
abbrev kY (d1 d2 : ClassId) : List (ClassId × FieldType) := [(d1, .int), (d2, .int)]
/-- the start of a method that writes nothing -/
abbrev ro_P (av : List Value) (D : va_G) (ws : va_W) (tys : List (ClassId × FieldType)) : Array Value → State → Prop := va_Pc av (fun U => va_P D td_cl ws U.heap ∧ va_K D td_cl tys U)
theorem ro_blind {av : List Value} {D : va_G} {ws : va_W} {tys : List (ClassId × FieldType)} : FrameBlind (ro_P av D ws tys) := fun a U g mk q => ⟨q.1, q.2.1, va_K.moved (u := U) (U := U.calling g mk a) (Vm.Alike.refl U.vm) q.2.2⟩
theorem ro_V {s : State} {H : Heap} {D : va_G} {ws : va_W} {tys : List (ClassId × FieldType)} {C : String} {T : u_T} {N ci q0 b : Nat} {fs : List Value} {As : List Value} (hK : va_K D td_cl tys s) (hP : va_P D td_cl ws H) (hc : td_cl[ci]? = some (C, T, N)) (he : ws[q0]? = some (b, .inr (ci, fs))) : PreV s H C b (ro_P (.ref b :: As) D ws tys) As := ⟨ro_blind, va_recv hK hP hc he, fun _ hU hW => ⟨rfl, by rw [hU]; exact hP, va_K.moved hW.alike hK⟩⟩
/-- the start of a method that writes its own cells -/
abbrev mu_P (av : List Value) (D : va_G) (ws : va_W) (tys : List (ClassId × FieldType)) (sz : Nat) : Array Value → State → Prop := va_Pc av (fun U => U.heap.size = sz ∧ va_P D td_cl ws U.heap ∧ va_K D td_cl tys U ∧ va_D (fun _ => True) ws)
theorem mu_blind {av : List Value} {D : va_G} {ws : va_W} {tys : List (ClassId × FieldType)} {sz : Nat} : FrameBlind (mu_P av D ws tys sz) := fun a U g mk q => ⟨q.1, q.2.1, q.2.2.1, va_K.moved (u := U) (U := U.calling g mk a) (Vm.Alike.refl U.vm) q.2.2.2.1, q.2.2.2.2⟩
theorem mu_V {s : State} {H : Heap} {D : va_G} {ws : va_W} {tys : List (ClassId × FieldType)} {C : String} {T : u_T} {N ci q0 b : Nat} {fs : List Value} {As : List Value} {A : Nat → Prop} (hK : va_K D td_cl tys s) (hP : va_P D td_cl ws H) (hD : va_D A ws) (hc : td_cl[ci]? = some (C, T, N)) (he : ws[q0]? = some (b, .inr (ci, fs))) : PreV s H C b (mu_P (.ref b :: As) D ws tys H.size) As := ⟨mu_blind, va_recv hK hP hc he, fun _ hU hW => ⟨rfl, by rw [hU], by rw [hU]; exact hP, va_K.moved hW.alike hK, hD.weaken (fun _ _ _ _ => trivial)⟩⟩
theorem mu_I {s : State} {H : Heap} {D : va_G} {ws : va_W} {tys : List (ClassId × FieldType)} {As : List Value} {A : Nat → Prop} (hK : va_K D td_cl tys s) (hP : va_P D td_cl ws H) (hD : va_D A ws) : PreS s H (mu_P As D ws tys H.size) As := ⟨mu_blind, fun _ hU hW => ⟨rfl, by rw [hU], by rw [hU]; exact hP, va_K.moved hW.alike hK, hD.weaken (fun _ _ _ _ => trivial)⟩⟩
/-- its end -/
abbrev mu_B {S : Type} (D : va_G) (ws : S → va_W) (tys : S → List (ClassId × FieldType)) (A : Nat → Prop) : S → State → Prop := fun u t => va_P D td_cl (ws u) t.heap ∧ va_K D td_cl (tys u) t ∧ va_D A (ws u)
section TW
variable {p : Program} {l : Launch} {e : Env} {R : Room} {s : State} {m : MethodId} {args : Array Value} {below : List Frame} {meth : Method} {c : Code} {H : Heap} {locs : List Loc} {cells slots : Nat} {Q : State → Prop} {pc : Nat} {ls : Array Slot} {rest st0 : List Value}
/-- another name for the number on top -/
theorem tw_top {x y : Int32} (h : x = y) (k : W p l e R s m args below meth c H locs cells slots Q (F0 m pc ls (.int y :: rest))) : W p l e R s m args below meth c H locs cells slots Q (F0 m pc ls (.int x :: rest)) := by
  subst h
  exact k
/-- two ways that come together at pcj, with A on top -/
theorem tw_join {pcj : Nat} {lsj : Array Slot} {stj : List Value} {A : Int32} (k : W p l e R s m args below meth c H locs cells slots Q (F0 m pcj lsj (.int A :: stj))) (h : (∀ v : Int32, v = A → W p l e R s m args below meth c H locs cells slots Q (F0 m pcj lsj (.int v :: stj))) → W p l e R s m args below meth c H locs cells slots Q (F0 m pc ls rest)) : W p l e R s m args below meth c H locs cells slots Q (F0 m pc ls rest) := h (fun v hv => by subst hv; exact k)
/-- behind a call that writes nothing -/
theorem tw_callR {r : Int32} {a : Array Value} (hr : CallRun p l e R s m args below meth c H locs cells slots 0 0 (F0 m pc ls st0) rest (QcRead r a) (fun _ => False)) (kk : W p l e R s m args below meth c H locs cells slots Q (F0 m (pc + 3) ls (.int r :: rest))) : W p l e R s m args below meth c H locs cells slots Q (F0 m pc ls st0) := W.callR hr kk
/-- the end of a method that writes nothing -/
theorem tw_iret {cc : ByteArray} {v r : Int32} (hx : p.tables.exec = Jvm.exec) (hb : c.code = cc) (hr : meth.sig.returnType = some .int) (hlocks : meth.locks = false) (hv : v = r) (hd : decode cc pc = .ok (.ireturn, 1)) : W p l e R s m args below meth c s.heap [] 0 0 (MQ below (QcRead r) args s 0 0 (fun _ => False)) (F0 m pc ls [.int v]) :=
  W.iret hx hb hr (fun t ht _ => ⟨by rw [hv], ht⟩) (fun q h => by cases h) hd
theorem tw_zret {cc : ByteArray} {v r : Int32} (hx : p.tables.exec = Jvm.exec) (hb : c.code = cc) (hr : meth.sig.returnType = some .boolean) (hlocks : meth.locks = false) (hn : narrow .boolean (.int v) = .int v) (hv : v = r) (hd : decode cc pc = .ok (.ireturn, 1)) : W p l e R s m args below meth c s.heap [] 0 0 (MQ below (QcRead r) args s 0 0 (fun _ => False)) (F0 m pc ls [.int v]) :=
  W.zret hx hb hr hn (fun t ht _ => ⟨by rw [hv], ht⟩) (fun q h => by cases h) hd
end TW
end
section
set_option maxHeartbeats 4000000 in
set_option maxRecDepth 100000 in
/-- isOdd: the parity of six bits -/
theorem mt_isOdd (l : Launch) {k : Nat} (hk : k < 64) : Met l yX0_isOdd (ws_ yX0_isOdd cX0_isOdd 1 (some .boolean)) ({ frames := 0, cells := 0, slots := 0, locals := 0 }) (fun v _ => v = ([.int (nI k)] : List Value).toArray) (QcRead (nI (td_par 6 k))) 0 0 (fun _ => False) := by
  refine Met.ofW (cc := cX0_isOdd) (maxL := 1) (ret := (some .boolean)) (by decide) rfl ?_
  intro p e s m args below meth c s₁ B hml hv
  obtain rfl := hv
  have hx := B.exec
  have hb := B.bytes
  have hr := B.returns
  have hts := atoms_spec (ws := ws_ yX0_isOdd cX0_isOdd 1 (some .boolean)) B.pre
  have hts : ∀ w ∈ lw_all, w.before _ s = true := fun w h => hts w (List.mem_cons_of_mem _ h)
  have hown : s.vm.findClass RX0 = some m.cls := findClass_of_methodNamed B.named
  have hlocks := B.notSynchronized
  have hl := lv_entry ([.int (nI k)]) (n := 1) (Nat.le_of_ble_eq_true rfl)
  rw [lg_entry_eq]
  generalize (lg_sl ([.int (nI k)]) ++ List.replicate (1 - (lg_sl ([.int (nI k)])).length) Slot.unset).toArray = ls at hl ⊢
  have hl : lv_has ls 1 [(0, .int (nI k))] := hl
  refine lv_sipush (v := nI 27030) hx hb dX0_isOdd_0 (by decide) ?_
  refine lv_iload_n hx hb dX0_isOdd_3 rfl (lv_at hl 0 rfl) ?_
  refine lv_iload_n hx hb dX0_isOdd_4 rfl (lv_at hl 0 rfl) ?_
  refine lv_iconst (v := nI 4) hx hb dX0_isOdd_5 (by decide) ?_
  refine lv_ishr hx hb dX0_isOdd_6 ?_
  refine lv_ixor hx hb dX0_isOdd_7 ?_
  refine lv_bipush (v := nI 15) hx hb dX0_isOdd_8 (by decide) ?_
  refine lv_iand hx hb dX0_isOdd_10 ?_
  refine lv_ishr hx hb dX0_isOdd_11 ?_
  refine lv_iconst (v := nI 1) hx hb dX0_isOdd_12 (by decide) ?_
  refine lv_iand hx hb dX0_isOdd_13 ?_
  refine tw_top (y := nI (td_par 6 k)) (tn_isOdd k hk) ?_
  refine lv_iconst (v := nI 1) hx hb dX0_isOdd_14 (by decide) ?_
  refine lv_icmp_ne (tgt := 22) hx hb dX0_isOdd_15 (by decide) (fun hc => ?_) (fun hc => ?_)
  · have h0 : td_par 6 k = 0 := by
      have h1 := td_par_lt 6 k
      have h2 : td_par 6 k ≠ 1 := fun z => hc (by rw [z])
      omega
    refine lv_iconst (v := nI 0) hx hb dX0_isOdd_22 (by decide) ?_
    exact tw_zret hx hb hr hlocks rfl (by rw [h0]) dX0_isOdd_23
  · refine lv_iconst (v := nI 1) hx hb dX0_isOdd_18 (by decide) ?_
    refine lv_goto (tgt := 23) hx hb dX0_isOdd_19 (by decide) ?_
    exact tw_zret hx hb hr hlocks rfl hc.symm dX0_isOdd_23
set_option maxHeartbeats 4000000 in
set_option maxRecDepth 100000 in
/-- pays: what register x costs at letter t -/
theorem mt_pays (l : Launch) (D : va_G) {h h1 h2 h3 : Nat} {c1 c2 c3 : ClassId} {mu a b n : Nat} {dc : Int32} {f g r : Nat → Int32} {t x : Nat} (ht : t < 12) (hx0 : x < 64) : Met l yX0_pays (ws_ yX0_pays cX0_pays 3 (some .int)) ({ frames := 1, cells := 0, slots := 0, locals := 20 }) (ro_P [.ref h, .int (nI t), .int (nI x)] D (wX h h1 h2 h3 c1 c2 c3 mu a b n dc f g r) (kX c1 c2 c3)) (QcRead (td_p32 a b f g t x)) 0 0 (fun _ => False) := by
  refine Met.ofW (cc := cX0_pays) (maxL := 3) (ret := (some .int)) (by decide) rfl ?_
  intro p e s m args below meth c s₁ B hml hv
  obtain ⟨rfl, hP, hK⟩ := hv
  have hx := B.exec
  have hb := B.bytes
  have hr := B.returns
  have hts := atoms_spec (ws := ws_ yX0_pays cX0_pays 3 (some .int)) B.pre
  have hts : ∀ w ∈ lw_all, w.before _ s = true := fun w h => hts w (List.mem_cons_of_mem _ h)
  have hown : s.vm.findClass RX0 = some m.cls := findClass_of_methodNamed B.named
  have hlocks := B.notSynchronized
  have hl := lv_entry ([.ref h, .int (nI t), .int (nI x)]) (n := 3) (Nat.le_of_ble_eq_true rfl)
  rw [lg_entry_eq]
  generalize (lg_sl ([.ref h, .int (nI t), .int (nI x)]) ++ List.replicate (3 - (lg_sl ([.ref h, .int (nI t), .int (nI x)])).length) Slot.unset).toArray = ls at hl ⊢
  have hl : lv_has ls 3 [(0, .ref h), (1, .int (nI t)), (2, .int (nI x))] := hl
  refine lv_iload_n hx hb dX0_pays_0 rfl (lv_at hl 2 rfl) ?_
  refine lv_aload_n hx hb dX0_pays_1 rfl (lv_at hl 0 rfl) ?_
  refine va_get (ci := 0) (v := .int (nI a)) (C := RX0) (T := TX0) (N := 8) hx hb hts in_X0 hown hK hP 0 rfl rfl 1 (by decide) (hts _ q14) (fun _ h9 => h9) rfl dX0_pays_2 ?_
  refine lv_iand hx hb dX0_pays_5 ?_
  refine tw_top (y := nI (x &&& a)) (tb_and x a) ?_
  refine tw_callR (W.runS (As := [.int (nI (x &&& a))]) (rest := []) ⟨hx, hb, hml, hown, hts⟩ (mt_isOdd l (k := x &&& a) (tn_and64 hx0)) (va_cwS 1 hts (lw_S q61 q62 q3 q63) rfl rfl rfl (by decide +kernel) ⟨Nat.le_of_ble_eq_true rfl, Nat.le_of_ble_eq_true rfl⟩) preEq rfl rfl hl.1 rfl (lv_room (Nat.le_of_ble_eq_true rfl)) dX0_pays_6 ⟨Nat.le_of_ble_eq_true rfl, Nat.le_of_ble_eq_true rfl⟩) ?_
  refine tw_join (pcj := 22) (lsj := ls) (stj := []) (A := if td_par 6 (x &&& a) = 1 then f t else 0) ?_ (fun j => ?_)
  rotate_left
  · refine lv_if_eq (tgt := 21) hx hb dX0_pays_9 (by decide) (fun hc => ?_) (fun hc => ?_)
    · refine lv_iconst (v := 0) hx hb dX0_pays_21 (by decide) ?_
      exact j _ (if_neg (fun z => absurd (hc.symm.trans (congrArg nI z)) (by decide))).symm
    · refine lv_aload_n hx hb dX0_pays_12 rfl (lv_at hl 0 rfl) ?_
      refine va_get (ci := 0) (v := .ref h1) (C := RX0) (T := TX0) (N := 8) hx hb hts in_X0 hown hK hP 0 rfl rfl 3 (by decide) (hts _ q16) (fun _ h9 => h9) rfl dX0_pays_13 ?_
      refine lv_iload_n hx hb dX0_pays_16 rfl (lv_at hl 1 rfl) ?_
      refine va_sald hx hb hK hP 1 0 rfl rfl (pk_in t 12 ht) dX0_pays_17 ?_
      refine tw_top (y := f t) (congrArg f (nI_clamp (by omega))) ?_
      refine lv_goto (tgt := 22) hx hb dX0_pays_18 (by decide) ?_
      have h1 : td_par 6 (x &&& a) = 1 := by
        have h2 := td_par_lt 6 (x &&& a)
        have h3 : td_par 6 (x &&& a) ≠ 0 := fun z => hc (by rw [z]; rfl)
        omega
      exact j _ (if_pos h1).symm
  refine lv_iload_n hx hb dX0_pays_22 rfl (lv_at hl 2 rfl) ?_
  refine lv_aload_n hx hb dX0_pays_23 rfl (lv_at hl 0 rfl) ?_
  refine va_get (ci := 0) (v := .int (nI b)) (C := RX0) (T := TX0) (N := 8) hx hb hts in_X0 hown hK hP 0 rfl rfl 2 (by decide) (hts _ q15) (fun _ h9 => h9) rfl dX0_pays_24 ?_
  refine lv_iand hx hb dX0_pays_27 ?_
  refine tw_top (y := nI (x &&& b)) (tb_and x b) ?_
  refine tw_callR (W.runS (As := [.int (nI (x &&& b))]) (rest := [.int (if td_par 6 (x &&& a) = 1 then f t else 0)]) ⟨hx, hb, hml, hown, hts⟩ (mt_isOdd l (k := x &&& b) (tn_and64 hx0)) (va_cwS 1 hts (lw_S q61 q62 q3 q63) rfl rfl rfl (by decide +kernel) ⟨Nat.le_of_ble_eq_true rfl, Nat.le_of_ble_eq_true rfl⟩) preEq rfl rfl hl.1 rfl (lv_room (Nat.le_of_ble_eq_true rfl)) dX0_pays_28 ⟨Nat.le_of_ble_eq_true rfl, Nat.le_of_ble_eq_true rfl⟩) ?_
  refine tw_join (pcj := 44) (lsj := ls) (stj := [.int (if td_par 6 (x &&& a) = 1 then f t else 0)]) (A := if td_par 6 (x &&& b) = 1 then g t else 0) ?_ (fun j => ?_)
  rotate_left
  · refine lv_if_eq (tgt := 43) hx hb dX0_pays_31 (by decide) (fun hc => ?_) (fun hc => ?_)
    · refine lv_iconst (v := 0) hx hb dX0_pays_43 (by decide) ?_
      exact j _ (if_neg (fun z => absurd (hc.symm.trans (congrArg nI z)) (by decide))).symm
    · refine lv_aload_n hx hb dX0_pays_34 rfl (lv_at hl 0 rfl) ?_
      refine va_get (ci := 0) (v := .ref h2) (C := RX0) (T := TX0) (N := 8) hx hb hts in_X0 hown hK hP 0 rfl rfl 4 (by decide) (hts _ q17) (fun _ h9 => h9) rfl dX0_pays_35 ?_
      refine lv_iload_n hx hb dX0_pays_38 rfl (lv_at hl 1 rfl) ?_
      refine va_sald hx hb hK hP 2 1 rfl rfl (pk_in t 12 ht) dX0_pays_39 ?_
      refine tw_top (y := g t) (congrArg g (nI_clamp (by omega))) ?_
      refine lv_goto (tgt := 44) hx hb dX0_pays_40 (by decide) ?_
      have h1 : td_par 6 (x &&& b) = 1 := by
        have h2 := td_par_lt 6 (x &&& b)
        have h3 : td_par 6 (x &&& b) ≠ 0 := fun z => hc (by rw [z]; rfl)
        omega
      exact j _ (if_pos h1).symm
  refine lv_iadd hx hb dX0_pays_44 ?_
  exact tw_iret hx hb hr hlocks rfl dX0_pays_45
set_option maxHeartbeats 4000000 in
set_option maxRecDepth 100000 in
/-- from: a letter and the best of all behind it -/
theorem mt_from (l : Launch) (D : va_G) {h h1 h2 h3 : Nat} {c1 c2 c3 : ClassId} {mu a b n : Nat} {dc : Int32} {f g r : Nat → Int32} {t o lt x : Nat} (ht : t < 12) (hmu : mu ≤ 5) (ho : o < 2 ^ mu) (hlt : lt < 2) (hxx : lt * 2 ^ mu + o = x) : Met l yX0_from (ws_ yX0_from cX0_from 5 (some .int)) ({ frames := 2, cells := 0, slots := 0, locals := 42 }) (ro_P [.ref h, .int (nI t), .int (nI o), .int (nI lt)] D (wX h h1 h2 h3 c1 c2 c3 mu a b n dc f g r) (kX c1 c2 c3)) (QcRead (td_p32 a b f g t x + r ((t + 1) * 32 + x / 2))) 0 0 (fun _ => False) := by
  refine Met.ofW (cc := cX0_from) (maxL := 5) (ret := (some .int)) (by decide) rfl ?_
  intro p e s m args below meth c s₁ B hml hv
  obtain ⟨rfl, hP, hK⟩ := hv
  have hx := B.exec
  have hb := B.bytes
  have hr := B.returns
  have hts := atoms_spec (ws := ws_ yX0_from cX0_from 5 (some .int)) B.pre
  have hts : ∀ w ∈ lw_all, w.before _ s = true := fun w h => hts w (List.mem_cons_of_mem _ h)
  have hown : s.vm.findClass RX0 = some m.cls := findClass_of_methodNamed B.named
  have hlocks := B.notSynchronized
  have hl := lv_entry ([.ref h, .int (nI t), .int (nI o), .int (nI lt)]) (n := 5) (Nat.le_of_ble_eq_true rfl)
  rw [lg_entry_eq]
  generalize (lg_sl ([.ref h, .int (nI t), .int (nI o), .int (nI lt)]) ++ List.replicate (5 - (lg_sl ([.ref h, .int (nI t), .int (nI o), .int (nI lt)])).length) Slot.unset).toArray = ls at hl ⊢
  have hl : lv_has ls 5 [(0, .ref h), (1, .int (nI t)), (2, .int (nI o)), (3, .int (nI lt))] := hl
  have hx0 : x < 64 := by rw [← hxx]; exact tn_regS hmu hlt ho
  refine lv_iload_n hx hb dX0_from_0 rfl (lv_at hl 3 rfl) ?_
  refine lv_aload_n hx hb dX0_from_1 rfl (lv_at hl 0 rfl) ?_
  refine va_get (ci := 0) (v := .int (nI mu)) (C := RX0) (T := TX0) (N := 8) hx hb hts in_X0 hown hK hP 0 rfl rfl 0 (by decide) (hts _ q13) (fun _ h9 => h9) rfl dX0_from_2 ?_
  refine lv_ishl hx hb dX0_from_5 ?_
  refine lv_iload_n hx hb dX0_from_6 rfl (lv_at hl 2 rfl) ?_
  refine lv_ior hx hb dX0_from_7 ?_
  refine tw_top (y := nI x) (by rw [tn_reg hmu hlt ho, hxx]) ?_
  refine lv_istore (lv' := [(4, .int (nI x)), (0, .ref h), (1, .int (nI t)), (2, .int (nI o)), (3, .int (nI lt))]) hx hb dX0_from_8 hl (by decide) rfl (fun ls hl => ?_)
  refine lv_aload_n hx hb dX0_from_10 rfl (lv_at hl 1 rfl) ?_
  refine lv_iload_n hx hb dX0_from_11 rfl (lv_at hl 2 rfl) ?_
  refine lv_iload hx hb dX0_from_12 (lv_at hl 0 rfl) ?_
  refine tw_callR (W.runV (As := [.int (nI t), .int (nI x)]) (rest := []) ⟨hx, hb, hml, hown, hts⟩ (mt_pays l D (t := t) (x := x) ht hx0) (cwV 2 hts (lw_V q57 q59 qs1 q3 q60) rfl rfl rfl (by decide +kernel) ⟨Nat.le_of_ble_eq_true rfl, Nat.le_of_ble_eq_true rfl⟩) (ro_V (ci := 0) (q0 := 0) hK hP rfl rfl) rfl rfl hl.1 rfl (lv_room (Nat.le_of_ble_eq_true rfl)) dX0_from_14 ⟨Nat.le_of_ble_eq_true rfl, Nat.le_of_ble_eq_true rfl⟩) ?_
  refine lv_aload_n hx hb dX0_from_17 rfl (lv_at hl 1 rfl) ?_
  refine va_get (ci := 0) (v := .ref h3) (C := RX0) (T := TX0) (N := 8) hx hb hts in_X0 hown hK hP 0 rfl rfl 7 (by decide) (hts _ q20) (fun _ h9 => h9) rfl dX0_from_18 ?_
  refine lv_iload_n hx hb dX0_from_21 rfl (lv_at hl 2 rfl) ?_
  refine lv_iconst (v := nI 1) hx hb dX0_from_22 (by decide) ?_
  refine lv_iadd hx hb dX0_from_23 ?_
  refine tw_top (y := nI (t + 1)) (nI_add t 1) ?_
  refine lv_bipush (v := nI 32) hx hb dX0_from_24 (by decide) ?_
  refine lv_imul hx hb dX0_from_26 ?_
  refine tw_top (y := nI ((t + 1) * 32)) (pk_mul (t + 1) 32) ?_
  refine lv_iload hx hb dX0_from_27 (lv_at hl 0 rfl) ?_
  refine lv_iconst (v := nI 1) hx hb dX0_from_29 (by decide) ?_
  refine lv_ishr hx hb dX0_from_30 ?_
  refine tw_top (y := nI (x / 2)) (tn_half (by omega)) ?_
  refine lv_iadd hx hb dX0_from_31 ?_
  refine tw_top (y := nI ((t + 1) * 32 + x / 2)) (nI_add _ _) ?_
  refine va_iald hx hb hK hP 3 2 rfl rfl (pk_in ((t + 1) * 32 + x / 2) 416 (by omega)) dX0_from_32 ?_
  refine tw_top (y := r ((t + 1) * 32 + x / 2)) (congrArg r (nI_clamp (by omega))) ?_
  refine lv_iadd hx hb dX0_from_33 ?_
  exact tw_iret hx hb hr hlocks rfl dX0_from_34
set_option maxHeartbeats 4000000 in
set_option maxRecDepth 100000 in
/-- cost -/
theorem mt_Xcost (l : Launch) (D : va_G) {h h1 h2 h3 : Nat} {c1 c2 c3 : ClassId} {mu a b n : Nat} {dc : Int32} {f g r : Nat → Int32} : Met l yX0_cost (ws_ yX0_cost cX0_cost 1 (some .int)) ({ frames := 0, cells := 0, slots := 0, locals := 0 }) (ro_P [.ref h] D (wX h h1 h2 h3 c1 c2 c3 mu a b n dc f g r) (kX c1 c2 c3)) (QcRead (dc)) 0 0 (fun _ => False) := by
  refine Met.ofW (cc := cX0_cost) (maxL := 1) (ret := (some .int)) (by decide) rfl ?_
  intro p e s m args below meth c s₁ B hml hv
  obtain ⟨rfl, hP, hK⟩ := hv
  have hx := B.exec
  have hb := B.bytes
  have hr := B.returns
  have hts := atoms_spec (ws := ws_ yX0_cost cX0_cost 1 (some .int)) B.pre
  have hts : ∀ w ∈ lw_all, w.before _ s = true := fun w h => hts w (List.mem_cons_of_mem _ h)
  have hown : s.vm.findClass RX0 = some m.cls := findClass_of_methodNamed B.named
  have hlocks := B.notSynchronized
  have hl := lv_entry ([.ref h]) (n := 1) (Nat.le_of_ble_eq_true rfl)
  rw [lg_entry_eq]
  generalize (lg_sl ([.ref h]) ++ List.replicate (1 - (lg_sl ([.ref h])).length) Slot.unset).toArray = ls at hl ⊢
  have hl : lv_has ls 1 [(0, .ref h)] := hl
  refine lv_aload_n hx hb dX0_cost_0 rfl (lv_at hl 0 rfl) ?_
  refine va_get (ci := 0) (v := .int dc) (C := RX0) (T := TX0) (N := 8) hx hb hts in_X0 hown hK hP 0 rfl rfl 6 (by decide) (hts _ q19) (fun _ h9 => h9) rfl dX0_cost_1 ?_
  exact tw_iret hx hb hr hlocks rfl dX0_cost_4
set_option maxHeartbeats 4000000 in
set_option maxRecDepth 100000 in
/-- heard -/
theorem mt_Xheard (l : Launch) (D : va_G) {h h1 h2 h3 : Nat} {c1 c2 c3 : ClassId} {mu a b n : Nat} {dc : Int32} {f g r : Nat → Int32} : Met l yX0_heard (ws_ yX0_heard cX0_heard 1 (some .int)) ({ frames := 0, cells := 0, slots := 0, locals := 0 }) (ro_P [.ref h] D (wX h h1 h2 h3 c1 c2 c3 mu a b n dc f g r) (kX c1 c2 c3)) (QcRead (nI n)) 0 0 (fun _ => False) := by
  refine Met.ofW (cc := cX0_heard) (maxL := 1) (ret := (some .int)) (by decide) rfl ?_
  intro p e s m args below meth c s₁ B hml hv
  obtain ⟨rfl, hP, hK⟩ := hv
  have hx := B.exec
  have hb := B.bytes
  have hr := B.returns
  have hts := atoms_spec (ws := ws_ yX0_heard cX0_heard 1 (some .int)) B.pre
  have hts : ∀ w ∈ lw_all, w.before _ s = true := fun w h => hts w (List.mem_cons_of_mem _ h)
  have hown : s.vm.findClass RX0 = some m.cls := findClass_of_methodNamed B.named
  have hlocks := B.notSynchronized
  have hl := lv_entry ([.ref h]) (n := 1) (Nat.le_of_ble_eq_true rfl)
  rw [lg_entry_eq]
  generalize (lg_sl ([.ref h]) ++ List.replicate (1 - (lg_sl ([.ref h])).length) Slot.unset).toArray = ls at hl ⊢
  have hl : lv_has ls 1 [(0, .ref h)] := hl
  refine lv_aload_n hx hb dX0_heard_0 rfl (lv_at hl 0 rfl) ?_
  refine va_get (ci := 0) (v := .int (nI n)) (C := RX0) (T := TX0) (N := 8) hx hb hts in_X0 hown hK hP 0 rfl rfl 5 (by decide) (hts _ q18) (fun _ h9 => h9) rfl dX0_heard_1 ?_
  exact tw_iret hx hb hr hlocks rfl dX0_heard_4
end
section
set_option maxHeartbeats 4000000 in
set_option maxRecDepth 100000 in
/-- new TrellisDesk() -/
theorem mt_Xinit (l : Launch) (D : va_G) {h sz : Nat} : Met l yX0_init (ws_ yX0_init cX0_init 1 none) ({ frames := 1, cells := 3, slots := 440, locals := 12 }) (mu_P [.ref h] D ([(h, .inr (0, [.int 0, .int 0, .int 0, .null, .null, .int 0, .int 0, .null]))]) ([]) sz) (va_Qv (fun (_ : (Nat × Nat × Nat) × (ClassId × ClassId × ClassId)) => True) (mu_B D (fun u => wX h u.1.1 u.1.2.1 u.1.2.2 u.2.1 u.2.2.1 u.2.2.2 2 7 5 0 0 (fun _ => 0) (fun _ => 0) (fun _ => 0)) (fun u => kX u.2.1 u.2.2.1 u.2.2.2) (va_A ([(h, .inr (0, [.int 0, .int 0, .int 0, .null, .null, .int 0, .int 0, .null]))]) sz)) (va_A ([(h, .inr (0, [.int 0, .int 0, .int 0, .null, .null, .int 0, .int 0, .null]))]) sz)) 3 440 (va_A ([(h, .inr (0, [.int 0, .int 0, .int 0, .null, .null, .int 0, .int 0, .null]))]) sz) := by
  refine Met.ofW (cc := cX0_init) (maxL := 1) (ret := none) (by decide) rfl ?_
  intro p e s m args below meth c s₁ B hml hv
  obtain ⟨rfl, hsz, hP, hK, hD0⟩ := hv
  have hx := B.exec
  have hb := B.bytes
  have hr := B.returns
  have hts := atoms_spec (ws := ws_ yX0_init cX0_init 1 none) B.pre
  have hts : ∀ w ∈ lw_all, w.before _ s = true := fun w h => hts w (List.mem_cons_of_mem _ h)
  have hown : s.vm.findClass RX0 = some m.cls := findClass_of_methodNamed B.named
  have hlocks := B.notSynchronized
  subst hsz
  have hD := hD0.self (sz := s.heap.size)
  generalize hAe : va_A ([(h, .inr (0, [.int 0, .int 0, .int 0, .null, .null, .int 0, .int 0, .null]))]) s.heap.size = A at hD ⊢
  have hA : ∀ q : Nat, s.heap.size ≤ q → A q := fun q h => by rw [← hAe]; exact Or.inr h
  have hS : va_S A s.heap s.heap [] := va_S.rf
  have hl := lv_entry ([.ref h]) (n := 1) (Nat.le_of_ble_eq_true rfl)
  rw [lg_entry_eq]
  generalize (lg_sl ([.ref h]) ++ List.replicate (1 - (lg_sl ([.ref h])).length) Slot.unset).toArray = ls at hl ⊢
  have hl : lv_has ls 1 [(0, .ref h)] := hl
  have hin : meth.name = "<init>" := (name_of_methodNamed B.named B.method).1
  refine lv_aload_n hx hb dX0_init_0 rfl (lv_at hl 0 rfl) ?_
  refine W.objInit hx hb hown (hts _ q10) (hts _ q11) (hts _ q12) rfl (by rw [hml]; exact hl.1) rfl dX0_init_1 (Nat.le_of_ble_eq_true rfl) (Nat.le_of_ble_eq_true rfl) ?_
  refine W.eq (g2 := F0 m 4 ls []) rfl ?_
  refine lv_aload_n hx hb dX0_init_4 rfl (lv_at hl 0 rfl) ?_
  refine lv_iconst (v := nI 2) hx hb dX0_init_5 (by decide) ?_
  refine va_put (ci := 0) (v := .int (nI 2)) (ty := .int) (C := RX0) (T := TX0) (N := 8) hx hb hts in_X0 tyX0 tyX0_ok nmX0 hown hK hP hD hS 0 rfl rfl 0 (by decide) (hts _ q13) (fun _ h9 => h9) rfl (by decide +kernel) rfl rfl (Nat.le_of_ble_eq_true rfl) dX0_init_6 (fun H locs hP hD hS => ?_)
  have hP : va_P D td_cl ([(h, .inr (0, [.int (nI 2), .int 0, .int 0, .null, .null, .int 0, .int 0, .null]))]) H := hP
  have hD : va_D A ([(h, .inr (0, [.int (nI 2), .int 0, .int 0, .null, .null, .int 0, .int 0, .null]))]) := hD
  refine lv_aload_n hx hb dX0_init_9 rfl (lv_at hl 0 rfl) ?_
  refine lv_bipush (v := nI 7) hx hb dX0_init_10 (by decide) ?_
  refine va_put (ci := 0) (v := .int (nI 7)) (ty := .int) (C := RX0) (T := TX0) (N := 8) hx hb hts in_X0 tyX0 tyX0_ok nmX0 hown hK hP hD hS 0 rfl rfl 1 (by decide) (hts _ q14) (fun _ h9 => h9) rfl (by decide +kernel) rfl rfl (Nat.le_of_ble_eq_true rfl) dX0_init_12 (fun H locs hP hD hS => ?_)
  have hP : va_P D td_cl ([(h, .inr (0, [.int (nI 2), .int (nI 7), .int 0, .null, .null, .int 0, .int 0, .null]))]) H := hP
  have hD : va_D A ([(h, .inr (0, [.int (nI 2), .int (nI 7), .int 0, .null, .null, .int 0, .int 0, .null]))]) := hD
  refine lv_aload_n hx hb dX0_init_15 rfl (lv_at hl 0 rfl) ?_
  refine lv_iconst (v := nI 5) hx hb dX0_init_16 (by decide) ?_
  refine va_put (ci := 0) (v := .int (nI 5)) (ty := .int) (C := RX0) (T := TX0) (N := 8) hx hb hts in_X0 tyX0 tyX0_ok nmX0 hown hK hP hD hS 0 rfl rfl 2 (by decide) (hts _ q15) (fun _ h9 => h9) rfl (by decide +kernel) rfl rfl (Nat.le_of_ble_eq_true rfl) dX0_init_17 (fun H locs hP hD hS => ?_)
  have hP : va_P D td_cl ([(h, .inr (0, [.int (nI 2), .int (nI 7), .int (nI 5), .null, .null, .int 0, .int 0, .null]))]) H := hP
  have hD : va_D A ([(h, .inr (0, [.int (nI 2), .int (nI 7), .int (nI 5), .null, .null, .int 0, .int 0, .null]))]) := hD
  refine lv_aload_n hx hb dX0_init_20 rfl (lv_at hl 0 rfl) ?_
  refine lv_bipush (v := nI 12) hx hb dX0_init_21 (by decide) ?_
  refine va_newa (atype := .short) (ty := .short) (N' := 12) (a0 := (12, .inl (fun _ => 0))) hx hb (hts _ q38) rfl hK hP hD hS hA (fun _ => rfl) (by decide) (by decide) (by decide) (Nat.le_of_ble_eq_true rfl) (Nat.le_of_ble_eq_true rfl) dX0_init_23 (fun h1 c1 H hK hP hD hS => ?_)
  refine W.widen (k := 1) (n := 12) (Nat.le_of_ble_eq_true rfl) (Nat.le_of_ble_eq_true rfl) ?_
  have hP : va_P D td_cl ([(h, .inr (0, [.int (nI 2), .int (nI 7), .int (nI 5), .null, .null, .int 0, .int 0, .null])), (h1, .inl (c1, 12, .inl (fun _ => 0)))]) H := hP
  have hD : va_D A ([(h, .inr (0, [.int (nI 2), .int (nI 7), .int (nI 5), .null, .null, .int 0, .int 0, .null])), (h1, .inl (c1, 12, .inl (fun _ => 0)))]) := hD
  have hK : va_K D td_cl ([(c1, .short)]) s := hK
  refine va_putF (ci := 0) (v := .ref h1) (ty := .array .short) (C := RX0) (T := TX0) (N := 8) hx hb hts in_X0 tyX0 tyX0_ok nmX0 hown hK hP hD hS 0 rfl rfl 3 (by decide) (hts _ q16) (fun _ h9 => h9) rfl hin rfl (by decide +kernel) rfl rfl (Nat.le_of_ble_eq_true rfl) dX0_init_25 (fun H locs hP hD hS => ?_)
  have hP : va_P D td_cl ([(h, .inr (0, [.int (nI 2), .int (nI 7), .int (nI 5), .ref h1, .null, .int 0, .int 0, .null])), (h1, .inl (c1, 12, .inl (fun _ => 0)))]) H := hP
  have hD : va_D A ([(h, .inr (0, [.int (nI 2), .int (nI 7), .int (nI 5), .ref h1, .null, .int 0, .int 0, .null])), (h1, .inl (c1, 12, .inl (fun _ => 0)))]) := hD
  refine lv_aload_n hx hb dX0_init_28 rfl (lv_at hl 0 rfl) ?_
  refine lv_bipush (v := nI 12) hx hb dX0_init_29 (by decide) ?_
  refine va_newa (atype := .short) (ty := .short) (N' := 12) (a0 := (12, .inl (fun _ => 0))) hx hb (hts _ q38) rfl hK hP hD hS hA (fun _ => rfl) (by decide) (by decide) (by decide) (Nat.le_of_ble_eq_true rfl) (Nat.le_of_ble_eq_true rfl) dX0_init_31 (fun h2 c2 H hK hP hD hS => ?_)
  refine W.widen (k := 2) (n := 24) (Nat.le_of_ble_eq_true rfl) (Nat.le_of_ble_eq_true rfl) ?_
  have hP : va_P D td_cl ([(h, .inr (0, [.int (nI 2), .int (nI 7), .int (nI 5), .ref h1, .null, .int 0, .int 0, .null])), (h1, .inl (c1, 12, .inl (fun _ => 0))), (h2, .inl (c2, 12, .inl (fun _ => 0)))]) H := hP
  have hD : va_D A ([(h, .inr (0, [.int (nI 2), .int (nI 7), .int (nI 5), .ref h1, .null, .int 0, .int 0, .null])), (h1, .inl (c1, 12, .inl (fun _ => 0))), (h2, .inl (c2, 12, .inl (fun _ => 0)))]) := hD
  have hK : va_K D td_cl ([(c1, .short), (c2, .short)]) s := hK
  refine va_putF (ci := 0) (v := .ref h2) (ty := .array .short) (C := RX0) (T := TX0) (N := 8) hx hb hts in_X0 tyX0 tyX0_ok nmX0 hown hK hP hD hS 0 rfl rfl 4 (by decide) (hts _ q17) (fun _ h9 => h9) rfl hin rfl (by decide +kernel) rfl rfl (Nat.le_of_ble_eq_true rfl) dX0_init_33 (fun H locs hP hD hS => ?_)
  have hP : va_P D td_cl ([(h, .inr (0, [.int (nI 2), .int (nI 7), .int (nI 5), .ref h1, .ref h2, .int 0, .int 0, .null])), (h1, .inl (c1, 12, .inl (fun _ => 0))), (h2, .inl (c2, 12, .inl (fun _ => 0)))]) H := hP
  have hD : va_D A ([(h, .inr (0, [.int (nI 2), .int (nI 7), .int (nI 5), .ref h1, .ref h2, .int 0, .int 0, .null])), (h1, .inl (c1, 12, .inl (fun _ => 0))), (h2, .inl (c2, 12, .inl (fun _ => 0)))]) := hD
  refine lv_aload_n hx hb dX0_init_36 rfl (lv_at hl 0 rfl) ?_
  refine lv_sipush (v := nI 416) hx hb dX0_init_37 (by decide) ?_
  refine va_newa (atype := .int) (ty := .int) (N' := 416) (a0 := (416, .inl (fun _ => 0))) hx hb (hts _ q39) rfl hK hP hD hS hA (fun _ => rfl) (by decide) (by decide) (by decide) (Nat.le_of_ble_eq_true rfl) (Nat.le_of_ble_eq_true rfl) dX0_init_40 (fun h3 c3 H hK hP hD hS => ?_)
  refine W.widen (k := 3) (n := 440) (Nat.le_of_ble_eq_true rfl) (Nat.le_of_ble_eq_true rfl) ?_
  have hP : va_P D td_cl ([(h, .inr (0, [.int (nI 2), .int (nI 7), .int (nI 5), .ref h1, .ref h2, .int 0, .int 0, .null])), (h1, .inl (c1, 12, .inl (fun _ => 0))), (h2, .inl (c2, 12, .inl (fun _ => 0))), (h3, .inl (c3, 416, .inl (fun _ => 0)))]) H := hP
  have hD : va_D A ([(h, .inr (0, [.int (nI 2), .int (nI 7), .int (nI 5), .ref h1, .ref h2, .int 0, .int 0, .null])), (h1, .inl (c1, 12, .inl (fun _ => 0))), (h2, .inl (c2, 12, .inl (fun _ => 0))), (h3, .inl (c3, 416, .inl (fun _ => 0)))]) := hD
  have hK : va_K D td_cl ([(c1, .short), (c2, .short), (c3, .int)]) s := hK
  refine va_putF (ci := 0) (v := .ref h3) (ty := .array .int) (C := RX0) (T := TX0) (N := 8) hx hb hts in_X0 tyX0 tyX0_ok nmX0 hown hK hP hD hS 0 rfl rfl 7 (by decide) (hts _ q20) (fun _ h9 => h9) rfl hin rfl (by decide +kernel) rfl rfl (Nat.le_of_ble_eq_true rfl) dX0_init_42 (fun H locs hP hD hS => ?_)
  have hP : va_P D td_cl ([(h, .inr (0, [.int (nI 2), .int (nI 7), .int (nI 5), .ref h1, .ref h2, .int 0, .int 0, .ref h3])), (h1, .inl (c1, 12, .inl (fun _ => 0))), (h2, .inl (c2, 12, .inl (fun _ => 0))), (h3, .inl (c3, 416, .inl (fun _ => 0)))]) H := hP
  have hD : va_D A ([(h, .inr (0, [.int (nI 2), .int (nI 7), .int (nI 5), .ref h1, .ref h2, .int 0, .int 0, .ref h3])), (h1, .inl (c1, 12, .inl (fun _ => 0))), (h2, .inl (c2, 12, .inl (fun _ => 0))), (h3, .inl (c3, 416, .inl (fun _ => 0)))]) := hD
  exact W.vret hx hb hr (fun t ht hW => ⟨⟨((h1, h2, h3), (c1, c2, c3)), rfl, trivial, by rw [ht]; exact hP, va_K.moved hW.alike hK, hD⟩, hS.F ht⟩) hS.2.2 dX0_init_45
set_option maxHeartbeats 4000000 in
set_option maxRecDepth 100000 in
/-- shape -/
theorem mt_Xshape (l : Launch) (D : va_G) {sz : Nat} {h h1 h2 h3 : Nat} {c1 c2 c3 : ClassId} {mu a b n : Nat} {dc : Int32} {f g r : Nat → Int32} {x1 x2 x3 : Int32} : Met l yX0_shape (ws_ yX0_shape cX0_shape 5 none) ({ frames := 0, cells := 0, slots := 0, locals := 0 }) (mu_P [.ref h, .int x1, .int x2, .int x3] D (wX h h1 h2 h3 c1 c2 c3 mu a b n dc f g r) (kX c1 c2 c3) sz) (va_Qv (fun (_ : Unit) => True) (mu_B D (fun _ => wX h h1 h2 h3 c1 c2 c3 (td_mem x1) (td_tap x1 x2) (td_tap x1 x3) 0 0 f g r) (fun _ => kX c1 c2 c3) (va_A (wX h h1 h2 h3 c1 c2 c3 mu a b n dc f g r) sz)) (va_A (wX h h1 h2 h3 c1 c2 c3 mu a b n dc f g r) sz)) 0 0 (va_A (wX h h1 h2 h3 c1 c2 c3 mu a b n dc f g r) sz) := by
  refine Met.ofW (cc := cX0_shape) (maxL := 5) (ret := none) (by decide) rfl ?_
  intro p e s m args below meth c s₁ B hml hv
  obtain ⟨rfl, hsz, hP, hK, hD0⟩ := hv
  have hx := B.exec
  have hb := B.bytes
  have hr := B.returns
  have hts := atoms_spec (ws := ws_ yX0_shape cX0_shape 5 none) B.pre
  have hts : ∀ w ∈ lw_all, w.before _ s = true := fun w h => hts w (List.mem_cons_of_mem _ h)
  have hown : s.vm.findClass RX0 = some m.cls := findClass_of_methodNamed B.named
  have hlocks := B.notSynchronized
  subst hsz
  have hD := hD0.self (sz := s.heap.size)
  generalize hAe : va_A (wX h h1 h2 h3 c1 c2 c3 mu a b n dc f g r) s.heap.size = A at hD ⊢
  have hA : ∀ q : Nat, s.heap.size ≤ q → A q := fun q h => by rw [← hAe]; exact Or.inr h
  have hS : va_S A s.heap s.heap [] := va_S.rf
  have hl := lv_entry ([.ref h, .int x1, .int x2, .int x3]) (n := 5) (Nat.le_of_ble_eq_true rfl)
  rw [lg_entry_eq]
  generalize (lg_sl ([.ref h, .int x1, .int x2, .int x3]) ++ List.replicate (5 - (lg_sl ([.ref h, .int x1, .int x2, .int x3])).length) Slot.unset).toArray = ls at hl ⊢
  have hl : lv_has ls 5 [(0, .ref h), (1, .int x1), (2, .int x2), (3, .int x3)] := hl
  refine lv_aload_n hx hb dX0_shape_0 rfl (lv_at hl 0 rfl) ?_
  refine lv_iconst (v := nI 1) hx hb dX0_shape_1 (by decide) ?_
  refine lv_iload_n hx hb dX0_shape_2 rfl (lv_at hl 1 rfl) ?_
  refine lv_ldc hx hb hown (hts _ q44) dX0_shape_3 ?_
  refine lv_iand hx hb dX0_shape_5 ?_
  refine lv_iconst (v := nI 5) hx hb dX0_shape_6 (by decide) ?_
  refine lv_irem hx hb dX0_shape_7 (by decide) ?_
  refine lv_iadd hx hb dX0_shape_8 ?_
  refine tw_top (y := nI (td_mem x1)) (td_mem_c x1) ?_
  refine va_put (ci := 0) (v := .int (nI (td_mem x1))) (ty := .int) (C := RX0) (T := TX0) (N := 8) hx hb hts in_X0 tyX0 tyX0_ok nmX0 hown hK hP hD hS 0 rfl rfl 0 (by decide) (hts _ q13) (fun _ h9 => h9) rfl (by decide +kernel) rfl rfl (Nat.le_of_ble_eq_true rfl) dX0_shape_9 (fun H locs hP hD hS => ?_)
  have hP : va_P D td_cl (wX h h1 h2 h3 c1 c2 c3 (td_mem x1) a b n dc f g r) H := hP
  have hD : va_D A (wX h h1 h2 h3 c1 c2 c3 (td_mem x1) a b n dc f g r) := hD
  refine lv_iconst (v := nI 2) hx hb dX0_shape_12 (by decide) ?_
  refine lv_aload_n hx hb dX0_shape_13 rfl (lv_at hl 0 rfl) ?_
  refine va_get (ci := 0) (v := .int (nI (td_mem x1))) (C := RX0) (T := TX0) (N := 8) hx hb hts in_X0 hown hK hP 0 rfl rfl 0 (by decide) (hts _ q13) (fun _ h9 => h9) rfl dX0_shape_14 ?_
  refine lv_ishl hx hb dX0_shape_17 ?_
  refine lv_iconst (v := nI 1) hx hb dX0_shape_18 (by decide) ?_
  refine lv_isub hx hb dX0_shape_19 ?_
  refine tw_top (y := nI (2 ^ (td_mem x1 + 1) - 1)) (td_mask_c (td_mem_in x1).2) ?_
  refine lv_istore (lv' := [(4, .int (nI (2 ^ (td_mem x1 + 1) - 1))), (0, .ref h), (1, .int x1), (2, .int x2), (3, .int x3)]) hx hb dX0_shape_20 hl (by decide) rfl (fun ls hl => ?_)
  refine lv_aload_n hx hb dX0_shape_22 rfl (lv_at hl 1 rfl) ?_
  refine lv_iload_n hx hb dX0_shape_23 rfl (lv_at hl 3 rfl) ?_
  refine lv_iload hx hb dX0_shape_24 (lv_at hl 0 rfl) ?_
  refine lv_iand hx hb dX0_shape_26 ?_
  refine tw_top (y := nI (td_tap x1 x2)) (td_tap_c x1 x2) ?_
  refine va_put (ci := 0) (v := .int (nI (td_tap x1 x2))) (ty := .int) (C := RX0) (T := TX0) (N := 8) hx hb hts in_X0 tyX0 tyX0_ok nmX0 hown hK hP hD hS 0 rfl rfl 1 (by decide) (hts _ q14) (fun _ h9 => h9) rfl (by decide +kernel) rfl rfl (Nat.le_of_ble_eq_true rfl) dX0_shape_27 (fun H locs hP hD hS => ?_)
  have hP : va_P D td_cl (wX h h1 h2 h3 c1 c2 c3 (td_mem x1) (td_tap x1 x2) b n dc f g r) H := hP
  have hD : va_D A (wX h h1 h2 h3 c1 c2 c3 (td_mem x1) (td_tap x1 x2) b n dc f g r) := hD
  refine lv_aload_n hx hb dX0_shape_30 rfl (lv_at hl 1 rfl) ?_
  refine lv_iload_n hx hb dX0_shape_31 rfl (lv_at hl 4 rfl) ?_
  refine lv_iload hx hb dX0_shape_32 (lv_at hl 0 rfl) ?_
  refine lv_iand hx hb dX0_shape_34 ?_
  refine tw_top (y := nI (td_tap x1 x3)) (td_tap_c x1 x3) ?_
  refine va_put (ci := 0) (v := .int (nI (td_tap x1 x3))) (ty := .int) (C := RX0) (T := TX0) (N := 8) hx hb hts in_X0 tyX0 tyX0_ok nmX0 hown hK hP hD hS 0 rfl rfl 2 (by decide) (hts _ q15) (fun _ h9 => h9) rfl (by decide +kernel) rfl rfl (Nat.le_of_ble_eq_true rfl) dX0_shape_35 (fun H locs hP hD hS => ?_)
  have hP : va_P D td_cl (wX h h1 h2 h3 c1 c2 c3 (td_mem x1) (td_tap x1 x2) (td_tap x1 x3) n dc f g r) H := hP
  have hD : va_D A (wX h h1 h2 h3 c1 c2 c3 (td_mem x1) (td_tap x1 x2) (td_tap x1 x3) n dc f g r) := hD
  refine lv_aload_n hx hb dX0_shape_38 rfl (lv_at hl 1 rfl) ?_
  refine lv_iconst (v := nI 0) hx hb dX0_shape_39 (by decide) ?_
  refine va_put (ci := 0) (v := .int (nI 0)) (ty := .int) (C := RX0) (T := TX0) (N := 8) hx hb hts in_X0 tyX0 tyX0_ok nmX0 hown hK hP hD hS 0 rfl rfl 5 (by decide) (hts _ q18) (fun _ h9 => h9) rfl (by decide +kernel) rfl rfl (Nat.le_of_ble_eq_true rfl) dX0_shape_40 (fun H locs hP hD hS => ?_)
  have hP : va_P D td_cl (wX h h1 h2 h3 c1 c2 c3 (td_mem x1) (td_tap x1 x2) (td_tap x1 x3) 0 dc f g r) H := hP
  have hD : va_D A (wX h h1 h2 h3 c1 c2 c3 (td_mem x1) (td_tap x1 x2) (td_tap x1 x3) 0 dc f g r) := hD
  refine lv_aload_n hx hb dX0_shape_43 rfl (lv_at hl 1 rfl) ?_
  refine lv_iconst (v := nI 0) hx hb dX0_shape_44 (by decide) ?_
  refine va_put (ci := 0) (v := .int (nI 0)) (ty := .int) (C := RX0) (T := TX0) (N := 8) hx hb hts in_X0 tyX0 tyX0_ok nmX0 hown hK hP hD hS 0 rfl rfl 6 (by decide) (hts _ q19) (fun _ h9 => h9) rfl (by decide +kernel) rfl rfl (Nat.le_of_ble_eq_true rfl) dX0_shape_45 (fun H locs hP hD hS => ?_)
  have hP : va_P D td_cl (wX h h1 h2 h3 c1 c2 c3 (td_mem x1) (td_tap x1 x2) (td_tap x1 x3) 0 (nI 0) f g r) H := hP
  have hD : va_D A (wX h h1 h2 h3 c1 c2 c3 (td_mem x1) (td_tap x1 x2) (td_tap x1 x3) 0 (nI 0) f g r) := hD
  exact W.vret hx hb hr (fun t ht hW => ⟨⟨(), rfl, trivial, by rw [ht]; exact hP, va_K.moved hW.alike hK, hD⟩, hS.F ht⟩) hS.2.2 dX0_shape_48
set_option maxHeartbeats 4000000 in
set_option maxRecDepth 100000 in
/-- hear at twelve pairs -/
theorem mt_XhearF (l : Launch) (D : va_G) {h h1 h2 h3 : Nat} {c1 c2 c3 : ClassId} {mu a b n : Nat} {dc : Int32} {f g r : Nat → Int32} {x1 x2 : Int32} (hn : n = 12) : Met l yX0_hear (ws_ yX0_hear cX0_hear 3 (some .boolean)) ({ frames := 0, cells := 0, slots := 0, locals := 0 }) (ro_P [.ref h, .int x1, .int x2] D (wX h h1 h2 h3 c1 c2 c3 mu a b n dc f g r) (kX c1 c2 c3)) (QcRead (nI 0)) 0 0 (fun _ => False) := by
  refine Met.ofW (cc := cX0_hear) (maxL := 3) (ret := (some .boolean)) (by decide) rfl ?_
  intro p e s m args below meth c s₁ B hml hv
  obtain ⟨rfl, hP, hK⟩ := hv
  have hx := B.exec
  have hb := B.bytes
  have hr := B.returns
  have hts := atoms_spec (ws := ws_ yX0_hear cX0_hear 3 (some .boolean)) B.pre
  have hts : ∀ w ∈ lw_all, w.before _ s = true := fun w h => hts w (List.mem_cons_of_mem _ h)
  have hown : s.vm.findClass RX0 = some m.cls := findClass_of_methodNamed B.named
  have hlocks := B.notSynchronized
  have hl := lv_entry ([.ref h, .int x1, .int x2]) (n := 3) (Nat.le_of_ble_eq_true rfl)
  rw [lg_entry_eq]
  generalize (lg_sl ([.ref h, .int x1, .int x2]) ++ List.replicate (3 - (lg_sl ([.ref h, .int x1, .int x2])).length) Slot.unset).toArray = ls at hl ⊢
  have hl : lv_has ls 3 [(0, .ref h), (1, .int x1), (2, .int x2)] := hl
  refine lv_aload_n hx hb dX0_hear_0 rfl (lv_at hl 0 rfl) ?_
  refine va_get (ci := 0) (v := .int (nI n)) (C := RX0) (T := TX0) (N := 8) hx hb hts in_X0 hown hK hP 0 rfl rfl 5 (by decide) (hts _ q18) (fun _ h9 => h9) rfl dX0_hear_1 ?_
  refine lv_bipush (v := nI 12) hx hb dX0_hear_4 (by decide) ?_
  refine lv_icmp_ne (tgt := 11) hx hb dX0_hear_6 (by decide) (fun hc => ?_) (fun hc => ?_)
  · exact absurd (by rw [hn]) hc
  · refine lv_iconst (v := nI 0) hx hb dX0_hear_9 (by decide) ?_
    exact tw_zret hx hb hr hlocks rfl rfl dX0_hear_10
set_option maxHeartbeats 4000000 in
set_option maxRecDepth 100000 in
/-- hear -/
theorem mt_Xhear (l : Launch) (D : va_G) {sz : Nat} {h h1 h2 h3 : Nat} {c1 c2 c3 : ClassId} {mu a b n : Nat} {dc : Int32} {f g r : Nat → Int32} {x1 x2 : Int32} (hn : n < 12) : Met l yX0_hear (ws_ yX0_hear cX0_hear 3 (some .boolean)) ({ frames := 0, cells := 0, slots := 0, locals := 0 }) (mu_P [.ref h, .int x1, .int x2] D (wX h h1 h2 h3 c1 c2 c3 mu a b n dc f g r) (kX c1 c2 c3) sz) (va_Qi (fun (z : Int32) (_ : Unit) => z = nI 1) (mu_B D (fun _ => wX h h1 h2 h3 c1 c2 c3 mu a b (n + 1) dc (upd f n (td_sh x1)) (upd g n (td_sh x2)) r) (fun _ => kX c1 c2 c3) (va_A (wX h h1 h2 h3 c1 c2 c3 mu a b n dc f g r) sz)) (va_A (wX h h1 h2 h3 c1 c2 c3 mu a b n dc f g r) sz)) 0 0 (va_A (wX h h1 h2 h3 c1 c2 c3 mu a b n dc f g r) sz) := by
  refine Met.ofW (cc := cX0_hear) (maxL := 3) (ret := (some .boolean)) (by decide) rfl ?_
  intro p e s m args below meth c s₁ B hml hv
  obtain ⟨rfl, hsz, hP, hK, hD0⟩ := hv
  have hx := B.exec
  have hb := B.bytes
  have hr := B.returns
  have hts := atoms_spec (ws := ws_ yX0_hear cX0_hear 3 (some .boolean)) B.pre
  have hts : ∀ w ∈ lw_all, w.before _ s = true := fun w h => hts w (List.mem_cons_of_mem _ h)
  have hown : s.vm.findClass RX0 = some m.cls := findClass_of_methodNamed B.named
  have hlocks := B.notSynchronized
  subst hsz
  have hD := hD0.self (sz := s.heap.size)
  generalize hAe : va_A (wX h h1 h2 h3 c1 c2 c3 mu a b n dc f g r) s.heap.size = A at hD ⊢
  have hA : ∀ q : Nat, s.heap.size ≤ q → A q := fun q h => by rw [← hAe]; exact Or.inr h
  have hS : va_S A s.heap s.heap [] := va_S.rf
  have hl := lv_entry ([.ref h, .int x1, .int x2]) (n := 3) (Nat.le_of_ble_eq_true rfl)
  rw [lg_entry_eq]
  generalize (lg_sl ([.ref h, .int x1, .int x2]) ++ List.replicate (3 - (lg_sl ([.ref h, .int x1, .int x2])).length) Slot.unset).toArray = ls at hl ⊢
  have hl : lv_has ls 3 [(0, .ref h), (1, .int x1), (2, .int x2)] := hl
  refine lv_aload_n hx hb dX0_hear_0 rfl (lv_at hl 0 rfl) ?_
  refine va_get (ci := 0) (v := .int (nI n)) (C := RX0) (T := TX0) (N := 8) hx hb hts in_X0 hown hK hP 0 rfl rfl 5 (by decide) (hts _ q18) (fun _ h9 => h9) rfl dX0_hear_1 ?_
  refine lv_bipush (v := nI 12) hx hb dX0_hear_4 (by decide) ?_
  refine lv_icmp_ne (tgt := 11) hx hb dX0_hear_6 (by decide) (fun hc => ?_) (fun hc => ?_)
  · refine lv_aload_n hx hb dX0_hear_11 rfl (lv_at hl 0 rfl) ?_
    refine va_get (ci := 0) (v := .ref h1) (C := RX0) (T := TX0) (N := 8) hx hb hts in_X0 hown hK hP 0 rfl rfl 3 (by decide) (hts _ q16) (fun _ h9 => h9) rfl dX0_hear_12 ?_
    refine lv_aload_n hx hb dX0_hear_15 rfl (lv_at hl 0 rfl) ?_
    refine va_get (ci := 0) (v := .int (nI n)) (C := RX0) (T := TX0) (N := 8) hx hb hts in_X0 hown hK hP 0 rfl rfl 5 (by decide) (hts _ q18) (fun _ h9 => h9) rfl dX0_hear_16 ?_
    refine lv_iload_n hx hb dX0_hear_19 rfl (lv_at hl 1 rfl) ?_
    refine lv_i2s (v := td_sh x1) hx hb dX0_hear_20 rfl ?_
    refine va_sast hx hb hK hP hD hS 1 0 rfl rfl (pk_in n 12 hn) dX0_hear_21 (fun H locs hP hD hS => ?_)
    rw [nI_clamp (n := n) (by omega), td_nar] at hP hD
    have hP : va_P D td_cl (wX h h1 h2 h3 c1 c2 c3 mu a b n dc (upd f n (td_sh x1)) g r) H := hP
    have hD : va_D A (wX h h1 h2 h3 c1 c2 c3 mu a b n dc (upd f n (td_sh x1)) g r) := hD
    refine lv_aload_n hx hb dX0_hear_22 rfl (lv_at hl 0 rfl) ?_
    refine va_get (ci := 0) (v := .ref h2) (C := RX0) (T := TX0) (N := 8) hx hb hts in_X0 hown hK hP 0 rfl rfl 4 (by decide) (hts _ q17) (fun _ h9 => h9) rfl dX0_hear_23 ?_
    refine lv_aload_n hx hb dX0_hear_26 rfl (lv_at hl 0 rfl) ?_
    refine va_get (ci := 0) (v := .int (nI n)) (C := RX0) (T := TX0) (N := 8) hx hb hts in_X0 hown hK hP 0 rfl rfl 5 (by decide) (hts _ q18) (fun _ h9 => h9) rfl dX0_hear_27 ?_
    refine lv_iload_n hx hb dX0_hear_30 rfl (lv_at hl 2 rfl) ?_
    refine lv_i2s (v := td_sh x2) hx hb dX0_hear_31 rfl ?_
    refine va_sast hx hb hK hP hD hS 2 1 rfl rfl (pk_in n 12 hn) dX0_hear_32 (fun H locs hP hD hS => ?_)
    rw [nI_clamp (n := n) (by omega), td_nar] at hP hD
    have hP : va_P D td_cl (wX h h1 h2 h3 c1 c2 c3 mu a b n dc (upd f n (td_sh x1)) (upd g n (td_sh x2)) r) H := hP
    have hD : va_D A (wX h h1 h2 h3 c1 c2 c3 mu a b n dc (upd f n (td_sh x1)) (upd g n (td_sh x2)) r) := hD
    refine lv_aload_n hx hb dX0_hear_33 rfl (lv_at hl 0 rfl) ?_
    refine lv_dup hx hb dX0_hear_34 rfl ?_
    refine va_get (ci := 0) (v := .int (nI n)) (C := RX0) (T := TX0) (N := 8) hx hb hts in_X0 hown hK hP 0 rfl rfl 5 (by decide) (hts _ q18) (fun _ h9 => h9) rfl dX0_hear_35 ?_
    refine lv_iconst (v := nI 1) hx hb dX0_hear_38 (by decide) ?_
    refine lv_iadd hx hb dX0_hear_39 ?_
    refine tw_top (y := nI (n + 1)) (nI_add n 1) ?_
    refine va_put (ci := 0) (v := .int (nI (n + 1))) (ty := .int) (C := RX0) (T := TX0) (N := 8) hx hb hts in_X0 tyX0 tyX0_ok nmX0 hown hK hP hD hS 0 rfl rfl 5 (by decide) (hts _ q18) (fun _ h9 => h9) rfl (by decide +kernel) rfl rfl (Nat.le_of_ble_eq_true rfl) dX0_hear_40 (fun H locs hP hD hS => ?_)
    have hP : va_P D td_cl (wX h h1 h2 h3 c1 c2 c3 mu a b (n + 1) dc (upd f n (td_sh x1)) (upd g n (td_sh x2)) r) H := hP
    have hD : va_D A (wX h h1 h2 h3 c1 c2 c3 mu a b (n + 1) dc (upd f n (td_sh x1)) (upd g n (td_sh x2)) r) := hD
    refine lv_iconst (v := nI 1) hx hb dX0_hear_43 (by decide) ?_
    exact W.zret (v := nI 1) hx hb hr rfl (fun t ht hW => ⟨⟨nI 1, (), rfl, rfl, by rw [ht]; exact hP, va_K.moved hW.alike hK, hD⟩, hS.F ht⟩) hS.2.2 dX0_hear_44
  · exact absurd ((nI_eq (by omega) (by decide)).mp hc) (by omega)
end
section
/-! the table 'rest' and what it holds, in plain Lean -/
/-- from letter k on the table is right -/
def td_RT (P : Nat → Nat → Int) (mu fr n k : Nat) (r : Nat → Int32) : Prop := ∀ t : Nat, k ≤ t → t ≤ n → ∀ s : Nat, s < 2 ^ mu → r (t * 32 + s) = Int32.ofInt (td_best P mu fr (n - t) t s)
/-- from letter t + 1 on, and of letter t the registers below j -/
def td_RS (P : Nat → Nat → Int) (mu fr n t j : Nat) (r : Nat → Int32) : Prop := td_RT P mu fr n (t + 1) r ∧ ∀ s : Nat, s < j → r (t * 32 + s) = Int32.ofInt (td_best P mu fr (n - t) t s)
theorem td_RT_n {P : Nat → Nat → Int} {mu fr n : Nat} {r : Nat → Int32} (h : ∀ j : Nat, j < 2 ^ mu → r (n * 32 + j) = 0) : td_RT P mu fr n n r := by
  intro t h1 h2 s hs
  have e : t = n := by omega
  subst e
  rw [h s hs, Nat.sub_self]
  rfl
theorem td_RS_0 {P : Nat → Nat → Int} {mu fr n t : Nat} {r : Nat → Int32} (h : td_RT P mu fr n (t + 1) r) : td_RS P mu fr n t 0 r := ⟨h, fun s hs => absurd hs (Nat.not_lt_zero s)⟩
theorem td_RS_u {P : Nat → Nat → Int} {mu fr n t j : Nat} {r : Nat → Int32} (hmu : mu ≤ 5) (hj : j < 2 ^ mu) (h : td_RS P mu fr n t j r) : td_RS P mu fr n t (j + 1) (upd r (t * 32 + j) (Int32.ofInt (td_best P mu fr (n - t) t j))) := by
  have h2 := tn_p2 hmu
  refine ⟨fun t' a1 a2 s hs => ?_, fun s hs => ?_⟩
  · rw [pk_un (by omega)]
    exact h.1 t' a1 a2 s hs
  · by_cases e : s = j
    · rw [e, pk_us]
    · rw [pk_un (by omega)]
      exact h.2 s (by omega)
theorem td_RS_e {P : Nat → Nat → Int} {mu fr n t : Nat} {r : Nat → Int32} (h : td_RS P mu fr n t (2 ^ mu) r) : td_RT P mu fr n t r := by
  intro t' a1 a2 s hs
  by_cases e : t' = t
  · rw [e]
    exact h.2 s hs
  · exact h.1 t' (by omega) a2 s hs
theorem td_fill_u {n j : Nat} {r : Nat → Int32} (h : ∀ i : Nat, i < j → r (n * 32 + i) = 0) : ∀ i : Nat, i < j + 1 → upd r (n * 32 + j) 0 (n * 32 + i) = 0 := by
  intro i hi
  by_cases e : i = j
  · rw [e, pk_us]
  · rw [pk_un (by omega)]
    exact h i (by omega)
/-- what 'from' answers, over a right table -/
def td_Z (P : Nat → Nat → Int) (mu fr n t x : Nat) : Int := P t x + td_best P mu fr (n - (t + 1)) (t + 1) (x / 2)
theorem td_from {a b mu fr n t x : Nat} {f g r : Nat → Int32} (h : td_RT (td_P a b f g) mu fr n (t + 1) r) (ht : t < n) (hx : x / 2 < 2 ^ mu) : td_p32 a b f g t x + r ((t + 1) * 32 + x / 2) = Int32.ofInt (td_Z (td_P a b f g) mu fr n t x) := by
  unfold td_Z
  rw [Int32.ofInt_add, td_p32_P, h (t + 1) (Nat.le_refl _) ht _ hx]
theorem td_Z_sm {P : Nat → Nat → Int} (hP : td_bd P) {mu fr n t x : Nat} (hn : n ≤ 12) : tn_sm (td_Z P mu fr n t x) := by
  have h1 := hP t x
  have h2 := td_best_bd hP mu fr (n - (t + 1)) (t + 1) (x / 2)
  unfold tn_sm td_Z
  omega
theorem td_best_sm {P : Nat → Nat → Int} (hP : td_bd P) {mu fr k t s : Nat} (hn : k ≤ 12) : tn_sm (td_best P mu fr k t s) := by
  have h2 := td_best_bd hP mu fr k t s
  unfold tn_sm
  omega
theorem td_T_sm {P : Nat → Nat → Int} (hP : td_bd P) {mu fr m n : Nat} (hn : n ≤ 12) : tn_sm (td_T P mu fr m n 0 0) := by
  have h2 := td_T_bd hP mu fr m n
  unfold tn_sm
  omega
theorem td_cs_sm {P : Nat → Nat → Int} (hP : td_bd P) {mu fr m n : Nat} (hn : n ≤ 12) : tn_sm (td_cs P mu fr m n) := by
  have h2 := td_cs_bd hP mu fr m n
  unfold tn_sm
  omega
/-- the second number that is compared -/
def td_O (P : Nat → Nat → Int) (mu fr n t j : Nat) : Int := if t < fr then td_Z P mu fr n t (2 ^ mu + j) else td_Z P mu fr n t j
theorem td_O_sm {P : Nat → Nat → Int} (hP : td_bd P) {mu fr n t j : Nat} (hn : n ≤ 12) : tn_sm (td_O P mu fr n t j) := by
  unfold td_O
  split
  · exact td_Z_sm hP hn
  · exact td_Z_sm hP hn
theorem td_pick_z {P : Nat → Nat → Int} {mu fr n t j : Nat} (ht : t < n) (h : td_Z P mu fr n t j ≤ td_O P mu fr n t j) : td_Z P mu fr n t j = td_best P mu fr (n - t) t j := by
  rw [show n - t = (n - (t + 1)) + 1 by omega, td_best_s]
  unfold td_Z td_O at *
  by_cases hf : t < fr
  · rw [if_pos hf] at h
    unfold td_Z at h
    rw [if_neg (fun z => by omega)]
  · rw [if_neg (fun z => hf z.1)]
theorem td_pick_o {P : Nat → Nat → Int} {mu fr n t j : Nat} (ht : t < n) (h : ¬ td_Z P mu fr n t j ≤ td_O P mu fr n t j) : td_O P mu fr n t j = td_best P mu fr (n - t) t j := by
  rw [show n - t = (n - (t + 1)) + 1 by omega, td_best_s]
  unfold td_O at *
  by_cases hf : t < fr
  · rw [if_pos hf] at h ⊢
    unfold td_Z at h ⊢
    rw [if_pos ⟨hf, by omega⟩]
  · rw [if_neg hf] at h
    exact absurd (Int.le_refl _) h
/-- a letter is read off -/
def td_let (P : Nat → Nat → Int) (mu fr n t o : Nat) : Nat := if td_Z P mu fr n t o = td_best P mu fr (n - t) t o then 0 else 1
theorem td_let_lt (P : Nat → Nat → Int) (mu fr n t o : Nat) : td_let P mu fr n t o < 2 := by
  unfold td_let
  split
  · decide
  · decide
theorem td_RI_s {P : Nat → Nat → Int} {mu fr n t M o : Nat} (ht : t < fr) (hn : fr ≤ n) (h : td_RI P mu fr n t M o) : td_RI P mu fr n (t + 1) (2 * M + td_let P mu fr n t o) ((td_let P mu fr n t o * 2 ^ mu + o) / 2) := by
  unfold td_let
  by_cases hz : td_Z P mu fr n t o = td_best P mu fr (n - t) t o
  · rw [if_pos hz, Nat.zero_mul, Nat.zero_add, Nat.add_zero]
    exact td_RI_s0 ht hn h hz
  · rw [if_neg hz, Nat.one_mul]
    exact td_RI_s1 ht hn h hz
end
section
section XD
variable {p : Program} {l : Launch} {e : Env} {s : State} {m : MethodId} {args : Array Value} {below : List Frame} {meth : Method} {c : Code} {Q : State → Prop} {D : va_G} {A : Nat → Prop} {h h1 h2 h3 : Nat} {c1 c2 c3 : ClassId} {mu a b n fr : Nat} {dc : Int32} {f g : Nat → Int32}
abbrev rmXd : Room := { frames := 3, cells := 0, slots := 0, locals := 66 }
set_option maxHeartbeats 4000000 in
/-- the last row of the table is nought -/
theorem xd_fill (S : CallFix p m c cX0_decide 7 s args lw_all RX0) (hK : va_K D td_cl (kX c1 c2 c3) s) (hn : n ≤ 12) (hmu : mu ≤ 5)
    (kk : ∀ (r : Nat → Int32) (H : Heap) (locs : List Loc) (ls : Array Slot), (∀ j : Nat, j < 2 ^ mu → r (n * 32 + j) = 0) → va_P D td_cl (wX h h1 h2 h3 c1 c2 c3 mu a b n dc f g r) H → va_D A (wX h h1 h2 h3 c1 c2 c3 mu a b n dc f g r) → va_S A s.heap H locs → lv_has ls 7 [(0, .ref h), (1, .int (nI fr)), (2, .int (nI (2 ^ mu)))] → W p l e rmXd s m args below meth c H locs 0 0 Q (F0 m 58 ls [])) :
    ∀ (d j : Nat) (r : Nat → Int32) (H : Heap) (locs : List Loc) (ls : Array Slot), j ≤ 2 ^ mu → 2 ^ mu + 1 ≤ j + d → (∀ i : Nat, i < j → r (n * 32 + i) = 0) → va_P D td_cl (wX h h1 h2 h3 c1 c2 c3 mu a b n dc f g r) H → va_D A (wX h h1 h2 h3 c1 c2 c3 mu a b n dc f g r) → va_S A s.heap H locs → lv_has ls 7 [(0, .ref h), (1, .int (nI fr)), (2, .int (nI (2 ^ mu))), (3, .int (nI j))] → W p l e rmXd s m args below meth c H locs 0 0 Q (F0 m 32 ls []) := by
  obtain ⟨hx, hb, hml, hown, hts⟩ := S
  have hp := tn_p2 hmu
  intro d
  induction d with
  | zero => intro j r H locs ls u1 u2; exact absurd u2 (by omega)
  | succ d ih =>
    intro j r H locs ls u1 u2 u3 hP hD hS hl
    refine lv_iload_n hx hb dX0_decide_32 rfl (lv_at hl 3 rfl) ?_
    refine lv_iload_n hx hb dX0_decide_33 rfl (lv_at hl 2 rfl) ?_
    refine lv_icmp_ge (tgt := 58) hx hb dX0_decide_34 (by decide) (fun hc => ?_) (fun hc => ?_)
    · have e : j = 2 ^ mu := by have := (nI_leI (by omega) (by omega)).mp hc; omega
      subst e
      exact kk r H locs ls u3 hP hD hS (lv_sub hl [0, 1, 2] rfl)
    · have hj : j < 2 ^ mu := by rcases Nat.lt_or_ge j (2 ^ mu) with z | z; exact z; exact absurd ((nI_leI (by omega) (by omega)).mpr z) hc
      refine lv_aload_n hx hb dX0_decide_37 rfl (lv_at hl 0 rfl) ?_
      refine va_get (ci := 0) (v := .ref h3) (C := RX0) (T := TX0) (N := 8) hx hb hts in_X0 hown hK hP 0 rfl rfl 7 (by decide) (hts _ q20) (fun _ h9 => h9) rfl dX0_decide_38 ?_
      refine lv_aload_n hx hb dX0_decide_41 rfl (lv_at hl 0 rfl) ?_
      refine va_get (ci := 0) (v := .int (nI n)) (C := RX0) (T := TX0) (N := 8) hx hb hts in_X0 hown hK hP 0 rfl rfl 5 (by decide) (hts _ q18) (fun _ h9 => h9) rfl dX0_decide_42 ?_
      refine lv_bipush (v := nI 32) hx hb dX0_decide_45 (by decide) ?_
      refine lv_imul hx hb dX0_decide_47 ?_
      refine tw_top (y := nI (n * 32)) (pk_mul n 32) ?_
      refine lv_iload_n hx hb dX0_decide_48 rfl (lv_at hl 3 rfl) ?_
      refine lv_iadd hx hb dX0_decide_49 ?_
      refine tw_top (y := nI (n * 32 + j)) (nI_add _ _) ?_
      refine lv_iconst (v := 0) hx hb dX0_decide_50 (by decide) ?_
      refine va_iast hx hb hK hP hD hS 3 2 rfl rfl (pk_in (n * 32 + j) 416 (by omega)) dX0_decide_51 (fun H locs hP hD hS => ?_)
      rw [nI_clamp (n := n * 32 + j) (by omega)] at hP hD
      have hP : va_P D td_cl (wX h h1 h2 h3 c1 c2 c3 mu a b n dc f g (upd r (n * 32 + j) 0)) H := hP
      have hD : va_D A (wX h h1 h2 h3 c1 c2 c3 mu a b n dc f g (upd r (n * 32 + j) 0)) := hD
      refine lv_iinc (v := nI (j + 1)) (lv' := [(3, .int (nI (j + 1))), (0, .ref h), (1, .int (nI fr)), (2, .int (nI (2 ^ mu)))]) hx hb dX0_decide_52 hl (k := 3) rfl (nI_add j 1) (by decide) rfl (fun ls hl => ?_)
      refine lv_goto (tgt := 32) hx hb dX0_decide_55 (by decide) ?_
      exact ih (j + 1) _ _ _ _ (by omega) (by omega) (td_fill_u u3) hP hD hS (lv_sub hl [1, 2, 3, 0] rfl)
set_option maxHeartbeats 4000000 in
/-- one row of the table -/
theorem xd_s (S : CallFix p m c cX0_decide 7 s args lw_all RX0) (hK : va_K D td_cl (kX c1 c2 c3) s) (hn : n ≤ 12) (hmu : mu ≤ 5) (hf : td_short f) (hg : td_short g) {t : Nat} (ht : t < n) (hfr : fr ≤ n)
    (kk : ∀ (r : Nat → Int32) (H : Heap) (locs : List Loc) (ls : Array Slot), td_RS (td_P a b f g) mu fr n t (2 ^ mu) r → va_P D td_cl (wX h h1 h2 h3 c1 c2 c3 mu a b n dc f g r) H → va_D A (wX h h1 h2 h3 c1 c2 c3 mu a b n dc f g r) → va_S A s.heap H locs → lv_has ls 7 [(0, .ref h), (1, .int (nI fr)), (2, .int (nI (2 ^ mu))), (3, .int (nI t))] → W p l e rmXd s m args below meth c H locs 0 0 Q (F0 m 140 ls [])) :
    ∀ (d j : Nat) (r : Nat → Int32) (H : Heap) (locs : List Loc) (ls : Array Slot), j ≤ 2 ^ mu → 2 ^ mu + 1 ≤ j + d → td_RS (td_P a b f g) mu fr n t j r → va_P D td_cl (wX h h1 h2 h3 c1 c2 c3 mu a b n dc f g r) H → va_D A (wX h h1 h2 h3 c1 c2 c3 mu a b n dc f g r) → va_S A s.heap H locs → lv_has ls 7 [(0, .ref h), (1, .int (nI fr)), (2, .int (nI (2 ^ mu))), (3, .int (nI t)), (4, .int (nI j))] → W p l e rmXd s m args below meth c H locs 0 0 Q (F0 m 72 ls []) := by
  obtain ⟨hx, hb, hml, hown, hts⟩ := S
  have hp := tn_p2 hmu
  have hbd := td_P_bd (a := a) (b := b) hf hg
  intro d
  induction d with
  | zero => intro j r H locs ls u1 u2; exact absurd u2 (by omega)
  | succ d ih =>
    intro j r H locs ls u1 u2 u3 hP hD hS hl
    refine lv_iload hx hb dX0_decide_72 (lv_at hl 4 rfl) ?_
    refine lv_iload_n hx hb dX0_decide_74 rfl (lv_at hl 2 rfl) ?_
    refine lv_icmp_ge (tgt := 140) hx hb dX0_decide_75 (by decide) (fun hc => ?_) (fun hc => ?_)
    · have e : j = 2 ^ mu := by have := (nI_leI (by omega) (by omega)).mp hc; omega
      subst e
      exact kk r H locs ls u3 hP hD hS (lv_sub hl [0, 1, 2, 3] rfl)
    · have hj : j < 2 ^ mu := by rcases Nat.lt_or_ge j (2 ^ mu) with z | z; exact z; exact absurd ((nI_leI (by omega) (by omega)).mpr z) hc
      refine lv_aload_n hx hb dX0_decide_78 rfl (lv_at hl 0 rfl) ?_
      refine lv_iload_n hx hb dX0_decide_79 rfl (lv_at hl 3 rfl) ?_
      refine lv_iload hx hb dX0_decide_80 (lv_at hl 4 rfl) ?_
      refine lv_iconst (v := nI 0) hx hb dX0_decide_82 (by decide) ?_
      refine tw_callR (W.runV (As := [.int (nI t), .int (nI j), .int (nI 0)]) (rest := []) ⟨hx, hb, hml, hown, hts⟩ (mt_from l D (t := t) (o := j) (lt := 0) (x := j) (by omega) hmu hj (by decide) (by omega)) (cwV 3 hts (lw_V q53 q55 qs0 q3 q56) rfl rfl rfl (by decide +kernel) ⟨Nat.le_of_ble_eq_true rfl, Nat.le_of_ble_eq_true rfl⟩) (ro_V (ci := 0) (q0 := 0) hK hP rfl rfl) rfl rfl hl.1 rfl (lv_room (Nat.le_of_ble_eq_true rfl)) dX0_decide_83 ⟨Nat.le_of_ble_eq_true rfl, Nat.le_of_ble_eq_true rfl⟩) ?_
      refine tw_top (y := Int32.ofInt (td_Z (td_P a b f g) mu fr n t j)) (td_from u3.1 ht (by omega)) ?_
      refine lv_istore (lv' := [(5, .int (Int32.ofInt (td_Z (td_P a b f g) mu fr n t j))), (0, .ref h), (1, .int (nI fr)), (2, .int (nI (2 ^ mu))), (3, .int (nI t)), (4, .int (nI j))]) hx hb dX0_decide_86 hl (by decide) rfl (fun ls hl => ?_)
      refine tw_join (pcj := 106) (lsj := ls) (stj := []) (A := Int32.ofInt (td_O (td_P a b f g) mu fr n t j)) ?_ (fun jn => ?_)
      rotate_left
      · refine lv_iload_n hx hb dX0_decide_88 rfl (lv_at hl 4 rfl) ?_
        refine lv_iload_n hx hb dX0_decide_89 rfl (lv_at hl 2 rfl) ?_
        refine lv_icmp_ge (tgt := 104) hx hb dX0_decide_90 (by decide) (fun hc => ?_) (fun hc => ?_)
        · have h4 : ¬ t < fr := by have := (nI_leI (by omega) (by omega)).mp hc; omega
          refine lv_iload hx hb dX0_decide_104 (lv_at hl 0 rfl) ?_
          exact jn _ (by unfold td_O; rw [if_neg h4])
        · have h4 : t < fr := by rcases Nat.lt_or_ge t fr with z | z; exact z; exact absurd ((nI_leI (by omega) (by omega)).mpr z) hc
          refine lv_aload_n hx hb dX0_decide_93 rfl (lv_at hl 1 rfl) ?_
          refine lv_iload_n hx hb dX0_decide_94 rfl (lv_at hl 4 rfl) ?_
          refine lv_iload hx hb dX0_decide_95 (lv_at hl 5 rfl) ?_
          refine lv_iconst (v := nI 1) hx hb dX0_decide_97 (by decide) ?_
          refine tw_callR (W.runV (As := [.int (nI t), .int (nI j), .int (nI 1)]) (rest := []) ⟨hx, hb, hml, hown, hts⟩ (mt_from l D (t := t) (o := j) (lt := 1) (x := 2 ^ mu + j) (by omega) hmu hj (by decide) (by omega)) (cwV 3 hts (lw_V q53 q55 qs0 q3 q56) rfl rfl rfl (by decide +kernel) ⟨Nat.le_of_ble_eq_true rfl, Nat.le_of_ble_eq_true rfl⟩) (ro_V (ci := 0) (q0 := 0) hK hP rfl rfl) rfl rfl hl.1 rfl (lv_room (Nat.le_of_ble_eq_true rfl)) dX0_decide_98 ⟨Nat.le_of_ble_eq_true rfl, Nat.le_of_ble_eq_true rfl⟩) ?_
          refine tw_top (y := Int32.ofInt (td_Z (td_P a b f g) mu fr n t (2 ^ mu + j))) (td_from u3.1 ht (by omega)) ?_
          refine lv_goto (tgt := 106) hx hb dX0_decide_101 (by decide) ?_
          exact jn _ (by unfold td_O; rw [if_pos h4])
      refine lv_istore (lv' := [(6, .int (Int32.ofInt (td_O (td_P a b f g) mu fr n t j))), (5, .int (Int32.ofInt (td_Z (td_P a b f g) mu fr n t j))), (0, .ref h), (1, .int (nI fr)), (2, .int (nI (2 ^ mu))), (3, .int (nI t)), (4, .int (nI j))]) hx hb dX0_decide_106 hl (by decide) rfl (fun ls hl => ?_)
      refine lv_aload_n hx hb dX0_decide_108 rfl (lv_at hl 2 rfl) ?_
      refine va_get (ci := 0) (v := .ref h3) (C := RX0) (T := TX0) (N := 8) hx hb hts in_X0 hown hK hP 0 rfl rfl 7 (by decide) (hts _ q20) (fun _ h9 => h9) rfl dX0_decide_109 ?_
      refine lv_iload_n hx hb dX0_decide_112 rfl (lv_at hl 5 rfl) ?_
      refine lv_bipush (v := nI 32) hx hb dX0_decide_113 (by decide) ?_
      refine lv_imul hx hb dX0_decide_115 ?_
      refine tw_top (y := nI (t * 32)) (pk_mul t 32) ?_
      refine lv_iload hx hb dX0_decide_116 (lv_at hl 6 rfl) ?_
      refine lv_iadd hx hb dX0_decide_118 ?_
      refine tw_top (y := nI (t * 32 + j)) (nI_add _ _) ?_
      refine tw_join (pcj := 133) (lsj := ls) (stj := [.int (nI (t * 32 + j)), .ref h3]) (A := Int32.ofInt (td_best (td_P a b f g) mu fr (n - t) t j)) ?_ (fun jn => ?_)
      rotate_left
      · refine lv_iload hx hb dX0_decide_119 (lv_at hl 0 rfl) ?_
        refine lv_iload hx hb dX0_decide_121 (lv_at hl 1 rfl) ?_
        refine lv_icmp_ge (tgt := 131) hx hb dX0_decide_123 (by decide) (fun hc => ?_) (fun hc => ?_)
        · refine lv_iload hx hb dX0_decide_131 (lv_at hl 1 rfl) ?_
          exact jn _ (congrArg Int32.ofInt (td_pick_z ht ((tn_leI (td_Z_sm hbd hn) (td_O_sm hbd hn)).mp hc)))
        · refine lv_iload hx hb dX0_decide_126 (lv_at hl 0 rfl) ?_
          refine lv_goto (tgt := 133) hx hb dX0_decide_128 (by decide) ?_
          exact jn _ (congrArg Int32.ofInt (td_pick_o ht (fun z => hc ((tn_leI (td_Z_sm hbd hn) (td_O_sm hbd hn)).mpr z))))
      refine va_iast hx hb hK hP hD hS 3 2 rfl rfl (pk_in (t * 32 + j) 416 (by omega)) dX0_decide_133 (fun H locs hP hD hS => ?_)
      rw [nI_clamp (n := t * 32 + j) (by omega)] at hP hD
      have hP : va_P D td_cl (wX h h1 h2 h3 c1 c2 c3 mu a b n dc f g (upd r (t * 32 + j) (Int32.ofInt (td_best (td_P a b f g) mu fr (n - t) t j)))) H := hP
      have hD : va_D A (wX h h1 h2 h3 c1 c2 c3 mu a b n dc f g (upd r (t * 32 + j) (Int32.ofInt (td_best (td_P a b f g) mu fr (n - t) t j)))) := hD
      refine lv_iinc (v := nI (j + 1)) (lv' := [(4, .int (nI (j + 1))), (6, .int (Int32.ofInt (td_O (td_P a b f g) mu fr n t j))), (5, .int (Int32.ofInt (td_Z (td_P a b f g) mu fr n t j))), (0, .ref h), (1, .int (nI fr)), (2, .int (nI (2 ^ mu))), (3, .int (nI t))]) hx hb dX0_decide_134 hl (k := 6) rfl (nI_add j 1) (by decide) rfl (fun ls hl => ?_)
      refine lv_goto (tgt := 72) hx hb dX0_decide_137 (by decide) ?_
      exact ih (j + 1) _ _ _ _ (by omega) (by omega) (td_RS_u hmu hj u3) hP hD hS (lv_sub hl [3, 4, 5, 6, 0] rfl)
set_option maxHeartbeats 4000000 in
/-- the table, from its end -/
theorem xd_t (S : CallFix p m c cX0_decide 7 s args lw_all RX0) (hK : va_K D td_cl (kX c1 c2 c3) s) (hn : n ≤ 12) (hmu : mu ≤ 5) (hf : td_short f) (hg : td_short g) (hfr : fr ≤ n)
    (kk : ∀ (r : Nat → Int32) (H : Heap) (locs : List Loc) (ls : Array Slot), td_RT (td_P a b f g) mu fr n 0 r → va_P D td_cl (wX h h1 h2 h3 c1 c2 c3 mu a b n dc f g r) H → va_D A (wX h h1 h2 h3 c1 c2 c3 mu a b n dc f g r) → va_S A s.heap H locs → lv_has ls 7 [(0, .ref h), (1, .int (nI fr)), (2, .int (nI (2 ^ mu)))] → W p l e rmXd s m args below meth c H locs 0 0 Q (F0 m 146 ls [])) :
    ∀ (k : Nat) (x3 : Int32) (r : Nat → Int32) (H : Heap) (locs : List Loc) (ls : Array Slot), k ≤ n → x3 = nI k - nI 1 → td_RT (td_P a b f g) mu fr n k r → va_P D td_cl (wX h h1 h2 h3 c1 c2 c3 mu a b n dc f g r) H → va_D A (wX h h1 h2 h3 c1 c2 c3 mu a b n dc f g r) → va_S A s.heap H locs → lv_has ls 7 [(0, .ref h), (1, .int (nI fr)), (2, .int (nI (2 ^ mu))), (3, .int x3)] → W p l e rmXd s m args below meth c H locs 0 0 Q (F0 m 65 ls []) := by
  obtain ⟨hx, hb, hml, hown, hts⟩ := S
  have hp := tn_p2 hmu
  intro k
  induction k with
  | zero =>
    intro x3 r H locs ls u1 u2 u3 hP hD hS hl
    refine lv_iload_n hx hb dX0_decide_65 rfl (lv_at hl 3 rfl) ?_
    refine lv_if_lt (tgt := 146) hx hb dX0_decide_66 (by decide) (fun hc => ?_) (fun hc => ?_)
    · exact kk r H locs ls u3 hP hD hS (lv_sub hl [0, 1, 2] rfl)
    · exact absurd (by rw [u2]; decide) hc
  | succ t ih =>
    intro x3 r H locs ls u1 u2 u3 hP hD hS hl
    have e3 : x3 = nI t := by rw [u2]; exact nI_pred t
    subst e3
    refine lv_iload_n hx hb dX0_decide_65 rfl (lv_at hl 3 rfl) ?_
    refine lv_if_lt (tgt := 146) hx hb dX0_decide_66 (by decide) (fun hc => ?_) (fun hc => ?_)
    · exact absurd hc (nI_pos (by omega))
    · refine lv_iconst (v := nI 0) hx hb dX0_decide_69 (by decide) ?_
      refine lv_istore (lv' := [(4, .int (nI 0)), (0, .ref h), (1, .int (nI fr)), (2, .int (nI (2 ^ mu))), (3, .int (nI t))]) hx hb dX0_decide_70 hl (by decide) rfl (fun ls hl => ?_)
      refine xd_s ⟨hx, hb, hml, hown, hts⟩ hK hn hmu hf hg (t := t) (by omega) hfr (fun r H locs ls u4 hP hD hS hl => ?_) (2 ^ mu + 1) 0 r H locs ls (Nat.zero_le _) (by omega) (td_RS_0 u3) hP hD hS (lv_sub hl [1, 2, 3, 4, 0] rfl)
      refine lv_iinc (v := nI t - nI 1) (lv' := [(3, .int (nI t - nI 1)), (0, .ref h), (1, .int (nI fr)), (2, .int (nI (2 ^ mu)))]) hx hb dX0_decide_140 hl (k := 3) rfl (by rw [Int32.sub_eq_add_neg]; rfl) (by decide) rfl (fun ls hl => ?_)
      refine lv_goto (tgt := 65) hx hb dX0_decide_143 (by decide) ?_
      exact ih _ r H locs ls (by omega) rfl (td_RS_e u4) hP hD hS (lv_sub hl [1, 2, 3, 0] rfl)
set_option maxHeartbeats 4000000 in
/-- the message is read off -/
theorem xd_r (S : CallFix p m c cX0_decide 7 s args lw_all RX0) (hK : va_K D td_cl (kX c1 c2 c3) s) (hn : n ≤ 12) (hmu : mu ≤ 5) (hf : td_short f) (hg : td_short g) (hfr : fr ≤ n) {r : Nat → Int32} {H : Heap} {locs : List Loc} (hr : td_RT (td_P a b f g) mu fr n 0 r) (hP : va_P D td_cl (wX h h1 h2 h3 c1 c2 c3 mu a b n dc f g r) H)
    (kk : ∀ (M o : Nat) (ls : Array Slot), td_RI (td_P a b f g) mu fr n fr M o → lv_has ls 7 [(0, .ref h), (3, .int (nI M))] → W p l e rmXd s m args below meth c H locs 0 0 Q (F0 m 229 ls [])) :
    ∀ (d t M o : Nat) (ls : Array Slot), t ≤ fr → fr + 1 ≤ t + d → td_RI (td_P a b f g) mu fr n t M o → lv_has ls 7 [(0, .ref h), (1, .int (nI fr)), (3, .int (nI M)), (4, .int (nI o)), (5, .int (nI t))] → W p l e rmXd s m args below meth c H locs 0 0 Q (F0 m 164 ls []) := by
  obtain ⟨hx, hb, hml, hown, hts⟩ := S
  have hp := tn_p2 hmu
  have hbd := td_P_bd (a := a) (b := b) hf hg
  intro d
  induction d with
  | zero => intro t M o ls u1 u2; exact absurd u2 (by omega)
  | succ d ih =>
    intro t M o ls u1 u2 u3 hl
    refine lv_iload hx hb dX0_decide_164 (lv_at hl 4 rfl) ?_
    refine lv_iload_n hx hb dX0_decide_166 rfl (lv_at hl 1 rfl) ?_
    refine lv_icmp_ge (tgt := 229) hx hb dX0_decide_167 (by decide) (fun hc => ?_) (fun hc => ?_)
    · have e : t = fr := by have := (nI_leI (by omega) (by omega)).mp hc; omega
      subst e
      exact kk M o ls u3 (lv_sub hl [0, 2] rfl)
    · have hj : t < fr := by rcases Nat.lt_or_ge t fr with z | z; exact z; exact absurd ((nI_leI (by omega) (by omega)).mpr z) hc
      have ho : o < 2 ^ mu := u3.2.1
      have hM : M < 2 ^ 30 := Nat.lt_of_lt_of_le u3.1 (Nat.pow_le_pow_right (by decide) (by omega))
      refine lv_aload_n hx hb dX0_decide_170 rfl (lv_at hl 0 rfl) ?_
      refine lv_iload hx hb dX0_decide_171 (lv_at hl 4 rfl) ?_
      refine lv_iload hx hb dX0_decide_173 (lv_at hl 3 rfl) ?_
      refine lv_iconst (v := nI 0) hx hb dX0_decide_175 (by decide) ?_
      refine tw_callR (W.runV (As := [.int (nI t), .int (nI o), .int (nI 0)]) (rest := []) ⟨hx, hb, hml, hown, hts⟩ (mt_from l D (t := t) (o := o) (lt := 0) (x := o) (by omega) hmu ho (by decide) (by omega)) (cwV 3 hts (lw_V q53 q55 qs0 q3 q56) rfl rfl rfl (by decide +kernel) ⟨Nat.le_of_ble_eq_true rfl, Nat.le_of_ble_eq_true rfl⟩) (ro_V (ci := 0) (q0 := 0) hK hP rfl rfl) rfl rfl hl.1 rfl (lv_room (Nat.le_of_ble_eq_true rfl)) dX0_decide_176 ⟨Nat.le_of_ble_eq_true rfl, Nat.le_of_ble_eq_true rfl⟩) ?_
      refine tw_top (y := Int32.ofInt (td_Z (td_P a b f g) mu fr n t o)) (td_from (fun t1 z1 z2 => hr t1 (Nat.zero_le _) z2) (by omega) (by omega)) ?_
      refine lv_aload_n hx hb dX0_decide_179 rfl (lv_at hl 0 rfl) ?_
      refine va_get (ci := 0) (v := .ref h3) (C := RX0) (T := TX0) (N := 8) hx hb hts in_X0 hown hK hP 0 rfl rfl 7 (by decide) (hts _ q20) (fun _ h9 => h9) rfl dX0_decide_180 ?_
      refine lv_iload hx hb dX0_decide_183 (lv_at hl 4 rfl) ?_
      refine lv_bipush (v := nI 32) hx hb dX0_decide_185 (by decide) ?_
      refine lv_imul hx hb dX0_decide_187 ?_
      refine tw_top (y := nI (t * 32)) (pk_mul t 32) ?_
      refine lv_iload hx hb dX0_decide_188 (lv_at hl 3 rfl) ?_
      refine lv_iadd hx hb dX0_decide_190 ?_
      refine tw_top (y := nI (t * 32 + o)) (nI_add _ _) ?_
      refine va_iald hx hb hK hP 3 2 rfl rfl (pk_in (t * 32 + o) 416 (by omega)) dX0_decide_191 ?_
      refine tw_top (y := Int32.ofInt (td_best (td_P a b f g) mu fr (n - t) t o)) ((congrArg r (nI_clamp (by omega))).trans (hr t (Nat.zero_le _) (by omega) o ho)) ?_
      refine tw_join (pcj := 200) (lsj := ls) (stj := []) (A := nI (td_let (td_P a b f g) mu fr n t o)) ?_ (fun jn => ?_)
      rotate_left
      · refine lv_icmp_ne (tgt := 199) hx hb dX0_decide_192 (by decide) (fun hc => ?_) (fun hc => ?_)
        · refine lv_iconst (v := nI 1) hx hb dX0_decide_199 (by decide) ?_
          exact jn _ (by unfold td_let; rw [if_neg (fun z => hc (by rw [z]))])
        · refine lv_iconst (v := nI 0) hx hb dX0_decide_195 (by decide) ?_
          refine lv_goto (tgt := 200) hx hb dX0_decide_196 (by decide) ?_
          exact jn _ (by unfold td_let; rw [if_pos ((tn_eqI (td_Z_sm hbd hn) (td_best_sm hbd (by omega))).mp hc)])
      have u5 := td_RI_s hj hfr u3
      have hlt := td_let_lt (td_P a b f g) mu fr n t o
      generalize td_let (td_P a b f g) mu fr n t o = lt at u5 hlt ⊢
      refine lv_istore (lv' := [(6, .int (nI lt)), (0, .ref h), (1, .int (nI fr)), (3, .int (nI M)), (4, .int (nI o)), (5, .int (nI t))]) hx hb dX0_decide_200 hl (by decide) rfl (fun ls hl => ?_)
      refine lv_iload_n hx hb dX0_decide_202 rfl (lv_at hl 3 rfl) ?_
      refine lv_iconst (v := nI 1) hx hb dX0_decide_203 (by decide) ?_
      refine lv_ishl hx hb dX0_decide_204 ?_
      refine lv_iload hx hb dX0_decide_205 (lv_at hl 0 rfl) ?_
      refine lv_ior hx hb dX0_decide_207 ?_
      refine tw_top (y := nI (2 * M + lt)) (tn_msg hM hlt) ?_
      refine lv_istore_n (lv' := [(3, .int (nI (2 * M + lt))), (6, .int (nI lt)), (0, .ref h), (1, .int (nI fr)), (4, .int (nI o)), (5, .int (nI t))]) hx hb dX0_decide_208 rfl hl (by decide) rfl (fun ls hl => ?_)
      refine lv_iload hx hb dX0_decide_209 (lv_at hl 1 rfl) ?_
      refine lv_aload_n hx hb dX0_decide_211 rfl (lv_at hl 2 rfl) ?_
      refine va_get (ci := 0) (v := .int (nI mu)) (C := RX0) (T := TX0) (N := 8) hx hb hts in_X0 hown hK hP 0 rfl rfl 0 (by decide) (hts _ q13) (fun _ h9 => h9) rfl dX0_decide_212 ?_
      refine lv_ishl hx hb dX0_decide_215 ?_
      refine lv_iload hx hb dX0_decide_216 (lv_at hl 4 rfl) ?_
      refine lv_ior hx hb dX0_decide_218 ?_
      refine tw_top (y := nI (lt * 2 ^ mu + o)) (tn_reg hmu hlt ho) ?_
      refine lv_iconst (v := nI 1) hx hb dX0_decide_219 (by decide) ?_
      refine lv_ishr hx hb dX0_decide_220 ?_
      refine tw_top (y := nI ((lt * 2 ^ mu + o) / 2)) (tn_half (by have := tn_regS hmu hlt ho; omega)) ?_
      refine lv_istore (lv' := [(4, .int (nI ((lt * 2 ^ mu + o) / 2))), (3, .int (nI (2 * M + lt))), (6, .int (nI lt)), (0, .ref h), (1, .int (nI fr)), (5, .int (nI t))]) hx hb dX0_decide_221 hl (by decide) rfl (fun ls hl => ?_)
      refine lv_iinc (v := nI (t + 1)) (lv' := [(5, .int (nI (t + 1))), (4, .int (nI ((lt * 2 ^ mu + o) / 2))), (3, .int (nI (2 * M + lt))), (6, .int (nI lt)), (0, .ref h), (1, .int (nI fr))]) hx hb dX0_decide_223 hl (k := 5) rfl (nI_add t 1) (by decide) rfl (fun ls hl => ?_)
      refine lv_goto (tgt := 164) hx hb dX0_decide_226 (by decide) ?_
      exact ih (t + 1) _ _ _ (by omega) (by omega) u5 (lv_sub hl [4, 5, 2, 1, 0] rfl)
end XD
set_option maxHeartbeats 4000000 in
set_option maxRecDepth 100000 in
/-- decide, too few pairs -/
theorem mt_XdecideN (l : Launch) (D : va_G) {h h1 h2 h3 : Nat} {c1 c2 c3 : ClassId} {mu a b n : Nat} {dc : Int32} {f g r : Nat → Int32} (hn : n ≤ 12) (hmu : mu ≤ 5) (hle : n ≤ mu) : Met l yX0_decide (ws_ yX0_decide cX0_decide 7 (some .int)) ({ frames := 3, cells := 0, slots := 0, locals := 66 }) (ro_P [.ref h] D (wX h h1 h2 h3 c1 c2 c3 mu a b n dc f g r) (kX c1 c2 c3)) (QcRead (-1)) 0 0 (fun _ => False) := by
  refine Met.ofW (cc := cX0_decide) (maxL := 7) (ret := (some .int)) (by decide) rfl ?_
  intro p e s m args below meth c s₁ B hml hv
  obtain ⟨rfl, hP, hK⟩ := hv
  have hx := B.exec
  have hb := B.bytes
  have hr := B.returns
  have hts := atoms_spec (ws := ws_ yX0_decide cX0_decide 7 (some .int)) B.pre
  have hts : ∀ w ∈ lw_all, w.before _ s = true := fun w h => hts w (List.mem_cons_of_mem _ h)
  have hown : s.vm.findClass RX0 = some m.cls := findClass_of_methodNamed B.named
  have hlocks := B.notSynchronized
  have hl := lv_entry ([.ref h]) (n := 7) (Nat.le_of_ble_eq_true rfl)
  rw [lg_entry_eq]
  generalize (lg_sl ([.ref h]) ++ List.replicate (7 - (lg_sl ([.ref h])).length) Slot.unset).toArray = ls at hl ⊢
  have hl : lv_has ls 7 [(0, .ref h)] := hl
  refine lv_aload_n hx hb dX0_decide_0 rfl (lv_at hl 0 rfl) ?_
  refine va_get (ci := 0) (v := .int (nI n)) (C := RX0) (T := TX0) (N := 8) hx hb hts in_X0 hown hK hP 0 rfl rfl 5 (by decide) (hts _ q18) (fun _ h9 => h9) rfl dX0_decide_1 ?_
  refine lv_aload_n hx hb dX0_decide_4 rfl (lv_at hl 0 rfl) ?_
  refine va_get (ci := 0) (v := .int (nI mu)) (C := RX0) (T := TX0) (N := 8) hx hb hts in_X0 hown hK hP 0 rfl rfl 0 (by decide) (hts _ q13) (fun _ h9 => h9) rfl dX0_decide_5 ?_
  refine lv_icmp_gt (tgt := 13) hx hb dX0_decide_8 (by decide) (fun hc => ?_) (fun hc => ?_)
  · exact absurd ((nI_ltI (by omega) (by omega)).mp hc) (by omega)
  · refine lv_iconst (v := -1) hx hb dX0_decide_11 (by decide) ?_
    exact tw_iret hx hb hr hlocks rfl dX0_decide_12
set_option maxHeartbeats 4000000 in
set_option maxRecDepth 100000 in
/-- decide: the first of the cheapest messages, and its cost -/
theorem mt_Xdecide (l : Launch) (D : va_G) {sz : Nat} {h h1 h2 h3 : Nat} {c1 c2 c3 : ClassId} {mu a b n : Nat} {dc : Int32} {f g r : Nat → Int32} (hn : n ≤ 12) (hmu1 : 1 ≤ mu) (hmu : mu ≤ 5) (hlt : mu < n) (hf : td_short f) (hg : td_short g) : Met l yX0_decide (ws_ yX0_decide cX0_decide 7 (some .int)) ({ frames := 3, cells := 0, slots := 0, locals := 66 }) (mu_P [.ref h] D (wX h h1 h2 h3 c1 c2 c3 mu a b n dc f g r) (kX c1 c2 c3) sz) (va_Qi (fun (z : Int32) (u : Nat × (Nat → Int32)) => z = nI u.1 ∧ td_arg (td_P a b f g) mu (n - mu) n u.1) (mu_B D (fun u => wX h h1 h2 h3 c1 c2 c3 mu a b n (Int32.ofInt (td_T (td_P a b f g) mu (n - mu) u.1 n 0 0)) f g u.2) (fun _ => kX c1 c2 c3) (va_A (wX h h1 h2 h3 c1 c2 c3 mu a b n dc f g r) sz)) (va_A (wX h h1 h2 h3 c1 c2 c3 mu a b n dc f g r) sz)) 0 0 (va_A (wX h h1 h2 h3 c1 c2 c3 mu a b n dc f g r) sz) := by
  refine Met.ofW (cc := cX0_decide) (maxL := 7) (ret := (some .int)) (by decide) rfl ?_
  intro p e s m args below meth c s₁ B hml hv
  obtain ⟨rfl, hsz, hP, hK, hD0⟩ := hv
  have hx := B.exec
  have hb := B.bytes
  have hr := B.returns
  have hts := atoms_spec (ws := ws_ yX0_decide cX0_decide 7 (some .int)) B.pre
  have hts : ∀ w ∈ lw_all, w.before _ s = true := fun w h => hts w (List.mem_cons_of_mem _ h)
  have hown : s.vm.findClass RX0 = some m.cls := findClass_of_methodNamed B.named
  have hlocks := B.notSynchronized
  subst hsz
  have hD := hD0.self (sz := s.heap.size)
  generalize hAe : va_A (wX h h1 h2 h3 c1 c2 c3 mu a b n dc f g r) s.heap.size = A at hD ⊢
  have hA : ∀ q : Nat, s.heap.size ≤ q → A q := fun q h => by rw [← hAe]; exact Or.inr h
  have hS : va_S A s.heap s.heap [] := va_S.rf
  have hl := lv_entry ([.ref h]) (n := 7) (Nat.le_of_ble_eq_true rfl)
  rw [lg_entry_eq]
  generalize (lg_sl ([.ref h]) ++ List.replicate (7 - (lg_sl ([.ref h])).length) Slot.unset).toArray = ls at hl ⊢
  have hl : lv_has ls 7 [(0, .ref h)] := hl
  have hp := tn_p2 hmu
  refine lv_aload_n hx hb dX0_decide_0 rfl (lv_at hl 0 rfl) ?_
  refine va_get (ci := 0) (v := .int (nI n)) (C := RX0) (T := TX0) (N := 8) hx hb hts in_X0 hown hK hP 0 rfl rfl 5 (by decide) (hts _ q18) (fun _ h9 => h9) rfl dX0_decide_1 ?_
  refine lv_aload_n hx hb dX0_decide_4 rfl (lv_at hl 0 rfl) ?_
  refine va_get (ci := 0) (v := .int (nI mu)) (C := RX0) (T := TX0) (N := 8) hx hb hts in_X0 hown hK hP 0 rfl rfl 0 (by decide) (hts _ q13) (fun _ h9 => h9) rfl dX0_decide_5 ?_
  refine lv_icmp_gt (tgt := 13) hx hb dX0_decide_8 (by decide) (fun hc => ?_) (fun hc => ?_)
  · refine lv_aload_n hx hb dX0_decide_13 rfl (lv_at hl 0 rfl) ?_
    refine va_get (ci := 0) (v := .int (nI n)) (C := RX0) (T := TX0) (N := 8) hx hb hts in_X0 hown hK hP 0 rfl rfl 5 (by decide) (hts _ q18) (fun _ h9 => h9) rfl dX0_decide_14 ?_
    refine lv_aload_n hx hb dX0_decide_17 rfl (lv_at hl 0 rfl) ?_
    refine va_get (ci := 0) (v := .int (nI mu)) (C := RX0) (T := TX0) (N := 8) hx hb hts in_X0 hown hK hP 0 rfl rfl 0 (by decide) (hts _ q13) (fun _ h9 => h9) rfl dX0_decide_18 ?_
    refine lv_isub hx hb dX0_decide_21 ?_
    refine tw_top (y := nI (n - mu)) (pk_sub (by omega)) ?_
    refine lv_istore_n (lv' := [(1, .int (nI (n - mu))), (0, .ref h)]) hx hb dX0_decide_22 rfl hl (by decide) rfl (fun ls hl => ?_)
    refine lv_iconst (v := nI 1) hx hb dX0_decide_23 (by decide) ?_
    refine lv_aload_n hx hb dX0_decide_24 rfl (lv_at hl 1 rfl) ?_
    refine va_get (ci := 0) (v := .int (nI mu)) (C := RX0) (T := TX0) (N := 8) hx hb hts in_X0 hown hK hP 0 rfl rfl 0 (by decide) (hts _ q13) (fun _ h9 => h9) rfl dX0_decide_25 ?_
    refine lv_ishl hx hb dX0_decide_28 ?_
    refine tw_top (y := nI (2 ^ mu)) (tn_1shl (by omega)) ?_
    refine lv_istore_n (lv' := [(2, .int (nI (2 ^ mu))), (1, .int (nI (n - mu))), (0, .ref h)]) hx hb dX0_decide_29 rfl hl (by decide) rfl (fun ls hl => ?_)
    refine lv_iconst (v := nI 0) hx hb dX0_decide_30 (by decide) ?_
    refine lv_istore_n (lv' := [(3, .int (nI 0)), (2, .int (nI (2 ^ mu))), (1, .int (nI (n - mu))), (0, .ref h)]) hx hb dX0_decide_31 rfl hl (by decide) rfl (fun ls hl => ?_)
    refine xd_fill ⟨hx, hb, hml, hown, hts⟩ hK hn hmu (fun r H locs ls u4 hP hD hS hl => ?_) (2 ^ mu + 1) 0 r _ _ ls (Nat.zero_le _) (by omega) (fun i hi => absurd hi (Nat.not_lt_zero i)) hP hD hS (lv_sub hl [3, 2, 1, 0] rfl)
    refine lv_aload_n hx hb dX0_decide_58 rfl (lv_at hl 0 rfl) ?_
    refine va_get (ci := 0) (v := .int (nI n)) (C := RX0) (T := TX0) (N := 8) hx hb hts in_X0 hown hK hP 0 rfl rfl 5 (by decide) (hts _ q18) (fun _ h9 => h9) rfl dX0_decide_59 ?_
    refine lv_iconst (v := nI 1) hx hb dX0_decide_62 (by decide) ?_
    refine lv_isub hx hb dX0_decide_63 ?_
    refine lv_istore_n (lv' := [(3, .int ((nI n) - (nI 1))), (0, .ref h), (1, .int (nI (n - mu))), (2, .int (nI (2 ^ mu)))]) hx hb dX0_decide_64 rfl hl (by decide) rfl (fun ls hl => ?_)
    refine xd_t ⟨hx, hb, hml, hown, hts⟩ hK hn hmu hf hg (Nat.sub_le _ _) (fun r H locs ls u5 hP hD hS hl => ?_) n _ r H locs ls (Nat.le_refl _) rfl (td_RT_n u4) hP hD hS (lv_sub hl [1, 2, 3, 0] rfl)
    refine lv_aload_n hx hb dX0_decide_146 rfl (lv_at hl 0 rfl) ?_
    refine lv_aload_n hx hb dX0_decide_147 rfl (lv_at hl 0 rfl) ?_
    refine va_get (ci := 0) (v := .ref h3) (C := RX0) (T := TX0) (N := 8) hx hb hts in_X0 hown hK hP 0 rfl rfl 7 (by decide) (hts _ q20) (fun _ h9 => h9) rfl dX0_decide_148 ?_
    refine lv_iconst (v := nI 0) hx hb dX0_decide_151 (by decide) ?_
    refine va_iald hx hb hK hP 3 2 rfl rfl (pk_in 0 416 (by decide)) dX0_decide_152 ?_
    refine tw_top (y := Int32.ofInt (td_best (td_P a b f g) mu (n - mu) n 0 0)) ((congrArg r (nI_clamp (by decide))).trans (u5 0 (Nat.le_refl _) (Nat.zero_le _) 0 (Nat.two_pow_pos mu))) ?_
    refine va_put (ci := 0) (v := .int (Int32.ofInt (td_best (td_P a b f g) mu (n - mu) n 0 0))) (ty := .int) (C := RX0) (T := TX0) (N := 8) hx hb hts in_X0 tyX0 tyX0_ok nmX0 hown hK hP hD hS 0 rfl rfl 6 (by decide) (hts _ q19) (fun _ h9 => h9) rfl (by decide +kernel) rfl rfl (Nat.le_of_ble_eq_true rfl) dX0_decide_153 (fun H locs hP hD hS => ?_)
    have hP : va_P D td_cl (wX h h1 h2 h3 c1 c2 c3 mu a b n (Int32.ofInt (td_best (td_P a b f g) mu (n - mu) n 0 0)) f g r) H := hP
    have hD : va_D A (wX h h1 h2 h3 c1 c2 c3 mu a b n (Int32.ofInt (td_best (td_P a b f g) mu (n - mu) n 0 0)) f g r) := hD
    refine lv_iconst (v := nI 0) hx hb dX0_decide_156 (by decide) ?_
    refine lv_istore_n (lv' := [(3, .int (nI 0)), (0, .ref h), (1, .int (nI (n - mu))), (2, .int (nI (2 ^ mu)))]) hx hb dX0_decide_157 rfl hl (by decide) rfl (fun ls hl => ?_)
    refine lv_iconst (v := nI 0) hx hb dX0_decide_158 (by decide) ?_
    refine lv_istore (lv' := [(4, .int (nI 0)), (3, .int (nI 0)), (0, .ref h), (1, .int (nI (n - mu))), (2, .int (nI (2 ^ mu)))]) hx hb dX0_decide_159 hl (by decide) rfl (fun ls hl => ?_)
    refine lv_iconst (v := nI 0) hx hb dX0_decide_161 (by decide) ?_
    refine lv_istore (lv' := [(5, .int (nI 0)), (4, .int (nI 0)), (3, .int (nI 0)), (0, .ref h), (1, .int (nI (n - mu))), (2, .int (nI (2 ^ mu)))]) hx hb dX0_decide_162 hl (by decide) rfl (fun ls hl => ?_)
    refine xd_r ⟨hx, hb, hml, hown, hts⟩ hK hn hmu hf hg (Nat.sub_le _ _) u5 hP (fun M o ls u6 hl => ?_) (n - mu + 1) 0 0 0 ls (Nat.zero_le _) (by omega) (td_RI_0 _ _ _ _) (lv_sub hl [3, 4, 2, 1, 0] rfl)
    obtain ⟨u7, u8⟩ := td_RI_end (Nat.sub_le _ _) u6
    rw [← u8] at hP hD
    refine lv_iload_n hx hb dX0_decide_229 rfl (lv_at hl 1 rfl) ?_
    exact W.iret (v := nI M) hx hb hr (fun t ht hW => ⟨⟨nI M, (M, r), rfl, ⟨rfl, u7⟩, by rw [ht]; exact hP, va_K.moved hW.alike hK, hD⟩, hS.F ht⟩) hS.2.2 dX0_decide_230
  · exact absurd ((nI_ltI (by omega) (by omega)).mpr hlt) hc
end
section
section YO
variable {p : Program} {l : Launch} {e : Env} {R : Room} {s : State} {m : MethodId} {args : Array Value} {below : List Frame} {meth : Method} {c : Code} {Q : State → Prop} {H : Heap} {locs : List Loc}
set_option maxHeartbeats 4000000 in
/-- odd's loop -/
theorem yo_loop (S : CallFix p m c cX1_odd 3 s args lw_all RX1) : ∀ (n b k : Nat) (ls : Array Slot), n ≤ 6 → b < 2 → k < 2 ^ n → lv_has ls 3 [(1, .int (nI b)), (2, .int (nI k))] → (∀ ls : Array Slot, lv_has ls 3 [(1, .int (nI ((b + td_par n k) % 2)))] → W p l e R s m args below meth c H locs 0 0 Q (F0 m 21 ls [])) → W p l e R s m args below meth c H locs 0 0 Q (F0 m 4 ls []) := by
  obtain ⟨hx, hb, hml, hown, hts⟩ := S
  intro n
  induction n with
  | zero =>
    intro b k ls u1 u2 u3 hl kk
    refine lv_iload_n hx hb dX1_odd_4 rfl (lv_at hl 1 rfl) ?_
    refine lv_if_eq (tgt := 21) hx hb dX1_odd_5 (by decide) (fun hc => ?_) (fun hc => ?_)
    · have e : (b + td_par 0 k) % 2 = b := by show (b + 0) % 2 = b; omega
      rw [e] at kk
      exact kk ls (lv_sub hl [0] rfl)
    · exact absurd (by rw [show k = 0 by omega]; rfl) hc
  | succ n ih =>
    intro b k ls u1 u2 u3 hl kk
    have u4 : 2 ^ (n + 1) ≤ 2 ^ 6 := Nat.pow_le_pow_right (by decide) u1
    have u5 : 2 ^ (n + 1) = 2 * 2 ^ n := by rw [Nat.pow_succ, Nat.mul_comm]
    refine lv_iload_n hx hb dX1_odd_4 rfl (lv_at hl 1 rfl) ?_
    refine lv_if_eq (tgt := 21) hx hb dX1_odd_5 (by decide) (fun hc => ?_) (fun hc => ?_)
    · have e0 : k = 0 := (nI_eq (b := 0) (by omega) (by decide)).mp hc
      have e : (b + td_par (n + 1) k) % 2 = b := by rw [e0, td_par_0]; omega
      rw [e] at kk
      exact kk ls (lv_sub hl [0] rfl)
    · refine lv_iload_n hx hb dX1_odd_8 rfl (lv_at hl 0 rfl) ?_
      refine lv_iload_n hx hb dX1_odd_9 rfl (lv_at hl 1 rfl) ?_
      refine lv_iconst (v := nI 1) hx hb dX1_odd_10 (by decide) ?_
      refine lv_iand hx hb dX1_odd_11 ?_
      refine lv_ixor hx hb dX1_odd_12 ?_
      refine tw_top (y := nI ((b + k % 2) % 2)) (tn_xor1 u2 (by omega)) ?_
      refine lv_istore_n (lv' := [(1, .int (nI ((b + k % 2) % 2))), (2, .int (nI k))]) hx hb dX1_odd_13 rfl hl (by decide) rfl (fun ls hl => ?_)
      refine lv_iload_n hx hb dX1_odd_14 rfl (lv_at hl 1 rfl) ?_
      refine lv_iconst (v := nI 1) hx hb dX1_odd_15 (by decide) ?_
      refine lv_iushr (v := nI (k / 2)) hx hb dX1_odd_16 (tn_ush1 (by omega)) ?_
      refine lv_istore_n (lv' := [(2, .int (nI (k / 2))), (1, .int (nI ((b + k % 2) % 2)))]) hx hb dX1_odd_17 rfl hl (by decide) rfl (fun ls hl => ?_)
      refine lv_goto (tgt := 4) hx hb dX1_odd_18 (by decide) ?_
      refine ih ((b + k % 2) % 2) (k / 2) ls (by omega) (Nat.mod_lt _ (by decide)) (by omega) (lv_sub hl [1, 0] rfl) ?_
      have e : ((b + k % 2) % 2 + td_par n (k / 2)) % 2 = (b + td_par (n + 1) k) % 2 := by show _ = (b + (k % 2 + td_par n (k / 2)) % 2) % 2; omega
      rw [e]
      exact kk
end YO
set_option maxHeartbeats 4000000 in
set_option maxRecDepth 100000 in
/-- odd: the parity -/
theorem mt_odd (l : Launch) {k : Nat} (hk : k < 64) : Met l yX1_odd (ws_ yX1_odd cX1_odd 3 (some .int)) ({ frames := 0, cells := 0, slots := 0, locals := 0 }) (fun v _ => v = ([.int (nI k)] : List Value).toArray) (QcRead (nI (td_par 6 k))) 0 0 (fun _ => False) := by
  refine Met.ofW (cc := cX1_odd) (maxL := 3) (ret := (some .int)) (by decide) rfl ?_
  intro p e s m args below meth c s₁ B hml hv
  obtain rfl := hv
  have hx := B.exec
  have hb := B.bytes
  have hr := B.returns
  have hts := atoms_spec (ws := ws_ yX1_odd cX1_odd 3 (some .int)) B.pre
  have hts : ∀ w ∈ lw_all, w.before _ s = true := fun w h => hts w (List.mem_cons_of_mem _ h)
  have hown : s.vm.findClass RX1 = some m.cls := findClass_of_methodNamed B.named
  have hlocks := B.notSynchronized
  have hl := lv_entry ([.int (nI k)]) (n := 3) (Nat.le_of_ble_eq_true rfl)
  rw [lg_entry_eq]
  generalize (lg_sl ([.int (nI k)]) ++ List.replicate (3 - (lg_sl ([.int (nI k)])).length) Slot.unset).toArray = ls at hl ⊢
  have hl : lv_has ls 3 [(0, .int (nI k))] := hl
  refine lv_iconst (v := nI 0) hx hb dX1_odd_0 (by decide) ?_
  refine lv_istore_n (lv' := [(1, .int (nI 0)), (0, .int (nI k))]) hx hb dX1_odd_1 rfl hl (by decide) rfl (fun ls hl => ?_)
  refine lv_iload_n hx hb dX1_odd_2 rfl (lv_at hl 1 rfl) ?_
  refine lv_istore_n (lv' := [(2, .int (nI k)), (1, .int (nI 0)), (0, .int (nI k))]) hx hb dX1_odd_3 rfl hl (by decide) rfl (fun ls hl => ?_)
  refine yo_loop ⟨hx, hb, hml, hown, hts⟩ 6 0 k ls (by decide) (by decide) hk (lv_sub hl [1, 0] rfl) (fun ls hl => ?_)
  refine lv_iload_n hx hb dX1_odd_21 rfl (lv_at hl 0 rfl) ?_
  exact tw_iret hx hb hr hlocks (by have := td_par_lt 6 k; rw [show (0 + td_par 6 k) % 2 = td_par 6 k by omega]) dX1_odd_22
set_option maxHeartbeats 4000000 in
set_option maxRecDepth 100000 in
/-- heard -/
theorem mt_Yheard (l : Launch) (D : va_G) {k k1 k2 : Nat} {d1 d2 : ClassId} {mu n : Nat} {told msg : Int32} {w q : Nat → Int32} : Met l yX1_heard (ws_ yX1_heard cX1_heard 1 (some .int)) ({ frames := 0, cells := 0, slots := 0, locals := 0 }) (ro_P [.ref k] D (wY k k1 k2 d1 d2 mu n told msg w q) (kY d1 d2)) (QcRead (nI n)) 0 0 (fun _ => False) := by
  refine Met.ofW (cc := cX1_heard) (maxL := 1) (ret := (some .int)) (by decide) rfl ?_
  intro p e s m args below meth c s₁ B hml hv
  obtain ⟨rfl, hP, hK⟩ := hv
  have hx := B.exec
  have hb := B.bytes
  have hr := B.returns
  have hts := atoms_spec (ws := ws_ yX1_heard cX1_heard 1 (some .int)) B.pre
  have hts : ∀ w ∈ lw_all, w.before _ s = true := fun w h => hts w (List.mem_cons_of_mem _ h)
  have hown : s.vm.findClass RX1 = some m.cls := findClass_of_methodNamed B.named
  have hlocks := B.notSynchronized
  have hl := lv_entry ([.ref k]) (n := 1) (Nat.le_of_ble_eq_true rfl)
  rw [lg_entry_eq]
  generalize (lg_sl ([.ref k]) ++ List.replicate (1 - (lg_sl ([.ref k])).length) Slot.unset).toArray = ls at hl ⊢
  have hl : lv_has ls 1 [(0, .ref k)] := hl
  refine lv_aload_n hx hb dX1_heard_0 rfl (lv_at hl 0 rfl) ?_
  refine va_get (ci := 1) (v := .int (nI n)) (C := RX1) (T := TX1) (N := 6) hx hb hts in_X1 hown hK hP 0 rfl rfl 3 (by decide) (hts _ q105) (fun _ h9 => h9) rfl dX1_heard_1 ?_
  exact tw_iret hx hb hr hlocks rfl dX1_heard_4
set_option maxHeartbeats 4000000 in
set_option maxRecDepth 100000 in
/-- new TrellisDeskModel() -/
theorem mt_Yinit (l : Launch) (D : va_G) {k sz : Nat} : Met l yX1_init (ws_ yX1_init cX1_init 1 none) ({ frames := 1, cells := 2, slots := 50, locals := 12 }) (mu_P [.ref k] D ([(k, .inr (1, [.null, .int 0, .null, .int 0, .int 0, .int 0]))]) ([]) sz) (va_Qv (fun (_ : (Nat × Nat) × (ClassId × ClassId)) => True) (mu_B D (fun u => wY k u.1.1 u.1.2 u.2.1 u.2.2 2 0 (-1) 0 (upd (upd (fun _ => 0) 0 (nI 7)) 1 (nI 5)) (fun _ => 0)) (fun u => kY u.2.1 u.2.2) (va_A ([(k, .inr (1, [.null, .int 0, .null, .int 0, .int 0, .int 0]))]) sz)) (va_A ([(k, .inr (1, [.null, .int 0, .null, .int 0, .int 0, .int 0]))]) sz)) 2 50 (va_A ([(k, .inr (1, [.null, .int 0, .null, .int 0, .int 0, .int 0]))]) sz) := by
  refine Met.ofW (cc := cX1_init) (maxL := 1) (ret := none) (by decide) rfl ?_
  intro p e s m args below meth c s₁ B hml hv
  obtain ⟨rfl, hsz, hP, hK, hD0⟩ := hv
  have hx := B.exec
  have hb := B.bytes
  have hr := B.returns
  have hts := atoms_spec (ws := ws_ yX1_init cX1_init 1 none) B.pre
  have hts : ∀ w ∈ lw_all, w.before _ s = true := fun w h => hts w (List.mem_cons_of_mem _ h)
  have hown : s.vm.findClass RX1 = some m.cls := findClass_of_methodNamed B.named
  have hlocks := B.notSynchronized
  subst hsz
  have hD := hD0.self (sz := s.heap.size)
  generalize hAe : va_A ([(k, .inr (1, [.null, .int 0, .null, .int 0, .int 0, .int 0]))]) s.heap.size = A at hD ⊢
  have hA : ∀ q : Nat, s.heap.size ≤ q → A q := fun q h => by rw [← hAe]; exact Or.inr h
  have hS : va_S A s.heap s.heap [] := va_S.rf
  have hl := lv_entry ([.ref k]) (n := 1) (Nat.le_of_ble_eq_true rfl)
  rw [lg_entry_eq]
  generalize (lg_sl ([.ref k]) ++ List.replicate (1 - (lg_sl ([.ref k])).length) Slot.unset).toArray = ls at hl ⊢
  have hl : lv_has ls 1 [(0, .ref k)] := hl
  have hin : meth.name = "<init>" := (name_of_methodNamed B.named B.method).1
  refine lv_aload_n hx hb dX1_init_0 rfl (lv_at hl 0 rfl) ?_
  refine W.objInit hx hb hown (hts _ q101) (hts _ q11) (hts _ q12) rfl (by rw [hml]; exact hl.1) rfl dX1_init_1 (Nat.le_of_ble_eq_true rfl) (Nat.le_of_ble_eq_true rfl) ?_
  refine W.eq (g2 := F0 m 4 ls []) rfl ?_
  refine lv_aload_n hx hb dX1_init_4 rfl (lv_at hl 0 rfl) ?_
  refine lv_iconst (v := nI 2) hx hb dX1_init_5 (by decide) ?_
  refine va_newa (atype := .int) (ty := .int) (N' := 2) (a0 := (2, .inl (fun _ => 0))) hx hb (hts _ q39) rfl hK hP hD hS hA (fun _ => rfl) (by decide) (by decide) (by decide) (Nat.le_of_ble_eq_true rfl) (Nat.le_of_ble_eq_true rfl) dX1_init_6 (fun k1 d1 H hK hP hD hS => ?_)
  refine W.widen (k := 1) (n := 2) (Nat.le_of_ble_eq_true rfl) (Nat.le_of_ble_eq_true rfl) ?_
  have hP : va_P D td_cl ([(k, .inr (1, [.null, .int 0, .null, .int 0, .int 0, .int 0])), (k1, .inl (d1, 2, .inl (fun _ => 0)))]) H := hP
  have hD : va_D A ([(k, .inr (1, [.null, .int 0, .null, .int 0, .int 0, .int 0])), (k1, .inl (d1, 2, .inl (fun _ => 0)))]) := hD
  have hK : va_K D td_cl ([(d1, .int)]) s := hK
  refine lv_dup hx hb dX1_init_8 rfl ?_
  refine lv_iconst (v := nI 0) hx hb dX1_init_9 (by decide) ?_
  refine lv_bipush (v := nI 7) hx hb dX1_init_10 (by decide) ?_
  refine va_iast hx hb hK hP hD hS 1 0 rfl rfl (pk_in 0 2 (by decide)) dX1_init_12 (fun H locs hP hD hS => ?_)
  rw [nI_clamp (n := 0) (by decide)] at hP hD
  have hP : va_P D td_cl ([(k, .inr (1, [.null, .int 0, .null, .int 0, .int 0, .int 0])), (k1, .inl (d1, 2, .inl (upd (fun _ => 0) 0 (nI 7))))]) H := hP
  have hD : va_D A ([(k, .inr (1, [.null, .int 0, .null, .int 0, .int 0, .int 0])), (k1, .inl (d1, 2, .inl (upd (fun _ => 0) 0 (nI 7))))]) := hD
  refine lv_dup hx hb dX1_init_13 rfl ?_
  refine lv_iconst (v := nI 1) hx hb dX1_init_14 (by decide) ?_
  refine lv_iconst (v := nI 5) hx hb dX1_init_15 (by decide) ?_
  refine va_iast hx hb hK hP hD hS 1 0 rfl rfl (pk_in 1 2 (by decide)) dX1_init_16 (fun H locs hP hD hS => ?_)
  rw [nI_clamp (n := 1) (by decide)] at hP hD
  have hP : va_P D td_cl ([(k, .inr (1, [.null, .int 0, .null, .int 0, .int 0, .int 0])), (k1, .inl (d1, 2, .inl (upd (upd (fun _ => 0) 0 (nI 7)) 1 (nI 5))))]) H := hP
  have hD : va_D A ([(k, .inr (1, [.null, .int 0, .null, .int 0, .int 0, .int 0])), (k1, .inl (d1, 2, .inl (upd (upd (fun _ => 0) 0 (nI 7)) 1 (nI 5))))]) := hD
  refine va_putF (ci := 1) (v := .ref k1) (ty := .array .int) (C := RX1) (T := TX1) (N := 6) hx hb hts in_X1 tyX1 tyX1_ok nmX1 hown hK hP hD hS 0 rfl rfl 0 (by decide) (hts _ q102) (fun _ h9 => h9) rfl hin rfl (by decide +kernel) rfl rfl (Nat.le_of_ble_eq_true rfl) dX1_init_17 (fun H locs hP hD hS => ?_)
  have hP : va_P D td_cl ([(k, .inr (1, [.ref k1, .int 0, .null, .int 0, .int 0, .int 0])), (k1, .inl (d1, 2, .inl (upd (upd (fun _ => 0) 0 (nI 7)) 1 (nI 5))))]) H := hP
  have hD : va_D A ([(k, .inr (1, [.ref k1, .int 0, .null, .int 0, .int 0, .int 0])), (k1, .inl (d1, 2, .inl (upd (upd (fun _ => 0) 0 (nI 7)) 1 (nI 5))))]) := hD
  refine lv_aload_n hx hb dX1_init_20 rfl (lv_at hl 0 rfl) ?_
  refine lv_iconst (v := nI 2) hx hb dX1_init_21 (by decide) ?_
  refine va_put (ci := 1) (v := .int (nI 2)) (ty := .int) (C := RX1) (T := TX1) (N := 6) hx hb hts in_X1 tyX1 tyX1_ok nmX1 hown hK hP hD hS 0 rfl rfl 1 (by decide) (hts _ q103) (fun _ h9 => h9) rfl (by decide +kernel) rfl rfl (Nat.le_of_ble_eq_true rfl) dX1_init_22 (fun H locs hP hD hS => ?_)
  have hP : va_P D td_cl ([(k, .inr (1, [.ref k1, .int (nI 2), .null, .int 0, .int 0, .int 0])), (k1, .inl (d1, 2, .inl (upd (upd (fun _ => 0) 0 (nI 7)) 1 (nI 5))))]) H := hP
  have hD : va_D A ([(k, .inr (1, [.ref k1, .int (nI 2), .null, .int 0, .int 0, .int 0])), (k1, .inl (d1, 2, .inl (upd (upd (fun _ => 0) 0 (nI 7)) 1 (nI 5))))]) := hD
  refine lv_aload_n hx hb dX1_init_25 rfl (lv_at hl 0 rfl) ?_
  refine lv_bipush (v := nI 48) hx hb dX1_init_26 (by decide) ?_
  refine va_newa (atype := .int) (ty := .int) (N' := 48) (a0 := (48, .inl (fun _ => 0))) hx hb (hts _ q39) rfl hK hP hD hS hA (fun _ => rfl) (by decide) (by decide) (by decide) (Nat.le_of_ble_eq_true rfl) (Nat.le_of_ble_eq_true rfl) dX1_init_28 (fun k2 d2 H hK hP hD hS => ?_)
  refine W.widen (k := 2) (n := 50) (Nat.le_of_ble_eq_true rfl) (Nat.le_of_ble_eq_true rfl) ?_
  have hP : va_P D td_cl ([(k, .inr (1, [.ref k1, .int (nI 2), .null, .int 0, .int 0, .int 0])), (k1, .inl (d1, 2, .inl (upd (upd (fun _ => 0) 0 (nI 7)) 1 (nI 5)))), (k2, .inl (d2, 48, .inl (fun _ => 0)))]) H := hP
  have hD : va_D A ([(k, .inr (1, [.ref k1, .int (nI 2), .null, .int 0, .int 0, .int 0])), (k1, .inl (d1, 2, .inl (upd (upd (fun _ => 0) 0 (nI 7)) 1 (nI 5)))), (k2, .inl (d2, 48, .inl (fun _ => 0)))]) := hD
  have hK : va_K D td_cl ([(d1, .int), (d2, .int)]) s := hK
  refine va_putF (ci := 1) (v := .ref k2) (ty := .array .int) (C := RX1) (T := TX1) (N := 6) hx hb hts in_X1 tyX1 tyX1_ok nmX1 hown hK hP hD hS 0 rfl rfl 2 (by decide) (hts _ q104) (fun _ h9 => h9) rfl hin rfl (by decide +kernel) rfl rfl (Nat.le_of_ble_eq_true rfl) dX1_init_30 (fun H locs hP hD hS => ?_)
  have hP : va_P D td_cl ([(k, .inr (1, [.ref k1, .int (nI 2), .ref k2, .int 0, .int 0, .int 0])), (k1, .inl (d1, 2, .inl (upd (upd (fun _ => 0) 0 (nI 7)) 1 (nI 5)))), (k2, .inl (d2, 48, .inl (fun _ => 0)))]) H := hP
  have hD : va_D A ([(k, .inr (1, [.ref k1, .int (nI 2), .ref k2, .int 0, .int 0, .int 0])), (k1, .inl (d1, 2, .inl (upd (upd (fun _ => 0) 0 (nI 7)) 1 (nI 5)))), (k2, .inl (d2, 48, .inl (fun _ => 0)))]) := hD
  refine lv_aload_n hx hb dX1_init_33 rfl (lv_at hl 0 rfl) ?_
  refine lv_iconst (v := -1) hx hb dX1_init_34 (by decide) ?_
  refine va_put (ci := 1) (v := .int (-1)) (ty := .int) (C := RX1) (T := TX1) (N := 6) hx hb hts in_X1 tyX1 tyX1_ok nmX1 hown hK hP hD hS 0 rfl rfl 4 (by decide) (hts _ q106) (fun _ h9 => h9) rfl (by decide +kernel) rfl rfl (Nat.le_of_ble_eq_true rfl) dX1_init_35 (fun H locs hP hD hS => ?_)
  have hP : va_P D td_cl ([(k, .inr (1, [.ref k1, .int (nI 2), .ref k2, .int 0, .int (-1), .int 0])), (k1, .inl (d1, 2, .inl (upd (upd (fun _ => 0) 0 (nI 7)) 1 (nI 5)))), (k2, .inl (d2, 48, .inl (fun _ => 0)))]) H := hP
  have hD : va_D A ([(k, .inr (1, [.ref k1, .int (nI 2), .ref k2, .int 0, .int (-1), .int 0])), (k1, .inl (d1, 2, .inl (upd (upd (fun _ => 0) 0 (nI 7)) 1 (nI 5)))), (k2, .inl (d2, 48, .inl (fun _ => 0)))]) := hD
  exact W.vret hx hb hr (fun t ht hW => ⟨⟨((k1, k2), (d1, d2)), rfl, trivial, by rw [ht]; exact hP, va_K.moved hW.alike hK, hD⟩, hS.F ht⟩) hS.2.2 dX1_init_38
set_option maxHeartbeats 4000000 in
set_option maxRecDepth 100000 in
/-- shape -/
theorem mt_Yshape (l : Launch) (D : va_G) {sz : Nat} {k k1 k2 : Nat} {d1 d2 : ClassId} {mu n : Nat} {told msg : Int32} {w q : Nat → Int32} {x1 x2 x3 : Int32} : Met l yX1_shape (ws_ yX1_shape cX1_shape 5 none) ({ frames := 0, cells := 0, slots := 0, locals := 0 }) (mu_P [.ref k, .int x1, .int x2, .int x3] D (wY k k1 k2 d1 d2 mu n told msg w q) (kY d1 d2) sz) (va_Qv (fun (_ : Unit) => True) (mu_B D (fun _ => wY k k1 k2 d1 d2 (td_mem x1) 0 (-1) 0 (upd (upd w 0 (nI (td_tap x1 x2))) 1 (nI (td_tap x1 x3))) q) (fun _ => kY d1 d2) (va_A (wY k k1 k2 d1 d2 mu n told msg w q) sz)) (va_A (wY k k1 k2 d1 d2 mu n told msg w q) sz)) 0 0 (va_A (wY k k1 k2 d1 d2 mu n told msg w q) sz) := by
  refine Met.ofW (cc := cX1_shape) (maxL := 5) (ret := none) (by decide) rfl ?_
  intro p e s m args below meth c s₁ B hml hv
  obtain ⟨rfl, hsz, hP, hK, hD0⟩ := hv
  have hx := B.exec
  have hb := B.bytes
  have hr := B.returns
  have hts := atoms_spec (ws := ws_ yX1_shape cX1_shape 5 none) B.pre
  have hts : ∀ w ∈ lw_all, w.before _ s = true := fun w h => hts w (List.mem_cons_of_mem _ h)
  have hown : s.vm.findClass RX1 = some m.cls := findClass_of_methodNamed B.named
  have hlocks := B.notSynchronized
  subst hsz
  have hD := hD0.self (sz := s.heap.size)
  generalize hAe : va_A (wY k k1 k2 d1 d2 mu n told msg w q) s.heap.size = A at hD ⊢
  have hA : ∀ q : Nat, s.heap.size ≤ q → A q := fun q h => by rw [← hAe]; exact Or.inr h
  have hS : va_S A s.heap s.heap [] := va_S.rf
  have hl := lv_entry ([.ref k, .int x1, .int x2, .int x3]) (n := 5) (Nat.le_of_ble_eq_true rfl)
  rw [lg_entry_eq]
  generalize (lg_sl ([.ref k, .int x1, .int x2, .int x3]) ++ List.replicate (5 - (lg_sl ([.ref k, .int x1, .int x2, .int x3])).length) Slot.unset).toArray = ls at hl ⊢
  have hl : lv_has ls 5 [(0, .ref k), (1, .int x1), (2, .int x2), (3, .int x3)] := hl
  refine lv_aload_n hx hb dX1_shape_0 rfl (lv_at hl 0 rfl) ?_
  refine lv_iconst (v := nI 1) hx hb dX1_shape_1 (by decide) ?_
  refine lv_iload_n hx hb dX1_shape_2 rfl (lv_at hl 1 rfl) ?_
  refine lv_ldc hx hb hown (hts _ q76) dX1_shape_3 ?_
  refine lv_iand hx hb dX1_shape_5 ?_
  refine lv_iconst (v := nI 5) hx hb dX1_shape_6 (by decide) ?_
  refine lv_irem hx hb dX1_shape_7 (by decide) ?_
  refine lv_iadd hx hb dX1_shape_8 ?_
  refine tw_top (y := nI (td_mem x1)) (td_mem_c x1) ?_
  refine va_put (ci := 1) (v := .int (nI (td_mem x1))) (ty := .int) (C := RX1) (T := TX1) (N := 6) hx hb hts in_X1 tyX1 tyX1_ok nmX1 hown hK hP hD hS 0 rfl rfl 1 (by decide) (hts _ q103) (fun _ h9 => h9) rfl (by decide +kernel) rfl rfl (Nat.le_of_ble_eq_true rfl) dX1_shape_9 (fun H locs hP hD hS => ?_)
  have hP : va_P D td_cl (wY k k1 k2 d1 d2 (td_mem x1) n told msg w q) H := hP
  have hD : va_D A (wY k k1 k2 d1 d2 (td_mem x1) n told msg w q) := hD
  refine lv_iconst (v := nI 2) hx hb dX1_shape_12 (by decide) ?_
  refine lv_aload_n hx hb dX1_shape_13 rfl (lv_at hl 0 rfl) ?_
  refine va_get (ci := 1) (v := .int (nI (td_mem x1))) (C := RX1) (T := TX1) (N := 6) hx hb hts in_X1 hown hK hP 0 rfl rfl 1 (by decide) (hts _ q103) (fun _ h9 => h9) rfl dX1_shape_14 ?_
  refine lv_ishl hx hb dX1_shape_17 ?_
  refine lv_iconst (v := nI 1) hx hb dX1_shape_18 (by decide) ?_
  refine lv_isub hx hb dX1_shape_19 ?_
  refine tw_top (y := nI (2 ^ (td_mem x1 + 1) - 1)) (td_mask_c (td_mem_in x1).2) ?_
  refine lv_istore (lv' := [(4, .int (nI (2 ^ (td_mem x1 + 1) - 1))), (0, .ref k), (1, .int x1), (2, .int x2), (3, .int x3)]) hx hb dX1_shape_20 hl (by decide) rfl (fun ls hl => ?_)
  refine lv_aload_n hx hb dX1_shape_22 rfl (lv_at hl 1 rfl) ?_
  refine va_get (ci := 1) (v := .ref k1) (C := RX1) (T := TX1) (N := 6) hx hb hts in_X1 hown hK hP 0 rfl rfl 0 (by decide) (hts _ q102) (fun _ h9 => h9) rfl dX1_shape_23 ?_
  refine lv_iconst (v := nI 0) hx hb dX1_shape_26 (by decide) ?_
  refine lv_iload_n hx hb dX1_shape_27 rfl (lv_at hl 3 rfl) ?_
  refine lv_iload hx hb dX1_shape_28 (lv_at hl 0 rfl) ?_
  refine lv_iand hx hb dX1_shape_30 ?_
  refine tw_top (y := nI (td_tap x1 x2)) (td_tap_c x1 x2) ?_
  refine va_iast hx hb hK hP hD hS 1 0 rfl rfl (pk_in 0 2 (by decide)) dX1_shape_31 (fun H locs hP hD hS => ?_)
  rw [nI_clamp (n := 0) (by decide)] at hP hD
  have hP : va_P D td_cl (wY k k1 k2 d1 d2 (td_mem x1) n told msg (upd w 0 (nI (td_tap x1 x2))) q) H := hP
  have hD : va_D A (wY k k1 k2 d1 d2 (td_mem x1) n told msg (upd w 0 (nI (td_tap x1 x2))) q) := hD
  refine lv_aload_n hx hb dX1_shape_32 rfl (lv_at hl 1 rfl) ?_
  refine va_get (ci := 1) (v := .ref k1) (C := RX1) (T := TX1) (N := 6) hx hb hts in_X1 hown hK hP 0 rfl rfl 0 (by decide) (hts _ q102) (fun _ h9 => h9) rfl dX1_shape_33 ?_
  refine lv_iconst (v := nI 1) hx hb dX1_shape_36 (by decide) ?_
  refine lv_iload_n hx hb dX1_shape_37 rfl (lv_at hl 4 rfl) ?_
  refine lv_iload hx hb dX1_shape_38 (lv_at hl 0 rfl) ?_
  refine lv_iand hx hb dX1_shape_40 ?_
  refine tw_top (y := nI (td_tap x1 x3)) (td_tap_c x1 x3) ?_
  refine va_iast hx hb hK hP hD hS 1 0 rfl rfl (pk_in 1 2 (by decide)) dX1_shape_41 (fun H locs hP hD hS => ?_)
  rw [nI_clamp (n := 1) (by decide)] at hP hD
  have hP : va_P D td_cl (wY k k1 k2 d1 d2 (td_mem x1) n told msg (upd (upd w 0 (nI (td_tap x1 x2))) 1 (nI (td_tap x1 x3))) q) H := hP
  have hD : va_D A (wY k k1 k2 d1 d2 (td_mem x1) n told msg (upd (upd w 0 (nI (td_tap x1 x2))) 1 (nI (td_tap x1 x3))) q) := hD
  refine lv_aload_n hx hb dX1_shape_42 rfl (lv_at hl 1 rfl) ?_
  refine lv_iconst (v := nI 0) hx hb dX1_shape_43 (by decide) ?_
  refine va_put (ci := 1) (v := .int (nI 0)) (ty := .int) (C := RX1) (T := TX1) (N := 6) hx hb hts in_X1 tyX1 tyX1_ok nmX1 hown hK hP hD hS 0 rfl rfl 3 (by decide) (hts _ q105) (fun _ h9 => h9) rfl (by decide +kernel) rfl rfl (Nat.le_of_ble_eq_true rfl) dX1_shape_44 (fun H locs hP hD hS => ?_)
  have hP : va_P D td_cl (wY k k1 k2 d1 d2 (td_mem x1) 0 told msg (upd (upd w 0 (nI (td_tap x1 x2))) 1 (nI (td_tap x1 x3))) q) H := hP
  have hD : va_D A (wY k k1 k2 d1 d2 (td_mem x1) 0 told msg (upd (upd w 0 (nI (td_tap x1 x2))) 1 (nI (td_tap x1 x3))) q) := hD
  refine lv_aload_n hx hb dX1_shape_47 rfl (lv_at hl 1 rfl) ?_
  refine lv_iconst (v := -1) hx hb dX1_shape_48 (by decide) ?_
  refine va_put (ci := 1) (v := .int (-1)) (ty := .int) (C := RX1) (T := TX1) (N := 6) hx hb hts in_X1 tyX1 tyX1_ok nmX1 hown hK hP hD hS 0 rfl rfl 4 (by decide) (hts _ q106) (fun _ h9 => h9) rfl (by decide +kernel) rfl rfl (Nat.le_of_ble_eq_true rfl) dX1_shape_49 (fun H locs hP hD hS => ?_)
  have hP : va_P D td_cl (wY k k1 k2 d1 d2 (td_mem x1) 0 (-1) msg (upd (upd w 0 (nI (td_tap x1 x2))) 1 (nI (td_tap x1 x3))) q) H := hP
  have hD : va_D A (wY k k1 k2 d1 d2 (td_mem x1) 0 (-1) msg (upd (upd w 0 (nI (td_tap x1 x2))) 1 (nI (td_tap x1 x3))) q) := hD
  refine lv_aload_n hx hb dX1_shape_52 rfl (lv_at hl 1 rfl) ?_
  refine lv_iconst (v := nI 0) hx hb dX1_shape_53 (by decide) ?_
  refine va_put (ci := 1) (v := .int (nI 0)) (ty := .int) (C := RX1) (T := TX1) (N := 6) hx hb hts in_X1 tyX1 tyX1_ok nmX1 hown hK hP hD hS 0 rfl rfl 5 (by decide) (hts _ q107) (fun _ h9 => h9) rfl (by decide +kernel) rfl rfl (Nat.le_of_ble_eq_true rfl) dX1_shape_54 (fun H locs hP hD hS => ?_)
  have hP : va_P D td_cl (wY k k1 k2 d1 d2 (td_mem x1) 0 (-1) (nI 0) (upd (upd w 0 (nI (td_tap x1 x2))) 1 (nI (td_tap x1 x3))) q) H := hP
  have hD : va_D A (wY k k1 k2 d1 d2 (td_mem x1) 0 (-1) (nI 0) (upd (upd w 0 (nI (td_tap x1 x2))) 1 (nI (td_tap x1 x3))) q) := hD
  exact W.vret hx hb hr (fun t ht hW => ⟨⟨(), rfl, trivial, by rw [ht]; exact hP, va_K.moved hW.alike hK, hD⟩, hS.F ht⟩) hS.2.2 dX1_shape_57
set_option maxHeartbeats 4000000 in
set_option maxRecDepth 100000 in
/-- hear at twelve pairs -/
theorem mt_YhearF (l : Launch) (D : va_G) {k k1 k2 : Nat} {d1 d2 : ClassId} {mu n : Nat} {told msg : Int32} {w q : Nat → Int32} {x1 x2 : Int32} (hn : n = 12) : Met l yX1_hear (ws_ yX1_hear cX1_hear 3 (some .boolean)) ({ frames := 0, cells := 0, slots := 0, locals := 0 }) (ro_P [.ref k, .int x1, .int x2] D (wY k k1 k2 d1 d2 mu n told msg w q) (kY d1 d2)) (QcRead (nI 0)) 0 0 (fun _ => False) := by
  refine Met.ofW (cc := cX1_hear) (maxL := 3) (ret := (some .boolean)) (by decide) rfl ?_
  intro p e s m args below meth c s₁ B hml hv
  obtain ⟨rfl, hP, hK⟩ := hv
  have hx := B.exec
  have hb := B.bytes
  have hr := B.returns
  have hts := atoms_spec (ws := ws_ yX1_hear cX1_hear 3 (some .boolean)) B.pre
  have hts : ∀ w ∈ lw_all, w.before _ s = true := fun w h => hts w (List.mem_cons_of_mem _ h)
  have hown : s.vm.findClass RX1 = some m.cls := findClass_of_methodNamed B.named
  have hlocks := B.notSynchronized
  have hl := lv_entry ([.ref k, .int x1, .int x2]) (n := 3) (Nat.le_of_ble_eq_true rfl)
  rw [lg_entry_eq]
  generalize (lg_sl ([.ref k, .int x1, .int x2]) ++ List.replicate (3 - (lg_sl ([.ref k, .int x1, .int x2])).length) Slot.unset).toArray = ls at hl ⊢
  have hl : lv_has ls 3 [(0, .ref k), (1, .int x1), (2, .int x2)] := hl
  refine lv_aload_n hx hb dX1_hear_0 rfl (lv_at hl 0 rfl) ?_
  refine va_get (ci := 1) (v := .int (nI n)) (C := RX1) (T := TX1) (N := 6) hx hb hts in_X1 hown hK hP 0 rfl rfl 3 (by decide) (hts _ q105) (fun _ h9 => h9) rfl dX1_hear_1 ?_
  refine lv_bipush (v := nI 12) hx hb dX1_hear_4 (by decide) ?_
  refine lv_icmp_lt (tgt := 11) hx hb dX1_hear_6 (by decide) (fun hc => ?_) (fun hc => ?_)
  · exact absurd ((nI_ltI (by omega) (by decide)).mp hc) (by omega)
  · refine lv_iconst (v := nI 0) hx hb dX1_hear_9 (by decide) ?_
    exact tw_zret hx hb hr hlocks rfl rfl dX1_hear_10
set_option maxHeartbeats 4000000 in
set_option maxRecDepth 100000 in
/-- hear -/
theorem mt_Yhear (l : Launch) (D : va_G) {sz : Nat} {k k1 k2 : Nat} {d1 d2 : ClassId} {mu n : Nat} {told msg : Int32} {w q : Nat → Int32} {x1 x2 : Int32} (hn : n < 12) : Met l yX1_hear (ws_ yX1_hear cX1_hear 3 (some .boolean)) ({ frames := 0, cells := 0, slots := 0, locals := 0 }) (mu_P [.ref k, .int x1, .int x2] D (wY k k1 k2 d1 d2 mu n told msg w q) (kY d1 d2) sz) (va_Qi (fun (z : Int32) (_ : Unit) => z = nI 1) (mu_B D (fun _ => wY k k1 k2 d1 d2 mu (n + 1) told msg w (upd (upd q (2 * n) (td_sh x1)) (2 * n + 1) (td_sh x2))) (fun _ => kY d1 d2) (va_A (wY k k1 k2 d1 d2 mu n told msg w q) sz)) (va_A (wY k k1 k2 d1 d2 mu n told msg w q) sz)) 0 0 (va_A (wY k k1 k2 d1 d2 mu n told msg w q) sz) := by
  refine Met.ofW (cc := cX1_hear) (maxL := 3) (ret := (some .boolean)) (by decide) rfl ?_
  intro p e s m args below meth c s₁ B hml hv
  obtain ⟨rfl, hsz, hP, hK, hD0⟩ := hv
  have hx := B.exec
  have hb := B.bytes
  have hr := B.returns
  have hts := atoms_spec (ws := ws_ yX1_hear cX1_hear 3 (some .boolean)) B.pre
  have hts : ∀ w ∈ lw_all, w.before _ s = true := fun w h => hts w (List.mem_cons_of_mem _ h)
  have hown : s.vm.findClass RX1 = some m.cls := findClass_of_methodNamed B.named
  have hlocks := B.notSynchronized
  subst hsz
  have hD := hD0.self (sz := s.heap.size)
  generalize hAe : va_A (wY k k1 k2 d1 d2 mu n told msg w q) s.heap.size = A at hD ⊢
  have hA : ∀ q : Nat, s.heap.size ≤ q → A q := fun q h => by rw [← hAe]; exact Or.inr h
  have hS : va_S A s.heap s.heap [] := va_S.rf
  have hl := lv_entry ([.ref k, .int x1, .int x2]) (n := 3) (Nat.le_of_ble_eq_true rfl)
  rw [lg_entry_eq]
  generalize (lg_sl ([.ref k, .int x1, .int x2]) ++ List.replicate (3 - (lg_sl ([.ref k, .int x1, .int x2])).length) Slot.unset).toArray = ls at hl ⊢
  have hl : lv_has ls 3 [(0, .ref k), (1, .int x1), (2, .int x2)] := hl
  refine lv_aload_n hx hb dX1_hear_0 rfl (lv_at hl 0 rfl) ?_
  refine va_get (ci := 1) (v := .int (nI n)) (C := RX1) (T := TX1) (N := 6) hx hb hts in_X1 hown hK hP 0 rfl rfl 3 (by decide) (hts _ q105) (fun _ h9 => h9) rfl dX1_hear_1 ?_
  refine lv_bipush (v := nI 12) hx hb dX1_hear_4 (by decide) ?_
  refine lv_icmp_lt (tgt := 11) hx hb dX1_hear_6 (by decide) (fun hc => ?_) (fun hc => ?_)
  · refine lv_aload_n hx hb dX1_hear_11 rfl (lv_at hl 0 rfl) ?_
    refine va_get (ci := 1) (v := .ref k2) (C := RX1) (T := TX1) (N := 6) hx hb hts in_X1 hown hK hP 0 rfl rfl 2 (by decide) (hts _ q104) (fun _ h9 => h9) rfl dX1_hear_12 ?_
    refine lv_iconst (v := nI 2) hx hb dX1_hear_15 (by decide) ?_
    refine lv_aload_n hx hb dX1_hear_16 rfl (lv_at hl 0 rfl) ?_
    refine va_get (ci := 1) (v := .int (nI n)) (C := RX1) (T := TX1) (N := 6) hx hb hts in_X1 hown hK hP 0 rfl rfl 3 (by decide) (hts _ q105) (fun _ h9 => h9) rfl dX1_hear_17 ?_
    refine lv_imul hx hb dX1_hear_20 ?_
    refine tw_top (y := nI (2 * n)) (pk_mul 2 n) ?_
    refine lv_iload_n hx hb dX1_hear_21 rfl (lv_at hl 1 rfl) ?_
    refine lv_bipush (v := nI 16) hx hb dX1_hear_22 (by decide) ?_
    refine lv_ishl hx hb dX1_hear_24 ?_
    refine lv_bipush (v := nI 16) hx hb dX1_hear_25 (by decide) ?_
    refine lv_ishr hx hb dX1_hear_27 ?_
    refine tw_top (y := td_sh x1) (td_sh_shift x1) ?_
    refine va_iast hx hb hK hP hD hS 2 1 rfl rfl (pk_in (2 * n) 48 (by omega)) dX1_hear_28 (fun H locs hP hD hS => ?_)
    rw [nI_clamp (n := 2 * n) (by omega)] at hP hD
    have hP : va_P D td_cl (wY k k1 k2 d1 d2 mu n told msg w (upd q (2 * n) (td_sh x1))) H := hP
    have hD : va_D A (wY k k1 k2 d1 d2 mu n told msg w (upd q (2 * n) (td_sh x1))) := hD
    refine lv_aload_n hx hb dX1_hear_29 rfl (lv_at hl 0 rfl) ?_
    refine va_get (ci := 1) (v := .ref k2) (C := RX1) (T := TX1) (N := 6) hx hb hts in_X1 hown hK hP 0 rfl rfl 2 (by decide) (hts _ q104) (fun _ h9 => h9) rfl dX1_hear_30 ?_
    refine lv_iconst (v := nI 2) hx hb dX1_hear_33 (by decide) ?_
    refine lv_aload_n hx hb dX1_hear_34 rfl (lv_at hl 0 rfl) ?_
    refine va_get (ci := 1) (v := .int (nI n)) (C := RX1) (T := TX1) (N := 6) hx hb hts in_X1 hown hK hP 0 rfl rfl 3 (by decide) (hts _ q105) (fun _ h9 => h9) rfl dX1_hear_35 ?_
    refine lv_imul hx hb dX1_hear_38 ?_
    refine tw_top (y := nI (2 * n)) (pk_mul 2 n) ?_
    refine lv_iconst (v := nI 1) hx hb dX1_hear_39 (by decide) ?_
    refine lv_iadd hx hb dX1_hear_40 ?_
    refine tw_top (y := nI (2 * n + 1)) (nI_add _ _) ?_
    refine lv_iload_n hx hb dX1_hear_41 rfl (lv_at hl 2 rfl) ?_
    refine lv_bipush (v := nI 16) hx hb dX1_hear_42 (by decide) ?_
    refine lv_ishl hx hb dX1_hear_44 ?_
    refine lv_bipush (v := nI 16) hx hb dX1_hear_45 (by decide) ?_
    refine lv_ishr hx hb dX1_hear_47 ?_
    refine tw_top (y := td_sh x2) (td_sh_shift x2) ?_
    refine va_iast hx hb hK hP hD hS 2 1 rfl rfl (pk_in (2 * n + 1) 48 (by omega)) dX1_hear_48 (fun H locs hP hD hS => ?_)
    rw [nI_clamp (n := 2 * n + 1) (by omega)] at hP hD
    have hP : va_P D td_cl (wY k k1 k2 d1 d2 mu n told msg w (upd (upd q (2 * n) (td_sh x1)) (2 * n + 1) (td_sh x2))) H := hP
    have hD : va_D A (wY k k1 k2 d1 d2 mu n told msg w (upd (upd q (2 * n) (td_sh x1)) (2 * n + 1) (td_sh x2))) := hD
    refine lv_aload_n hx hb dX1_hear_49 rfl (lv_at hl 0 rfl) ?_
    refine lv_aload_n hx hb dX1_hear_50 rfl (lv_at hl 0 rfl) ?_
    refine va_get (ci := 1) (v := .int (nI n)) (C := RX1) (T := TX1) (N := 6) hx hb hts in_X1 hown hK hP 0 rfl rfl 3 (by decide) (hts _ q105) (fun _ h9 => h9) rfl dX1_hear_51 ?_
    refine lv_iconst (v := nI 1) hx hb dX1_hear_54 (by decide) ?_
    refine lv_iadd hx hb dX1_hear_55 ?_
    refine tw_top (y := nI (n + 1)) (nI_add n 1) ?_
    refine va_put (ci := 1) (v := .int (nI (n + 1))) (ty := .int) (C := RX1) (T := TX1) (N := 6) hx hb hts in_X1 tyX1 tyX1_ok nmX1 hown hK hP hD hS 0 rfl rfl 3 (by decide) (hts _ q105) (fun _ h9 => h9) rfl (by decide +kernel) rfl rfl (Nat.le_of_ble_eq_true rfl) dX1_hear_56 (fun H locs hP hD hS => ?_)
    have hP : va_P D td_cl (wY k k1 k2 d1 d2 mu (n + 1) told msg w (upd (upd q (2 * n) (td_sh x1)) (2 * n + 1) (td_sh x2))) H := hP
    have hD : va_D A (wY k k1 k2 d1 d2 mu (n + 1) told msg w (upd (upd q (2 * n) (td_sh x1)) (2 * n + 1) (td_sh x2))) := hD
    refine lv_iconst (v := nI 1) hx hb dX1_hear_59 (by decide) ?_
    exact W.zret (v := nI 1) hx hb hr rfl (fun t ht hW => ⟨⟨nI 1, (), rfl, rfl, by rw [ht]; exact hP, va_K.moved hW.alike hK, hD⟩, hS.F ht⟩) hS.2.2 dX1_hear_60
  · exact absurd ((nI_ltI (by omega) (by decide)).mpr hn) hc
end
section
section YD
variable {p : Program} {l : Launch} {e : Env} {s : State} {m : MethodId} {args : Array Value} {below : List Frame} {meth : Method} {c : Code} {Q : State → Prop} {H : Heap} {locs : List Loc} {D : va_G} {k k1 k2 : Nat} {d1 d2 : ClassId} {mu n fr M a b : Nat} {told msg : Int32} {w q : Nat → Int32}
abbrev rmYd : Room := { frames := 1, cells := 0, slots := 0, locals := 22 }
/-- one letter's cost on top of the sum -/
theorem td_cs_c {i x : Nat} (ex : td_reg mu fr M i (td_st mu fr M i) = x) : Int32.ofInt (td_cs (td_P a b (fun i => q (2 * i)) (fun i => q (2 * i + 1))) mu fr M i) + (if td_par 6 (x &&& a) = 1 then q (2 * i) else 0) + (if td_par 6 (x &&& b) = 1 then q (2 * i + 1) else 0) = Int32.ofInt (td_cs (td_P a b (fun i => q (2 * i)) (fun i => q (2 * i + 1))) mu fr M (i + 1)) := by
  rw [Int32.add_assoc]
  have h := td_p32_P a b (fun i => q (2 * i)) (fun i => q (2 * i + 1)) i x
  unfold td_p32 at h
  dsimp only at h
  rw [h, ← Int32.ofInt_add, ← ex]
  rfl
set_option maxHeartbeats 4000000 in
/-- decide: one message's cost -/
theorem yd_i (S : CallFix p m c cX1_decide 10 s args lw_all RX1) (hK : va_K D td_cl (kY d1 d2) s) (hmu : mu ≤ 5) (hw0 : w 0 = nI a) (hw1 : w 1 = nI b) (hn : n ≤ 12) (hfr : fr ≤ n) (hM : M < 2 ^ 12) {x2 x3 : Int32} (hP : va_P D td_cl (wY k k1 k2 d1 d2 mu n told msg w q) H)
    (kk : ∀ ls : Array Slot, lv_has ls 10 [(0, .ref k), (1, .int (nI fr)), (2, .int x2), (3, .int x3), (4, .int (nI M)), (6, .int (Int32.ofInt (td_cs (td_P a b (fun i => q (2 * i)) (fun i => q (2 * i + 1))) mu fr M n)))] → W p l e rmYd s m args below meth c H locs 0 0 Q (F0 m 167 ls [])) :
    ∀ (d i : Nat) (ls : Array Slot), i ≤ n → n + 1 ≤ i + d → lv_has ls 10 [(0, .ref k), (1, .int (nI fr)), (2, .int x2), (3, .int x3), (4, .int (nI M)), (5, .int (nI (td_st mu fr M i))), (6, .int (Int32.ofInt (td_cs (td_P a b (fun i => q (2 * i)) (fun i => q (2 * i + 1))) mu fr M i))), (7, .int (nI i))] → W p l e rmYd s m args below meth c H locs 0 0 Q (F0 m 47 ls []) := by
  obtain ⟨hx, hb, hml, hown, hts⟩ := S
  have hp := tn_p2 hmu
  intro d
  induction d with
  | zero => intro i ls u1 u2; exact absurd u2 (by omega)
  | succ d ih =>
    intro i ls u1 u2 hl
    refine lv_iload hx hb dX1_decide_47 (lv_at hl 7 rfl) ?_
    refine lv_aload_n hx hb dX1_decide_49 rfl (lv_at hl 0 rfl) ?_
    refine va_get (ci := 1) (v := .int (nI n)) (C := RX1) (T := TX1) (N := 6) hx hb hts in_X1 hown hK hP 0 rfl rfl 3 (by decide) (hts _ q105) (fun _ h9 => h9) rfl dX1_decide_50 ?_
    refine lv_icmp_ge (tgt := 167) hx hb dX1_decide_53 (by decide) (fun hc => ?_) (fun hc => ?_)
    · have e : i = n := by have := (nI_leI (by omega) (by omega)).mp hc; omega
      subst e
      exact kk ls (lv_sub hl [0, 1, 2, 3, 4, 6] rfl)
    · have hi : i < n := by rcases Nat.lt_or_ge i n with z | z; exact z; exact absurd ((nI_leI (by omega) (by omega)).mpr z) hc
      have hst := td_st_lt mu fr M i
      have hbt := td_bit_lt fr M i
      refine tw_join (pcj := 77) (lsj := ls) (stj := []) (A := nI (td_bit fr M i)) ?_ (fun j => ?_)
      rotate_left
      · refine lv_iload hx hb dX1_decide_56 (lv_at hl 7 rfl) ?_
        refine lv_iload_n hx hb dX1_decide_58 rfl (lv_at hl 1 rfl) ?_
        refine lv_icmp_ge (tgt := 76) hx hb dX1_decide_59 (by decide) (fun hc => ?_) (fun hc => ?_)
        · have h4 : ¬ i < fr := by have := (nI_leI (by omega) (by omega)).mp hc; omega
          refine lv_iconst (v := nI 0) hx hb dX1_decide_76 (by decide) ?_
          exact j _ (by unfold td_bit; rw [if_neg h4])
        · have h4 : i < fr := by rcases Nat.lt_or_ge i fr with z | z; exact z; exact absurd ((nI_leI (by omega) (by omega)).mpr z) hc
          refine lv_iload hx hb dX1_decide_62 (lv_at hl 4 rfl) ?_
          refine lv_iload_n hx hb dX1_decide_64 rfl (lv_at hl 1 rfl) ?_
          refine lv_iconst (v := nI 1) hx hb dX1_decide_65 (by decide) ?_
          refine lv_isub hx hb dX1_decide_66 ?_
          refine tw_top (y := nI (fr - 1)) (pk_sub (by omega)) ?_
          refine lv_iload hx hb dX1_decide_67 (lv_at hl 7 rfl) ?_
          refine lv_isub hx hb dX1_decide_69 ?_
          refine tw_top (y := nI (fr - (i + 1))) (by rw [pk_sub (by omega), Nat.sub_sub, Nat.add_comm 1 i]) ?_
          refine lv_ishr hx hb dX1_decide_70 ?_
          refine lv_iconst (v := nI 1) hx hb dX1_decide_71 (by decide) ?_
          refine lv_iand hx hb dX1_decide_72 ?_
          refine tw_top (y := nI (M / 2 ^ (fr - (i + 1)) % 2)) (tn_bit (by omega) (by omega)) ?_
          refine lv_goto (tgt := 77) hx hb dX1_decide_73 (by decide) ?_
          exact j _ (by unfold td_bit; rw [if_pos h4])
      refine lv_istore (lv' := [(8, .int (nI (td_bit fr M i))), (0, .ref k), (1, .int (nI fr)), (2, .int x2), (3, .int x3), (4, .int (nI M)), (5, .int (nI (td_st mu fr M i))), (6, .int (Int32.ofInt (td_cs (td_P a b (fun i => q (2 * i)) (fun i => q (2 * i + 1))) mu fr M i))), (7, .int (nI i))]) hx hb dX1_decide_77 hl (by decide) rfl (fun ls hl => ?_)
      refine lv_iload hx hb dX1_decide_79 (lv_at hl 0 rfl) ?_
      refine lv_aload_n hx hb dX1_decide_81 rfl (lv_at hl 1 rfl) ?_
      refine va_get (ci := 1) (v := .int (nI mu)) (C := RX1) (T := TX1) (N := 6) hx hb hts in_X1 hown hK hP 0 rfl rfl 1 (by decide) (hts _ q103) (fun _ h9 => h9) rfl dX1_decide_82 ?_
      refine lv_ishl hx hb dX1_decide_85 ?_
      refine lv_iload hx hb dX1_decide_86 (lv_at hl 6 rfl) ?_
      refine lv_ior hx hb dX1_decide_88 ?_
      obtain ⟨x, ex⟩ : ∃ x, td_reg mu fr M i (td_st mu fr M i) = x := ⟨_, rfl⟩
      have hx0 : x < 64 := by rw [← ex]; exact tn_regS hmu hbt hst
      refine tw_top (y := nI x) (by rw [tn_reg hmu hbt hst]; exact congrArg nI ex) ?_
      refine lv_istore (lv' := [(9, .int (nI x)), (8, .int (nI (td_bit fr M i))), (0, .ref k), (1, .int (nI fr)), (2, .int x2), (3, .int x3), (4, .int (nI M)), (5, .int (nI (td_st mu fr M i))), (6, .int (Int32.ofInt (td_cs (td_P a b (fun i => q (2 * i)) (fun i => q (2 * i + 1))) mu fr M i))), (7, .int (nI i))]) hx hb dX1_decide_89 hl (by decide) rfl (fun ls hl => ?_)
      refine lv_iload hx hb dX1_decide_91 (lv_at hl 8 rfl) ?_
      refine lv_iload hx hb dX1_decide_93 (lv_at hl 0 rfl) ?_
      refine lv_aload_n hx hb dX1_decide_95 rfl (lv_at hl 2 rfl) ?_
      refine va_get (ci := 1) (v := .ref k1) (C := RX1) (T := TX1) (N := 6) hx hb hts in_X1 hown hK hP 0 rfl rfl 0 (by decide) (hts _ q102) (fun _ h9 => h9) rfl dX1_decide_96 ?_
      refine lv_iconst (v := nI 0) hx hb dX1_decide_99 (by decide) ?_
      refine va_iald hx hb hK hP 1 0 rfl rfl (pk_in 0 2 (by decide)) dX1_decide_100 ?_
      refine tw_top (y := nI a) ((congrArg w (nI_clamp (by decide))).trans hw0) ?_
      refine lv_iand hx hb dX1_decide_101 ?_
      refine tw_top (y := nI (x &&& a)) (tb_and x a) ?_
      refine tw_callR (W.runS (As := [.int (nI (x &&& a))]) (rest := [.int (Int32.ofInt (td_cs (td_P a b (fun i => q (2 * i)) (fun i => q (2 * i + 1))) mu fr M i))]) ⟨hx, hb, hml, hown, hts⟩ (mt_odd l (k := x &&& a) (tn_and64 hx0)) (va_cwS 1 hts (lw_S q85 q86 q4 q87) rfl rfl rfl (by decide +kernel) ⟨Nat.le_of_ble_eq_true rfl, Nat.le_of_ble_eq_true rfl⟩) preEq rfl rfl hl.1 rfl (lv_room (Nat.le_of_ble_eq_true rfl)) dX1_decide_102 ⟨Nat.le_of_ble_eq_true rfl, Nat.le_of_ble_eq_true rfl⟩) ?_
      refine tw_join (pcj := 121) (lsj := ls) (stj := [.int (Int32.ofInt (td_cs (td_P a b (fun i => q (2 * i)) (fun i => q (2 * i + 1))) mu fr M i))]) (A := if td_par 6 (x &&& a) = 1 then q (2 * i) else 0) ?_ (fun j => ?_)
      rotate_left
      · refine lv_if_eq (tgt := 120) hx hb dX1_decide_105 (by decide) (fun hc => ?_) (fun hc => ?_)
        · refine lv_iconst (v := 0) hx hb dX1_decide_120 (by decide) ?_
          exact j _ (if_neg (fun z => absurd (hc.symm.trans (congrArg nI z)) (by decide))).symm
        · refine lv_aload_n hx hb dX1_decide_108 rfl (lv_at hl 2 rfl) ?_
          refine va_get (ci := 1) (v := .ref k2) (C := RX1) (T := TX1) (N := 6) hx hb hts in_X1 hown hK hP 0 rfl rfl 2 (by decide) (hts _ q104) (fun _ h9 => h9) rfl dX1_decide_109 ?_
          refine lv_iconst (v := nI 2) hx hb dX1_decide_112 (by decide) ?_
          refine lv_iload hx hb dX1_decide_113 (lv_at hl 9 rfl) ?_
          refine lv_imul hx hb dX1_decide_115 ?_
          refine tw_top (y := nI (2 * i)) (pk_mul 2 i) ?_
          refine va_iald hx hb hK hP 2 1 rfl rfl (pk_in (2 * i) 48 (by omega)) dX1_decide_116 ?_
          refine tw_top (y := q (2 * i)) (congrArg q (nI_clamp (by omega))) ?_
          refine lv_goto (tgt := 121) hx hb dX1_decide_117 (by decide) ?_
          have h1 : td_par 6 (x &&& a) = 1 := by
            have h2 := td_par_lt 6 (x &&& a)
            have h3 : td_par 6 (x &&& a) ≠ 0 := fun z => hc (by rw [z]; rfl)
            omega
          exact j _ (if_pos h1).symm
      refine lv_iadd hx hb dX1_decide_121 ?_
      refine lv_iload hx hb dX1_decide_122 (lv_at hl 0 rfl) ?_
      refine lv_aload_n hx hb dX1_decide_124 rfl (lv_at hl 2 rfl) ?_
      refine va_get (ci := 1) (v := .ref k1) (C := RX1) (T := TX1) (N := 6) hx hb hts in_X1 hown hK hP 0 rfl rfl 0 (by decide) (hts _ q102) (fun _ h9 => h9) rfl dX1_decide_125 ?_
      refine lv_iconst (v := nI 1) hx hb dX1_decide_128 (by decide) ?_
      refine va_iald hx hb hK hP 1 0 rfl rfl (pk_in 1 2 (by decide)) dX1_decide_129 ?_
      refine tw_top (y := nI b) ((congrArg w (nI_clamp (by decide))).trans hw1) ?_
      refine lv_iand hx hb dX1_decide_130 ?_
      refine tw_top (y := nI (x &&& b)) (tb_and x b) ?_
      refine tw_callR (W.runS (As := [.int (nI (x &&& b))]) (rest := [.int ((Int32.ofInt (td_cs (td_P a b (fun i => q (2 * i)) (fun i => q (2 * i + 1))) mu fr M i)) + (if td_par 6 (x &&& a) = 1 then q (2 * i) else 0))]) ⟨hx, hb, hml, hown, hts⟩ (mt_odd l (k := x &&& b) (tn_and64 hx0)) (va_cwS 1 hts (lw_S q85 q86 q4 q87) rfl rfl rfl (by decide +kernel) ⟨Nat.le_of_ble_eq_true rfl, Nat.le_of_ble_eq_true rfl⟩) preEq rfl rfl hl.1 rfl (lv_room (Nat.le_of_ble_eq_true rfl)) dX1_decide_131 ⟨Nat.le_of_ble_eq_true rfl, Nat.le_of_ble_eq_true rfl⟩) ?_
      refine tw_join (pcj := 152) (lsj := ls) (stj := [.int ((Int32.ofInt (td_cs (td_P a b (fun i => q (2 * i)) (fun i => q (2 * i + 1))) mu fr M i)) + (if td_par 6 (x &&& a) = 1 then q (2 * i) else 0))]) (A := if td_par 6 (x &&& b) = 1 then q (2 * i + 1) else 0) ?_ (fun j => ?_)
      rotate_left
      · refine lv_if_eq (tgt := 151) hx hb dX1_decide_134 (by decide) (fun hc => ?_) (fun hc => ?_)
        · refine lv_iconst (v := 0) hx hb dX1_decide_151 (by decide) ?_
          exact j _ (if_neg (fun z => absurd (hc.symm.trans (congrArg nI z)) (by decide))).symm
        · refine lv_aload_n hx hb dX1_decide_137 rfl (lv_at hl 2 rfl) ?_
          refine va_get (ci := 1) (v := .ref k2) (C := RX1) (T := TX1) (N := 6) hx hb hts in_X1 hown hK hP 0 rfl rfl 2 (by decide) (hts _ q104) (fun _ h9 => h9) rfl dX1_decide_138 ?_
          refine lv_iconst (v := nI 2) hx hb dX1_decide_141 (by decide) ?_
          refine lv_iload hx hb dX1_decide_142 (lv_at hl 9 rfl) ?_
          refine lv_imul hx hb dX1_decide_144 ?_
          refine tw_top (y := nI (2 * i)) (pk_mul 2 i) ?_
          refine lv_iconst (v := nI 1) hx hb dX1_decide_145 (by decide) ?_
          refine lv_iadd hx hb dX1_decide_146 ?_
          refine tw_top (y := nI (2 * i + 1)) (nI_add _ _) ?_
          refine va_iald hx hb hK hP 2 1 rfl rfl (pk_in (2 * i + 1) 48 (by omega)) dX1_decide_147 ?_
          refine tw_top (y := q (2 * i + 1)) (congrArg q (nI_clamp (by omega))) ?_
          refine lv_goto (tgt := 152) hx hb dX1_decide_148 (by decide) ?_
          have h1 : td_par 6 (x &&& b) = 1 := by
            have h2 := td_par_lt 6 (x &&& b)
            have h3 : td_par 6 (x &&& b) ≠ 0 := fun z => hc (by rw [z]; rfl)
            omega
          exact j _ (if_pos h1).symm
      refine lv_iadd hx hb dX1_decide_152 ?_
      refine tw_top (y := Int32.ofInt (td_cs (td_P a b (fun i => q (2 * i)) (fun i => q (2 * i + 1))) mu fr M (i + 1))) (td_cs_c ex) ?_
      refine lv_istore (lv' := [(6, .int (Int32.ofInt (td_cs (td_P a b (fun i => q (2 * i)) (fun i => q (2 * i + 1))) mu fr M (i + 1)))), (9, .int (nI x)), (8, .int (nI (td_bit fr M i))), (0, .ref k), (1, .int (nI fr)), (2, .int x2), (3, .int x3), (4, .int (nI M)), (5, .int (nI (td_st mu fr M i))), (7, .int (nI i))]) hx hb dX1_decide_153 hl (by decide) rfl (fun ls hl => ?_)
      refine lv_iload hx hb dX1_decide_155 (lv_at hl 1 rfl) ?_
      refine lv_iconst (v := nI 1) hx hb dX1_decide_157 (by decide) ?_
      refine lv_ishr hx hb dX1_decide_158 ?_
      refine tw_top (y := nI (td_st mu fr M (i + 1))) (by rw [tn_half (by omega), ← ex]; rfl) ?_
      refine lv_istore (lv' := [(5, .int (nI (td_st mu fr M (i + 1)))), (6, .int (Int32.ofInt (td_cs (td_P a b (fun i => q (2 * i)) (fun i => q (2 * i + 1))) mu fr M (i + 1)))), (9, .int (nI x)), (8, .int (nI (td_bit fr M i))), (0, .ref k), (1, .int (nI fr)), (2, .int x2), (3, .int x3), (4, .int (nI M)), (7, .int (nI i))]) hx hb dX1_decide_159 hl (by decide) rfl (fun ls hl => ?_)
      refine lv_iinc (v := nI (i + 1)) (lv' := [(7, .int (nI (i + 1))), (5, .int (nI (td_st mu fr M (i + 1)))), (6, .int (Int32.ofInt (td_cs (td_P a b (fun i => q (2 * i)) (fun i => q (2 * i + 1))) mu fr M (i + 1)))), (9, .int (nI x)), (8, .int (nI (td_bit fr M i))), (0, .ref k), (1, .int (nI fr)), (2, .int x2), (3, .int x3), (4, .int (nI M))]) hx hb dX1_decide_161 hl (k := 9) rfl (nI_add i 1) (by decide) rfl (fun ls hl => ?_)
      refine lv_goto (tgt := 47) hx hb dX1_decide_164 (by decide) ?_
      exact ih (i + 1) _ (by omega) (by omega) (lv_sub hl [5, 6, 7, 8, 9, 1, 2, 0] rfl)
set_option maxHeartbeats 4000000 in
/-- decide: every message is tried -/
theorem yd_m (S : CallFix p m c cX1_decide 10 s args lw_all RX1) (hK : va_K D td_cl (kY d1 d2) s) (hmu : mu ≤ 5) (hw0 : w 0 = nI a) (hw1 : w 1 = nI b) (hn : n ≤ 12) (hfr : fr ≤ n) (hq : td_short q) (hP : va_P D td_cl (wY k k1 k2 d1 d2 mu n told msg w q) H)
    (kk : ∀ (B : Nat) (ls : Array Slot), td_arg (td_P a b (fun i => q (2 * i)) (fun i => q (2 * i + 1))) mu fr n B → lv_has ls 10 [(0, .ref k), (1, .int (nI fr)), (3, .int (nI B))] → W p l e rmYd s m args below meth c H locs 0 0 Q (F0 m 189 ls [])) :
    ∀ (d j : Nat) (x2 x3 : Int32) (ls : Array Slot), j ≤ 2 ^ fr → 2 ^ fr + 1 ≤ j + d → ((j = 0 ∧ x3 = -1) ∨ ∃ B : Nat, td_AI (td_P a b (fun i => q (2 * i)) (fun i => q (2 * i + 1))) mu fr n j B ∧ x3 = nI B ∧ x2 = Int32.ofInt (td_T (td_P a b (fun i => q (2 * i)) (fun i => q (2 * i + 1))) mu fr B n 0 0)) → lv_has ls 10 [(0, .ref k), (1, .int (nI fr)), (2, .int x2), (3, .int x3), (4, .int (nI j))] → W p l e rmYd s m args below meth c H locs 0 0 Q (F0 m 30 ls []) := by
  have S0 := S
  obtain ⟨hx, hb, hml, hown, hts⟩ := S
  have hp := tn_p11 (Nat.le_trans hfr hn)
  have hp0 := Nat.two_pow_pos fr
  have hbd : td_bd (td_P a b (fun i => q (2 * i)) (fun i => q (2 * i + 1))) := td_P_bd (fun i => hq (2 * i)) (fun i => hq (2 * i + 1))
  intro d
  induction d with
  | zero => intro j x2 x3 ls u1 u2; exact absurd u2 (by omega)
  | succ d ih =>
    intro j x2 x3 ls u1 u2 u3 hl
    refine lv_iload hx hb dX1_decide_30 (lv_at hl 4 rfl) ?_
    refine lv_iconst (v := nI 1) hx hb dX1_decide_32 (by decide) ?_
    refine lv_iload_n hx hb dX1_decide_33 rfl (lv_at hl 1 rfl) ?_
    refine lv_ishl hx hb dX1_decide_34 ?_
    refine tw_top (y := nI (2 ^ fr)) (tn_1shl (by omega)) ?_
    refine lv_icmp_ge (tgt := 189) hx hb dX1_decide_35 (by decide) (fun hc => ?_) (fun hc => ?_)
    · have e : j = 2 ^ fr := by have := (nI_leI (by omega) (by omega)).mp hc; omega
      rcases u3 with ⟨z, -⟩ | ⟨B, z1, z2, -⟩
      · exact absurd z (by omega)
      · subst z2
        rw [e] at z1
        exact kk B ls (td_AI_end z1) (lv_sub hl [0, 1, 3] rfl)
    · have hj : j < 2 ^ fr := by rcases Nat.lt_or_ge j (2 ^ fr) with z | z; exact z; exact absurd ((nI_leI (by omega) (by omega)).mpr z) hc
      refine lv_iconst (v := nI 0) hx hb dX1_decide_38 (by decide) ?_
      refine lv_istore (lv' := [(5, .int (nI 0)), (0, .ref k), (1, .int (nI fr)), (2, .int x2), (3, .int x3), (4, .int (nI j))]) hx hb dX1_decide_39 hl (by decide) rfl (fun ls hl => ?_)
      refine lv_iconst (v := Int32.ofInt 0) hx hb dX1_decide_41 (by decide) ?_
      refine lv_istore (lv' := [(6, .int (Int32.ofInt 0)), (5, .int (nI 0)), (0, .ref k), (1, .int (nI fr)), (2, .int x2), (3, .int x3), (4, .int (nI j))]) hx hb dX1_decide_42 hl (by decide) rfl (fun ls hl => ?_)
      refine lv_iconst (v := nI 0) hx hb dX1_decide_44 (by decide) ?_
      refine lv_istore (lv' := [(7, .int (nI 0)), (6, .int (Int32.ofInt 0)), (5, .int (nI 0)), (0, .ref k), (1, .int (nI fr)), (2, .int x2), (3, .int x3), (4, .int (nI j))]) hx hb dX1_decide_45 hl (by decide) rfl (fun ls hl => ?_)
      refine yd_i S0 hK hmu hw0 hw1 hn hfr (M := j) (by omega) hP (fun ls hl => ?_) (n + 1) 0 ls (Nat.zero_le _) (by omega) (lv_sub hl [3, 4, 5, 6, 7, 2, 1, 0] rfl)
      rw [← td_T_cs (td_P a b (fun i => q (2 * i)) (fun i => q (2 * i + 1))) mu fr j n] at hl
      refine lv_iload_n hx hb dX1_decide_167 rfl (lv_at hl 3 rfl) ?_
      refine lv_if_lt (tgt := 177) hx hb dX1_decide_168 (by decide) (fun hc => ?_) (fun hc => ?_)
      · have h5 : td_AI (td_P a b (fun i => q (2 * i)) (fun i => q (2 * i + 1))) mu fr n (j + 1) j := by
          rcases u3 with ⟨z, -⟩ | ⟨B, z1, z2, -⟩
          · rw [z]; exact td_AI_1 _ _ _ _
          · exact absurd (z2 ▸ hc) (nI_pos (by have := z1.1; omega))
        refine lv_iload hx hb dX1_decide_177 (lv_at hl 4 rfl) ?_
        refine lv_istore_n (lv' := [(3, .int (nI j)), (0, .ref k), (1, .int (nI fr)), (2, .int x2), (4, .int (nI j)), (6, .int (Int32.ofInt (td_T (td_P a b (fun i => q (2 * i)) (fun i => q (2 * i + 1))) mu fr j n 0 0)))]) hx hb dX1_decide_179 rfl hl (by decide) rfl (fun ls hl => ?_)
        refine lv_iload hx hb dX1_decide_180 (lv_at hl 5 rfl) ?_
        refine lv_istore_n (lv' := [(2, .int (Int32.ofInt (td_T (td_P a b (fun i => q (2 * i)) (fun i => q (2 * i + 1))) mu fr j n 0 0))), (3, .int (nI j)), (0, .ref k), (1, .int (nI fr)), (4, .int (nI j)), (6, .int (Int32.ofInt (td_T (td_P a b (fun i => q (2 * i)) (fun i => q (2 * i + 1))) mu fr j n 0 0)))]) hx hb dX1_decide_182 rfl hl (by decide) rfl (fun ls hl => ?_)
        refine lv_iinc (v := nI (j + 1)) (lv' := [(4, .int (nI (j + 1))), (2, .int (Int32.ofInt (td_T (td_P a b (fun i => q (2 * i)) (fun i => q (2 * i + 1))) mu fr j n 0 0))), (3, .int (nI j)), (0, .ref k), (1, .int (nI fr)), (6, .int (Int32.ofInt (td_T (td_P a b (fun i => q (2 * i)) (fun i => q (2 * i + 1))) mu fr j n 0 0)))]) hx hb dX1_decide_183 hl (k := 4) rfl (nI_add j 1) (by decide) rfl (fun ls hl => ?_)
        refine lv_goto (tgt := 30) hx hb dX1_decide_186 (by decide) ?_
        exact ih (j + 1) _ _ _ (by omega) (by omega) (Or.inr ⟨j, h5, rfl, rfl⟩) (lv_sub hl [3, 4, 1, 2, 0] rfl)
      · rcases u3 with ⟨-, z⟩ | ⟨B, z1, z2, z3⟩
        · exact absurd (by rw [z]; decide) hc
        · subst z2 z3
          refine lv_iload hx hb dX1_decide_171 (lv_at hl 5 rfl) ?_
          refine lv_iload_n hx hb dX1_decide_173 rfl (lv_at hl 2 rfl) ?_
          refine lv_icmp_ge (tgt := 183) hx hb dX1_decide_174 (by decide) (fun hd => ?_) (fun hd => ?_)
          · have h5 : td_AI (td_P a b (fun i => q (2 * i)) (fun i => q (2 * i + 1))) mu fr n (j + 1) B := td_AI_old z1 (by have := (tn_leI (td_T_sm hbd hn) (td_T_sm hbd hn)).mp hd; omega)
            refine lv_iinc (v := nI (j + 1)) (lv' := [(4, .int (nI (j + 1))), (0, .ref k), (1, .int (nI fr)), (2, .int (Int32.ofInt (td_T (td_P a b (fun i => q (2 * i)) (fun i => q (2 * i + 1))) mu fr B n 0 0))), (3, .int (nI B)), (6, .int (Int32.ofInt (td_T (td_P a b (fun i => q (2 * i)) (fun i => q (2 * i + 1))) mu fr j n 0 0)))]) hx hb dX1_decide_183 hl (k := 4) rfl (nI_add j 1) (by decide) rfl (fun ls hl => ?_)
            refine lv_goto (tgt := 30) hx hb dX1_decide_186 (by decide) ?_
            exact ih (j + 1) _ _ _ (by omega) (by omega) (Or.inr ⟨B, h5, rfl, rfl⟩) (lv_sub hl [1, 2, 3, 4, 0] rfl)
          · have h5 : td_AI (td_P a b (fun i => q (2 * i)) (fun i => q (2 * i + 1))) mu fr n (j + 1) j := td_AI_new z1 (Int.not_le.mp (fun z => hd ((tn_leI (td_T_sm hbd hn) (td_T_sm hbd hn)).mpr z)))
            refine lv_iload hx hb dX1_decide_177 (lv_at hl 4 rfl) ?_
            refine lv_istore_n (lv' := [(3, .int (nI j)), (0, .ref k), (1, .int (nI fr)), (2, .int (Int32.ofInt (td_T (td_P a b (fun i => q (2 * i)) (fun i => q (2 * i + 1))) mu fr B n 0 0))), (4, .int (nI j)), (6, .int (Int32.ofInt (td_T (td_P a b (fun i => q (2 * i)) (fun i => q (2 * i + 1))) mu fr j n 0 0)))]) hx hb dX1_decide_179 rfl hl (by decide) rfl (fun ls hl => ?_)
            refine lv_iload hx hb dX1_decide_180 (lv_at hl 5 rfl) ?_
            refine lv_istore_n (lv' := [(2, .int (Int32.ofInt (td_T (td_P a b (fun i => q (2 * i)) (fun i => q (2 * i + 1))) mu fr j n 0 0))), (3, .int (nI j)), (0, .ref k), (1, .int (nI fr)), (4, .int (nI j)), (6, .int (Int32.ofInt (td_T (td_P a b (fun i => q (2 * i)) (fun i => q (2 * i + 1))) mu fr j n 0 0)))]) hx hb dX1_decide_182 rfl hl (by decide) rfl (fun ls hl => ?_)
            refine lv_iinc (v := nI (j + 1)) (lv' := [(4, .int (nI (j + 1))), (2, .int (Int32.ofInt (td_T (td_P a b (fun i => q (2 * i)) (fun i => q (2 * i + 1))) mu fr j n 0 0))), (3, .int (nI j)), (0, .ref k), (1, .int (nI fr)), (6, .int (Int32.ofInt (td_T (td_P a b (fun i => q (2 * i)) (fun i => q (2 * i + 1))) mu fr j n 0 0)))]) hx hb dX1_decide_183 hl (k := 4) rfl (nI_add j 1) (by decide) rfl (fun ls hl => ?_)
            refine lv_goto (tgt := 30) hx hb dX1_decide_186 (by decide) ?_
            exact ih (j + 1) _ _ _ (by omega) (by omega) (Or.inr ⟨j, h5, rfl, rfl⟩) (lv_sub hl [3, 4, 1, 2, 0] rfl)
set_option maxHeartbeats 4000000 in
/-- cost: the message's cost again -/
theorem yc_i (S : CallFix p m c cX1_cost 6 s args lw_all RX1) (hK : va_K D td_cl (kY d1 d2) s) (hmu : mu ≤ 5) (hw0 : w 0 = nI a) (hw1 : w 1 = nI b) (hn : fr + mu ≤ 12) (hM : M < 2 ^ 12) (hP : va_P D td_cl (wY k k1 k2 d1 d2 mu n (nI fr) (nI M) w q) H)
    (kk : ∀ ls : Array Slot, lv_has ls 6 [(2, .int (Int32.ofInt (td_cs (td_P a b (fun i => q (2 * i)) (fun i => q (2 * i + 1))) mu fr M (fr + mu))))] → W p l e rmYd s m args below meth c H locs 0 0 Q (F0 m 139 ls [])) :
    ∀ (d i : Nat) (ls : Array Slot), i ≤ fr + mu → fr + mu + 1 ≤ i + d → lv_has ls 6 [(0, .ref k), (1, .int (nI (td_st mu fr M i))), (2, .int (Int32.ofInt (td_cs (td_P a b (fun i => q (2 * i)) (fun i => q (2 * i + 1))) mu fr M i))), (3, .int (nI i))] → W p l e rmYd s m args below meth c H locs 0 0 Q (F0 m 15 ls []) := by
  obtain ⟨hx, hb, hml, hown, hts⟩ := S
  have hp := tn_p2 hmu
  intro d
  induction d with
  | zero => intro i ls u1 u2; exact absurd u2 (by omega)
  | succ d ih =>
    intro i ls u1 u2 hl
    refine lv_iload_n hx hb dX1_cost_15 rfl (lv_at hl 3 rfl) ?_
    refine lv_aload_n hx hb dX1_cost_16 rfl (lv_at hl 0 rfl) ?_
    refine va_get (ci := 1) (v := .int (nI fr)) (C := RX1) (T := TX1) (N := 6) hx hb hts in_X1 hown hK hP 0 rfl rfl 4 (by decide) (hts _ q106) (fun _ h9 => h9) rfl dX1_cost_17 ?_
    refine lv_aload_n hx hb dX1_cost_20 rfl (lv_at hl 0 rfl) ?_
    refine va_get (ci := 1) (v := .int (nI mu)) (C := RX1) (T := TX1) (N := 6) hx hb hts in_X1 hown hK hP 0 rfl rfl 1 (by decide) (hts _ q103) (fun _ h9 => h9) rfl dX1_cost_21 ?_
    refine lv_iadd hx hb dX1_cost_24 ?_
    refine tw_top (y := nI (fr + mu)) (nI_add fr mu) ?_
    refine lv_icmp_ge (tgt := 139) hx hb dX1_cost_25 (by decide) (fun hc => ?_) (fun hc => ?_)
    · have e : i = fr + mu := by have := (nI_leI (by omega) (by omega)).mp hc; omega
      subst e
      exact kk ls (lv_sub hl [2] rfl)
    · have hi : i < fr + mu := by rcases Nat.lt_or_ge i (fr + mu) with z | z; exact z; exact absurd ((nI_leI (by omega) (by omega)).mpr z) hc
      have hst := td_st_lt mu fr M i
      have hbt := td_bit_lt fr M i
      refine tw_join (pcj := 55) (lsj := ls) (stj := []) (A := nI (td_bit fr M i)) ?_ (fun j => ?_)
      rotate_left
      · refine lv_iload_n hx hb dX1_cost_28 rfl (lv_at hl 3 rfl) ?_
        refine lv_aload_n hx hb dX1_cost_29 rfl (lv_at hl 0 rfl) ?_
        refine va_get (ci := 1) (v := .int (nI fr)) (C := RX1) (T := TX1) (N := 6) hx hb hts in_X1 hown hK hP 0 rfl rfl 4 (by decide) (hts _ q106) (fun _ h9 => h9) rfl dX1_cost_30 ?_
        refine lv_icmp_ge (tgt := 54) hx hb dX1_cost_33 (by decide) (fun hc => ?_) (fun hc => ?_)
        · have h4 : ¬ i < fr := by have := (nI_leI (by omega) (by omega)).mp hc; omega
          refine lv_iconst (v := nI 0) hx hb dX1_cost_54 (by decide) ?_
          exact j _ (by unfold td_bit; rw [if_neg h4])
        · have h4 : i < fr := by rcases Nat.lt_or_ge i fr with z | z; exact z; exact absurd ((nI_leI (by omega) (by omega)).mpr z) hc
          refine lv_aload_n hx hb dX1_cost_36 rfl (lv_at hl 0 rfl) ?_
          refine va_get (ci := 1) (v := .int (nI M)) (C := RX1) (T := TX1) (N := 6) hx hb hts in_X1 hown hK hP 0 rfl rfl 5 (by decide) (hts _ q107) (fun _ h9 => h9) rfl dX1_cost_37 ?_
          refine lv_aload_n hx hb dX1_cost_40 rfl (lv_at hl 0 rfl) ?_
          refine va_get (ci := 1) (v := .int (nI fr)) (C := RX1) (T := TX1) (N := 6) hx hb hts in_X1 hown hK hP 0 rfl rfl 4 (by decide) (hts _ q106) (fun _ h9 => h9) rfl dX1_cost_41 ?_
          refine lv_iconst (v := nI 1) hx hb dX1_cost_44 (by decide) ?_
          refine lv_isub hx hb dX1_cost_45 ?_
          refine tw_top (y := nI (fr - 1)) (pk_sub (by omega)) ?_
          refine lv_iload_n hx hb dX1_cost_46 rfl (lv_at hl 3 rfl) ?_
          refine lv_isub hx hb dX1_cost_47 ?_
          refine tw_top (y := nI (fr - (i + 1))) (by rw [pk_sub (by omega), Nat.sub_sub, Nat.add_comm 1 i]) ?_
          refine lv_ishr hx hb dX1_cost_48 ?_
          refine lv_iconst (v := nI 1) hx hb dX1_cost_49 (by decide) ?_
          refine lv_iand hx hb dX1_cost_50 ?_
          refine tw_top (y := nI (M / 2 ^ (fr - (i + 1)) % 2)) (tn_bit (by omega) (by omega)) ?_
          refine lv_goto (tgt := 55) hx hb dX1_cost_51 (by decide) ?_
          exact j _ (by unfold td_bit; rw [if_pos h4])
      refine lv_istore (lv' := [(4, .int (nI (td_bit fr M i))), (0, .ref k), (1, .int (nI (td_st mu fr M i))), (2, .int (Int32.ofInt (td_cs (td_P a b (fun i => q (2 * i)) (fun i => q (2 * i + 1))) mu fr M i))), (3, .int (nI i))]) hx hb dX1_cost_55 hl (by decide) rfl (fun ls hl => ?_)
      refine lv_iload hx hb dX1_cost_57 (lv_at hl 0 rfl) ?_
      refine lv_aload_n hx hb dX1_cost_59 rfl (lv_at hl 1 rfl) ?_
      refine va_get (ci := 1) (v := .int (nI mu)) (C := RX1) (T := TX1) (N := 6) hx hb hts in_X1 hown hK hP 0 rfl rfl 1 (by decide) (hts _ q103) (fun _ h9 => h9) rfl dX1_cost_60 ?_
      refine lv_ishl hx hb dX1_cost_63 ?_
      refine lv_iload_n hx hb dX1_cost_64 rfl (lv_at hl 2 rfl) ?_
      refine lv_ior hx hb dX1_cost_65 ?_
      obtain ⟨x, ex⟩ : ∃ x, td_reg mu fr M i (td_st mu fr M i) = x := ⟨_, rfl⟩
      have hx0 : x < 64 := by rw [← ex]; exact tn_regS hmu hbt hst
      refine tw_top (y := nI x) (by rw [tn_reg hmu hbt hst]; exact congrArg nI ex) ?_
      refine lv_istore (lv' := [(5, .int (nI x)), (4, .int (nI (td_bit fr M i))), (0, .ref k), (1, .int (nI (td_st mu fr M i))), (2, .int (Int32.ofInt (td_cs (td_P a b (fun i => q (2 * i)) (fun i => q (2 * i + 1))) mu fr M i))), (3, .int (nI i))]) hx hb dX1_cost_66 hl (by decide) rfl (fun ls hl => ?_)
      refine lv_iload_n hx hb dX1_cost_68 rfl (lv_at hl 4 rfl) ?_
      refine lv_iload hx hb dX1_cost_69 (lv_at hl 0 rfl) ?_
      refine lv_aload_n hx hb dX1_cost_71 rfl (lv_at hl 2 rfl) ?_
      refine va_get (ci := 1) (v := .ref k1) (C := RX1) (T := TX1) (N := 6) hx hb hts in_X1 hown hK hP 0 rfl rfl 0 (by decide) (hts _ q102) (fun _ h9 => h9) rfl dX1_cost_72 ?_
      refine lv_iconst (v := nI 0) hx hb dX1_cost_75 (by decide) ?_
      refine va_iald hx hb hK hP 1 0 rfl rfl (pk_in 0 2 (by decide)) dX1_cost_76 ?_
      refine tw_top (y := nI a) ((congrArg w (nI_clamp (by decide))).trans hw0) ?_
      refine lv_iand hx hb dX1_cost_77 ?_
      refine tw_top (y := nI (x &&& a)) (tb_and x a) ?_
      refine tw_callR (W.runS (As := [.int (nI (x &&& a))]) (rest := [.int (Int32.ofInt (td_cs (td_P a b (fun i => q (2 * i)) (fun i => q (2 * i + 1))) mu fr M i))]) ⟨hx, hb, hml, hown, hts⟩ (mt_odd l (k := x &&& a) (tn_and64 hx0)) (va_cwS 1 hts (lw_S q85 q86 q4 q87) rfl rfl rfl (by decide +kernel) ⟨Nat.le_of_ble_eq_true rfl, Nat.le_of_ble_eq_true rfl⟩) preEq rfl rfl hl.1 rfl (lv_room (Nat.le_of_ble_eq_true rfl)) dX1_cost_78 ⟨Nat.le_of_ble_eq_true rfl, Nat.le_of_ble_eq_true rfl⟩) ?_
      refine tw_join (pcj := 96) (lsj := ls) (stj := [.int (Int32.ofInt (td_cs (td_P a b (fun i => q (2 * i)) (fun i => q (2 * i + 1))) mu fr M i))]) (A := if td_par 6 (x &&& a) = 1 then q (2 * i) else 0) ?_ (fun j => ?_)
      rotate_left
      · refine lv_if_eq (tgt := 95) hx hb dX1_cost_81 (by decide) (fun hc => ?_) (fun hc => ?_)
        · refine lv_iconst (v := 0) hx hb dX1_cost_95 (by decide) ?_
          exact j _ (if_neg (fun z => absurd (hc.symm.trans (congrArg nI z)) (by decide))).symm
        · refine lv_aload_n hx hb dX1_cost_84 rfl (lv_at hl 2 rfl) ?_
          refine va_get (ci := 1) (v := .ref k2) (C := RX1) (T := TX1) (N := 6) hx hb hts in_X1 hown hK hP 0 rfl rfl 2 (by decide) (hts _ q104) (fun _ h9 => h9) rfl dX1_cost_85 ?_
          refine lv_iconst (v := nI 2) hx hb dX1_cost_88 (by decide) ?_
          refine lv_iload_n hx hb dX1_cost_89 rfl (lv_at hl 5 rfl) ?_
          refine lv_imul hx hb dX1_cost_90 ?_
          refine tw_top (y := nI (2 * i)) (pk_mul 2 i) ?_
          refine va_iald hx hb hK hP 2 1 rfl rfl (pk_in (2 * i) 48 (by omega)) dX1_cost_91 ?_
          refine tw_top (y := q (2 * i)) (congrArg q (nI_clamp (by omega))) ?_
          refine lv_goto (tgt := 96) hx hb dX1_cost_92 (by decide) ?_
          have h1 : td_par 6 (x &&& a) = 1 := by
            have h2 := td_par_lt 6 (x &&& a)
            have h3 : td_par 6 (x &&& a) ≠ 0 := fun z => hc (by rw [z]; rfl)
            omega
          exact j _ (if_pos h1).symm
      refine lv_iadd hx hb dX1_cost_96 ?_
      refine lv_iload hx hb dX1_cost_97 (lv_at hl 0 rfl) ?_
      refine lv_aload_n hx hb dX1_cost_99 rfl (lv_at hl 2 rfl) ?_
      refine va_get (ci := 1) (v := .ref k1) (C := RX1) (T := TX1) (N := 6) hx hb hts in_X1 hown hK hP 0 rfl rfl 0 (by decide) (hts _ q102) (fun _ h9 => h9) rfl dX1_cost_100 ?_
      refine lv_iconst (v := nI 1) hx hb dX1_cost_103 (by decide) ?_
      refine va_iald hx hb hK hP 1 0 rfl rfl (pk_in 1 2 (by decide)) dX1_cost_104 ?_
      refine tw_top (y := nI b) ((congrArg w (nI_clamp (by decide))).trans hw1) ?_
      refine lv_iand hx hb dX1_cost_105 ?_
      refine tw_top (y := nI (x &&& b)) (tb_and x b) ?_
      refine tw_callR (W.runS (As := [.int (nI (x &&& b))]) (rest := [.int ((Int32.ofInt (td_cs (td_P a b (fun i => q (2 * i)) (fun i => q (2 * i + 1))) mu fr M i)) + (if td_par 6 (x &&& a) = 1 then q (2 * i) else 0))]) ⟨hx, hb, hml, hown, hts⟩ (mt_odd l (k := x &&& b) (tn_and64 hx0)) (va_cwS 1 hts (lw_S q85 q86 q4 q87) rfl rfl rfl (by decide +kernel) ⟨Nat.le_of_ble_eq_true rfl, Nat.le_of_ble_eq_true rfl⟩) preEq rfl rfl hl.1 rfl (lv_room (Nat.le_of_ble_eq_true rfl)) dX1_cost_106 ⟨Nat.le_of_ble_eq_true rfl, Nat.le_of_ble_eq_true rfl⟩) ?_
      refine tw_join (pcj := 126) (lsj := ls) (stj := [.int ((Int32.ofInt (td_cs (td_P a b (fun i => q (2 * i)) (fun i => q (2 * i + 1))) mu fr M i)) + (if td_par 6 (x &&& a) = 1 then q (2 * i) else 0))]) (A := if td_par 6 (x &&& b) = 1 then q (2 * i + 1) else 0) ?_ (fun j => ?_)
      rotate_left
      · refine lv_if_eq (tgt := 125) hx hb dX1_cost_109 (by decide) (fun hc => ?_) (fun hc => ?_)
        · refine lv_iconst (v := 0) hx hb dX1_cost_125 (by decide) ?_
          exact j _ (if_neg (fun z => absurd (hc.symm.trans (congrArg nI z)) (by decide))).symm
        · refine lv_aload_n hx hb dX1_cost_112 rfl (lv_at hl 2 rfl) ?_
          refine va_get (ci := 1) (v := .ref k2) (C := RX1) (T := TX1) (N := 6) hx hb hts in_X1 hown hK hP 0 rfl rfl 2 (by decide) (hts _ q104) (fun _ h9 => h9) rfl dX1_cost_113 ?_
          refine lv_iconst (v := nI 2) hx hb dX1_cost_116 (by decide) ?_
          refine lv_iload_n hx hb dX1_cost_117 rfl (lv_at hl 5 rfl) ?_
          refine lv_imul hx hb dX1_cost_118 ?_
          refine tw_top (y := nI (2 * i)) (pk_mul 2 i) ?_
          refine lv_iconst (v := nI 1) hx hb dX1_cost_119 (by decide) ?_
          refine lv_iadd hx hb dX1_cost_120 ?_
          refine tw_top (y := nI (2 * i + 1)) (nI_add _ _) ?_
          refine va_iald hx hb hK hP 2 1 rfl rfl (pk_in (2 * i + 1) 48 (by omega)) dX1_cost_121 ?_
          refine tw_top (y := q (2 * i + 1)) (congrArg q (nI_clamp (by omega))) ?_
          refine lv_goto (tgt := 126) hx hb dX1_cost_122 (by decide) ?_
          have h1 : td_par 6 (x &&& b) = 1 := by
            have h2 := td_par_lt 6 (x &&& b)
            have h3 : td_par 6 (x &&& b) ≠ 0 := fun z => hc (by rw [z]; rfl)
            omega
          exact j _ (if_pos h1).symm
      refine lv_iadd hx hb dX1_cost_126 ?_
      refine tw_top (y := Int32.ofInt (td_cs (td_P a b (fun i => q (2 * i)) (fun i => q (2 * i + 1))) mu fr M (i + 1))) (td_cs_c ex) ?_
      refine lv_istore_n (lv' := [(2, .int (Int32.ofInt (td_cs (td_P a b (fun i => q (2 * i)) (fun i => q (2 * i + 1))) mu fr M (i + 1)))), (5, .int (nI x)), (4, .int (nI (td_bit fr M i))), (0, .ref k), (1, .int (nI (td_st mu fr M i))), (3, .int (nI i))]) hx hb dX1_cost_127 rfl hl (by decide) rfl (fun ls hl => ?_)
      refine lv_iload hx hb dX1_cost_128 (lv_at hl 1 rfl) ?_
      refine lv_iconst (v := nI 1) hx hb dX1_cost_130 (by decide) ?_
      refine lv_ishr hx hb dX1_cost_131 ?_
      refine tw_top (y := nI (td_st mu fr M (i + 1))) (by rw [tn_half (by omega), ← ex]; rfl) ?_
      refine lv_istore_n (lv' := [(1, .int (nI (td_st mu fr M (i + 1)))), (2, .int (Int32.ofInt (td_cs (td_P a b (fun i => q (2 * i)) (fun i => q (2 * i + 1))) mu fr M (i + 1)))), (5, .int (nI x)), (4, .int (nI (td_bit fr M i))), (0, .ref k), (3, .int (nI i))]) hx hb dX1_cost_132 rfl hl (by decide) rfl (fun ls hl => ?_)
      refine lv_iinc (v := nI (i + 1)) (lv' := [(3, .int (nI (i + 1))), (1, .int (nI (td_st mu fr M (i + 1)))), (2, .int (Int32.ofInt (td_cs (td_P a b (fun i => q (2 * i)) (fun i => q (2 * i + 1))) mu fr M (i + 1)))), (5, .int (nI x)), (4, .int (nI (td_bit fr M i))), (0, .ref k)]) hx hb dX1_cost_133 hl (k := 5) rfl (nI_add i 1) (by decide) rfl (fun ls hl => ?_)
      refine lv_goto (tgt := 15) hx hb dX1_cost_136 (by decide) ?_
      exact ih (i + 1) _ (by omega) (by omega) (lv_sub hl [5, 1, 2, 0] rfl)
end YD
set_option maxHeartbeats 4000000 in
set_option maxRecDepth 100000 in
/-- cost before a decision -/
theorem mt_YcostN (l : Launch) (D : va_G) {k k1 k2 : Nat} {d1 d2 : ClassId} {mu n : Nat} {msg : Int32} {w q : Nat → Int32} : Met l yX1_cost (ws_ yX1_cost cX1_cost 6 (some .int)) ({ frames := 1, cells := 0, slots := 0, locals := 22 }) (ro_P [.ref k] D (wY k k1 k2 d1 d2 mu n (-1) msg w q) (kY d1 d2)) (QcRead (nI 0)) 0 0 (fun _ => False) := by
  refine Met.ofW (cc := cX1_cost) (maxL := 6) (ret := (some .int)) (by decide) rfl ?_
  intro p e s m args below meth c s₁ B hml hv
  obtain ⟨rfl, hP, hK⟩ := hv
  have hx := B.exec
  have hb := B.bytes
  have hr := B.returns
  have hts := atoms_spec (ws := ws_ yX1_cost cX1_cost 6 (some .int)) B.pre
  have hts : ∀ w ∈ lw_all, w.before _ s = true := fun w h => hts w (List.mem_cons_of_mem _ h)
  have hown : s.vm.findClass RX1 = some m.cls := findClass_of_methodNamed B.named
  have hlocks := B.notSynchronized
  have hl := lv_entry ([.ref k]) (n := 6) (Nat.le_of_ble_eq_true rfl)
  rw [lg_entry_eq]
  generalize (lg_sl ([.ref k]) ++ List.replicate (6 - (lg_sl ([.ref k])).length) Slot.unset).toArray = ls at hl ⊢
  have hl : lv_has ls 6 [(0, .ref k)] := hl
  refine lv_aload_n hx hb dX1_cost_0 rfl (lv_at hl 0 rfl) ?_
  refine va_get (ci := 1) (v := .int (-1)) (C := RX1) (T := TX1) (N := 6) hx hb hts in_X1 hown hK hP 0 rfl rfl 4 (by decide) (hts _ q106) (fun _ h9 => h9) rfl dX1_cost_1 ?_
  refine lv_if_ge (tgt := 9) hx hb dX1_cost_4 (by decide) (fun hc => ?_) (fun hc => ?_)
  · exact absurd hc (by decide)
  · refine lv_iconst (v := nI 0) hx hb dX1_cost_7 (by decide) ?_
    exact tw_iret hx hb hr hlocks rfl dX1_cost_8
set_option maxHeartbeats 4000000 in
set_option maxRecDepth 100000 in
/-- cost behind a decision -/
theorem mt_Ycost (l : Launch) (D : va_G) {k k1 k2 : Nat} {d1 d2 : ClassId} {mu n : Nat} {w q : Nat → Int32} {a b fr M : Nat} (hmu : mu ≤ 5) (hw0 : w 0 = nI a) (hw1 : w 1 = nI b) (hn : fr + mu ≤ 12) (hM : M < 2 ^ 12) : Met l yX1_cost (ws_ yX1_cost cX1_cost 6 (some .int)) ({ frames := 1, cells := 0, slots := 0, locals := 22 }) (ro_P [.ref k] D (wY k k1 k2 d1 d2 mu n (nI fr) (nI M) w q) (kY d1 d2)) (QcRead (Int32.ofInt (td_T (td_P a b (fun i => q (2 * i)) (fun i => q (2 * i + 1))) mu fr M (fr + mu) 0 0))) 0 0 (fun _ => False) := by
  refine Met.ofW (cc := cX1_cost) (maxL := 6) (ret := (some .int)) (by decide) rfl ?_
  intro p e s m args below meth c s₁ B hml hv
  obtain ⟨rfl, hP, hK⟩ := hv
  have hx := B.exec
  have hb := B.bytes
  have hr := B.returns
  have hts := atoms_spec (ws := ws_ yX1_cost cX1_cost 6 (some .int)) B.pre
  have hts : ∀ w ∈ lw_all, w.before _ s = true := fun w h => hts w (List.mem_cons_of_mem _ h)
  have hown : s.vm.findClass RX1 = some m.cls := findClass_of_methodNamed B.named
  have hlocks := B.notSynchronized
  have hl := lv_entry ([.ref k]) (n := 6) (Nat.le_of_ble_eq_true rfl)
  rw [lg_entry_eq]
  generalize (lg_sl ([.ref k]) ++ List.replicate (6 - (lg_sl ([.ref k])).length) Slot.unset).toArray = ls at hl ⊢
  have hl : lv_has ls 6 [(0, .ref k)] := hl
  refine lv_aload_n hx hb dX1_cost_0 rfl (lv_at hl 0 rfl) ?_
  refine va_get (ci := 1) (v := .int (nI fr)) (C := RX1) (T := TX1) (N := 6) hx hb hts in_X1 hown hK hP 0 rfl rfl 4 (by decide) (hts _ q106) (fun _ h9 => h9) rfl dX1_cost_1 ?_
  refine lv_if_ge (tgt := 9) hx hb dX1_cost_4 (by decide) (fun hc => ?_) (fun hc => ?_)
  · refine lv_iconst (v := nI 0) hx hb dX1_cost_9 (by decide) ?_
    refine lv_istore_n (lv' := [(1, .int (nI 0)), (0, .ref k)]) hx hb dX1_cost_10 rfl hl (by decide) rfl (fun ls hl => ?_)
    refine lv_iconst (v := Int32.ofInt 0) hx hb dX1_cost_11 (by decide) ?_
    refine lv_istore_n (lv' := [(2, .int (Int32.ofInt 0)), (1, .int (nI 0)), (0, .ref k)]) hx hb dX1_cost_12 rfl hl (by decide) rfl (fun ls hl => ?_)
    refine lv_iconst (v := nI 0) hx hb dX1_cost_13 (by decide) ?_
    refine lv_istore_n (lv' := [(3, .int (nI 0)), (2, .int (Int32.ofInt 0)), (1, .int (nI 0)), (0, .ref k)]) hx hb dX1_cost_14 rfl hl (by decide) rfl (fun ls hl => ?_)
    refine yc_i ⟨hx, hb, hml, hown, hts⟩ hK hmu hw0 hw1 hn hM hP (fun ls hl => ?_) (fr + mu + 1) 0 ls (Nat.zero_le _) (by omega) (lv_sub hl [3, 2, 1, 0] rfl)
    refine lv_iload_n hx hb dX1_cost_139 rfl (lv_at hl 0 rfl) ?_
    exact tw_iret hx hb hr hlocks (by rw [td_T_cs]) dX1_cost_140
  · exact absurd (nI_pos' (by omega)) hc
set_option maxHeartbeats 4000000 in
set_option maxRecDepth 100000 in
/-- decide, too few pairs -/
theorem mt_YdecideN (l : Launch) (D : va_G) {k k1 k2 : Nat} {d1 d2 : ClassId} {mu n : Nat} {told msg : Int32} {w q : Nat → Int32} (hn : n ≤ 12) (hmu : mu ≤ 5) (hle : n ≤ mu) : Met l yX1_decide (ws_ yX1_decide cX1_decide 10 (some .int)) ({ frames := 1, cells := 0, slots := 0, locals := 22 }) (ro_P [.ref k] D (wY k k1 k2 d1 d2 mu n told msg w q) (kY d1 d2)) (QcRead (-1)) 0 0 (fun _ => False) := by
  refine Met.ofW (cc := cX1_decide) (maxL := 10) (ret := (some .int)) (by decide) rfl ?_
  intro p e s m args below meth c s₁ B hml hv
  obtain ⟨rfl, hP, hK⟩ := hv
  have hx := B.exec
  have hb := B.bytes
  have hr := B.returns
  have hts := atoms_spec (ws := ws_ yX1_decide cX1_decide 10 (some .int)) B.pre
  have hts : ∀ w ∈ lw_all, w.before _ s = true := fun w h => hts w (List.mem_cons_of_mem _ h)
  have hown : s.vm.findClass RX1 = some m.cls := findClass_of_methodNamed B.named
  have hlocks := B.notSynchronized
  have hl := lv_entry ([.ref k]) (n := 10) (Nat.le_of_ble_eq_true rfl)
  rw [lg_entry_eq]
  generalize (lg_sl ([.ref k]) ++ List.replicate (10 - (lg_sl ([.ref k])).length) Slot.unset).toArray = ls at hl ⊢
  have hl : lv_has ls 10 [(0, .ref k)] := hl
  refine lv_aload_n hx hb dX1_decide_0 rfl (lv_at hl 0 rfl) ?_
  refine va_get (ci := 1) (v := .int (nI n)) (C := RX1) (T := TX1) (N := 6) hx hb hts in_X1 hown hK hP 0 rfl rfl 3 (by decide) (hts _ q105) (fun _ h9 => h9) rfl dX1_decide_1 ?_
  refine lv_aload_n hx hb dX1_decide_4 rfl (lv_at hl 0 rfl) ?_
  refine va_get (ci := 1) (v := .int (nI mu)) (C := RX1) (T := TX1) (N := 6) hx hb hts in_X1 hown hK hP 0 rfl rfl 1 (by decide) (hts _ q103) (fun _ h9 => h9) rfl dX1_decide_5 ?_
  refine lv_icmp_gt (tgt := 13) hx hb dX1_decide_8 (by decide) (fun hc => ?_) (fun hc => ?_)
  · exact absurd ((nI_ltI (by omega) (by omega)).mp hc) (by omega)
  · refine lv_iconst (v := -1) hx hb dX1_decide_11 (by decide) ?_
    exact tw_iret hx hb hr hlocks rfl dX1_decide_12
set_option maxHeartbeats 4000000 in
set_option maxRecDepth 100000 in
/-- decide: the first of the cheapest messages -/
theorem mt_Ydecide (l : Launch) (D : va_G) {sz : Nat} {k k1 k2 : Nat} {d1 d2 : ClassId} {mu n : Nat} {told msg : Int32} {w q : Nat → Int32} {a b : Nat} (hmu : mu ≤ 5) (hw0 : w 0 = nI a) (hw1 : w 1 = nI b) (hn : n ≤ 12) (hlt : mu < n) (hq : td_short q) : Met l yX1_decide (ws_ yX1_decide cX1_decide 10 (some .int)) ({ frames := 1, cells := 0, slots := 0, locals := 22 }) (mu_P [.ref k] D (wY k k1 k2 d1 d2 mu n told msg w q) (kY d1 d2) sz) (va_Qi (fun (z : Int32) (u : Nat) => z = nI u ∧ td_arg (td_P a b (fun i => q (2 * i)) (fun i => q (2 * i + 1))) mu (n - mu) n u) (mu_B D (fun u => wY k k1 k2 d1 d2 mu n (nI (n - mu)) (nI u) w q) (fun _ => kY d1 d2) (va_A (wY k k1 k2 d1 d2 mu n told msg w q) sz)) (va_A (wY k k1 k2 d1 d2 mu n told msg w q) sz)) 0 0 (va_A (wY k k1 k2 d1 d2 mu n told msg w q) sz) := by
  refine Met.ofW (cc := cX1_decide) (maxL := 10) (ret := (some .int)) (by decide) rfl ?_
  intro p e s m args below meth c s₁ B hml hv
  obtain ⟨rfl, hsz, hP, hK, hD0⟩ := hv
  have hx := B.exec
  have hb := B.bytes
  have hr := B.returns
  have hts := atoms_spec (ws := ws_ yX1_decide cX1_decide 10 (some .int)) B.pre
  have hts : ∀ w ∈ lw_all, w.before _ s = true := fun w h => hts w (List.mem_cons_of_mem _ h)
  have hown : s.vm.findClass RX1 = some m.cls := findClass_of_methodNamed B.named
  have hlocks := B.notSynchronized
  subst hsz
  have hD := hD0.self (sz := s.heap.size)
  generalize hAe : va_A (wY k k1 k2 d1 d2 mu n told msg w q) s.heap.size = A at hD ⊢
  have hA : ∀ q : Nat, s.heap.size ≤ q → A q := fun q h => by rw [← hAe]; exact Or.inr h
  have hS : va_S A s.heap s.heap [] := va_S.rf
  have hl := lv_entry ([.ref k]) (n := 10) (Nat.le_of_ble_eq_true rfl)
  rw [lg_entry_eq]
  generalize (lg_sl ([.ref k]) ++ List.replicate (10 - (lg_sl ([.ref k])).length) Slot.unset).toArray = ls at hl ⊢
  have hl : lv_has ls 10 [(0, .ref k)] := hl
  refine lv_aload_n hx hb dX1_decide_0 rfl (lv_at hl 0 rfl) ?_
  refine va_get (ci := 1) (v := .int (nI n)) (C := RX1) (T := TX1) (N := 6) hx hb hts in_X1 hown hK hP 0 rfl rfl 3 (by decide) (hts _ q105) (fun _ h9 => h9) rfl dX1_decide_1 ?_
  refine lv_aload_n hx hb dX1_decide_4 rfl (lv_at hl 0 rfl) ?_
  refine va_get (ci := 1) (v := .int (nI mu)) (C := RX1) (T := TX1) (N := 6) hx hb hts in_X1 hown hK hP 0 rfl rfl 1 (by decide) (hts _ q103) (fun _ h9 => h9) rfl dX1_decide_5 ?_
  refine lv_icmp_gt (tgt := 13) hx hb dX1_decide_8 (by decide) (fun hc => ?_) (fun hc => ?_)
  · refine lv_aload_n hx hb dX1_decide_13 rfl (lv_at hl 0 rfl) ?_
    refine va_get (ci := 1) (v := .int (nI n)) (C := RX1) (T := TX1) (N := 6) hx hb hts in_X1 hown hK hP 0 rfl rfl 3 (by decide) (hts _ q105) (fun _ h9 => h9) rfl dX1_decide_14 ?_
    refine lv_aload_n hx hb dX1_decide_17 rfl (lv_at hl 0 rfl) ?_
    refine va_get (ci := 1) (v := .int (nI mu)) (C := RX1) (T := TX1) (N := 6) hx hb hts in_X1 hown hK hP 0 rfl rfl 1 (by decide) (hts _ q103) (fun _ h9 => h9) rfl dX1_decide_18 ?_
    refine lv_isub hx hb dX1_decide_21 ?_
    refine tw_top (y := nI (n - mu)) (pk_sub (by omega)) ?_
    refine lv_istore_n (lv' := [(1, .int (nI (n - mu))), (0, .ref k)]) hx hb dX1_decide_22 rfl hl (by decide) rfl (fun ls hl => ?_)
    refine lv_iconst (v := nI 0) hx hb dX1_decide_23 (by decide) ?_
    refine lv_istore_n (lv' := [(2, .int (nI 0)), (1, .int (nI (n - mu))), (0, .ref k)]) hx hb dX1_decide_24 rfl hl (by decide) rfl (fun ls hl => ?_)
    refine lv_iconst (v := -1) hx hb dX1_decide_25 (by decide) ?_
    refine lv_istore_n (lv' := [(3, .int (-1)), (2, .int (nI 0)), (1, .int (nI (n - mu))), (0, .ref k)]) hx hb dX1_decide_26 rfl hl (by decide) rfl (fun ls hl => ?_)
    refine lv_iconst (v := nI 0) hx hb dX1_decide_27 (by decide) ?_
    refine lv_istore (lv' := [(4, .int (nI 0)), (3, .int (-1)), (2, .int (nI 0)), (1, .int (nI (n - mu))), (0, .ref k)]) hx hb dX1_decide_28 hl (by decide) rfl (fun ls hl => ?_)
    refine yd_m ⟨hx, hb, hml, hown, hts⟩ hK hmu hw0 hw1 hn (Nat.sub_le _ _) hq hP (fun B ls u4 hl => ?_) (2 ^ (n - mu) + 1) 0 _ _ ls (Nat.zero_le _) (by omega) (Or.inl ⟨rfl, rfl⟩) (lv_sub hl [4, 3, 2, 1, 0] rfl)
    refine lv_aload_n hx hb dX1_decide_189 rfl (lv_at hl 0 rfl) ?_
    refine lv_iload_n hx hb dX1_decide_190 rfl (lv_at hl 2 rfl) ?_
    refine va_put (ci := 1) (v := .int (nI B)) (ty := .int) (C := RX1) (T := TX1) (N := 6) hx hb hts in_X1 tyX1 tyX1_ok nmX1 hown hK hP hD hS 0 rfl rfl 5 (by decide) (hts _ q107) (fun _ h9 => h9) rfl (by decide +kernel) rfl rfl (Nat.le_of_ble_eq_true rfl) dX1_decide_191 (fun H locs hP hD hS => ?_)
    have hP : va_P D td_cl (wY k k1 k2 d1 d2 mu n told (nI B) w q) H := hP
    have hD : va_D A (wY k k1 k2 d1 d2 mu n told (nI B) w q) := hD
    refine lv_aload_n hx hb dX1_decide_194 rfl (lv_at hl 0 rfl) ?_
    refine lv_iload_n hx hb dX1_decide_195 rfl (lv_at hl 1 rfl) ?_
    refine va_put (ci := 1) (v := .int (nI (n - mu))) (ty := .int) (C := RX1) (T := TX1) (N := 6) hx hb hts in_X1 tyX1 tyX1_ok nmX1 hown hK hP hD hS 0 rfl rfl 4 (by decide) (hts _ q106) (fun _ h9 => h9) rfl (by decide +kernel) rfl rfl (Nat.le_of_ble_eq_true rfl) dX1_decide_196 (fun H locs hP hD hS => ?_)
    have hP : va_P D td_cl (wY k k1 k2 d1 d2 mu n (nI (n - mu)) (nI B) w q) H := hP
    have hD : va_D A (wY k k1 k2 d1 d2 mu n (nI (n - mu)) (nI B) w q) := hD
    refine lv_iload_n hx hb dX1_decide_199 rfl (lv_at hl 2 rfl) ?_
    exact W.iret (v := nI B) hx hb hr (fun t ht hW => ⟨⟨nI B, B, rfl, ⟨rfl, u4⟩, by rw [ht]; exact hP, va_K.moved hW.alike hK, hD⟩, hS.F ht⟩) hS.2.2 dX1_decide_200
  · exact absurd ((nI_ltI (by omega) (by omega)).mpr hlt) hc
end
section
/-! THE CLAIM OUT OF ONE WALK OF THE LAW'S BODY. Your part is whole_start (and what it stands on); all else here is the same for every law, but numbers. -/
def R_law : String := "TrellisDeskLaw"
def lw_P (b : Addr) (xs : List Int32) (args : Array Value) (s : State) : Prop := args = #[.ref b] ∧ s.IntsAt b xs ∧ xs.length ≤ 256 ∧ (Jvm.Cond.and given_1 narrow_1).before args s = true
def lw_Q (_ : Array Value) (s : State) (o : Outcome) (t : State) : Prop := o = .returned (some (.int 1)) ∧ Framed s o t [] 600000 7290000
def lw_Z (below : List Frame) (a : Array Value) (s : State) : State → Prop := fun t => ∃ o, t.status = .running ∧ Ended t below o ∧ lw_Q a s o t
/-- the law's own end, with 1 on the stack, nothing written that was there before, its room as the claim has it -/
theorem lw_ret {p : Program} {l : Launch} {e : Env} {s : State} {m : MethodId} {below : List Frame} {meth : Method} {c : Code} {b : Nat} (hx : p.tables.exec = Jvm.exec) (hb : c.code = code) (hr : meth.sig.returnType = ret) (hlocks : meth.locks = false) {pc : Nat} {H : Heap} {ls : Array Slot} (hdg : decode code pc = .ok (.ireturn, 1)) : W p l e room_1 s m #[Value.ref b] below meth c H [] 600000 7290000 (lw_Z below #[Value.ref b] s) (F0 m pc ls [.int 1]) := by
  intro T hT X
  obtain ⟨fs, hret, hrun, hended, hW, hframe⟩ := X.leave (v := some (.int 1)) (hlocks := hlocks) (fun h => by rw [hr] at h; cases h)
  have hmeth' : T.vm.method? m = some meth := X.method'
  refine ⟨T.setFrames fs, ?_, .returned (some (.int 1)), hrun, hended, rfl, ⟨_, rfl⟩, hW, hframe⟩
  jvm_step X.here [X.here.top, hx, hb, hdg, hmeth', hr, ret, narrow_b1]
  (try refine ⟨rfl, ?_⟩); (try refine ⟨rfl, ?_⟩)
  first | (intro acts; rw [hret _ acts rfl rfl rfl]) | rw [hret _ _ rfl rfl rfl]
  exact Steps.refl _
/-- what holds at the law's entry: the machine, the code, the tables' words (any of lw_tbl by 'hts w (by decide +kernel)'), the script of L ints xs at the cell b, what the Statement gives of the start (any of its parts by flat_of_before) -/
def lw_At (p : Program) (s : State) (m : MethodId) (meth : Method) (c : Code) (b L : Nat) (xs : Nat → Int32) : Prop :=
  p.tables.exec = Jvm.exec ∧ c.code = code ∧ meth.sig.returnType = ret ∧ c.maxLocals = 4 ∧ s.vm.findClass R_law = some m.cls ∧ (∀ w ∈ lw_tbl, w.before #[Value.ref b] s = true) ∧ va_X b L xs s s.heap ∧ b < s.heap.size ∧ meth.locks = false ∧ (Jvm.Cond.and given_1 narrow_1).before #[Value.ref b] s = true
end
section
/-! what the law's loop keeps between the two objects -/
def td_J (mu a b n : Nat) (dc : Int32) (f g : Nat → Int32) (told msg : Int32) (w q : Nat → Int32) : Prop := (1 ≤ mu ∧ mu ≤ 5) ∧ n ≤ 12 ∧ (w 0 = nI a ∧ w 1 = nI b) ∧ (td_short f ∧ td_short g ∧ td_short q) ∧ (∀ i : Nat, i < n → f i = q (2 * i) ∧ g i = q (2 * i + 1)) ∧ ((told = -1 ∧ dc = nI 0) ∨ ∃ fr M : Nat, told = nI fr ∧ msg = nI M ∧ fr + mu ≤ n ∧ M < 2 ^ fr ∧ dc = Int32.ofInt (td_T (td_P a b f g) mu fr M (fr + mu) 0 0))
theorem td_J_0 : td_J 2 7 5 0 0 (fun _ => 0) (fun _ => 0) (-1) 0 (upd (upd (fun _ => 0) 0 (nI 7)) 1 (nI 5)) (fun _ => 0) :=
  ⟨by decide, by decide, ⟨rfl, rfl⟩, ⟨td_short_0, td_short_0, td_short_0⟩, fun i h => absurd h (Nat.not_lt_zero i), Or.inl ⟨rfl, rfl⟩⟩
theorem td_J_shape {mu a b n : Nat} {dc : Int32} {f g : Nat → Int32} {told msg : Int32} {w q : Nat → Int32} (h : td_J mu a b n dc f g told msg w q) (x1 x2 x3 : Int32) : td_J (td_mem x1) (td_tap x1 x2) (td_tap x1 x3) 0 0 f g (-1) 0 (upd (upd w 0 (nI (td_tap x1 x2))) 1 (nI (td_tap x1 x3))) q := by
  obtain ⟨-, -, -, hs, -, -⟩ := h
  exact ⟨td_mem_in x1, by decide, ⟨rfl, rfl⟩, hs, fun i h => absurd h (Nat.not_lt_zero i), Or.inl ⟨rfl, rfl⟩⟩
theorem td_J_hear {mu a b n : Nat} {dc : Int32} {f g : Nat → Int32} {told msg : Int32} {w q : Nat → Int32} (h : td_J mu a b n dc f g told msg w q) (hn : n < 12) (x1 x2 : Int32) : td_J mu a b (n + 1) dc (upd f n (td_sh x1)) (upd g n (td_sh x2)) told msg w (upd (upd q (2 * n) (td_sh x1)) (2 * n + 1) (td_sh x2)) := by
  obtain ⟨hmu, -, hw, ⟨h1, h2, h3⟩, he, ht⟩ := h
  refine ⟨hmu, by omega, hw, ⟨td_short_u h1 _ _, td_short_u h2 _ _, td_short_u (td_short_u h3 _ _) _ _⟩, fun i hi => ?_, ?_⟩
  · by_cases e : i = n
    · subst e
      rw [pk_us, pk_us, pk_us, pk_un (by omega), pk_us]
      exact ⟨rfl, rfl⟩
    · rw [pk_un e, pk_un e, pk_un (by omega), pk_un (by omega), pk_un (by omega), pk_un (by omega)]
      exact he i (by omega)
  · rcases ht with z | ⟨fr, M, z1, z2, z3, z4, z5⟩
    · exact Or.inl z
    · refine Or.inr ⟨fr, M, z1, z2, by omega, z4, ?_⟩
      rw [z5]
      exact congrArg Int32.ofInt (td_T_congr mu fr M n (td_P_congr (fun i hi => (pk_un (by omega)).symm) (fun i hi => (pk_un (by omega)).symm)) (fr + mu) 0 0 (by omega))
/-- the two decisions are one -/
theorem td_J_one {mu a b n : Nat} {dc : Int32} {f g : Nat → Int32} {told msg : Int32} {w q : Nat → Int32} (h : td_J mu a b n dc f g told msg w q) {M N : Nat} (hM : td_arg (td_P a b f g) mu (n - mu) n M) (hN : td_arg (td_P a b (fun i => q (2 * i)) (fun i => q (2 * i + 1))) mu (n - mu) n N) : M = N := by
  obtain ⟨-, -, -, -, he, -⟩ := h
  exact td_arg_u (td_arg_congr (td_P_congr (fun i hi => (he i hi).1) (fun i hi => (he i hi).2)) hM) hN
theorem td_J_decide {mu a b n : Nat} {dc : Int32} {f g : Nat → Int32} {told msg : Int32} {w q : Nat → Int32} (h : td_J mu a b n dc f g told msg w q) (hlt : mu < n) {M : Nat} (hM : td_arg (td_P a b f g) mu (n - mu) n M) : td_J mu a b n (Int32.ofInt (td_T (td_P a b f g) mu (n - mu) M n 0 0)) f g (nI (n - mu)) (nI M) w q := by
  obtain ⟨hmu, hn, hw, hs, he, -⟩ := h
  exact ⟨hmu, hn, hw, hs, he, Or.inr ⟨n - mu, M, rfl, rfl, by omega, hM.1, by rw [show n - mu + mu = n by omega]⟩⟩
theorem td_J_cost {mu a b n : Nat} {f g q : Nat → Int32} (he : ∀ i : Nat, i < n → f i = q (2 * i) ∧ g i = q (2 * i + 1)) {fr M : Nat} (hf : fr + mu ≤ n) : Int32.ofInt (td_T (td_P a b f g) mu fr M (fr + mu) 0 0) = Int32.ofInt (td_T (td_P a b (fun i => q (2 * i)) (fun i => q (2 * i + 1))) mu fr M (fr + mu) 0 0) :=
  congrArg Int32.ofInt (td_T_congr mu fr M n (td_P_congr (fun i hi => (he i hi).1) (fun i hi => (he i hi).2)) (fr + mu) 0 0 (by omega))
end
section
set_option maxHeartbeats 8000000 in
set_option maxRecDepth 100000 in
/-- THE LAW'S LOOP -/
theorem law_loop {p : Program} {l : Launch} {e : Env} {s : State} {m : MethodId} {below : List Frame} {meth : Method} {c : Code} {D : va_G} {sb L : Nat} {xs : Nat → Int32} {h h1 h2 h3 k k1 k2 : Nat} {c1 c2 c3 d1 d2 : ClassId} (hL : L ≤ 256) (C0 : lw_At p s m meth c sb L xs) (hK : va_K D td_cl (kX c1 c2 c3 ++ kY d1 d2) s) :
    ∀ (d i : Nat), i ≤ L + 3 → L + 4 ≤ i + d → ∀ (mu a b n : Nat) (dc : Int32) (f g r : Nat → Int32) (told msg : Int32) (w q : Nat → Int32) (H : Heap) (locs : List Loc) (ls : Array Slot), td_J mu a b n dc f g told msg w q → va_P D td_cl (wX h h1 h2 h3 c1 c2 c3 mu a b n dc f g r ++ wY k k1 k2 d1 d2 mu n told msg w q) H → va_D (fun z : Nat => s.heap.size ≤ z) (wX h h1 h2 h3 c1 c2 c3 mu a b n dc f g r ++ wY k k1 k2 d1 d2 mu n told msg w q) → va_S (fun z : Nat => s.heap.size ≤ z) s.heap H locs → lv_has ls 4 [(0, .ref sb), (1, .ref h), (2, .ref k), (3, .int (nI i))] → W p l e room_1 s m #[Value.ref sb] below meth c H locs 7 504 (lw_Z below #[Value.ref sb] s) (F0 m 18 ls []) := by
  obtain ⟨hx, hb, hr, hml, hown, hts0, hX, hbl, hlocks, hgv⟩ := C0
  have hts : ∀ w ∈ lw_all, w.before #[Value.ref sb] s = true := fun w h => hts0 w (lw_all_tbl h)
  have hA : ∀ q : Nat, s.heap.size ≤ q → (fun z : Nat => s.heap.size ≤ z) q := fun _ h => h
  have hbA : ¬ (fun z : Nat => s.heap.size ≤ z) sb := Nat.not_le.mpr hbl
  intro d
  induction d with
  | zero => intro i u1 u2; exact absurd u2 (by omega)
  | succ d ih =>
    intro i u1 u2 mu a b n dc f g r told msg w q H locs ls hJ hP hD hS hl
    refine lv_iload_n hx hb dL_law_18 rfl (lv_at hl 3 rfl) ?_
    refine lv_aload_n hx hb dL_law_19 rfl (lv_at hl 0 rfl) ?_
    refine va_slen hx hb hX hbl hbA hS dL_law_20 ?_
    refine tw_top (y := nI L) rfl ?_
    refine lv_iconst (v := nI 4) hx hb dL_law_21 (by decide) ?_
    refine lv_isub hx hb dL_law_22 ?_
    refine lv_icmp_gt (tgt := 187) hx hb dL_law_23 (by decide) (fun hc => ?_) (fun hc => ?_)
    · refine lv_iconst (v := 1) hx hb dL_law_187 (by decide) ?_
      refine va_forget (fun q hq => hS.2.2 q hq) ?_
      refine W.widen (k := 600000) (n := 7290000) (Nat.le_of_ble_eq_true rfl) (Nat.le_of_ble_eq_true rfl) ?_
      exact lw_ret hx hb hr hlocks dL_law_188
    · have hi : i + 4 ≤ L := by
        rcases Nat.lt_or_ge L (i + 4) with z | z
        · exact absurd (by rw [Int32.lt_iff_toInt_lt, pk_sub_toInt (by omega) (by decide), nI_toInt (by omega)]; omega) hc
        · exact z
      have nxt : ∀ (mu a b n : Nat) (dc : Int32) (f g r : Nat → Int32) (told msg : Int32) (w q : Nat → Int32) (H : Heap) (locs : List Loc) (ls : Array Slot), td_J mu a b n dc f g told msg w q → va_P D td_cl (wX h h1 h2 h3 c1 c2 c3 mu a b n dc f g r ++ wY k k1 k2 d1 d2 mu n told msg w q) H → va_D (fun z : Nat => s.heap.size ≤ z) (wX h h1 h2 h3 c1 c2 c3 mu a b n dc f g r ++ wY k k1 k2 d1 d2 mu n told msg w q) → va_S (fun z : Nat => s.heap.size ≤ z) s.heap H locs → lv_has ls 4 [(0, .ref sb), (1, .ref h), (2, .ref k), (3, .int (nI i))] → W p l e room_1 s m #[Value.ref sb] below meth c H locs 7 504 (lw_Z below #[Value.ref sb] s) (F0 m 181 ls []) := by
        intro mu a b n dc f g r told msg w q H locs ls hJ hP hD hS hl
        refine lv_iinc (v := nI (i + 4)) (lv' := [(3, .int (nI (i + 4))), (0, .ref sb), (1, .ref h), (2, .ref k)]) hx hb dL_law_181 hl (k := 3) rfl (nI_add i 4) (by decide) rfl (fun ls hl => ?_)
        refine lv_goto (tgt := 18) hx hb dL_law_184 (by decide) ?_
        exact ih (i + 4) (by omega) (by omega) mu a b n dc f g r told msg w q H locs ls hJ hP hD hS (lv_sub hl [1, 2, 3, 0] rfl)
      refine lv_aload_n hx hb dL_law_26 rfl (lv_at hl 0 rfl) ?_
      refine lv_iload_n hx hb dL_law_27 rfl (lv_at hl 3 rfl) ?_
      refine va_sld hx hb hX hbl hbA hS (pk_in i L (by omega)) dL_law_28 ?_
      refine lv_bipush (v := nI 7) hx hb dL_law_29 (by decide) ?_
      refine lv_iand hx hb dL_law_31 ?_
      obtain ⟨sw, hsw, esw⟩ := pk_andE (xs (Int32.toNatClampNeg (nI i))) (m := nI 7) 3 (by decide)
      refine tw_top (y := nI sw) (esw) ?_
      have hJ0 := hJ
      obtain ⟨⟨hmu1, hmu⟩, hn, ⟨hw0, hw1⟩, ⟨hf, hg, hq⟩, he, htd⟩ := hJ0
      rcases (show sw = 0 ∨ sw = 1 ∨ sw = 2 ∨ sw = 3 ∨ sw = 4 ∨ 5 ≤ sw by omega) with rfl | rfl | rfl | rfl | rfl | h5
      · refine lv_tableIn (off := 36) (tgt := 68) hx hb dL_law_32 (by decide) (by decide) (by decide) (by decide) ?_
        refine lv_aload_n hx hb dL_law_68 rfl (lv_at hl 1 rfl) ?_
        refine lv_aload_n hx hb dL_law_69 rfl (lv_at hl 0 rfl) ?_
        refine lv_iload_n hx hb dL_law_70 rfl (lv_at hl 3 rfl) ?_
        refine lv_iconst (v := nI 1) hx hb dL_law_71 (by decide) ?_
        refine lv_iadd hx hb dL_law_72 ?_
        refine tw_top (y := nI (i + 1)) (nI_add i 1) ?_
        refine va_sld hx hb hX hbl hbA hS (pk_in (i + 1) L (by omega)) dL_law_73 ?_
        refine tw_top (y := xs (i + 1)) (congrArg xs (nI_clamp (by omega))) ?_
        refine lv_aload_n hx hb dL_law_74 rfl (lv_at hl 0 rfl) ?_
        refine lv_iload_n hx hb dL_law_75 rfl (lv_at hl 3 rfl) ?_
        refine lv_iconst (v := nI 2) hx hb dL_law_76 (by decide) ?_
        refine lv_iadd hx hb dL_law_77 ?_
        refine tw_top (y := nI (i + 2)) (nI_add i 2) ?_
        refine va_sld hx hb hX hbl hbA hS (pk_in (i + 2) L (by omega)) dL_law_78 ?_
        refine tw_top (y := xs (i + 2)) (congrArg xs (nI_clamp (by omega))) ?_
        refine lv_aload_n hx hb dL_law_79 rfl (lv_at hl 0 rfl) ?_
        refine lv_iload_n hx hb dL_law_80 rfl (lv_at hl 3 rfl) ?_
        refine lv_iconst (v := nI 3) hx hb dL_law_81 (by decide) ?_
        refine lv_iadd hx hb dL_law_82 ?_
        refine tw_top (y := nI (i + 3)) (nI_add i 3) ?_
        refine va_sld hx hb hX hbl hbA hS (pk_in (i + 3) L (by omega)) dL_law_83 ?_
        refine tw_top (y := xs (i + 3)) (congrArg xs (nI_clamp (by omega))) ?_
        have hPc := hP.sub (ws' := wX h h1 h2 h3 c1 c2 c3 mu a b n dc f g r) [0, 1, 2, 3] rfl
        have hDc := hD.sub (ws' := wX h h1 h2 h3 c1 c2 c3 mu a b n dc f g r) [0, 1, 2, 3] (by decide) rfl
        have hKc := hK.sub (tys' := kX c1 c2 c3) [0, 1, 2] rfl
        have hFc := va_free (wc := wX h h1 h2 h3 c1 c2 c3 mu a b n dc f g r) hD hS hA [0, 1, 2, 3] rfl
        refine va_callv (va_runV (As := [.int (xs (i + 1)), .int (xs (i + 2)), .int (xs (i + 3))]) (rest := []) ⟨hx, hb, hml, hown, hts⟩ (mt_Xshape l D) (cwV 3 hts (lw_V q40 q41 q42 q3 q43) rfl rfl rfl (by decide +kernel) ⟨Nat.le_of_ble_eq_true rfl, Nat.le_of_ble_eq_true rfl⟩) (mu_V (ci := 0) (q0 := 0) hKc hPc hDc rfl rfl) rfl rfl hl.1 rfl (lv_room (Nat.le_of_ble_eq_true rfl)) dL_law_84 ⟨Nat.le_of_ble_eq_true rfl, Nat.le_of_ble_eq_true rfl⟩) hS (fun q _ h => hFc q h) hFc (fun  u t H1 locs ht hvm hw hB hz1 hk1 hS => ?_)
        obtain ⟨hP1, hK1, hD1⟩ := hB
        rw [ht] at hP1
        obtain ⟨hP, hD⟩ := va_join (wr := wY k k1 k2 d1 d2 mu n told msg w q) (w1 := wX h h1 h2 h3 c1 c2 c3 (td_mem (xs (i + 1))) (td_tap (xs (i + 1)) (xs (i + 2))) (td_tap (xs (i + 1)) (xs (i + 3))) 0 0 f g r) hP hD [0, 1, 2, 3] [4, 5, 6] rfl rfl (by decide) (by decide) hk1 hFc hP1 hD1
        have hP := hP.sub (ws' := wX h h1 h2 h3 c1 c2 c3 (td_mem (xs (i + 1))) (td_tap (xs (i + 1)) (xs (i + 2))) (td_tap (xs (i + 1)) (xs (i + 3))) 0 0 f g r ++ wY k k1 k2 d1 d2 mu n told msg w q) [3, 4, 5, 6, 0, 1, 2] rfl
        have hD := hD.sub (ws' := wX h h1 h2 h3 c1 c2 c3 (td_mem (xs (i + 1))) (td_tap (xs (i + 1)) (xs (i + 2))) (td_tap (xs (i + 1)) (xs (i + 3))) 0 0 f g r ++ wY k k1 k2 d1 d2 mu n told msg w q) [3, 4, 5, 6, 0, 1, 2] (by decide) rfl
        generalize H1 = H at hP hS ⊢
        refine lv_aload_n hx hb dL_law_87 rfl (lv_at hl 2 rfl) ?_
        refine lv_aload_n hx hb dL_law_88 rfl (lv_at hl 0 rfl) ?_
        refine lv_iload_n hx hb dL_law_89 rfl (lv_at hl 3 rfl) ?_
        refine lv_iconst (v := nI 1) hx hb dL_law_90 (by decide) ?_
        refine lv_iadd hx hb dL_law_91 ?_
        refine tw_top (y := nI (i + 1)) (nI_add i 1) ?_
        refine va_sld hx hb hX hbl hbA hS (pk_in (i + 1) L (by omega)) dL_law_92 ?_
        refine tw_top (y := xs (i + 1)) (congrArg xs (nI_clamp (by omega))) ?_
        refine lv_aload_n hx hb dL_law_93 rfl (lv_at hl 0 rfl) ?_
        refine lv_iload_n hx hb dL_law_94 rfl (lv_at hl 3 rfl) ?_
        refine lv_iconst (v := nI 2) hx hb dL_law_95 (by decide) ?_
        refine lv_iadd hx hb dL_law_96 ?_
        refine tw_top (y := nI (i + 2)) (nI_add i 2) ?_
        refine va_sld hx hb hX hbl hbA hS (pk_in (i + 2) L (by omega)) dL_law_97 ?_
        refine tw_top (y := xs (i + 2)) (congrArg xs (nI_clamp (by omega))) ?_
        refine lv_aload_n hx hb dL_law_98 rfl (lv_at hl 0 rfl) ?_
        refine lv_iload_n hx hb dL_law_99 rfl (lv_at hl 3 rfl) ?_
        refine lv_iconst (v := nI 3) hx hb dL_law_100 (by decide) ?_
        refine lv_iadd hx hb dL_law_101 ?_
        refine tw_top (y := nI (i + 3)) (nI_add i 3) ?_
        refine va_sld hx hb hX hbl hbA hS (pk_in (i + 3) L (by omega)) dL_law_102 ?_
        refine tw_top (y := xs (i + 3)) (congrArg xs (nI_clamp (by omega))) ?_
        have hPc := hP.sub (ws' := wY k k1 k2 d1 d2 mu n told msg w q) [4, 5, 6] rfl
        have hDc := hD.sub (ws' := wY k k1 k2 d1 d2 mu n told msg w q) [4, 5, 6] (by decide) rfl
        have hKc := hK.sub (tys' := kY d1 d2) [3, 4] rfl
        have hFc := va_free (wc := wY k k1 k2 d1 d2 mu n told msg w q) hD hS hA [4, 5, 6] rfl
        refine va_callv (va_runV (As := [.int (xs (i + 1)), .int (xs (i + 2)), .int (xs (i + 3))]) (rest := []) ⟨hx, hb, hml, hown, hts⟩ (mt_Yshape l D) (cwV 3 hts (lw_V q72 q73 q74 q4 q75) rfl rfl rfl (by decide +kernel) ⟨Nat.le_of_ble_eq_true rfl, Nat.le_of_ble_eq_true rfl⟩) (mu_V (ci := 1) (q0 := 0) hKc hPc hDc rfl rfl) rfl rfl hl.1 rfl (lv_room (Nat.le_of_ble_eq_true rfl)) dL_law_103 ⟨Nat.le_of_ble_eq_true rfl, Nat.le_of_ble_eq_true rfl⟩) hS (fun q _ h => hFc q h) hFc (fun  u t H1 locs ht hvm hw hB hz1 hk1 hS => ?_)
        obtain ⟨hP1, hK1, hD1⟩ := hB
        rw [ht] at hP1
        obtain ⟨hP, hD⟩ := va_join (wr := wX h h1 h2 h3 c1 c2 c3 (td_mem (xs (i + 1))) (td_tap (xs (i + 1)) (xs (i + 2))) (td_tap (xs (i + 1)) (xs (i + 3))) 0 0 f g r) (w1 := wY k k1 k2 d1 d2 (td_mem (xs (i + 1))) 0 (-1) 0 (upd (upd w 0 (nI (td_tap (xs (i + 1)) (xs (i + 2))))) 1 (nI (td_tap (xs (i + 1)) (xs (i + 3))))) q) hP hD [4, 5, 6] [0, 1, 2, 3] rfl rfl (by decide) (by decide) hk1 hFc hP1 hD1
        have hP := hP.sub (ws' := wX h h1 h2 h3 c1 c2 c3 (td_mem (xs (i + 1))) (td_tap (xs (i + 1)) (xs (i + 2))) (td_tap (xs (i + 1)) (xs (i + 3))) 0 0 f g r ++ wY k k1 k2 d1 d2 (td_mem (xs (i + 1))) 0 (-1) 0 (upd (upd w 0 (nI (td_tap (xs (i + 1)) (xs (i + 2))))) 1 (nI (td_tap (xs (i + 1)) (xs (i + 3))))) q) [0, 1, 2, 3, 4, 5, 6] rfl
        have hD := hD.sub (ws' := wX h h1 h2 h3 c1 c2 c3 (td_mem (xs (i + 1))) (td_tap (xs (i + 1)) (xs (i + 2))) (td_tap (xs (i + 1)) (xs (i + 3))) 0 0 f g r ++ wY k k1 k2 d1 d2 (td_mem (xs (i + 1))) 0 (-1) 0 (upd (upd w 0 (nI (td_tap (xs (i + 1)) (xs (i + 2))))) 1 (nI (td_tap (xs (i + 1)) (xs (i + 3))))) q) [0, 1, 2, 3, 4, 5, 6] (by decide) rfl
        generalize H1 = H at hP hS ⊢
        refine lv_goto (tgt := 181) hx hb dL_law_106 (by decide) ?_
        exact nxt _ _ _ _ _ _ _ _ _ _ _ _ _ _ _ (td_J_shape hJ _ _ _) hP hD hS hl
      · refine lv_tableIn (off := 77) (tgt := 109) hx hb dL_law_32 (by decide) (by decide) (by decide) (by decide) ?_
        by_cases h12 : n = 12
        · refine lv_aload_n hx hb dL_law_109 rfl (lv_at hl 1 rfl) ?_
          refine lv_aload_n hx hb dL_law_110 rfl (lv_at hl 0 rfl) ?_
          refine lv_iload_n hx hb dL_law_111 rfl (lv_at hl 3 rfl) ?_
          refine lv_iconst (v := nI 1) hx hb dL_law_112 (by decide) ?_
          refine lv_iadd hx hb dL_law_113 ?_
          refine tw_top (y := nI (i + 1)) (nI_add i 1) ?_
          refine va_sld hx hb hX hbl hbA hS (pk_in (i + 1) L (by omega)) dL_law_114 ?_
          refine tw_top (y := xs (i + 1)) (congrArg xs (nI_clamp (by omega))) ?_
          refine lv_aload_n hx hb dL_law_115 rfl (lv_at hl 0 rfl) ?_
          refine lv_iload_n hx hb dL_law_116 rfl (lv_at hl 3 rfl) ?_
          refine lv_iconst (v := nI 2) hx hb dL_law_117 (by decide) ?_
          refine lv_iadd hx hb dL_law_118 ?_
          refine tw_top (y := nI (i + 2)) (nI_add i 2) ?_
          refine va_sld hx hb hX hbl hbA hS (pk_in (i + 2) L (by omega)) dL_law_119 ?_
          refine tw_top (y := xs (i + 2)) (congrArg xs (nI_clamp (by omega))) ?_
          have hPc := hP.sub (ws' := wX h h1 h2 h3 c1 c2 c3 mu a b n dc f g r) [0, 1, 2, 3] rfl
          have hDc := hD.sub (ws' := wX h h1 h2 h3 c1 c2 c3 mu a b n dc f g r) [0, 1, 2, 3] (by decide) rfl
          have hKc := hK.sub (tys' := kX c1 c2 c3) [0, 1, 2] rfl
          refine tw_callR (W.runV (As := [.int (xs (i + 1)), .int (xs (i + 2))]) (rest := []) ⟨hx, hb, hml, hown, hts⟩ (mt_XhearF l D h12) (cwV 2 hts (lw_V q45 q46 q47 q3 q48) rfl rfl rfl (by decide +kernel) ⟨Nat.le_of_ble_eq_true rfl, Nat.le_of_ble_eq_true rfl⟩) (ro_V (ci := 0) (q0 := 0) hKc hPc rfl rfl) rfl rfl hl.1 rfl (lv_room (Nat.le_of_ble_eq_true rfl)) dL_law_120 ⟨Nat.le_of_ble_eq_true rfl, Nat.le_of_ble_eq_true rfl⟩) ?_
          refine lv_aload_n hx hb dL_law_123 rfl (lv_at hl 2 rfl) ?_
          refine lv_aload_n hx hb dL_law_124 rfl (lv_at hl 0 rfl) ?_
          refine lv_iload_n hx hb dL_law_125 rfl (lv_at hl 3 rfl) ?_
          refine lv_iconst (v := nI 1) hx hb dL_law_126 (by decide) ?_
          refine lv_iadd hx hb dL_law_127 ?_
          refine tw_top (y := nI (i + 1)) (nI_add i 1) ?_
          refine va_sld hx hb hX hbl hbA hS (pk_in (i + 1) L (by omega)) dL_law_128 ?_
          refine tw_top (y := xs (i + 1)) (congrArg xs (nI_clamp (by omega))) ?_
          refine lv_aload_n hx hb dL_law_129 rfl (lv_at hl 0 rfl) ?_
          refine lv_iload_n hx hb dL_law_130 rfl (lv_at hl 3 rfl) ?_
          refine lv_iconst (v := nI 2) hx hb dL_law_131 (by decide) ?_
          refine lv_iadd hx hb dL_law_132 ?_
          refine tw_top (y := nI (i + 2)) (nI_add i 2) ?_
          refine va_sld hx hb hX hbl hbA hS (pk_in (i + 2) L (by omega)) dL_law_133 ?_
          refine tw_top (y := xs (i + 2)) (congrArg xs (nI_clamp (by omega))) ?_
          have hPc := hP.sub (ws' := wY k k1 k2 d1 d2 mu n told msg w q) [4, 5, 6] rfl
          have hDc := hD.sub (ws' := wY k k1 k2 d1 d2 mu n told msg w q) [4, 5, 6] (by decide) rfl
          have hKc := hK.sub (tys' := kY d1 d2) [3, 4] rfl
          refine tw_callR (W.runV (As := [.int (xs (i + 1)), .int (xs (i + 2))]) (rest := [.int (nI 0)]) ⟨hx, hb, hml, hown, hts⟩ (mt_YhearF l D h12) (cwV 2 hts (lw_V q77 q78 q79 q4 q80) rfl rfl rfl (by decide +kernel) ⟨Nat.le_of_ble_eq_true rfl, Nat.le_of_ble_eq_true rfl⟩) (ro_V (ci := 1) (q0 := 0) hKc hPc rfl rfl) rfl rfl hl.1 rfl (lv_room (Nat.le_of_ble_eq_true rfl)) dL_law_134 ⟨Nat.le_of_ble_eq_true rfl, Nat.le_of_ble_eq_true rfl⟩) ?_
          refine lv_icmp_eq (tgt := 181) hx hb dL_law_137 (by decide) (fun hc => ?_) (fun hc => ?_)
          · exact nxt _ _ _ _ _ _ _ _ _ _ _ _ _ _ _ hJ hP hD hS hl
          · exact absurd (rfl) hc
        · refine lv_aload_n hx hb dL_law_109 rfl (lv_at hl 1 rfl) ?_
          refine lv_aload_n hx hb dL_law_110 rfl (lv_at hl 0 rfl) ?_
          refine lv_iload_n hx hb dL_law_111 rfl (lv_at hl 3 rfl) ?_
          refine lv_iconst (v := nI 1) hx hb dL_law_112 (by decide) ?_
          refine lv_iadd hx hb dL_law_113 ?_
          refine tw_top (y := nI (i + 1)) (nI_add i 1) ?_
          refine va_sld hx hb hX hbl hbA hS (pk_in (i + 1) L (by omega)) dL_law_114 ?_
          refine tw_top (y := xs (i + 1)) (congrArg xs (nI_clamp (by omega))) ?_
          refine lv_aload_n hx hb dL_law_115 rfl (lv_at hl 0 rfl) ?_
          refine lv_iload_n hx hb dL_law_116 rfl (lv_at hl 3 rfl) ?_
          refine lv_iconst (v := nI 2) hx hb dL_law_117 (by decide) ?_
          refine lv_iadd hx hb dL_law_118 ?_
          refine tw_top (y := nI (i + 2)) (nI_add i 2) ?_
          refine va_sld hx hb hX hbl hbA hS (pk_in (i + 2) L (by omega)) dL_law_119 ?_
          refine tw_top (y := xs (i + 2)) (congrArg xs (nI_clamp (by omega))) ?_
          have hPc := hP.sub (ws' := wX h h1 h2 h3 c1 c2 c3 mu a b n dc f g r) [0, 1, 2, 3] rfl
          have hDc := hD.sub (ws' := wX h h1 h2 h3 c1 c2 c3 mu a b n dc f g r) [0, 1, 2, 3] (by decide) rfl
          have hKc := hK.sub (tys' := kX c1 c2 c3) [0, 1, 2] rfl
          have hFc := va_free (wc := wX h h1 h2 h3 c1 c2 c3 mu a b n dc f g r) hD hS hA [0, 1, 2, 3] rfl
          refine va_calli (va_runV (As := [.int (xs (i + 1)), .int (xs (i + 2))]) (rest := []) ⟨hx, hb, hml, hown, hts⟩ (mt_Xhear l D (show n < 12 by omega)) (cwV 2 hts (lw_V q45 q46 q47 q3 q48) rfl rfl rfl (by decide +kernel) ⟨Nat.le_of_ble_eq_true rfl, Nat.le_of_ble_eq_true rfl⟩) (mu_V (ci := 0) (q0 := 0) hKc hPc hDc rfl rfl) rfl rfl hl.1 rfl (lv_room (Nat.le_of_ble_eq_true rfl)) dL_law_120 ⟨Nat.le_of_ble_eq_true rfl, Nat.le_of_ble_eq_true rfl⟩) hS (fun q _ h => hFc q h) hFc (fun z1 u t H1 locs ht hvm hw1 hB hz1 hk1 hS => ?_)
          obtain ⟨hP1, hK1, hD1⟩ := hB
          rw [ht] at hP1
          obtain ⟨hP, hD⟩ := va_join (wr := wY k k1 k2 d1 d2 mu n told msg w q) (w1 := wX h h1 h2 h3 c1 c2 c3 mu a b (n + 1) dc (upd f n (td_sh (xs (i + 1)))) (upd g n (td_sh (xs (i + 2)))) r) hP hD [0, 1, 2, 3] [4, 5, 6] rfl rfl (by decide) (by decide) hk1 hFc hP1 hD1
          have hP := hP.sub (ws' := wX h h1 h2 h3 c1 c2 c3 mu a b (n + 1) dc (upd f n (td_sh (xs (i + 1)))) (upd g n (td_sh (xs (i + 2)))) r ++ wY k k1 k2 d1 d2 mu n told msg w q) [3, 4, 5, 6, 0, 1, 2] rfl
          have hD := hD.sub (ws' := wX h h1 h2 h3 c1 c2 c3 mu a b (n + 1) dc (upd f n (td_sh (xs (i + 1)))) (upd g n (td_sh (xs (i + 2)))) r ++ wY k k1 k2 d1 d2 mu n told msg w q) [3, 4, 5, 6, 0, 1, 2] (by decide) rfl
          generalize H1 = H at hP hS ⊢
          refine lv_aload_n hx hb dL_law_123 rfl (lv_at hl 2 rfl) ?_
          refine lv_aload_n hx hb dL_law_124 rfl (lv_at hl 0 rfl) ?_
          refine lv_iload_n hx hb dL_law_125 rfl (lv_at hl 3 rfl) ?_
          refine lv_iconst (v := nI 1) hx hb dL_law_126 (by decide) ?_
          refine lv_iadd hx hb dL_law_127 ?_
          refine tw_top (y := nI (i + 1)) (nI_add i 1) ?_
          refine va_sld hx hb hX hbl hbA hS (pk_in (i + 1) L (by omega)) dL_law_128 ?_
          refine tw_top (y := xs (i + 1)) (congrArg xs (nI_clamp (by omega))) ?_
          refine lv_aload_n hx hb dL_law_129 rfl (lv_at hl 0 rfl) ?_
          refine lv_iload_n hx hb dL_law_130 rfl (lv_at hl 3 rfl) ?_
          refine lv_iconst (v := nI 2) hx hb dL_law_131 (by decide) ?_
          refine lv_iadd hx hb dL_law_132 ?_
          refine tw_top (y := nI (i + 2)) (nI_add i 2) ?_
          refine va_sld hx hb hX hbl hbA hS (pk_in (i + 2) L (by omega)) dL_law_133 ?_
          refine tw_top (y := xs (i + 2)) (congrArg xs (nI_clamp (by omega))) ?_
          have hPc := hP.sub (ws' := wY k k1 k2 d1 d2 mu n told msg w q) [4, 5, 6] rfl
          have hDc := hD.sub (ws' := wY k k1 k2 d1 d2 mu n told msg w q) [4, 5, 6] (by decide) rfl
          have hKc := hK.sub (tys' := kY d1 d2) [3, 4] rfl
          have hFc := va_free (wc := wY k k1 k2 d1 d2 mu n told msg w q) hD hS hA [4, 5, 6] rfl
          refine va_calli (va_runV (As := [.int (xs (i + 1)), .int (xs (i + 2))]) (rest := [.int z1]) ⟨hx, hb, hml, hown, hts⟩ (mt_Yhear l D (show n < 12 by omega)) (cwV 2 hts (lw_V q77 q78 q79 q4 q80) rfl rfl rfl (by decide +kernel) ⟨Nat.le_of_ble_eq_true rfl, Nat.le_of_ble_eq_true rfl⟩) (mu_V (ci := 1) (q0 := 0) hKc hPc hDc rfl rfl) rfl rfl hl.1 rfl (lv_room (Nat.le_of_ble_eq_true rfl)) dL_law_134 ⟨Nat.le_of_ble_eq_true rfl, Nat.le_of_ble_eq_true rfl⟩) hS (fun q _ h => hFc q h) hFc (fun z2 u t H1 locs ht hvm hw2 hB hz1 hk1 hS => ?_)
          obtain ⟨hP1, hK1, hD1⟩ := hB
          rw [ht] at hP1
          obtain ⟨hP, hD⟩ := va_join (wr := wX h h1 h2 h3 c1 c2 c3 mu a b (n + 1) dc (upd f n (td_sh (xs (i + 1)))) (upd g n (td_sh (xs (i + 2)))) r) (w1 := wY k k1 k2 d1 d2 mu (n + 1) told msg w (upd (upd q (2 * n) (td_sh (xs (i + 1)))) (2 * n + 1) (td_sh (xs (i + 2))))) hP hD [4, 5, 6] [0, 1, 2, 3] rfl rfl (by decide) (by decide) hk1 hFc hP1 hD1
          have hP := hP.sub (ws' := wX h h1 h2 h3 c1 c2 c3 mu a b (n + 1) dc (upd f n (td_sh (xs (i + 1)))) (upd g n (td_sh (xs (i + 2)))) r ++ wY k k1 k2 d1 d2 mu (n + 1) told msg w (upd (upd q (2 * n) (td_sh (xs (i + 1)))) (2 * n + 1) (td_sh (xs (i + 2))))) [0, 1, 2, 3, 4, 5, 6] rfl
          have hD := hD.sub (ws' := wX h h1 h2 h3 c1 c2 c3 mu a b (n + 1) dc (upd f n (td_sh (xs (i + 1)))) (upd g n (td_sh (xs (i + 2)))) r ++ wY k k1 k2 d1 d2 mu (n + 1) told msg w (upd (upd q (2 * n) (td_sh (xs (i + 1)))) (2 * n + 1) (td_sh (xs (i + 2))))) [0, 1, 2, 3, 4, 5, 6] (by decide) rfl
          generalize H1 = H at hP hS ⊢
          refine lv_icmp_eq (tgt := 181) hx hb dL_law_137 (by decide) (fun hc => ?_) (fun hc => ?_)
          · exact nxt _ _ _ _ _ _ _ _ _ _ _ _ _ _ _ (td_J_hear hJ (by omega) _ _) hP hD hS hl
          · exact absurd (hw1.trans hw2.symm) hc
      · refine lv_tableIn (off := 110) (tgt := 142) hx hb dL_law_32 (by decide) (by decide) (by decide) (by decide) ?_
        by_cases hle : n ≤ mu
        · refine lv_aload_n hx hb dL_law_142 rfl (lv_at hl 1 rfl) ?_
          have hPc := hP.sub (ws' := wX h h1 h2 h3 c1 c2 c3 mu a b n dc f g r) [0, 1, 2, 3] rfl
          have hDc := hD.sub (ws' := wX h h1 h2 h3 c1 c2 c3 mu a b n dc f g r) [0, 1, 2, 3] (by decide) rfl
          have hKc := hK.sub (tys' := kX c1 c2 c3) [0, 1, 2] rfl
          refine tw_callR (W.runV (As := []) (rest := []) ⟨hx, hb, hml, hown, hts⟩ (mt_XdecideN l D hn hmu hle) (cwV 0 hts (lw_V q49 q50 q51 q3 q52) rfl rfl rfl (by decide +kernel) ⟨Nat.le_of_ble_eq_true rfl, Nat.le_of_ble_eq_true rfl⟩) (ro_V (ci := 0) (q0 := 0) hKc hPc rfl rfl) rfl rfl hl.1 rfl (lv_room (Nat.le_of_ble_eq_true rfl)) dL_law_143 ⟨Nat.le_of_ble_eq_true rfl, Nat.le_of_ble_eq_true rfl⟩) ?_
          refine lv_aload_n hx hb dL_law_146 rfl (lv_at hl 2 rfl) ?_
          have hPc := hP.sub (ws' := wY k k1 k2 d1 d2 mu n told msg w q) [4, 5, 6] rfl
          have hDc := hD.sub (ws' := wY k k1 k2 d1 d2 mu n told msg w q) [4, 5, 6] (by decide) rfl
          have hKc := hK.sub (tys' := kY d1 d2) [3, 4] rfl
          refine tw_callR (W.runV (As := []) (rest := [.int (-1)]) ⟨hx, hb, hml, hown, hts⟩ (mt_YdecideN l D hn hmu hle) (cwV 0 hts (lw_V q81 q82 q83 q4 q84) rfl rfl rfl (by decide +kernel) ⟨Nat.le_of_ble_eq_true rfl, Nat.le_of_ble_eq_true rfl⟩) (ro_V (ci := 1) (q0 := 0) hKc hPc rfl rfl) rfl rfl hl.1 rfl (lv_room (Nat.le_of_ble_eq_true rfl)) dL_law_147 ⟨Nat.le_of_ble_eq_true rfl, Nat.le_of_ble_eq_true rfl⟩) ?_
          refine lv_icmp_eq (tgt := 181) hx hb dL_law_150 (by decide) (fun hc => ?_) (fun hc => ?_)
          · exact nxt _ _ _ _ _ _ _ _ _ _ _ _ _ _ _ hJ hP hD hS hl
          · exact absurd (rfl) hc
        · refine lv_aload_n hx hb dL_law_142 rfl (lv_at hl 1 rfl) ?_
          have hPc := hP.sub (ws' := wX h h1 h2 h3 c1 c2 c3 mu a b n dc f g r) [0, 1, 2, 3] rfl
          have hDc := hD.sub (ws' := wX h h1 h2 h3 c1 c2 c3 mu a b n dc f g r) [0, 1, 2, 3] (by decide) rfl
          have hKc := hK.sub (tys' := kX c1 c2 c3) [0, 1, 2] rfl
          have hFc := va_free (wc := wX h h1 h2 h3 c1 c2 c3 mu a b n dc f g r) hD hS hA [0, 1, 2, 3] rfl
          refine va_calli (va_runV (As := []) (rest := []) ⟨hx, hb, hml, hown, hts⟩ (mt_Xdecide l D hn hmu1 hmu (show mu < n by omega) hf hg) (cwV 0 hts (lw_V q49 q50 q51 q3 q52) rfl rfl rfl (by decide +kernel) ⟨Nat.le_of_ble_eq_true rfl, Nat.le_of_ble_eq_true rfl⟩) (mu_V (ci := 0) (q0 := 0) hKc hPc hDc rfl rfl) rfl rfl hl.1 rfl (lv_room (Nat.le_of_ble_eq_true rfl)) dL_law_143 ⟨Nat.le_of_ble_eq_true rfl, Nat.le_of_ble_eq_true rfl⟩) hS (fun q _ h => hFc q h) hFc (fun z1 u t H1 locs ht hvm hv1 hB hz1 hk1 hS => ?_)
          obtain ⟨M1, r2⟩ := u
          obtain ⟨hP1, hK1, hD1⟩ := hB
          rw [ht] at hP1
          obtain ⟨hP, hD⟩ := va_join (wr := wY k k1 k2 d1 d2 mu n told msg w q) (w1 := wX h h1 h2 h3 c1 c2 c3 mu a b n (Int32.ofInt (td_T (td_P a b f g) mu (n - mu) M1 n 0 0)) f g r2) hP hD [0, 1, 2, 3] [4, 5, 6] rfl rfl (by decide) (by decide) hk1 hFc hP1 hD1
          have hP := hP.sub (ws' := wX h h1 h2 h3 c1 c2 c3 mu a b n (Int32.ofInt (td_T (td_P a b f g) mu (n - mu) M1 n 0 0)) f g r2 ++ wY k k1 k2 d1 d2 mu n told msg w q) [3, 4, 5, 6, 0, 1, 2] rfl
          have hD := hD.sub (ws' := wX h h1 h2 h3 c1 c2 c3 mu a b n (Int32.ofInt (td_T (td_P a b f g) mu (n - mu) M1 n 0 0)) f g r2 ++ wY k k1 k2 d1 d2 mu n told msg w q) [3, 4, 5, 6, 0, 1, 2] (by decide) rfl
          generalize H1 = H at hP hS ⊢
          refine lv_aload_n hx hb dL_law_146 rfl (lv_at hl 2 rfl) ?_
          have hPc := hP.sub (ws' := wY k k1 k2 d1 d2 mu n told msg w q) [4, 5, 6] rfl
          have hDc := hD.sub (ws' := wY k k1 k2 d1 d2 mu n told msg w q) [4, 5, 6] (by decide) rfl
          have hKc := hK.sub (tys' := kY d1 d2) [3, 4] rfl
          have hFc := va_free (wc := wY k k1 k2 d1 d2 mu n told msg w q) hD hS hA [4, 5, 6] rfl
          refine va_calli (va_runV (As := []) (rest := [.int z1]) ⟨hx, hb, hml, hown, hts⟩ (mt_Ydecide l D hmu hw0 hw1 hn (show mu < n by omega) hq) (cwV 0 hts (lw_V q81 q82 q83 q4 q84) rfl rfl rfl (by decide +kernel) ⟨Nat.le_of_ble_eq_true rfl, Nat.le_of_ble_eq_true rfl⟩) (mu_V (ci := 1) (q0 := 0) hKc hPc hDc rfl rfl) rfl rfl hl.1 rfl (lv_room (Nat.le_of_ble_eq_true rfl)) dL_law_147 ⟨Nat.le_of_ble_eq_true rfl, Nat.le_of_ble_eq_true rfl⟩) hS (fun q _ h => hFc q h) hFc (fun z2 M2 t H1 locs ht hvm hv2 hB hz1 hk1 hS => ?_)
          obtain ⟨hP1, hK1, hD1⟩ := hB
          rw [ht] at hP1
          obtain ⟨hP, hD⟩ := va_join (wr := wX h h1 h2 h3 c1 c2 c3 mu a b n (Int32.ofInt (td_T (td_P a b f g) mu (n - mu) M1 n 0 0)) f g r2) (w1 := wY k k1 k2 d1 d2 mu n (nI (n - mu)) (nI M2) w q) hP hD [4, 5, 6] [0, 1, 2, 3] rfl rfl (by decide) (by decide) hk1 hFc hP1 hD1
          have hP := hP.sub (ws' := wX h h1 h2 h3 c1 c2 c3 mu a b n (Int32.ofInt (td_T (td_P a b f g) mu (n - mu) M1 n 0 0)) f g r2 ++ wY k k1 k2 d1 d2 mu n (nI (n - mu)) (nI M2) w q) [0, 1, 2, 3, 4, 5, 6] rfl
          have hD := hD.sub (ws' := wX h h1 h2 h3 c1 c2 c3 mu a b n (Int32.ofInt (td_T (td_P a b f g) mu (n - mu) M1 n 0 0)) f g r2 ++ wY k k1 k2 d1 d2 mu n (nI (n - mu)) (nI M2) w q) [0, 1, 2, 3, 4, 5, 6] (by decide) rfl
          generalize H1 = H at hP hS ⊢
          have e12 : M1 = M2 := td_J_one hJ hv1.2 hv2.2
          subst e12
          refine lv_icmp_eq (tgt := 181) hx hb dL_law_150 (by decide) (fun hc => ?_) (fun hc => ?_)
          · exact nxt _ _ _ _ _ _ _ _ _ _ _ _ _ _ _ (td_J_decide hJ (by omega) hv1.2) hP hD hS hl
          · exact absurd (hv1.1.trans hv2.1.symm) hc
      · refine lv_tableIn (off := 123) (tgt := 155) hx hb dL_law_32 (by decide) (by decide) (by decide) (by decide) ?_
        refine lv_aload_n hx hb dL_law_155 rfl (lv_at hl 1 rfl) ?_
        have hPc := hP.sub (ws' := wX h h1 h2 h3 c1 c2 c3 mu a b n dc f g r) [0, 1, 2, 3] rfl
        have hDc := hD.sub (ws' := wX h h1 h2 h3 c1 c2 c3 mu a b n dc f g r) [0, 1, 2, 3] (by decide) rfl
        have hKc := hK.sub (tys' := kX c1 c2 c3) [0, 1, 2] rfl
        refine tw_callR (W.runV (As := []) (rest := []) ⟨hx, hb, hml, hown, hts⟩ (mt_Xcost l D) (cwV 0 hts (lw_V q64 q65 q66 q3 q67) rfl rfl rfl (by decide +kernel) ⟨Nat.le_of_ble_eq_true rfl, Nat.le_of_ble_eq_true rfl⟩) (ro_V (ci := 0) (q0 := 0) hKc hPc rfl rfl) rfl rfl hl.1 rfl (lv_room (Nat.le_of_ble_eq_true rfl)) dL_law_156 ⟨Nat.le_of_ble_eq_true rfl, Nat.le_of_ble_eq_true rfl⟩) ?_
        refine lv_aload_n hx hb dL_law_159 rfl (lv_at hl 2 rfl) ?_
        rcases htd with ⟨t1, t2⟩ | ⟨fr, M, t1, t2, t3, t4, t5⟩
        · subst t1 t2
          have hPc := hP.sub (ws' := wY k k1 k2 d1 d2 mu n (-1) msg w q) [4, 5, 6] rfl
          have hDc := hD.sub (ws' := wY k k1 k2 d1 d2 mu n (-1) msg w q) [4, 5, 6] (by decide) rfl
          have hKc := hK.sub (tys' := kY d1 d2) [3, 4] rfl
          refine tw_callR (W.runV (As := []) (rest := [.int (nI 0)]) ⟨hx, hb, hml, hown, hts⟩ (mt_YcostN l D) (cwV 0 hts (lw_V q88 q89 q90 q4 q91) rfl rfl rfl (by decide +kernel) ⟨Nat.le_of_ble_eq_true rfl, Nat.le_of_ble_eq_true rfl⟩) (ro_V (ci := 1) (q0 := 0) hKc hPc rfl rfl) rfl rfl hl.1 rfl (lv_room (Nat.le_of_ble_eq_true rfl)) dL_law_160 ⟨Nat.le_of_ble_eq_true rfl, Nat.le_of_ble_eq_true rfl⟩) ?_
          refine lv_icmp_eq (tgt := 181) hx hb dL_law_163 (by decide) (fun hc => ?_) (fun hc => ?_)
          · exact nxt _ _ _ _ _ _ _ _ _ _ _ _ _ _ _ hJ hP hD hS hl
          · exact absurd (rfl) hc
        · subst t1 t2
          have hp11 := tn_p11 (show fr ≤ 12 by omega)
          have hPc := hP.sub (ws' := wY k k1 k2 d1 d2 mu n (nI fr) (nI M) w q) [4, 5, 6] rfl
          have hDc := hD.sub (ws' := wY k k1 k2 d1 d2 mu n (nI fr) (nI M) w q) [4, 5, 6] (by decide) rfl
          have hKc := hK.sub (tys' := kY d1 d2) [3, 4] rfl
          refine tw_callR (W.runV (As := []) (rest := [.int dc]) ⟨hx, hb, hml, hown, hts⟩ (mt_Ycost l D hmu hw0 hw1 (show fr + mu ≤ 12 by omega) (show M < 2 ^ 12 by omega)) (cwV 0 hts (lw_V q88 q89 q90 q4 q91) rfl rfl rfl (by decide +kernel) ⟨Nat.le_of_ble_eq_true rfl, Nat.le_of_ble_eq_true rfl⟩) (ro_V (ci := 1) (q0 := 0) hKc hPc rfl rfl) rfl rfl hl.1 rfl (lv_room (Nat.le_of_ble_eq_true rfl)) dL_law_160 ⟨Nat.le_of_ble_eq_true rfl, Nat.le_of_ble_eq_true rfl⟩) ?_
          refine lv_icmp_eq (tgt := 181) hx hb dL_law_163 (by decide) (fun hc => ?_) (fun hc => ?_)
          · exact nxt _ _ _ _ _ _ _ _ _ _ _ _ _ _ _ hJ hP hD hS hl
          · exact absurd (t5.trans (td_J_cost he t3)) hc
      · refine lv_tableIn (off := 136) (tgt := 168) hx hb dL_law_32 (by decide) (by decide) (by decide) (by decide) ?_
        refine lv_aload_n hx hb dL_law_168 rfl (lv_at hl 1 rfl) ?_
        have hPc := hP.sub (ws' := wX h h1 h2 h3 c1 c2 c3 mu a b n dc f g r) [0, 1, 2, 3] rfl
        have hDc := hD.sub (ws' := wX h h1 h2 h3 c1 c2 c3 mu a b n dc f g r) [0, 1, 2, 3] (by decide) rfl
        have hKc := hK.sub (tys' := kX c1 c2 c3) [0, 1, 2] rfl
        refine tw_callR (W.runV (As := []) (rest := []) ⟨hx, hb, hml, hown, hts⟩ (mt_Xheard l D) (cwV 0 hts (lw_V q68 q69 q70 q3 q71) rfl rfl rfl (by decide +kernel) ⟨Nat.le_of_ble_eq_true rfl, Nat.le_of_ble_eq_true rfl⟩) (ro_V (ci := 0) (q0 := 0) hKc hPc rfl rfl) rfl rfl hl.1 rfl (lv_room (Nat.le_of_ble_eq_true rfl)) dL_law_169 ⟨Nat.le_of_ble_eq_true rfl, Nat.le_of_ble_eq_true rfl⟩) ?_
        refine lv_aload_n hx hb dL_law_172 rfl (lv_at hl 2 rfl) ?_
        have hPc := hP.sub (ws' := wY k k1 k2 d1 d2 mu n told msg w q) [4, 5, 6] rfl
        have hDc := hD.sub (ws' := wY k k1 k2 d1 d2 mu n told msg w q) [4, 5, 6] (by decide) rfl
        have hKc := hK.sub (tys' := kY d1 d2) [3, 4] rfl
        refine tw_callR (W.runV (As := []) (rest := [.int (nI n)]) ⟨hx, hb, hml, hown, hts⟩ (mt_Yheard l D) (cwV 0 hts (lw_V q92 q93 q94 q4 q95) rfl rfl rfl (by decide +kernel) ⟨Nat.le_of_ble_eq_true rfl, Nat.le_of_ble_eq_true rfl⟩) (ro_V (ci := 1) (q0 := 0) hKc hPc rfl rfl) rfl rfl hl.1 rfl (lv_room (Nat.le_of_ble_eq_true rfl)) dL_law_173 ⟨Nat.le_of_ble_eq_true rfl, Nat.le_of_ble_eq_true rfl⟩) ?_
        refine lv_icmp_eq (tgt := 181) hx hb dL_law_176 (by decide) (fun hc => ?_) (fun hc => ?_)
        · exact nxt _ _ _ _ _ _ _ _ _ _ _ _ _ _ _ hJ hP hD hS hl
        · exact absurd (rfl) hc
      · refine lv_tableOut (tgt := 181) hx hb dL_law_32 (Or.inr (by rw [nI_toInt (by omega)]; omega)) (by decide) ?_
        exact nxt _ _ _ _ _ _ _ _ _ _ _ _ _ _ _ hJ hP hD hS hl
end
section
set_option maxHeartbeats 4000000 in
set_option maxRecDepth 100000 in
/-- the law, from its entry -/
theorem whole_start {p : Program} {e : Env} {s : State} {m : MethodId} {below : List Frame} {meth : Method} {c : Code} (l : Launch) {b L : Nat} {xs : Nat → Int32} (hL : L ≤ 256) (C0 : lw_At p s m meth c b L xs) : W p l e room_1 s m #[Value.ref b] below meth c s.heap [] 0 0 (lw_Z below #[Value.ref b] s) (entryFrame m ([Value.ref b] : List Value).toArray 4) := by
  obtain ⟨hx, hb, hr, hml, hown, hts0, hX, hbl, hlocks, hgv⟩ := id C0
  have hts : ∀ w ∈ lw_all, w.before #[Value.ref b] s = true := fun w h => hts0 w (lw_all_tbl h)
  have hA : ∀ q : Nat, s.heap.size ≤ q → (fun z : Nat => s.heap.size ≤ z) q := fun _ h => h
  obtain ⟨c0_, iS0, hKn0⟩ := u_known (C := RX0) (T := TX0) (N := 8) (n := 8) hts0 (fun w h => lw_all_tbl (in_X0 w h)) (hts0 _ (lw_all_tbl q6))
  obtain ⟨c1_, iS1, hKn1⟩ := u_known (C := RX1) (T := TX1) (N := 6) (n := 6) hts0 (fun w h => lw_all_tbl (in_X1 w h)) (hts0 _ (lw_all_tbl q97))
  obtain ⟨D, hK⟩ : ∃ D : va_G, va_K D td_cl [] s := by
    refine ⟨(fun k => if k = 0 then c0_ else c1_, fun k => if k = 0 then iS0 else iS1), ?_, fun k q h => by simp at h⟩
    intro k q hq
    match k, hq with
    | 0, hq => cases hq; exact hKn0
    | 1, hq => cases hq; exact hKn1
    | k + 2, hq => simp [td_cl] at hq
  have hS : va_S (fun z : Nat => s.heap.size ≤ z) s.heap s.heap [] := va_S.rf
  have hP : va_P D td_cl [] s.heap := fun k q h => by simp at h
  have hD : va_D (fun z : Nat => s.heap.size ≤ z) [] := ⟨fun i j p q h => by simp at h, fun k q h => by simp at h⟩
  have hl := lv_entry ([.ref b]) (n := 4) (Nat.le_of_ble_eq_true rfl)
  rw [lg_entry_eq]
  generalize (lg_sl ([.ref b]) ++ List.replicate (4 - (lg_sl ([.ref b])).length) Slot.unset).toArray = ls at hl ⊢
  have hl : lv_has ls 4 [(0, .ref b)] := hl
  refine va_new (ci := 0) (fs := [.int 0, .int 0, .int 0, .null, .null, .int 0, .int 0, .null]) (C := RX0) (T := TX0) (N := 8) hx hb hts in_X0 tyX0 tyX0_ok hown (hts _ q5) (hts _ q6) (hts _ q3) hK hP hD hS hA rfl (fun j hj => by rcases (show j = 0 ∨ j = 1 ∨ j = 2 ∨ j = 3 ∨ j = 4 ∨ j = 5 ∨ j = 6 ∨ j = 7 by omega) with rfl | rfl | rfl | rfl | rfl | rfl | rfl | rfl <;> rfl) (Nat.le_of_ble_eq_true rfl) (Nat.le_of_ble_eq_true rfl) dL_law_0 (fun h H hP hD hS => ?_)
  have hP : va_P D td_cl ([(h, .inr (0, [.int 0, .int 0, .int 0, .null, .null, .int 0, .int 0, .null]))]) H := hP
  have hD : va_D (fun z : Nat => s.heap.size ≤ z) ([(h, .inr (0, [.int 0, .int 0, .int 0, .null, .null, .int 0, .int 0, .null]))]) := hD
  refine W.widen (k := 1) (n := 8) (Nat.le_of_ble_eq_true rfl) (Nat.le_of_ble_eq_true rfl) ?_
  refine lv_dup hx hb dL_law_3 rfl ?_
  have hPc := hP.sub (ws' := [(h, .inr (0, [.int 0, .int 0, .int 0, .null, .null, .int 0, .int 0, .null]))]) [0] rfl
  have hDc := hD.sub (ws' := [(h, .inr (0, [.int 0, .int 0, .int 0, .null, .null, .int 0, .int 0, .null]))]) [0] (by decide) rfl
  have hKc := hK.sub (tys' := []) [] rfl
  have hFc := va_free (wc := [(h, .inr (0, [.int 0, .int 0, .int 0, .null, .null, .int 0, .int 0, .null]))]) hD hS hA [0] rfl
  refine va_callv (va_runI (As := []) (rest := [.ref h]) ⟨hx, hb, hml, hown, hts⟩ (mt_Xinit l D) (cwI 0 hts (lw_meth q9) rfl rfl rfl (hts _ q3) (hts _ q7) (hts _ q8) rfl (by decide +kernel) ⟨Nat.le_of_ble_eq_true rfl, Nat.le_of_ble_eq_true rfl⟩) (mu_I hKc hPc hDc) rfl rfl hl.1 rfl (lv_room (Nat.le_of_ble_eq_true rfl)) dL_law_4 ⟨Nat.le_of_ble_eq_true rfl, Nat.le_of_ble_eq_true rfl⟩) hS (fun q _ h => hFc q h) hFc (fun u t H1 locs ht hvm hw hB hz1 hk1 hS => ?_)
  obtain ⟨⟨h1, h2, h3⟩, c1, c2, c3⟩ := u
  obtain ⟨hP1, hK1, hD1⟩ := hB
  rw [ht] at hP1
  have hK1 := va_K.moved hvm.symm hK1
  obtain ⟨hP, hD⟩ := va_join (wr := []) (w1 := wX h h1 h2 h3 c1 c2 c3 2 7 5 0 0 (fun _ => 0) (fun _ => 0) (fun _ => 0)) hP hD [0] [] rfl rfl (by decide) (by decide) hk1 hFc hP1 hD1
  have hK := (hK.sub (tys' := []) [] rfl).app hK1
  generalize H1 = H at hP hS ⊢
  have hP : va_P D td_cl (wX h h1 h2 h3 c1 c2 c3 2 7 5 0 0 (fun _ => 0) (fun _ => 0) (fun _ => 0)) H := hP
  have hD : va_D (fun z : Nat => s.heap.size ≤ z) (wX h h1 h2 h3 c1 c2 c3 2 7 5 0 0 (fun _ => 0) (fun _ => 0) (fun _ => 0)) := hD
  have hK : va_K D td_cl (kX c1 c2 c3) s := hK
  refine W.widen (k := 4) (n := 448) (Nat.le_of_ble_eq_true rfl) (Nat.le_of_ble_eq_true rfl) ?_
  refine lv_astore_n (lv' := [(1, .ref h), (0, .ref b)]) hx hb dL_law_7 rfl hl (by decide) rfl (fun ls hl => ?_)
  refine va_new (ci := 1) (fs := [.null, .int 0, .null, .int 0, .int 0, .int 0]) (C := RX1) (T := TX1) (N := 6) hx hb hts in_X1 tyX1 tyX1_ok hown (hts _ q96) (hts _ q97) (hts _ q4) hK hP hD hS hA rfl (fun j hj => by rcases (show j = 0 ∨ j = 1 ∨ j = 2 ∨ j = 3 ∨ j = 4 ∨ j = 5 by omega) with rfl | rfl | rfl | rfl | rfl | rfl <;> rfl) (Nat.le_of_ble_eq_true rfl) (Nat.le_of_ble_eq_true rfl) dL_law_8 (fun k H hP hD hS => ?_)
  have hP : va_P D td_cl (wX h h1 h2 h3 c1 c2 c3 2 7 5 0 0 (fun _ => 0) (fun _ => 0) (fun _ => 0) ++ [(k, .inr (1, [.null, .int 0, .null, .int 0, .int 0, .int 0]))]) H := hP
  have hD : va_D (fun z : Nat => s.heap.size ≤ z) (wX h h1 h2 h3 c1 c2 c3 2 7 5 0 0 (fun _ => 0) (fun _ => 0) (fun _ => 0) ++ [(k, .inr (1, [.null, .int 0, .null, .int 0, .int 0, .int 0]))]) := hD
  refine W.widen (k := 5) (n := 454) (Nat.le_of_ble_eq_true rfl) (Nat.le_of_ble_eq_true rfl) ?_
  refine lv_dup hx hb dL_law_11 rfl ?_
  have hPc := hP.sub (ws' := [(k, .inr (1, [.null, .int 0, .null, .int 0, .int 0, .int 0]))]) [4] rfl
  have hDc := hD.sub (ws' := [(k, .inr (1, [.null, .int 0, .null, .int 0, .int 0, .int 0]))]) [4] (by decide) rfl
  have hKc := hK.sub (tys' := []) [] rfl
  have hFc := va_free (wc := [(k, .inr (1, [.null, .int 0, .null, .int 0, .int 0, .int 0]))]) hD hS hA [4] rfl
  refine va_callv (va_runI (As := []) (rest := [.ref k]) ⟨hx, hb, hml, hown, hts⟩ (mt_Yinit l D) (cwI 0 hts (lw_meth q100) rfl rfl rfl (hts _ q4) (hts _ q98) (hts _ q99) rfl (by decide +kernel) ⟨Nat.le_of_ble_eq_true rfl, Nat.le_of_ble_eq_true rfl⟩) (mu_I hKc hPc hDc) rfl rfl hl.1 rfl (lv_room (Nat.le_of_ble_eq_true rfl)) dL_law_12 ⟨Nat.le_of_ble_eq_true rfl, Nat.le_of_ble_eq_true rfl⟩) hS (fun q _ h => hFc q h) hFc (fun u t H1 locs ht hvm hw hB hz1 hk1 hS => ?_)
  obtain ⟨⟨k1, k2⟩, d1, d2⟩ := u
  obtain ⟨hP1, hK1, hD1⟩ := hB
  rw [ht] at hP1
  have hK1 := va_K.moved hvm.symm hK1
  obtain ⟨hP, hD⟩ := va_join (wr := wX h h1 h2 h3 c1 c2 c3 2 7 5 0 0 (fun _ => 0) (fun _ => 0) (fun _ => 0)) (w1 := wY k k1 k2 d1 d2 2 0 (-1) 0 (upd (upd (fun _ => 0) 0 (nI 7)) 1 (nI 5)) (fun _ => 0)) hP hD [4] [0, 1, 2, 3] rfl rfl (by decide) (by decide) hk1 hFc hP1 hD1
  have hK := (hK.sub (tys' := kX c1 c2 c3) [0, 1, 2] rfl).app hK1
  generalize H1 = H at hP hS ⊢
  have hP : va_P D td_cl (wX h h1 h2 h3 c1 c2 c3 2 7 5 0 0 (fun _ => 0) (fun _ => 0) (fun _ => 0) ++ wY k k1 k2 d1 d2 2 0 (-1) 0 (upd (upd (fun _ => 0) 0 (nI 7)) 1 (nI 5)) (fun _ => 0)) H := hP
  have hD : va_D (fun z : Nat => s.heap.size ≤ z) (wX h h1 h2 h3 c1 c2 c3 2 7 5 0 0 (fun _ => 0) (fun _ => 0) (fun _ => 0) ++ wY k k1 k2 d1 d2 2 0 (-1) 0 (upd (upd (fun _ => 0) 0 (nI 7)) 1 (nI 5)) (fun _ => 0)) := hD
  have hK : va_K D td_cl (kX c1 c2 c3 ++ kY d1 d2) s := hK
  refine W.widen (k := 7) (n := 504) (Nat.le_of_ble_eq_true rfl) (Nat.le_of_ble_eq_true rfl) ?_
  refine lv_astore_n (lv' := [(2, .ref k), (1, .ref h), (0, .ref b)]) hx hb dL_law_15 rfl hl (by decide) rfl (fun ls hl => ?_)
  refine lv_iconst (v := nI 0) hx hb dL_law_16 (by decide) ?_
  refine lv_istore_n (lv' := [(3, .int (nI 0)), (2, .ref k), (1, .ref h), (0, .ref b)]) hx hb dL_law_17 rfl hl (by decide) rfl (fun ls hl => ?_)
  exact law_loop hL C0 hK (L + 4) 0 (by omega) (by omega) 2 7 5 0 0 _ _ _ (-1) 0 _ _ _ _ ls td_J_0 hP hD hS (lv_sub hl [3, 2, 1, 0] rfl)
set_option maxHeartbeats 4000000 in
theorem lw_walk (l : Launch) (b : Addr) (xs : List Int32) : MetFree l x (headSpec (Jvm.Cond.code x code maxLocals ret :: tables_1) room_1) (lw_P b xs) (fun _ _ _ _ _ => True) lw_Q := by
  refine MetFree.of_bodyS (code := code) (maxLocals := maxLocals) (ret := ret) (by decide) ?_ ?_
  · intro args s m h hn
    obtain ⟨meth, c, h1, h2, h3, h4, h5, h6, -, -⟩ := Cond.code_spec hn (atoms_spec (ws := Jvm.Cond.code x code maxLocals ret :: tables_1) h _ List.mem_cons_self)
    exact ⟨meth, c, h1, h2, h3, h4, h5, h6⟩
  · intro p e s m args below meth c s₁ B hml0 hP _
    obtain ⟨rfl, hx, hbd, hgv⟩ := hP
    obtain ⟨scr, harrAt, hlist, hof, hsmall⟩ := hx
    obtain ⟨hcb, hkn, -, -⟩ := State.arrayAt?_spec harrAt
    have hown : s.vm.findClass R_law = some m.cls := findClass_of_methodNamed B.named
    have hts0 : ∀ c ∈ (Jvm.Cond.code x code maxLocals ret :: tables_1), c.before #[Value.ref b] s = true := atoms_spec (ws := Jvm.Cond.code x code maxLocals ret :: tables_1) B.pre
    have hts : ∀ w ∈ lw_tbl, w.before #[Value.ref b] s = true := k2_hts_sels lw_privs (fun w hw => hts0 w (List.mem_cons_of_mem _ hw)) lw_privs_ok
    have hml : c.maxLocals = 4 := B.maxLocals_eq (hts0 _ List.mem_cons_self)
    have X₀ : Stand p l e room_1 s m #[Value.ref b] below meth c s₁ [] 0 0 := Stand.of_body B
    have hh0 : s₁.heap = s.heap := by rw [B.state]; rfl
    have hsz : scr.slots.size = xs.length := by rw [← Array.length_toList, hlist, List.length_map]
    have hval : ∀ j : Nat, j < xs.length → scr.slots[j]? = some (.int (xs.getD j 0)) := fun j hj => by
      rw [← Array.getElem?_toList, hlist]
      simp [hj]
    have hbl : b < s.heap.size := (Array.getElem?_eq_some_iff.mp hcb).1
    have hX : va_X b xs.length (fun j => xs.getD j 0) s s.heap := ⟨scr, hcb, hof, hkn, hsz, hval⟩
    have K : W p l e room_1 s m #[Value.ref b] below meth c s₁.heap [] 0 0 (lw_Z below #[Value.ref b] s) (entryFrame m ([Value.ref b] : List Value).toArray 4) := by
      rw [hh0]
      exact whole_start l hbd ⟨B.exec, B.bytes, B.returns, hml, hown, hts, hX, hbl, B.notSynchronized, hgv⟩
    obtain ⟨t, a1, o, b1, b2, b3⟩ := K s₁ rfl X₀
    exact ⟨t, o, a1, b1, b2, b3⟩
theorem lw_pre_spec {args : Array Value} {s : State} (h : (Jvm.Cond.and given_1 narrow_1).before args s = true) (hr : rest_1_c.before args s = true) : ∃ (b : Addr) (xs : List Int32), lw_P b xs args s := by
  have hs := flat_of_before _ h
  have hq := flat_of_before _ hr
  have hc : (Cond.count 1).before args s = true := hs _ (by decide +kernel)
  have harr : (Cond.arrayOf (.arg 0) .int).before args s = true := hs _ (by decide +kernel)
  have hle : (Cond.le (.length (.arg 0)) (.int 256)).before args s = true := hs _ (by decide +kernel)
  have hlen : (Cond.isInt (.length (.arg 0))).before args s = true := hq _ (by decide +kernel)
  have hall : (Cond.all (.arg 0) (.isInt (.elem (.arg 0) (.index 0)))).before args s = true := hq _ (by decide +kernel)
  obtain ⟨b, xs, hb, hx⟩ := State.ints_of_pre rfl harr hlen hall
  have hsm : xs.length < 2 ^ 31 := hx.choose_spec.2.2.2
  have hev : (Term.length (.arg 0)).eval args s none [] s = some (.int xs.length.toInt32) := hx.length_eval hb
  have hv := Cond.le_ints hev (show (Term.int 256).eval args s none [] s = some (.int 256) from rfl)
  have hd : xs.length.toInt32 ≤ 256 := by
    simpa [Cond.before, Cond.holds, hv] using hle
  have hN : xs.length ≤ 256 := (Int32.ofNat_le_ofNat hsm (by decide)).mp (show Int32.ofNat xs.length ≤ Int32.ofNat 256 from hd)
  exact ⟨b, xs, Cond.one_arg hc (show args[0]? = some (.ref b) from hb), hx, hN, h⟩
theorem lw_comes (l : Launch) : Comes l x (Jvm.Cond.code x code maxLocals ret :: tables_1) room_1 (fun tb e args s => Calls_1 tb e args s ∧ rest_1 tb e args s ∧ Pre_1 tb e args s)
    (fun _ _ args s o t => lw_Q args s o t) := by
  intro p e ha hc hk s m args below hf hfit hheap happ hpre
  obtain ⟨b, xs, hP⟩ := lw_pre_spec hpre.2.2 hpre.2.1
  obtain ⟨k, o, h1, h2, h3, hQ⟩ := lw_walk l b xs p e ha hc hk s m args below hf ((Spec.applies_iff_loose hf).mp happ).1 hP trivial
  exact ⟨k, o, h1, h2, h3, hQ⟩
theorem lw_frame {s t : State} {o : Outcome} {args : Array Value} (h : Framed s o t [] 600000 7290000) :
    Framed s o t (fieldLocs frame_1_writes args s ++ arrayLocs frame_1_arrays args s ++ staticLocs frame_1_statics s) 600000 7290000 := h
theorem lw_limb (L : Cond) (hL : ∀ (args : Array Value) (s t : State), L.after args s (.returned (some (.int 1))) t = true) :
    ArmFor flags0 classFile x code maxLocals ret World_1 tables_1 room_1 Calls_1 rest_1 Pre_1
      (fun tb e a s o t => postC L tb e a s o t ∧ Framed s o t (fieldLocs frame_1_writes a s ++ arrayLocs frame_1_arrays a s ++ staticLocs frame_1_statics s) 600000 7290000) := by
  intro l _ _ _ p e ha hc hk s m args below hf hfit hheap happ hpre
  obtain ⟨k, o, h1, h2, h3, rfl, hF⟩ := lw_comes l p e ha hc hk s m args below hf hfit hheap happ hpre
  exact ⟨k, _, h1, h2, h3, hL args s _, lw_frame hF⟩
theorem i_vc : Claimed_1_1 ∧ Claimed_1_2 := ⟨lw_limb limb_1_1 (fun args s t => by simp [limb_1_1, Cond.after, Cond.holds, Cond.value]), lw_limb limb_1_2 (fun args s t => Cond.after_iff.mpr (by
  first | (rw [show limb_1_2 = Cond.eq .result (.int 1) from rfl, Cond.eq_ints (x := 1) (y := 1) rfl rfl]; simp; done) | (simp [limb_1_2, Cond.value, Term.eval]; done)))⟩
end
