section
-- ===== PART A: goes FIRST, ahead of the names: the tables' words, and 'selects' of the private methods out of them =====
/-- a private method of a class that the tables say can be made, by its rows of tables_1 -/
def lw_okq (q : MethodName × Nat) : Prop := (q.1.cls ≠ "java/lang/invoke/MethodHandle" ∧ q.1.cls ≠ "java/lang/invoke/VarHandle") ∧ Cond.instantiable q.1.cls q.2 ∈ tables_1 ∧ Cond.privateMethod q.1 ∈ tables_1 ∧ Cond.instanceMethod q.1 ∈ tables_1
set_option maxRecDepth 100000
theorem lw_t1 {w : Cond} (h : w ∈ tables_1_1) : w ∈ tables_1 := List.mem_append_left _ h
theorem lw_t2 {w : Cond} (h : w ∈ tables_1_2) : w ∈ tables_1 := List.mem_append_right _ h
theorem lw_p0 : lw_okq (⟨"MigratorModel", "step", "()V"⟩, 16) := ⟨⟨by decide +kernel, by decide +kernel⟩, lw_t1 (List.mem_of_getElem? (i := 234) rfl), lw_t2 (List.mem_of_getElem? (i := 62) rfl), lw_t2 (List.mem_of_getElem? (i := 63) rfl)⟩
def lw_privs_1 : List (MethodName × Nat) := [(⟨"MigratorModel", "step", "()V"⟩, 16)]
theorem lw_r1 : ∀ q ∈ lw_privs_1, lw_okq q := List.forall_mem_cons.mpr ⟨lw_p0, fun _ h => absurd h List.not_mem_nil⟩
def lw_privs : List (MethodName × Nat) := lw_privs_1
def lw_tbl : List Cond := k2_sels lw_privs ++ tables_1
theorem lw_privs_ok : ∀ q ∈ lw_privs, lw_okq q := lw_r1
-- ===== ONE list of words for every method: the tables' words that hold all through a run =====
def lw_all : List Cond := lw_tbl.filter goodWord
/-- a word of the tables by its place: claim/WORDS.tsv -/
theorem lw_w {w : Cond} (i : Nat) (h : lw_tbl[i]? = some w) (g : goodWord w = true) : w ∈ lw_all := List.mem_filter.mpr ⟨List.mem_of_getElem? h, g⟩
theorem lw_all_tbl {w : Cond} (h : w ∈ lw_all) : w ∈ lw_tbl := (List.mem_filter.mp h).1
theorem lw_self : GoodIn lw_all lw_all := fun w h => ⟨h, good_of_word (List.mem_filter.mp h).2⟩
/-- a class's field words, by their places -/
theorem lw_in (ws : List Cond) (ps : List Nat) (hp : ws = ps.filterMap (fun i => lw_tbl[i]?)) (hg : ws.all goodWord = true) : ∀ w ∈ ws, w ∈ lw_all := by
  intro w h
  have h1 := List.all_eq_true.mp hg w h
  rw [hp] at h
  obtain ⟨i, -, hi⟩ := List.mem_filterMap.mp h
  exact lw_w i hi h1
/-- the words of a contract for the method y with code b, L locals, answer r -/
abbrev ws_ (y : MethodName) (b : ByteArray) (L : Nat) (r : Option FieldType) : List Cond := Cond.code y b L r :: lw_all
theorem lw_meth {y : MethodName} {b : ByteArray} {L : Nat} {r : Option FieldType} (h : Cond.code y b L r ∈ lw_all) : GoodIn lw_all (ws_ y b L r) := by
  intro w hw
  rcases List.mem_cons.mp hw with e | e
  · rw [e]
    exact lw_self _ h
  · exact lw_self _ e
theorem lw_app {a c : List Cond} (ha : ∀ w ∈ a, w ∈ lw_all) (hc : GoodIn lw_all c) : GoodIn lw_all (a ++ c) := by
  intro w hw
  rcases List.mem_append.mp hw with e | e
  · exact lw_self w (ha w e)
  · exact hc w e
/-- what a call through an object asks: cwV n hts (lw_V ..) -/
theorem lw_V {own : String} {idx : Nat} {C : String} {y : MethodName} {b : ByteArray} {L : Nat} {r : Option FieldType} (h1 : Cond.methodLink own idx y ∈ lw_all) (h2 : Cond.instanceMethod y ∈ lw_all) (h3 : Cond.selects C y y ∈ lw_all) (h4 : Cond.initialized C ∈ lw_all) (h5 : Cond.code y b L r ∈ lw_all) : GoodIn lw_all (wsV own idx C y (ws_ y b L r)) := by
  refine lw_app ?_ (lw_meth h5)
  intro w hw
  simp only [List.mem_cons, List.not_mem_nil, or_false] at hw
  rcases hw with e | e | e | e
  · rw [e]; exact h1
  · rw [e]; exact h2
  · rw [e]; exact h3
  · rw [e]; exact h4
/-- what a static call asks: va_cwS n hts (lw_S ..) -/
theorem lw_S {own : String} {idx : Nat} {y : MethodName} {b : ByteArray} {L : Nat} {r : Option FieldType} (h1 : Cond.methodLink own idx y ∈ lw_all) (h2 : Cond.static y ∈ lw_all) (h3 : Cond.initialized y.cls ∈ lw_all) (h4 : Cond.code y b L r ∈ lw_all) : GoodIn lw_all (va_wsS own idx y (ws_ y b L r)) := by
  refine lw_app ?_ (lw_meth h4)
  intro w hw
  simp only [List.mem_cons, List.not_mem_nil, or_false] at hw
  rcases hw with e | e | e
  · rw [e]; exact h1
  · rw [e]; exact h2
  · rw [e]; exact h3
/-- the words of a contract for a method WITH HANDLERS (hh: its table) -/
abbrev wsW_ (y : MethodName) (b : ByteArray) (L : Nat) (r : Option FieldType) (hh : List (Nat × Nat × Nat × Nat)) : List Cond := Cond.codeWith y b L r hh :: lw_all
theorem lw_methW {y : MethodName} {b : ByteArray} {L : Nat} {r : Option FieldType} {hh : List (Nat × Nat × Nat × Nat)} (h : Cond.codeWith y b L r hh ∈ lw_all) : GoodIn lw_all (wsW_ y b L r hh) := by
  intro w hw
  rcases List.mem_cons.mp hw with e | e
  · rw [e]
    exact lw_self _ h
  · exact lw_self _ e
/-- any list of words by their places (lw_in), good -/
theorem lw_good {ws : List Cond} (h : ∀ w ∈ ws, w ∈ lw_all) : GoodIn lw_all ws := fun w hw => lw_self w (h w hw)
/-- what a call of a method with handlers asks: vx_cwVW n hts (lw_VW ..), vx_cwSW n hts (lw_SW ..) -/
theorem lw_VW {own : String} {idx : Nat} {C : String} {y : MethodName} {b : ByteArray} {L : Nat} {r : Option FieldType} {hh : List (Nat × Nat × Nat × Nat)} (h1 : Cond.methodLink own idx y ∈ lw_all) (h2 : Cond.instanceMethod y ∈ lw_all) (h3 : Cond.selects C y y ∈ lw_all) (h4 : Cond.initialized C ∈ lw_all) (h5 : Cond.codeWith y b L r hh ∈ lw_all) : GoodIn lw_all (wsV own idx C y (wsW_ y b L r hh)) := by
  refine lw_app ?_ (lw_methW h5)
  intro w hw
  simp only [List.mem_cons, List.not_mem_nil, or_false] at hw
  rcases hw with e | e | e | e
  · rw [e]; exact h1
  · rw [e]; exact h2
  · rw [e]; exact h3
  · rw [e]; exact h4
theorem lw_SW {own : String} {idx : Nat} {y : MethodName} {b : ByteArray} {L : Nat} {r : Option FieldType} {hh : List (Nat × Nat × Nat × Nat)} (h1 : Cond.methodLink own idx y ∈ lw_all) (h2 : Cond.static y ∈ lw_all) (h3 : Cond.initialized y.cls ∈ lw_all) (h4 : Cond.codeWith y b L r hh ∈ lw_all) : GoodIn lw_all (va_wsS own idx y (wsW_ y b L r hh)) := by
  refine lw_app ?_ (lw_methW h4)
  intro w hw
  simp only [List.mem_cons, List.not_mem_nil, or_false] at hw
  rcases hw with e | e | e
  · rw [e]; exact h1
  · rw [e]; exact h2
  · rw [e]; exact h3
/-- a word by its place in its run of the tables -/
theorem lw_at {r : List Cond} (hr : ∀ w ∈ r, w ∈ lw_tbl) {w : Cond} (i : Nat) (h : r[i]? = some w) : w ∈ lw_tbl := hr w (List.mem_of_getElem? h)
theorem lw_g {w : Cond} (h : w ∈ lw_tbl) (g : goodWord w = true) : w ∈ lw_all := List.mem_filter.mpr ⟨h, g⟩
theorem lw_ms : ∀ w ∈ k2_sels lw_privs, w ∈ lw_tbl := fun w h => show w ∈ k2_sels lw_privs ++ tables_1 from List.mem_append_left _ h
theorem lw_m1 : ∀ w ∈ tables_1_1, w ∈ lw_tbl := fun w h => show w ∈ k2_sels lw_privs ++ tables_1 from List.mem_append_right (k2_sels lw_privs) (show w ∈ tables_1 from List.mem_append_left _ h)
theorem lw_m2 : ∀ w ∈ tables_1_2, w ∈ lw_tbl := fun w h => show w ∈ k2_sels lw_privs ++ tables_1 from List.mem_append_right (k2_sels lw_privs) (show w ∈ tables_1 from List.mem_append_right _ h)
theorem qs0 : (Cond.selects "MigratorModel" ⟨"MigratorModel", "step", "()V"⟩ ⟨"MigratorModel", "step", "()V"⟩) ∈ lw_all := lw_g (lw_at lw_ms 0 rfl) rfl
-- ===== end of PART A; then your names; then what follows =====
end
section
theorem q26 : (Jvm.Cond.arrayOver (Jvm.ClassFile.FieldType.array Jvm.ClassFile.FieldType.int)) ∈ lw_tbl := lw_at lw_m1 25 rfl
set_option maxRecDepth 100000
theorem q31 : (Jvm.Cond.arrayClass Jvm.ClassFile.FieldType.int) ∈ lw_all := lw_g (lw_at lw_m1 30 rfl) rfl
theorem q66 : (Jvm.Cond.arrayClass Jvm.ClassFile.FieldType.boolean) ∈ lw_all := lw_g (lw_at lw_m1 65 rfl) rfl
theorem q289 : (Jvm.Cond.arrayClass Jvm.ClassFile.FieldType.long) ∈ lw_all := lw_g (lw_at lw_m2 48 rfl) rfl
theorem q9 : (Jvm.Cond.initialized "Migrator$Phase") ∈ lw_all := lw_g (lw_at lw_m1 8 rfl) rfl
set_option maxRecDepth 100000
theorem q78 : (Jvm.Cond.laysStatic "Migrator$Phase" "HOME" "LMigrator$Phase;") ∈ lw_tbl := lw_at lw_m1 77 rfl
theorem q126 : (Jvm.Cond.laysStatic "Migrator$Phase" "COPYING" "LMigrator$Phase;") ∈ lw_tbl := lw_at lw_m1 125 rfl
theorem q136 : (Jvm.Cond.laysStatic "Migrator$Phase" "STOPPED" "LMigrator$Phase;") ∈ lw_tbl := lw_at lw_m1 135 rfl
theorem q138 : (Jvm.Cond.laysStatic "Migrator$Phase" "MOVED" "LMigrator$Phase;") ∈ lw_tbl := lw_at lw_m1 137 rfl
theorem q189 : (Jvm.Cond.sameMethod "Migrator$Phase" "java/lang/Enum" "ordinal" "()I") ∈ lw_all := lw_g (lw_at lw_m1 188 rfl) rfl
theorem q191 : (Jvm.Cond.selects "Migrator$Phase" ({ cls := "Migrator$Phase", name := "ordinal", desc := "()I" } : Jvm.MethodName) ({ cls := "java/lang/Enum", name := "ordinal", desc := "()I" } : Jvm.MethodName)) ∈ lw_all := lw_g (lw_at lw_m1 190 rfl) rfl
theorem q150 : (Jvm.Cond.interfaceMethod "Migrator$Watcher" "Migrator$Watcher" "wrote" "(I)V") ∈ lw_tbl := lw_at lw_m1 149 rfl
set_option maxRecDepth 100000
theorem q151 : (Jvm.Cond.declares ({ cls := "Migrator$Watcher", name := "wrote", desc := "(I)V" } : Jvm.MethodName)) ∈ lw_tbl := lw_at lw_m1 150 rfl
theorem q1 : (Jvm.Cond.initialized "MigratorLaw") ∈ lw_all := lw_g (lw_at lw_m1 0 rfl) rfl
set_option maxRecDepth 100000
theorem q11 : (Jvm.Cond.classLink "MigratorLaw" (7 : Nat) "Migrator") ∈ lw_all := lw_g (lw_at lw_m1 10 rfl) rfl
theorem q13 : (Jvm.Cond.methodLink "MigratorLaw" (9 : Nat) ({ cls := "Migrator", name := "<init>", desc := "()V" } : Jvm.MethodName)) ∈ lw_all := lw_g (lw_at lw_m1 12 rfl) rfl
theorem q110 : (Jvm.Cond.methodLink "MigratorLaw" (13 : Nat) ({ cls := "Migrator", name := "poke", desc := "(II)Z" } : Jvm.MethodName)) ∈ lw_all := lw_g (lw_at lw_m1 109 rfl) rfl
theorem q121 : (Jvm.Cond.methodLink "MigratorLaw" (18 : Nat) ({ cls := "Migrator", name := "begin", desc := "(II)Z" } : Jvm.MethodName)) ∈ lw_all := lw_g (lw_at lw_m1 120 rfl) rfl
theorem q131 : (Jvm.Cond.methodLink "MigratorLaw" (22 : Nat) ({ cls := "Migrator", name := "run", desc := "(I)I" } : Jvm.MethodName)) ∈ lw_all := lw_g (lw_at lw_m1 130 rfl) rfl
theorem q164 : (Jvm.Cond.methodLink "MigratorLaw" (27 : Nat) ({ cls := "Migrator", name := "copy", desc := "()I" } : Jvm.MethodName)) ∈ lw_all := lw_g (lw_at lw_m1 163 rfl) rfl
theorem q184 : (Jvm.Cond.methodLink "MigratorLaw" (32 : Nat) ({ cls := "Migrator", name := "phase", desc := "()I" } : Jvm.MethodName)) ∈ lw_all := lw_g (lw_at lw_m1 183 rfl) rfl
theorem q194 : (Jvm.Cond.methodLink "MigratorLaw" (36 : Nat) ({ cls := "Migrator", name := "round", desc := "()I" } : Jvm.MethodName)) ∈ lw_all := lw_g (lw_at lw_m1 193 rfl) rfl
theorem q198 : (Jvm.Cond.methodLink "MigratorLaw" (40 : Nat) ({ cls := "Migrator", name := "dirty", desc := "(I)Z" } : Jvm.MethodName)) ∈ lw_all := lw_g (lw_at lw_m1 197 rfl) rfl
theorem q205 : (Jvm.Cond.methodLink "MigratorLaw" (45 : Nat) ({ cls := "Migrator", name := "waits", desc := "(I)Z" } : Jvm.MethodName)) ∈ lw_all := lw_g (lw_at lw_m1 204 rfl) rfl
theorem q209 : (Jvm.Cond.methodLink "MigratorLaw" (49 : Nat) ({ cls := "Migrator", name := "source", desc := "(I)I" } : Jvm.MethodName)) ∈ lw_all := lw_g (lw_at lw_m1 208 rfl) rfl
theorem q214 : (Jvm.Cond.methodLink "MigratorLaw" (53 : Nat) ({ cls := "Migrator", name := "destination", desc := "(I)I" } : Jvm.MethodName)) ∈ lw_all := lw_g (lw_at lw_m1 213 rfl) rfl
theorem q218 : (Jvm.Cond.methodLink "MigratorLaw" (57 : Nat) ({ cls := "Migrator", name := "register", desc := "(I)I" } : Jvm.MethodName)) ∈ lw_all := lw_g (lw_at lw_m1 217 rfl) rfl
theorem q222 : (Jvm.Cond.methodLink "MigratorLaw" (61 : Nat) ({ cls := "Migrator", name := "pc", desc := "()I" } : Jvm.MethodName)) ∈ lw_all := lw_g (lw_at lw_m1 221 rfl) rfl
theorem q226 : (Jvm.Cond.methodLink "MigratorLaw" (65 : Nat) ({ cls := "Migrator", name := "shows", desc := "()I" } : Jvm.MethodName)) ∈ lw_all := lw_g (lw_at lw_m1 225 rfl) rfl
theorem q230 : (Jvm.Cond.methodLink "MigratorLaw" (69 : Nat) ({ cls := "Migrator", name := "shown", desc := "(I)I" } : Jvm.MethodName)) ∈ lw_all := lw_g (lw_at lw_m1 229 rfl) rfl
theorem q234 : (Jvm.Cond.classLink "MigratorLaw" (10 : Nat) "MigratorModel") ∈ lw_all := lw_g (lw_at lw_m1 233 rfl) rfl
theorem q236 : (Jvm.Cond.methodLink "MigratorLaw" (12 : Nat) ({ cls := "MigratorModel", name := "<init>", desc := "()V" } : Jvm.MethodName)) ∈ lw_all := lw_g (lw_at lw_m1 235 rfl) rfl
theorem q290 : (Jvm.Cond.methodLink "MigratorLaw" (17 : Nat) ({ cls := "MigratorModel", name := "poke", desc := "(II)Z" } : Jvm.MethodName)) ∈ lw_all := lw_g (lw_at lw_m2 49 rfl) rfl
theorem q294 : (Jvm.Cond.methodLink "MigratorLaw" (21 : Nat) ({ cls := "MigratorModel", name := "begin", desc := "(II)Z" } : Jvm.MethodName)) ∈ lw_all := lw_g (lw_at lw_m2 53 rfl) rfl
theorem q298 : (Jvm.Cond.methodLink "MigratorLaw" (26 : Nat) ({ cls := "MigratorModel", name := "run", desc := "(I)I" } : Jvm.MethodName)) ∈ lw_all := lw_g (lw_at lw_m2 57 rfl) rfl
theorem q306 : (Jvm.Cond.methodLink "MigratorLaw" (31 : Nat) ({ cls := "MigratorModel", name := "copy", desc := "()I" } : Jvm.MethodName)) ∈ lw_all := lw_g (lw_at lw_m2 65 rfl) rfl
theorem q314 : (Jvm.Cond.methodLink "MigratorLaw" (35 : Nat) ({ cls := "MigratorModel", name := "phase", desc := "()I" } : Jvm.MethodName)) ∈ lw_all := lw_g (lw_at lw_m2 73 rfl) rfl
theorem q318 : (Jvm.Cond.methodLink "MigratorLaw" (39 : Nat) ({ cls := "MigratorModel", name := "round", desc := "()I" } : Jvm.MethodName)) ∈ lw_all := lw_g (lw_at lw_m2 77 rfl) rfl
theorem q322 : (Jvm.Cond.methodLink "MigratorLaw" (44 : Nat) ({ cls := "MigratorModel", name := "dirty", desc := "(I)Z" } : Jvm.MethodName)) ∈ lw_all := lw_g (lw_at lw_m2 81 rfl) rfl
theorem q323 : (Jvm.Cond.methodLink "MigratorLaw" (48 : Nat) ({ cls := "MigratorModel", name := "waits", desc := "(I)Z" } : Jvm.MethodName)) ∈ lw_all := lw_g (lw_at lw_m2 82 rfl) rfl
theorem q327 : (Jvm.Cond.methodLink "MigratorLaw" (52 : Nat) ({ cls := "MigratorModel", name := "source", desc := "(I)I" } : Jvm.MethodName)) ∈ lw_all := lw_g (lw_at lw_m2 86 rfl) rfl
theorem q331 : (Jvm.Cond.methodLink "MigratorLaw" (56 : Nat) ({ cls := "MigratorModel", name := "destination", desc := "(I)I" } : Jvm.MethodName)) ∈ lw_all := lw_g (lw_at lw_m2 90 rfl) rfl
theorem q335 : (Jvm.Cond.methodLink "MigratorLaw" (60 : Nat) ({ cls := "MigratorModel", name := "register", desc := "(I)I" } : Jvm.MethodName)) ∈ lw_all := lw_g (lw_at lw_m2 94 rfl) rfl
theorem q339 : (Jvm.Cond.methodLink "MigratorLaw" (64 : Nat) ({ cls := "MigratorModel", name := "pc", desc := "()I" } : Jvm.MethodName)) ∈ lw_all := lw_g (lw_at lw_m2 98 rfl) rfl
theorem q343 : (Jvm.Cond.methodLink "MigratorLaw" (68 : Nat) ({ cls := "MigratorModel", name := "shows", desc := "()I" } : Jvm.MethodName)) ∈ lw_all := lw_g (lw_at lw_m2 102 rfl) rfl
theorem q347 : (Jvm.Cond.methodLink "MigratorLaw" (72 : Nat) ({ cls := "MigratorModel", name := "shown", desc := "(I)I" } : Jvm.MethodName)) ∈ lw_all := lw_g (lw_at lw_m2 106 rfl) rfl
/-! java/lang/Record -/
set_option maxRecDepth 100000
def RJ0 : String := "java/lang/Record"
abbrev cJ0_init : ByteArray := prog_11_method_1_code
def yJ0_init : MethodName := ⟨RJ0, "<init>", "()V"⟩
theorem dJ0_init_0 : decode cJ0_init 0 = .ok (.aload_n 0, 1) := by decide +kernel
theorem dJ0_init_1 : decode cJ0_init 1 = .ok (.invokespecial 1, 3) := by decide +kernel
theorem dJ0_init_4 : decode cJ0_init 4 = .ok (.return_, 1) := by decide +kernel
theorem q6 : (Jvm.Cond.initialized "java/lang/Record") ∈ lw_all := lw_g (lw_at lw_m1 5 rfl) rfl
theorem q73 : (Jvm.Cond.instanceMethod ({ cls := "java/lang/Record", name := "<init>", desc := "()V" } : Jvm.MethodName)) ∈ lw_all := lw_g (lw_at lw_m1 72 rfl) rfl
theorem q74 : (Jvm.Cond.code ({ cls := "java/lang/Record", name := "<init>", desc := "()V" } : Jvm.MethodName) prog_11_method_1_code (1 : Nat) (Option.none : Option Jvm.ClassFile.FieldType)) ∈ lw_all := lw_g (lw_at lw_m1 73 rfl) rfl
theorem q75 : (Jvm.Cond.methodLink "java/lang/Record" (1 : Nat) ({ cls := "java/lang/Object", name := "<init>", desc := "()V" } : Jvm.MethodName)) ∈ lw_all := lw_g (lw_at lw_m1 74 rfl) rfl
/-! java/lang/Enum -/
set_option maxRecDepth 100000
def RJ1 : String := "java/lang/Enum"
abbrev cJ1_ordinal : ByteArray := prog_10_method_2_code
def yJ1_ordinal : MethodName := ⟨RJ1, "ordinal", "()I"⟩
theorem dJ1_ordinal_0 : decode cJ1_ordinal 0 = .ok (.aload_n 0, 1) := by decide +kernel
theorem dJ1_ordinal_1 : decode cJ1_ordinal 1 = .ok (.getfield 7, 3) := by decide +kernel
theorem dJ1_ordinal_4 : decode cJ1_ordinal 4 = .ok (.ireturn, 1) := by decide +kernel
theorem q8 : (Jvm.Cond.initialized "java/lang/Enum") ∈ lw_all := lw_g (lw_at lw_m1 7 rfl) rfl
theorem q190 : (Jvm.Cond.declares ({ cls := "java/lang/Enum", name := "ordinal", desc := "()I" } : Jvm.MethodName)) ∈ lw_tbl := lw_at lw_m1 189 rfl
theorem q192 : (Jvm.Cond.instanceMethod ({ cls := "java/lang/Enum", name := "ordinal", desc := "()I" } : Jvm.MethodName)) ∈ lw_all := lw_g (lw_at lw_m1 191 rfl) rfl
theorem q193 : (Jvm.Cond.code ({ cls := "java/lang/Enum", name := "ordinal", desc := "()I" } : Jvm.MethodName) prog_10_method_2_code (1 : Nat) (Option.some Jvm.ClassFile.FieldType.int)) ∈ lw_all := lw_g (lw_at lw_m1 192 rfl) rfl
theorem q351 : (Jvm.Cond.fieldLink "java/lang/Enum" (7 : Nat) "java/lang/Enum" "ordinal" "I") ∈ lw_all := lw_g (lw_at lw_m2 110 rfl) rfl
/-! java/lang/Object -/
set_option maxRecDepth 100000
def RJ2 : String := "java/lang/Object"
abbrev cJ2_init : ByteArray := object_method_1_code
def yJ2_init : MethodName := ⟨RJ2, "<init>", "()V"⟩
theorem dJ2_init_0 : decode cJ2_init 0 = .ok (.return_, 1) := by decide +kernel
theorem q17 : (Jvm.Cond.instanceMethod ({ cls := "java/lang/Object", name := "<init>", desc := "()V" } : Jvm.MethodName)) ∈ lw_all := lw_g (lw_at lw_m1 16 rfl) rfl
theorem q18 : (Jvm.Cond.code ({ cls := "java/lang/Object", name := "<init>", desc := "()V" } : Jvm.MethodName) object_method_1_code (1 : Nat) (Option.none : Option Jvm.ClassFile.FieldType)) ∈ lw_all := lw_g (lw_at lw_m1 17 rfl) rfl
/-! Migrator$Host -/
set_option maxRecDepth 100000
def RX1 : String := "Migrator$Host"
def TX1 : u_T := fun k => match k with
  | _ => ("Migrator$Host", "pages", "[[I", true)
def tyX1 : Nat → FieldType := fun k => match k with
  | _ => .array (.array .int)
abbrev wsX10 : List Cond := u_ws RX1 TX1 1
theorem nmX1 : ∀ a, a < 1 → ∀ b, b < 1 → a ≠ b → (TX1 a).2.1 ≠ (TX1 b).2.1 := by decide +kernel
theorem tyX1_ok : ∀ k, k < 1 → parseFieldDescriptor (TX1 k).2.2.1 = some (tyX1 k) := by decide +kernel
abbrev cX1_init : ByteArray := prog_3_method_1_code
def yX1_init : MethodName := ⟨RX1, "<init>", "()V"⟩
theorem dX1_init_0 : decode cX1_init 0 = .ok (.aload_n 0, 1) := by decide +kernel
theorem dX1_init_1 : decode cX1_init 1 = .ok (.invokespecial 3, 3) := by decide +kernel
theorem dX1_init_4 : decode cX1_init 4 = .ok (.aload_n 0, 1) := by decide +kernel
theorem dX1_init_5 : decode cX1_init 5 = .ok (.bipush 8, 2) := by decide +kernel
theorem dX1_init_7 : decode cX1_init 7 = .ok (.bipush 8, 2) := by decide +kernel
theorem dX1_init_9 : decode cX1_init 9 = .ok (.multianewarray 9 2, 4) := by decide +kernel
theorem dX1_init_13 : decode cX1_init 13 = .ok (.putfield 11, 3) := by decide +kernel
theorem dX1_init_16 : decode cX1_init 16 = .ok (.return_, 1) := by decide +kernel
abbrev cX1_put : ByteArray := prog_3_method_3_code
def yX1_put : MethodName := ⟨RX1, "put", "(II)V"⟩
theorem dX1_put_0 : decode cX1_put 0 = .ok (.aload_n 0, 1) := by decide +kernel
theorem dX1_put_1 : decode cX1_put 1 = .ok (.getfield 11, 3) := by decide +kernel
theorem dX1_put_4 : decode cX1_put 4 = .ok (.iload_n 1, 1) := by decide +kernel
theorem dX1_put_5 : decode cX1_put 5 = .ok (.bipush 8, 2) := by decide +kernel
theorem dX1_put_7 : decode cX1_put 7 = .ok (.idiv, 1) := by decide +kernel
theorem dX1_put_8 : decode cX1_put 8 = .ok (.aaload, 1) := by decide +kernel
theorem dX1_put_9 : decode cX1_put 9 = .ok (.iload_n 1, 1) := by decide +kernel
theorem dX1_put_10 : decode cX1_put 10 = .ok (.bipush 8, 2) := by decide +kernel
theorem dX1_put_12 : decode cX1_put 12 = .ok (.irem, 1) := by decide +kernel
theorem dX1_put_13 : decode cX1_put 13 = .ok (.iload_n 2, 1) := by decide +kernel
theorem dX1_put_14 : decode cX1_put 14 = .ok (.iastore, 1) := by decide +kernel
theorem dX1_put_15 : decode cX1_put 15 = .ok (.return_, 1) := by decide +kernel
abbrev cX1_word : ByteArray := prog_3_method_2_code
def yX1_word : MethodName := ⟨RX1, "word", "(I)I"⟩
theorem dX1_word_0 : decode cX1_word 0 = .ok (.aload_n 0, 1) := by decide +kernel
theorem dX1_word_1 : decode cX1_word 1 = .ok (.getfield 11, 3) := by decide +kernel
theorem dX1_word_4 : decode cX1_word 4 = .ok (.iload_n 1, 1) := by decide +kernel
theorem dX1_word_5 : decode cX1_word 5 = .ok (.bipush 8, 2) := by decide +kernel
theorem dX1_word_7 : decode cX1_word 7 = .ok (.idiv, 1) := by decide +kernel
theorem dX1_word_8 : decode cX1_word 8 = .ok (.aaload, 1) := by decide +kernel
theorem dX1_word_9 : decode cX1_word 9 = .ok (.iload_n 1, 1) := by decide +kernel
theorem dX1_word_10 : decode cX1_word 10 = .ok (.bipush 8, 2) := by decide +kernel
theorem dX1_word_12 : decode cX1_word 12 = .ok (.irem, 1) := by decide +kernel
theorem dX1_word_13 : decode cX1_word 13 = .ok (.iaload, 1) := by decide +kernel
theorem dX1_word_14 : decode cX1_word 14 = .ok (.ireturn, 1) := by decide +kernel
abbrev cX1_takePage : ByteArray := prog_3_method_4_code
def yX1_takePage : MethodName := ⟨RX1, "takePage", "(ILMigrator$Host;)V"⟩
theorem dX1_takePage_0 : decode cX1_takePage 0 = .ok (.iconst 0, 1) := by decide +kernel
theorem dX1_takePage_1 : decode cX1_takePage 1 = .ok (.istore_n 3, 1) := by decide +kernel
theorem dX1_takePage_2 : decode cX1_takePage 2 = .ok (.iload_n 3, 1) := by decide +kernel
theorem dX1_takePage_3 : decode cX1_takePage 3 = .ok (.bipush 8, 2) := by decide +kernel
theorem dX1_takePage_5 : decode cX1_takePage 5 = .ok (.if_icmp .ge 25, 3) := by decide +kernel
theorem dX1_takePage_8 : decode cX1_takePage 8 = .ok (.aload_n 0, 1) := by decide +kernel
theorem dX1_takePage_9 : decode cX1_takePage 9 = .ok (.getfield 11, 3) := by decide +kernel
theorem dX1_takePage_12 : decode cX1_takePage 12 = .ok (.iload_n 1, 1) := by decide +kernel
theorem dX1_takePage_13 : decode cX1_takePage 13 = .ok (.aaload, 1) := by decide +kernel
theorem dX1_takePage_14 : decode cX1_takePage 14 = .ok (.iload_n 3, 1) := by decide +kernel
theorem dX1_takePage_15 : decode cX1_takePage 15 = .ok (.aload_n 2, 1) := by decide +kernel
theorem dX1_takePage_16 : decode cX1_takePage 16 = .ok (.getfield 11, 3) := by decide +kernel
theorem dX1_takePage_19 : decode cX1_takePage 19 = .ok (.iload_n 1, 1) := by decide +kernel
theorem dX1_takePage_20 : decode cX1_takePage 20 = .ok (.aaload, 1) := by decide +kernel
theorem dX1_takePage_21 : decode cX1_takePage 21 = .ok (.iload_n 3, 1) := by decide +kernel
theorem dX1_takePage_22 : decode cX1_takePage 22 = .ok (.iaload, 1) := by decide +kernel
theorem dX1_takePage_23 : decode cX1_takePage 23 = .ok (.iastore, 1) := by decide +kernel
theorem dX1_takePage_24 : decode cX1_takePage 24 = .ok (.iinc 3 1, 3) := by decide +kernel
theorem dX1_takePage_27 : decode cX1_takePage 27 = .ok (.goto (-25), 3) := by decide +kernel
theorem dX1_takePage_30 : decode cX1_takePage 30 = .ok (.return_, 1) := by decide +kernel
theorem q3 : (Jvm.Cond.initialized "Migrator$Host") ∈ lw_all := lw_g (lw_at lw_m1 2 rfl) rfl
theorem q20 : (Jvm.Cond.instantiable "Migrator$Host" (1 : Nat)) ∈ lw_all := lw_g (lw_at lw_m1 19 rfl) rfl
theorem q22 : (Jvm.Cond.instanceMethod ({ cls := "Migrator$Host", name := "<init>", desc := "()V" } : Jvm.MethodName)) ∈ lw_all := lw_g (lw_at lw_m1 21 rfl) rfl
theorem q23 : (Jvm.Cond.code ({ cls := "Migrator$Host", name := "<init>", desc := "()V" } : Jvm.MethodName) prog_3_method_1_code (1 : Nat) (Option.none : Option Jvm.ClassFile.FieldType)) ∈ lw_all := lw_g (lw_at lw_m1 22 rfl) rfl
theorem q24 : (Jvm.Cond.methodLink "Migrator$Host" (3 : Nat) ({ cls := "java/lang/Object", name := "<init>", desc := "()V" } : Jvm.MethodName)) ∈ lw_all := lw_g (lw_at lw_m1 23 rfl) rfl
theorem q25 : (Jvm.Cond.classLink "Migrator$Host" (9 : Nat) "[[I") ∈ lw_all := lw_g (lw_at lw_m1 24 rfl) rfl
theorem q27 : (Jvm.Cond.fieldLink "Migrator$Host" (11 : Nat) "Migrator$Host" "pages" "[[I") ∈ lw_all := lw_g (lw_at lw_m1 26 rfl) rfl
theorem q28 : (Jvm.Cond.laysFinal "Migrator$Host" "Migrator$Host" "pages" "[[I") ∈ lw_all := lw_g (lw_at lw_m1 27 rfl) rfl
theorem q29 : (Jvm.Cond.soleField "Migrator$Host" "pages") ∈ lw_all := lw_g (lw_at lw_m1 28 rfl) rfl
theorem q30 : (Jvm.Cond.superclass "Migrator$Host" "java/lang/Object") ∈ lw_all := lw_g (lw_at lw_m1 29 rfl) rfl
theorem q118 : (Jvm.Cond.instanceMethod ({ cls := "Migrator$Host", name := "put", desc := "(II)V" } : Jvm.MethodName)) ∈ lw_all := lw_g (lw_at lw_m1 117 rfl) rfl
theorem q119 : (Jvm.Cond.selects "Migrator$Host" ({ cls := "Migrator$Host", name := "put", desc := "(II)V" } : Jvm.MethodName) ({ cls := "Migrator$Host", name := "put", desc := "(II)V" } : Jvm.MethodName)) ∈ lw_all := lw_g (lw_at lw_m1 118 rfl) rfl
theorem q120 : (Jvm.Cond.code ({ cls := "Migrator$Host", name := "put", desc := "(II)V" } : Jvm.MethodName) prog_3_method_3_code (3 : Nat) (Option.none : Option Jvm.ClassFile.FieldType)) ∈ lw_all := lw_g (lw_at lw_m1 119 rfl) rfl
theorem q144 : (Jvm.Cond.instanceMethod ({ cls := "Migrator$Host", name := "word", desc := "(I)I" } : Jvm.MethodName)) ∈ lw_all := lw_g (lw_at lw_m1 143 rfl) rfl
theorem q145 : (Jvm.Cond.selects "Migrator$Host" ({ cls := "Migrator$Host", name := "word", desc := "(I)I" } : Jvm.MethodName) ({ cls := "Migrator$Host", name := "word", desc := "(I)I" } : Jvm.MethodName)) ∈ lw_all := lw_g (lw_at lw_m1 144 rfl) rfl
theorem q146 : (Jvm.Cond.code ({ cls := "Migrator$Host", name := "word", desc := "(I)I" } : Jvm.MethodName) prog_3_method_2_code (2 : Nat) (Option.some Jvm.ClassFile.FieldType.int)) ∈ lw_all := lw_g (lw_at lw_m1 145 rfl) rfl
theorem q173 : (Jvm.Cond.instanceMethod ({ cls := "Migrator$Host", name := "takePage", desc := "(ILMigrator$Host;)V" } : Jvm.MethodName)) ∈ lw_all := lw_g (lw_at lw_m1 172 rfl) rfl
theorem q174 : (Jvm.Cond.selects "Migrator$Host" ({ cls := "Migrator$Host", name := "takePage", desc := "(ILMigrator$Host;)V" } : Jvm.MethodName) ({ cls := "Migrator$Host", name := "takePage", desc := "(ILMigrator$Host;)V" } : Jvm.MethodName)) ∈ lw_all := lw_g (lw_at lw_m1 173 rfl) rfl
theorem q175 : (Jvm.Cond.code ({ cls := "Migrator$Host", name := "takePage", desc := "(ILMigrator$Host;)V" } : Jvm.MethodName) prog_3_method_4_code (4 : Nat) (Option.none : Option Jvm.ClassFile.FieldType)) ∈ lw_all := lw_g (lw_at lw_m1 174 rfl) rfl
theorem in_X1 : ∀ w ∈ wsX10, w ∈ lw_all := lw_in wsX10 [28] (by decide +kernel) (by decide +kernel)
/-! Migrator$Marks -/
set_option maxRecDepth 100000
def RX3 : String := "Migrator$Marks"
def TX3 : u_T := fun k => match k with
  | _ => ("Migrator$Marks", "set", "[Z", true)
def tyX3 : Nat → FieldType := fun k => match k with
  | _ => .array .boolean
abbrev wsX30 : List Cond := u_ws RX3 TX3 1
theorem nmX3 : ∀ a, a < 1 → ∀ b, b < 1 → a ≠ b → (TX3 a).2.1 ≠ (TX3 b).2.1 := by decide +kernel
theorem tyX3_ok : ∀ k, k < 1 → parseFieldDescriptor (TX3 k).2.2.1 = some (tyX3 k) := by decide +kernel
abbrev cX3_init : ByteArray := prog_4_method_1_code
def yX3_init : MethodName := ⟨RX3, "<init>", "()V"⟩
theorem dX3_init_0 : decode cX3_init 0 = .ok (.aload_n 0, 1) := by decide +kernel
theorem dX3_init_1 : decode cX3_init 1 = .ok (.invokespecial 3, 3) := by decide +kernel
theorem dX3_init_4 : decode cX3_init 4 = .ok (.aload_n 0, 1) := by decide +kernel
theorem dX3_init_5 : decode cX3_init 5 = .ok (.bipush 8, 2) := by decide +kernel
theorem dX3_init_7 : decode cX3_init 7 = .ok (.newarray .boolean, 2) := by decide +kernel
theorem dX3_init_9 : decode cX3_init 9 = .ok (.putfield 9, 3) := by decide +kernel
theorem dX3_init_12 : decode cX3_init 12 = .ok (.return_, 1) := by decide +kernel
abbrev cX3_fill : ByteArray := prog_4_method_4_code
def yX3_fill : MethodName := ⟨RX3, "fill", "(Z)V"⟩
theorem dX3_fill_0 : decode cX3_fill 0 = .ok (.iconst 0, 1) := by decide +kernel
theorem dX3_fill_1 : decode cX3_fill 1 = .ok (.istore_n 2, 1) := by decide +kernel
theorem dX3_fill_2 : decode cX3_fill 2 = .ok (.iload_n 2, 1) := by decide +kernel
theorem dX3_fill_3 : decode cX3_fill 3 = .ok (.bipush 8, 2) := by decide +kernel
theorem dX3_fill_5 : decode cX3_fill 5 = .ok (.if_icmp .ge 16, 3) := by decide +kernel
theorem dX3_fill_8 : decode cX3_fill 8 = .ok (.aload_n 0, 1) := by decide +kernel
theorem dX3_fill_9 : decode cX3_fill 9 = .ok (.getfield 9, 3) := by decide +kernel
theorem dX3_fill_12 : decode cX3_fill 12 = .ok (.iload_n 2, 1) := by decide +kernel
theorem dX3_fill_13 : decode cX3_fill 13 = .ok (.iload_n 1, 1) := by decide +kernel
theorem dX3_fill_14 : decode cX3_fill 14 = .ok (.bastore, 1) := by decide +kernel
theorem dX3_fill_15 : decode cX3_fill 15 = .ok (.iinc 2 1, 3) := by decide +kernel
theorem dX3_fill_18 : decode cX3_fill 18 = .ok (.goto (-16), 3) := by decide +kernel
theorem dX3_fill_21 : decode cX3_fill 21 = .ok (.return_, 1) := by decide +kernel
abbrev cX3_wrote : ByteArray := prog_4_method_2_code
def yX3_wrote : MethodName := ⟨RX3, "wrote", "(I)V"⟩
theorem dX3_wrote_0 : decode cX3_wrote 0 = .ok (.aload_n 0, 1) := by decide +kernel
theorem dX3_wrote_1 : decode cX3_wrote 1 = .ok (.getfield 9, 3) := by decide +kernel
theorem dX3_wrote_4 : decode cX3_wrote 4 = .ok (.iload_n 1, 1) := by decide +kernel
theorem dX3_wrote_5 : decode cX3_wrote 5 = .ok (.iconst 1, 1) := by decide +kernel
theorem dX3_wrote_6 : decode cX3_wrote 6 = .ok (.bastore, 1) := by decide +kernel
theorem dX3_wrote_7 : decode cX3_wrote 7 = .ok (.return_, 1) := by decide +kernel
abbrev cX3_takeFirst : ByteArray := prog_4_method_6_code
def yX3_takeFirst : MethodName := ⟨RX3, "takeFirst", "()I"⟩
theorem dX3_takeFirst_0 : decode cX3_takeFirst 0 = .ok (.iconst 0, 1) := by decide +kernel
theorem dX3_takeFirst_1 : decode cX3_takeFirst 1 = .ok (.istore_n 1, 1) := by decide +kernel
theorem dX3_takeFirst_2 : decode cX3_takeFirst 2 = .ok (.iload_n 1, 1) := by decide +kernel
theorem dX3_takeFirst_3 : decode cX3_takeFirst 3 = .ok (.bipush 8, 2) := by decide +kernel
theorem dX3_takeFirst_5 : decode cX3_takeFirst 5 = .ok (.if_icmp .ge 27, 3) := by decide +kernel
theorem dX3_takeFirst_8 : decode cX3_takeFirst 8 = .ok (.aload_n 0, 1) := by decide +kernel
theorem dX3_takeFirst_9 : decode cX3_takeFirst 9 = .ok (.getfield 9, 3) := by decide +kernel
theorem dX3_takeFirst_12 : decode cX3_takeFirst 12 = .ok (.iload_n 1, 1) := by decide +kernel
theorem dX3_takeFirst_13 : decode cX3_takeFirst 13 = .ok (.baload, 1) := by decide +kernel
theorem dX3_takeFirst_14 : decode cX3_takeFirst 14 = .ok (.ifCond .eq 12, 3) := by decide +kernel
theorem dX3_takeFirst_17 : decode cX3_takeFirst 17 = .ok (.aload_n 0, 1) := by decide +kernel
theorem dX3_takeFirst_18 : decode cX3_takeFirst 18 = .ok (.getfield 9, 3) := by decide +kernel
theorem dX3_takeFirst_21 : decode cX3_takeFirst 21 = .ok (.iload_n 1, 1) := by decide +kernel
theorem dX3_takeFirst_22 : decode cX3_takeFirst 22 = .ok (.iconst 0, 1) := by decide +kernel
theorem dX3_takeFirst_23 : decode cX3_takeFirst 23 = .ok (.bastore, 1) := by decide +kernel
theorem dX3_takeFirst_24 : decode cX3_takeFirst 24 = .ok (.iload_n 1, 1) := by decide +kernel
theorem dX3_takeFirst_25 : decode cX3_takeFirst 25 = .ok (.ireturn, 1) := by decide +kernel
theorem dX3_takeFirst_26 : decode cX3_takeFirst 26 = .ok (.iinc 1 1, 3) := by decide +kernel
theorem dX3_takeFirst_29 : decode cX3_takeFirst 29 = .ok (.goto (-27), 3) := by decide +kernel
theorem dX3_takeFirst_32 : decode cX3_takeFirst 32 = .ok (.iconst (-1), 1) := by decide +kernel
theorem dX3_takeFirst_33 : decode cX3_takeFirst 33 = .ok (.ireturn, 1) := by decide +kernel
abbrev cX3_copy : ByteArray := prog_4_method_5_code
def yX3_copy : MethodName := ⟨RX3, "copy", "(LMigrator$Marks;)V"⟩
theorem dX3_copy_0 : decode cX3_copy 0 = .ok (.iconst 0, 1) := by decide +kernel
theorem dX3_copy_1 : decode cX3_copy 1 = .ok (.istore_n 2, 1) := by decide +kernel
theorem dX3_copy_2 : decode cX3_copy 2 = .ok (.iload_n 2, 1) := by decide +kernel
theorem dX3_copy_3 : decode cX3_copy 3 = .ok (.bipush 8, 2) := by decide +kernel
theorem dX3_copy_5 : decode cX3_copy 5 = .ok (.if_icmp .ge 21, 3) := by decide +kernel
theorem dX3_copy_8 : decode cX3_copy 8 = .ok (.aload_n 0, 1) := by decide +kernel
theorem dX3_copy_9 : decode cX3_copy 9 = .ok (.getfield 9, 3) := by decide +kernel
theorem dX3_copy_12 : decode cX3_copy 12 = .ok (.iload_n 2, 1) := by decide +kernel
theorem dX3_copy_13 : decode cX3_copy 13 = .ok (.aload_n 1, 1) := by decide +kernel
theorem dX3_copy_14 : decode cX3_copy 14 = .ok (.getfield 9, 3) := by decide +kernel
theorem dX3_copy_17 : decode cX3_copy 17 = .ok (.iload_n 2, 1) := by decide +kernel
theorem dX3_copy_18 : decode cX3_copy 18 = .ok (.baload, 1) := by decide +kernel
theorem dX3_copy_19 : decode cX3_copy 19 = .ok (.bastore, 1) := by decide +kernel
theorem dX3_copy_20 : decode cX3_copy 20 = .ok (.iinc 2 1, 3) := by decide +kernel
theorem dX3_copy_23 : decode cX3_copy 23 = .ok (.goto (-21), 3) := by decide +kernel
theorem dX3_copy_26 : decode cX3_copy 26 = .ok (.return_, 1) := by decide +kernel
abbrev cX3_count : ByteArray := prog_4_method_3_code
def yX3_count : MethodName := ⟨RX3, "count", "()I"⟩
theorem dX3_count_0 : decode cX3_count 0 = .ok (.iconst 0, 1) := by decide +kernel
theorem dX3_count_1 : decode cX3_count 1 = .ok (.istore_n 1, 1) := by decide +kernel
theorem dX3_count_2 : decode cX3_count 2 = .ok (.iconst 0, 1) := by decide +kernel
theorem dX3_count_3 : decode cX3_count 3 = .ok (.istore_n 2, 1) := by decide +kernel
theorem dX3_count_4 : decode cX3_count 4 = .ok (.iload_n 2, 1) := by decide +kernel
theorem dX3_count_5 : decode cX3_count 5 = .ok (.bipush 8, 2) := by decide +kernel
theorem dX3_count_7 : decode cX3_count 7 = .ok (.if_icmp .ge 21, 3) := by decide +kernel
theorem dX3_count_10 : decode cX3_count 10 = .ok (.aload_n 0, 1) := by decide +kernel
theorem dX3_count_11 : decode cX3_count 11 = .ok (.getfield 9, 3) := by decide +kernel
theorem dX3_count_14 : decode cX3_count 14 = .ok (.iload_n 2, 1) := by decide +kernel
theorem dX3_count_15 : decode cX3_count 15 = .ok (.baload, 1) := by decide +kernel
theorem dX3_count_16 : decode cX3_count 16 = .ok (.ifCond .eq 6, 3) := by decide +kernel
theorem dX3_count_19 : decode cX3_count 19 = .ok (.iinc 1 1, 3) := by decide +kernel
theorem dX3_count_22 : decode cX3_count 22 = .ok (.iinc 2 1, 3) := by decide +kernel
theorem dX3_count_25 : decode cX3_count 25 = .ok (.goto (-21), 3) := by decide +kernel
theorem dX3_count_28 : decode cX3_count 28 = .ok (.iload_n 1, 1) := by decide +kernel
theorem dX3_count_29 : decode cX3_count 29 = .ok (.ireturn, 1) := by decide +kernel
theorem q5 : (Jvm.Cond.initialized "Migrator$Marks") ∈ lw_all := lw_g (lw_at lw_m1 4 rfl) rfl
theorem q56 : (Jvm.Cond.instantiable "Migrator$Marks" (1 : Nat)) ∈ lw_all := lw_g (lw_at lw_m1 55 rfl) rfl
theorem q58 : (Jvm.Cond.instanceMethod ({ cls := "Migrator$Marks", name := "<init>", desc := "()V" } : Jvm.MethodName)) ∈ lw_all := lw_g (lw_at lw_m1 57 rfl) rfl
theorem q59 : (Jvm.Cond.code ({ cls := "Migrator$Marks", name := "<init>", desc := "()V" } : Jvm.MethodName) prog_4_method_1_code (1 : Nat) (Option.none : Option Jvm.ClassFile.FieldType)) ∈ lw_all := lw_g (lw_at lw_m1 58 rfl) rfl
theorem q60 : (Jvm.Cond.methodLink "Migrator$Marks" (3 : Nat) ({ cls := "java/lang/Object", name := "<init>", desc := "()V" } : Jvm.MethodName)) ∈ lw_all := lw_g (lw_at lw_m1 59 rfl) rfl
theorem q61 : (Jvm.Cond.fieldLink "Migrator$Marks" (9 : Nat) "Migrator$Marks" "set" "[Z") ∈ lw_all := lw_g (lw_at lw_m1 60 rfl) rfl
theorem q63 : (Jvm.Cond.laysFinal "Migrator$Marks" "Migrator$Marks" "set" "[Z") ∈ lw_all := lw_g (lw_at lw_m1 62 rfl) rfl
theorem q64 : (Jvm.Cond.soleField "Migrator$Marks" "set") ∈ lw_all := lw_g (lw_at lw_m1 63 rfl) rfl
theorem q65 : (Jvm.Cond.superclass "Migrator$Marks" "java/lang/Object") ∈ lw_all := lw_g (lw_at lw_m1 64 rfl) rfl
theorem q128 : (Jvm.Cond.instanceMethod ({ cls := "Migrator$Marks", name := "fill", desc := "(Z)V" } : Jvm.MethodName)) ∈ lw_all := lw_g (lw_at lw_m1 127 rfl) rfl
theorem q129 : (Jvm.Cond.selects "Migrator$Marks" ({ cls := "Migrator$Marks", name := "fill", desc := "(Z)V" } : Jvm.MethodName) ({ cls := "Migrator$Marks", name := "fill", desc := "(Z)V" } : Jvm.MethodName)) ∈ lw_all := lw_g (lw_at lw_m1 128 rfl) rfl
theorem q130 : (Jvm.Cond.code ({ cls := "Migrator$Marks", name := "fill", desc := "(Z)V" } : Jvm.MethodName) prog_4_method_4_code (3 : Nat) (Option.none : Option Jvm.ClassFile.FieldType)) ∈ lw_all := lw_g (lw_at lw_m1 129 rfl) rfl
theorem q152 : (Jvm.Cond.castable "Migrator$Marks" "Migrator$Watcher") ∈ lw_tbl := lw_at lw_m1 151 rfl
theorem q153 : (Jvm.Cond.selects "Migrator$Marks" ({ cls := "Migrator$Watcher", name := "wrote", desc := "(I)V" } : Jvm.MethodName) ({ cls := "Migrator$Marks", name := "wrote", desc := "(I)V" } : Jvm.MethodName)) ∈ lw_all := lw_g (lw_at lw_m1 152 rfl) rfl
theorem q154 : (Jvm.Cond.unhidden "Migrator$Marks" "wrote" "(I)V") ∈ lw_tbl := lw_at lw_m1 153 rfl
theorem q155 : (Jvm.Cond.instanceMethod ({ cls := "Migrator$Marks", name := "wrote", desc := "(I)V" } : Jvm.MethodName)) ∈ lw_all := lw_g (lw_at lw_m1 154 rfl) rfl
theorem q156 : (Jvm.Cond.publicMethod ({ cls := "Migrator$Marks", name := "wrote", desc := "(I)V" } : Jvm.MethodName)) ∈ lw_tbl := lw_at lw_m1 155 rfl
theorem q157 : (Jvm.Cond.code ({ cls := "Migrator$Marks", name := "wrote", desc := "(I)V" } : Jvm.MethodName) prog_4_method_2_code (2 : Nat) (Option.none : Option Jvm.ClassFile.FieldType)) ∈ lw_all := lw_g (lw_at lw_m1 156 rfl) rfl
theorem q169 : (Jvm.Cond.instanceMethod ({ cls := "Migrator$Marks", name := "takeFirst", desc := "()I" } : Jvm.MethodName)) ∈ lw_all := lw_g (lw_at lw_m1 168 rfl) rfl
theorem q170 : (Jvm.Cond.selects "Migrator$Marks" ({ cls := "Migrator$Marks", name := "takeFirst", desc := "()I" } : Jvm.MethodName) ({ cls := "Migrator$Marks", name := "takeFirst", desc := "()I" } : Jvm.MethodName)) ∈ lw_all := lw_g (lw_at lw_m1 169 rfl) rfl
theorem q171 : (Jvm.Cond.code ({ cls := "Migrator$Marks", name := "takeFirst", desc := "()I" } : Jvm.MethodName) prog_4_method_6_code (2 : Nat) (Option.some Jvm.ClassFile.FieldType.int)) ∈ lw_all := lw_g (lw_at lw_m1 170 rfl) rfl
theorem q177 : (Jvm.Cond.instanceMethod ({ cls := "Migrator$Marks", name := "copy", desc := "(LMigrator$Marks;)V" } : Jvm.MethodName)) ∈ lw_all := lw_g (lw_at lw_m1 176 rfl) rfl
theorem q178 : (Jvm.Cond.selects "Migrator$Marks" ({ cls := "Migrator$Marks", name := "copy", desc := "(LMigrator$Marks;)V" } : Jvm.MethodName) ({ cls := "Migrator$Marks", name := "copy", desc := "(LMigrator$Marks;)V" } : Jvm.MethodName)) ∈ lw_all := lw_g (lw_at lw_m1 177 rfl) rfl
theorem q179 : (Jvm.Cond.code ({ cls := "Migrator$Marks", name := "copy", desc := "(LMigrator$Marks;)V" } : Jvm.MethodName) prog_4_method_5_code (3 : Nat) (Option.none : Option Jvm.ClassFile.FieldType)) ∈ lw_all := lw_g (lw_at lw_m1 178 rfl) rfl
theorem q181 : (Jvm.Cond.instanceMethod ({ cls := "Migrator$Marks", name := "count", desc := "()I" } : Jvm.MethodName)) ∈ lw_all := lw_g (lw_at lw_m1 180 rfl) rfl
theorem q182 : (Jvm.Cond.selects "Migrator$Marks" ({ cls := "Migrator$Marks", name := "count", desc := "()I" } : Jvm.MethodName) ({ cls := "Migrator$Marks", name := "count", desc := "()I" } : Jvm.MethodName)) ∈ lw_all := lw_g (lw_at lw_m1 181 rfl) rfl
theorem q183 : (Jvm.Cond.code ({ cls := "Migrator$Marks", name := "count", desc := "()I" } : Jvm.MethodName) prog_4_method_3_code (3 : Nat) (Option.some Jvm.ClassFile.FieldType.int)) ∈ lw_all := lw_g (lw_at lw_m1 182 rfl) rfl
theorem in_X3 : ∀ w ∈ wsX30, w ∈ lw_all := lw_in wsX30 [63] (by decide +kernel) (by decide +kernel)
/-! Migrator$Nobody -/
set_option maxRecDepth 100000
def RX4 : String := "Migrator$Nobody"
abbrev cX4_init : ByteArray := prog_5_method_1_code
def yX4_init : MethodName := ⟨RX4, "<init>", "()V"⟩
theorem dX4_init_0 : decode cX4_init 0 = .ok (.aload_n 0, 1) := by decide +kernel
theorem dX4_init_1 : decode cX4_init 1 = .ok (.invokespecial 1, 3) := by decide +kernel
theorem dX4_init_4 : decode cX4_init 4 = .ok (.return_, 1) := by decide +kernel
abbrev cX4_wrote : ByteArray := prog_5_method_2_code
def yX4_wrote : MethodName := ⟨RX4, "wrote", "(I)V"⟩
theorem dX4_wrote_0 : decode cX4_wrote 0 = .ok (.return_, 1) := by decide +kernel
theorem q7 : (Jvm.Cond.initialized "Migrator$Nobody") ∈ lw_all := lw_g (lw_at lw_m1 6 rfl) rfl
theorem q68 : (Jvm.Cond.instantiable "Migrator$Nobody" (0 : Nat)) ∈ lw_all := lw_g (lw_at lw_m1 67 rfl) rfl
theorem q70 : (Jvm.Cond.instanceMethod ({ cls := "Migrator$Nobody", name := "<init>", desc := "()V" } : Jvm.MethodName)) ∈ lw_all := lw_g (lw_at lw_m1 69 rfl) rfl
theorem q71 : (Jvm.Cond.code ({ cls := "Migrator$Nobody", name := "<init>", desc := "()V" } : Jvm.MethodName) prog_5_method_1_code (1 : Nat) (Option.none : Option Jvm.ClassFile.FieldType)) ∈ lw_all := lw_g (lw_at lw_m1 70 rfl) rfl
theorem q72 : (Jvm.Cond.methodLink "Migrator$Nobody" (1 : Nat) ({ cls := "java/lang/Record", name := "<init>", desc := "()V" } : Jvm.MethodName)) ∈ lw_all := lw_g (lw_at lw_m1 71 rfl) rfl
theorem q76 : (Jvm.Cond.superclass "Migrator$Nobody" "java/lang/Record") ∈ lw_all := lw_g (lw_at lw_m1 75 rfl) rfl
theorem q158 : (Jvm.Cond.castable "Migrator$Nobody" "Migrator$Watcher") ∈ lw_tbl := lw_at lw_m1 157 rfl
theorem q159 : (Jvm.Cond.selects "Migrator$Nobody" ({ cls := "Migrator$Watcher", name := "wrote", desc := "(I)V" } : Jvm.MethodName) ({ cls := "Migrator$Nobody", name := "wrote", desc := "(I)V" } : Jvm.MethodName)) ∈ lw_all := lw_g (lw_at lw_m1 158 rfl) rfl
theorem q160 : (Jvm.Cond.unhidden "Migrator$Nobody" "wrote" "(I)V") ∈ lw_tbl := lw_at lw_m1 159 rfl
theorem q161 : (Jvm.Cond.instanceMethod ({ cls := "Migrator$Nobody", name := "wrote", desc := "(I)V" } : Jvm.MethodName)) ∈ lw_all := lw_g (lw_at lw_m1 160 rfl) rfl
theorem q162 : (Jvm.Cond.publicMethod ({ cls := "Migrator$Nobody", name := "wrote", desc := "(I)V" } : Jvm.MethodName)) ∈ lw_tbl := lw_at lw_m1 161 rfl
theorem q163 : (Jvm.Cond.code ({ cls := "Migrator$Nobody", name := "wrote", desc := "(I)V" } : Jvm.MethodName) prog_5_method_2_code (2 : Nat) (Option.none : Option Jvm.ClassFile.FieldType)) ∈ lw_all := lw_g (lw_at lw_m1 162 rfl) rfl
/-! Migrator$Guest -/
set_option maxRecDepth 100000
def RX2 : String := "Migrator$Guest"
def TX2 : u_T := fun k => match k with
  | 0 => ("Migrator$Guest", "registers", "[I", true)
  | 1 => ("Migrator$Guest", "shown", "[I", true)
  | 2 => ("Migrator$Guest", "pc", "I", false)
  | _ => ("Migrator$Guest", "shows", "I", false)
def tyX2 : Nat → FieldType := fun k => match k with
  | 0 => .array .int
  | 1 => .array .int
  | 2 => .int
  | _ => .int
abbrev wsX20 : List Cond := u_ws RX2 TX2 4
theorem nmX2 : ∀ a, a < 4 → ∀ b, b < 4 → a ≠ b → (TX2 a).2.1 ≠ (TX2 b).2.1 := by decide +kernel
theorem tyX2_ok : ∀ k, k < 4 → parseFieldDescriptor (TX2 k).2.2.1 = some (tyX2 k) := by decide +kernel
abbrev cX2_init : ByteArray := prog_2_method_1_code
def yX2_init : MethodName := ⟨RX2, "<init>", "()V"⟩
theorem dX2_init_0 : decode cX2_init 0 = .ok (.aload_n 0, 1) := by decide +kernel
theorem dX2_init_1 : decode cX2_init 1 = .ok (.invokespecial 3, 3) := by decide +kernel
theorem dX2_init_4 : decode cX2_init 4 = .ok (.aload_n 0, 1) := by decide +kernel
theorem dX2_init_5 : decode cX2_init 5 = .ok (.iconst 4, 1) := by decide +kernel
theorem dX2_init_6 : decode cX2_init 6 = .ok (.newarray .int, 2) := by decide +kernel
theorem dX2_init_8 : decode cX2_init 8 = .ok (.putfield 9, 3) := by decide +kernel
theorem dX2_init_11 : decode cX2_init 11 = .ok (.aload_n 0, 1) := by decide +kernel
theorem dX2_init_12 : decode cX2_init 12 = .ok (.bipush 8, 2) := by decide +kernel
theorem dX2_init_14 : decode cX2_init 14 = .ok (.newarray .int, 2) := by decide +kernel
theorem dX2_init_16 : decode cX2_init 16 = .ok (.putfield 15, 3) := by decide +kernel
theorem dX2_init_19 : decode cX2_init 19 = .ok (.return_, 1) := by decide +kernel
abbrev cX2_step : ByteArray := prog_2_method_2_code
def yX2_step : MethodName := ⟨RX2, "step", "(LMigrator$Host;LMigrator$Watcher;)V"⟩
theorem dX2_step_0 : decode cX2_step 0 = .ok (.aload_n 1, 1) := by decide +kernel
theorem dX2_step_1 : decode cX2_step 1 = .ok (.aload_n 0, 1) := by decide +kernel
theorem dX2_step_2 : decode cX2_step 2 = .ok (.getfield 18, 3) := by decide +kernel
theorem dX2_step_5 : decode cX2_step 5 = .ok (.invokevirtual 22, 3) := by decide +kernel
theorem dX2_step_8 : decode cX2_step 8 = .ok (.istore_n 3, 1) := by decide +kernel
theorem dX2_step_9 : decode cX2_step 9 = .ok (.iload_n 3, 1) := by decide +kernel
theorem dX2_step_10 : decode cX2_step 10 = .ok (.iconst 3, 1) := by decide +kernel
theorem dX2_step_11 : decode cX2_step 11 = .ok (.ishr, 1) := by decide +kernel
theorem dX2_step_12 : decode cX2_step 12 = .ok (.iconst 3, 1) := by decide +kernel
theorem dX2_step_13 : decode cX2_step 13 = .ok (.iand, 1) := by decide +kernel
theorem dX2_step_14 : decode cX2_step 14 = .ok (.istore 4, 2) := by decide +kernel
theorem dX2_step_16 : decode cX2_step 16 = .ok (.iload_n 3, 1) := by decide +kernel
theorem dX2_step_17 : decode cX2_step 17 = .ok (.iconst 5, 1) := by decide +kernel
theorem dX2_step_18 : decode cX2_step 18 = .ok (.ishr, 1) := by decide +kernel
theorem dX2_step_19 : decode cX2_step 19 = .ok (.iconst 3, 1) := by decide +kernel
theorem dX2_step_20 : decode cX2_step 20 = .ok (.iand, 1) := by decide +kernel
theorem dX2_step_21 : decode cX2_step 21 = .ok (.istore 5, 2) := by decide +kernel
theorem dX2_step_23 : decode cX2_step 23 = .ok (.iload_n 3, 1) := by decide +kernel
theorem dX2_step_24 : decode cX2_step 24 = .ok (.bipush 7, 2) := by decide +kernel
theorem dX2_step_26 : decode cX2_step 26 = .ok (.ishr, 1) := by decide +kernel
theorem dX2_step_27 : decode cX2_step 27 = .ok (.bipush 127, 2) := by decide +kernel
theorem dX2_step_29 : decode cX2_step 29 = .ok (.iand, 1) := by decide +kernel
theorem dX2_step_30 : decode cX2_step 30 = .ok (.istore 6, 2) := by decide +kernel
theorem dX2_step_32 : decode cX2_step 32 = .ok (.aload_n 0, 1) := by decide +kernel
theorem dX2_step_33 : decode cX2_step 33 = .ok (.getfield 9, 3) := by decide +kernel
theorem dX2_step_36 : decode cX2_step 36 = .ok (.iload 5, 2) := by decide +kernel
theorem dX2_step_38 : decode cX2_step 38 = .ok (.iaload, 1) := by decide +kernel
theorem dX2_step_39 : decode cX2_step 39 = .ok (.iload 6, 2) := by decide +kernel
theorem dX2_step_41 : decode cX2_step 41 = .ok (.iadd, 1) := by decide +kernel
theorem dX2_step_42 : decode cX2_step 42 = .ok (.bipush 63, 2) := by decide +kernel
theorem dX2_step_44 : decode cX2_step 44 = .ok (.iand, 1) := by decide +kernel
theorem dX2_step_45 : decode cX2_step 45 = .ok (.istore 7, 2) := by decide +kernel
theorem dX2_step_47 : decode cX2_step 47 = .ok (.aload_n 0, 1) := by decide +kernel
theorem dX2_step_48 : decode cX2_step 48 = .ok (.getfield 18, 3) := by decide +kernel
theorem dX2_step_51 : decode cX2_step 51 = .ok (.iconst 1, 1) := by decide +kernel
theorem dX2_step_52 : decode cX2_step 52 = .ok (.iadd, 1) := by decide +kernel
theorem dX2_step_53 : decode cX2_step 53 = .ok (.bipush 63, 2) := by decide +kernel
theorem dX2_step_55 : decode cX2_step 55 = .ok (.iand, 1) := by decide +kernel
theorem dX2_step_56 : decode cX2_step 56 = .ok (.istore 8, 2) := by decide +kernel
theorem dX2_step_58 : decode cX2_step 58 = .ok (.iload_n 3, 1) := by decide +kernel
theorem dX2_step_59 : decode cX2_step 59 = .ok (.bipush 7, 2) := by decide +kernel
theorem dX2_step_61 : decode cX2_step 61 = .ok (.iand, 1) := by decide +kernel
theorem dX2_step_62 : decode cX2_step 62 = .ok (.tableswitch 166 0 6 #[42, 51, 63, 79, 106, 126, 146], 42) := by decide +kernel
theorem dX2_step_104 : decode cX2_step 104 = .ok (.aload_n 0, 1) := by decide +kernel
theorem dX2_step_105 : decode cX2_step 105 = .ok (.getfield 18, 3) := by decide +kernel
theorem dX2_step_108 : decode cX2_step 108 = .ok (.istore 8, 2) := by decide +kernel
theorem dX2_step_110 : decode cX2_step 110 = .ok (.goto 147, 3) := by decide +kernel
theorem dX2_step_113 : decode cX2_step 113 = .ok (.aload_n 0, 1) := by decide +kernel
theorem dX2_step_114 : decode cX2_step 114 = .ok (.getfield 9, 3) := by decide +kernel
theorem dX2_step_117 : decode cX2_step 117 = .ok (.iload 4, 2) := by decide +kernel
theorem dX2_step_119 : decode cX2_step 119 = .ok (.iload 6, 2) := by decide +kernel
theorem dX2_step_121 : decode cX2_step 121 = .ok (.iastore, 1) := by decide +kernel
theorem dX2_step_122 : decode cX2_step 122 = .ok (.goto 135, 3) := by decide +kernel
theorem dX2_step_125 : decode cX2_step 125 = .ok (.aload_n 0, 1) := by decide +kernel
theorem dX2_step_126 : decode cX2_step 126 = .ok (.getfield 9, 3) := by decide +kernel
theorem dX2_step_129 : decode cX2_step 129 = .ok (.iload 4, 2) := by decide +kernel
theorem dX2_step_131 : decode cX2_step 131 = .ok (.aload_n 1, 1) := by decide +kernel
theorem dX2_step_132 : decode cX2_step 132 = .ok (.iload 7, 2) := by decide +kernel
theorem dX2_step_134 : decode cX2_step 134 = .ok (.invokevirtual 22, 3) := by decide +kernel
theorem dX2_step_137 : decode cX2_step 137 = .ok (.iastore, 1) := by decide +kernel
theorem dX2_step_138 : decode cX2_step 138 = .ok (.goto 119, 3) := by decide +kernel
theorem dX2_step_141 : decode cX2_step 141 = .ok (.aload_n 1, 1) := by decide +kernel
theorem dX2_step_142 : decode cX2_step 142 = .ok (.iload 7, 2) := by decide +kernel
theorem dX2_step_144 : decode cX2_step 144 = .ok (.aload_n 0, 1) := by decide +kernel
theorem dX2_step_145 : decode cX2_step 145 = .ok (.getfield 9, 3) := by decide +kernel
theorem dX2_step_148 : decode cX2_step 148 = .ok (.iload 4, 2) := by decide +kernel
theorem dX2_step_150 : decode cX2_step 150 = .ok (.iaload, 1) := by decide +kernel
theorem dX2_step_151 : decode cX2_step 151 = .ok (.invokevirtual 28, 3) := by decide +kernel
theorem dX2_step_154 : decode cX2_step 154 = .ok (.aload_n 2, 1) := by decide +kernel
theorem dX2_step_155 : decode cX2_step 155 = .ok (.iload 7, 2) := by decide +kernel
theorem dX2_step_157 : decode cX2_step 157 = .ok (.bipush 8, 2) := by decide +kernel
theorem dX2_step_159 : decode cX2_step 159 = .ok (.idiv, 1) := by decide +kernel
theorem dX2_step_160 : decode cX2_step 160 = .ok (.invokeinterface 32 2, 5) := by decide +kernel
theorem dX2_step_165 : decode cX2_step 165 = .ok (.goto 92, 3) := by decide +kernel
theorem dX2_step_168 : decode cX2_step 168 = .ok (.aload_n 0, 1) := by decide +kernel
theorem dX2_step_169 : decode cX2_step 169 = .ok (.getfield 9, 3) := by decide +kernel
theorem dX2_step_172 : decode cX2_step 172 = .ok (.iload 4, 2) := by decide +kernel
theorem dX2_step_174 : decode cX2_step 174 = .ok (.dup2, 1) := by decide +kernel
theorem dX2_step_175 : decode cX2_step 175 = .ok (.iaload, 1) := by decide +kernel
theorem dX2_step_176 : decode cX2_step 176 = .ok (.aload_n 0, 1) := by decide +kernel
theorem dX2_step_177 : decode cX2_step 177 = .ok (.getfield 9, 3) := by decide +kernel
theorem dX2_step_180 : decode cX2_step 180 = .ok (.iload 5, 2) := by decide +kernel
theorem dX2_step_182 : decode cX2_step 182 = .ok (.iaload, 1) := by decide +kernel
theorem dX2_step_183 : decode cX2_step 183 = .ok (.iadd, 1) := by decide +kernel
theorem dX2_step_184 : decode cX2_step 184 = .ok (.iastore, 1) := by decide +kernel
theorem dX2_step_185 : decode cX2_step 185 = .ok (.goto 72, 3) := by decide +kernel
theorem dX2_step_188 : decode cX2_step 188 = .ok (.aload_n 0, 1) := by decide +kernel
theorem dX2_step_189 : decode cX2_step 189 = .ok (.getfield 9, 3) := by decide +kernel
theorem dX2_step_192 : decode cX2_step 192 = .ok (.iload 4, 2) := by decide +kernel
theorem dX2_step_194 : decode cX2_step 194 = .ok (.dup2, 1) := by decide +kernel
theorem dX2_step_195 : decode cX2_step 195 = .ok (.iaload, 1) := by decide +kernel
theorem dX2_step_196 : decode cX2_step 196 = .ok (.aload_n 0, 1) := by decide +kernel
theorem dX2_step_197 : decode cX2_step 197 = .ok (.getfield 9, 3) := by decide +kernel
theorem dX2_step_200 : decode cX2_step 200 = .ok (.iload 5, 2) := by decide +kernel
theorem dX2_step_202 : decode cX2_step 202 = .ok (.iaload, 1) := by decide +kernel
theorem dX2_step_203 : decode cX2_step 203 = .ok (.isub, 1) := by decide +kernel
theorem dX2_step_204 : decode cX2_step 204 = .ok (.iastore, 1) := by decide +kernel
theorem dX2_step_205 : decode cX2_step 205 = .ok (.goto 52, 3) := by decide +kernel
theorem dX2_step_208 : decode cX2_step 208 = .ok (.aload_n 0, 1) := by decide +kernel
theorem dX2_step_209 : decode cX2_step 209 = .ok (.getfield 9, 3) := by decide +kernel
theorem dX2_step_212 : decode cX2_step 212 = .ok (.iload 4, 2) := by decide +kernel
theorem dX2_step_214 : decode cX2_step 214 = .ok (.iaload, 1) := by decide +kernel
theorem dX2_step_215 : decode cX2_step 215 = .ok (.ifCond .eq 42, 3) := by decide +kernel
theorem dX2_step_218 : decode cX2_step 218 = .ok (.iload 6, 2) := by decide +kernel
theorem dX2_step_220 : decode cX2_step 220 = .ok (.bipush 63, 2) := by decide +kernel
theorem dX2_step_222 : decode cX2_step 222 = .ok (.iand, 1) := by decide +kernel
theorem dX2_step_223 : decode cX2_step 223 = .ok (.istore 8, 2) := by decide +kernel
theorem dX2_step_225 : decode cX2_step 225 = .ok (.goto 32, 3) := by decide +kernel
theorem dX2_step_228 : decode cX2_step 228 = .ok (.aload_n 0, 1) := by decide +kernel
theorem dX2_step_229 : decode cX2_step 229 = .ok (.getfield 15, 3) := by decide +kernel
theorem dX2_step_232 : decode cX2_step 232 = .ok (.aload_n 0, 1) := by decide +kernel
theorem dX2_step_233 : decode cX2_step 233 = .ok (.getfield 38, 3) := by decide +kernel
theorem dX2_step_236 : decode cX2_step 236 = .ok (.bipush 8, 2) := by decide +kernel
theorem dX2_step_238 : decode cX2_step 238 = .ok (.irem, 1) := by decide +kernel
theorem dX2_step_239 : decode cX2_step 239 = .ok (.aload_n 0, 1) := by decide +kernel
theorem dX2_step_240 : decode cX2_step 240 = .ok (.getfield 9, 3) := by decide +kernel
theorem dX2_step_243 : decode cX2_step 243 = .ok (.iload 4, 2) := by decide +kernel
theorem dX2_step_245 : decode cX2_step 245 = .ok (.iaload, 1) := by decide +kernel
theorem dX2_step_246 : decode cX2_step 246 = .ok (.iastore, 1) := by decide +kernel
theorem dX2_step_247 : decode cX2_step 247 = .ok (.aload_n 0, 1) := by decide +kernel
theorem dX2_step_248 : decode cX2_step 248 = .ok (.dup, 1) := by decide +kernel
theorem dX2_step_249 : decode cX2_step 249 = .ok (.getfield 38, 3) := by decide +kernel
theorem dX2_step_252 : decode cX2_step 252 = .ok (.iconst 1, 1) := by decide +kernel
theorem dX2_step_253 : decode cX2_step 253 = .ok (.iadd, 1) := by decide +kernel
theorem dX2_step_254 : decode cX2_step 254 = .ok (.putfield 38, 3) := by decide +kernel
theorem dX2_step_257 : decode cX2_step 257 = .ok (.aload_n 0, 1) := by decide +kernel
theorem dX2_step_258 : decode cX2_step 258 = .ok (.iload 8, 2) := by decide +kernel
theorem dX2_step_260 : decode cX2_step 260 = .ok (.putfield 18, 3) := by decide +kernel
theorem dX2_step_263 : decode cX2_step 263 = .ok (.return_, 1) := by decide +kernel
theorem q4 : (Jvm.Cond.initialized "Migrator$Guest") ∈ lw_all := lw_g (lw_at lw_m1 3 rfl) rfl
theorem q33 : (Jvm.Cond.instantiable "Migrator$Guest" (4 : Nat)) ∈ lw_all := lw_g (lw_at lw_m1 32 rfl) rfl
theorem q35 : (Jvm.Cond.instanceMethod ({ cls := "Migrator$Guest", name := "<init>", desc := "()V" } : Jvm.MethodName)) ∈ lw_all := lw_g (lw_at lw_m1 34 rfl) rfl
theorem q36 : (Jvm.Cond.code ({ cls := "Migrator$Guest", name := "<init>", desc := "()V" } : Jvm.MethodName) prog_2_method_1_code (1 : Nat) (Option.none : Option Jvm.ClassFile.FieldType)) ∈ lw_all := lw_g (lw_at lw_m1 35 rfl) rfl
theorem q37 : (Jvm.Cond.methodLink "Migrator$Guest" (3 : Nat) ({ cls := "java/lang/Object", name := "<init>", desc := "()V" } : Jvm.MethodName)) ∈ lw_all := lw_g (lw_at lw_m1 36 rfl) rfl
theorem q38 : (Jvm.Cond.fieldLink "Migrator$Guest" (9 : Nat) "Migrator$Guest" "registers" "[I") ∈ lw_all := lw_g (lw_at lw_m1 37 rfl) rfl
theorem q40 : (Jvm.Cond.fieldLink "Migrator$Guest" (15 : Nat) "Migrator$Guest" "shown" "[I") ∈ lw_all := lw_g (lw_at lw_m1 39 rfl) rfl
theorem q42 : (Jvm.Cond.fieldLink "Migrator$Guest" (18 : Nat) "Migrator$Guest" "pc" "I") ∈ lw_all := lw_g (lw_at lw_m1 41 rfl) rfl
theorem q44 : (Jvm.Cond.fieldLink "Migrator$Guest" (38 : Nat) "Migrator$Guest" "shows" "I") ∈ lw_all := lw_g (lw_at lw_m1 43 rfl) rfl
theorem q46 : (Jvm.Cond.laysFinal "Migrator$Guest" "Migrator$Guest" "registers" "[I") ∈ lw_all := lw_g (lw_at lw_m1 45 rfl) rfl
theorem q47 : (Jvm.Cond.soleField "Migrator$Guest" "registers") ∈ lw_all := lw_g (lw_at lw_m1 46 rfl) rfl
theorem q48 : (Jvm.Cond.laysFinal "Migrator$Guest" "Migrator$Guest" "shown" "[I") ∈ lw_all := lw_g (lw_at lw_m1 47 rfl) rfl
theorem q49 : (Jvm.Cond.soleField "Migrator$Guest" "shown") ∈ lw_all := lw_g (lw_at lw_m1 48 rfl) rfl
theorem q50 : (Jvm.Cond.lays "Migrator$Guest" "Migrator$Guest" "pc" "I") ∈ lw_all := lw_g (lw_at lw_m1 49 rfl) rfl
theorem q51 : (Jvm.Cond.soleField "Migrator$Guest" "pc") ∈ lw_all := lw_g (lw_at lw_m1 50 rfl) rfl
theorem q52 : (Jvm.Cond.lays "Migrator$Guest" "Migrator$Guest" "shows" "I") ∈ lw_all := lw_g (lw_at lw_m1 51 rfl) rfl
theorem q53 : (Jvm.Cond.soleField "Migrator$Guest" "shows") ∈ lw_all := lw_g (lw_at lw_m1 52 rfl) rfl
theorem q54 : (Jvm.Cond.superclass "Migrator$Guest" "java/lang/Object") ∈ lw_all := lw_g (lw_at lw_m1 53 rfl) rfl
theorem q140 : (Jvm.Cond.instanceMethod ({ cls := "Migrator$Guest", name := "step", desc := "(LMigrator$Host;LMigrator$Watcher;)V" } : Jvm.MethodName)) ∈ lw_all := lw_g (lw_at lw_m1 139 rfl) rfl
theorem q141 : (Jvm.Cond.selects "Migrator$Guest" ({ cls := "Migrator$Guest", name := "step", desc := "(LMigrator$Host;LMigrator$Watcher;)V" } : Jvm.MethodName) ({ cls := "Migrator$Guest", name := "step", desc := "(LMigrator$Host;LMigrator$Watcher;)V" } : Jvm.MethodName)) ∈ lw_all := lw_g (lw_at lw_m1 140 rfl) rfl
theorem q142 : (Jvm.Cond.code ({ cls := "Migrator$Guest", name := "step", desc := "(LMigrator$Host;LMigrator$Watcher;)V" } : Jvm.MethodName) prog_2_method_2_code (9 : Nat) (Option.none : Option Jvm.ClassFile.FieldType)) ∈ lw_all := lw_g (lw_at lw_m1 141 rfl) rfl
theorem q143 : (Jvm.Cond.methodLink "Migrator$Guest" (22 : Nat) ({ cls := "Migrator$Host", name := "word", desc := "(I)I" } : Jvm.MethodName)) ∈ lw_all := lw_g (lw_at lw_m1 142 rfl) rfl
theorem q147 : (Jvm.Cond.methodLink "Migrator$Guest" (28 : Nat) ({ cls := "Migrator$Host", name := "put", desc := "(II)V" } : Jvm.MethodName)) ∈ lw_all := lw_g (lw_at lw_m1 146 rfl) rfl
theorem q148 : (Jvm.Cond.interfaceEntry "Migrator$Guest" (32 : Nat)) ∈ lw_tbl := lw_at lw_m1 147 rfl
theorem q149 : (Jvm.Cond.methodLink "Migrator$Guest" (32 : Nat) ({ cls := "Migrator$Watcher", name := "wrote", desc := "(I)V" } : Jvm.MethodName)) ∈ lw_all := lw_g (lw_at lw_m1 148 rfl) rfl
theorem in_X2 : ∀ w ∈ wsX20, w ∈ lw_all := lw_in wsX20 [46, 48, 50, 52] (by decide +kernel) (by decide +kernel)
end
section
/-! Migrator -/
set_option maxRecDepth 100000
def RX0 : String := "Migrator"
def TX0 : u_T := fun k => match k with
  | 0 => ("Migrator", "source", "LMigrator$Host;", true)
  | 1 => ("Migrator", "destination", "LMigrator$Host;", true)
  | 2 => ("Migrator", "guest", "LMigrator$Guest;", true)
  | 3 => ("Migrator", "dirty", "LMigrator$Marks;", true)
  | 4 => ("Migrator", "waiting", "LMigrator$Marks;", true)
  | 5 => ("Migrator", "nobody", "LMigrator$Nobody;", true)
  | 6 => ("Migrator", "phase", "LMigrator$Phase;", false)
  | 7 => ("Migrator", "round", "I", false)
  | 8 => ("Migrator", "threshold", "I", false)
  | _ => ("Migrator", "limit", "I", false)
def tyX0 : Nat → FieldType := fun k => match k with
  | 0 => .object "Migrator$Host"
  | 1 => .object "Migrator$Host"
  | 2 => .object "Migrator$Guest"
  | 3 => .object "Migrator$Marks"
  | 4 => .object "Migrator$Marks"
  | 5 => .object "Migrator$Nobody"
  | 6 => .object "Migrator$Phase"
  | 7 => .int
  | 8 => .int
  | _ => .int
abbrev wsX00 : List Cond := u_ws RX0 TX0 10
theorem nmX0 : ∀ a, a < 10 → ∀ b, b < 10 → a ≠ b → (TX0 a).2.1 ≠ (TX0 b).2.1 := by decide +kernel
theorem tyX0_ok : ∀ k, k < 10 → parseFieldDescriptor (TX0 k).2.2.1 = some (tyX0 k) := by decide +kernel
abbrev cX0_init : ByteArray := prog_1_method_1_code
def yX0_init : MethodName := ⟨RX0, "<init>", "()V"⟩
theorem dX0_init_0 : decode cX0_init 0 = .ok (.aload_n 0, 1) := by decide +kernel
theorem dX0_init_1 : decode cX0_init 1 = .ok (.invokespecial 1, 3) := by decide +kernel
theorem dX0_init_4 : decode cX0_init 4 = .ok (.aload_n 0, 1) := by decide +kernel
theorem dX0_init_5 : decode cX0_init 5 = .ok (.new 7, 3) := by decide +kernel
theorem dX0_init_8 : decode cX0_init 8 = .ok (.dup, 1) := by decide +kernel
theorem dX0_init_9 : decode cX0_init 9 = .ok (.invokespecial 9, 3) := by decide +kernel
theorem dX0_init_12 : decode cX0_init 12 = .ok (.putfield 10, 3) := by decide +kernel
theorem dX0_init_15 : decode cX0_init 15 = .ok (.aload_n 0, 1) := by decide +kernel
theorem dX0_init_16 : decode cX0_init 16 = .ok (.new 7, 3) := by decide +kernel
theorem dX0_init_19 : decode cX0_init 19 = .ok (.dup, 1) := by decide +kernel
theorem dX0_init_20 : decode cX0_init 20 = .ok (.invokespecial 9, 3) := by decide +kernel
theorem dX0_init_23 : decode cX0_init 23 = .ok (.putfield 16, 3) := by decide +kernel
theorem dX0_init_26 : decode cX0_init 26 = .ok (.aload_n 0, 1) := by decide +kernel
theorem dX0_init_27 : decode cX0_init 27 = .ok (.new 19, 3) := by decide +kernel
theorem dX0_init_30 : decode cX0_init 30 = .ok (.dup, 1) := by decide +kernel
theorem dX0_init_31 : decode cX0_init 31 = .ok (.invokespecial 21, 3) := by decide +kernel
theorem dX0_init_34 : decode cX0_init 34 = .ok (.putfield 22, 3) := by decide +kernel
theorem dX0_init_37 : decode cX0_init 37 = .ok (.aload_n 0, 1) := by decide +kernel
theorem dX0_init_38 : decode cX0_init 38 = .ok (.new 26, 3) := by decide +kernel
theorem dX0_init_41 : decode cX0_init 41 = .ok (.dup, 1) := by decide +kernel
theorem dX0_init_42 : decode cX0_init 42 = .ok (.invokespecial 28, 3) := by decide +kernel
theorem dX0_init_45 : decode cX0_init 45 = .ok (.putfield 29, 3) := by decide +kernel
theorem dX0_init_48 : decode cX0_init 48 = .ok (.aload_n 0, 1) := by decide +kernel
theorem dX0_init_49 : decode cX0_init 49 = .ok (.new 26, 3) := by decide +kernel
theorem dX0_init_52 : decode cX0_init 52 = .ok (.dup, 1) := by decide +kernel
theorem dX0_init_53 : decode cX0_init 53 = .ok (.invokespecial 28, 3) := by decide +kernel
theorem dX0_init_56 : decode cX0_init 56 = .ok (.putfield 33, 3) := by decide +kernel
theorem dX0_init_59 : decode cX0_init 59 = .ok (.aload_n 0, 1) := by decide +kernel
theorem dX0_init_60 : decode cX0_init 60 = .ok (.new 36, 3) := by decide +kernel
theorem dX0_init_63 : decode cX0_init 63 = .ok (.dup, 1) := by decide +kernel
theorem dX0_init_64 : decode cX0_init 64 = .ok (.invokespecial 38, 3) := by decide +kernel
theorem dX0_init_67 : decode cX0_init 67 = .ok (.putfield 39, 3) := by decide +kernel
theorem dX0_init_70 : decode cX0_init 70 = .ok (.aload_n 0, 1) := by decide +kernel
theorem dX0_init_71 : decode cX0_init 71 = .ok (.getstatic 43, 3) := by decide +kernel
theorem dX0_init_74 : decode cX0_init 74 = .ok (.putfield 49, 3) := by decide +kernel
theorem dX0_init_77 : decode cX0_init 77 = .ok (.return_, 1) := by decide +kernel
abbrev cX0_poke : ByteArray := prog_1_method_4_code
def yX0_poke : MethodName := ⟨RX0, "poke", "(II)Z"⟩
theorem dX0_poke_0 : decode cX0_poke 0 = .ok (.iload_n 1, 1) := by decide +kernel
theorem dX0_poke_1 : decode cX0_poke 1 = .ok (.invokestatic 52, 3) := by decide +kernel
theorem dX0_poke_4 : decode cX0_poke 4 = .ok (.ifCond .eq 13, 3) := by decide +kernel
theorem dX0_poke_7 : decode cX0_poke 7 = .ok (.aload_n 0, 1) := by decide +kernel
theorem dX0_poke_8 : decode cX0_poke 8 = .ok (.getfield 49, 3) := by decide +kernel
theorem dX0_poke_11 : decode cX0_poke 11 = .ok (.getstatic 43, 3) := by decide +kernel
theorem dX0_poke_14 : decode cX0_poke 14 = .ok (.if_acmp .eq 5, 3) := by decide +kernel
theorem dX0_poke_17 : decode cX0_poke 17 = .ok (.iconst 0, 1) := by decide +kernel
theorem dX0_poke_18 : decode cX0_poke 18 = .ok (.ireturn, 1) := by decide +kernel
theorem dX0_poke_19 : decode cX0_poke 19 = .ok (.aload_n 0, 1) := by decide +kernel
theorem dX0_poke_20 : decode cX0_poke 20 = .ok (.getfield 10, 3) := by decide +kernel
theorem dX0_poke_23 : decode cX0_poke 23 = .ok (.iload_n 1, 1) := by decide +kernel
theorem dX0_poke_24 : decode cX0_poke 24 = .ok (.iload_n 2, 1) := by decide +kernel
theorem dX0_poke_25 : decode cX0_poke 25 = .ok (.invokevirtual 56, 3) := by decide +kernel
theorem dX0_poke_28 : decode cX0_poke 28 = .ok (.iconst 1, 1) := by decide +kernel
theorem dX0_poke_29 : decode cX0_poke 29 = .ok (.ireturn, 1) := by decide +kernel
abbrev cX0_isAddress : ByteArray := prog_1_method_2_code
def yX0_isAddress : MethodName := ⟨RX0, "isAddress", "(I)Z"⟩
theorem dX0_isAddress_0 : decode cX0_isAddress 0 = .ok (.iload_n 0, 1) := by decide +kernel
theorem dX0_isAddress_1 : decode cX0_isAddress 1 = .ok (.ifCond .lt 13, 3) := by decide +kernel
theorem dX0_isAddress_4 : decode cX0_isAddress 4 = .ok (.iload_n 0, 1) := by decide +kernel
theorem dX0_isAddress_5 : decode cX0_isAddress 5 = .ok (.bipush 64, 2) := by decide +kernel
theorem dX0_isAddress_7 : decode cX0_isAddress 7 = .ok (.if_icmp .ge 7, 3) := by decide +kernel
theorem dX0_isAddress_10 : decode cX0_isAddress 10 = .ok (.iconst 1, 1) := by decide +kernel
theorem dX0_isAddress_11 : decode cX0_isAddress 11 = .ok (.goto 4, 3) := by decide +kernel
theorem dX0_isAddress_14 : decode cX0_isAddress 14 = .ok (.iconst 0, 1) := by decide +kernel
theorem dX0_isAddress_15 : decode cX0_isAddress 15 = .ok (.ireturn, 1) := by decide +kernel
abbrev cX0_begin : ByteArray := prog_1_method_5_code
def yX0_begin : MethodName := ⟨RX0, "begin", "(II)Z"⟩
theorem dX0_begin_0 : decode cX0_begin 0 = .ok (.iload_n 1, 1) := by decide +kernel
theorem dX0_begin_1 : decode cX0_begin 1 = .ok (.ifCond .lt 30, 3) := by decide +kernel
theorem dX0_begin_4 : decode cX0_begin 4 = .ok (.iload_n 1, 1) := by decide +kernel
theorem dX0_begin_5 : decode cX0_begin 5 = .ok (.bipush 8, 2) := by decide +kernel
theorem dX0_begin_7 : decode cX0_begin 7 = .ok (.if_icmp .gt 24, 3) := by decide +kernel
theorem dX0_begin_10 : decode cX0_begin 10 = .ok (.iload_n 2, 1) := by decide +kernel
theorem dX0_begin_11 : decode cX0_begin 11 = .ok (.iconst 1, 1) := by decide +kernel
theorem dX0_begin_12 : decode cX0_begin 12 = .ok (.if_icmp .lt 19, 3) := by decide +kernel
theorem dX0_begin_15 : decode cX0_begin 15 = .ok (.iload_n 2, 1) := by decide +kernel
theorem dX0_begin_16 : decode cX0_begin 16 = .ok (.bipush 20, 2) := by decide +kernel
theorem dX0_begin_18 : decode cX0_begin 18 = .ok (.if_icmp .gt 13, 3) := by decide +kernel
theorem dX0_begin_21 : decode cX0_begin 21 = .ok (.aload_n 0, 1) := by decide +kernel
theorem dX0_begin_22 : decode cX0_begin 22 = .ok (.getfield 49, 3) := by decide +kernel
theorem dX0_begin_25 : decode cX0_begin 25 = .ok (.getstatic 43, 3) := by decide +kernel
theorem dX0_begin_28 : decode cX0_begin 28 = .ok (.if_acmp .eq 5, 3) := by decide +kernel
theorem dX0_begin_31 : decode cX0_begin 31 = .ok (.iconst 0, 1) := by decide +kernel
theorem dX0_begin_32 : decode cX0_begin 32 = .ok (.ireturn, 1) := by decide +kernel
theorem dX0_begin_33 : decode cX0_begin 33 = .ok (.aload_n 0, 1) := by decide +kernel
theorem dX0_begin_34 : decode cX0_begin 34 = .ok (.iload_n 1, 1) := by decide +kernel
theorem dX0_begin_35 : decode cX0_begin 35 = .ok (.putfield 60, 3) := by decide +kernel
theorem dX0_begin_38 : decode cX0_begin 38 = .ok (.aload_n 0, 1) := by decide +kernel
theorem dX0_begin_39 : decode cX0_begin 39 = .ok (.iload_n 2, 1) := by decide +kernel
theorem dX0_begin_40 : decode cX0_begin 40 = .ok (.putfield 64, 3) := by decide +kernel
theorem dX0_begin_43 : decode cX0_begin 43 = .ok (.aload_n 0, 1) := by decide +kernel
theorem dX0_begin_44 : decode cX0_begin 44 = .ok (.iconst 1, 1) := by decide +kernel
theorem dX0_begin_45 : decode cX0_begin 45 = .ok (.putfield 67, 3) := by decide +kernel
theorem dX0_begin_48 : decode cX0_begin 48 = .ok (.aload_n 0, 1) := by decide +kernel
theorem dX0_begin_49 : decode cX0_begin 49 = .ok (.getstatic 70, 3) := by decide +kernel
theorem dX0_begin_52 : decode cX0_begin 52 = .ok (.putfield 49, 3) := by decide +kernel
theorem dX0_begin_55 : decode cX0_begin 55 = .ok (.aload_n 0, 1) := by decide +kernel
theorem dX0_begin_56 : decode cX0_begin 56 = .ok (.getfield 33, 3) := by decide +kernel
theorem dX0_begin_59 : decode cX0_begin 59 = .ok (.iconst 1, 1) := by decide +kernel
theorem dX0_begin_60 : decode cX0_begin 60 = .ok (.invokevirtual 73, 3) := by decide +kernel
theorem dX0_begin_63 : decode cX0_begin 63 = .ok (.aload_n 0, 1) := by decide +kernel
theorem dX0_begin_64 : decode cX0_begin 64 = .ok (.getfield 29, 3) := by decide +kernel
theorem dX0_begin_67 : decode cX0_begin 67 = .ok (.iconst 0, 1) := by decide +kernel
theorem dX0_begin_68 : decode cX0_begin 68 = .ok (.invokevirtual 73, 3) := by decide +kernel
theorem dX0_begin_71 : decode cX0_begin 71 = .ok (.iconst 1, 1) := by decide +kernel
theorem dX0_begin_72 : decode cX0_begin 72 = .ok (.ireturn, 1) := by decide +kernel
abbrev cX0_run : ByteArray := prog_1_method_6_code
def yX0_run : MethodName := ⟨RX0, "run", "(I)I"⟩
theorem dX0_run_0 : decode cX0_run 0 = .ok (.iload_n 1, 1) := by decide +kernel
theorem dX0_run_1 : decode cX0_run 1 = .ok (.ifCond .lt 20, 3) := by decide +kernel
theorem dX0_run_4 : decode cX0_run 4 = .ok (.iload_n 1, 1) := by decide +kernel
theorem dX0_run_5 : decode cX0_run 5 = .ok (.sipush 1000, 3) := by decide +kernel
theorem dX0_run_8 : decode cX0_run 8 = .ok (.if_icmp .gt 13, 3) := by decide +kernel
theorem dX0_run_11 : decode cX0_run 11 = .ok (.aload_n 0, 1) := by decide +kernel
theorem dX0_run_12 : decode cX0_run 12 = .ok (.getfield 49, 3) := by decide +kernel
theorem dX0_run_15 : decode cX0_run 15 = .ok (.getstatic 77, 3) := by decide +kernel
theorem dX0_run_18 : decode cX0_run 18 = .ok (.if_acmp .ne 5, 3) := by decide +kernel
theorem dX0_run_21 : decode cX0_run 21 = .ok (.iconst 0, 1) := by decide +kernel
theorem dX0_run_22 : decode cX0_run 22 = .ok (.ireturn, 1) := by decide +kernel
theorem dX0_run_23 : decode cX0_run 23 = .ok (.aload_n 0, 1) := by decide +kernel
theorem dX0_run_24 : decode cX0_run 24 = .ok (.getfield 49, 3) := by decide +kernel
theorem dX0_run_27 : decode cX0_run 27 = .ok (.getstatic 80, 3) := by decide +kernel
theorem dX0_run_30 : decode cX0_run 30 = .ok (.if_acmp .ne 10, 3) := by decide +kernel
theorem dX0_run_33 : decode cX0_run 33 = .ok (.aload_n 0, 1) := by decide +kernel
theorem dX0_run_34 : decode cX0_run 34 = .ok (.getfield 16, 3) := by decide +kernel
theorem dX0_run_37 : decode cX0_run 37 = .ok (.goto 7, 3) := by decide +kernel
theorem dX0_run_40 : decode cX0_run 40 = .ok (.aload_n 0, 1) := by decide +kernel
theorem dX0_run_41 : decode cX0_run 41 = .ok (.getfield 10, 3) := by decide +kernel
theorem dX0_run_44 : decode cX0_run 44 = .ok (.astore_n 2, 1) := by decide +kernel
theorem dX0_run_45 : decode cX0_run 45 = .ok (.aload_n 0, 1) := by decide +kernel
theorem dX0_run_46 : decode cX0_run 46 = .ok (.getfield 39, 3) := by decide +kernel
theorem dX0_run_49 : decode cX0_run 49 = .ok (.astore_n 3, 1) := by decide +kernel
theorem dX0_run_50 : decode cX0_run 50 = .ok (.aload_n 0, 1) := by decide +kernel
theorem dX0_run_51 : decode cX0_run 51 = .ok (.getfield 49, 3) := by decide +kernel
theorem dX0_run_54 : decode cX0_run 54 = .ok (.getstatic 70, 3) := by decide +kernel
theorem dX0_run_57 : decode cX0_run 57 = .ok (.if_acmp .ne 8, 3) := by decide +kernel
theorem dX0_run_60 : decode cX0_run 60 = .ok (.aload_n 0, 1) := by decide +kernel
theorem dX0_run_61 : decode cX0_run 61 = .ok (.getfield 29, 3) := by decide +kernel
theorem dX0_run_64 : decode cX0_run 64 = .ok (.astore_n 3, 1) := by decide +kernel
theorem dX0_run_65 : decode cX0_run 65 = .ok (.iconst 0, 1) := by decide +kernel
theorem dX0_run_66 : decode cX0_run 66 = .ok (.istore 4, 2) := by decide +kernel
theorem dX0_run_68 : decode cX0_run 68 = .ok (.iload 4, 2) := by decide +kernel
theorem dX0_run_70 : decode cX0_run 70 = .ok (.iload_n 1, 1) := by decide +kernel
theorem dX0_run_71 : decode cX0_run 71 = .ok (.if_icmp .ge 18, 3) := by decide +kernel
theorem dX0_run_74 : decode cX0_run 74 = .ok (.aload_n 0, 1) := by decide +kernel
theorem dX0_run_75 : decode cX0_run 75 = .ok (.getfield 22, 3) := by decide +kernel
theorem dX0_run_78 : decode cX0_run 78 = .ok (.aload_n 2, 1) := by decide +kernel
theorem dX0_run_79 : decode cX0_run 79 = .ok (.aload_n 3, 1) := by decide +kernel
theorem dX0_run_80 : decode cX0_run 80 = .ok (.invokevirtual 83, 3) := by decide +kernel
theorem dX0_run_83 : decode cX0_run 83 = .ok (.iinc 4 1, 3) := by decide +kernel
theorem dX0_run_86 : decode cX0_run 86 = .ok (.goto (-18), 3) := by decide +kernel
theorem dX0_run_89 : decode cX0_run 89 = .ok (.iload_n 1, 1) := by decide +kernel
theorem dX0_run_90 : decode cX0_run 90 = .ok (.ireturn, 1) := by decide +kernel
abbrev cX0_copy : ByteArray := prog_1_method_7_code
def yX0_copy : MethodName := ⟨RX0, "copy", "()I"⟩
theorem dX0_copy_0 : decode cX0_copy 0 = .ok (.aload_n 0, 1) := by decide +kernel
theorem dX0_copy_1 : decode cX0_copy 1 = .ok (.getfield 49, 3) := by decide +kernel
theorem dX0_copy_4 : decode cX0_copy 4 = .ok (.getstatic 43, 3) := by decide +kernel
theorem dX0_copy_7 : decode cX0_copy 7 = .ok (.if_acmp .eq 13, 3) := by decide +kernel
theorem dX0_copy_10 : decode cX0_copy 10 = .ok (.aload_n 0, 1) := by decide +kernel
theorem dX0_copy_11 : decode cX0_copy 11 = .ok (.getfield 49, 3) := by decide +kernel
theorem dX0_copy_14 : decode cX0_copy 14 = .ok (.getstatic 80, 3) := by decide +kernel
theorem dX0_copy_17 : decode cX0_copy 17 = .ok (.if_acmp .ne 5, 3) := by decide +kernel
theorem dX0_copy_20 : decode cX0_copy 20 = .ok (.iconst (-1), 1) := by decide +kernel
theorem dX0_copy_21 : decode cX0_copy 21 = .ok (.ireturn, 1) := by decide +kernel
theorem dX0_copy_22 : decode cX0_copy 22 = .ok (.aload_n 0, 1) := by decide +kernel
theorem dX0_copy_23 : decode cX0_copy 23 = .ok (.getfield 33, 3) := by decide +kernel
theorem dX0_copy_26 : decode cX0_copy 26 = .ok (.invokevirtual 87, 3) := by decide +kernel
theorem dX0_copy_29 : decode cX0_copy 29 = .ok (.istore_n 1, 1) := by decide +kernel
theorem dX0_copy_30 : decode cX0_copy 30 = .ok (.iload_n 1, 1) := by decide +kernel
theorem dX0_copy_31 : decode cX0_copy 31 = .ok (.ifCond .lt 17, 3) := by decide +kernel
theorem dX0_copy_34 : decode cX0_copy 34 = .ok (.aload_n 0, 1) := by decide +kernel
theorem dX0_copy_35 : decode cX0_copy 35 = .ok (.getfield 16, 3) := by decide +kernel
theorem dX0_copy_38 : decode cX0_copy 38 = .ok (.iload_n 1, 1) := by decide +kernel
theorem dX0_copy_39 : decode cX0_copy 39 = .ok (.aload_n 0, 1) := by decide +kernel
theorem dX0_copy_40 : decode cX0_copy 40 = .ok (.getfield 10, 3) := by decide +kernel
theorem dX0_copy_43 : decode cX0_copy 43 = .ok (.invokevirtual 91, 3) := by decide +kernel
theorem dX0_copy_46 : decode cX0_copy 46 = .ok (.iload_n 1, 1) := by decide +kernel
theorem dX0_copy_47 : decode cX0_copy 47 = .ok (.ireturn, 1) := by decide +kernel
theorem dX0_copy_48 : decode cX0_copy 48 = .ok (.aload_n 0, 1) := by decide +kernel
theorem dX0_copy_49 : decode cX0_copy 49 = .ok (.getfield 49, 3) := by decide +kernel
theorem dX0_copy_52 : decode cX0_copy 52 = .ok (.getstatic 77, 3) := by decide +kernel
theorem dX0_copy_55 : decode cX0_copy 55 = .ok (.if_acmp .ne 13, 3) := by decide +kernel
theorem dX0_copy_58 : decode cX0_copy 58 = .ok (.aload_n 0, 1) := by decide +kernel
theorem dX0_copy_59 : decode cX0_copy 59 = .ok (.getstatic 80, 3) := by decide +kernel
theorem dX0_copy_62 : decode cX0_copy 62 = .ok (.putfield 49, 3) := by decide +kernel
theorem dX0_copy_65 : decode cX0_copy 65 = .ok (.bipush 34, 2) := by decide +kernel
theorem dX0_copy_67 : decode cX0_copy 67 = .ok (.ireturn, 1) := by decide +kernel
theorem dX0_copy_68 : decode cX0_copy 68 = .ok (.aload_n 0, 1) := by decide +kernel
theorem dX0_copy_69 : decode cX0_copy 69 = .ok (.getfield 33, 3) := by decide +kernel
theorem dX0_copy_72 : decode cX0_copy 72 = .ok (.aload_n 0, 1) := by decide +kernel
theorem dX0_copy_73 : decode cX0_copy 73 = .ok (.getfield 29, 3) := by decide +kernel
theorem dX0_copy_76 : decode cX0_copy 76 = .ok (.invokevirtual 95, 3) := by decide +kernel
theorem dX0_copy_79 : decode cX0_copy 79 = .ok (.aload_n 0, 1) := by decide +kernel
theorem dX0_copy_80 : decode cX0_copy 80 = .ok (.getfield 29, 3) := by decide +kernel
theorem dX0_copy_83 : decode cX0_copy 83 = .ok (.invokevirtual 99, 3) := by decide +kernel
theorem dX0_copy_86 : decode cX0_copy 86 = .ok (.aload_n 0, 1) := by decide +kernel
theorem dX0_copy_87 : decode cX0_copy 87 = .ok (.getfield 60, 3) := by decide +kernel
theorem dX0_copy_90 : decode cX0_copy 90 = .ok (.if_icmp .le 14, 3) := by decide +kernel
theorem dX0_copy_93 : decode cX0_copy 93 = .ok (.aload_n 0, 1) := by decide +kernel
theorem dX0_copy_94 : decode cX0_copy 94 = .ok (.getfield 67, 3) := by decide +kernel
theorem dX0_copy_97 : decode cX0_copy 97 = .ok (.aload_n 0, 1) := by decide +kernel
theorem dX0_copy_98 : decode cX0_copy 98 = .ok (.getfield 64, 3) := by decide +kernel
theorem dX0_copy_101 : decode cX0_copy 101 = .ok (.if_icmp .ne 13, 3) := by decide +kernel
theorem dX0_copy_104 : decode cX0_copy 104 = .ok (.aload_n 0, 1) := by decide +kernel
theorem dX0_copy_105 : decode cX0_copy 105 = .ok (.getstatic 77, 3) := by decide +kernel
theorem dX0_copy_108 : decode cX0_copy 108 = .ok (.putfield 49, 3) := by decide +kernel
theorem dX0_copy_111 : decode cX0_copy 111 = .ok (.bipush 33, 2) := by decide +kernel
theorem dX0_copy_113 : decode cX0_copy 113 = .ok (.ireturn, 1) := by decide +kernel
theorem dX0_copy_114 : decode cX0_copy 114 = .ok (.aload_n 0, 1) := by decide +kernel
theorem dX0_copy_115 : decode cX0_copy 115 = .ok (.getfield 29, 3) := by decide +kernel
theorem dX0_copy_118 : decode cX0_copy 118 = .ok (.iconst 0, 1) := by decide +kernel
theorem dX0_copy_119 : decode cX0_copy 119 = .ok (.invokevirtual 73, 3) := by decide +kernel
theorem dX0_copy_122 : decode cX0_copy 122 = .ok (.aload_n 0, 1) := by decide +kernel
theorem dX0_copy_123 : decode cX0_copy 123 = .ok (.dup, 1) := by decide +kernel
theorem dX0_copy_124 : decode cX0_copy 124 = .ok (.getfield 67, 3) := by decide +kernel
theorem dX0_copy_127 : decode cX0_copy 127 = .ok (.iconst 1, 1) := by decide +kernel
theorem dX0_copy_128 : decode cX0_copy 128 = .ok (.iadd, 1) := by decide +kernel
theorem dX0_copy_129 : decode cX0_copy 129 = .ok (.putfield 67, 3) := by decide +kernel
theorem dX0_copy_132 : decode cX0_copy 132 = .ok (.bipush 32, 2) := by decide +kernel
theorem dX0_copy_134 : decode cX0_copy 134 = .ok (.ireturn, 1) := by decide +kernel
abbrev cX0_phase : ByteArray := prog_1_method_8_code
def yX0_phase : MethodName := ⟨RX0, "phase", "()I"⟩
theorem dX0_phase_0 : decode cX0_phase 0 = .ok (.aload_n 0, 1) := by decide +kernel
theorem dX0_phase_1 : decode cX0_phase 1 = .ok (.getfield 49, 3) := by decide +kernel
theorem dX0_phase_4 : decode cX0_phase 4 = .ok (.invokevirtual 102, 3) := by decide +kernel
theorem dX0_phase_7 : decode cX0_phase 7 = .ok (.ireturn, 1) := by decide +kernel
abbrev cX0_round : ByteArray := prog_1_method_9_code
def yX0_round : MethodName := ⟨RX0, "round", "()I"⟩
theorem dX0_round_0 : decode cX0_round 0 = .ok (.aload_n 0, 1) := by decide +kernel
theorem dX0_round_1 : decode cX0_round 1 = .ok (.getfield 67, 3) := by decide +kernel
theorem dX0_round_4 : decode cX0_round 4 = .ok (.ireturn, 1) := by decide +kernel
abbrev cX0_dirty : ByteArray := prog_1_method_10_code
def yX0_dirty : MethodName := ⟨RX0, "dirty", "(I)Z"⟩
theorem dX0_dirty_0 : decode cX0_dirty 0 = .ok (.iload_n 1, 1) := by decide +kernel
theorem dX0_dirty_1 : decode cX0_dirty 1 = .ok (.invokestatic 105, 3) := by decide +kernel
theorem dX0_dirty_4 : decode cX0_dirty 4 = .ok (.ifCond .eq 19, 3) := by decide +kernel
theorem dX0_dirty_7 : decode cX0_dirty 7 = .ok (.aload_n 0, 1) := by decide +kernel
theorem dX0_dirty_8 : decode cX0_dirty 8 = .ok (.getfield 29, 3) := by decide +kernel
theorem dX0_dirty_11 : decode cX0_dirty 11 = .ok (.getfield 108, 3) := by decide +kernel
theorem dX0_dirty_14 : decode cX0_dirty 14 = .ok (.iload_n 1, 1) := by decide +kernel
theorem dX0_dirty_15 : decode cX0_dirty 15 = .ok (.baload, 1) := by decide +kernel
theorem dX0_dirty_16 : decode cX0_dirty 16 = .ok (.ifCond .eq 7, 3) := by decide +kernel
theorem dX0_dirty_19 : decode cX0_dirty 19 = .ok (.iconst 1, 1) := by decide +kernel
theorem dX0_dirty_20 : decode cX0_dirty 20 = .ok (.goto 4, 3) := by decide +kernel
theorem dX0_dirty_23 : decode cX0_dirty 23 = .ok (.iconst 0, 1) := by decide +kernel
theorem dX0_dirty_24 : decode cX0_dirty 24 = .ok (.ireturn, 1) := by decide +kernel
abbrev cX0_isPage : ByteArray := prog_1_method_3_code
def yX0_isPage : MethodName := ⟨RX0, "isPage", "(I)Z"⟩
theorem dX0_isPage_0 : decode cX0_isPage 0 = .ok (.iload_n 0, 1) := by decide +kernel
theorem dX0_isPage_1 : decode cX0_isPage 1 = .ok (.ifCond .lt 13, 3) := by decide +kernel
theorem dX0_isPage_4 : decode cX0_isPage 4 = .ok (.iload_n 0, 1) := by decide +kernel
theorem dX0_isPage_5 : decode cX0_isPage 5 = .ok (.bipush 8, 2) := by decide +kernel
theorem dX0_isPage_7 : decode cX0_isPage 7 = .ok (.if_icmp .ge 7, 3) := by decide +kernel
theorem dX0_isPage_10 : decode cX0_isPage 10 = .ok (.iconst 1, 1) := by decide +kernel
theorem dX0_isPage_11 : decode cX0_isPage 11 = .ok (.goto 4, 3) := by decide +kernel
theorem dX0_isPage_14 : decode cX0_isPage 14 = .ok (.iconst 0, 1) := by decide +kernel
theorem dX0_isPage_15 : decode cX0_isPage 15 = .ok (.ireturn, 1) := by decide +kernel
abbrev cX0_waits : ByteArray := prog_1_method_11_code
def yX0_waits : MethodName := ⟨RX0, "waits", "(I)Z"⟩
theorem dX0_waits_0 : decode cX0_waits 0 = .ok (.iload_n 1, 1) := by decide +kernel
theorem dX0_waits_1 : decode cX0_waits 1 = .ok (.invokestatic 105, 3) := by decide +kernel
theorem dX0_waits_4 : decode cX0_waits 4 = .ok (.ifCond .eq 19, 3) := by decide +kernel
theorem dX0_waits_7 : decode cX0_waits 7 = .ok (.aload_n 0, 1) := by decide +kernel
theorem dX0_waits_8 : decode cX0_waits 8 = .ok (.getfield 33, 3) := by decide +kernel
theorem dX0_waits_11 : decode cX0_waits 11 = .ok (.getfield 108, 3) := by decide +kernel
theorem dX0_waits_14 : decode cX0_waits 14 = .ok (.iload_n 1, 1) := by decide +kernel
theorem dX0_waits_15 : decode cX0_waits 15 = .ok (.baload, 1) := by decide +kernel
theorem dX0_waits_16 : decode cX0_waits 16 = .ok (.ifCond .eq 7, 3) := by decide +kernel
theorem dX0_waits_19 : decode cX0_waits 19 = .ok (.iconst 1, 1) := by decide +kernel
theorem dX0_waits_20 : decode cX0_waits 20 = .ok (.goto 4, 3) := by decide +kernel
theorem dX0_waits_23 : decode cX0_waits 23 = .ok (.iconst 0, 1) := by decide +kernel
theorem dX0_waits_24 : decode cX0_waits 24 = .ok (.ireturn, 1) := by decide +kernel
abbrev cX0_source : ByteArray := prog_1_method_12_code
def yX0_source : MethodName := ⟨RX0, "source", "(I)I"⟩
theorem dX0_source_0 : decode cX0_source 0 = .ok (.iload_n 1, 1) := by decide +kernel
theorem dX0_source_1 : decode cX0_source 1 = .ok (.invokestatic 52, 3) := by decide +kernel
theorem dX0_source_4 : decode cX0_source 4 = .ok (.ifCond .eq 14, 3) := by decide +kernel
theorem dX0_source_7 : decode cX0_source 7 = .ok (.aload_n 0, 1) := by decide +kernel
theorem dX0_source_8 : decode cX0_source 8 = .ok (.getfield 10, 3) := by decide +kernel
theorem dX0_source_11 : decode cX0_source 11 = .ok (.iload_n 1, 1) := by decide +kernel
theorem dX0_source_12 : decode cX0_source 12 = .ok (.invokevirtual 112, 3) := by decide +kernel
theorem dX0_source_15 : decode cX0_source 15 = .ok (.goto 4, 3) := by decide +kernel
theorem dX0_source_18 : decode cX0_source 18 = .ok (.iconst 0, 1) := by decide +kernel
theorem dX0_source_19 : decode cX0_source 19 = .ok (.ireturn, 1) := by decide +kernel
abbrev cX0_destination : ByteArray := prog_1_method_13_code
def yX0_destination : MethodName := ⟨RX0, "destination", "(I)I"⟩
theorem dX0_destination_0 : decode cX0_destination 0 = .ok (.iload_n 1, 1) := by decide +kernel
theorem dX0_destination_1 : decode cX0_destination 1 = .ok (.invokestatic 52, 3) := by decide +kernel
theorem dX0_destination_4 : decode cX0_destination 4 = .ok (.ifCond .eq 14, 3) := by decide +kernel
theorem dX0_destination_7 : decode cX0_destination 7 = .ok (.aload_n 0, 1) := by decide +kernel
theorem dX0_destination_8 : decode cX0_destination 8 = .ok (.getfield 16, 3) := by decide +kernel
theorem dX0_destination_11 : decode cX0_destination 11 = .ok (.iload_n 1, 1) := by decide +kernel
theorem dX0_destination_12 : decode cX0_destination 12 = .ok (.invokevirtual 112, 3) := by decide +kernel
theorem dX0_destination_15 : decode cX0_destination 15 = .ok (.goto 4, 3) := by decide +kernel
theorem dX0_destination_18 : decode cX0_destination 18 = .ok (.iconst 0, 1) := by decide +kernel
theorem dX0_destination_19 : decode cX0_destination 19 = .ok (.ireturn, 1) := by decide +kernel
abbrev cX0_register : ByteArray := prog_1_method_14_code
def yX0_register : MethodName := ⟨RX0, "register", "(I)I"⟩
theorem dX0_register_0 : decode cX0_register 0 = .ok (.iload_n 1, 1) := by decide +kernel
theorem dX0_register_1 : decode cX0_register 1 = .ok (.ifCond .lt 8, 3) := by decide +kernel
theorem dX0_register_4 : decode cX0_register 4 = .ok (.iload_n 1, 1) := by decide +kernel
theorem dX0_register_5 : decode cX0_register 5 = .ok (.iconst 3, 1) := by decide +kernel
theorem dX0_register_6 : decode cX0_register 6 = .ok (.if_icmp .le 7, 3) := by decide +kernel
theorem dX0_register_9 : decode cX0_register 9 = .ok (.iconst 0, 1) := by decide +kernel
theorem dX0_register_10 : decode cX0_register 10 = .ok (.goto 12, 3) := by decide +kernel
theorem dX0_register_13 : decode cX0_register 13 = .ok (.aload_n 0, 1) := by decide +kernel
theorem dX0_register_14 : decode cX0_register 14 = .ok (.getfield 22, 3) := by decide +kernel
theorem dX0_register_17 : decode cX0_register 17 = .ok (.getfield 116, 3) := by decide +kernel
theorem dX0_register_20 : decode cX0_register 20 = .ok (.iload_n 1, 1) := by decide +kernel
theorem dX0_register_21 : decode cX0_register 21 = .ok (.iaload, 1) := by decide +kernel
theorem dX0_register_22 : decode cX0_register 22 = .ok (.ireturn, 1) := by decide +kernel
abbrev cX0_pc : ByteArray := prog_1_method_15_code
def yX0_pc : MethodName := ⟨RX0, "pc", "()I"⟩
theorem dX0_pc_0 : decode cX0_pc 0 = .ok (.aload_n 0, 1) := by decide +kernel
theorem dX0_pc_1 : decode cX0_pc 1 = .ok (.getfield 22, 3) := by decide +kernel
theorem dX0_pc_4 : decode cX0_pc 4 = .ok (.getfield 120, 3) := by decide +kernel
theorem dX0_pc_7 : decode cX0_pc 7 = .ok (.ireturn, 1) := by decide +kernel
abbrev cX0_shows : ByteArray := prog_1_method_16_code
def yX0_shows : MethodName := ⟨RX0, "shows", "()I"⟩
theorem dX0_shows_0 : decode cX0_shows 0 = .ok (.aload_n 0, 1) := by decide +kernel
theorem dX0_shows_1 : decode cX0_shows 1 = .ok (.getfield 22, 3) := by decide +kernel
theorem dX0_shows_4 : decode cX0_shows 4 = .ok (.getfield 123, 3) := by decide +kernel
theorem dX0_shows_7 : decode cX0_shows 7 = .ok (.ireturn, 1) := by decide +kernel
abbrev cX0_shown : ByteArray := prog_1_method_17_code
def yX0_shown : MethodName := ⟨RX0, "shown", "(I)I"⟩
theorem dX0_shown_0 : decode cX0_shown 0 = .ok (.iload_n 1, 1) := by decide +kernel
theorem dX0_shown_1 : decode cX0_shown 1 = .ok (.ifCond .lt 20, 3) := by decide +kernel
theorem dX0_shown_4 : decode cX0_shown 4 = .ok (.iload_n 1, 1) := by decide +kernel
theorem dX0_shown_5 : decode cX0_shown 5 = .ok (.bipush 8, 2) := by decide +kernel
theorem dX0_shown_7 : decode cX0_shown 7 = .ok (.if_icmp .ge 14, 3) := by decide +kernel
theorem dX0_shown_10 : decode cX0_shown 10 = .ok (.iload_n 1, 1) := by decide +kernel
theorem dX0_shown_11 : decode cX0_shown 11 = .ok (.aload_n 0, 1) := by decide +kernel
theorem dX0_shown_12 : decode cX0_shown 12 = .ok (.getfield 22, 3) := by decide +kernel
theorem dX0_shown_15 : decode cX0_shown 15 = .ok (.getfield 123, 3) := by decide +kernel
theorem dX0_shown_18 : decode cX0_shown 18 = .ok (.if_icmp .lt 5, 3) := by decide +kernel
theorem dX0_shown_21 : decode cX0_shown 21 = .ok (.iconst 0, 1) := by decide +kernel
theorem dX0_shown_22 : decode cX0_shown 22 = .ok (.ireturn, 1) := by decide +kernel
theorem dX0_shown_23 : decode cX0_shown 23 = .ok (.aload_n 0, 1) := by decide +kernel
theorem dX0_shown_24 : decode cX0_shown 24 = .ok (.getfield 22, 3) := by decide +kernel
theorem dX0_shown_27 : decode cX0_shown 27 = .ok (.getfield 126, 3) := by decide +kernel
theorem dX0_shown_30 : decode cX0_shown 30 = .ok (.aload_n 0, 1) := by decide +kernel
theorem dX0_shown_31 : decode cX0_shown 31 = .ok (.getfield 22, 3) := by decide +kernel
theorem dX0_shown_34 : decode cX0_shown 34 = .ok (.getfield 123, 3) := by decide +kernel
theorem dX0_shown_37 : decode cX0_shown 37 = .ok (.iconst 1, 1) := by decide +kernel
theorem dX0_shown_38 : decode cX0_shown 38 = .ok (.isub, 1) := by decide +kernel
theorem dX0_shown_39 : decode cX0_shown 39 = .ok (.iload_n 1, 1) := by decide +kernel
theorem dX0_shown_40 : decode cX0_shown 40 = .ok (.isub, 1) := by decide +kernel
theorem dX0_shown_41 : decode cX0_shown 41 = .ok (.bipush 8, 2) := by decide +kernel
theorem dX0_shown_43 : decode cX0_shown 43 = .ok (.irem, 1) := by decide +kernel
theorem dX0_shown_44 : decode cX0_shown 44 = .ok (.iaload, 1) := by decide +kernel
theorem dX0_shown_45 : decode cX0_shown 45 = .ok (.ireturn, 1) := by decide +kernel
theorem q2 : (Jvm.Cond.initialized "Migrator") ∈ lw_all := lw_g (lw_at lw_m1 1 rfl) rfl
theorem q12 : (Jvm.Cond.instantiable "Migrator" (10 : Nat)) ∈ lw_all := lw_g (lw_at lw_m1 11 rfl) rfl
theorem q14 : (Jvm.Cond.instanceMethod ({ cls := "Migrator", name := "<init>", desc := "()V" } : Jvm.MethodName)) ∈ lw_all := lw_g (lw_at lw_m1 13 rfl) rfl
theorem q15 : (Jvm.Cond.code ({ cls := "Migrator", name := "<init>", desc := "()V" } : Jvm.MethodName) prog_1_method_1_code (1 : Nat) (Option.none : Option Jvm.ClassFile.FieldType)) ∈ lw_all := lw_g (lw_at lw_m1 14 rfl) rfl
theorem q16 : (Jvm.Cond.methodLink "Migrator" (1 : Nat) ({ cls := "java/lang/Object", name := "<init>", desc := "()V" } : Jvm.MethodName)) ∈ lw_all := lw_g (lw_at lw_m1 15 rfl) rfl
theorem q19 : (Jvm.Cond.classLink "Migrator" (7 : Nat) "Migrator$Host") ∈ lw_all := lw_g (lw_at lw_m1 18 rfl) rfl
theorem q21 : (Jvm.Cond.methodLinkNest "Migrator" (9 : Nat) ({ cls := "Migrator$Host", name := "<init>", desc := "()V" } : Jvm.MethodName) "Migrator") ∈ lw_tbl := lw_at lw_m1 20 rfl
theorem q32 : (Jvm.Cond.classLink "Migrator" (19 : Nat) "Migrator$Guest") ∈ lw_all := lw_g (lw_at lw_m1 31 rfl) rfl
theorem q34 : (Jvm.Cond.methodLinkNest "Migrator" (21 : Nat) ({ cls := "Migrator$Guest", name := "<init>", desc := "()V" } : Jvm.MethodName) "Migrator") ∈ lw_tbl := lw_at lw_m1 33 rfl
theorem q39 : (Jvm.Cond.fieldLinkNest "Migrator" (116 : Nat) "Migrator$Guest" "registers" "[I" "Migrator") ∈ lw_tbl := lw_at lw_m1 38 rfl
theorem q41 : (Jvm.Cond.fieldLinkNest "Migrator" (126 : Nat) "Migrator$Guest" "shown" "[I" "Migrator") ∈ lw_tbl := lw_at lw_m1 40 rfl
theorem q43 : (Jvm.Cond.fieldLinkNest "Migrator" (120 : Nat) "Migrator$Guest" "pc" "I" "Migrator") ∈ lw_tbl := lw_at lw_m1 42 rfl
theorem q45 : (Jvm.Cond.fieldLinkNest "Migrator" (123 : Nat) "Migrator$Guest" "shows" "I" "Migrator") ∈ lw_tbl := lw_at lw_m1 44 rfl
theorem q55 : (Jvm.Cond.classLink "Migrator" (26 : Nat) "Migrator$Marks") ∈ lw_all := lw_g (lw_at lw_m1 54 rfl) rfl
theorem q57 : (Jvm.Cond.methodLinkNest "Migrator" (28 : Nat) ({ cls := "Migrator$Marks", name := "<init>", desc := "()V" } : Jvm.MethodName) "Migrator") ∈ lw_tbl := lw_at lw_m1 56 rfl
theorem q62 : (Jvm.Cond.fieldLinkNest "Migrator" (108 : Nat) "Migrator$Marks" "set" "[Z" "Migrator") ∈ lw_tbl := lw_at lw_m1 61 rfl
theorem q67 : (Jvm.Cond.classLink "Migrator" (36 : Nat) "Migrator$Nobody") ∈ lw_all := lw_g (lw_at lw_m1 66 rfl) rfl
theorem q69 : (Jvm.Cond.methodLinkNest "Migrator" (38 : Nat) ({ cls := "Migrator$Nobody", name := "<init>", desc := "()V" } : Jvm.MethodName) "Migrator") ∈ lw_tbl := lw_at lw_m1 68 rfl
theorem q77 : (Jvm.Cond.fieldLink "Migrator" (43 : Nat) "Migrator$Phase" "HOME" "LMigrator$Phase;") ∈ lw_all := lw_g (lw_at lw_m1 76 rfl) rfl
theorem q79 : (Jvm.Cond.fieldLink "Migrator" (10 : Nat) "Migrator" "source" "LMigrator$Host;") ∈ lw_all := lw_g (lw_at lw_m1 78 rfl) rfl
theorem q80 : (Jvm.Cond.fieldLink "Migrator" (16 : Nat) "Migrator" "destination" "LMigrator$Host;") ∈ lw_all := lw_g (lw_at lw_m1 79 rfl) rfl
theorem q81 : (Jvm.Cond.fieldLink "Migrator" (22 : Nat) "Migrator" "guest" "LMigrator$Guest;") ∈ lw_all := lw_g (lw_at lw_m1 80 rfl) rfl
theorem q82 : (Jvm.Cond.fieldLink "Migrator" (29 : Nat) "Migrator" "dirty" "LMigrator$Marks;") ∈ lw_all := lw_g (lw_at lw_m1 81 rfl) rfl
theorem q83 : (Jvm.Cond.fieldLink "Migrator" (33 : Nat) "Migrator" "waiting" "LMigrator$Marks;") ∈ lw_all := lw_g (lw_at lw_m1 82 rfl) rfl
theorem q84 : (Jvm.Cond.fieldLink "Migrator" (39 : Nat) "Migrator" "nobody" "LMigrator$Nobody;") ∈ lw_all := lw_g (lw_at lw_m1 83 rfl) rfl
theorem q85 : (Jvm.Cond.fieldLink "Migrator" (49 : Nat) "Migrator" "phase" "LMigrator$Phase;") ∈ lw_all := lw_g (lw_at lw_m1 84 rfl) rfl
theorem q86 : (Jvm.Cond.fieldLink "Migrator" (67 : Nat) "Migrator" "round" "I") ∈ lw_all := lw_g (lw_at lw_m1 85 rfl) rfl
theorem q87 : (Jvm.Cond.fieldLink "Migrator" (60 : Nat) "Migrator" "threshold" "I") ∈ lw_all := lw_g (lw_at lw_m1 86 rfl) rfl
theorem q88 : (Jvm.Cond.fieldLink "Migrator" (64 : Nat) "Migrator" "limit" "I") ∈ lw_all := lw_g (lw_at lw_m1 87 rfl) rfl
theorem q89 : (Jvm.Cond.laysFinal "Migrator" "Migrator" "source" "LMigrator$Host;") ∈ lw_all := lw_g (lw_at lw_m1 88 rfl) rfl
theorem q90 : (Jvm.Cond.soleField "Migrator" "source") ∈ lw_all := lw_g (lw_at lw_m1 89 rfl) rfl
theorem q91 : (Jvm.Cond.laysFinal "Migrator" "Migrator" "destination" "LMigrator$Host;") ∈ lw_all := lw_g (lw_at lw_m1 90 rfl) rfl
theorem q92 : (Jvm.Cond.soleField "Migrator" "destination") ∈ lw_all := lw_g (lw_at lw_m1 91 rfl) rfl
theorem q93 : (Jvm.Cond.laysFinal "Migrator" "Migrator" "guest" "LMigrator$Guest;") ∈ lw_all := lw_g (lw_at lw_m1 92 rfl) rfl
theorem q94 : (Jvm.Cond.soleField "Migrator" "guest") ∈ lw_all := lw_g (lw_at lw_m1 93 rfl) rfl
theorem q95 : (Jvm.Cond.laysFinal "Migrator" "Migrator" "dirty" "LMigrator$Marks;") ∈ lw_all := lw_g (lw_at lw_m1 94 rfl) rfl
theorem q96 : (Jvm.Cond.soleField "Migrator" "dirty") ∈ lw_all := lw_g (lw_at lw_m1 95 rfl) rfl
theorem q97 : (Jvm.Cond.laysFinal "Migrator" "Migrator" "waiting" "LMigrator$Marks;") ∈ lw_all := lw_g (lw_at lw_m1 96 rfl) rfl
theorem q98 : (Jvm.Cond.soleField "Migrator" "waiting") ∈ lw_all := lw_g (lw_at lw_m1 97 rfl) rfl
theorem q99 : (Jvm.Cond.laysFinal "Migrator" "Migrator" "nobody" "LMigrator$Nobody;") ∈ lw_all := lw_g (lw_at lw_m1 98 rfl) rfl
theorem q100 : (Jvm.Cond.soleField "Migrator" "nobody") ∈ lw_all := lw_g (lw_at lw_m1 99 rfl) rfl
theorem q101 : (Jvm.Cond.lays "Migrator" "Migrator" "phase" "LMigrator$Phase;") ∈ lw_all := lw_g (lw_at lw_m1 100 rfl) rfl
theorem q102 : (Jvm.Cond.soleField "Migrator" "phase") ∈ lw_all := lw_g (lw_at lw_m1 101 rfl) rfl
theorem q103 : (Jvm.Cond.lays "Migrator" "Migrator" "round" "I") ∈ lw_all := lw_g (lw_at lw_m1 102 rfl) rfl
theorem q104 : (Jvm.Cond.soleField "Migrator" "round") ∈ lw_all := lw_g (lw_at lw_m1 103 rfl) rfl
theorem q105 : (Jvm.Cond.lays "Migrator" "Migrator" "threshold" "I") ∈ lw_all := lw_g (lw_at lw_m1 104 rfl) rfl
theorem q106 : (Jvm.Cond.soleField "Migrator" "threshold") ∈ lw_all := lw_g (lw_at lw_m1 105 rfl) rfl
theorem q107 : (Jvm.Cond.lays "Migrator" "Migrator" "limit" "I") ∈ lw_all := lw_g (lw_at lw_m1 106 rfl) rfl
theorem q108 : (Jvm.Cond.soleField "Migrator" "limit") ∈ lw_all := lw_g (lw_at lw_m1 107 rfl) rfl
theorem q109 : (Jvm.Cond.superclass "Migrator" "java/lang/Object") ∈ lw_all := lw_g (lw_at lw_m1 108 rfl) rfl
theorem q111 : (Jvm.Cond.instanceMethod ({ cls := "Migrator", name := "poke", desc := "(II)Z" } : Jvm.MethodName)) ∈ lw_all := lw_g (lw_at lw_m1 110 rfl) rfl
theorem q112 : (Jvm.Cond.selects "Migrator" ({ cls := "Migrator", name := "poke", desc := "(II)Z" } : Jvm.MethodName) ({ cls := "Migrator", name := "poke", desc := "(II)Z" } : Jvm.MethodName)) ∈ lw_all := lw_g (lw_at lw_m1 111 rfl) rfl
theorem q113 : (Jvm.Cond.code ({ cls := "Migrator", name := "poke", desc := "(II)Z" } : Jvm.MethodName) prog_1_method_4_code (3 : Nat) (Option.some Jvm.ClassFile.FieldType.boolean)) ∈ lw_all := lw_g (lw_at lw_m1 112 rfl) rfl
theorem q114 : (Jvm.Cond.methodLink "Migrator" (52 : Nat) ({ cls := "Migrator", name := "isAddress", desc := "(I)Z" } : Jvm.MethodName)) ∈ lw_all := lw_g (lw_at lw_m1 113 rfl) rfl
theorem q115 : (Jvm.Cond.static ({ cls := "Migrator", name := "isAddress", desc := "(I)Z" } : Jvm.MethodName)) ∈ lw_all := lw_g (lw_at lw_m1 114 rfl) rfl
theorem q116 : (Jvm.Cond.code ({ cls := "Migrator", name := "isAddress", desc := "(I)Z" } : Jvm.MethodName) prog_1_method_2_code (1 : Nat) (Option.some Jvm.ClassFile.FieldType.boolean)) ∈ lw_all := lw_g (lw_at lw_m1 115 rfl) rfl
theorem q117 : (Jvm.Cond.methodLink "Migrator" (56 : Nat) ({ cls := "Migrator$Host", name := "put", desc := "(II)V" } : Jvm.MethodName)) ∈ lw_all := lw_g (lw_at lw_m1 116 rfl) rfl
theorem q122 : (Jvm.Cond.instanceMethod ({ cls := "Migrator", name := "begin", desc := "(II)Z" } : Jvm.MethodName)) ∈ lw_all := lw_g (lw_at lw_m1 121 rfl) rfl
theorem q123 : (Jvm.Cond.selects "Migrator" ({ cls := "Migrator", name := "begin", desc := "(II)Z" } : Jvm.MethodName) ({ cls := "Migrator", name := "begin", desc := "(II)Z" } : Jvm.MethodName)) ∈ lw_all := lw_g (lw_at lw_m1 122 rfl) rfl
theorem q124 : (Jvm.Cond.code ({ cls := "Migrator", name := "begin", desc := "(II)Z" } : Jvm.MethodName) prog_1_method_5_code (3 : Nat) (Option.some Jvm.ClassFile.FieldType.boolean)) ∈ lw_all := lw_g (lw_at lw_m1 123 rfl) rfl
theorem q125 : (Jvm.Cond.fieldLink "Migrator" (70 : Nat) "Migrator$Phase" "COPYING" "LMigrator$Phase;") ∈ lw_all := lw_g (lw_at lw_m1 124 rfl) rfl
theorem q127 : (Jvm.Cond.methodLink "Migrator" (73 : Nat) ({ cls := "Migrator$Marks", name := "fill", desc := "(Z)V" } : Jvm.MethodName)) ∈ lw_all := lw_g (lw_at lw_m1 126 rfl) rfl
theorem q132 : (Jvm.Cond.instanceMethod ({ cls := "Migrator", name := "run", desc := "(I)I" } : Jvm.MethodName)) ∈ lw_all := lw_g (lw_at lw_m1 131 rfl) rfl
theorem q133 : (Jvm.Cond.selects "Migrator" ({ cls := "Migrator", name := "run", desc := "(I)I" } : Jvm.MethodName) ({ cls := "Migrator", name := "run", desc := "(I)I" } : Jvm.MethodName)) ∈ lw_all := lw_g (lw_at lw_m1 132 rfl) rfl
theorem q134 : (Jvm.Cond.code ({ cls := "Migrator", name := "run", desc := "(I)I" } : Jvm.MethodName) prog_1_method_6_code (5 : Nat) (Option.some Jvm.ClassFile.FieldType.int)) ∈ lw_all := lw_g (lw_at lw_m1 133 rfl) rfl
theorem q135 : (Jvm.Cond.fieldLink "Migrator" (77 : Nat) "Migrator$Phase" "STOPPED" "LMigrator$Phase;") ∈ lw_all := lw_g (lw_at lw_m1 134 rfl) rfl
theorem q137 : (Jvm.Cond.fieldLink "Migrator" (80 : Nat) "Migrator$Phase" "MOVED" "LMigrator$Phase;") ∈ lw_all := lw_g (lw_at lw_m1 136 rfl) rfl
theorem q139 : (Jvm.Cond.methodLink "Migrator" (83 : Nat) ({ cls := "Migrator$Guest", name := "step", desc := "(LMigrator$Host;LMigrator$Watcher;)V" } : Jvm.MethodName)) ∈ lw_all := lw_g (lw_at lw_m1 138 rfl) rfl
theorem q165 : (Jvm.Cond.instanceMethod ({ cls := "Migrator", name := "copy", desc := "()I" } : Jvm.MethodName)) ∈ lw_all := lw_g (lw_at lw_m1 164 rfl) rfl
theorem q166 : (Jvm.Cond.selects "Migrator" ({ cls := "Migrator", name := "copy", desc := "()I" } : Jvm.MethodName) ({ cls := "Migrator", name := "copy", desc := "()I" } : Jvm.MethodName)) ∈ lw_all := lw_g (lw_at lw_m1 165 rfl) rfl
theorem q167 : (Jvm.Cond.code ({ cls := "Migrator", name := "copy", desc := "()I" } : Jvm.MethodName) prog_1_method_7_code (2 : Nat) (Option.some Jvm.ClassFile.FieldType.int)) ∈ lw_all := lw_g (lw_at lw_m1 166 rfl) rfl
theorem q168 : (Jvm.Cond.methodLink "Migrator" (87 : Nat) ({ cls := "Migrator$Marks", name := "takeFirst", desc := "()I" } : Jvm.MethodName)) ∈ lw_all := lw_g (lw_at lw_m1 167 rfl) rfl
theorem q172 : (Jvm.Cond.methodLink "Migrator" (91 : Nat) ({ cls := "Migrator$Host", name := "takePage", desc := "(ILMigrator$Host;)V" } : Jvm.MethodName)) ∈ lw_all := lw_g (lw_at lw_m1 171 rfl) rfl
theorem q176 : (Jvm.Cond.methodLink "Migrator" (95 : Nat) ({ cls := "Migrator$Marks", name := "copy", desc := "(LMigrator$Marks;)V" } : Jvm.MethodName)) ∈ lw_all := lw_g (lw_at lw_m1 175 rfl) rfl
theorem q180 : (Jvm.Cond.methodLink "Migrator" (99 : Nat) ({ cls := "Migrator$Marks", name := "count", desc := "()I" } : Jvm.MethodName)) ∈ lw_all := lw_g (lw_at lw_m1 179 rfl) rfl
theorem q185 : (Jvm.Cond.instanceMethod ({ cls := "Migrator", name := "phase", desc := "()I" } : Jvm.MethodName)) ∈ lw_all := lw_g (lw_at lw_m1 184 rfl) rfl
theorem q186 : (Jvm.Cond.selects "Migrator" ({ cls := "Migrator", name := "phase", desc := "()I" } : Jvm.MethodName) ({ cls := "Migrator", name := "phase", desc := "()I" } : Jvm.MethodName)) ∈ lw_all := lw_g (lw_at lw_m1 185 rfl) rfl
theorem q187 : (Jvm.Cond.code ({ cls := "Migrator", name := "phase", desc := "()I" } : Jvm.MethodName) prog_1_method_8_code (1 : Nat) (Option.some Jvm.ClassFile.FieldType.int)) ∈ lw_all := lw_g (lw_at lw_m1 186 rfl) rfl
theorem q188 : (Jvm.Cond.methodLink "Migrator" (102 : Nat) ({ cls := "Migrator$Phase", name := "ordinal", desc := "()I" } : Jvm.MethodName)) ∈ lw_all := lw_g (lw_at lw_m1 187 rfl) rfl
theorem q195 : (Jvm.Cond.instanceMethod ({ cls := "Migrator", name := "round", desc := "()I" } : Jvm.MethodName)) ∈ lw_all := lw_g (lw_at lw_m1 194 rfl) rfl
theorem q196 : (Jvm.Cond.selects "Migrator" ({ cls := "Migrator", name := "round", desc := "()I" } : Jvm.MethodName) ({ cls := "Migrator", name := "round", desc := "()I" } : Jvm.MethodName)) ∈ lw_all := lw_g (lw_at lw_m1 195 rfl) rfl
theorem q197 : (Jvm.Cond.code ({ cls := "Migrator", name := "round", desc := "()I" } : Jvm.MethodName) prog_1_method_9_code (1 : Nat) (Option.some Jvm.ClassFile.FieldType.int)) ∈ lw_all := lw_g (lw_at lw_m1 196 rfl) rfl
theorem q199 : (Jvm.Cond.instanceMethod ({ cls := "Migrator", name := "dirty", desc := "(I)Z" } : Jvm.MethodName)) ∈ lw_all := lw_g (lw_at lw_m1 198 rfl) rfl
theorem q200 : (Jvm.Cond.selects "Migrator" ({ cls := "Migrator", name := "dirty", desc := "(I)Z" } : Jvm.MethodName) ({ cls := "Migrator", name := "dirty", desc := "(I)Z" } : Jvm.MethodName)) ∈ lw_all := lw_g (lw_at lw_m1 199 rfl) rfl
theorem q201 : (Jvm.Cond.code ({ cls := "Migrator", name := "dirty", desc := "(I)Z" } : Jvm.MethodName) prog_1_method_10_code (2 : Nat) (Option.some Jvm.ClassFile.FieldType.boolean)) ∈ lw_all := lw_g (lw_at lw_m1 200 rfl) rfl
theorem q202 : (Jvm.Cond.methodLink "Migrator" (105 : Nat) ({ cls := "Migrator", name := "isPage", desc := "(I)Z" } : Jvm.MethodName)) ∈ lw_all := lw_g (lw_at lw_m1 201 rfl) rfl
theorem q203 : (Jvm.Cond.static ({ cls := "Migrator", name := "isPage", desc := "(I)Z" } : Jvm.MethodName)) ∈ lw_all := lw_g (lw_at lw_m1 202 rfl) rfl
theorem q204 : (Jvm.Cond.code ({ cls := "Migrator", name := "isPage", desc := "(I)Z" } : Jvm.MethodName) prog_1_method_3_code (1 : Nat) (Option.some Jvm.ClassFile.FieldType.boolean)) ∈ lw_all := lw_g (lw_at lw_m1 203 rfl) rfl
theorem q206 : (Jvm.Cond.instanceMethod ({ cls := "Migrator", name := "waits", desc := "(I)Z" } : Jvm.MethodName)) ∈ lw_all := lw_g (lw_at lw_m1 205 rfl) rfl
theorem q207 : (Jvm.Cond.selects "Migrator" ({ cls := "Migrator", name := "waits", desc := "(I)Z" } : Jvm.MethodName) ({ cls := "Migrator", name := "waits", desc := "(I)Z" } : Jvm.MethodName)) ∈ lw_all := lw_g (lw_at lw_m1 206 rfl) rfl
theorem q208 : (Jvm.Cond.code ({ cls := "Migrator", name := "waits", desc := "(I)Z" } : Jvm.MethodName) prog_1_method_11_code (2 : Nat) (Option.some Jvm.ClassFile.FieldType.boolean)) ∈ lw_all := lw_g (lw_at lw_m1 207 rfl) rfl
theorem q210 : (Jvm.Cond.instanceMethod ({ cls := "Migrator", name := "source", desc := "(I)I" } : Jvm.MethodName)) ∈ lw_all := lw_g (lw_at lw_m1 209 rfl) rfl
theorem q211 : (Jvm.Cond.selects "Migrator" ({ cls := "Migrator", name := "source", desc := "(I)I" } : Jvm.MethodName) ({ cls := "Migrator", name := "source", desc := "(I)I" } : Jvm.MethodName)) ∈ lw_all := lw_g (lw_at lw_m1 210 rfl) rfl
theorem q212 : (Jvm.Cond.code ({ cls := "Migrator", name := "source", desc := "(I)I" } : Jvm.MethodName) prog_1_method_12_code (2 : Nat) (Option.some Jvm.ClassFile.FieldType.int)) ∈ lw_all := lw_g (lw_at lw_m1 211 rfl) rfl
theorem q213 : (Jvm.Cond.methodLink "Migrator" (112 : Nat) ({ cls := "Migrator$Host", name := "word", desc := "(I)I" } : Jvm.MethodName)) ∈ lw_all := lw_g (lw_at lw_m1 212 rfl) rfl
theorem q215 : (Jvm.Cond.instanceMethod ({ cls := "Migrator", name := "destination", desc := "(I)I" } : Jvm.MethodName)) ∈ lw_all := lw_g (lw_at lw_m1 214 rfl) rfl
theorem q216 : (Jvm.Cond.selects "Migrator" ({ cls := "Migrator", name := "destination", desc := "(I)I" } : Jvm.MethodName) ({ cls := "Migrator", name := "destination", desc := "(I)I" } : Jvm.MethodName)) ∈ lw_all := lw_g (lw_at lw_m1 215 rfl) rfl
theorem q217 : (Jvm.Cond.code ({ cls := "Migrator", name := "destination", desc := "(I)I" } : Jvm.MethodName) prog_1_method_13_code (2 : Nat) (Option.some Jvm.ClassFile.FieldType.int)) ∈ lw_all := lw_g (lw_at lw_m1 216 rfl) rfl
theorem q219 : (Jvm.Cond.instanceMethod ({ cls := "Migrator", name := "register", desc := "(I)I" } : Jvm.MethodName)) ∈ lw_all := lw_g (lw_at lw_m1 218 rfl) rfl
theorem q220 : (Jvm.Cond.selects "Migrator" ({ cls := "Migrator", name := "register", desc := "(I)I" } : Jvm.MethodName) ({ cls := "Migrator", name := "register", desc := "(I)I" } : Jvm.MethodName)) ∈ lw_all := lw_g (lw_at lw_m1 219 rfl) rfl
theorem q221 : (Jvm.Cond.code ({ cls := "Migrator", name := "register", desc := "(I)I" } : Jvm.MethodName) prog_1_method_14_code (2 : Nat) (Option.some Jvm.ClassFile.FieldType.int)) ∈ lw_all := lw_g (lw_at lw_m1 220 rfl) rfl
theorem q223 : (Jvm.Cond.instanceMethod ({ cls := "Migrator", name := "pc", desc := "()I" } : Jvm.MethodName)) ∈ lw_all := lw_g (lw_at lw_m1 222 rfl) rfl
theorem q224 : (Jvm.Cond.selects "Migrator" ({ cls := "Migrator", name := "pc", desc := "()I" } : Jvm.MethodName) ({ cls := "Migrator", name := "pc", desc := "()I" } : Jvm.MethodName)) ∈ lw_all := lw_g (lw_at lw_m1 223 rfl) rfl
theorem q225 : (Jvm.Cond.code ({ cls := "Migrator", name := "pc", desc := "()I" } : Jvm.MethodName) prog_1_method_15_code (1 : Nat) (Option.some Jvm.ClassFile.FieldType.int)) ∈ lw_all := lw_g (lw_at lw_m1 224 rfl) rfl
theorem q227 : (Jvm.Cond.instanceMethod ({ cls := "Migrator", name := "shows", desc := "()I" } : Jvm.MethodName)) ∈ lw_all := lw_g (lw_at lw_m1 226 rfl) rfl
theorem q228 : (Jvm.Cond.selects "Migrator" ({ cls := "Migrator", name := "shows", desc := "()I" } : Jvm.MethodName) ({ cls := "Migrator", name := "shows", desc := "()I" } : Jvm.MethodName)) ∈ lw_all := lw_g (lw_at lw_m1 227 rfl) rfl
theorem q229 : (Jvm.Cond.code ({ cls := "Migrator", name := "shows", desc := "()I" } : Jvm.MethodName) prog_1_method_16_code (1 : Nat) (Option.some Jvm.ClassFile.FieldType.int)) ∈ lw_all := lw_g (lw_at lw_m1 228 rfl) rfl
theorem q231 : (Jvm.Cond.instanceMethod ({ cls := "Migrator", name := "shown", desc := "(I)I" } : Jvm.MethodName)) ∈ lw_all := lw_g (lw_at lw_m1 230 rfl) rfl
theorem q232 : (Jvm.Cond.selects "Migrator" ({ cls := "Migrator", name := "shown", desc := "(I)I" } : Jvm.MethodName) ({ cls := "Migrator", name := "shown", desc := "(I)I" } : Jvm.MethodName)) ∈ lw_all := lw_g (lw_at lw_m1 231 rfl) rfl
theorem q233 : (Jvm.Cond.code ({ cls := "Migrator", name := "shown", desc := "(I)I" } : Jvm.MethodName) prog_1_method_17_code (2 : Nat) (Option.some Jvm.ClassFile.FieldType.int)) ∈ lw_all := lw_g (lw_at lw_m1 232 rfl) rfl
theorem in_X0 : ∀ w ∈ wsX00, w ∈ lw_all := lw_in wsX00 [89, 91, 93, 95, 97, 99, 101, 103, 105, 107] (by decide +kernel) (by decide +kernel)
end
section
/-! MigratorModel -/
set_option maxRecDepth 100000
def RX5 : String := "MigratorModel"
def TX5 : u_T := fun k => match k with
  | 0 => ("MigratorModel", "real", "[I", true)
  | 1 => ("MigratorModel", "kept", "[I", true)
  | 2 => ("MigratorModel", "copied", "[I", true)
  | 3 => ("MigratorModel", "reg", "[I", true)
  | 4 => ("MigratorModel", "written", "[J", true)
  | 5 => ("MigratorModel", "want", "[Z", true)
  | 6 => ("MigratorModel", "left", "[Z", true)
  | 7 => ("MigratorModel", "told", "[I", true)
  | 8 => ("MigratorModel", "pc", "I", false)
  | 9 => ("MigratorModel", "phase", "I", false)
  | 10 => ("MigratorModel", "round", "I", false)
  | 11 => ("MigratorModel", "threshold", "I", false)
  | 12 => ("MigratorModel", "limit", "I", false)
  | 13 => ("MigratorModel", "shows", "I", false)
  | 14 => ("MigratorModel", "time", "J", false)
  | _ => ("MigratorModel", "since", "J", false)
def tyX5 : Nat → FieldType := fun k => match k with
  | 0 => .array .int
  | 1 => .array .int
  | 2 => .array .int
  | 3 => .array .int
  | 4 => .array .long
  | 5 => .array .boolean
  | 6 => .array .boolean
  | 7 => .array .int
  | 8 => .int
  | 9 => .int
  | 10 => .int
  | 11 => .int
  | 12 => .int
  | 13 => .int
  | 14 => .long
  | _ => .long
abbrev wsX50 : List Cond := u_ws RX5 TX5 16
set_option maxRecDepth 100000 in
theorem nmX5 : ∀ a, a < 16 → ∀ b, b < 16 → a ≠ b → (TX5 a).2.1 ≠ (TX5 b).2.1 := by decide +kernel
set_option maxRecDepth 100000 in
theorem tyX5_ok : ∀ k, k < 16 → parseFieldDescriptor (TX5 k).2.2.1 = some (tyX5 k) := by decide +kernel
abbrev cX5_init : ByteArray := prog_9_method_1_code
def yX5_init : MethodName := ⟨RX5, "<init>", "()V"⟩
theorem dX5_init_0 : decode cX5_init 0 = .ok (.aload_n 0, 1) := by decide +kernel
theorem dX5_init_1 : decode cX5_init 1 = .ok (.invokespecial 1, 3) := by decide +kernel
theorem dX5_init_4 : decode cX5_init 4 = .ok (.aload_n 0, 1) := by decide +kernel
theorem dX5_init_5 : decode cX5_init 5 = .ok (.bipush 64, 2) := by decide +kernel
theorem dX5_init_7 : decode cX5_init 7 = .ok (.newarray .int, 2) := by decide +kernel
theorem dX5_init_9 : decode cX5_init 9 = .ok (.putfield 7, 3) := by decide +kernel
theorem dX5_init_12 : decode cX5_init 12 = .ok (.aload_n 0, 1) := by decide +kernel
theorem dX5_init_13 : decode cX5_init 13 = .ok (.bipush 64, 2) := by decide +kernel
theorem dX5_init_15 : decode cX5_init 15 = .ok (.newarray .int, 2) := by decide +kernel
theorem dX5_init_17 : decode cX5_init 17 = .ok (.putfield 13, 3) := by decide +kernel
theorem dX5_init_20 : decode cX5_init 20 = .ok (.aload_n 0, 1) := by decide +kernel
theorem dX5_init_21 : decode cX5_init 21 = .ok (.bipush 64, 2) := by decide +kernel
theorem dX5_init_23 : decode cX5_init 23 = .ok (.newarray .int, 2) := by decide +kernel
theorem dX5_init_25 : decode cX5_init 25 = .ok (.putfield 16, 3) := by decide +kernel
theorem dX5_init_28 : decode cX5_init 28 = .ok (.aload_n 0, 1) := by decide +kernel
theorem dX5_init_29 : decode cX5_init 29 = .ok (.iconst 4, 1) := by decide +kernel
theorem dX5_init_30 : decode cX5_init 30 = .ok (.newarray .int, 2) := by decide +kernel
theorem dX5_init_32 : decode cX5_init 32 = .ok (.putfield 19, 3) := by decide +kernel
theorem dX5_init_35 : decode cX5_init 35 = .ok (.aload_n 0, 1) := by decide +kernel
theorem dX5_init_36 : decode cX5_init 36 = .ok (.bipush 8, 2) := by decide +kernel
theorem dX5_init_38 : decode cX5_init 38 = .ok (.newarray .long, 2) := by decide +kernel
theorem dX5_init_40 : decode cX5_init 40 = .ok (.putfield 22, 3) := by decide +kernel
theorem dX5_init_43 : decode cX5_init 43 = .ok (.aload_n 0, 1) := by decide +kernel
theorem dX5_init_44 : decode cX5_init 44 = .ok (.bipush 8, 2) := by decide +kernel
theorem dX5_init_46 : decode cX5_init 46 = .ok (.newarray .boolean, 2) := by decide +kernel
theorem dX5_init_48 : decode cX5_init 48 = .ok (.putfield 26, 3) := by decide +kernel
theorem dX5_init_51 : decode cX5_init 51 = .ok (.aload_n 0, 1) := by decide +kernel
theorem dX5_init_52 : decode cX5_init 52 = .ok (.bipush 8, 2) := by decide +kernel
theorem dX5_init_54 : decode cX5_init 54 = .ok (.newarray .boolean, 2) := by decide +kernel
theorem dX5_init_56 : decode cX5_init 56 = .ok (.putfield 30, 3) := by decide +kernel
theorem dX5_init_59 : decode cX5_init 59 = .ok (.aload_n 0, 1) := by decide +kernel
theorem dX5_init_60 : decode cX5_init 60 = .ok (.bipush 8, 2) := by decide +kernel
theorem dX5_init_62 : decode cX5_init 62 = .ok (.newarray .int, 2) := by decide +kernel
theorem dX5_init_64 : decode cX5_init 64 = .ok (.putfield 33, 3) := by decide +kernel
theorem dX5_init_67 : decode cX5_init 67 = .ok (.aload_n 0, 1) := by decide +kernel
theorem dX5_init_68 : decode cX5_init 68 = .ok (.iconst 0, 1) := by decide +kernel
theorem dX5_init_69 : decode cX5_init 69 = .ok (.putfield 36, 3) := by decide +kernel
theorem dX5_init_72 : decode cX5_init 72 = .ok (.return_, 1) := by decide +kernel
abbrev cX5_poke : ByteArray := prog_9_method_2_code
def yX5_poke : MethodName := ⟨RX5, "poke", "(II)Z"⟩
theorem dX5_poke_0 : decode cX5_poke 0 = .ok (.iload_n 1, 1) := by decide +kernel
theorem dX5_poke_1 : decode cX5_poke 1 = .ok (.ifCond .lt 16, 3) := by decide +kernel
theorem dX5_poke_4 : decode cX5_poke 4 = .ok (.iload_n 1, 1) := by decide +kernel
theorem dX5_poke_5 : decode cX5_poke 5 = .ok (.bipush 63, 2) := by decide +kernel
theorem dX5_poke_7 : decode cX5_poke 7 = .ok (.if_icmp .gt 10, 3) := by decide +kernel
theorem dX5_poke_10 : decode cX5_poke 10 = .ok (.aload_n 0, 1) := by decide +kernel
theorem dX5_poke_11 : decode cX5_poke 11 = .ok (.getfield 36, 3) := by decide +kernel
theorem dX5_poke_14 : decode cX5_poke 14 = .ok (.ifCond .eq 5, 3) := by decide +kernel
theorem dX5_poke_17 : decode cX5_poke 17 = .ok (.iconst 0, 1) := by decide +kernel
theorem dX5_poke_18 : decode cX5_poke 18 = .ok (.ireturn, 1) := by decide +kernel
theorem dX5_poke_19 : decode cX5_poke 19 = .ok (.aload_n 0, 1) := by decide +kernel
theorem dX5_poke_20 : decode cX5_poke 20 = .ok (.getfield 7, 3) := by decide +kernel
theorem dX5_poke_23 : decode cX5_poke 23 = .ok (.iload_n 1, 1) := by decide +kernel
theorem dX5_poke_24 : decode cX5_poke 24 = .ok (.iload_n 2, 1) := by decide +kernel
theorem dX5_poke_25 : decode cX5_poke 25 = .ok (.iastore, 1) := by decide +kernel
theorem dX5_poke_26 : decode cX5_poke 26 = .ok (.iconst 1, 1) := by decide +kernel
theorem dX5_poke_27 : decode cX5_poke 27 = .ok (.ireturn, 1) := by decide +kernel
abbrev cX5_begin : ByteArray := prog_9_method_3_code
def yX5_begin : MethodName := ⟨RX5, "begin", "(II)Z"⟩
theorem dX5_begin_0 : decode cX5_begin 0 = .ok (.iload_n 1, 1) := by decide +kernel
theorem dX5_begin_1 : decode cX5_begin 1 = .ok (.ifCond .lt 27, 3) := by decide +kernel
theorem dX5_begin_4 : decode cX5_begin 4 = .ok (.iload_n 1, 1) := by decide +kernel
theorem dX5_begin_5 : decode cX5_begin 5 = .ok (.bipush 8, 2) := by decide +kernel
theorem dX5_begin_7 : decode cX5_begin 7 = .ok (.if_icmp .gt 21, 3) := by decide +kernel
theorem dX5_begin_10 : decode cX5_begin 10 = .ok (.iload_n 2, 1) := by decide +kernel
theorem dX5_begin_11 : decode cX5_begin 11 = .ok (.iconst 1, 1) := by decide +kernel
theorem dX5_begin_12 : decode cX5_begin 12 = .ok (.if_icmp .lt 16, 3) := by decide +kernel
theorem dX5_begin_15 : decode cX5_begin 15 = .ok (.iload_n 2, 1) := by decide +kernel
theorem dX5_begin_16 : decode cX5_begin 16 = .ok (.bipush 20, 2) := by decide +kernel
theorem dX5_begin_18 : decode cX5_begin 18 = .ok (.if_icmp .gt 10, 3) := by decide +kernel
theorem dX5_begin_21 : decode cX5_begin 21 = .ok (.aload_n 0, 1) := by decide +kernel
theorem dX5_begin_22 : decode cX5_begin 22 = .ok (.getfield 36, 3) := by decide +kernel
theorem dX5_begin_25 : decode cX5_begin 25 = .ok (.ifCond .eq 5, 3) := by decide +kernel
theorem dX5_begin_28 : decode cX5_begin 28 = .ok (.iconst 0, 1) := by decide +kernel
theorem dX5_begin_29 : decode cX5_begin 29 = .ok (.ireturn, 1) := by decide +kernel
theorem dX5_begin_30 : decode cX5_begin 30 = .ok (.aload_n 0, 1) := by decide +kernel
theorem dX5_begin_31 : decode cX5_begin 31 = .ok (.iload_n 1, 1) := by decide +kernel
theorem dX5_begin_32 : decode cX5_begin 32 = .ok (.putfield 40, 3) := by decide +kernel
theorem dX5_begin_35 : decode cX5_begin 35 = .ok (.aload_n 0, 1) := by decide +kernel
theorem dX5_begin_36 : decode cX5_begin 36 = .ok (.iload_n 2, 1) := by decide +kernel
theorem dX5_begin_37 : decode cX5_begin 37 = .ok (.putfield 43, 3) := by decide +kernel
theorem dX5_begin_40 : decode cX5_begin 40 = .ok (.aload_n 0, 1) := by decide +kernel
theorem dX5_begin_41 : decode cX5_begin 41 = .ok (.iconst 1, 1) := by decide +kernel
theorem dX5_begin_42 : decode cX5_begin 42 = .ok (.putfield 36, 3) := by decide +kernel
theorem dX5_begin_45 : decode cX5_begin 45 = .ok (.aload_n 0, 1) := by decide +kernel
theorem dX5_begin_46 : decode cX5_begin 46 = .ok (.iconst 1, 1) := by decide +kernel
theorem dX5_begin_47 : decode cX5_begin 47 = .ok (.putfield 46, 3) := by decide +kernel
theorem dX5_begin_50 : decode cX5_begin 50 = .ok (.aload_n 0, 1) := by decide +kernel
theorem dX5_begin_51 : decode cX5_begin 51 = .ok (.aload_n 0, 1) := by decide +kernel
theorem dX5_begin_52 : decode cX5_begin 52 = .ok (.getfield 49, 3) := by decide +kernel
theorem dX5_begin_55 : decode cX5_begin 55 = .ok (.putfield 53, 3) := by decide +kernel
theorem dX5_begin_58 : decode cX5_begin 58 = .ok (.iconst 0, 1) := by decide +kernel
theorem dX5_begin_59 : decode cX5_begin 59 = .ok (.istore_n 3, 1) := by decide +kernel
theorem dX5_begin_60 : decode cX5_begin 60 = .ok (.iload_n 3, 1) := by decide +kernel
theorem dX5_begin_61 : decode cX5_begin 61 = .ok (.bipush 8, 2) := by decide +kernel
theorem dX5_begin_63 : decode cX5_begin 63 = .ok (.if_icmp .ge 16, 3) := by decide +kernel
theorem dX5_begin_66 : decode cX5_begin 66 = .ok (.aload_n 0, 1) := by decide +kernel
theorem dX5_begin_67 : decode cX5_begin 67 = .ok (.getfield 26, 3) := by decide +kernel
theorem dX5_begin_70 : decode cX5_begin 70 = .ok (.iload_n 3, 1) := by decide +kernel
theorem dX5_begin_71 : decode cX5_begin 71 = .ok (.iconst 1, 1) := by decide +kernel
theorem dX5_begin_72 : decode cX5_begin 72 = .ok (.bastore, 1) := by decide +kernel
theorem dX5_begin_73 : decode cX5_begin 73 = .ok (.iinc 3 1, 3) := by decide +kernel
theorem dX5_begin_76 : decode cX5_begin 76 = .ok (.goto (-16), 3) := by decide +kernel
theorem dX5_begin_79 : decode cX5_begin 79 = .ok (.iconst 1, 1) := by decide +kernel
theorem dX5_begin_80 : decode cX5_begin 80 = .ok (.ireturn, 1) := by decide +kernel
abbrev cX5_run : ByteArray := prog_9_method_5_code
def yX5_run : MethodName := ⟨RX5, "run", "(I)I"⟩
theorem dX5_run_0 : decode cX5_run 0 = .ok (.iload_n 1, 1) := by decide +kernel
theorem dX5_run_1 : decode cX5_run 1 = .ok (.ifCond .lt 18, 3) := by decide +kernel
theorem dX5_run_4 : decode cX5_run 4 = .ok (.iload_n 1, 1) := by decide +kernel
theorem dX5_run_5 : decode cX5_run 5 = .ok (.sipush 1000, 3) := by decide +kernel
theorem dX5_run_8 : decode cX5_run 8 = .ok (.if_icmp .gt 11, 3) := by decide +kernel
theorem dX5_run_11 : decode cX5_run 11 = .ok (.aload_n 0, 1) := by decide +kernel
theorem dX5_run_12 : decode cX5_run 12 = .ok (.getfield 36, 3) := by decide +kernel
theorem dX5_run_15 : decode cX5_run 15 = .ok (.iconst 2, 1) := by decide +kernel
theorem dX5_run_16 : decode cX5_run 16 = .ok (.if_icmp .ne 5, 3) := by decide +kernel
theorem dX5_run_19 : decode cX5_run 19 = .ok (.iconst 0, 1) := by decide +kernel
theorem dX5_run_20 : decode cX5_run 20 = .ok (.ireturn, 1) := by decide +kernel
theorem dX5_run_21 : decode cX5_run 21 = .ok (.iconst 0, 1) := by decide +kernel
theorem dX5_run_22 : decode cX5_run 22 = .ok (.istore_n 2, 1) := by decide +kernel
theorem dX5_run_23 : decode cX5_run 23 = .ok (.iload_n 2, 1) := by decide +kernel
theorem dX5_run_24 : decode cX5_run 24 = .ok (.iload_n 1, 1) := by decide +kernel
theorem dX5_run_25 : decode cX5_run 25 = .ok (.if_icmp .ge 13, 3) := by decide +kernel
theorem dX5_run_28 : decode cX5_run 28 = .ok (.aload_n 0, 1) := by decide +kernel
theorem dX5_run_29 : decode cX5_run 29 = .ok (.invokevirtual 62, 3) := by decide +kernel
theorem dX5_run_32 : decode cX5_run 32 = .ok (.iinc 2 1, 3) := by decide +kernel
theorem dX5_run_35 : decode cX5_run 35 = .ok (.goto (-12), 3) := by decide +kernel
theorem dX5_run_38 : decode cX5_run 38 = .ok (.iload_n 1, 1) := by decide +kernel
theorem dX5_run_39 : decode cX5_run 39 = .ok (.ireturn, 1) := by decide +kernel
abbrev cX5_step : ByteArray := prog_9_method_4_code
def yX5_step : MethodName := ⟨RX5, "step", "()V"⟩
theorem dX5_step_0 : decode cX5_step 0 = .ok (.aload_n 0, 1) := by decide +kernel
theorem dX5_step_1 : decode cX5_step 1 = .ok (.getfield 7, 3) := by decide +kernel
theorem dX5_step_4 : decode cX5_step 4 = .ok (.aload_n 0, 1) := by decide +kernel
theorem dX5_step_5 : decode cX5_step 5 = .ok (.getfield 56, 3) := by decide +kernel
theorem dX5_step_8 : decode cX5_step 8 = .ok (.iaload, 1) := by decide +kernel
theorem dX5_step_9 : decode cX5_step 9 = .ok (.istore_n 1, 1) := by decide +kernel
theorem dX5_step_10 : decode cX5_step 10 = .ok (.iload_n 1, 1) := by decide +kernel
theorem dX5_step_11 : decode cX5_step 11 = .ok (.iconst 3, 1) := by decide +kernel
theorem dX5_step_12 : decode cX5_step 12 = .ok (.ishr, 1) := by decide +kernel
theorem dX5_step_13 : decode cX5_step 13 = .ok (.iconst 3, 1) := by decide +kernel
theorem dX5_step_14 : decode cX5_step 14 = .ok (.iand, 1) := by decide +kernel
theorem dX5_step_15 : decode cX5_step 15 = .ok (.istore_n 2, 1) := by decide +kernel
theorem dX5_step_16 : decode cX5_step 16 = .ok (.iload_n 1, 1) := by decide +kernel
theorem dX5_step_17 : decode cX5_step 17 = .ok (.iconst 5, 1) := by decide +kernel
theorem dX5_step_18 : decode cX5_step 18 = .ok (.ishr, 1) := by decide +kernel
theorem dX5_step_19 : decode cX5_step 19 = .ok (.iconst 3, 1) := by decide +kernel
theorem dX5_step_20 : decode cX5_step 20 = .ok (.iand, 1) := by decide +kernel
theorem dX5_step_21 : decode cX5_step 21 = .ok (.istore_n 3, 1) := by decide +kernel
theorem dX5_step_22 : decode cX5_step 22 = .ok (.iload_n 1, 1) := by decide +kernel
theorem dX5_step_23 : decode cX5_step 23 = .ok (.bipush 7, 2) := by decide +kernel
theorem dX5_step_25 : decode cX5_step 25 = .ok (.ishr, 1) := by decide +kernel
theorem dX5_step_26 : decode cX5_step 26 = .ok (.bipush 127, 2) := by decide +kernel
theorem dX5_step_28 : decode cX5_step 28 = .ok (.iand, 1) := by decide +kernel
theorem dX5_step_29 : decode cX5_step 29 = .ok (.istore 4, 2) := by decide +kernel
theorem dX5_step_31 : decode cX5_step 31 = .ok (.aload_n 0, 1) := by decide +kernel
theorem dX5_step_32 : decode cX5_step 32 = .ok (.getfield 19, 3) := by decide +kernel
theorem dX5_step_35 : decode cX5_step 35 = .ok (.iload_n 3, 1) := by decide +kernel
theorem dX5_step_36 : decode cX5_step 36 = .ok (.iaload, 1) := by decide +kernel
theorem dX5_step_37 : decode cX5_step 37 = .ok (.iload 4, 2) := by decide +kernel
theorem dX5_step_39 : decode cX5_step 39 = .ok (.iadd, 1) := by decide +kernel
theorem dX5_step_40 : decode cX5_step 40 = .ok (.bipush 63, 2) := by decide +kernel
theorem dX5_step_42 : decode cX5_step 42 = .ok (.iand, 1) := by decide +kernel
theorem dX5_step_43 : decode cX5_step 43 = .ok (.istore 5, 2) := by decide +kernel
theorem dX5_step_45 : decode cX5_step 45 = .ok (.aload_n 0, 1) := by decide +kernel
theorem dX5_step_46 : decode cX5_step 46 = .ok (.getfield 56, 3) := by decide +kernel
theorem dX5_step_49 : decode cX5_step 49 = .ok (.iconst 1, 1) := by decide +kernel
theorem dX5_step_50 : decode cX5_step 50 = .ok (.iadd, 1) := by decide +kernel
theorem dX5_step_51 : decode cX5_step 51 = .ok (.bipush 63, 2) := by decide +kernel
theorem dX5_step_53 : decode cX5_step 53 = .ok (.iand, 1) := by decide +kernel
theorem dX5_step_54 : decode cX5_step 54 = .ok (.istore 6, 2) := by decide +kernel
theorem dX5_step_56 : decode cX5_step 56 = .ok (.iload_n 1, 1) := by decide +kernel
theorem dX5_step_57 : decode cX5_step 57 = .ok (.bipush 7, 2) := by decide +kernel
theorem dX5_step_59 : decode cX5_step 59 = .ok (.iand, 1) := by decide +kernel
theorem dX5_step_60 : decode cX5_step 60 = .ok (.tableswitch 183 0 6 #[44, 53, 64, 80, 120, 142, 164], 44) := by decide +kernel
theorem dX5_step_104 : decode cX5_step 104 = .ok (.aload_n 0, 1) := by decide +kernel
theorem dX5_step_105 : decode cX5_step 105 = .ok (.getfield 56, 3) := by decide +kernel
theorem dX5_step_108 : decode cX5_step 108 = .ok (.istore 6, 2) := by decide +kernel
theorem dX5_step_110 : decode cX5_step 110 = .ok (.goto 186, 3) := by decide +kernel
theorem dX5_step_113 : decode cX5_step 113 = .ok (.aload_n 0, 1) := by decide +kernel
theorem dX5_step_114 : decode cX5_step 114 = .ok (.getfield 19, 3) := by decide +kernel
theorem dX5_step_117 : decode cX5_step 117 = .ok (.iload_n 2, 1) := by decide +kernel
theorem dX5_step_118 : decode cX5_step 118 = .ok (.iload 4, 2) := by decide +kernel
theorem dX5_step_120 : decode cX5_step 120 = .ok (.iastore, 1) := by decide +kernel
theorem dX5_step_121 : decode cX5_step 121 = .ok (.goto 175, 3) := by decide +kernel
theorem dX5_step_124 : decode cX5_step 124 = .ok (.aload_n 0, 1) := by decide +kernel
theorem dX5_step_125 : decode cX5_step 125 = .ok (.getfield 19, 3) := by decide +kernel
theorem dX5_step_128 : decode cX5_step 128 = .ok (.iload_n 2, 1) := by decide +kernel
theorem dX5_step_129 : decode cX5_step 129 = .ok (.aload_n 0, 1) := by decide +kernel
theorem dX5_step_130 : decode cX5_step 130 = .ok (.getfield 7, 3) := by decide +kernel
theorem dX5_step_133 : decode cX5_step 133 = .ok (.iload 5, 2) := by decide +kernel
theorem dX5_step_135 : decode cX5_step 135 = .ok (.iaload, 1) := by decide +kernel
theorem dX5_step_136 : decode cX5_step 136 = .ok (.iastore, 1) := by decide +kernel
theorem dX5_step_137 : decode cX5_step 137 = .ok (.goto 159, 3) := by decide +kernel
theorem dX5_step_140 : decode cX5_step 140 = .ok (.aload_n 0, 1) := by decide +kernel
theorem dX5_step_141 : decode cX5_step 141 = .ok (.aload_n 0, 1) := by decide +kernel
theorem dX5_step_142 : decode cX5_step 142 = .ok (.getfield 49, 3) := by decide +kernel
theorem dX5_step_145 : decode cX5_step 145 = .ok (.lconst 1, 1) := by decide +kernel
theorem dX5_step_146 : decode cX5_step 146 = .ok (.ladd, 1) := by decide +kernel
theorem dX5_step_147 : decode cX5_step 147 = .ok (.putfield 49, 3) := by decide +kernel
theorem dX5_step_150 : decode cX5_step 150 = .ok (.aload_n 0, 1) := by decide +kernel
theorem dX5_step_151 : decode cX5_step 151 = .ok (.getfield 22, 3) := by decide +kernel
theorem dX5_step_154 : decode cX5_step 154 = .ok (.iload 5, 2) := by decide +kernel
theorem dX5_step_156 : decode cX5_step 156 = .ok (.bipush 8, 2) := by decide +kernel
theorem dX5_step_158 : decode cX5_step 158 = .ok (.idiv, 1) := by decide +kernel
theorem dX5_step_159 : decode cX5_step 159 = .ok (.aload_n 0, 1) := by decide +kernel
theorem dX5_step_160 : decode cX5_step 160 = .ok (.getfield 49, 3) := by decide +kernel
theorem dX5_step_163 : decode cX5_step 163 = .ok (.lastore, 1) := by decide +kernel
theorem dX5_step_164 : decode cX5_step 164 = .ok (.aload_n 0, 1) := by decide +kernel
theorem dX5_step_165 : decode cX5_step 165 = .ok (.getfield 7, 3) := by decide +kernel
theorem dX5_step_168 : decode cX5_step 168 = .ok (.iload 5, 2) := by decide +kernel
theorem dX5_step_170 : decode cX5_step 170 = .ok (.aload_n 0, 1) := by decide +kernel
theorem dX5_step_171 : decode cX5_step 171 = .ok (.getfield 19, 3) := by decide +kernel
theorem dX5_step_174 : decode cX5_step 174 = .ok (.iload_n 2, 1) := by decide +kernel
theorem dX5_step_175 : decode cX5_step 175 = .ok (.iaload, 1) := by decide +kernel
theorem dX5_step_176 : decode cX5_step 176 = .ok (.iastore, 1) := by decide +kernel
theorem dX5_step_177 : decode cX5_step 177 = .ok (.goto 119, 3) := by decide +kernel
theorem dX5_step_180 : decode cX5_step 180 = .ok (.aload_n 0, 1) := by decide +kernel
theorem dX5_step_181 : decode cX5_step 181 = .ok (.getfield 19, 3) := by decide +kernel
theorem dX5_step_184 : decode cX5_step 184 = .ok (.iload_n 2, 1) := by decide +kernel
theorem dX5_step_185 : decode cX5_step 185 = .ok (.aload_n 0, 1) := by decide +kernel
theorem dX5_step_186 : decode cX5_step 186 = .ok (.getfield 19, 3) := by decide +kernel
theorem dX5_step_189 : decode cX5_step 189 = .ok (.iload_n 2, 1) := by decide +kernel
theorem dX5_step_190 : decode cX5_step 190 = .ok (.iaload, 1) := by decide +kernel
theorem dX5_step_191 : decode cX5_step 191 = .ok (.aload_n 0, 1) := by decide +kernel
theorem dX5_step_192 : decode cX5_step 192 = .ok (.getfield 19, 3) := by decide +kernel
theorem dX5_step_195 : decode cX5_step 195 = .ok (.iload_n 3, 1) := by decide +kernel
theorem dX5_step_196 : decode cX5_step 196 = .ok (.iaload, 1) := by decide +kernel
theorem dX5_step_197 : decode cX5_step 197 = .ok (.iadd, 1) := by decide +kernel
theorem dX5_step_198 : decode cX5_step 198 = .ok (.iastore, 1) := by decide +kernel
theorem dX5_step_199 : decode cX5_step 199 = .ok (.goto 97, 3) := by decide +kernel
theorem dX5_step_202 : decode cX5_step 202 = .ok (.aload_n 0, 1) := by decide +kernel
theorem dX5_step_203 : decode cX5_step 203 = .ok (.getfield 19, 3) := by decide +kernel
theorem dX5_step_206 : decode cX5_step 206 = .ok (.iload_n 2, 1) := by decide +kernel
theorem dX5_step_207 : decode cX5_step 207 = .ok (.aload_n 0, 1) := by decide +kernel
theorem dX5_step_208 : decode cX5_step 208 = .ok (.getfield 19, 3) := by decide +kernel
theorem dX5_step_211 : decode cX5_step 211 = .ok (.iload_n 2, 1) := by decide +kernel
theorem dX5_step_212 : decode cX5_step 212 = .ok (.iaload, 1) := by decide +kernel
theorem dX5_step_213 : decode cX5_step 213 = .ok (.aload_n 0, 1) := by decide +kernel
theorem dX5_step_214 : decode cX5_step 214 = .ok (.getfield 19, 3) := by decide +kernel
theorem dX5_step_217 : decode cX5_step 217 = .ok (.iload_n 3, 1) := by decide +kernel
theorem dX5_step_218 : decode cX5_step 218 = .ok (.iaload, 1) := by decide +kernel
theorem dX5_step_219 : decode cX5_step 219 = .ok (.isub, 1) := by decide +kernel
theorem dX5_step_220 : decode cX5_step 220 = .ok (.iastore, 1) := by decide +kernel
theorem dX5_step_221 : decode cX5_step 221 = .ok (.goto 75, 3) := by decide +kernel
theorem dX5_step_224 : decode cX5_step 224 = .ok (.aload_n 0, 1) := by decide +kernel
theorem dX5_step_225 : decode cX5_step 225 = .ok (.getfield 19, 3) := by decide +kernel
theorem dX5_step_228 : decode cX5_step 228 = .ok (.iload_n 2, 1) := by decide +kernel
theorem dX5_step_229 : decode cX5_step 229 = .ok (.iaload, 1) := by decide +kernel
theorem dX5_step_230 : decode cX5_step 230 = .ok (.ifCond .eq 66, 3) := by decide +kernel
theorem dX5_step_233 : decode cX5_step 233 = .ok (.iload 4, 2) := by decide +kernel
theorem dX5_step_235 : decode cX5_step 235 = .ok (.bipush 63, 2) := by decide +kernel
theorem dX5_step_237 : decode cX5_step 237 = .ok (.iand, 1) := by decide +kernel
theorem dX5_step_238 : decode cX5_step 238 = .ok (.istore 6, 2) := by decide +kernel
theorem dX5_step_240 : decode cX5_step 240 = .ok (.goto 56, 3) := by decide +kernel
theorem dX5_step_243 : decode cX5_step 243 = .ok (.bipush 7, 2) := by decide +kernel
theorem dX5_step_245 : decode cX5_step 245 = .ok (.istore 7, 2) := by decide +kernel
theorem dX5_step_247 : decode cX5_step 247 = .ok (.iload 7, 2) := by decide +kernel
theorem dX5_step_249 : decode cX5_step 249 = .ok (.ifCond .le 25, 3) := by decide +kernel
theorem dX5_step_252 : decode cX5_step 252 = .ok (.aload_n 0, 1) := by decide +kernel
theorem dX5_step_253 : decode cX5_step 253 = .ok (.getfield 33, 3) := by decide +kernel
theorem dX5_step_256 : decode cX5_step 256 = .ok (.iload 7, 2) := by decide +kernel
theorem dX5_step_258 : decode cX5_step 258 = .ok (.aload_n 0, 1) := by decide +kernel
theorem dX5_step_259 : decode cX5_step 259 = .ok (.getfield 33, 3) := by decide +kernel
theorem dX5_step_262 : decode cX5_step 262 = .ok (.iload 7, 2) := by decide +kernel
theorem dX5_step_264 : decode cX5_step 264 = .ok (.iconst 1, 1) := by decide +kernel
theorem dX5_step_265 : decode cX5_step 265 = .ok (.isub, 1) := by decide +kernel
theorem dX5_step_266 : decode cX5_step 266 = .ok (.iaload, 1) := by decide +kernel
theorem dX5_step_267 : decode cX5_step 267 = .ok (.iastore, 1) := by decide +kernel
theorem dX5_step_268 : decode cX5_step 268 = .ok (.iinc 7 (-1), 3) := by decide +kernel
theorem dX5_step_271 : decode cX5_step 271 = .ok (.goto (-24), 3) := by decide +kernel
theorem dX5_step_274 : decode cX5_step 274 = .ok (.aload_n 0, 1) := by decide +kernel
theorem dX5_step_275 : decode cX5_step 275 = .ok (.getfield 33, 3) := by decide +kernel
theorem dX5_step_278 : decode cX5_step 278 = .ok (.iconst 0, 1) := by decide +kernel
theorem dX5_step_279 : decode cX5_step 279 = .ok (.aload_n 0, 1) := by decide +kernel
theorem dX5_step_280 : decode cX5_step 280 = .ok (.getfield 19, 3) := by decide +kernel
theorem dX5_step_283 : decode cX5_step 283 = .ok (.iload_n 2, 1) := by decide +kernel
theorem dX5_step_284 : decode cX5_step 284 = .ok (.iaload, 1) := by decide +kernel
theorem dX5_step_285 : decode cX5_step 285 = .ok (.iastore, 1) := by decide +kernel
theorem dX5_step_286 : decode cX5_step 286 = .ok (.aload_n 0, 1) := by decide +kernel
theorem dX5_step_287 : decode cX5_step 287 = .ok (.aload_n 0, 1) := by decide +kernel
theorem dX5_step_288 : decode cX5_step 288 = .ok (.getfield 59, 3) := by decide +kernel
theorem dX5_step_291 : decode cX5_step 291 = .ok (.iconst 1, 1) := by decide +kernel
theorem dX5_step_292 : decode cX5_step 292 = .ok (.iadd, 1) := by decide +kernel
theorem dX5_step_293 : decode cX5_step 293 = .ok (.putfield 59, 3) := by decide +kernel
theorem dX5_step_296 : decode cX5_step 296 = .ok (.aload_n 0, 1) := by decide +kernel
theorem dX5_step_297 : decode cX5_step 297 = .ok (.iload 6, 2) := by decide +kernel
theorem dX5_step_299 : decode cX5_step 299 = .ok (.putfield 56, 3) := by decide +kernel
theorem dX5_step_302 : decode cX5_step 302 = .ok (.return_, 1) := by decide +kernel
abbrev cX5_copy : ByteArray := prog_9_method_6_code
def yX5_copy : MethodName := ⟨RX5, "copy", "()I"⟩
theorem dX5_copy_0 : decode cX5_copy 0 = .ok (.aload_n 0, 1) := by decide +kernel
theorem dX5_copy_1 : decode cX5_copy 1 = .ok (.getfield 36, 3) := by decide +kernel
theorem dX5_copy_4 : decode cX5_copy 4 = .ok (.ifCond .eq 11, 3) := by decide +kernel
theorem dX5_copy_7 : decode cX5_copy 7 = .ok (.aload_n 0, 1) := by decide +kernel
theorem dX5_copy_8 : decode cX5_copy 8 = .ok (.getfield 36, 3) := by decide +kernel
theorem dX5_copy_11 : decode cX5_copy 11 = .ok (.iconst 3, 1) := by decide +kernel
theorem dX5_copy_12 : decode cX5_copy 12 = .ok (.if_icmp .ne 5, 3) := by decide +kernel
theorem dX5_copy_15 : decode cX5_copy 15 = .ok (.iconst (-1), 1) := by decide +kernel
theorem dX5_copy_16 : decode cX5_copy 16 = .ok (.ireturn, 1) := by decide +kernel
theorem dX5_copy_17 : decode cX5_copy 17 = .ok (.iconst 0, 1) := by decide +kernel
theorem dX5_copy_18 : decode cX5_copy 18 = .ok (.istore_n 1, 1) := by decide +kernel
theorem dX5_copy_19 : decode cX5_copy 19 = .ok (.iload_n 1, 1) := by decide +kernel
theorem dX5_copy_20 : decode cX5_copy 20 = .ok (.bipush 8, 2) := by decide +kernel
theorem dX5_copy_22 : decode cX5_copy 22 = .ok (.if_icmp .ge 63, 3) := by decide +kernel
theorem dX5_copy_25 : decode cX5_copy 25 = .ok (.aload_n 0, 1) := by decide +kernel
theorem dX5_copy_26 : decode cX5_copy 26 = .ok (.getfield 26, 3) := by decide +kernel
theorem dX5_copy_29 : decode cX5_copy 29 = .ok (.iload_n 1, 1) := by decide +kernel
theorem dX5_copy_30 : decode cX5_copy 30 = .ok (.baload, 1) := by decide +kernel
theorem dX5_copy_31 : decode cX5_copy 31 = .ok (.ifCond .eq 48, 3) := by decide +kernel
theorem dX5_copy_34 : decode cX5_copy 34 = .ok (.iconst 0, 1) := by decide +kernel
theorem dX5_copy_35 : decode cX5_copy 35 = .ok (.istore_n 2, 1) := by decide +kernel
theorem dX5_copy_36 : decode cX5_copy 36 = .ok (.iload_n 2, 1) := by decide +kernel
theorem dX5_copy_37 : decode cX5_copy 37 = .ok (.bipush 8, 2) := by decide +kernel
theorem dX5_copy_39 : decode cX5_copy 39 = .ok (.if_icmp .ge 31, 3) := by decide +kernel
theorem dX5_copy_42 : decode cX5_copy 42 = .ok (.aload_n 0, 1) := by decide +kernel
theorem dX5_copy_43 : decode cX5_copy 43 = .ok (.getfield 16, 3) := by decide +kernel
theorem dX5_copy_46 : decode cX5_copy 46 = .ok (.bipush 8, 2) := by decide +kernel
theorem dX5_copy_48 : decode cX5_copy 48 = .ok (.iload_n 1, 1) := by decide +kernel
theorem dX5_copy_49 : decode cX5_copy 49 = .ok (.imul, 1) := by decide +kernel
theorem dX5_copy_50 : decode cX5_copy 50 = .ok (.iload_n 2, 1) := by decide +kernel
theorem dX5_copy_51 : decode cX5_copy 51 = .ok (.iadd, 1) := by decide +kernel
theorem dX5_copy_52 : decode cX5_copy 52 = .ok (.aload_n 0, 1) := by decide +kernel
theorem dX5_copy_53 : decode cX5_copy 53 = .ok (.getfield 7, 3) := by decide +kernel
theorem dX5_copy_56 : decode cX5_copy 56 = .ok (.bipush 8, 2) := by decide +kernel
theorem dX5_copy_58 : decode cX5_copy 58 = .ok (.iload_n 1, 1) := by decide +kernel
theorem dX5_copy_59 : decode cX5_copy 59 = .ok (.imul, 1) := by decide +kernel
theorem dX5_copy_60 : decode cX5_copy 60 = .ok (.iload_n 2, 1) := by decide +kernel
theorem dX5_copy_61 : decode cX5_copy 61 = .ok (.iadd, 1) := by decide +kernel
theorem dX5_copy_62 : decode cX5_copy 62 = .ok (.iaload, 1) := by decide +kernel
theorem dX5_copy_63 : decode cX5_copy 63 = .ok (.iastore, 1) := by decide +kernel
theorem dX5_copy_64 : decode cX5_copy 64 = .ok (.iinc 2 1, 3) := by decide +kernel
theorem dX5_copy_67 : decode cX5_copy 67 = .ok (.goto (-31), 3) := by decide +kernel
theorem dX5_copy_70 : decode cX5_copy 70 = .ok (.aload_n 0, 1) := by decide +kernel
theorem dX5_copy_71 : decode cX5_copy 71 = .ok (.getfield 26, 3) := by decide +kernel
theorem dX5_copy_74 : decode cX5_copy 74 = .ok (.iload_n 1, 1) := by decide +kernel
theorem dX5_copy_75 : decode cX5_copy 75 = .ok (.iconst 0, 1) := by decide +kernel
theorem dX5_copy_76 : decode cX5_copy 76 = .ok (.bastore, 1) := by decide +kernel
theorem dX5_copy_77 : decode cX5_copy 77 = .ok (.iload_n 1, 1) := by decide +kernel
theorem dX5_copy_78 : decode cX5_copy 78 = .ok (.ireturn, 1) := by decide +kernel
theorem dX5_copy_79 : decode cX5_copy 79 = .ok (.iinc 1 1, 3) := by decide +kernel
theorem dX5_copy_82 : decode cX5_copy 82 = .ok (.goto (-63), 3) := by decide +kernel
theorem dX5_copy_85 : decode cX5_copy 85 = .ok (.aload_n 0, 1) := by decide +kernel
theorem dX5_copy_86 : decode cX5_copy 86 = .ok (.getfield 36, 3) := by decide +kernel
theorem dX5_copy_89 : decode cX5_copy 89 = .ok (.iconst 2, 1) := by decide +kernel
theorem dX5_copy_90 : decode cX5_copy 90 = .ok (.if_icmp .ne 37, 3) := by decide +kernel
theorem dX5_copy_93 : decode cX5_copy 93 = .ok (.aload_n 0, 1) := by decide +kernel
theorem dX5_copy_94 : decode cX5_copy 94 = .ok (.iconst 3, 1) := by decide +kernel
theorem dX5_copy_95 : decode cX5_copy 95 = .ok (.putfield 36, 3) := by decide +kernel
theorem dX5_copy_98 : decode cX5_copy 98 = .ok (.iconst 0, 1) := by decide +kernel
theorem dX5_copy_99 : decode cX5_copy 99 = .ok (.istore_n 1, 1) := by decide +kernel
theorem dX5_copy_100 : decode cX5_copy 100 = .ok (.iload_n 1, 1) := by decide +kernel
theorem dX5_copy_101 : decode cX5_copy 101 = .ok (.bipush 64, 2) := by decide +kernel
theorem dX5_copy_103 : decode cX5_copy 103 = .ok (.if_icmp .ge 21, 3) := by decide +kernel
theorem dX5_copy_106 : decode cX5_copy 106 = .ok (.aload_n 0, 1) := by decide +kernel
theorem dX5_copy_107 : decode cX5_copy 107 = .ok (.getfield 13, 3) := by decide +kernel
theorem dX5_copy_110 : decode cX5_copy 110 = .ok (.iload_n 1, 1) := by decide +kernel
theorem dX5_copy_111 : decode cX5_copy 111 = .ok (.aload_n 0, 1) := by decide +kernel
theorem dX5_copy_112 : decode cX5_copy 112 = .ok (.getfield 7, 3) := by decide +kernel
theorem dX5_copy_115 : decode cX5_copy 115 = .ok (.iload_n 1, 1) := by decide +kernel
theorem dX5_copy_116 : decode cX5_copy 116 = .ok (.iaload, 1) := by decide +kernel
theorem dX5_copy_117 : decode cX5_copy 117 = .ok (.iastore, 1) := by decide +kernel
theorem dX5_copy_118 : decode cX5_copy 118 = .ok (.iinc 1 1, 3) := by decide +kernel
theorem dX5_copy_121 : decode cX5_copy 121 = .ok (.goto (-21), 3) := by decide +kernel
theorem dX5_copy_124 : decode cX5_copy 124 = .ok (.bipush 34, 2) := by decide +kernel
theorem dX5_copy_126 : decode cX5_copy 126 = .ok (.ireturn, 1) := by decide +kernel
theorem dX5_copy_127 : decode cX5_copy 127 = .ok (.iconst 0, 1) := by decide +kernel
theorem dX5_copy_128 : decode cX5_copy 128 = .ok (.istore_n 1, 1) := by decide +kernel
theorem dX5_copy_129 : decode cX5_copy 129 = .ok (.iconst 0, 1) := by decide +kernel
theorem dX5_copy_130 : decode cX5_copy 130 = .ok (.istore_n 2, 1) := by decide +kernel
theorem dX5_copy_131 : decode cX5_copy 131 = .ok (.iload_n 2, 1) := by decide +kernel
theorem dX5_copy_132 : decode cX5_copy 132 = .ok (.bipush 8, 2) := by decide +kernel
theorem dX5_copy_134 : decode cX5_copy 134 = .ok (.if_icmp .ge 45, 3) := by decide +kernel
theorem dX5_copy_137 : decode cX5_copy 137 = .ok (.aload_n 0, 1) := by decide +kernel
theorem dX5_copy_138 : decode cX5_copy 138 = .ok (.getfield 26, 3) := by decide +kernel
theorem dX5_copy_141 : decode cX5_copy 141 = .ok (.iload_n 2, 1) := by decide +kernel
theorem dX5_copy_142 : decode cX5_copy 142 = .ok (.aload_n 0, 1) := by decide +kernel
theorem dX5_copy_143 : decode cX5_copy 143 = .ok (.iload_n 2, 1) := by decide +kernel
theorem dX5_copy_144 : decode cX5_copy 144 = .ok (.invokevirtual 65, 3) := by decide +kernel
theorem dX5_copy_147 : decode cX5_copy 147 = .ok (.bastore, 1) := by decide +kernel
theorem dX5_copy_148 : decode cX5_copy 148 = .ok (.aload_n 0, 1) := by decide +kernel
theorem dX5_copy_149 : decode cX5_copy 149 = .ok (.getfield 30, 3) := by decide +kernel
theorem dX5_copy_152 : decode cX5_copy 152 = .ok (.iload_n 2, 1) := by decide +kernel
theorem dX5_copy_153 : decode cX5_copy 153 = .ok (.aload_n 0, 1) := by decide +kernel
theorem dX5_copy_154 : decode cX5_copy 154 = .ok (.getfield 26, 3) := by decide +kernel
theorem dX5_copy_157 : decode cX5_copy 157 = .ok (.iload_n 2, 1) := by decide +kernel
theorem dX5_copy_158 : decode cX5_copy 158 = .ok (.baload, 1) := by decide +kernel
theorem dX5_copy_159 : decode cX5_copy 159 = .ok (.bastore, 1) := by decide +kernel
theorem dX5_copy_160 : decode cX5_copy 160 = .ok (.aload_n 0, 1) := by decide +kernel
theorem dX5_copy_161 : decode cX5_copy 161 = .ok (.getfield 26, 3) := by decide +kernel
theorem dX5_copy_164 : decode cX5_copy 164 = .ok (.iload_n 2, 1) := by decide +kernel
theorem dX5_copy_165 : decode cX5_copy 165 = .ok (.baload, 1) := by decide +kernel
theorem dX5_copy_166 : decode cX5_copy 166 = .ok (.ifCond .eq 7, 3) := by decide +kernel
theorem dX5_copy_169 : decode cX5_copy 169 = .ok (.iload_n 1, 1) := by decide +kernel
theorem dX5_copy_170 : decode cX5_copy 170 = .ok (.iconst 1, 1) := by decide +kernel
theorem dX5_copy_171 : decode cX5_copy 171 = .ok (.iadd, 1) := by decide +kernel
theorem dX5_copy_172 : decode cX5_copy 172 = .ok (.istore_n 1, 1) := by decide +kernel
theorem dX5_copy_173 : decode cX5_copy 173 = .ok (.iinc 2 1, 3) := by decide +kernel
theorem dX5_copy_176 : decode cX5_copy 176 = .ok (.goto (-45), 3) := by decide +kernel
theorem dX5_copy_179 : decode cX5_copy 179 = .ok (.iload_n 1, 1) := by decide +kernel
theorem dX5_copy_180 : decode cX5_copy 180 = .ok (.aload_n 0, 1) := by decide +kernel
theorem dX5_copy_181 : decode cX5_copy 181 = .ok (.getfield 40, 3) := by decide +kernel
theorem dX5_copy_184 : decode cX5_copy 184 = .ok (.if_icmp .le 14, 3) := by decide +kernel
theorem dX5_copy_187 : decode cX5_copy 187 = .ok (.aload_n 0, 1) := by decide +kernel
theorem dX5_copy_188 : decode cX5_copy 188 = .ok (.getfield 46, 3) := by decide +kernel
theorem dX5_copy_191 : decode cX5_copy 191 = .ok (.aload_n 0, 1) := by decide +kernel
theorem dX5_copy_192 : decode cX5_copy 192 = .ok (.getfield 43, 3) := by decide +kernel
theorem dX5_copy_195 : decode cX5_copy 195 = .ok (.if_icmp .ne 11, 3) := by decide +kernel
theorem dX5_copy_198 : decode cX5_copy 198 = .ok (.aload_n 0, 1) := by decide +kernel
theorem dX5_copy_199 : decode cX5_copy 199 = .ok (.iconst 2, 1) := by decide +kernel
theorem dX5_copy_200 : decode cX5_copy 200 = .ok (.putfield 36, 3) := by decide +kernel
theorem dX5_copy_203 : decode cX5_copy 203 = .ok (.bipush 33, 2) := by decide +kernel
theorem dX5_copy_205 : decode cX5_copy 205 = .ok (.ireturn, 1) := by decide +kernel
theorem dX5_copy_206 : decode cX5_copy 206 = .ok (.aload_n 0, 1) := by decide +kernel
theorem dX5_copy_207 : decode cX5_copy 207 = .ok (.aload_n 0, 1) := by decide +kernel
theorem dX5_copy_208 : decode cX5_copy 208 = .ok (.getfield 46, 3) := by decide +kernel
theorem dX5_copy_211 : decode cX5_copy 211 = .ok (.iconst 1, 1) := by decide +kernel
theorem dX5_copy_212 : decode cX5_copy 212 = .ok (.iadd, 1) := by decide +kernel
theorem dX5_copy_213 : decode cX5_copy 213 = .ok (.putfield 46, 3) := by decide +kernel
theorem dX5_copy_216 : decode cX5_copy 216 = .ok (.aload_n 0, 1) := by decide +kernel
theorem dX5_copy_217 : decode cX5_copy 217 = .ok (.aload_n 0, 1) := by decide +kernel
theorem dX5_copy_218 : decode cX5_copy 218 = .ok (.getfield 49, 3) := by decide +kernel
theorem dX5_copy_221 : decode cX5_copy 221 = .ok (.putfield 53, 3) := by decide +kernel
theorem dX5_copy_224 : decode cX5_copy 224 = .ok (.bipush 32, 2) := by decide +kernel
theorem dX5_copy_226 : decode cX5_copy 226 = .ok (.ireturn, 1) := by decide +kernel
abbrev cX5_dirty : ByteArray := prog_9_method_9_code
def yX5_dirty : MethodName := ⟨RX5, "dirty", "(I)Z"⟩
theorem dX5_dirty_0 : decode cX5_dirty 0 = .ok (.iload_n 1, 1) := by decide +kernel
theorem dX5_dirty_1 : decode cX5_dirty 1 = .ok (.ifCond .lt 16, 3) := by decide +kernel
theorem dX5_dirty_4 : decode cX5_dirty 4 = .ok (.iload_n 1, 1) := by decide +kernel
theorem dX5_dirty_5 : decode cX5_dirty 5 = .ok (.bipush 7, 2) := by decide +kernel
theorem dX5_dirty_7 : decode cX5_dirty 7 = .ok (.if_icmp .gt 10, 3) := by decide +kernel
theorem dX5_dirty_10 : decode cX5_dirty 10 = .ok (.aload_n 0, 1) := by decide +kernel
theorem dX5_dirty_11 : decode cX5_dirty 11 = .ok (.getfield 36, 3) := by decide +kernel
theorem dX5_dirty_14 : decode cX5_dirty 14 = .ok (.ifCond .ne 5, 3) := by decide +kernel
theorem dX5_dirty_17 : decode cX5_dirty 17 = .ok (.iconst 0, 1) := by decide +kernel
theorem dX5_dirty_18 : decode cX5_dirty 18 = .ok (.ireturn, 1) := by decide +kernel
theorem dX5_dirty_19 : decode cX5_dirty 19 = .ok (.aload_n 0, 1) := by decide +kernel
theorem dX5_dirty_20 : decode cX5_dirty 20 = .ok (.getfield 36, 3) := by decide +kernel
theorem dX5_dirty_23 : decode cX5_dirty 23 = .ok (.iconst 1, 1) := by decide +kernel
theorem dX5_dirty_24 : decode cX5_dirty 24 = .ok (.if_icmp .ne 25, 3) := by decide +kernel
theorem dX5_dirty_27 : decode cX5_dirty 27 = .ok (.aload_n 0, 1) := by decide +kernel
theorem dX5_dirty_28 : decode cX5_dirty 28 = .ok (.getfield 22, 3) := by decide +kernel
theorem dX5_dirty_31 : decode cX5_dirty 31 = .ok (.iload_n 1, 1) := by decide +kernel
theorem dX5_dirty_32 : decode cX5_dirty 32 = .ok (.laload, 1) := by decide +kernel
theorem dX5_dirty_33 : decode cX5_dirty 33 = .ok (.aload_n 0, 1) := by decide +kernel
theorem dX5_dirty_34 : decode cX5_dirty 34 = .ok (.getfield 53, 3) := by decide +kernel
theorem dX5_dirty_37 : decode cX5_dirty 37 = .ok (.lcmp, 1) := by decide +kernel
theorem dX5_dirty_38 : decode cX5_dirty 38 = .ok (.ifCond .le 7, 3) := by decide +kernel
theorem dX5_dirty_41 : decode cX5_dirty 41 = .ok (.iconst 1, 1) := by decide +kernel
theorem dX5_dirty_42 : decode cX5_dirty 42 = .ok (.goto 13, 3) := by decide +kernel
theorem dX5_dirty_45 : decode cX5_dirty 45 = .ok (.iconst 0, 1) := by decide +kernel
theorem dX5_dirty_46 : decode cX5_dirty 46 = .ok (.goto 9, 3) := by decide +kernel
theorem dX5_dirty_49 : decode cX5_dirty 49 = .ok (.aload_n 0, 1) := by decide +kernel
theorem dX5_dirty_50 : decode cX5_dirty 50 = .ok (.getfield 30, 3) := by decide +kernel
theorem dX5_dirty_53 : decode cX5_dirty 53 = .ok (.iload_n 1, 1) := by decide +kernel
theorem dX5_dirty_54 : decode cX5_dirty 54 = .ok (.baload, 1) := by decide +kernel
theorem dX5_dirty_55 : decode cX5_dirty 55 = .ok (.ireturn, 1) := by decide +kernel
abbrev cX5_phase : ByteArray := prog_9_method_7_code
def yX5_phase : MethodName := ⟨RX5, "phase", "()I"⟩
theorem dX5_phase_0 : decode cX5_phase 0 = .ok (.aload_n 0, 1) := by decide +kernel
theorem dX5_phase_1 : decode cX5_phase 1 = .ok (.getfield 36, 3) := by decide +kernel
theorem dX5_phase_4 : decode cX5_phase 4 = .ok (.ireturn, 1) := by decide +kernel
abbrev cX5_round : ByteArray := prog_9_method_8_code
def yX5_round : MethodName := ⟨RX5, "round", "()I"⟩
theorem dX5_round_0 : decode cX5_round 0 = .ok (.aload_n 0, 1) := by decide +kernel
theorem dX5_round_1 : decode cX5_round 1 = .ok (.getfield 46, 3) := by decide +kernel
theorem dX5_round_4 : decode cX5_round 4 = .ok (.ireturn, 1) := by decide +kernel
abbrev cX5_waits : ByteArray := prog_9_method_10_code
def yX5_waits : MethodName := ⟨RX5, "waits", "(I)Z"⟩
theorem dX5_waits_0 : decode cX5_waits 0 = .ok (.iload_n 1, 1) := by decide +kernel
theorem dX5_waits_1 : decode cX5_waits 1 = .ok (.ifCond .lt 22, 3) := by decide +kernel
theorem dX5_waits_4 : decode cX5_waits 4 = .ok (.iload_n 1, 1) := by decide +kernel
theorem dX5_waits_5 : decode cX5_waits 5 = .ok (.bipush 7, 2) := by decide +kernel
theorem dX5_waits_7 : decode cX5_waits 7 = .ok (.if_icmp .gt 16, 3) := by decide +kernel
theorem dX5_waits_10 : decode cX5_waits 10 = .ok (.aload_n 0, 1) := by decide +kernel
theorem dX5_waits_11 : decode cX5_waits 11 = .ok (.getfield 26, 3) := by decide +kernel
theorem dX5_waits_14 : decode cX5_waits 14 = .ok (.iload_n 1, 1) := by decide +kernel
theorem dX5_waits_15 : decode cX5_waits 15 = .ok (.baload, 1) := by decide +kernel
theorem dX5_waits_16 : decode cX5_waits 16 = .ok (.ifCond .eq 7, 3) := by decide +kernel
theorem dX5_waits_19 : decode cX5_waits 19 = .ok (.iconst 1, 1) := by decide +kernel
theorem dX5_waits_20 : decode cX5_waits 20 = .ok (.goto 4, 3) := by decide +kernel
theorem dX5_waits_23 : decode cX5_waits 23 = .ok (.iconst 0, 1) := by decide +kernel
theorem dX5_waits_24 : decode cX5_waits 24 = .ok (.ireturn, 1) := by decide +kernel
abbrev cX5_source : ByteArray := prog_9_method_11_code
def yX5_source : MethodName := ⟨RX5, "source", "(I)I"⟩
theorem dX5_source_0 : decode cX5_source 0 = .ok (.iload_n 1, 1) := by decide +kernel
theorem dX5_source_1 : decode cX5_source 1 = .ok (.ifCond .lt 9, 3) := by decide +kernel
theorem dX5_source_4 : decode cX5_source 4 = .ok (.iload_n 1, 1) := by decide +kernel
theorem dX5_source_5 : decode cX5_source 5 = .ok (.bipush 63, 2) := by decide +kernel
theorem dX5_source_7 : decode cX5_source 7 = .ok (.if_icmp .le 5, 3) := by decide +kernel
theorem dX5_source_10 : decode cX5_source 10 = .ok (.iconst 0, 1) := by decide +kernel
theorem dX5_source_11 : decode cX5_source 11 = .ok (.ireturn, 1) := by decide +kernel
theorem dX5_source_12 : decode cX5_source 12 = .ok (.aload_n 0, 1) := by decide +kernel
theorem dX5_source_13 : decode cX5_source 13 = .ok (.getfield 36, 3) := by decide +kernel
theorem dX5_source_16 : decode cX5_source 16 = .ok (.iconst 3, 1) := by decide +kernel
theorem dX5_source_17 : decode cX5_source 17 = .ok (.if_icmp .ne 12, 3) := by decide +kernel
theorem dX5_source_20 : decode cX5_source 20 = .ok (.aload_n 0, 1) := by decide +kernel
theorem dX5_source_21 : decode cX5_source 21 = .ok (.getfield 13, 3) := by decide +kernel
theorem dX5_source_24 : decode cX5_source 24 = .ok (.iload_n 1, 1) := by decide +kernel
theorem dX5_source_25 : decode cX5_source 25 = .ok (.iaload, 1) := by decide +kernel
theorem dX5_source_26 : decode cX5_source 26 = .ok (.goto 9, 3) := by decide +kernel
theorem dX5_source_29 : decode cX5_source 29 = .ok (.aload_n 0, 1) := by decide +kernel
theorem dX5_source_30 : decode cX5_source 30 = .ok (.getfield 7, 3) := by decide +kernel
theorem dX5_source_33 : decode cX5_source 33 = .ok (.iload_n 1, 1) := by decide +kernel
theorem dX5_source_34 : decode cX5_source 34 = .ok (.iaload, 1) := by decide +kernel
theorem dX5_source_35 : decode cX5_source 35 = .ok (.ireturn, 1) := by decide +kernel
abbrev cX5_destination : ByteArray := prog_9_method_12_code
def yX5_destination : MethodName := ⟨RX5, "destination", "(I)I"⟩
theorem dX5_destination_0 : decode cX5_destination 0 = .ok (.iload_n 1, 1) := by decide +kernel
theorem dX5_destination_1 : decode cX5_destination 1 = .ok (.ifCond .lt 9, 3) := by decide +kernel
theorem dX5_destination_4 : decode cX5_destination 4 = .ok (.iload_n 1, 1) := by decide +kernel
theorem dX5_destination_5 : decode cX5_destination 5 = .ok (.bipush 63, 2) := by decide +kernel
theorem dX5_destination_7 : decode cX5_destination 7 = .ok (.if_icmp .le 5, 3) := by decide +kernel
theorem dX5_destination_10 : decode cX5_destination 10 = .ok (.iconst 0, 1) := by decide +kernel
theorem dX5_destination_11 : decode cX5_destination 11 = .ok (.ireturn, 1) := by decide +kernel
theorem dX5_destination_12 : decode cX5_destination 12 = .ok (.aload_n 0, 1) := by decide +kernel
theorem dX5_destination_13 : decode cX5_destination 13 = .ok (.getfield 36, 3) := by decide +kernel
theorem dX5_destination_16 : decode cX5_destination 16 = .ok (.iconst 3, 1) := by decide +kernel
theorem dX5_destination_17 : decode cX5_destination 17 = .ok (.if_icmp .ne 12, 3) := by decide +kernel
theorem dX5_destination_20 : decode cX5_destination 20 = .ok (.aload_n 0, 1) := by decide +kernel
theorem dX5_destination_21 : decode cX5_destination 21 = .ok (.getfield 7, 3) := by decide +kernel
theorem dX5_destination_24 : decode cX5_destination 24 = .ok (.iload_n 1, 1) := by decide +kernel
theorem dX5_destination_25 : decode cX5_destination 25 = .ok (.iaload, 1) := by decide +kernel
theorem dX5_destination_26 : decode cX5_destination 26 = .ok (.goto 9, 3) := by decide +kernel
theorem dX5_destination_29 : decode cX5_destination 29 = .ok (.aload_n 0, 1) := by decide +kernel
theorem dX5_destination_30 : decode cX5_destination 30 = .ok (.getfield 16, 3) := by decide +kernel
theorem dX5_destination_33 : decode cX5_destination 33 = .ok (.iload_n 1, 1) := by decide +kernel
theorem dX5_destination_34 : decode cX5_destination 34 = .ok (.iaload, 1) := by decide +kernel
theorem dX5_destination_35 : decode cX5_destination 35 = .ok (.ireturn, 1) := by decide +kernel
abbrev cX5_register : ByteArray := prog_9_method_13_code
def yX5_register : MethodName := ⟨RX5, "register", "(I)I"⟩
theorem dX5_register_0 : decode cX5_register 0 = .ok (.iload_n 1, 1) := by decide +kernel
theorem dX5_register_1 : decode cX5_register 1 = .ok (.ifCond .lt 8, 3) := by decide +kernel
theorem dX5_register_4 : decode cX5_register 4 = .ok (.iload_n 1, 1) := by decide +kernel
theorem dX5_register_5 : decode cX5_register 5 = .ok (.iconst 3, 1) := by decide +kernel
theorem dX5_register_6 : decode cX5_register 6 = .ok (.if_icmp .le 7, 3) := by decide +kernel
theorem dX5_register_9 : decode cX5_register 9 = .ok (.iconst 0, 1) := by decide +kernel
theorem dX5_register_10 : decode cX5_register 10 = .ok (.goto 9, 3) := by decide +kernel
theorem dX5_register_13 : decode cX5_register 13 = .ok (.aload_n 0, 1) := by decide +kernel
theorem dX5_register_14 : decode cX5_register 14 = .ok (.getfield 19, 3) := by decide +kernel
theorem dX5_register_17 : decode cX5_register 17 = .ok (.iload_n 1, 1) := by decide +kernel
theorem dX5_register_18 : decode cX5_register 18 = .ok (.iaload, 1) := by decide +kernel
theorem dX5_register_19 : decode cX5_register 19 = .ok (.ireturn, 1) := by decide +kernel
abbrev cX5_pc : ByteArray := prog_9_method_14_code
def yX5_pc : MethodName := ⟨RX5, "pc", "()I"⟩
theorem dX5_pc_0 : decode cX5_pc 0 = .ok (.aload_n 0, 1) := by decide +kernel
theorem dX5_pc_1 : decode cX5_pc 1 = .ok (.getfield 56, 3) := by decide +kernel
theorem dX5_pc_4 : decode cX5_pc 4 = .ok (.ireturn, 1) := by decide +kernel
abbrev cX5_shows : ByteArray := prog_9_method_15_code
def yX5_shows : MethodName := ⟨RX5, "shows", "()I"⟩
theorem dX5_shows_0 : decode cX5_shows 0 = .ok (.aload_n 0, 1) := by decide +kernel
theorem dX5_shows_1 : decode cX5_shows 1 = .ok (.getfield 59, 3) := by decide +kernel
theorem dX5_shows_4 : decode cX5_shows 4 = .ok (.ireturn, 1) := by decide +kernel
abbrev cX5_shown : ByteArray := prog_9_method_16_code
def yX5_shown : MethodName := ⟨RX5, "shown", "(I)I"⟩
theorem dX5_shown_0 : decode cX5_shown 0 = .ok (.iload_n 1, 1) := by decide +kernel
theorem dX5_shown_1 : decode cX5_shown 1 = .ok (.ifCond .lt 17, 3) := by decide +kernel
theorem dX5_shown_4 : decode cX5_shown 4 = .ok (.iload_n 1, 1) := by decide +kernel
theorem dX5_shown_5 : decode cX5_shown 5 = .ok (.bipush 7, 2) := by decide +kernel
theorem dX5_shown_7 : decode cX5_shown 7 = .ok (.if_icmp .gt 11, 3) := by decide +kernel
theorem dX5_shown_10 : decode cX5_shown 10 = .ok (.iload_n 1, 1) := by decide +kernel
theorem dX5_shown_11 : decode cX5_shown 11 = .ok (.aload_n 0, 1) := by decide +kernel
theorem dX5_shown_12 : decode cX5_shown 12 = .ok (.getfield 59, 3) := by decide +kernel
theorem dX5_shown_15 : decode cX5_shown 15 = .ok (.if_icmp .lt 7, 3) := by decide +kernel
theorem dX5_shown_18 : decode cX5_shown 18 = .ok (.iconst 0, 1) := by decide +kernel
theorem dX5_shown_19 : decode cX5_shown 19 = .ok (.goto 9, 3) := by decide +kernel
theorem dX5_shown_22 : decode cX5_shown 22 = .ok (.aload_n 0, 1) := by decide +kernel
theorem dX5_shown_23 : decode cX5_shown 23 = .ok (.getfield 33, 3) := by decide +kernel
theorem dX5_shown_26 : decode cX5_shown 26 = .ok (.iload_n 1, 1) := by decide +kernel
theorem dX5_shown_27 : decode cX5_shown 27 = .ok (.iaload, 1) := by decide +kernel
theorem dX5_shown_28 : decode cX5_shown 28 = .ok (.ireturn, 1) := by decide +kernel
theorem q10 : (Jvm.Cond.initialized "MigratorModel") ∈ lw_all := lw_g (lw_at lw_m1 9 rfl) rfl
theorem q235 : (Jvm.Cond.instantiable "MigratorModel" (16 : Nat)) ∈ lw_all := lw_g (lw_at lw_m1 234 rfl) rfl
theorem q237 : (Jvm.Cond.instanceMethod ({ cls := "MigratorModel", name := "<init>", desc := "()V" } : Jvm.MethodName)) ∈ lw_all := lw_g (lw_at lw_m1 236 rfl) rfl
theorem q238 : (Jvm.Cond.code ({ cls := "MigratorModel", name := "<init>", desc := "()V" } : Jvm.MethodName) prog_9_method_1_code (1 : Nat) (Option.none : Option Jvm.ClassFile.FieldType)) ∈ lw_all := lw_g (lw_at lw_m1 237 rfl) rfl
theorem q239 : (Jvm.Cond.methodLink "MigratorModel" (1 : Nat) ({ cls := "java/lang/Object", name := "<init>", desc := "()V" } : Jvm.MethodName)) ∈ lw_all := lw_g (lw_at lw_m1 238 rfl) rfl
theorem q240 : (Jvm.Cond.fieldLink "MigratorModel" (7 : Nat) "MigratorModel" "real" "[I") ∈ lw_all := lw_g (lw_at lw_m1 239 rfl) rfl
theorem q241 : (Jvm.Cond.fieldLink "MigratorModel" (13 : Nat) "MigratorModel" "kept" "[I") ∈ lw_all := lw_g (lw_at lw_m2 0 rfl) rfl
theorem q242 : (Jvm.Cond.fieldLink "MigratorModel" (16 : Nat) "MigratorModel" "copied" "[I") ∈ lw_all := lw_g (lw_at lw_m2 1 rfl) rfl
theorem q243 : (Jvm.Cond.fieldLink "MigratorModel" (19 : Nat) "MigratorModel" "reg" "[I") ∈ lw_all := lw_g (lw_at lw_m2 2 rfl) rfl
theorem q244 : (Jvm.Cond.fieldLink "MigratorModel" (22 : Nat) "MigratorModel" "written" "[J") ∈ lw_all := lw_g (lw_at lw_m2 3 rfl) rfl
theorem q245 : (Jvm.Cond.fieldLink "MigratorModel" (26 : Nat) "MigratorModel" "want" "[Z") ∈ lw_all := lw_g (lw_at lw_m2 4 rfl) rfl
theorem q246 : (Jvm.Cond.fieldLink "MigratorModel" (30 : Nat) "MigratorModel" "left" "[Z") ∈ lw_all := lw_g (lw_at lw_m2 5 rfl) rfl
theorem q247 : (Jvm.Cond.fieldLink "MigratorModel" (33 : Nat) "MigratorModel" "told" "[I") ∈ lw_all := lw_g (lw_at lw_m2 6 rfl) rfl
theorem q248 : (Jvm.Cond.fieldLink "MigratorModel" (56 : Nat) "MigratorModel" "pc" "I") ∈ lw_all := lw_g (lw_at lw_m2 7 rfl) rfl
theorem q249 : (Jvm.Cond.fieldLink "MigratorModel" (36 : Nat) "MigratorModel" "phase" "I") ∈ lw_all := lw_g (lw_at lw_m2 8 rfl) rfl
theorem q250 : (Jvm.Cond.fieldLink "MigratorModel" (46 : Nat) "MigratorModel" "round" "I") ∈ lw_all := lw_g (lw_at lw_m2 9 rfl) rfl
theorem q251 : (Jvm.Cond.fieldLink "MigratorModel" (40 : Nat) "MigratorModel" "threshold" "I") ∈ lw_all := lw_g (lw_at lw_m2 10 rfl) rfl
theorem q252 : (Jvm.Cond.fieldLink "MigratorModel" (43 : Nat) "MigratorModel" "limit" "I") ∈ lw_all := lw_g (lw_at lw_m2 11 rfl) rfl
theorem q253 : (Jvm.Cond.fieldLink "MigratorModel" (59 : Nat) "MigratorModel" "shows" "I") ∈ lw_all := lw_g (lw_at lw_m2 12 rfl) rfl
theorem q254 : (Jvm.Cond.fieldLink "MigratorModel" (49 : Nat) "MigratorModel" "time" "J") ∈ lw_all := lw_g (lw_at lw_m2 13 rfl) rfl
theorem q255 : (Jvm.Cond.fieldLink "MigratorModel" (53 : Nat) "MigratorModel" "since" "J") ∈ lw_all := lw_g (lw_at lw_m2 14 rfl) rfl
theorem q256 : (Jvm.Cond.laysFinal "MigratorModel" "MigratorModel" "real" "[I") ∈ lw_all := lw_g (lw_at lw_m2 15 rfl) rfl
theorem q257 : (Jvm.Cond.soleField "MigratorModel" "real") ∈ lw_all := lw_g (lw_at lw_m2 16 rfl) rfl
theorem q258 : (Jvm.Cond.laysFinal "MigratorModel" "MigratorModel" "kept" "[I") ∈ lw_all := lw_g (lw_at lw_m2 17 rfl) rfl
theorem q259 : (Jvm.Cond.soleField "MigratorModel" "kept") ∈ lw_all := lw_g (lw_at lw_m2 18 rfl) rfl
theorem q260 : (Jvm.Cond.laysFinal "MigratorModel" "MigratorModel" "copied" "[I") ∈ lw_all := lw_g (lw_at lw_m2 19 rfl) rfl
theorem q261 : (Jvm.Cond.soleField "MigratorModel" "copied") ∈ lw_all := lw_g (lw_at lw_m2 20 rfl) rfl
theorem q262 : (Jvm.Cond.laysFinal "MigratorModel" "MigratorModel" "reg" "[I") ∈ lw_all := lw_g (lw_at lw_m2 21 rfl) rfl
theorem q263 : (Jvm.Cond.soleField "MigratorModel" "reg") ∈ lw_all := lw_g (lw_at lw_m2 22 rfl) rfl
theorem q264 : (Jvm.Cond.laysFinal "MigratorModel" "MigratorModel" "written" "[J") ∈ lw_all := lw_g (lw_at lw_m2 23 rfl) rfl
theorem q265 : (Jvm.Cond.soleField "MigratorModel" "written") ∈ lw_all := lw_g (lw_at lw_m2 24 rfl) rfl
theorem q266 : (Jvm.Cond.laysFinal "MigratorModel" "MigratorModel" "want" "[Z") ∈ lw_all := lw_g (lw_at lw_m2 25 rfl) rfl
theorem q267 : (Jvm.Cond.soleField "MigratorModel" "want") ∈ lw_all := lw_g (lw_at lw_m2 26 rfl) rfl
theorem q268 : (Jvm.Cond.laysFinal "MigratorModel" "MigratorModel" "left" "[Z") ∈ lw_all := lw_g (lw_at lw_m2 27 rfl) rfl
theorem q269 : (Jvm.Cond.soleField "MigratorModel" "left") ∈ lw_all := lw_g (lw_at lw_m2 28 rfl) rfl
theorem q270 : (Jvm.Cond.laysFinal "MigratorModel" "MigratorModel" "told" "[I") ∈ lw_all := lw_g (lw_at lw_m2 29 rfl) rfl
theorem q271 : (Jvm.Cond.soleField "MigratorModel" "told") ∈ lw_all := lw_g (lw_at lw_m2 30 rfl) rfl
theorem q272 : (Jvm.Cond.lays "MigratorModel" "MigratorModel" "pc" "I") ∈ lw_all := lw_g (lw_at lw_m2 31 rfl) rfl
theorem q273 : (Jvm.Cond.soleField "MigratorModel" "pc") ∈ lw_all := lw_g (lw_at lw_m2 32 rfl) rfl
theorem q274 : (Jvm.Cond.lays "MigratorModel" "MigratorModel" "phase" "I") ∈ lw_all := lw_g (lw_at lw_m2 33 rfl) rfl
theorem q275 : (Jvm.Cond.soleField "MigratorModel" "phase") ∈ lw_all := lw_g (lw_at lw_m2 34 rfl) rfl
theorem q276 : (Jvm.Cond.lays "MigratorModel" "MigratorModel" "round" "I") ∈ lw_all := lw_g (lw_at lw_m2 35 rfl) rfl
theorem q277 : (Jvm.Cond.soleField "MigratorModel" "round") ∈ lw_all := lw_g (lw_at lw_m2 36 rfl) rfl
theorem q278 : (Jvm.Cond.lays "MigratorModel" "MigratorModel" "threshold" "I") ∈ lw_all := lw_g (lw_at lw_m2 37 rfl) rfl
theorem q279 : (Jvm.Cond.soleField "MigratorModel" "threshold") ∈ lw_all := lw_g (lw_at lw_m2 38 rfl) rfl
theorem q280 : (Jvm.Cond.lays "MigratorModel" "MigratorModel" "limit" "I") ∈ lw_all := lw_g (lw_at lw_m2 39 rfl) rfl
theorem q281 : (Jvm.Cond.soleField "MigratorModel" "limit") ∈ lw_all := lw_g (lw_at lw_m2 40 rfl) rfl
theorem q282 : (Jvm.Cond.lays "MigratorModel" "MigratorModel" "shows" "I") ∈ lw_all := lw_g (lw_at lw_m2 41 rfl) rfl
theorem q283 : (Jvm.Cond.soleField "MigratorModel" "shows") ∈ lw_all := lw_g (lw_at lw_m2 42 rfl) rfl
theorem q284 : (Jvm.Cond.lays "MigratorModel" "MigratorModel" "time" "J") ∈ lw_all := lw_g (lw_at lw_m2 43 rfl) rfl
theorem q285 : (Jvm.Cond.soleField "MigratorModel" "time") ∈ lw_all := lw_g (lw_at lw_m2 44 rfl) rfl
theorem q286 : (Jvm.Cond.lays "MigratorModel" "MigratorModel" "since" "J") ∈ lw_all := lw_g (lw_at lw_m2 45 rfl) rfl
theorem q287 : (Jvm.Cond.soleField "MigratorModel" "since") ∈ lw_all := lw_g (lw_at lw_m2 46 rfl) rfl
theorem q288 : (Jvm.Cond.superclass "MigratorModel" "java/lang/Object") ∈ lw_all := lw_g (lw_at lw_m2 47 rfl) rfl
theorem q291 : (Jvm.Cond.instanceMethod ({ cls := "MigratorModel", name := "poke", desc := "(II)Z" } : Jvm.MethodName)) ∈ lw_all := lw_g (lw_at lw_m2 50 rfl) rfl
theorem q292 : (Jvm.Cond.selects "MigratorModel" ({ cls := "MigratorModel", name := "poke", desc := "(II)Z" } : Jvm.MethodName) ({ cls := "MigratorModel", name := "poke", desc := "(II)Z" } : Jvm.MethodName)) ∈ lw_all := lw_g (lw_at lw_m2 51 rfl) rfl
theorem q293 : (Jvm.Cond.code ({ cls := "MigratorModel", name := "poke", desc := "(II)Z" } : Jvm.MethodName) prog_9_method_2_code (3 : Nat) (Option.some Jvm.ClassFile.FieldType.boolean)) ∈ lw_all := lw_g (lw_at lw_m2 52 rfl) rfl
theorem q295 : (Jvm.Cond.instanceMethod ({ cls := "MigratorModel", name := "begin", desc := "(II)Z" } : Jvm.MethodName)) ∈ lw_all := lw_g (lw_at lw_m2 54 rfl) rfl
theorem q296 : (Jvm.Cond.selects "MigratorModel" ({ cls := "MigratorModel", name := "begin", desc := "(II)Z" } : Jvm.MethodName) ({ cls := "MigratorModel", name := "begin", desc := "(II)Z" } : Jvm.MethodName)) ∈ lw_all := lw_g (lw_at lw_m2 55 rfl) rfl
theorem q297 : (Jvm.Cond.code ({ cls := "MigratorModel", name := "begin", desc := "(II)Z" } : Jvm.MethodName) prog_9_method_3_code (4 : Nat) (Option.some Jvm.ClassFile.FieldType.boolean)) ∈ lw_all := lw_g (lw_at lw_m2 56 rfl) rfl
theorem q299 : (Jvm.Cond.instanceMethod ({ cls := "MigratorModel", name := "run", desc := "(I)I" } : Jvm.MethodName)) ∈ lw_all := lw_g (lw_at lw_m2 58 rfl) rfl
theorem q300 : (Jvm.Cond.selects "MigratorModel" ({ cls := "MigratorModel", name := "run", desc := "(I)I" } : Jvm.MethodName) ({ cls := "MigratorModel", name := "run", desc := "(I)I" } : Jvm.MethodName)) ∈ lw_all := lw_g (lw_at lw_m2 59 rfl) rfl
theorem q301 : (Jvm.Cond.code ({ cls := "MigratorModel", name := "run", desc := "(I)I" } : Jvm.MethodName) prog_9_method_5_code (3 : Nat) (Option.some Jvm.ClassFile.FieldType.int)) ∈ lw_all := lw_g (lw_at lw_m2 60 rfl) rfl
theorem q302 : (Jvm.Cond.methodLink "MigratorModel" (62 : Nat) ({ cls := "MigratorModel", name := "step", desc := "()V" } : Jvm.MethodName)) ∈ lw_all := lw_g (lw_at lw_m2 61 rfl) rfl
theorem q303 : (Jvm.Cond.privateMethod ({ cls := "MigratorModel", name := "step", desc := "()V" } : Jvm.MethodName)) ∈ lw_tbl := lw_at lw_m2 62 rfl
theorem q304 : (Jvm.Cond.instanceMethod ({ cls := "MigratorModel", name := "step", desc := "()V" } : Jvm.MethodName)) ∈ lw_all := lw_g (lw_at lw_m2 63 rfl) rfl
theorem q305 : (Jvm.Cond.code ({ cls := "MigratorModel", name := "step", desc := "()V" } : Jvm.MethodName) prog_9_method_4_code (8 : Nat) (Option.none : Option Jvm.ClassFile.FieldType)) ∈ lw_all := lw_g (lw_at lw_m2 64 rfl) rfl
theorem q307 : (Jvm.Cond.instanceMethod ({ cls := "MigratorModel", name := "copy", desc := "()I" } : Jvm.MethodName)) ∈ lw_all := lw_g (lw_at lw_m2 66 rfl) rfl
theorem q308 : (Jvm.Cond.selects "MigratorModel" ({ cls := "MigratorModel", name := "copy", desc := "()I" } : Jvm.MethodName) ({ cls := "MigratorModel", name := "copy", desc := "()I" } : Jvm.MethodName)) ∈ lw_all := lw_g (lw_at lw_m2 67 rfl) rfl
theorem q309 : (Jvm.Cond.code ({ cls := "MigratorModel", name := "copy", desc := "()I" } : Jvm.MethodName) prog_9_method_6_code (3 : Nat) (Option.some Jvm.ClassFile.FieldType.int)) ∈ lw_all := lw_g (lw_at lw_m2 68 rfl) rfl
theorem q310 : (Jvm.Cond.methodLink "MigratorModel" (65 : Nat) ({ cls := "MigratorModel", name := "dirty", desc := "(I)Z" } : Jvm.MethodName)) ∈ lw_all := lw_g (lw_at lw_m2 69 rfl) rfl
theorem q311 : (Jvm.Cond.instanceMethod ({ cls := "MigratorModel", name := "dirty", desc := "(I)Z" } : Jvm.MethodName)) ∈ lw_all := lw_g (lw_at lw_m2 70 rfl) rfl
theorem q312 : (Jvm.Cond.selects "MigratorModel" ({ cls := "MigratorModel", name := "dirty", desc := "(I)Z" } : Jvm.MethodName) ({ cls := "MigratorModel", name := "dirty", desc := "(I)Z" } : Jvm.MethodName)) ∈ lw_all := lw_g (lw_at lw_m2 71 rfl) rfl
theorem q313 : (Jvm.Cond.code ({ cls := "MigratorModel", name := "dirty", desc := "(I)Z" } : Jvm.MethodName) prog_9_method_9_code (2 : Nat) (Option.some Jvm.ClassFile.FieldType.boolean)) ∈ lw_all := lw_g (lw_at lw_m2 72 rfl) rfl
theorem q315 : (Jvm.Cond.instanceMethod ({ cls := "MigratorModel", name := "phase", desc := "()I" } : Jvm.MethodName)) ∈ lw_all := lw_g (lw_at lw_m2 74 rfl) rfl
theorem q316 : (Jvm.Cond.selects "MigratorModel" ({ cls := "MigratorModel", name := "phase", desc := "()I" } : Jvm.MethodName) ({ cls := "MigratorModel", name := "phase", desc := "()I" } : Jvm.MethodName)) ∈ lw_all := lw_g (lw_at lw_m2 75 rfl) rfl
theorem q317 : (Jvm.Cond.code ({ cls := "MigratorModel", name := "phase", desc := "()I" } : Jvm.MethodName) prog_9_method_7_code (1 : Nat) (Option.some Jvm.ClassFile.FieldType.int)) ∈ lw_all := lw_g (lw_at lw_m2 76 rfl) rfl
theorem q319 : (Jvm.Cond.instanceMethod ({ cls := "MigratorModel", name := "round", desc := "()I" } : Jvm.MethodName)) ∈ lw_all := lw_g (lw_at lw_m2 78 rfl) rfl
theorem q320 : (Jvm.Cond.selects "MigratorModel" ({ cls := "MigratorModel", name := "round", desc := "()I" } : Jvm.MethodName) ({ cls := "MigratorModel", name := "round", desc := "()I" } : Jvm.MethodName)) ∈ lw_all := lw_g (lw_at lw_m2 79 rfl) rfl
theorem q321 : (Jvm.Cond.code ({ cls := "MigratorModel", name := "round", desc := "()I" } : Jvm.MethodName) prog_9_method_8_code (1 : Nat) (Option.some Jvm.ClassFile.FieldType.int)) ∈ lw_all := lw_g (lw_at lw_m2 80 rfl) rfl
theorem q324 : (Jvm.Cond.instanceMethod ({ cls := "MigratorModel", name := "waits", desc := "(I)Z" } : Jvm.MethodName)) ∈ lw_all := lw_g (lw_at lw_m2 83 rfl) rfl
theorem q325 : (Jvm.Cond.selects "MigratorModel" ({ cls := "MigratorModel", name := "waits", desc := "(I)Z" } : Jvm.MethodName) ({ cls := "MigratorModel", name := "waits", desc := "(I)Z" } : Jvm.MethodName)) ∈ lw_all := lw_g (lw_at lw_m2 84 rfl) rfl
theorem q326 : (Jvm.Cond.code ({ cls := "MigratorModel", name := "waits", desc := "(I)Z" } : Jvm.MethodName) prog_9_method_10_code (2 : Nat) (Option.some Jvm.ClassFile.FieldType.boolean)) ∈ lw_all := lw_g (lw_at lw_m2 85 rfl) rfl
theorem q328 : (Jvm.Cond.instanceMethod ({ cls := "MigratorModel", name := "source", desc := "(I)I" } : Jvm.MethodName)) ∈ lw_all := lw_g (lw_at lw_m2 87 rfl) rfl
theorem q329 : (Jvm.Cond.selects "MigratorModel" ({ cls := "MigratorModel", name := "source", desc := "(I)I" } : Jvm.MethodName) ({ cls := "MigratorModel", name := "source", desc := "(I)I" } : Jvm.MethodName)) ∈ lw_all := lw_g (lw_at lw_m2 88 rfl) rfl
theorem q330 : (Jvm.Cond.code ({ cls := "MigratorModel", name := "source", desc := "(I)I" } : Jvm.MethodName) prog_9_method_11_code (2 : Nat) (Option.some Jvm.ClassFile.FieldType.int)) ∈ lw_all := lw_g (lw_at lw_m2 89 rfl) rfl
theorem q332 : (Jvm.Cond.instanceMethod ({ cls := "MigratorModel", name := "destination", desc := "(I)I" } : Jvm.MethodName)) ∈ lw_all := lw_g (lw_at lw_m2 91 rfl) rfl
theorem q333 : (Jvm.Cond.selects "MigratorModel" ({ cls := "MigratorModel", name := "destination", desc := "(I)I" } : Jvm.MethodName) ({ cls := "MigratorModel", name := "destination", desc := "(I)I" } : Jvm.MethodName)) ∈ lw_all := lw_g (lw_at lw_m2 92 rfl) rfl
theorem q334 : (Jvm.Cond.code ({ cls := "MigratorModel", name := "destination", desc := "(I)I" } : Jvm.MethodName) prog_9_method_12_code (2 : Nat) (Option.some Jvm.ClassFile.FieldType.int)) ∈ lw_all := lw_g (lw_at lw_m2 93 rfl) rfl
theorem q336 : (Jvm.Cond.instanceMethod ({ cls := "MigratorModel", name := "register", desc := "(I)I" } : Jvm.MethodName)) ∈ lw_all := lw_g (lw_at lw_m2 95 rfl) rfl
theorem q337 : (Jvm.Cond.selects "MigratorModel" ({ cls := "MigratorModel", name := "register", desc := "(I)I" } : Jvm.MethodName) ({ cls := "MigratorModel", name := "register", desc := "(I)I" } : Jvm.MethodName)) ∈ lw_all := lw_g (lw_at lw_m2 96 rfl) rfl
theorem q338 : (Jvm.Cond.code ({ cls := "MigratorModel", name := "register", desc := "(I)I" } : Jvm.MethodName) prog_9_method_13_code (2 : Nat) (Option.some Jvm.ClassFile.FieldType.int)) ∈ lw_all := lw_g (lw_at lw_m2 97 rfl) rfl
theorem q340 : (Jvm.Cond.instanceMethod ({ cls := "MigratorModel", name := "pc", desc := "()I" } : Jvm.MethodName)) ∈ lw_all := lw_g (lw_at lw_m2 99 rfl) rfl
theorem q341 : (Jvm.Cond.selects "MigratorModel" ({ cls := "MigratorModel", name := "pc", desc := "()I" } : Jvm.MethodName) ({ cls := "MigratorModel", name := "pc", desc := "()I" } : Jvm.MethodName)) ∈ lw_all := lw_g (lw_at lw_m2 100 rfl) rfl
theorem q342 : (Jvm.Cond.code ({ cls := "MigratorModel", name := "pc", desc := "()I" } : Jvm.MethodName) prog_9_method_14_code (1 : Nat) (Option.some Jvm.ClassFile.FieldType.int)) ∈ lw_all := lw_g (lw_at lw_m2 101 rfl) rfl
theorem q344 : (Jvm.Cond.instanceMethod ({ cls := "MigratorModel", name := "shows", desc := "()I" } : Jvm.MethodName)) ∈ lw_all := lw_g (lw_at lw_m2 103 rfl) rfl
theorem q345 : (Jvm.Cond.selects "MigratorModel" ({ cls := "MigratorModel", name := "shows", desc := "()I" } : Jvm.MethodName) ({ cls := "MigratorModel", name := "shows", desc := "()I" } : Jvm.MethodName)) ∈ lw_all := lw_g (lw_at lw_m2 104 rfl) rfl
theorem q346 : (Jvm.Cond.code ({ cls := "MigratorModel", name := "shows", desc := "()I" } : Jvm.MethodName) prog_9_method_15_code (1 : Nat) (Option.some Jvm.ClassFile.FieldType.int)) ∈ lw_all := lw_g (lw_at lw_m2 105 rfl) rfl
theorem q348 : (Jvm.Cond.instanceMethod ({ cls := "MigratorModel", name := "shown", desc := "(I)I" } : Jvm.MethodName)) ∈ lw_all := lw_g (lw_at lw_m2 107 rfl) rfl
theorem q349 : (Jvm.Cond.selects "MigratorModel" ({ cls := "MigratorModel", name := "shown", desc := "(I)I" } : Jvm.MethodName) ({ cls := "MigratorModel", name := "shown", desc := "(I)I" } : Jvm.MethodName)) ∈ lw_all := lw_g (lw_at lw_m2 108 rfl) rfl
theorem q350 : (Jvm.Cond.code ({ cls := "MigratorModel", name := "shown", desc := "(I)I" } : Jvm.MethodName) prog_9_method_16_code (2 : Nat) (Option.some Jvm.ClassFile.FieldType.int)) ∈ lw_all := lw_g (lw_at lw_m2 109 rfl) rfl
theorem in_X5 : ∀ w ∈ wsX50, w ∈ lw_all := lw_in wsX50 [256, 258, 260, 262, 264, 266, 268, 270, 272, 274, 276, 278, 280, 282, 284, 286] (by decide +kernel) (by decide +kernel)
end
section
/-! the law's own entry -/
set_option maxRecDepth 100000
abbrev cL_law : ByteArray := code
theorem dL_law_0 : decode cL_law 0 = .ok (.new 7, 3) := by decide +kernel
theorem dL_law_3 : decode cL_law 3 = .ok (.dup, 1) := by decide +kernel
theorem dL_law_4 : decode cL_law 4 = .ok (.invokespecial 9, 3) := by decide +kernel
theorem dL_law_7 : decode cL_law 7 = .ok (.astore_n 1, 1) := by decide +kernel
theorem dL_law_8 : decode cL_law 8 = .ok (.new 10, 3) := by decide +kernel
theorem dL_law_11 : decode cL_law 11 = .ok (.dup, 1) := by decide +kernel
theorem dL_law_12 : decode cL_law 12 = .ok (.invokespecial 12, 3) := by decide +kernel
theorem dL_law_15 : decode cL_law 15 = .ok (.astore_n 2, 1) := by decide +kernel
theorem dL_law_16 : decode cL_law 16 = .ok (.iconst 0, 1) := by decide +kernel
theorem dL_law_17 : decode cL_law 17 = .ok (.istore_n 3, 1) := by decide +kernel
theorem dL_law_18 : decode cL_law 18 = .ok (.iload_n 3, 1) := by decide +kernel
theorem dL_law_19 : decode cL_law 19 = .ok (.aload_n 0, 1) := by decide +kernel
theorem dL_law_20 : decode cL_law 20 = .ok (.arraylength, 1) := by decide +kernel
theorem dL_law_21 : decode cL_law 21 = .ok (.iconst 3, 1) := by decide +kernel
theorem dL_law_22 : decode cL_law 22 = .ok (.isub, 1) := by decide +kernel
theorem dL_law_23 : decode cL_law 23 = .ok (.if_icmp .gt 379, 3) := by decide +kernel
theorem dL_law_26 : decode cL_law 26 = .ok (.aload_n 0, 1) := by decide +kernel
theorem dL_law_27 : decode cL_law 27 = .ok (.iload_n 3, 1) := by decide +kernel
theorem dL_law_28 : decode cL_law 28 = .ok (.iaload, 1) := by decide +kernel
theorem dL_law_29 : decode cL_law 29 = .ok (.bipush 15, 2) := by decide +kernel
theorem dL_law_31 : decode cL_law 31 = .ok (.iand, 1) := by decide +kernel
theorem dL_law_32 : decode cL_law 32 = .ok (.tableswitch 364 0 13 #[72, 105, 138, 161, 174, 187, 200, 223, 246, 269, 292, 315, 328, 341], 72) := by decide +kernel
theorem dL_law_104 : decode cL_law 104 = .ok (.aload_n 1, 1) := by decide +kernel
theorem dL_law_105 : decode cL_law 105 = .ok (.aload_n 0, 1) := by decide +kernel
theorem dL_law_106 : decode cL_law 106 = .ok (.iload_n 3, 1) := by decide +kernel
theorem dL_law_107 : decode cL_law 107 = .ok (.iconst 1, 1) := by decide +kernel
theorem dL_law_108 : decode cL_law 108 = .ok (.iadd, 1) := by decide +kernel
theorem dL_law_109 : decode cL_law 109 = .ok (.iaload, 1) := by decide +kernel
theorem dL_law_110 : decode cL_law 110 = .ok (.aload_n 0, 1) := by decide +kernel
theorem dL_law_111 : decode cL_law 111 = .ok (.iload_n 3, 1) := by decide +kernel
theorem dL_law_112 : decode cL_law 112 = .ok (.iconst 2, 1) := by decide +kernel
theorem dL_law_113 : decode cL_law 113 = .ok (.iadd, 1) := by decide +kernel
theorem dL_law_114 : decode cL_law 114 = .ok (.iaload, 1) := by decide +kernel
theorem dL_law_115 : decode cL_law 115 = .ok (.invokevirtual 13, 3) := by decide +kernel
theorem dL_law_118 : decode cL_law 118 = .ok (.aload_n 2, 1) := by decide +kernel
theorem dL_law_119 : decode cL_law 119 = .ok (.aload_n 0, 1) := by decide +kernel
theorem dL_law_120 : decode cL_law 120 = .ok (.iload_n 3, 1) := by decide +kernel
theorem dL_law_121 : decode cL_law 121 = .ok (.iconst 1, 1) := by decide +kernel
theorem dL_law_122 : decode cL_law 122 = .ok (.iadd, 1) := by decide +kernel
theorem dL_law_123 : decode cL_law 123 = .ok (.iaload, 1) := by decide +kernel
theorem dL_law_124 : decode cL_law 124 = .ok (.aload_n 0, 1) := by decide +kernel
theorem dL_law_125 : decode cL_law 125 = .ok (.iload_n 3, 1) := by decide +kernel
theorem dL_law_126 : decode cL_law 126 = .ok (.iconst 2, 1) := by decide +kernel
theorem dL_law_127 : decode cL_law 127 = .ok (.iadd, 1) := by decide +kernel
theorem dL_law_128 : decode cL_law 128 = .ok (.iaload, 1) := by decide +kernel
theorem dL_law_129 : decode cL_law 129 = .ok (.invokevirtual 17, 3) := by decide +kernel
theorem dL_law_132 : decode cL_law 132 = .ok (.if_icmp .eq 264, 3) := by decide +kernel
theorem dL_law_135 : decode cL_law 135 = .ok (.iconst 0, 1) := by decide +kernel
theorem dL_law_136 : decode cL_law 136 = .ok (.ireturn, 1) := by decide +kernel
theorem dL_law_137 : decode cL_law 137 = .ok (.aload_n 1, 1) := by decide +kernel
theorem dL_law_138 : decode cL_law 138 = .ok (.aload_n 0, 1) := by decide +kernel
theorem dL_law_139 : decode cL_law 139 = .ok (.iload_n 3, 1) := by decide +kernel
theorem dL_law_140 : decode cL_law 140 = .ok (.iconst 1, 1) := by decide +kernel
theorem dL_law_141 : decode cL_law 141 = .ok (.iadd, 1) := by decide +kernel
theorem dL_law_142 : decode cL_law 142 = .ok (.iaload, 1) := by decide +kernel
theorem dL_law_143 : decode cL_law 143 = .ok (.aload_n 0, 1) := by decide +kernel
theorem dL_law_144 : decode cL_law 144 = .ok (.iload_n 3, 1) := by decide +kernel
theorem dL_law_145 : decode cL_law 145 = .ok (.iconst 2, 1) := by decide +kernel
theorem dL_law_146 : decode cL_law 146 = .ok (.iadd, 1) := by decide +kernel
theorem dL_law_147 : decode cL_law 147 = .ok (.iaload, 1) := by decide +kernel
theorem dL_law_148 : decode cL_law 148 = .ok (.invokevirtual 18, 3) := by decide +kernel
theorem dL_law_151 : decode cL_law 151 = .ok (.aload_n 2, 1) := by decide +kernel
theorem dL_law_152 : decode cL_law 152 = .ok (.aload_n 0, 1) := by decide +kernel
theorem dL_law_153 : decode cL_law 153 = .ok (.iload_n 3, 1) := by decide +kernel
theorem dL_law_154 : decode cL_law 154 = .ok (.iconst 1, 1) := by decide +kernel
theorem dL_law_155 : decode cL_law 155 = .ok (.iadd, 1) := by decide +kernel
theorem dL_law_156 : decode cL_law 156 = .ok (.iaload, 1) := by decide +kernel
theorem dL_law_157 : decode cL_law 157 = .ok (.aload_n 0, 1) := by decide +kernel
theorem dL_law_158 : decode cL_law 158 = .ok (.iload_n 3, 1) := by decide +kernel
theorem dL_law_159 : decode cL_law 159 = .ok (.iconst 2, 1) := by decide +kernel
theorem dL_law_160 : decode cL_law 160 = .ok (.iadd, 1) := by decide +kernel
theorem dL_law_161 : decode cL_law 161 = .ok (.iaload, 1) := by decide +kernel
theorem dL_law_162 : decode cL_law 162 = .ok (.invokevirtual 21, 3) := by decide +kernel
theorem dL_law_165 : decode cL_law 165 = .ok (.if_icmp .eq 231, 3) := by decide +kernel
theorem dL_law_168 : decode cL_law 168 = .ok (.iconst 0, 1) := by decide +kernel
theorem dL_law_169 : decode cL_law 169 = .ok (.ireturn, 1) := by decide +kernel
theorem dL_law_170 : decode cL_law 170 = .ok (.aload_n 1, 1) := by decide +kernel
theorem dL_law_171 : decode cL_law 171 = .ok (.aload_n 0, 1) := by decide +kernel
theorem dL_law_172 : decode cL_law 172 = .ok (.iload_n 3, 1) := by decide +kernel
theorem dL_law_173 : decode cL_law 173 = .ok (.iconst 1, 1) := by decide +kernel
theorem dL_law_174 : decode cL_law 174 = .ok (.iadd, 1) := by decide +kernel
theorem dL_law_175 : decode cL_law 175 = .ok (.iaload, 1) := by decide +kernel
theorem dL_law_176 : decode cL_law 176 = .ok (.invokevirtual 22, 3) := by decide +kernel
theorem dL_law_179 : decode cL_law 179 = .ok (.aload_n 2, 1) := by decide +kernel
theorem dL_law_180 : decode cL_law 180 = .ok (.aload_n 0, 1) := by decide +kernel
theorem dL_law_181 : decode cL_law 181 = .ok (.iload_n 3, 1) := by decide +kernel
theorem dL_law_182 : decode cL_law 182 = .ok (.iconst 1, 1) := by decide +kernel
theorem dL_law_183 : decode cL_law 183 = .ok (.iadd, 1) := by decide +kernel
theorem dL_law_184 : decode cL_law 184 = .ok (.iaload, 1) := by decide +kernel
theorem dL_law_185 : decode cL_law 185 = .ok (.invokevirtual 26, 3) := by decide +kernel
theorem dL_law_188 : decode cL_law 188 = .ok (.if_icmp .eq 208, 3) := by decide +kernel
theorem dL_law_191 : decode cL_law 191 = .ok (.iconst 0, 1) := by decide +kernel
theorem dL_law_192 : decode cL_law 192 = .ok (.ireturn, 1) := by decide +kernel
theorem dL_law_193 : decode cL_law 193 = .ok (.aload_n 1, 1) := by decide +kernel
theorem dL_law_194 : decode cL_law 194 = .ok (.invokevirtual 27, 3) := by decide +kernel
theorem dL_law_197 : decode cL_law 197 = .ok (.aload_n 2, 1) := by decide +kernel
theorem dL_law_198 : decode cL_law 198 = .ok (.invokevirtual 31, 3) := by decide +kernel
theorem dL_law_201 : decode cL_law 201 = .ok (.if_icmp .eq 195, 3) := by decide +kernel
theorem dL_law_204 : decode cL_law 204 = .ok (.iconst 0, 1) := by decide +kernel
theorem dL_law_205 : decode cL_law 205 = .ok (.ireturn, 1) := by decide +kernel
theorem dL_law_206 : decode cL_law 206 = .ok (.aload_n 1, 1) := by decide +kernel
theorem dL_law_207 : decode cL_law 207 = .ok (.invokevirtual 32, 3) := by decide +kernel
theorem dL_law_210 : decode cL_law 210 = .ok (.aload_n 2, 1) := by decide +kernel
theorem dL_law_211 : decode cL_law 211 = .ok (.invokevirtual 35, 3) := by decide +kernel
theorem dL_law_214 : decode cL_law 214 = .ok (.if_icmp .eq 182, 3) := by decide +kernel
theorem dL_law_217 : decode cL_law 217 = .ok (.iconst 0, 1) := by decide +kernel
theorem dL_law_218 : decode cL_law 218 = .ok (.ireturn, 1) := by decide +kernel
theorem dL_law_219 : decode cL_law 219 = .ok (.aload_n 1, 1) := by decide +kernel
theorem dL_law_220 : decode cL_law 220 = .ok (.invokevirtual 36, 3) := by decide +kernel
theorem dL_law_223 : decode cL_law 223 = .ok (.aload_n 2, 1) := by decide +kernel
theorem dL_law_224 : decode cL_law 224 = .ok (.invokevirtual 39, 3) := by decide +kernel
theorem dL_law_227 : decode cL_law 227 = .ok (.if_icmp .eq 169, 3) := by decide +kernel
theorem dL_law_230 : decode cL_law 230 = .ok (.iconst 0, 1) := by decide +kernel
theorem dL_law_231 : decode cL_law 231 = .ok (.ireturn, 1) := by decide +kernel
theorem dL_law_232 : decode cL_law 232 = .ok (.aload_n 1, 1) := by decide +kernel
theorem dL_law_233 : decode cL_law 233 = .ok (.aload_n 0, 1) := by decide +kernel
theorem dL_law_234 : decode cL_law 234 = .ok (.iload_n 3, 1) := by decide +kernel
theorem dL_law_235 : decode cL_law 235 = .ok (.iconst 1, 1) := by decide +kernel
theorem dL_law_236 : decode cL_law 236 = .ok (.iadd, 1) := by decide +kernel
theorem dL_law_237 : decode cL_law 237 = .ok (.iaload, 1) := by decide +kernel
theorem dL_law_238 : decode cL_law 238 = .ok (.invokevirtual 40, 3) := by decide +kernel
theorem dL_law_241 : decode cL_law 241 = .ok (.aload_n 2, 1) := by decide +kernel
theorem dL_law_242 : decode cL_law 242 = .ok (.aload_n 0, 1) := by decide +kernel
theorem dL_law_243 : decode cL_law 243 = .ok (.iload_n 3, 1) := by decide +kernel
theorem dL_law_244 : decode cL_law 244 = .ok (.iconst 1, 1) := by decide +kernel
theorem dL_law_245 : decode cL_law 245 = .ok (.iadd, 1) := by decide +kernel
theorem dL_law_246 : decode cL_law 246 = .ok (.iaload, 1) := by decide +kernel
theorem dL_law_247 : decode cL_law 247 = .ok (.invokevirtual 44, 3) := by decide +kernel
theorem dL_law_250 : decode cL_law 250 = .ok (.if_icmp .eq 146, 3) := by decide +kernel
theorem dL_law_253 : decode cL_law 253 = .ok (.iconst 0, 1) := by decide +kernel
theorem dL_law_254 : decode cL_law 254 = .ok (.ireturn, 1) := by decide +kernel
theorem dL_law_255 : decode cL_law 255 = .ok (.aload_n 1, 1) := by decide +kernel
theorem dL_law_256 : decode cL_law 256 = .ok (.aload_n 0, 1) := by decide +kernel
theorem dL_law_257 : decode cL_law 257 = .ok (.iload_n 3, 1) := by decide +kernel
theorem dL_law_258 : decode cL_law 258 = .ok (.iconst 1, 1) := by decide +kernel
theorem dL_law_259 : decode cL_law 259 = .ok (.iadd, 1) := by decide +kernel
theorem dL_law_260 : decode cL_law 260 = .ok (.iaload, 1) := by decide +kernel
theorem dL_law_261 : decode cL_law 261 = .ok (.invokevirtual 45, 3) := by decide +kernel
theorem dL_law_264 : decode cL_law 264 = .ok (.aload_n 2, 1) := by decide +kernel
theorem dL_law_265 : decode cL_law 265 = .ok (.aload_n 0, 1) := by decide +kernel
theorem dL_law_266 : decode cL_law 266 = .ok (.iload_n 3, 1) := by decide +kernel
theorem dL_law_267 : decode cL_law 267 = .ok (.iconst 1, 1) := by decide +kernel
theorem dL_law_268 : decode cL_law 268 = .ok (.iadd, 1) := by decide +kernel
theorem dL_law_269 : decode cL_law 269 = .ok (.iaload, 1) := by decide +kernel
theorem dL_law_270 : decode cL_law 270 = .ok (.invokevirtual 48, 3) := by decide +kernel
theorem dL_law_273 : decode cL_law 273 = .ok (.if_icmp .eq 123, 3) := by decide +kernel
theorem dL_law_276 : decode cL_law 276 = .ok (.iconst 0, 1) := by decide +kernel
theorem dL_law_277 : decode cL_law 277 = .ok (.ireturn, 1) := by decide +kernel
theorem dL_law_278 : decode cL_law 278 = .ok (.aload_n 1, 1) := by decide +kernel
theorem dL_law_279 : decode cL_law 279 = .ok (.aload_n 0, 1) := by decide +kernel
theorem dL_law_280 : decode cL_law 280 = .ok (.iload_n 3, 1) := by decide +kernel
theorem dL_law_281 : decode cL_law 281 = .ok (.iconst 1, 1) := by decide +kernel
theorem dL_law_282 : decode cL_law 282 = .ok (.iadd, 1) := by decide +kernel
theorem dL_law_283 : decode cL_law 283 = .ok (.iaload, 1) := by decide +kernel
theorem dL_law_284 : decode cL_law 284 = .ok (.invokevirtual 49, 3) := by decide +kernel
theorem dL_law_287 : decode cL_law 287 = .ok (.aload_n 2, 1) := by decide +kernel
theorem dL_law_288 : decode cL_law 288 = .ok (.aload_n 0, 1) := by decide +kernel
theorem dL_law_289 : decode cL_law 289 = .ok (.iload_n 3, 1) := by decide +kernel
theorem dL_law_290 : decode cL_law 290 = .ok (.iconst 1, 1) := by decide +kernel
theorem dL_law_291 : decode cL_law 291 = .ok (.iadd, 1) := by decide +kernel
theorem dL_law_292 : decode cL_law 292 = .ok (.iaload, 1) := by decide +kernel
theorem dL_law_293 : decode cL_law 293 = .ok (.invokevirtual 52, 3) := by decide +kernel
theorem dL_law_296 : decode cL_law 296 = .ok (.if_icmp .eq 100, 3) := by decide +kernel
theorem dL_law_299 : decode cL_law 299 = .ok (.iconst 0, 1) := by decide +kernel
theorem dL_law_300 : decode cL_law 300 = .ok (.ireturn, 1) := by decide +kernel
theorem dL_law_301 : decode cL_law 301 = .ok (.aload_n 1, 1) := by decide +kernel
theorem dL_law_302 : decode cL_law 302 = .ok (.aload_n 0, 1) := by decide +kernel
theorem dL_law_303 : decode cL_law 303 = .ok (.iload_n 3, 1) := by decide +kernel
theorem dL_law_304 : decode cL_law 304 = .ok (.iconst 1, 1) := by decide +kernel
theorem dL_law_305 : decode cL_law 305 = .ok (.iadd, 1) := by decide +kernel
theorem dL_law_306 : decode cL_law 306 = .ok (.iaload, 1) := by decide +kernel
theorem dL_law_307 : decode cL_law 307 = .ok (.invokevirtual 53, 3) := by decide +kernel
theorem dL_law_310 : decode cL_law 310 = .ok (.aload_n 2, 1) := by decide +kernel
theorem dL_law_311 : decode cL_law 311 = .ok (.aload_n 0, 1) := by decide +kernel
theorem dL_law_312 : decode cL_law 312 = .ok (.iload_n 3, 1) := by decide +kernel
theorem dL_law_313 : decode cL_law 313 = .ok (.iconst 1, 1) := by decide +kernel
theorem dL_law_314 : decode cL_law 314 = .ok (.iadd, 1) := by decide +kernel
theorem dL_law_315 : decode cL_law 315 = .ok (.iaload, 1) := by decide +kernel
theorem dL_law_316 : decode cL_law 316 = .ok (.invokevirtual 56, 3) := by decide +kernel
theorem dL_law_319 : decode cL_law 319 = .ok (.if_icmp .eq 77, 3) := by decide +kernel
theorem dL_law_322 : decode cL_law 322 = .ok (.iconst 0, 1) := by decide +kernel
theorem dL_law_323 : decode cL_law 323 = .ok (.ireturn, 1) := by decide +kernel
theorem dL_law_324 : decode cL_law 324 = .ok (.aload_n 1, 1) := by decide +kernel
theorem dL_law_325 : decode cL_law 325 = .ok (.aload_n 0, 1) := by decide +kernel
theorem dL_law_326 : decode cL_law 326 = .ok (.iload_n 3, 1) := by decide +kernel
theorem dL_law_327 : decode cL_law 327 = .ok (.iconst 1, 1) := by decide +kernel
theorem dL_law_328 : decode cL_law 328 = .ok (.iadd, 1) := by decide +kernel
theorem dL_law_329 : decode cL_law 329 = .ok (.iaload, 1) := by decide +kernel
theorem dL_law_330 : decode cL_law 330 = .ok (.invokevirtual 57, 3) := by decide +kernel
theorem dL_law_333 : decode cL_law 333 = .ok (.aload_n 2, 1) := by decide +kernel
theorem dL_law_334 : decode cL_law 334 = .ok (.aload_n 0, 1) := by decide +kernel
theorem dL_law_335 : decode cL_law 335 = .ok (.iload_n 3, 1) := by decide +kernel
theorem dL_law_336 : decode cL_law 336 = .ok (.iconst 1, 1) := by decide +kernel
theorem dL_law_337 : decode cL_law 337 = .ok (.iadd, 1) := by decide +kernel
theorem dL_law_338 : decode cL_law 338 = .ok (.iaload, 1) := by decide +kernel
theorem dL_law_339 : decode cL_law 339 = .ok (.invokevirtual 60, 3) := by decide +kernel
theorem dL_law_342 : decode cL_law 342 = .ok (.if_icmp .eq 54, 3) := by decide +kernel
theorem dL_law_345 : decode cL_law 345 = .ok (.iconst 0, 1) := by decide +kernel
theorem dL_law_346 : decode cL_law 346 = .ok (.ireturn, 1) := by decide +kernel
theorem dL_law_347 : decode cL_law 347 = .ok (.aload_n 1, 1) := by decide +kernel
theorem dL_law_348 : decode cL_law 348 = .ok (.invokevirtual 61, 3) := by decide +kernel
theorem dL_law_351 : decode cL_law 351 = .ok (.aload_n 2, 1) := by decide +kernel
theorem dL_law_352 : decode cL_law 352 = .ok (.invokevirtual 64, 3) := by decide +kernel
theorem dL_law_355 : decode cL_law 355 = .ok (.if_icmp .eq 41, 3) := by decide +kernel
theorem dL_law_358 : decode cL_law 358 = .ok (.iconst 0, 1) := by decide +kernel
theorem dL_law_359 : decode cL_law 359 = .ok (.ireturn, 1) := by decide +kernel
theorem dL_law_360 : decode cL_law 360 = .ok (.aload_n 1, 1) := by decide +kernel
theorem dL_law_361 : decode cL_law 361 = .ok (.invokevirtual 65, 3) := by decide +kernel
theorem dL_law_364 : decode cL_law 364 = .ok (.aload_n 2, 1) := by decide +kernel
theorem dL_law_365 : decode cL_law 365 = .ok (.invokevirtual 68, 3) := by decide +kernel
theorem dL_law_368 : decode cL_law 368 = .ok (.if_icmp .eq 28, 3) := by decide +kernel
theorem dL_law_371 : decode cL_law 371 = .ok (.iconst 0, 1) := by decide +kernel
theorem dL_law_372 : decode cL_law 372 = .ok (.ireturn, 1) := by decide +kernel
theorem dL_law_373 : decode cL_law 373 = .ok (.aload_n 1, 1) := by decide +kernel
theorem dL_law_374 : decode cL_law 374 = .ok (.aload_n 0, 1) := by decide +kernel
theorem dL_law_375 : decode cL_law 375 = .ok (.iload_n 3, 1) := by decide +kernel
theorem dL_law_376 : decode cL_law 376 = .ok (.iconst 1, 1) := by decide +kernel
theorem dL_law_377 : decode cL_law 377 = .ok (.iadd, 1) := by decide +kernel
theorem dL_law_378 : decode cL_law 378 = .ok (.iaload, 1) := by decide +kernel
theorem dL_law_379 : decode cL_law 379 = .ok (.invokevirtual 69, 3) := by decide +kernel
theorem dL_law_382 : decode cL_law 382 = .ok (.aload_n 2, 1) := by decide +kernel
theorem dL_law_383 : decode cL_law 383 = .ok (.aload_n 0, 1) := by decide +kernel
theorem dL_law_384 : decode cL_law 384 = .ok (.iload_n 3, 1) := by decide +kernel
theorem dL_law_385 : decode cL_law 385 = .ok (.iconst 1, 1) := by decide +kernel
theorem dL_law_386 : decode cL_law 386 = .ok (.iadd, 1) := by decide +kernel
theorem dL_law_387 : decode cL_law 387 = .ok (.iaload, 1) := by decide +kernel
theorem dL_law_388 : decode cL_law 388 = .ok (.invokevirtual 72, 3) := by decide +kernel
theorem dL_law_391 : decode cL_law 391 = .ok (.if_icmp .eq 5, 3) := by decide +kernel
theorem dL_law_394 : decode cL_law 394 = .ok (.iconst 0, 1) := by decide +kernel
theorem dL_law_395 : decode cL_law 395 = .ok (.ireturn, 1) := by decide +kernel
theorem dL_law_396 : decode cL_law 396 = .ok (.iinc 3 3, 3) := by decide +kernel
theorem dL_law_399 : decode cL_law 399 = .ok (.goto (-381), 3) := by decide +kernel
theorem dL_law_402 : decode cL_law 402 = .ok (.iconst 1, 1) := by decide +kernel
theorem dL_law_403 : decode cL_law 403 = .ok (.ireturn, 1) := by decide +kernel
end
section
/-! COMMON GROUND: classes, array classes, the words that a method carries, contracts' form, rows with Nat indices, loops -/
set_option maxRecDepth 100000
def TX4 : u_T := fun _ => ("Migrator$Nobody", "", "", false)
def tyX4 : Nat → FieldType := fun _ => .int
theorem in_X4 : ∀ w ∈ u_ws RX4 TX4 0, w ∈ lw_all := fun w h => by cases h
theorem tyX4_ok : ∀ k, k < 0 → parseFieldDescriptor (TX4 k).2.2.1 = some (tyX4 k) := fun k h => absurd h (Nat.not_lt_zero k)
abbrev mgCl : List vw_C := [(RX0, TX0, 10), (RX1, TX1, 1), (RX2, TX2, 4), (RX3, TX3, 1), (RX4, TX4, 0), (RX5, TX5, 16)]
abbrev mgT (ct : Nat → ClassId) : List (ClassId × FieldType) := [(ct 0, .int), (ct 1, .boolean), (ct 2, .long), (ct 3, .array .int)]
def yW_wrote : MethodName := ⟨"Migrator$Watcher", "wrote", "(I)V"⟩
def bi (b : Bool) : Int32 := match b with
  | true => 1
  | false => 0
theorem bi_nar (b : Bool) : vp_nar .boolean (bi b) = bi b := by cases b <;> rfl
theorem bi_narrow (b : Bool) : narrow .boolean (.int (bi b)) = .int (bi b) := by cases b <;> rfl
theorem bi_0 (b : Bool) : bi b = 0 ↔ b = false := by cases b <;> decide
theorem bi_ne {b : Bool} (h : ¬ bi b = 0) : b = true := by cases b with
  | true => rfl
  | false => exact absurd rfl h
theorem bi_eq0 {b : Bool} (h : bi b = 0) : b = false := (bi_0 b).mp h
theorem upd_bi (f : Nat → Bool) (i : Nat) (v : Bool) : upd (fun j => bi (f j)) i (bi v) = fun j => bi (va_up f i v j) := by
  funext j
  by_cases h : j = i
  · simp [upd, va_up, h]
  · simp [upd, va_up, h]
theorem upd_lN (f : Nat → Nat) (i v : Nat) : vp_updL (fun j => lN (f j)) i (lN v) = fun j => lN (va_up f i v j) := by
  funext j
  by_cases h : j = i
  · simp [vp_updL, va_up, h]
  · simp [vp_updL, va_up, h]
/-- the words that don't ride in the lists -/
def mg_N (U : State) : Prop :=
  (va_Nw (.methodLinkNest "Migrator" 9 yX1_init "Migrator") U ∧ va_Nw (.methodLinkNest "Migrator" 21 yX2_init "Migrator") U ∧ va_Nw (.methodLinkNest "Migrator" 28 yX3_init "Migrator") U ∧ va_Nw (.methodLinkNest "Migrator" 38 yX4_init "Migrator") U) ∧
  (va_Nw (.fieldLinkNest "Migrator" 116 "Migrator$Guest" "registers" "[I" "Migrator") U ∧ va_Nw (.fieldLinkNest "Migrator" 126 "Migrator$Guest" "shown" "[I" "Migrator") U ∧ va_Nw (.fieldLinkNest "Migrator" 120 "Migrator$Guest" "pc" "I" "Migrator") U ∧ va_Nw (.fieldLinkNest "Migrator" 123 "Migrator$Guest" "shows" "I" "Migrator") U ∧ va_Nw (.fieldLinkNest "Migrator" 108 "Migrator$Marks" "set" "[Z" "Migrator") U) ∧
  va_Fw RX3 yW_wrote yX3_wrote U ∧ va_Fw RX4 yW_wrote yX4_wrote U
theorem mg_N.warm {s U : State} (hW : s.WarmedH U.vm) (h : mg_N s) : mg_N U :=
  ⟨⟨va_Nw.warmM hW h.1.1, va_Nw.warmM hW h.1.2.1, va_Nw.warmM hW h.1.2.2.1, va_Nw.warmM hW h.1.2.2.2⟩, ⟨va_Nw.warmF hW h.2.1.1, va_Nw.warmF hW h.2.1.2.1, va_Nw.warmF hW h.2.1.2.2.1, va_Nw.warmF hW h.2.1.2.2.2.1, va_Nw.warmF hW h.2.1.2.2.2.2⟩, h.2.2.1.moved (by decide) hW.alike, h.2.2.2.moved (by decide) hW.alike⟩
theorem mg_N.same {u U : State} (hv : u.vm = U.vm) (h : mg_N u) : mg_N U :=
  ⟨⟨va_Nw.same rfl hv h.1.1, va_Nw.same rfl hv h.1.2.1, va_Nw.same rfl hv h.1.2.2.1, va_Nw.same rfl hv h.1.2.2.2⟩, ⟨va_Nw.same rfl hv h.2.1.1, va_Nw.same rfl hv h.2.1.2.1, va_Nw.same rfl hv h.2.1.2.2.1, va_Nw.same rfl hv h.2.1.2.2.2.1, va_Nw.same rfl hv h.2.1.2.2.2.2⟩, h.2.2.1.moved (by decide) (hv ▸ Vm.Alike.refl u.vm), h.2.2.2.moved (by decide) (hv ▸ Vm.Alike.refl u.vm)⟩
/-- int[][] over int[] -/
def mg_AA (ct : Nat → ClassId) (U : State) : Prop := ∃ (kA kI : Class) (c0 : ClassId), U.vm.classes[ct 3]? = some kA ∧ kA.kind = .array (ct 0) (.array .int) ∧ U.vm.classes[ct 0]? = some kI ∧ kI.kind = .array c0 .int ∧ U.vm.findClass "[[I" = some (ct 3) ∧ U.vm.findClass "[I" = some (ct 0)
theorem mg_AA.moved {ct : Nat → ClassId} {u U : State} (hvm : u.vm.Alike U.vm) (h : mg_AA ct u) : mg_AA ct U := by
  obtain ⟨kA, kI, c0, h1, h2, h3, h4, h5, h6⟩ := h
  obtain ⟨k1, hk1, he1⟩ := hvm.2.2 _ _ h1
  obtain ⟨k2, hk2, he2⟩ := hvm.2.2 _ _ h3
  exact ⟨k1, k2, c0, hk1, by rw [he1]; exact h2, hk2, by rw [he2]; exact h4, by rw [hvm.findClass]; exact h5, by rw [hvm.findClass]; exact h6⟩
abbrev mg_E (ad : Nat → Nat) (A : Nat → Prop) (U : State) (H : Heap) : Prop := va_En "Migrator$Phase" "LMigrator$Phase;" ["HOME", "COPYING", "STOPPED", "MOVED"] [("java/lang/Enum", "ordinal", "I", [0, 1, 2, 3])] ad A U H
/-- what every method knows -/
def mg_C (D : va_G) (ct ad : Nat → Nat) (A : Nat → Prop) (U : State) (H : Heap) : Prop := va_K D mgCl (mgT ct) U ∧ mg_AA ct U ∧ mg_N U ∧ mg_E ad A U H
theorem mg_C.call {D : va_G} {ct ad : Nat → Nat} {A B : Nat → Prop} {s U : State} {H : Heap} {locs : List Loc} (h : mg_C D ct ad A s s.heap) (hS : va_S A s.heap H locs) (hB : ∀ q, B q → A q) (hU : U.heap = H) (hW : s.WarmedH U.vm) : mg_C D ct ad B U U.heap :=
  ⟨va_K.moved hW.alike h.1, h.2.1.moved hW.alike, h.2.2.1.warm hW, by rw [hU]; exact ((h.2.2.2.kept (fun a h1 h2 => hS.2.1 a h1 h2)).moved hW.alike).narrow hB⟩
theorem mg_C.blind {D : va_G} {ct ad : Nat → Nat} {B : Nat → Prop} {U : State} {g : JFrame} {mk : MethodId} {a : Array Value} (h : mg_C D ct ad B U U.heap) : mg_C D ct ad B (U.calling g mk a) (U.calling g mk a).heap :=
  ⟨va_K.moved (u := U) (U := U.calling g mk a) (Vm.Alike.refl U.vm) h.1, mg_AA.moved (u := U) (U := U.calling g mk a) (Vm.Alike.refl U.vm) h.2.1, mg_N.same (u := U) (U := U.calling g mk a) rfl h.2.2.1, va_En.moved (u := U) (U := U.calling g mk a) (Vm.Alike.refl U.vm) h.2.2.2⟩
/-- a contract's start: the world w, all cells apart, the heap of size sz -/
def mg_pre (D : va_G) (ct ad : Nat → Nat) (w : va_W) (sz : Nat) (U : State) : Prop := U.heap.size = sz ∧ va_P D mgCl w U.heap ∧ va_D (fun _ => True) w ∧ mg_C D ct ad (va_A w sz) U U.heap
def mg_end (D : va_G) (A : Nat → Prop) (w' : va_W) (_ : Unit) (t : State) : Prop := va_P D mgCl w' t.heap ∧ va_D A w'
/-- a contract with an int for answer: from the world w to the world w', the answer is v -/
abbrev MI (l : Launch) (y : MethodName) (b : ByteArray) (n : Nat) (r : Option FieldType) (rm : Room) (D : va_G) (ct ad : Nat → Nat) (args : List Value) (w w' : va_W) (v : Int32) : Prop :=
  ∀ sz : Nat, Met l y (ws_ y b n r) rm (va_Pc args (mg_pre D ct ad w sz)) (va_Qi (fun x (_ : Unit) => x = v) (mg_end D (va_A w sz) w') (va_A w sz)) 0 0 (va_A w sz)
/-- a contract without answer -/
abbrev MV (l : Launch) (y : MethodName) (b : ByteArray) (n : Nat) (rm : Room) (D : va_G) (ct ad : Nat → Nat) (args : List Value) (w w' : va_W) : Prop :=
  ∀ sz : Nat, Met l y (ws_ y b n none) rm (va_Pc args (mg_pre D ct ad w sz)) (va_Qv (fun (_ : Unit) => True) (mg_end D (va_A w sz) w') (va_A w sz)) 0 0 (va_A w sz)
abbrev rmZ : Room := { frames := 0, cells := 0, slots := 0, locals := 0 }
abbrev rmN (f n : Nat) : Room := { frames := f, cells := 0, slots := 0, locals := n }
/-- what a method's body starts from -/
abbrev mg_Body (l : Launch) (y : MethodName) (b : ByteArray) (n : Nat) (r : Option FieldType) (R : Room) (D : va_G) (ct ad : Nat → Nat) (args : List Value) (w : va_W) (mc ms : Nat) (Qc : (Nat → Prop) → Array Value → State → Outcome → State → Prop) : Prop :=
  ∀ (p : Program) (e : Env) (s : State) (m : MethodId) (below : List Frame) (meth : Method) (c : Code) (A : Nat → Prop), p.tables.exec = Jvm.exec → c.code = b → meth.sig.returnType = r → meth.locks = false → c.maxLocals = n → s.vm.findClass y.cls = some m.cls → meth.name = y.name → (∀ w ∈ lw_all, w.before args.toArray s = true) →
    mg_C D ct ad A s s.heap → va_P D mgCl w s.heap → va_D A w → (∀ q : Nat, s.heap.size ≤ q → A q) → va_S A s.heap s.heap [] → ∀ ls : Array Slot, lv_has ls n (lv_args 0 args) →
    W p l e R s m args.toArray below meth c s.heap [] 0 0 (MQ below (Qc A) args.toArray s mc ms A) (F0 m 0 ls [])
theorem mg_start {l : Launch} {y : MethodName} {b : ByteArray} {n : Nat} {r : Option FieldType} {R : Room} {D : va_G} {ct ad : Nat → Nat} {args : List Value} {w : va_W} {mc ms : Nat} {Qc : (Nat → Prop) → Array Value → State → Outcome → State → Prop} (hy : plainName y.cls = true) (hL : (lg_sl args).length ≤ n) (body : mg_Body l y b n r R D ct ad args w mc ms Qc) (sz : Nat) : Met l y (ws_ y b n r) R (va_Pc args (mg_pre D ct ad w sz)) (Qc (va_A w sz)) mc ms (va_A w sz) := by
  refine Met.ofW (cc := b) (maxL := n) (ret := r) hy rfl ?_
  intro p e s m args' below meth c s₁ B hml hv
  obtain ⟨rfl, hsz, hP, hD0, hC⟩ := hv
  have hts := atoms_spec (ws := ws_ y b n r) B.pre
  have hts : ∀ w ∈ lw_all, w.before _ s = true := fun w h => hts w (List.mem_cons_of_mem _ h)
  have hown : s.vm.findClass y.cls = some m.cls := findClass_of_methodNamed B.named
  subst hsz
  have hl := lv_entry args (n := n) hL
  rw [lg_entry_eq]
  exact body p e s m below meth c _ B.exec B.bytes B.returns B.notSynchronized hml hown (name_of_methodNamed B.named B.method).1 hts hC hP (hD0.self (sz := s.heap.size)) (fun q h => Or.inr h) va_S.rf _ hl
theorem mg_MI {l : Launch} {y : MethodName} {b : ByteArray} {n : Nat} {r : Option FieldType} {rm : Room} {D : va_G} {ct ad : Nat → Nat} {args : List Value} {w w' : va_W} {v : Int32} (hy : plainName y.cls = true) (hL : (lg_sl args).length ≤ n) (body : mg_Body l y b n r rm D ct ad args w 0 0 (fun A => va_Qi (fun x (_ : Unit) => x = v) (mg_end D A w') A)) : MI l y b n r rm D ct ad args w w' v := mg_start hy hL body
theorem mg_MV {l : Launch} {y : MethodName} {b : ByteArray} {n : Nat} {rm : Room} {D : va_G} {ct ad : Nat → Nat} {args : List Value} {w w' : va_W} (hy : plainName y.cls = true) (hL : (lg_sl args).length ≤ n) (body : mg_Body l y b n none rm D ct ad args w 0 0 (fun A => va_Qv (fun (_ : Unit) => True) (mg_end D A w') A)) : MV l y b n rm D ct ad args w w' := mg_start hy hL body
theorem mg_in {ws wc : va_W} {is : List Nat} (hi : is.map (fun i => ws[i]?) = wc.map some) {k : Nat} {q : Nat × va_E} (hk : wc[k]? = some q) : ∃ i : Nat, ws[i]? = some q := by
  have h1 : (is.map (fun i => ws[i]?))[k]? = some (some q) := by rw [hi, List.getElem?_map, hk]; rfl
  rw [List.getElem?_map] at h1
  cases hj : is[k]? with
  | none => rw [hj] at h1; cases h1
  | some i => rw [hj] at h1; exact ⟨i, Option.some.inj h1⟩
theorem mg_sub {D : va_G} {ws wc : va_W} {H : Heap} (hP : va_P D mgCl ws H) {is : List Nat} (hi : is.map (fun i => ws[i]?) = wc.map some) : va_P D mgCl wc H := fun k q hk => by
  obtain ⟨i, h⟩ := mg_in hi hk
  exact hP i q h
section MG
variable {p : Program} {l : Launch} {e : Env} {R : Room} {s : State} {m : MethodId} {args : Array Value} {below : List Frame} {meth : Method} {c : Code} {H : Heap} {locs : List Loc} {cells slots : Nat} {Q : State → Prop}
variable {cc : ByteArray} {pc : Nat} {ls : Array Slot} {rest st0 : List Value} {D : va_G} {A : Nat → Prop} {a : Nat} {ws : va_W} {H0 : Heap} {ct ad : Nat → Nat}
/-- what a call's start asks -/
theorem mg_preOf (hC : mg_C D ct ad A s s.heap) (hP : va_P D mgCl ws H) (hD : va_D A ws) (hS : va_S A s.heap H locs) (hA : ∀ q : Nat, s.heap.size ≤ q → A q) {wc : va_W} (isC : List Nat) (hi : isC.map (fun i => ws[i]?) = wc.map some) (hn : va_nd isC = true) (av : List Value) : PreS s H (va_Pc av (mg_pre D ct ad wc H.size)) av := by
  refine ⟨fun a U g mk q => ?_, fun U hU hW => ⟨rfl, by rw [hU], ?_, (hD.sub isC hn hi).weaken (fun _ _ _ _ => trivial), hC.call hS (va_free hD hS hA isC hi) hU hW⟩⟩
  · obtain ⟨q0, q1, q2, q3, q4⟩ := q
    exact ⟨q0, q1, q2, q3, q4.blind⟩
  · rw [hU]
    exact mg_sub hP hi
theorem mg_preV (hC : mg_C D ct ad A s s.heap) (hP : va_P D mgCl ws H) (hD : va_D A ws) (hS : va_S A s.heap H locs) (hA : ∀ q : Nat, s.heap.size ≤ q → A q) {wc : va_W} (isC : List Nat) (hi : isC.map (fun i => ws[i]?) = wc.map some) (hn : va_nd isC = true) {b ci q0 : Nat} {r : vw_C} {fs : List Value} (hc : mgCl[ci]? = some r) (he : wc[q0]? = some (b, .inr (ci, fs))) (As : List Value) : PreV s H r.1 b (va_Pc (.ref b :: As) (mg_pre D ct ad wc H.size)) As :=
  ⟨(mg_preOf hC hP hD hS hA isC hi hn (.ref b :: As)).1, va_recv hC.1 (mg_sub hP hi) hc he, (mg_preOf hC hP hD hS hA isC hi hn (.ref b :: As)).2⟩
/-- behind a call that answers an int: the caller's world w2 again -/
theorem mg_afterI {wc wr w1 w2 : va_W} {v : Int32} {av : Array Value} (hr : va_Run p l e R s m args below meth c H locs cells slots 0 0 (F0 m pc ls st0) rest (va_Qi (fun x (_ : Unit) => x = v) (mg_end D (va_A wc H.size) w1) (va_A wc H.size) av) (va_A wc H.size)) (hP : va_P D mgCl ws H) (hD : va_D A ws) (hS : va_S A s.heap H locs) (hA : ∀ q : Nat, s.heap.size ≤ q → A q) (isC isR isP : List Nat) (hi : isC.map (fun i => ws[i]?) = wc.map some) (hiR : isR.map (fun i => ws[i]?) = wr.map some) (hnR : va_nd isR = true) (hdis : ∀ i ∈ isR, i ∉ isC) (hiP : isP.map (fun i => (wr ++ w1)[i]?) = w2.map some) (hnP : va_nd isP = true)
    (kk : ∀ (H1 : Heap) (locs1 : List Loc), va_P D mgCl w2 H1 → va_D A w2 → va_S A s.heap H1 locs1 → W p l e R s m args below meth c H1 locs1 cells slots Q (F0 m (pc + 3) ls (.int v :: rest))) : W p l e R s m args below meth c H locs cells slots Q (F0 m pc ls st0) := by
  have hF := va_free hD hS hA isC hi
  refine va_calli hr hS (fun q _ h => hF q h) hF (fun r u t H1 locs1 ht hvm hp hB hz hk hS1 => ?_)
  obtain ⟨hP1, hD1⟩ := hB
  rw [ht] at hP1
  obtain ⟨hP2, hD2⟩ := va_join hP hD isC isR hi hiR hnR hdis hk hF hP1 hD1
  subst hp
  exact kk H1 locs1 (mg_sub hP2 hiP) (hD2.sub isP hnP hiP) hS1
theorem mg_afterV {wc wr w1 w2 : va_W} {av : Array Value} (hr : va_Run p l e R s m args below meth c H locs cells slots 0 0 (F0 m pc ls st0) rest (va_Qv (fun (_ : Unit) => True) (mg_end D (va_A wc H.size) w1) (va_A wc H.size) av) (va_A wc H.size)) (hP : va_P D mgCl ws H) (hD : va_D A ws) (hS : va_S A s.heap H locs) (hA : ∀ q : Nat, s.heap.size ≤ q → A q) (isC isR isP : List Nat) (hi : isC.map (fun i => ws[i]?) = wc.map some) (hiR : isR.map (fun i => ws[i]?) = wr.map some) (hnR : va_nd isR = true) (hdis : ∀ i ∈ isR, i ∉ isC) (hiP : isP.map (fun i => (wr ++ w1)[i]?) = w2.map some) (hnP : va_nd isP = true)
    (kk : ∀ (H1 : Heap) (locs1 : List Loc), va_P D mgCl w2 H1 → va_D A w2 → va_S A s.heap H1 locs1 → W p l e R s m args below meth c H1 locs1 cells slots Q (F0 m (pc + 3) ls rest)) : W p l e R s m args below meth c H locs cells slots Q (F0 m pc ls st0) := by
  have hF := va_free hD hS hA isC hi
  refine va_callv hr hS (fun q _ h => hF q h) hF (fun u t H1 locs1 ht hvm hp hB hz hk hS1 => ?_)
  obtain ⟨hP1, hD1⟩ := hB
  rw [ht] at hP1
  obtain ⟨hP2, hD2⟩ := va_join hP hD isC isR hi hiR hnR hdis hk hF hP1 hD1
  exact kk H1 locs1 (mg_sub hP2 hiP) (hD2.sub isP hnP hiP) hS1
/-- the same behind an interface's call (five bytes) -/
theorem mg_afterF {wc wr w1 w2 : va_W} {av : Array Value} (hr : va_Run5 p l e R s m args below meth c H locs cells slots 0 0 (F0 m pc ls st0) rest (va_Qv (fun (_ : Unit) => True) (mg_end D (va_A wc H.size) w1) (va_A wc H.size) av) (va_A wc H.size)) (hP : va_P D mgCl ws H) (hD : va_D A ws) (hS : va_S A s.heap H locs) (hA : ∀ q : Nat, s.heap.size ≤ q → A q) (isC isR isP : List Nat) (hi : isC.map (fun i => ws[i]?) = wc.map some) (hiR : isR.map (fun i => ws[i]?) = wr.map some) (hnR : va_nd isR = true) (hdis : ∀ i ∈ isR, i ∉ isC) (hiP : isP.map (fun i => (wr ++ w1)[i]?) = w2.map some) (hnP : va_nd isP = true)
    (kk : ∀ (H1 : Heap) (locs1 : List Loc), va_P D mgCl w2 H1 → va_D A w2 → va_S A s.heap H1 locs1 → W p l e R s m args below meth c H1 locs1 cells slots Q (F0 m (pc + 5) ls rest)) : W p l e R s m args below meth c H locs cells slots Q (F0 m pc ls st0) := by
  have hF := va_free hD hS hA isC hi
  refine va_callFv hr hS (fun q _ h => hF q h) hF (fun u t H1 locs1 ht hvm hp hB hz hk hS1 => ?_)
  obtain ⟨hP1, hD1⟩ := hB
  rw [ht] at hP1
  obtain ⟨hP2, hD2⟩ := va_join hP hD isC isR hi hiR hnR hdis hk hF hP1 hD1
  exact kk H1 locs1 (mg_sub hP2 hiP) (hD2.sub isP hnP hiP) hS1
/-- ends -/
theorem mg_iret {w' : va_W} {v x : Int32} {ty : FieldType} (hx : p.tables.exec = Jvm.exec) (hb : c.code = cc) (hr : meth.sig.returnType = some ty) (hlocks : meth.locks = false) (hn : narrow ty (.int x) = .int x) (hP : va_P D mgCl w' H) (hD : va_D A w') (hS : va_S A s.heap H locs) (hv : x = v) (hdg : decode cc pc = .ok (.ireturn, 1)) : W p l e R s m args below meth c H locs 0 0 (MQ below (va_Qi (fun x (_ : Unit) => x = v) (mg_end D A w') A) args s 0 0 A) (F0 m pc ls [.int x]) :=
  W.zret (v := x) hx hb hr hn (fun t ht hW => ⟨⟨x, (), rfl, hv, by rw [ht]; exact hP, hD⟩, hS.F ht⟩) hS.2.2 hdg
theorem mg_vret {w' : va_W} (hx : p.tables.exec = Jvm.exec) (hb : c.code = cc) (hr : meth.sig.returnType = none) (hlocks : meth.locks = false) (hP : va_P D mgCl w' H) (hD : va_D A w') (hS : va_S A s.heap H locs) (hdg : decode cc pc = .ok (.return_, 1)) : W p l e R s m args below meth c H locs 0 0 (MQ below (va_Qv (fun (_ : Unit) => True) (mg_end D A w') A) args s 0 0 A) (F0 m pc ls []) :=
  W.vret hx hb hr (fun t ht hW => ⟨⟨(), rfl, trivial, by rw [ht]; exact hP, hD⟩, hS.F ht⟩) hS.2.2 hdg
/-- the top by another name -/
theorem mg_top {x y : Int32} (h : x = y) (k : W p l e R s m args below meth c H locs cells slots Q (F0 m pc ls (.int y :: rest))) : W p l e R s m args below meth c H locs cells slots Q (F0 m pc ls (.int x :: rest)) := by
  rw [h]; exact k
/-- a loop whose head is at pc with an empty stack: I i at the i-th pass, N passes at most -/
theorem mg_loop (I : Nat → Heap → List Loc → Array Slot → Prop) (N : Nat)
    (hstep : ∀ (i : Nat) (H : Heap) (locs : List Loc) (ls : Array Slot), i ≤ N → I i H locs ls → (i < N → ∀ (H' : Heap) (locs' : List Loc) (ls' : Array Slot), I (i + 1) H' locs' ls' → W p l e R s m args below meth c H' locs' cells slots Q (F0 m pc ls' [])) → W p l e R s m args below meth c H locs cells slots Q (F0 m pc ls []))
    (i0 : Nat) (hi0 : i0 ≤ N) (h0 : I i0 H locs ls) : W p l e R s m args below meth c H locs cells slots Q (F0 m pc ls []) := by
  have key : ∀ (n i : Nat) (H : Heap) (locs : List Loc) (ls : Array Slot), i ≤ N → N < i + n → I i H locs ls → W p l e R s m args below meth c H locs cells slots Q (F0 m pc ls []) := by
    intro n
    induction n with
    | zero => intro i H locs ls h1 h2; omega
    | succ n ih =>
      intro i H locs ls h1 h2 h3
      exact hstep i H locs ls h1 h3 (fun hlt H' locs' ls' h4 => ih (i + 1) H' locs' ls' hlt (by omega) h4)
  exact key (N + 1) i0 H locs ls hi0 (by omega) h0
/-- rows with indices that are numbers -/
theorem mg_iald (hx : p.tables.exec = Jvm.exec) (hb : c.code = cc) (hK : va_K D mgCl (mgT ct) s) (hP : va_P D mgCl ws H) (q0 : Nat) {n : Nat} {f : Nat → Int32} (ha : ws[q0]? = some (a, .inl (ct 0, n, .inl f))) {i : Nat} (hi : i < n) (hdg : decode cc pc = .ok (.iaload, 1)) (kk : W p l e R s m args below meth c H locs cells slots Q (F0 m (pc + 1) ls (.int (f i) :: rest))) (hn : n ≤ 1000 := by decide) : W p l e R s m args below meth c H locs cells slots Q (F0 m pc ls (.int (nI i) :: .ref a :: rest)) := by
  refine va_iald hx hb hK hP q0 0 ha rfl (vp_in_nI hi (by omega)) hdg ?_
  rw [nI_clamp (by omega)]
  exact kk
theorem mg_iast (hx : p.tables.exec = Jvm.exec) (hb : c.code = cc) (hK : va_K D mgCl (mgT ct) s) (hP : va_P D mgCl ws H) (hD : va_D A ws) (hS : va_S A H0 H locs) (q0 : Nat) {n : Nat} {f : Nat → Int32} (ha : ws[q0]? = some (a, .inl (ct 0, n, .inl f))) {i : Nat} {x : Int32} (hi : i < n) (hdg : decode cc pc = .ok (.iastore, 1)) (kk : ∀ (H1 : Heap) (locs1 : List Loc), va_P D mgCl (ws.set q0 (a, .inl (ct 0, n, .inl (upd f i x)))) H1 → va_D A (ws.set q0 (a, .inl (ct 0, n, .inl (upd f i x)))) → va_S A H0 H1 locs1 → W p l e R s m args below meth c H1 locs1 cells slots Q (F0 m (pc + 1) ls rest)) (hn : n ≤ 1000 := by decide) : W p l e R s m args below meth c H locs cells slots Q (F0 m pc ls (.int x :: .int (nI i) :: .ref a :: rest)) := by
  refine va_iast hx hb hK hP hD hS q0 0 ha rfl (vp_in_nI hi (by omega)) hdg ?_
  rw [nI_clamp (by omega)]
  exact kk
theorem mg_zald (hx : p.tables.exec = Jvm.exec) (hb : c.code = cc) (hK : va_K D mgCl (mgT ct) s) (hP : va_P D mgCl ws H) (q0 : Nat) {n : Nat} {f : Nat → Bool} (ha : ws[q0]? = some (a, .inl (ct 1, n, .inl (fun j => bi (f j))))) {i : Nat} (hi : i < n) (hdg : decode cc pc = .ok (.baload, 1)) (kk : W p l e R s m args below meth c H locs cells slots Q (F0 m (pc + 1) ls (.int (bi (f i)) :: rest))) (hn : n ≤ 1000 := by decide) : W p l e R s m args below meth c H locs cells slots Q (F0 m pc ls (.int (nI i) :: .ref a :: rest)) := by
  refine va_zald hx hb hK hP q0 1 ha rfl (vp_in_nI hi (by omega)) hdg ?_
  rw [nI_clamp (by omega)]
  exact kk
theorem mg_zast (hx : p.tables.exec = Jvm.exec) (hb : c.code = cc) (hK : va_K D mgCl (mgT ct) s) (hP : va_P D mgCl ws H) (hD : va_D A ws) (hS : va_S A H0 H locs) (q0 : Nat) {n : Nat} {f : Nat → Bool} (ha : ws[q0]? = some (a, .inl (ct 1, n, .inl (fun j => bi (f j))))) {i : Nat} {v : Bool} (hi : i < n) (hdg : decode cc pc = .ok (.bastore, 1)) (kk : ∀ (H1 : Heap) (locs1 : List Loc), va_P D mgCl (ws.set q0 (a, .inl (ct 1, n, .inl (fun j => bi (va_up f i v j))))) H1 → va_D A (ws.set q0 (a, .inl (ct 1, n, .inl (fun j => bi (va_up f i v j))))) → va_S A H0 H1 locs1 → W p l e R s m args below meth c H1 locs1 cells slots Q (F0 m (pc + 1) ls rest)) (hn : n ≤ 1000 := by decide) : W p l e R s m args below meth c H locs cells slots Q (F0 m pc ls (.int (bi v) :: .int (nI i) :: .ref a :: rest)) := by
  refine va_zast hx hb hK hP hD hS q0 1 ha rfl (vp_in_nI hi (by omega)) hdg ?_
  rw [nI_clamp (by omega), bi_nar, upd_bi]
  exact kk
theorem mg_lald (hx : p.tables.exec = Jvm.exec) (hb : c.code = cc) (hK : va_K D mgCl (mgT ct) s) (hP : va_P D mgCl ws H) (q0 : Nat) {n : Nat} {f : Nat → Nat} (ha : ws[q0]? = some (a, .inl (ct 2, n, .inr (.inl (fun j => lN (f j)))))) {i : Nat} (hi : i < n) (hdg : decode cc pc = .ok (.laload, 1)) (kk : W p l e R s m args below meth c H locs cells slots Q (F0 m (pc + 1) ls (.long (lN (f i)) :: rest))) (hn : n ≤ 1000 := by decide) : W p l e R s m args below meth c H locs cells slots Q (F0 m pc ls (.int (nI i) :: .ref a :: rest)) := by
  refine va_lald hx hb hK hP q0 2 ha rfl (vp_in_nI hi (by omega)) hdg ?_
  rw [nI_clamp (by omega)]
  exact kk
theorem mg_last (hx : p.tables.exec = Jvm.exec) (hb : c.code = cc) (hK : va_K D mgCl (mgT ct) s) (hP : va_P D mgCl ws H) (hD : va_D A ws) (hS : va_S A H0 H locs) (q0 : Nat) {n : Nat} {f : Nat → Nat} (ha : ws[q0]? = some (a, .inl (ct 2, n, .inr (.inl (fun j => lN (f j)))))) {i v : Nat} (hi : i < n) (hdg : decode cc pc = .ok (.lastore, 1)) (kk : ∀ (H1 : Heap) (locs1 : List Loc), va_P D mgCl (ws.set q0 (a, .inl (ct 2, n, .inr (.inl (fun j => lN (va_up f i v j)))))) H1 → va_D A (ws.set q0 (a, .inl (ct 2, n, .inr (.inl (fun j => lN (va_up f i v j)))))) → va_S A H0 H1 locs1 → W p l e R s m args below meth c H1 locs1 cells slots Q (F0 m (pc + 1) ls rest)) (hn : n ≤ 1000 := by decide) : W p l e R s m args below meth c H locs cells slots Q (F0 m pc ls (.long (lN v) :: .int (nI i) :: .ref a :: rest)) := by
  refine va_last hx hb hK hP hD hS q0 2 ha rfl (vp_in_nI hi (by omega)) hdg ?_
  rw [nI_clamp (by omega), upd_lN]
  exact kk
/-- int[][]: a row's address -/
theorem mg_aald (hx : p.tables.exec = Jvm.exec) (hb : c.code = cc) (hK : va_K D mgCl (mgT ct) s) (hP : va_P D mgCl ws H) (q0 : Nat) {n y : Nat} {f : Nat → Option Nat} (ha : ws[q0]? = some (a, .inl (ct 3, n, .inr (.inr (.inr (.inr f)))))) {i : Nat} (hi : i < n) (hy : f i = some y) (hdg : decode cc pc = .ok (.aaload, 1)) (kk : W p l e R s m args below meth c H locs cells slots Q (F0 m (pc + 1) ls (.ref y :: rest))) (hn : n ≤ 1000 := by decide) : W p l e R s m args below meth c H locs cells slots Q (F0 m pc ls (.int (nI i) :: .ref a :: rest)) := by
  have hc : (nI i).toNatClampNeg = i := nI_clamp (by omega)
  have hv : vp_in (nI i) n := vp_in_nI hi (by omega)
  refine W.aald (v := .ref y) (ty := .array .int) hx hb (hP q0 _ ha) ((hK.2 3 _ rfl).1 n (fun j => va_rf (f j))) rfl (fun q => by cases q) (by show ¬ (nI i < 0 ∨ (arrV _ _ _).slots.size ≤ _); rw [arrV_size]; exact hv) ?_ rfl rfl hdg kk
  show (arrV _ _ _).slots[_]? = _
  rw [hc, arrV_read _ _ hi, hy]
  rfl
/-- new int[n], new boolean[n], new long[n] -/
theorem mg_newi (hx : p.tables.exec = Jvm.exec) (hb : c.code = cc) (harr : (Cond.arrayClass .int).before args s = true) (hK : va_K D mgCl (mgT ct) s) (hP : va_P D mgCl ws H) (hD : va_D A ws) (hS : va_S A H0 H locs) (hA : ∀ q, H0.size ≤ q → A q) {n : Nat} (hn : n ≤ 1000) (hcells : cells + 1 ≤ R.cells) (hslots : slots + n ≤ R.slots) (hdg : decode cc pc = .ok (.newarray .int, 2))
    (kk : ∀ (q : Nat) (H1 : Heap), va_P D mgCl (ws ++ [(q, .inl (ct 0, n, .inl (fun _ => 0)))]) H1 → va_D A (ws ++ [(q, .inl (ct 0, n, .inl (fun _ => 0)))]) → va_S A H0 H1 locs → W p l e R s m args below meth c H1 locs (cells + 1) (slots + n) Q (F0 m (pc + 2) ls (.ref q :: rest))) : W p l e R s m args below meth c H locs cells slots Q (F0 m pc ls (.int (nI n) :: rest)) := by
  refine va_newa (atype := .int) (a0 := (n, .inl (fun _ => 0))) (N' := n) (ty := .int) hx hb harr rfl hK hP hD hS hA (fun cA => rfl) (nI_pos (by omega)) (nI_clamp (by omega)) (by show n * 4 ≤ _; omega) hcells hslots hdg (fun q cA H1 hK1 hP1 hD1 hS1 => ?_)
  have h1 : s.vm.findClass _ = some cA := (hK1.2 4 (cA, .int) rfl).2
  have h2 : s.vm.findClass _ = some (ct 0) := (hK.2 0 (ct 0, .int) rfl).2
  have h3 : cA = ct 0 := Option.some.inj (h1.symm.trans h2)
  subst h3
  exact kk q H1 hP1 hD1 hS1
theorem mg_newz (hx : p.tables.exec = Jvm.exec) (hb : c.code = cc) (harr : (Cond.arrayClass .boolean).before args s = true) (hK : va_K D mgCl (mgT ct) s) (hP : va_P D mgCl ws H) (hD : va_D A ws) (hS : va_S A H0 H locs) (hA : ∀ q, H0.size ≤ q → A q) {n : Nat} (hn : n ≤ 1000) (hcells : cells + 1 ≤ R.cells) (hslots : slots + n ≤ R.slots) (hdg : decode cc pc = .ok (.newarray .boolean, 2))
    (kk : ∀ (q : Nat) (H1 : Heap), va_P D mgCl (ws ++ [(q, .inl (ct 1, n, .inl (fun j => bi ((fun _ => false) j))))]) H1 → va_D A (ws ++ [(q, .inl (ct 1, n, .inl (fun j => bi ((fun _ => false) j))))]) → va_S A H0 H1 locs → W p l e R s m args below meth c H1 locs (cells + 1) (slots + n) Q (F0 m (pc + 2) ls (.ref q :: rest))) : W p l e R s m args below meth c H locs cells slots Q (F0 m pc ls (.int (nI n) :: rest)) := by
  refine va_newa (atype := .boolean) (a0 := (n, .inl (fun j => bi ((fun _ => false) j)))) (N' := n) (ty := .boolean) hx hb harr rfl hK hP hD hS hA (fun cA => rfl) (nI_pos (by omega)) (nI_clamp (by omega)) (by show n * 1 ≤ _; omega) hcells hslots hdg (fun q cA H1 hK1 hP1 hD1 hS1 => ?_)
  have h1 : s.vm.findClass _ = some cA := (hK1.2 4 (cA, .boolean) rfl).2
  have h2 : s.vm.findClass _ = some (ct 1) := (hK.2 1 (ct 1, .boolean) rfl).2
  have h3 : cA = ct 1 := Option.some.inj (h1.symm.trans h2)
  subst h3
  exact kk q H1 hP1 hD1 hS1
theorem mg_newl (hx : p.tables.exec = Jvm.exec) (hb : c.code = cc) (harr : (Cond.arrayClass .long).before args s = true) (hK : va_K D mgCl (mgT ct) s) (hP : va_P D mgCl ws H) (hD : va_D A ws) (hS : va_S A H0 H locs) (hA : ∀ q, H0.size ≤ q → A q) {n : Nat} (hn : n ≤ 1000) (hcells : cells + 1 ≤ R.cells) (hslots : slots + n ≤ R.slots) (hdg : decode cc pc = .ok (.newarray .long, 2))
    (kk : ∀ (q : Nat) (H1 : Heap), va_P D mgCl (ws ++ [(q, .inl (ct 2, n, .inr (.inl (fun j => lN ((fun _ => 0) j)))))]) H1 → va_D A (ws ++ [(q, .inl (ct 2, n, .inr (.inl (fun j => lN ((fun _ => 0) j)))))]) → va_S A H0 H1 locs → W p l e R s m args below meth c H1 locs (cells + 1) (slots + n) Q (F0 m (pc + 2) ls (.ref q :: rest))) : W p l e R s m args below meth c H locs cells slots Q (F0 m pc ls (.int (nI n) :: rest)) := by
  refine va_newa (atype := .long) (a0 := (n, .inr (.inl (fun j => lN ((fun _ => 0) j))))) (N' := n) (ty := .long) hx hb harr rfl hK hP hD hS hA (fun cA => rfl) (nI_pos (by omega)) (nI_clamp (by omega)) (by show n * 8 ≤ _; omega) hcells hslots hdg (fun q cA H1 hK1 hP1 hD1 hS1 => ?_)
  have h1 : s.vm.findClass _ = some cA := (hK1.2 4 (cA, .long) rfl).2
  have h2 : s.vm.findClass _ = some (ct 2) := (hK.2 2 (ct 2, .long) rfl).2
  have h3 : cA = ct 2 := Option.some.inj (h1.symm.trans h2)
  subst h3
  exact kk q H1 hP1 hD1 hS1
end MG
end
section
/-! THE WORLDS: a host (object, pages, eight rows), the guest, marks, nobody, a whole Migrator, a whole MigratorModel -/
set_option maxRecDepth 100000
theorem mg_topl {p : Program} {l : Launch} {e : Env} {R : Room} {s : State} {m : MethodId} {args : Array Value} {below : List Frame} {meth : Method} {c : Code} {H : Heap} {locs : List Loc} {cells slots : Nat} {Q : State → Prop} {pc : Nat} {ls : Array Slot} {rest : List Value} {x y : Int64} (h : x = y) (k : W p l e R s m args below meth c H locs cells slots Q (F0 m pc ls (.long y :: rest))) : W p l e R s m args below meth c H locs cells slots Q (F0 m pc ls (.long x :: rest)) := by
  rw [h]; exact k
def wHost (ct h : Nat → Nat) (M : Nat → Nat → Int32) : va_W := [(h 0, .inr (1, [.ref (h 1)])), (h 1, .inl (ct 3, 8, .inr (.inr (.inr (.inr (fun i => some (h (2 + i)))))))), (h 2, .inl (ct 0, 8, .inl (M 0))), (h 3, .inl (ct 0, 8, .inl (M 1))), (h 4, .inl (ct 0, 8, .inl (M 2))), (h 5, .inl (ct 0, 8, .inl (M 3))), (h 6, .inl (ct 0, 8, .inl (M 4))), (h 7, .inl (ct 0, 8, .inl (M 5))), (h 8, .inl (ct 0, 8, .inl (M 6))), (h 9, .inl (ct 0, 8, .inl (M 7)))]
def wGst (ct g : Nat → Nat) (regs shown : Nat → Int32) (pc shows : Nat) : va_W := [(g 0, .inr (2, [.ref (g 1), .ref (g 2), .int (nI pc), .int (nI shows)])), (g 1, .inl (ct 0, 4, .inl regs)), (g 2, .inl (ct 0, 8, .inl shown))]
def wMk (ct k : Nat → Nat) (b : Nat → Bool) : va_W := [(k 0, .inr (3, [.ref (k 1)])), (k 1, .inl (ct 1, 8, .inl (fun j => bi (b j))))]
def wNb (n : Nat) : va_W := [(n, .inr (4, []))]
def wHd (a : Nat → Nat) (ph : Nat) (rd th lm : Int32) : va_W := [(a 0, .inr (0, [.ref (a 1), .ref (a 11), .ref (a 21), .ref (a 24), .ref (a 26), .ref (a 28), .ref ph, .int rd, .int th, .int lm]))]
def wMig (ct ad a : Nat → Nat) (M N : Nat → Nat → Int32) (regs shown : Nat → Int32) (pc shows : Nat) (bd bw : Nat → Bool) (ph : Nat) (rd th lm : Int32) : va_W :=
  wHd a (ad ph) rd th lm ++ (wHost ct (fun i => a (1 + i)) M ++ (wHost ct (fun i => a (11 + i)) N ++ (wGst ct (fun i => a (21 + i)) regs shown pc shows ++ (wMk ct (fun i => a (24 + i)) bd ++ (wMk ct (fun i => a (26 + i)) bw ++ wNb (a 28))))))
def wMod (ct b : Nat → Nat) (real kept copied reg : Nat → Int32) (written : Nat → Nat) (want left : Nat → Bool) (told : Nat → Int32) (pc ph : Nat) (rd th lm : Int32) (shows time since : Nat) : va_W :=
  [(b 0, .inr (5, [.ref (b 1), .ref (b 2), .ref (b 3), .ref (b 4), .ref (b 5), .ref (b 6), .ref (b 7), .ref (b 8), .int (nI pc), .int (nI ph), .int rd, .int th, .int lm, .int (nI shows), .long (lN time), .long (lN since)])),
   (b 1, .inl (ct 0, 64, .inl real)), (b 2, .inl (ct 0, 64, .inl kept)), (b 3, .inl (ct 0, 64, .inl copied)), (b 4, .inl (ct 0, 4, .inl reg)), (b 5, .inl (ct 2, 8, .inr (.inl (fun j => lN (written j))))), (b 6, .inl (ct 1, 8, .inl (fun j => bi (want j)))), (b 7, .inl (ct 1, 8, .inl (fun j => bi (left j)))), (b 8, .inl (ct 0, 8, .inl told))]
/-- a host's row -/
theorem wHost_get {ct h : Nat → Nat} {M : Nat → Nat → Int32} {i : Nat} (hi : i < 8) : (wHost ct h M)[2 + i]? = some (h (2 + i), .inl (ct 0, 8, .inl (M i))) := by
  rcases (show i = 0 ∨ i = 1 ∨ i = 2 ∨ i = 3 ∨ i = 4 ∨ i = 5 ∨ i = 6 ∨ i = 7 by omega) with rfl | rfl | rfl | rfl | rfl | rfl | rfl | rfl <;> rfl
theorem wHost_get2 {ct h : Nat → Nat} {M : Nat → Nat → Int32} {i : Nat} (hi : i < 8) (r : va_W) : (wHost ct h M ++ r)[2 + i]? = some (h (2 + i), .inl (ct 0, 8, .inl (M i))) := by
  rcases (show i = 0 ∨ i = 1 ∨ i = 2 ∨ i = 3 ∨ i = 4 ∨ i = 5 ∨ i = 6 ∨ i = 7 by omega) with rfl | rfl | rfl | rfl | rfl | rfl | rfl | rfl <;> rfl
theorem wHost_set {ct h : Nat → Nat} {M : Nat → Nat → Int32} {i : Nat} (hi : i < 8) (g : Nat → Int32) : (wHost ct h M).set (2 + i) (h (2 + i), .inl (ct 0, 8, .inl g)) = wHost ct h (va_up M i g) := by
  rcases (show i = 0 ∨ i = 1 ∨ i = 2 ∨ i = 3 ∨ i = 4 ∨ i = 5 ∨ i = 6 ∨ i = 7 by omega) with rfl | rfl | rfl | rfl | rfl | rfl | rfl | rfl <;> rfl
theorem wHost_set2 {ct h : Nat → Nat} {M : Nat → Nat → Int32} {i : Nat} (hi : i < 8) (g : Nat → Int32) (r : va_W) : (wHost ct h M ++ r).set (2 + i) (h (2 + i), .inl (ct 0, 8, .inl g)) = wHost ct h (va_up M i g) ++ r := by
  rcases (show i = 0 ∨ i = 1 ∨ i = 2 ∨ i = 3 ∨ i = 4 ∨ i = 5 ∨ i = 6 ∨ i = 7 by omega) with rfl | rfl | rfl | rfl | rfl | rfl | rfl | rfl <;> rfl
/-- a row behind a host of ten cells -/
theorem wHost_get3 {ct h g : Nat → Nat} {M N : Nat → Nat → Int32} {i : Nat} (hi : i < 8) : (wHost ct h M ++ wHost ct g N)[12 + i]? = some (g (2 + i), .inl (ct 0, 8, .inl (N i))) := by
  rcases (show i = 0 ∨ i = 1 ∨ i = 2 ∨ i = 3 ∨ i = 4 ∨ i = 5 ∨ i = 6 ∨ i = 7 by omega) with rfl | rfl | rfl | rfl | rfl | rfl | rfl | rfl <;> rfl
end
section
/-! MODULE Host: word, put, takePage (written by gen/gen_host.py) -/
set_option maxRecDepth 100000
def putM (M : Nat → Nat → Int32) (k : Nat) (v : Int32) : Nat → Nat → Int32 := va_up M (k / 8) (upd (M (k / 8)) (k % 8) v)
/-- the first i words come from g -/
def cpU (f g : Nat → Int32) (i : Nat) : Nat → Int32 := fun j => if j < i then g j else f j
theorem cpU_0 (f g : Nat → Int32) : cpU f g 0 = f := by funext j; simp [cpU]
theorem cpU_s (f g : Nat → Int32) (i : Nat) : upd (cpU f g i) i (g i) = cpU f g (i + 1) := by
  funext j
  by_cases h : j = i
  · subst h; simp [upd, cpU]
  · by_cases h2 : j < i
    · simp [upd, cpU, h, h2, Nat.lt_succ_of_lt h2]
    · simp [upd, cpU, h, h2, show ¬ j < i + 1 by omega]
theorem va_up_id {α : Type} (f : Nat → α) (k : Nat) : va_up f k (f k) = f := by funext j; by_cases h : j = k <;> simp [va_up, h]
theorem va_up_up {α : Type} (f : Nat → α) (k : Nat) (v w : α) : va_up (va_up f k v) k w = va_up f k w := by funext j; by_cases h : j = k <;> simp [va_up, h]
set_option maxHeartbeats 4000000 in
set_option maxRecDepth 100000 in
/-- Host.word(k): the word -/
theorem h_word (l : Launch) (D : va_G) (ct ad h : Nat → Nat) (M : Nat → Nat → Int32) (k : Nat) (hk : k < 64) : MI l yX1_word cX1_word 2 (some .int) rmZ D ct ad [.ref (h 0), .int (nI k)] (wHost ct h M) (wHost ct h M) (M (k / 8) (k % 8)) := by
  refine mg_MI (by decide) (Nat.le_of_ble_eq_true rfl) ?_
  intro p e s m below meth c A hx hb hr hlocks hml hown hnm hts hC hP hD hA hS ls hl
  have hown : s.vm.findClass RX1 = some m.cls := hown
  have hl : lv_has ls 2 [(0, .ref (h 0)), (1, .int (nI (k)))] := hl
  refine lv_aload_n hx hb dX1_word_0 rfl (lv_at hl 0 rfl) ?_
  refine va_get (D := D) (ci := 1) (v := .ref (h 1)) (C := RX1) (T := TX1) (N := 1) hx hb hts in_X1 hown hC.1 hP 0 rfl rfl 0 (by decide) (hts _ q27) (fun _ h9 => h9) rfl dX1_word_1 ?_
  refine lv_iload_n hx hb dX1_word_4 rfl (lv_at hl 1 rfl) ?_
  refine lv_bipush (v := nI (8)) hx hb dX1_word_5 (by decide) ?_
  refine lv_idiv hx hb dX1_word_7 (by decide) ?_
  refine mg_top (y := nI ((k) / 8)) (pk_div (by omega) (by decide) (by decide)) ?_
  refine mg_aald hx hb hC.1 hP 1 rfl (i := k / 8) (y := h (2 + k / 8)) (by omega) rfl dX1_word_8 ?_
  refine lv_iload_n hx hb dX1_word_9 rfl (lv_at hl 1 rfl) ?_
  refine lv_bipush (v := nI (8)) hx hb dX1_word_10 (by decide) ?_
  refine lv_irem hx hb dX1_word_12 (by decide) ?_
  refine mg_top (y := nI ((k) % 8)) (pk_rem (by omega) (by decide) (by decide)) ?_
  refine mg_iald hx hb hC.1 hP (2 + k / 8) (wHost_get (by omega)) (i := k % 8) (by omega) dX1_word_13 ?_
  exact mg_iret (ty := .int) hx hb hr hlocks (rfl) hP hD hS (rfl) dX1_word_14

set_option maxHeartbeats 4000000 in
set_option maxRecDepth 100000 in
/-- Host.put(k, v) -/
theorem h_put (l : Launch) (D : va_G) (ct ad h : Nat → Nat) (M : Nat → Nat → Int32) (k : Nat) (hk : k < 64) (v : Int32) : MV l yX1_put cX1_put 3 rmZ D ct ad [.ref (h 0), .int (nI k), .int v] (wHost ct h M) (wHost ct h (putM M k v)) := by
  refine mg_MV (by decide) (Nat.le_of_ble_eq_true rfl) ?_
  intro p e s m below meth c A hx hb hr hlocks hml hown hnm hts hC hP hD hA hS ls hl
  have hown : s.vm.findClass RX1 = some m.cls := hown
  have hl : lv_has ls 3 [(0, .ref (h 0)), (1, .int (nI (k))), (2, .int (v))] := hl
  refine lv_aload_n hx hb dX1_put_0 rfl (lv_at hl 0 rfl) ?_
  refine va_get (D := D) (ci := 1) (v := .ref (h 1)) (C := RX1) (T := TX1) (N := 1) hx hb hts in_X1 hown hC.1 hP 0 rfl rfl 0 (by decide) (hts _ q27) (fun _ h9 => h9) rfl dX1_put_1 ?_
  refine lv_iload_n hx hb dX1_put_4 rfl (lv_at hl 1 rfl) ?_
  refine lv_bipush (v := nI (8)) hx hb dX1_put_5 (by decide) ?_
  refine lv_idiv hx hb dX1_put_7 (by decide) ?_
  refine mg_top (y := nI ((k) / 8)) (pk_div (by omega) (by decide) (by decide)) ?_
  refine mg_aald hx hb hC.1 hP 1 rfl (i := k / 8) (y := h (2 + k / 8)) (by omega) rfl dX1_put_8 ?_
  refine lv_iload_n hx hb dX1_put_9 rfl (lv_at hl 1 rfl) ?_
  refine lv_bipush (v := nI (8)) hx hb dX1_put_10 (by decide) ?_
  refine lv_irem hx hb dX1_put_12 (by decide) ?_
  refine mg_top (y := nI ((k) % 8)) (pk_rem (by omega) (by decide) (by decide)) ?_
  refine lv_iload_n hx hb dX1_put_13 rfl (lv_at hl 2 rfl) ?_
  refine mg_iast hx hb hC.1 hP hD hS (2 + k / 8) (wHost_get (by omega)) (i := k % 8) (by omega) dX1_put_14 (fun H locs hP hD hS => ?_)
  rw [wHost_set (by omega)] at hP hD
  exact mg_vret hx hb hr hlocks hP hD hS dX1_put_15

set_option maxHeartbeats 4000000 in
set_option maxRecDepth 100000 in
/-- Host.takePage(k, from) -/
theorem h_takePage (l : Launch) (D : va_G) (ct ad h g : Nat → Nat) (N M : Nat → Nat → Int32) (k : Nat) (hk : k < 8) : MV l yX1_takePage cX1_takePage 4 rmZ D ct ad [.ref (h 0), .int (nI k), .ref (g 0)] (wHost ct h N ++ wHost ct g M) (wHost ct h (va_up N k (cpU (N k) (M k) 8)) ++ wHost ct g M) := by
  refine mg_MV (by decide) (Nat.le_of_ble_eq_true rfl) ?_
  intro p e s m below meth c A hx hb hr hlocks hml hown hnm hts hC hP hD hA hS ls hl
  have hown : s.vm.findClass RX1 = some m.cls := hown
  have hl : lv_has ls 4 [(0, .ref (h 0)), (1, .int (nI (k))), (2, .ref (g 0))] := hl
  refine lv_iconst (v := nI (0)) hx hb dX1_takePage_0 (by decide) ?_
  refine lv_istore_n (lv' := [(3, .int (nI (0))), (0, .ref (h 0)), (1, .int (nI (k))), (2, .ref (g 0))]) hx hb dX1_takePage_1 rfl hl (by decide) rfl (fun ls hl => ?_)
  have e_1 : wHost ct h (N) ++ wHost ct g (M) = wHost ct h (va_up N k (cpU (N k) (M k) (0))) ++ wHost ct g (M) := by rw [cpU_0, va_up_id]
  rw [e_1] at hP hD
  refine mg_loop (fun i H locs ls => va_P D mgCl (wHost ct h (va_up N k (cpU (N k) (M k) (i))) ++ wHost ct g (M)) H ∧ va_D A (wHost ct h (va_up N k (cpU (N k) (M k) (i))) ++ wHost ct g (M)) ∧ va_S A s.heap H locs ∧ lv_has ls 4 [(3, .int (nI (i))), (0, .ref (h 0)), (1, .int (nI (k))), (2, .ref (g 0))]) (8) ?_ 0 (by decide) ⟨hP, hD, hS, lv_sub hl [0, 1, 2, 3] rfl⟩
  intro i H locs ls hi hI ihi
  obtain ⟨hP, hD, hS, hl⟩ := hI
  refine lv_iload_n hx hb dX1_takePage_2 rfl (lv_at hl 0 rfl) ?_
  refine lv_bipush (v := nI (8)) hx hb dX1_takePage_3 (by decide) ?_
  refine lv_icmp_ge (tgt := 30) hx hb dX1_takePage_5 (by decide) (fun cq => ?_) (fun cq => ?_)
  · have hi8 : i = 8 := by rw [nI_leI (by decide) (by omega)] at cq; omega
    subst hi8
    exact mg_vret hx hb hr hlocks hP hD hS dX1_takePage_30
  · have hi8 : i < 8 := by rw [nI_leI (by decide) (by omega)] at cq; omega
    refine lv_aload_n hx hb dX1_takePage_8 rfl (lv_at hl 1 rfl) ?_
    refine va_get (D := D) (ci := 1) (v := .ref (h 1)) (C := RX1) (T := TX1) (N := 1) hx hb hts in_X1 hown hC.1 hP 0 rfl rfl 0 (by decide) (hts _ q27) (fun _ h9 => h9) rfl dX1_takePage_9 ?_
    refine lv_iload_n hx hb dX1_takePage_12 rfl (lv_at hl 2 rfl) ?_
    refine mg_aald hx hb hC.1 hP 1 rfl (i := k) (y := h (2 + k)) hk rfl dX1_takePage_13 ?_
    refine lv_iload_n hx hb dX1_takePage_14 rfl (lv_at hl 0 rfl) ?_
    refine lv_aload_n hx hb dX1_takePage_15 rfl (lv_at hl 3 rfl) ?_
    refine va_get (D := D) (ci := 1) (v := .ref (g 1)) (C := RX1) (T := TX1) (N := 1) hx hb hts in_X1 hown hC.1 hP 10 rfl rfl 0 (by decide) (hts _ q27) (fun _ h9 => h9) rfl dX1_takePage_16 ?_
    refine lv_iload_n hx hb dX1_takePage_19 rfl (lv_at hl 2 rfl) ?_
    refine mg_aald hx hb hC.1 hP 11 rfl (i := k) (y := g (2 + k)) hk rfl dX1_takePage_20 ?_
    refine lv_iload_n hx hb dX1_takePage_21 rfl (lv_at hl 0 rfl) ?_
    refine mg_iald hx hb hC.1 hP (12 + k) (wHost_get3 hk) (i := i) hi8 dX1_takePage_22 ?_
    refine mg_iast hx hb hC.1 hP hD hS (2 + k) (wHost_get2 hk _) (i := i) hi8 dX1_takePage_23 (fun H locs hP hD hS => ?_)
    rw [wHost_set2 hk, va_up_up, va_up_self, cpU_s] at hP hD
    refine lv_iinc (v := nI (i + 1)) (lv' := [(3, .int (nI (i + 1))), (0, .ref (h 0)), (1, .int (nI (k))), (2, .ref (g 0))]) hx hb dX1_takePage_24 hl (k := 0) rfl (by rw [show Int32.ofInt 1 = nI 1 from by decide]; exact nI_add _ _) (by decide) rfl (fun ls hl => ?_)
    refine lv_goto (tgt := 2) hx hb dX1_takePage_27 (by decide) ?_
    exact ihi hi8 _ _ _ ⟨hP, hD, hS, lv_sub hl [0, 1, 2, 3] rfl⟩
end
section
/-! MODULE Marks and Nobody: wrote, count, fill, copy, takeFirst (written by gen/gen_marks.py) -/
set_option maxRecDepth 100000
def cnt (b : Nat → Bool) : Nat → Nat
  | 0 => 0
  | n + 1 => cnt b n + (if b n = true then 1 else 0)
theorem cnt_le (b : Nat → Bool) : ∀ n, cnt b n ≤ n
  | 0 => Nat.le_refl _
  | n + 1 => by
    have h := cnt_le b n
    show cnt b n + (if b n = true then 1 else 0) ≤ n + 1
    split <;> omega
theorem cnt_t {b : Nat → Bool} {n : Nat} (h : b n = true) : cnt b (n + 1) = cnt b n + 1 := by simp [cnt, h]
theorem cnt_f {b : Nat → Bool} {n : Nat} (h : b n = false) : cnt b (n + 1) = cnt b n := by simp [cnt, h]
/-- the first i marks are those of d -/
def cpB (b d : Nat → Bool) (i : Nat) : Nat → Bool := fun j => if j < i then d j else b j
theorem cpB_0 (b d : Nat → Bool) : cpB b d 0 = b := by funext j; simp [cpB]
theorem cpB_s (b d : Nat → Bool) (i : Nat) : va_up (cpB b d i) i (d i) = cpB b d (i + 1) := by
  funext j
  by_cases h : j = i
  · subst h; simp [va_up, cpB]
  · by_cases h2 : j < i
    · simp [va_up, cpB, h, h2, Nat.lt_succ_of_lt h2]
    · simp [va_up, cpB, h, h2, show ¬ j < i + 1 by omega]
set_option maxHeartbeats 4000000 in
set_option maxRecDepth 100000 in
/-- Marks.wrote(q) -/
theorem m_wrote (l : Launch) (D : va_G) (ct ad k : Nat → Nat) (b : Nat → Bool) (q : Nat) (hq : q < 8) : MV l yX3_wrote cX3_wrote 2 rmZ D ct ad [.ref (k 0), .int (nI q)] (wMk ct k b) (wMk ct k (va_up b q true)) := by
  refine mg_MV (by decide) (Nat.le_of_ble_eq_true rfl) ?_
  intro p e s m below meth c A hx hb hr hlocks hml hown hnm hts hC hP hD hA hS ls hl
  have hown : s.vm.findClass RX3 = some m.cls := hown
  have hl : lv_has ls 2 [(0, .ref (k 0)), (1, .int (nI (q)))] := hl
  refine lv_aload_n hx hb dX3_wrote_0 rfl (lv_at hl 0 rfl) ?_
  refine va_get (D := D) (ci := 3) (v := .ref (k 1)) (C := RX3) (T := TX3) (N := 1) hx hb hts in_X3 hown hC.1 hP 0 rfl rfl 0 (by decide) (hts _ q61) (fun _ h9 => h9) rfl dX3_wrote_1 ?_
  refine lv_iload_n hx hb dX3_wrote_4 rfl (lv_at hl 1 rfl) ?_
  refine lv_iconst (v := nI (1)) hx hb dX3_wrote_5 (by decide) ?_
  refine mg_zast hx hb hC.1 hP hD hS 1 rfl (i := q) (v := true) hq dX3_wrote_6 (fun H locs hP hD hS => ?_)
  have hP : va_P D mgCl (wMk ct k (va_up (b) (q) (true))) H := hP
  have hD : va_D A (wMk ct k (va_up (b) (q) (true))) := hD
  exact mg_vret hx hb hr hlocks hP hD hS dX3_wrote_7

set_option maxHeartbeats 4000000 in
set_option maxRecDepth 100000 in
/-- Nobody.wrote(q) -/
theorem n_wrote (l : Launch) (D : va_G) (ct ad : Nat → Nat) (k q : Nat) : MV l yX4_wrote cX4_wrote 2 rmZ D ct ad [.ref k, .int (nI q)] (wNb k) (wNb k) := by
  refine mg_MV (by decide) (Nat.le_of_ble_eq_true rfl) ?_
  intro p e s m below meth c A hx hb hr hlocks hml hown hnm hts hC hP hD hA hS ls hl
  have hown : s.vm.findClass RX4 = some m.cls := hown
  have hl : lv_has ls 2 [(0, .ref (k)), (1, .int (nI (q)))] := hl
  exact mg_vret hx hb hr hlocks hP hD hS dX4_wrote_0

set_option maxHeartbeats 4000000 in
set_option maxRecDepth 100000 in
/-- Marks.count() -/
theorem m_count (l : Launch) (D : va_G) (ct ad k : Nat → Nat) (b : Nat → Bool) : MI l yX3_count cX3_count 3 (some .int) rmZ D ct ad [.ref (k 0)] (wMk ct k b) (wMk ct k b) (nI (cnt b 8)) := by
  refine mg_MI (by decide) (Nat.le_of_ble_eq_true rfl) ?_
  intro p e s m below meth c A hx hb hr hlocks hml hown hnm hts hC hP hD hA hS ls hl
  have hown : s.vm.findClass RX3 = some m.cls := hown
  have hl : lv_has ls 3 [(0, .ref (k 0))] := hl
  refine lv_iconst (v := nI (0)) hx hb dX3_count_0 (by decide) ?_
  refine lv_istore_n (lv' := [(1, .int (nI (0))), (0, .ref (k 0))]) hx hb dX3_count_1 rfl hl (by decide) rfl (fun ls hl => ?_)
  refine lv_iconst (v := nI (0)) hx hb dX3_count_2 (by decide) ?_
  refine lv_istore_n (lv' := [(2, .int (nI (0))), (1, .int (nI (0))), (0, .ref (k 0))]) hx hb dX3_count_3 rfl hl (by decide) rfl (fun ls hl => ?_)
  refine mg_loop (fun i H locs ls => va_P D mgCl (wMk ct k (b)) H ∧ va_D A (wMk ct k (b)) ∧ va_S A s.heap H locs ∧ lv_has ls 3 [(2, .int (nI (i))), (1, .int (nI (cnt b (i)))), (0, .ref (k 0))]) (8) ?_ 0 (by decide) ⟨hP, hD, hS, lv_sub hl [0, 1, 2] rfl⟩
  intro i H locs ls hi hI ihi
  obtain ⟨hP, hD, hS, hl⟩ := hI
  refine lv_iload_n hx hb dX3_count_4 rfl (lv_at hl 0 rfl) ?_
  refine lv_bipush (v := nI (8)) hx hb dX3_count_5 (by decide) ?_
  refine lv_icmp_ge (tgt := 28) hx hb dX3_count_7 (by decide) (fun cq => ?_) (fun cq => ?_)
  · have hi8 : i = 8 := by rw [nI_leI (by decide) (by omega)] at cq; omega
    subst hi8
    refine lv_iload_n hx hb dX3_count_28 rfl (lv_at hl 1 rfl) ?_
    exact mg_iret (ty := .int) hx hb hr hlocks (rfl) hP hD hS (rfl) dX3_count_29
  · have hi8 : i < 8 := by rw [nI_leI (by decide) (by omega)] at cq; omega
    refine lv_aload_n hx hb dX3_count_10 rfl (lv_at hl 2 rfl) ?_
    refine va_get (D := D) (ci := 3) (v := .ref (k 1)) (C := RX3) (T := TX3) (N := 1) hx hb hts in_X3 hown hC.1 hP 0 rfl rfl 0 (by decide) (hts _ q61) (fun _ h9 => h9) rfl dX3_count_11 ?_
    refine lv_iload_n hx hb dX3_count_14 rfl (lv_at hl 0 rfl) ?_
    refine mg_zald hx hb hC.1 hP 1 rfl (i := i) (by omega) dX3_count_15 ?_
    refine lv_if_eq (tgt := 22) hx hb dX3_count_16 (by decide) (fun cz => ?_) (fun cz => ?_)
    · have hz : cnt b (i + 1) = cnt b i := cnt_f (bi_eq0 cz)
      refine lv_iinc (v := nI (i + 1)) (lv' := [(2, .int (nI (i + 1))), (1, .int (nI (cnt b (i)))), (0, .ref (k 0))]) hx hb dX3_count_22 hl (k := 0) rfl (by rw [show Int32.ofInt 1 = nI 1 from by decide]; exact nI_add _ _) (by decide) rfl (fun ls hl => ?_)
      refine lv_goto (tgt := 4) hx hb dX3_count_25 (by decide) ?_
      exact ihi hi8 _ _ _ ⟨hP, hD, hS, by rw [hz]; exact lv_sub hl [0, 1, 2] rfl⟩
    · have hz : cnt b (i + 1) = cnt b i + 1 := cnt_t (bi_ne cz)
      refine lv_iinc (v := nI (cnt b (i) + 1)) (lv' := [(1, .int (nI (cnt b (i) + 1))), (2, .int (nI (i))), (0, .ref (k 0))]) hx hb dX3_count_19 hl (k := 1) rfl (by rw [show Int32.ofInt 1 = nI 1 from by decide]; exact nI_add _ _) (by decide) rfl (fun ls hl => ?_)
      refine lv_iinc (v := nI (i + 1)) (lv' := [(2, .int (nI (i + 1))), (1, .int (nI (cnt b (i) + 1))), (0, .ref (k 0))]) hx hb dX3_count_22 hl (k := 1) rfl (by rw [show Int32.ofInt 1 = nI 1 from by decide]; exact nI_add _ _) (by decide) rfl (fun ls hl => ?_)
      refine lv_goto (tgt := 4) hx hb dX3_count_25 (by decide) ?_
      exact ihi hi8 _ _ _ ⟨hP, hD, hS, by rw [hz]; exact lv_sub hl [0, 1, 2] rfl⟩

set_option maxHeartbeats 4000000 in
set_option maxRecDepth 100000 in
/-- Marks.fill(v) -/
theorem m_fill (l : Launch) (D : va_G) (ct ad k : Nat → Nat) (b : Nat → Bool) (v : Bool) : MV l yX3_fill cX3_fill 3 rmZ D ct ad [.ref (k 0), .int (bi v)] (wMk ct k b) (wMk ct k (cpB b (fun _ => v) 8)) := by
  refine mg_MV (by decide) (Nat.le_of_ble_eq_true rfl) ?_
  intro p e s m below meth c A hx hb hr hlocks hml hown hnm hts hC hP hD hA hS ls hl
  have hown : s.vm.findClass RX3 = some m.cls := hown
  have hl : lv_has ls 3 [(0, .ref (k 0)), (1, .int (bi (v)))] := hl
  refine lv_iconst (v := nI (0)) hx hb dX3_fill_0 (by decide) ?_
  refine lv_istore_n (lv' := [(2, .int (nI (0))), (0, .ref (k 0)), (1, .int (bi (v)))]) hx hb dX3_fill_1 rfl hl (by decide) rfl (fun ls hl => ?_)
  have e_1 : wMk ct k (b) = wMk ct k (cpB b (fun _ => v) (0)) := by rw [cpB_0]
  rw [e_1] at hP hD
  refine mg_loop (fun i H locs ls => va_P D mgCl (wMk ct k (cpB b (fun _ => v) (i))) H ∧ va_D A (wMk ct k (cpB b (fun _ => v) (i))) ∧ va_S A s.heap H locs ∧ lv_has ls 3 [(2, .int (nI (i))), (0, .ref (k 0)), (1, .int (bi (v)))]) (8) ?_ 0 (by decide) ⟨hP, hD, hS, lv_sub hl [0, 1, 2] rfl⟩
  intro i H locs ls hi hI ihi
  obtain ⟨hP, hD, hS, hl⟩ := hI
  refine lv_iload_n hx hb dX3_fill_2 rfl (lv_at hl 0 rfl) ?_
  refine lv_bipush (v := nI (8)) hx hb dX3_fill_3 (by decide) ?_
  refine lv_icmp_ge (tgt := 21) hx hb dX3_fill_5 (by decide) (fun cq => ?_) (fun cq => ?_)
  · have hi8 : i = 8 := by rw [nI_leI (by decide) (by omega)] at cq; omega
    subst hi8
    exact mg_vret hx hb hr hlocks hP hD hS dX3_fill_21
  · have hi8 : i < 8 := by rw [nI_leI (by decide) (by omega)] at cq; omega
    refine lv_aload_n hx hb dX3_fill_8 rfl (lv_at hl 1 rfl) ?_
    refine va_get (D := D) (ci := 3) (v := .ref (k 1)) (C := RX3) (T := TX3) (N := 1) hx hb hts in_X3 hown hC.1 hP 0 rfl rfl 0 (by decide) (hts _ q61) (fun _ h9 => h9) rfl dX3_fill_9 ?_
    refine lv_iload_n hx hb dX3_fill_12 rfl (lv_at hl 0 rfl) ?_
    refine lv_iload_n hx hb dX3_fill_13 rfl (lv_at hl 2 rfl) ?_
    refine mg_zast hx hb hC.1 hP hD hS 1 rfl (i := i) (v := v) hi8 dX3_fill_14 (fun H locs hP hD hS => ?_)
    have hP : va_P D mgCl (wMk ct k (va_up (cpB b (fun _ => v) (i)) (i) (v))) H := hP
    have hD : va_D A (wMk ct k (va_up (cpB b (fun _ => v) (i)) (i) (v))) := hD
    rw [cpB_s b (fun _ => v) i] at hP hD
    refine lv_iinc (v := nI (i + 1)) (lv' := [(2, .int (nI (i + 1))), (0, .ref (k 0)), (1, .int (bi (v)))]) hx hb dX3_fill_15 hl (k := 0) rfl (by rw [show Int32.ofInt 1 = nI 1 from by decide]; exact nI_add _ _) (by decide) rfl (fun ls hl => ?_)
    refine lv_goto (tgt := 2) hx hb dX3_fill_18 (by decide) ?_
    exact ihi hi8 _ _ _ ⟨hP, hD, hS, lv_sub hl [0, 1, 2] rfl⟩

set_option maxHeartbeats 4000000 in
set_option maxRecDepth 100000 in
/-- Marks.copy(o) -/
theorem m_copy (l : Launch) (D : va_G) (ct ad k g : Nat → Nat) (b d : Nat → Bool) : MV l yX3_copy cX3_copy 3 rmZ D ct ad [.ref (k 0), .ref (g 0)] (wMk ct k b ++ wMk ct g d) (wMk ct k (cpB b d 8) ++ wMk ct g d) := by
  refine mg_MV (by decide) (Nat.le_of_ble_eq_true rfl) ?_
  intro p e s m below meth c A hx hb hr hlocks hml hown hnm hts hC hP hD hA hS ls hl
  have hown : s.vm.findClass RX3 = some m.cls := hown
  have hl : lv_has ls 3 [(0, .ref (k 0)), (1, .ref (g 0))] := hl
  refine lv_iconst (v := nI (0)) hx hb dX3_copy_0 (by decide) ?_
  refine lv_istore_n (lv' := [(2, .int (nI (0))), (0, .ref (k 0)), (1, .ref (g 0))]) hx hb dX3_copy_1 rfl hl (by decide) rfl (fun ls hl => ?_)
  have e_2 : wMk ct k (b) ++ wMk ct g (d) = wMk ct k (cpB b d (0)) ++ wMk ct g (d) := by rw [cpB_0]
  rw [e_2] at hP hD
  refine mg_loop (fun i H locs ls => va_P D mgCl (wMk ct k (cpB b d (i)) ++ wMk ct g (d)) H ∧ va_D A (wMk ct k (cpB b d (i)) ++ wMk ct g (d)) ∧ va_S A s.heap H locs ∧ lv_has ls 3 [(2, .int (nI (i))), (0, .ref (k 0)), (1, .ref (g 0))]) (8) ?_ 0 (by decide) ⟨hP, hD, hS, lv_sub hl [0, 1, 2] rfl⟩
  intro i H locs ls hi hI ihi
  obtain ⟨hP, hD, hS, hl⟩ := hI
  refine lv_iload_n hx hb dX3_copy_2 rfl (lv_at hl 0 rfl) ?_
  refine lv_bipush (v := nI (8)) hx hb dX3_copy_3 (by decide) ?_
  refine lv_icmp_ge (tgt := 26) hx hb dX3_copy_5 (by decide) (fun cq => ?_) (fun cq => ?_)
  · have hi8 : i = 8 := by rw [nI_leI (by decide) (by omega)] at cq; omega
    subst hi8
    exact mg_vret hx hb hr hlocks hP hD hS dX3_copy_26
  · have hi8 : i < 8 := by rw [nI_leI (by decide) (by omega)] at cq; omega
    refine lv_aload_n hx hb dX3_copy_8 rfl (lv_at hl 1 rfl) ?_
    refine va_get (D := D) (ci := 3) (v := .ref (k 1)) (C := RX3) (T := TX3) (N := 1) hx hb hts in_X3 hown hC.1 hP 0 rfl rfl 0 (by decide) (hts _ q61) (fun _ h9 => h9) rfl dX3_copy_9 ?_
    refine lv_iload_n hx hb dX3_copy_12 rfl (lv_at hl 0 rfl) ?_
    refine lv_aload_n hx hb dX3_copy_13 rfl (lv_at hl 2 rfl) ?_
    refine va_get (D := D) (ci := 3) (v := .ref (g 1)) (C := RX3) (T := TX3) (N := 1) hx hb hts in_X3 hown hC.1 hP 2 rfl rfl 0 (by decide) (hts _ q61) (fun _ h9 => h9) rfl dX3_copy_14 ?_
    refine lv_iload_n hx hb dX3_copy_17 rfl (lv_at hl 0 rfl) ?_
    refine mg_zald hx hb hC.1 hP 3 rfl (i := i) hi8 dX3_copy_18 ?_
    refine mg_zast hx hb hC.1 hP hD hS 1 rfl (i := i) (v := (d) (i)) hi8 dX3_copy_19 (fun H locs hP hD hS => ?_)
    have hP : va_P D mgCl (wMk ct k (va_up (cpB b d (i)) (i) ((d) (i))) ++ wMk ct g (d)) H := hP
    have hD : va_D A (wMk ct k (va_up (cpB b d (i)) (i) ((d) (i))) ++ wMk ct g (d)) := hD
    rw [cpB_s b d i] at hP hD
    refine lv_iinc (v := nI (i + 1)) (lv' := [(2, .int (nI (i + 1))), (0, .ref (k 0)), (1, .ref (g 0))]) hx hb dX3_copy_20 hl (k := 0) rfl (by rw [show Int32.ofInt 1 = nI 1 from by decide]; exact nI_add _ _) (by decide) rfl (fun ls hl => ?_)
    refine lv_goto (tgt := 2) hx hb dX3_copy_23 (by decide) ?_
    exact ihi hi8 _ _ _ ⟨hP, hD, hS, lv_sub hl [0, 1, 2] rfl⟩

set_option maxHeartbeats 4000000 in
set_option maxRecDepth 100000 in
/-- Marks.takeFirst() where q is the first -/
theorem m_takeFirst (l : Launch) (D : va_G) (ct ad k : Nat → Nat) (b : Nat → Bool) (q : Nat) (hq : q < 8) (ht : b q = true) (hf : ∀ j, j < q → b j = false) : MI l yX3_takeFirst cX3_takeFirst 2 (some .int) rmZ D ct ad [.ref (k 0)] (wMk ct k b) (wMk ct k (va_up b q false)) (nI q) := by
  refine mg_MI (by decide) (Nat.le_of_ble_eq_true rfl) ?_
  intro p e s m below meth c A hx hb hr hlocks hml hown hnm hts hC hP hD hA hS ls hl
  have hown : s.vm.findClass RX3 = some m.cls := hown
  have hl : lv_has ls 2 [(0, .ref (k 0))] := hl
  refine lv_iconst (v := nI (0)) hx hb dX3_takeFirst_0 (by decide) ?_
  refine lv_istore_n (lv' := [(1, .int (nI (0))), (0, .ref (k 0))]) hx hb dX3_takeFirst_1 rfl hl (by decide) rfl (fun ls hl => ?_)
  refine mg_loop (fun i H locs ls => va_P D mgCl (wMk ct k (b)) H ∧ va_D A (wMk ct k (b)) ∧ va_S A s.heap H locs ∧ lv_has ls 2 [(1, .int (nI (i))), (0, .ref (k 0))]) (q) ?_ 0 (Nat.zero_le _) ⟨hP, hD, hS, lv_sub hl [0, 1] rfl⟩
  intro i H locs ls hi hI ihi
  obtain ⟨hP, hD, hS, hl⟩ := hI
  refine lv_iload_n hx hb dX3_takeFirst_2 rfl (lv_at hl 0 rfl) ?_
  refine lv_bipush (v := nI (8)) hx hb dX3_takeFirst_3 (by decide) ?_
  refine lv_icmp_ge (tgt := 32) hx hb dX3_takeFirst_5 (by decide) (fun cq => absurd cq (by rw [nI_leI (by decide) (by omega)]; omega)) (fun _ => ?_)
  refine lv_aload_n hx hb dX3_takeFirst_8 rfl (lv_at hl 1 rfl) ?_
  refine va_get (D := D) (ci := 3) (v := .ref (k 1)) (C := RX3) (T := TX3) (N := 1) hx hb hts in_X3 hown hC.1 hP 0 rfl rfl 0 (by decide) (hts _ q61) (fun _ h9 => h9) rfl dX3_takeFirst_9 ?_
  refine lv_iload_n hx hb dX3_takeFirst_12 rfl (lv_at hl 0 rfl) ?_
  refine mg_zald hx hb hC.1 hP 1 rfl (i := i) (by omega) dX3_takeFirst_13 ?_
  rcases Nat.lt_or_ge i q with hlt | hge
  · refine lv_if_eq (tgt := 26) hx hb dX3_takeFirst_14 (by decide) (fun _ => ?_) (fun cq => absurd (by rw [hf i hlt]; rfl) cq)
    refine lv_iinc (v := nI (i + 1)) (lv' := [(1, .int (nI (i + 1))), (0, .ref (k 0))]) hx hb dX3_takeFirst_26 hl (k := 0) rfl (by rw [show Int32.ofInt 1 = nI 1 from by decide]; exact nI_add _ _) (by decide) rfl (fun ls hl => ?_)
    refine lv_goto (tgt := 2) hx hb dX3_takeFirst_29 (by decide) ?_
    exact ihi hlt _ _ _ ⟨hP, hD, hS, lv_sub hl [0, 1] rfl⟩
  · have hiq : i = q := by omega
    subst hiq
    refine lv_if_eq (tgt := 26) hx hb dX3_takeFirst_14 (by decide) (fun cq => absurd cq (by rw [ht]; decide)) (fun _ => ?_)
    refine lv_aload_n hx hb dX3_takeFirst_17 rfl (lv_at hl 1 rfl) ?_
    refine va_get (D := D) (ci := 3) (v := .ref (k 1)) (C := RX3) (T := TX3) (N := 1) hx hb hts in_X3 hown hC.1 hP 0 rfl rfl 0 (by decide) (hts _ q61) (fun _ h9 => h9) rfl dX3_takeFirst_18 ?_
    refine lv_iload_n hx hb dX3_takeFirst_21 rfl (lv_at hl 0 rfl) ?_
    refine lv_iconst (v := nI (0)) hx hb dX3_takeFirst_22 (by decide) ?_
    refine mg_zast hx hb hC.1 hP hD hS 1 rfl (i := i) (v := false) (by omega) dX3_takeFirst_23 (fun H locs hP hD hS => ?_)
    have hP : va_P D mgCl (wMk ct k (va_up (b) (i) (false))) H := hP
    have hD : va_D A (wMk ct k (va_up (b) (i) (false))) := hD
    refine lv_iload_n hx hb dX3_takeFirst_24 rfl (lv_at hl 0 rfl) ?_
    exact mg_iret (ty := .int) hx hb hr hlocks (rfl) hP hD hS (rfl) dX3_takeFirst_25

set_option maxHeartbeats 4000000 in
set_option maxRecDepth 100000 in
/-- Marks.takeFirst() where there is none -/
theorem m_takeNone (l : Launch) (D : va_G) (ct ad k : Nat → Nat) (b : Nat → Bool) (hf : ∀ j, j < 8 → b j = false) : MI l yX3_takeFirst cX3_takeFirst 2 (some .int) rmZ D ct ad [.ref (k 0)] (wMk ct k b) (wMk ct k b) (-1) := by
  refine mg_MI (by decide) (Nat.le_of_ble_eq_true rfl) ?_
  intro p e s m below meth c A hx hb hr hlocks hml hown hnm hts hC hP hD hA hS ls hl
  have hown : s.vm.findClass RX3 = some m.cls := hown
  have hl : lv_has ls 2 [(0, .ref (k 0))] := hl
  refine lv_iconst (v := nI (0)) hx hb dX3_takeFirst_0 (by decide) ?_
  refine lv_istore_n (lv' := [(1, .int (nI (0))), (0, .ref (k 0))]) hx hb dX3_takeFirst_1 rfl hl (by decide) rfl (fun ls hl => ?_)
  refine mg_loop (fun i H locs ls => va_P D mgCl (wMk ct k (b)) H ∧ va_D A (wMk ct k (b)) ∧ va_S A s.heap H locs ∧ lv_has ls 2 [(1, .int (nI (i))), (0, .ref (k 0))]) (8) ?_ 0 (by decide) ⟨hP, hD, hS, lv_sub hl [0, 1] rfl⟩
  intro i H locs ls hi hI ihi
  obtain ⟨hP, hD, hS, hl⟩ := hI
  refine lv_iload_n hx hb dX3_takeFirst_2 rfl (lv_at hl 0 rfl) ?_
  refine lv_bipush (v := nI (8)) hx hb dX3_takeFirst_3 (by decide) ?_
  refine lv_icmp_ge (tgt := 32) hx hb dX3_takeFirst_5 (by decide) (fun cq => ?_) (fun cq => ?_)
  · have hi8 : i = 8 := by rw [nI_leI (by decide) (by omega)] at cq; omega
    subst hi8
    refine lv_iconst (v := -1) hx hb dX3_takeFirst_32 (by decide) ?_
    exact mg_iret (ty := .int) hx hb hr hlocks (rfl) hP hD hS (rfl) dX3_takeFirst_33
  · have hi8 : i < 8 := by rw [nI_leI (by decide) (by omega)] at cq; omega
    refine lv_aload_n hx hb dX3_takeFirst_8 rfl (lv_at hl 1 rfl) ?_
    refine va_get (D := D) (ci := 3) (v := .ref (k 1)) (C := RX3) (T := TX3) (N := 1) hx hb hts in_X3 hown hC.1 hP 0 rfl rfl 0 (by decide) (hts _ q61) (fun _ h9 => h9) rfl dX3_takeFirst_9 ?_
    refine lv_iload_n hx hb dX3_takeFirst_12 rfl (lv_at hl 0 rfl) ?_
    refine mg_zald hx hb hC.1 hP 1 rfl (i := i) hi8 dX3_takeFirst_13 ?_
    refine lv_if_eq (tgt := 26) hx hb dX3_takeFirst_14 (by decide) (fun _ => ?_) (fun cq => absurd (by rw [hf i hi8]; rfl) cq)
    refine lv_iinc (v := nI (i + 1)) (lv' := [(1, .int (nI (i + 1))), (0, .ref (k 0))]) hx hb dX3_takeFirst_26 hl (k := 0) rfl (by rw [show Int32.ofInt 1 = nI 1 from by decide]; exact nI_add _ _) (by decide) rfl (fun ls hl => ?_)
    refine lv_goto (tgt := 2) hx hb dX3_takeFirst_29 (by decide) ?_
    exact ihi hi8 _ _ _ ⟨hP, hD, hS, lv_sub hl [0, 1] rfl⟩
end
section
/-! THE GUEST's STEP, as numbers: on a memory of pages -/
set_option maxRecDepth 100000
def ga (w : Int32) : Nat := (w >>> (nI 3 &&& 31)).toBitVec.toNat % 4
def gb (w : Int32) : Nat := (w >>> (nI 5 &&& 31)).toBitVec.toNat % 4
def gk (w : Int32) : Nat := (w >>> (nI 7 &&& 31)).toBitVec.toNat % 128
def gop (w : Int32) : Nat := w.toBitVec.toNat % 8
def gat (r : Nat → Int32) (w : Int32) : Nat := (r (gb w) + nI (gk w)).toBitVec.toNat % 64
theorem ga_eq (w : Int32) : (w >>> (nI 3 &&& 31)) &&& nI 3 = nI (ga w) := pk_and _ 2 (by decide)
theorem gb_eq (w : Int32) : (w >>> (nI 5 &&& 31)) &&& nI 3 = nI (gb w) := pk_and _ 2 (by decide)
theorem gk_eq (w : Int32) : (w >>> (nI 7 &&& 31)) &&& nI 127 = nI (gk w) := pk_and _ 7 (by decide)
theorem gop_eq (w : Int32) : w &&& nI 7 = nI (gop w) := pk_and _ 3 (by decide)
theorem gat_eq (r : Nat → Int32) (w : Int32) : (r (gb w) + nI (gk w)) &&& nI 63 = nI (gat r w) := pk_and _ 6 (by decide)
theorem n63_eq {n : Nat} (h : n < 2 ^ 31) : nI n &&& nI 63 = nI (n % 64) := pk_andN (by omega) 6 (by decide)
theorem ga_lt (w : Int32) : ga w < 4 := Nat.mod_lt _ (by decide)
theorem gb_lt (w : Int32) : gb w < 4 := Nat.mod_lt _ (by decide)
theorem gk_lt (w : Int32) : gk w < 128 := Nat.mod_lt _ (by decide)
theorem gop_lt (w : Int32) : gop w < 8 := Nat.mod_lt _ (by decide)
theorem gat_lt (r : Nat → Int32) (w : Int32) : gat r w < 64 := Nat.mod_lt _ (by decide)
/-- memory, registers, what was shown (a ring), pc, how many were shown, the marks -/
abbrev GS : Type := (Nat → Nat → Int32) × (Nat → Int32) × (Nat → Int32) × Nat × Nat × (Nat → Bool)
/-- the word at pc -/
def gw (σ : GS) : Int32 := σ.1 (σ.2.2.2.1 / 8) (σ.2.2.2.1 % 8)
def gst (wt : Bool) (σ : GS) : GS :=
  match gop (gw σ) with
  | 0 => σ
  | 1 => (σ.1, upd σ.2.1 (ga (gw σ)) (nI (gk (gw σ))), σ.2.2.1, (σ.2.2.2.1 + 1) % 64, σ.2.2.2.2.1, σ.2.2.2.2.2)
  | 2 => (σ.1, upd σ.2.1 (ga (gw σ)) (σ.1 (gat σ.2.1 (gw σ) / 8) (gat σ.2.1 (gw σ) % 8)), σ.2.2.1, (σ.2.2.2.1 + 1) % 64, σ.2.2.2.2.1, σ.2.2.2.2.2)
  | 3 => (putM σ.1 (gat σ.2.1 (gw σ)) (σ.2.1 (ga (gw σ))), σ.2.1, σ.2.2.1, (σ.2.2.2.1 + 1) % 64, σ.2.2.2.2.1, if wt = true then va_up σ.2.2.2.2.2 (gat σ.2.1 (gw σ) / 8) true else σ.2.2.2.2.2)
  | 4 => (σ.1, upd σ.2.1 (ga (gw σ)) (σ.2.1 (ga (gw σ)) + σ.2.1 (gb (gw σ))), σ.2.2.1, (σ.2.2.2.1 + 1) % 64, σ.2.2.2.2.1, σ.2.2.2.2.2)
  | 5 => (σ.1, upd σ.2.1 (ga (gw σ)) (σ.2.1 (ga (gw σ)) - σ.2.1 (gb (gw σ))), σ.2.2.1, (σ.2.2.2.1 + 1) % 64, σ.2.2.2.2.1, σ.2.2.2.2.2)
  | 6 => (σ.1, σ.2.1, σ.2.2.1, (if σ.2.1 (ga (gw σ)) = 0 then (σ.2.2.2.1 + 1) % 64 else gk (gw σ) % 64), σ.2.2.2.2.1, σ.2.2.2.2.2)
  | _ => (σ.1, σ.2.1, upd σ.2.2.1 (σ.2.2.2.2.1 % 8) (σ.2.1 (ga (gw σ))), (σ.2.2.2.1 + 1) % 64, σ.2.2.2.2.1 + 1, σ.2.2.2.2.2)
def giter (wt : Bool) : Nat → GS → GS
  | 0, σ => σ
  | n + 1, σ => gst wt (giter wt n σ)
theorem gst_ok (wt : Bool) (σ : GS) (h : σ.2.2.2.1 < 64) : (gst wt σ).2.2.2.1 < 64 ∧ (gst wt σ).2.2.2.2.1 ≤ σ.2.2.2.2.1 + 1 := by
  unfold gst
  split
  · exact ⟨h, Nat.le_succ _⟩
  all_goals first
    | exact ⟨Nat.mod_lt _ (by decide), Nat.le_succ _⟩
    | exact ⟨Nat.mod_lt _ (by decide), Nat.le_refl _⟩
    | exact ⟨by dsimp only; split <;> exact Nat.mod_lt _ (by decide), Nat.le_succ _⟩
theorem giter_ok (wt : Bool) (σ : GS) (h : σ.2.2.2.1 < 64) : ∀ n, (giter wt n σ).2.2.2.1 < 64 ∧ (giter wt n σ).2.2.2.2.1 ≤ σ.2.2.2.2.1 + n
  | 0 => ⟨h, Nat.le_refl _⟩
  | n + 1 => by
    have h1 := giter_ok wt σ h n
    have h2 := gst_ok wt (giter wt n σ) h1.1
    exact ⟨h2.1, by show (gst wt (giter wt n σ)).2.2.2.2.1 ≤ _; omega⟩
/-- the guest's world with marks, and with nobody -/
def wGM (ct g h k : Nat → Nat) (σ : GS) : va_W := wGst ct g σ.2.1 σ.2.2.1 σ.2.2.2.1 σ.2.2.2.2.1 ++ wHost ct h σ.1 ++ wMk ct k σ.2.2.2.2.2
def wGN (ct g h : Nat → Nat) (k : Nat) (σ : GS) : va_W := wGst ct g σ.2.1 σ.2.2.1 σ.2.2.2.1 σ.2.2.2.2.1 ++ wHost ct h σ.1 ++ wNb k
/-- what an interface's call asks -/
theorem lw_F {own : String} {idx : Nat} {C : String} {x y : MethodName} {b : ByteArray} {L : Nat} {r : Option FieldType} (h1 : Cond.methodLink own idx x ∈ lw_all) (h2 : Cond.selects C x y ∈ lw_all) (h3 : Cond.instanceMethod y ∈ lw_all) (h4 : Cond.initialized y.cls ∈ lw_all) (h5 : Cond.code y b L r ∈ lw_all) : GoodIn lw_all (va_wsF own idx C x y (ws_ y b L r)) := by
  refine lw_app ?_ (lw_meth h5)
  intro w hw
  simp only [List.mem_cons, List.not_mem_nil, or_false] at hw
  rcases hw with e | e | e | e
  · rw [e]; exact h1
  · rw [e]; exact h2
  · rw [e]; exact h3
  · rw [e]; exact h4
end
section
/-! MODULE Guest: step, with marks and with nobody (written by gen/gen_guest.py) -/
set_option maxRecDepth 100000
set_option maxHeartbeats 4000000 in
set_option maxRecDepth 100000 in
/-- Guest.step(host, marks) -/
theorem g_stepM (l : Launch) (D : va_G) (ct ad g h k : Nat → Nat) (σ : GS) (hpc : σ.2.2.2.1 < 64) (hsh : σ.2.2.2.2.1 < 2 ^ 30) : MV l yX2_step cX2_step 9 (rmN 1 30) D ct ad [.ref (g 0), .ref (h 0), .ref (k 0)] (wGM ct g h k σ) (wGM ct g h k (gst true σ)) := by
  obtain ⟨M, regs, shown, pc, shows, bd⟩ := σ
  dsimp only at hpc hsh
  refine mg_MV (by decide) (Nat.le_of_ble_eq_true rfl) ?_
  intro p e s m below meth c A hx hb hr hlocks hml hown hnm hts hC hP hD hA hS ls hl
  have hown : s.vm.findClass RX2 = some m.cls := hown
  have hl : lv_has ls 9 [(0, .ref (g 0)), (1, .ref (h 0)), (2, .ref (k 0))] := hl
  have hP : va_P D mgCl (wGst ct g (regs) (shown) (pc) (shows) ++ wHost ct h (M) ++ wMk ct k (bd)) s.heap := hP
  have hD : va_D A (wGst ct g (regs) (shown) (pc) (shows) ++ wHost ct h (M) ++ wMk ct k (bd)) := hD
  refine lv_aload_n hx hb dX2_step_0 rfl (lv_at hl 1 rfl) ?_
  refine lv_aload_n hx hb dX2_step_1 rfl (lv_at hl 0 rfl) ?_
  refine va_get (D := D) (ci := 2) (v := .int (nI (pc))) (C := RX2) (T := TX2) (N := 4) hx hb hts in_X2 hown hC.1 hP 0 rfl rfl 2 (by decide) (hts _ q42) (fun _ h9 => h9) rfl dX2_step_2 ?_
  refine mg_afterI (w1 := wHost ct h (M)) (wr := wGst ct g (regs) (shown) (pc) (shows) ++ wMk ct k (bd)) (w2 := wGst ct g (regs) (shown) (pc) (shows) ++ wHost ct h (M) ++ wMk ct k (bd)) (va_runV (As := [.int (nI (pc))]) (rest := []) ⟨hx, hb, hml, hown, hts⟩ (h_word l D ct ad h M pc hpc _) (cwV 1 hts (lw_V q143 q144 q145 q3 q146) rfl rfl rfl (by decide +kernel) ⟨Nat.le_of_ble_eq_true rfl, Nat.le_of_ble_eq_true rfl⟩) (mg_preV hC hP hD hS hA (wc := wHost ct h (M)) [3, 4, 5, 6, 7, 8, 9, 10, 11, 12] rfl (by decide) (ci := 1) (q0 := 0) rfl rfl [.int (nI (pc))]) rfl rfl hl.1 rfl (lv_room (Nat.le_of_ble_eq_true rfl)) dX2_step_5 ⟨Nat.zero_le _, Nat.zero_le _⟩) hP hD hS hA [3, 4, 5, 6, 7, 8, 9, 10, 11, 12] [0, 1, 2, 13, 14] [0, 1, 2, 5, 6, 7, 8, 9, 10, 11, 12, 13, 14, 3, 4] rfl rfl (by decide) (by decide) rfl (by decide) (fun H locs hP hD hS => ?_)
  generalize hw : M (pc / 8) (pc % 8) = w
  refine lv_istore_n (lv' := [(3, .int (w)), (0, .ref (g 0)), (1, .ref (h 0)), (2, .ref (k 0))]) hx hb dX2_step_8 rfl hl (by decide) rfl (fun ls hl => ?_)
  refine lv_iload_n hx hb dX2_step_9 rfl (lv_at hl 0 rfl) ?_
  refine lv_iconst (v := nI (3)) hx hb dX2_step_10 (by decide) ?_
  refine lv_ishr hx hb dX2_step_11 ?_
  refine lv_iconst (v := nI (3)) hx hb dX2_step_12 (by decide) ?_
  refine lv_iand hx hb dX2_step_13 ?_
  refine mg_top (y := nI (ga w)) (ga_eq w) ?_
  refine lv_istore (lv' := [(4, .int (nI (ga w))), (3, .int (w)), (0, .ref (g 0)), (1, .ref (h 0)), (2, .ref (k 0))]) hx hb dX2_step_14 hl (by decide) rfl (fun ls hl => ?_)
  refine lv_iload_n hx hb dX2_step_16 rfl (lv_at hl 1 rfl) ?_
  refine lv_iconst (v := nI (5)) hx hb dX2_step_17 (by decide) ?_
  refine lv_ishr hx hb dX2_step_18 ?_
  refine lv_iconst (v := nI (3)) hx hb dX2_step_19 (by decide) ?_
  refine lv_iand hx hb dX2_step_20 ?_
  refine mg_top (y := nI (gb w)) (gb_eq w) ?_
  refine lv_istore (lv' := [(5, .int (nI (gb w))), (4, .int (nI (ga w))), (3, .int (w)), (0, .ref (g 0)), (1, .ref (h 0)), (2, .ref (k 0))]) hx hb dX2_step_21 hl (by decide) rfl (fun ls hl => ?_)
  refine lv_iload_n hx hb dX2_step_23 rfl (lv_at hl 2 rfl) ?_
  refine lv_bipush (v := nI (7)) hx hb dX2_step_24 (by decide) ?_
  refine lv_ishr hx hb dX2_step_26 ?_
  refine lv_bipush (v := nI (127)) hx hb dX2_step_27 (by decide) ?_
  refine lv_iand hx hb dX2_step_29 ?_
  refine mg_top (y := nI (gk w)) (gk_eq w) ?_
  refine lv_istore (lv' := [(6, .int (nI (gk w))), (5, .int (nI (gb w))), (4, .int (nI (ga w))), (3, .int (w)), (0, .ref (g 0)), (1, .ref (h 0)), (2, .ref (k 0))]) hx hb dX2_step_30 hl (by decide) rfl (fun ls hl => ?_)
  refine lv_aload_n hx hb dX2_step_32 rfl (lv_at hl 4 rfl) ?_
  refine va_get (D := D) (ci := 2) (v := .ref (g 1)) (C := RX2) (T := TX2) (N := 4) hx hb hts in_X2 hown hC.1 hP 0 rfl rfl 0 (by decide) (hts _ q38) (fun _ h9 => h9) rfl dX2_step_33 ?_
  refine lv_iload hx hb dX2_step_36 (lv_at hl 1 rfl) ?_
  refine mg_iald hx hb hC.1 hP 1 rfl (i := gb w) (gb_lt w) dX2_step_38 ?_
  refine lv_iload hx hb dX2_step_39 (lv_at hl 0 rfl) ?_
  refine lv_iadd hx hb dX2_step_41 ?_
  refine lv_bipush (v := nI (63)) hx hb dX2_step_42 (by decide) ?_
  refine lv_iand hx hb dX2_step_44 ?_
  refine mg_top (y := nI (gat regs w)) (gat_eq regs w) ?_
  refine lv_istore (lv' := [(7, .int (nI (gat regs w))), (6, .int (nI (gk w))), (5, .int (nI (gb w))), (4, .int (nI (ga w))), (3, .int (w)), (0, .ref (g 0)), (1, .ref (h 0)), (2, .ref (k 0))]) hx hb dX2_step_45 hl (by decide) rfl (fun ls hl => ?_)
  refine lv_aload_n hx hb dX2_step_47 rfl (lv_at hl 5 rfl) ?_
  refine va_get (D := D) (ci := 2) (v := .int (nI (pc))) (C := RX2) (T := TX2) (N := 4) hx hb hts in_X2 hown hC.1 hP 0 rfl rfl 2 (by decide) (hts _ q42) (fun _ h9 => h9) rfl dX2_step_48 ?_
  refine lv_iconst (v := nI (1)) hx hb dX2_step_51 (by decide) ?_
  refine lv_iadd hx hb dX2_step_52 ?_
  refine mg_top (y := nI (pc + 1)) (nI_add _ _) ?_
  refine lv_bipush (v := nI (63)) hx hb dX2_step_53 (by decide) ?_
  refine lv_iand hx hb dX2_step_55 ?_
  refine mg_top (y := nI ((pc + 1) % 64)) (n63_eq (by omega)) ?_
  refine lv_istore (lv' := [(8, .int (nI ((pc + 1) % 64))), (7, .int (nI (gat regs w))), (6, .int (nI (gk w))), (5, .int (nI (gb w))), (4, .int (nI (ga w))), (3, .int (w)), (0, .ref (g 0)), (1, .ref (h 0)), (2, .ref (k 0))]) hx hb dX2_step_56 hl (by decide) rfl (fun ls hl => ?_)
  refine lv_iload_n hx hb dX2_step_58 rfl (lv_at hl 5 rfl) ?_
  refine lv_bipush (v := nI (7)) hx hb dX2_step_59 (by decide) ?_
  refine lv_iand hx hb dX2_step_61 ?_
  refine mg_top (y := nI (gop w)) (gop_eq w) ?_
  have hga := ga_lt w
  have hgb := gb_lt w
  have hgk := gk_lt w
  have hgt := gat_lt regs w
  have hgo := gop_lt w
  have hgw : gw (M, regs, shown, pc, shows, bd) = w := hw
  rcases (show gop w = 0 ∨ gop w = 1 ∨ gop w = 2 ∨ gop w = 3 ∨ gop w = 4 ∨ gop w = 5 ∨ gop w = 6 ∨ gop w = 7 by omega) with ho | ho | ho | ho | ho | ho | ho | ho
  · have eg : gst true (M, regs, shown, pc, shows, bd) = (M, regs, shown, pc, shows, bd) := by simp only [gst, hgw, ho]
    rw [eg]
    refine mg_top (y := nI (0)) (by rw [ho]) ?_
    refine lv_tableIn (off := 42) (tgt := 104) hx hb dX2_step_62 (by decide) (by decide) (by decide) (by decide) ?_
    refine lv_aload_n hx hb dX2_step_104 rfl (lv_at hl 6 rfl) ?_
    refine va_get (D := D) (ci := 2) (v := .int (nI (pc))) (C := RX2) (T := TX2) (N := 4) hx hb hts in_X2 hown hC.1 hP 0 rfl rfl 2 (by decide) (hts _ q42) (fun _ h9 => h9) rfl dX2_step_105 ?_
    refine lv_istore (lv' := [(8, .int (nI (pc))), (7, .int (nI (gat regs w))), (6, .int (nI (gk w))), (5, .int (nI (gb w))), (4, .int (nI (ga w))), (3, .int (w)), (0, .ref (g 0)), (1, .ref (h 0)), (2, .ref (k 0))]) hx hb dX2_step_108 hl (by decide) rfl (fun ls hl => ?_)
    refine lv_goto (tgt := 257) hx hb dX2_step_110 (by decide) ?_
    refine lv_aload_n hx hb dX2_step_257 rfl (lv_at hl 6 rfl) ?_
    refine lv_iload hx hb dX2_step_258 (lv_at hl 0 rfl) ?_
    refine va_put (D := D) (ci := 2) (v := .int (nI (pc))) (ty := .int) (C := RX2) (T := TX2) (N := 4) hx hb hts in_X2 tyX2 tyX2_ok nmX2 hown hC.1 hP hD hS 0 rfl rfl 2 (by decide) (hts _ q42) (fun _ h9 => h9) rfl (by decide +kernel) rfl rfl (Nat.le_of_ble_eq_true rfl) dX2_step_260 (fun H locs hP hD hS => ?_)
    have hP : va_P D mgCl (wGst ct g (regs) (shown) (pc) (shows) ++ wHost ct h (M) ++ wMk ct k (bd)) H := hP
    have hD : va_D A (wGst ct g (regs) (shown) (pc) (shows) ++ wHost ct h (M) ++ wMk ct k (bd)) := hD
    exact mg_vret hx hb hr hlocks hP hD hS dX2_step_263
  · have eg : gst true (M, regs, shown, pc, shows, bd) = (M, upd regs (ga w) (nI (gk w)), shown, (pc + 1) % 64, shows, bd) := by simp only [gst, hgw, ho]
    rw [eg]
    refine mg_top (y := nI (1)) (by rw [ho]) ?_
    refine lv_tableIn (off := 51) (tgt := 113) hx hb dX2_step_62 (by decide) (by decide) (by decide) (by decide) ?_
    refine lv_aload_n hx hb dX2_step_113 rfl (lv_at hl 6 rfl) ?_
    refine va_get (D := D) (ci := 2) (v := .ref (g 1)) (C := RX2) (T := TX2) (N := 4) hx hb hts in_X2 hown hC.1 hP 0 rfl rfl 0 (by decide) (hts _ q38) (fun _ h9 => h9) rfl dX2_step_114 ?_
    refine lv_iload hx hb dX2_step_117 (lv_at hl 4 rfl) ?_
    refine lv_iload hx hb dX2_step_119 (lv_at hl 2 rfl) ?_
    refine mg_iast hx hb hC.1 hP hD hS 1 rfl (i := ga w) hga dX2_step_121 (fun H locs hP hD hS => ?_)
    have hP : va_P D mgCl (wGst ct g (upd (regs) (ga w) (nI (gk w))) (shown) (pc) (shows) ++ wHost ct h (M) ++ wMk ct k (bd)) H := hP
    have hD : va_D A (wGst ct g (upd (regs) (ga w) (nI (gk w))) (shown) (pc) (shows) ++ wHost ct h (M) ++ wMk ct k (bd)) := hD
    refine lv_goto (tgt := 257) hx hb dX2_step_122 (by decide) ?_
    refine lv_aload_n hx hb dX2_step_257 rfl (lv_at hl 6 rfl) ?_
    refine lv_iload hx hb dX2_step_258 (lv_at hl 0 rfl) ?_
    refine va_put (D := D) (ci := 2) (v := .int (nI ((pc + 1) % 64))) (ty := .int) (C := RX2) (T := TX2) (N := 4) hx hb hts in_X2 tyX2 tyX2_ok nmX2 hown hC.1 hP hD hS 0 rfl rfl 2 (by decide) (hts _ q42) (fun _ h9 => h9) rfl (by decide +kernel) rfl rfl (Nat.le_of_ble_eq_true rfl) dX2_step_260 (fun H locs hP hD hS => ?_)
    have hP : va_P D mgCl (wGst ct g (upd (regs) (ga w) (nI (gk w))) (shown) ((pc + 1) % 64) (shows) ++ wHost ct h (M) ++ wMk ct k (bd)) H := hP
    have hD : va_D A (wGst ct g (upd (regs) (ga w) (nI (gk w))) (shown) ((pc + 1) % 64) (shows) ++ wHost ct h (M) ++ wMk ct k (bd)) := hD
    exact mg_vret hx hb hr hlocks hP hD hS dX2_step_263
  · have eg : gst true (M, regs, shown, pc, shows, bd) = (M, upd regs (ga w) (M (gat regs w / 8) (gat regs w % 8)), shown, (pc + 1) % 64, shows, bd) := by simp only [gst, hgw, ho]
    rw [eg]
    refine mg_top (y := nI (2)) (by rw [ho]) ?_
    refine lv_tableIn (off := 63) (tgt := 125) hx hb dX2_step_62 (by decide) (by decide) (by decide) (by decide) ?_
    refine lv_aload_n hx hb dX2_step_125 rfl (lv_at hl 6 rfl) ?_
    refine va_get (D := D) (ci := 2) (v := .ref (g 1)) (C := RX2) (T := TX2) (N := 4) hx hb hts in_X2 hown hC.1 hP 0 rfl rfl 0 (by decide) (hts _ q38) (fun _ h9 => h9) rfl dX2_step_126 ?_
    refine lv_iload hx hb dX2_step_129 (lv_at hl 4 rfl) ?_
    refine lv_aload_n hx hb dX2_step_131 rfl (lv_at hl 7 rfl) ?_
    refine lv_iload hx hb dX2_step_132 (lv_at hl 1 rfl) ?_
    refine mg_afterI (w1 := wHost ct h (M)) (wr := wGst ct g (regs) (shown) (pc) (shows) ++ wMk ct k (bd)) (w2 := wGst ct g (regs) (shown) (pc) (shows) ++ wHost ct h (M) ++ wMk ct k (bd)) (va_runV (As := [.int (nI (gat regs w))]) (rest := [.int (nI (ga w)), .ref (g 1)]) ⟨hx, hb, hml, hown, hts⟩ (h_word l D ct ad h M (gat regs w) hgt _) (cwV 1 hts (lw_V q143 q144 q145 q3 q146) rfl rfl rfl (by decide +kernel) ⟨Nat.le_of_ble_eq_true rfl, Nat.le_of_ble_eq_true rfl⟩) (mg_preV hC hP hD hS hA (wc := wHost ct h (M)) [3, 4, 5, 6, 7, 8, 9, 10, 11, 12] rfl (by decide) (ci := 1) (q0 := 0) rfl rfl [.int (nI (gat regs w))]) rfl rfl hl.1 rfl (lv_room (Nat.le_of_ble_eq_true rfl)) dX2_step_134 ⟨Nat.zero_le _, Nat.zero_le _⟩) hP hD hS hA [3, 4, 5, 6, 7, 8, 9, 10, 11, 12] [0, 1, 2, 13, 14] [0, 1, 2, 5, 6, 7, 8, 9, 10, 11, 12, 13, 14, 3, 4] rfl rfl (by decide) (by decide) rfl (by decide) (fun H locs hP hD hS => ?_)
    refine mg_iast hx hb hC.1 hP hD hS 1 rfl (i := ga w) hga dX2_step_137 (fun H locs hP hD hS => ?_)
    have hP : va_P D mgCl (wGst ct g (upd (regs) (ga w) (M (gat regs w / 8) (gat regs w % 8))) (shown) (pc) (shows) ++ wHost ct h (M) ++ wMk ct k (bd)) H := hP
    have hD : va_D A (wGst ct g (upd (regs) (ga w) (M (gat regs w / 8) (gat regs w % 8))) (shown) (pc) (shows) ++ wHost ct h (M) ++ wMk ct k (bd)) := hD
    refine lv_goto (tgt := 257) hx hb dX2_step_138 (by decide) ?_
    refine lv_aload_n hx hb dX2_step_257 rfl (lv_at hl 6 rfl) ?_
    refine lv_iload hx hb dX2_step_258 (lv_at hl 0 rfl) ?_
    refine va_put (D := D) (ci := 2) (v := .int (nI ((pc + 1) % 64))) (ty := .int) (C := RX2) (T := TX2) (N := 4) hx hb hts in_X2 tyX2 tyX2_ok nmX2 hown hC.1 hP hD hS 0 rfl rfl 2 (by decide) (hts _ q42) (fun _ h9 => h9) rfl (by decide +kernel) rfl rfl (Nat.le_of_ble_eq_true rfl) dX2_step_260 (fun H locs hP hD hS => ?_)
    have hP : va_P D mgCl (wGst ct g (upd (regs) (ga w) (M (gat regs w / 8) (gat regs w % 8))) (shown) ((pc + 1) % 64) (shows) ++ wHost ct h (M) ++ wMk ct k (bd)) H := hP
    have hD : va_D A (wGst ct g (upd (regs) (ga w) (M (gat regs w / 8) (gat regs w % 8))) (shown) ((pc + 1) % 64) (shows) ++ wHost ct h (M) ++ wMk ct k (bd)) := hD
    exact mg_vret hx hb hr hlocks hP hD hS dX2_step_263
  · have eg : gst true (M, regs, shown, pc, shows, bd) = (putM M (gat regs w) (regs (ga w)), regs, shown, (pc + 1) % 64, shows, va_up bd (gat regs w / 8) true) := by simp only [gst, hgw, ho, if_true, Bool.false_eq_true, if_false]
    rw [eg]
    refine mg_top (y := nI (3)) (by rw [ho]) ?_
    refine lv_tableIn (off := 79) (tgt := 141) hx hb dX2_step_62 (by decide) (by decide) (by decide) (by decide) ?_
    refine lv_aload_n hx hb dX2_step_141 rfl (lv_at hl 7 rfl) ?_
    refine lv_iload hx hb dX2_step_142 (lv_at hl 1 rfl) ?_
    refine lv_aload_n hx hb dX2_step_144 rfl (lv_at hl 6 rfl) ?_
    refine va_get (D := D) (ci := 2) (v := .ref (g 1)) (C := RX2) (T := TX2) (N := 4) hx hb hts in_X2 hown hC.1 hP 0 rfl rfl 0 (by decide) (hts _ q38) (fun _ h9 => h9) rfl dX2_step_145 ?_
    refine lv_iload hx hb dX2_step_148 (lv_at hl 4 rfl) ?_
    refine mg_iald hx hb hC.1 hP 1 rfl (i := ga w) hga dX2_step_150 ?_
    refine mg_afterV (w1 := wHost ct h (putM M (gat regs w) (regs (ga w)))) (wr := wGst ct g (regs) (shown) (pc) (shows) ++ wMk ct k (bd)) (w2 := wGst ct g (regs) (shown) (pc) (shows) ++ wHost ct h (putM M (gat regs w) (regs (ga w))) ++ wMk ct k (bd)) (va_runV (As := [.int (nI (gat regs w)), .int (regs (ga w))]) (rest := []) ⟨hx, hb, hml, hown, hts⟩ (h_put l D ct ad h M (gat regs w) hgt (regs (ga w)) _) (cwV 2 hts (lw_V q147 q118 q119 q3 q120) rfl rfl rfl (by decide +kernel) ⟨Nat.le_of_ble_eq_true rfl, Nat.le_of_ble_eq_true rfl⟩) (mg_preV hC hP hD hS hA (wc := wHost ct h (M)) [3, 4, 5, 6, 7, 8, 9, 10, 11, 12] rfl (by decide) (ci := 1) (q0 := 0) rfl rfl [.int (nI (gat regs w)), .int (regs (ga w))]) rfl rfl hl.1 rfl (lv_room (Nat.le_of_ble_eq_true rfl)) dX2_step_151 ⟨Nat.zero_le _, Nat.zero_le _⟩) hP hD hS hA [3, 4, 5, 6, 7, 8, 9, 10, 11, 12] [0, 1, 2, 13, 14] [0, 1, 2, 5, 6, 7, 8, 9, 10, 11, 12, 13, 14, 3, 4] rfl rfl (by decide) (by decide) rfl (by decide) (fun H locs hP hD hS => ?_)
    refine lv_aload_n hx hb dX2_step_154 rfl (lv_at hl 8 rfl) ?_
    refine lv_iload hx hb dX2_step_155 (lv_at hl 1 rfl) ?_
    refine lv_bipush (v := nI (8)) hx hb dX2_step_157 (by decide) ?_
    refine lv_idiv hx hb dX2_step_159 (by decide) ?_
    refine mg_top (y := nI ((gat regs w) / 8)) (pk_div (by omega) (by decide) (by decide)) ?_
    refine mg_afterF (w1 := wMk ct k (va_up bd (gat regs w / 8) true)) (wr := wGst ct g (regs) (shown) (pc) (shows) ++ wHost ct h (putM M (gat regs w) (regs (ga w)))) (w2 := wGst ct g (regs) (shown) (pc) (shows) ++ wHost ct h (putM M (gat regs w) (regs (ga w))) ++ wMk ct k (va_up bd (gat regs w / 8) true)) (va_runF (x := yW_wrote) (As := [.int (nI (gat regs w / 8))]) (rest := []) (hC.1.1 3 _ rfl).2 ⟨hx, hb, hml, hown, hts⟩ (m_wrote l D ct ad k bd (gat regs w / 8) (by omega) _) (va_cwF 1 hts (lw_F q149 q153 q155 q5 q157) rfl rfl rfl hC.2.2.1.2.2.1 (by decide +kernel) ⟨Nat.le_of_ble_eq_true rfl, Nat.le_of_ble_eq_true rfl⟩) (mg_preV hC hP hD hS hA (wc := wMk ct k (bd)) [13, 14] rfl (by decide) (ci := 3) (q0 := 0) rfl rfl [.int (nI (gat regs w / 8))]) rfl rfl hl.1 rfl (lv_room (Nat.le_of_ble_eq_true rfl)) dX2_step_160 ⟨Nat.zero_le _, Nat.zero_le _⟩) hP hD hS hA [13, 14] [0, 1, 2, 3, 4, 5, 6, 7, 8, 9, 10, 11, 12] [0, 1, 2, 3, 4, 5, 6, 7, 8, 9, 10, 11, 12, 13, 14] rfl rfl (by decide) (by decide) rfl (by decide) (fun H locs hP hD hS => ?_)
    refine lv_goto (tgt := 257) hx hb dX2_step_165 (by decide) ?_
    refine lv_aload_n hx hb dX2_step_257 rfl (lv_at hl 6 rfl) ?_
    refine lv_iload hx hb dX2_step_258 (lv_at hl 0 rfl) ?_
    refine va_put (D := D) (ci := 2) (v := .int (nI ((pc + 1) % 64))) (ty := .int) (C := RX2) (T := TX2) (N := 4) hx hb hts in_X2 tyX2 tyX2_ok nmX2 hown hC.1 hP hD hS 0 rfl rfl 2 (by decide) (hts _ q42) (fun _ h9 => h9) rfl (by decide +kernel) rfl rfl (Nat.le_of_ble_eq_true rfl) dX2_step_260 (fun H locs hP hD hS => ?_)
    have hP : va_P D mgCl (wGst ct g (regs) (shown) ((pc + 1) % 64) (shows) ++ wHost ct h (putM M (gat regs w) (regs (ga w))) ++ wMk ct k (va_up bd (gat regs w / 8) true)) H := hP
    have hD : va_D A (wGst ct g (regs) (shown) ((pc + 1) % 64) (shows) ++ wHost ct h (putM M (gat regs w) (regs (ga w))) ++ wMk ct k (va_up bd (gat regs w / 8) true)) := hD
    exact mg_vret hx hb hr hlocks hP hD hS dX2_step_263
  · have eg : gst true (M, regs, shown, pc, shows, bd) = (M, upd regs (ga w) (regs (ga w) + regs (gb w)), shown, (pc + 1) % 64, shows, bd) := by simp only [gst, hgw, ho]
    rw [eg]
    refine mg_top (y := nI (4)) (by rw [ho]) ?_
    refine lv_tableIn (off := 106) (tgt := 168) hx hb dX2_step_62 (by decide) (by decide) (by decide) (by decide) ?_
    refine lv_aload_n hx hb dX2_step_168 rfl (lv_at hl 6 rfl) ?_
    refine va_get (D := D) (ci := 2) (v := .ref (g 1)) (C := RX2) (T := TX2) (N := 4) hx hb hts in_X2 hown hC.1 hP 0 rfl rfl 0 (by decide) (hts _ q38) (fun _ h9 => h9) rfl dX2_step_169 ?_
    refine lv_iload hx hb dX2_step_172 (lv_at hl 4 rfl) ?_
    refine lv_dup2_11 hx hb dX2_step_174 rfl rfl ?_
    refine mg_iald hx hb hC.1 hP 1 rfl (i := ga w) hga dX2_step_175 ?_
    refine lv_aload_n hx hb dX2_step_176 rfl (lv_at hl 6 rfl) ?_
    refine va_get (D := D) (ci := 2) (v := .ref (g 1)) (C := RX2) (T := TX2) (N := 4) hx hb hts in_X2 hown hC.1 hP 0 rfl rfl 0 (by decide) (hts _ q38) (fun _ h9 => h9) rfl dX2_step_177 ?_
    refine lv_iload hx hb dX2_step_180 (lv_at hl 3 rfl) ?_
    refine mg_iald hx hb hC.1 hP 1 rfl (i := gb w) hgb dX2_step_182 ?_
    refine lv_iadd hx hb dX2_step_183 ?_
    refine mg_iast hx hb hC.1 hP hD hS 1 rfl (i := ga w) hga dX2_step_184 (fun H locs hP hD hS => ?_)
    have hP : va_P D mgCl (wGst ct g (upd (regs) (ga w) (((regs) (ga w)) + ((regs) (gb w)))) (shown) (pc) (shows) ++ wHost ct h (M) ++ wMk ct k (bd)) H := hP
    have hD : va_D A (wGst ct g (upd (regs) (ga w) (((regs) (ga w)) + ((regs) (gb w)))) (shown) (pc) (shows) ++ wHost ct h (M) ++ wMk ct k (bd)) := hD
    refine lv_goto (tgt := 257) hx hb dX2_step_185 (by decide) ?_
    refine lv_aload_n hx hb dX2_step_257 rfl (lv_at hl 6 rfl) ?_
    refine lv_iload hx hb dX2_step_258 (lv_at hl 0 rfl) ?_
    refine va_put (D := D) (ci := 2) (v := .int (nI ((pc + 1) % 64))) (ty := .int) (C := RX2) (T := TX2) (N := 4) hx hb hts in_X2 tyX2 tyX2_ok nmX2 hown hC.1 hP hD hS 0 rfl rfl 2 (by decide) (hts _ q42) (fun _ h9 => h9) rfl (by decide +kernel) rfl rfl (Nat.le_of_ble_eq_true rfl) dX2_step_260 (fun H locs hP hD hS => ?_)
    have hP : va_P D mgCl (wGst ct g (upd (regs) (ga w) (((regs) (ga w)) + ((regs) (gb w)))) (shown) ((pc + 1) % 64) (shows) ++ wHost ct h (M) ++ wMk ct k (bd)) H := hP
    have hD : va_D A (wGst ct g (upd (regs) (ga w) (((regs) (ga w)) + ((regs) (gb w)))) (shown) ((pc + 1) % 64) (shows) ++ wHost ct h (M) ++ wMk ct k (bd)) := hD
    exact mg_vret hx hb hr hlocks hP hD hS dX2_step_263
  · have eg : gst true (M, regs, shown, pc, shows, bd) = (M, upd regs (ga w) (regs (ga w) - regs (gb w)), shown, (pc + 1) % 64, shows, bd) := by simp only [gst, hgw, ho]
    rw [eg]
    refine mg_top (y := nI (5)) (by rw [ho]) ?_
    refine lv_tableIn (off := 126) (tgt := 188) hx hb dX2_step_62 (by decide) (by decide) (by decide) (by decide) ?_
    refine lv_aload_n hx hb dX2_step_188 rfl (lv_at hl 6 rfl) ?_
    refine va_get (D := D) (ci := 2) (v := .ref (g 1)) (C := RX2) (T := TX2) (N := 4) hx hb hts in_X2 hown hC.1 hP 0 rfl rfl 0 (by decide) (hts _ q38) (fun _ h9 => h9) rfl dX2_step_189 ?_
    refine lv_iload hx hb dX2_step_192 (lv_at hl 4 rfl) ?_
    refine lv_dup2_11 hx hb dX2_step_194 rfl rfl ?_
    refine mg_iald hx hb hC.1 hP 1 rfl (i := ga w) hga dX2_step_195 ?_
    refine lv_aload_n hx hb dX2_step_196 rfl (lv_at hl 6 rfl) ?_
    refine va_get (D := D) (ci := 2) (v := .ref (g 1)) (C := RX2) (T := TX2) (N := 4) hx hb hts in_X2 hown hC.1 hP 0 rfl rfl 0 (by decide) (hts _ q38) (fun _ h9 => h9) rfl dX2_step_197 ?_
    refine lv_iload hx hb dX2_step_200 (lv_at hl 3 rfl) ?_
    refine mg_iald hx hb hC.1 hP 1 rfl (i := gb w) hgb dX2_step_202 ?_
    refine lv_isub hx hb dX2_step_203 ?_
    refine mg_iast hx hb hC.1 hP hD hS 1 rfl (i := ga w) hga dX2_step_204 (fun H locs hP hD hS => ?_)
    have hP : va_P D mgCl (wGst ct g (upd (regs) (ga w) (((regs) (ga w)) - ((regs) (gb w)))) (shown) (pc) (shows) ++ wHost ct h (M) ++ wMk ct k (bd)) H := hP
    have hD : va_D A (wGst ct g (upd (regs) (ga w) (((regs) (ga w)) - ((regs) (gb w)))) (shown) (pc) (shows) ++ wHost ct h (M) ++ wMk ct k (bd)) := hD
    refine lv_goto (tgt := 257) hx hb dX2_step_205 (by decide) ?_
    refine lv_aload_n hx hb dX2_step_257 rfl (lv_at hl 6 rfl) ?_
    refine lv_iload hx hb dX2_step_258 (lv_at hl 0 rfl) ?_
    refine va_put (D := D) (ci := 2) (v := .int (nI ((pc + 1) % 64))) (ty := .int) (C := RX2) (T := TX2) (N := 4) hx hb hts in_X2 tyX2 tyX2_ok nmX2 hown hC.1 hP hD hS 0 rfl rfl 2 (by decide) (hts _ q42) (fun _ h9 => h9) rfl (by decide +kernel) rfl rfl (Nat.le_of_ble_eq_true rfl) dX2_step_260 (fun H locs hP hD hS => ?_)
    have hP : va_P D mgCl (wGst ct g (upd (regs) (ga w) (((regs) (ga w)) - ((regs) (gb w)))) (shown) ((pc + 1) % 64) (shows) ++ wHost ct h (M) ++ wMk ct k (bd)) H := hP
    have hD : va_D A (wGst ct g (upd (regs) (ga w) (((regs) (ga w)) - ((regs) (gb w)))) (shown) ((pc + 1) % 64) (shows) ++ wHost ct h (M) ++ wMk ct k (bd)) := hD
    exact mg_vret hx hb hr hlocks hP hD hS dX2_step_263
  · refine mg_top (y := nI (6)) (by rw [ho]) ?_
    refine lv_tableIn (off := 146) (tgt := 208) hx hb dX2_step_62 (by decide) (by decide) (by decide) (by decide) ?_
    refine lv_aload_n hx hb dX2_step_208 rfl (lv_at hl 6 rfl) ?_
    refine va_get (D := D) (ci := 2) (v := .ref (g 1)) (C := RX2) (T := TX2) (N := 4) hx hb hts in_X2 hown hC.1 hP 0 rfl rfl 0 (by decide) (hts _ q38) (fun _ h9 => h9) rfl dX2_step_209 ?_
    refine lv_iload hx hb dX2_step_212 (lv_at hl 4 rfl) ?_
    refine mg_iald hx hb hC.1 hP 1 rfl (i := ga w) hga dX2_step_214 ?_
    refine lv_if_eq (tgt := 257) hx hb dX2_step_215 (by decide) (fun cz => ?_) (fun cz => ?_)
    · have eg : gst true (M, regs, shown, pc, shows, bd) = (M, regs, shown, (pc + 1) % 64, shows, bd) := by simp only [gst, hgw, ho, cz, if_true]
      rw [eg]
      refine lv_aload_n hx hb dX2_step_257 rfl (lv_at hl 6 rfl) ?_
      refine lv_iload hx hb dX2_step_258 (lv_at hl 0 rfl) ?_
      refine va_put (D := D) (ci := 2) (v := .int (nI ((pc + 1) % 64))) (ty := .int) (C := RX2) (T := TX2) (N := 4) hx hb hts in_X2 tyX2 tyX2_ok nmX2 hown hC.1 hP hD hS 0 rfl rfl 2 (by decide) (hts _ q42) (fun _ h9 => h9) rfl (by decide +kernel) rfl rfl (Nat.le_of_ble_eq_true rfl) dX2_step_260 (fun H locs hP hD hS => ?_)
      have hP : va_P D mgCl (wGst ct g (regs) (shown) ((pc + 1) % 64) (shows) ++ wHost ct h (M) ++ wMk ct k (bd)) H := hP
      have hD : va_D A (wGst ct g (regs) (shown) ((pc + 1) % 64) (shows) ++ wHost ct h (M) ++ wMk ct k (bd)) := hD
      exact mg_vret hx hb hr hlocks hP hD hS dX2_step_263
    · have eg : gst true (M, regs, shown, pc, shows, bd) = (M, regs, shown, gk w % 64, shows, bd) := by simp only [gst, hgw, ho, cz, if_false]
      rw [eg]
      refine lv_iload hx hb dX2_step_218 (lv_at hl 2 rfl) ?_
      refine lv_bipush (v := nI (63)) hx hb dX2_step_220 (by decide) ?_
      refine lv_iand hx hb dX2_step_222 ?_
      refine mg_top (y := nI (gk w % 64)) (n63_eq (by omega)) ?_
      refine lv_istore (lv' := [(8, .int (nI (gk w % 64))), (7, .int (nI (gat regs w))), (6, .int (nI (gk w))), (5, .int (nI (gb w))), (4, .int (nI (ga w))), (3, .int (w)), (0, .ref (g 0)), (1, .ref (h 0)), (2, .ref (k 0))]) hx hb dX2_step_223 hl (by decide) rfl (fun ls hl => ?_)
      refine lv_goto (tgt := 257) hx hb dX2_step_225 (by decide) ?_
      refine lv_aload_n hx hb dX2_step_257 rfl (lv_at hl 6 rfl) ?_
      refine lv_iload hx hb dX2_step_258 (lv_at hl 0 rfl) ?_
      refine va_put (D := D) (ci := 2) (v := .int (nI (gk w % 64))) (ty := .int) (C := RX2) (T := TX2) (N := 4) hx hb hts in_X2 tyX2 tyX2_ok nmX2 hown hC.1 hP hD hS 0 rfl rfl 2 (by decide) (hts _ q42) (fun _ h9 => h9) rfl (by decide +kernel) rfl rfl (Nat.le_of_ble_eq_true rfl) dX2_step_260 (fun H locs hP hD hS => ?_)
      have hP : va_P D mgCl (wGst ct g (regs) (shown) (gk w % 64) (shows) ++ wHost ct h (M) ++ wMk ct k (bd)) H := hP
      have hD : va_D A (wGst ct g (regs) (shown) (gk w % 64) (shows) ++ wHost ct h (M) ++ wMk ct k (bd)) := hD
      exact mg_vret hx hb hr hlocks hP hD hS dX2_step_263
  · have eg : gst true (M, regs, shown, pc, shows, bd) = (M, regs, upd shown (shows % 8) (regs (ga w)), (pc + 1) % 64, shows + 1, bd) := by simp only [gst, hgw, ho]
    rw [eg]
    refine mg_top (y := nI (7)) (by rw [ho]) ?_
    refine lv_tableOut (tgt := 228) hx hb dX2_step_62 (by decide) (by decide) ?_
    refine lv_aload_n hx hb dX2_step_228 rfl (lv_at hl 6 rfl) ?_
    refine va_get (D := D) (ci := 2) (v := .ref (g 2)) (C := RX2) (T := TX2) (N := 4) hx hb hts in_X2 hown hC.1 hP 0 rfl rfl 1 (by decide) (hts _ q40) (fun _ h9 => h9) rfl dX2_step_229 ?_
    refine lv_aload_n hx hb dX2_step_232 rfl (lv_at hl 6 rfl) ?_
    refine va_get (D := D) (ci := 2) (v := .int (nI (shows))) (C := RX2) (T := TX2) (N := 4) hx hb hts in_X2 hown hC.1 hP 0 rfl rfl 3 (by decide) (hts _ q44) (fun _ h9 => h9) rfl dX2_step_233 ?_
    refine lv_bipush (v := nI (8)) hx hb dX2_step_236 (by decide) ?_
    refine lv_irem hx hb dX2_step_238 (by decide) ?_
    refine mg_top (y := nI ((shows) % 8)) (pk_rem (by omega) (by decide) (by decide)) ?_
    refine lv_aload_n hx hb dX2_step_239 rfl (lv_at hl 6 rfl) ?_
    refine va_get (D := D) (ci := 2) (v := .ref (g 1)) (C := RX2) (T := TX2) (N := 4) hx hb hts in_X2 hown hC.1 hP 0 rfl rfl 0 (by decide) (hts _ q38) (fun _ h9 => h9) rfl dX2_step_240 ?_
    refine lv_iload hx hb dX2_step_243 (lv_at hl 4 rfl) ?_
    refine mg_iald hx hb hC.1 hP 1 rfl (i := ga w) hga dX2_step_245 ?_
    refine mg_iast hx hb hC.1 hP hD hS 2 rfl (i := (shows) % 8) (by omega) dX2_step_246 (fun H locs hP hD hS => ?_)
    have hP : va_P D mgCl (wGst ct g (regs) (upd (shown) ((shows) % 8) ((regs) (ga w))) (pc) (shows) ++ wHost ct h (M) ++ wMk ct k (bd)) H := hP
    have hD : va_D A (wGst ct g (regs) (upd (shown) ((shows) % 8) ((regs) (ga w))) (pc) (shows) ++ wHost ct h (M) ++ wMk ct k (bd)) := hD
    refine lv_aload_n hx hb dX2_step_247 rfl (lv_at hl 6 rfl) ?_
    refine lv_dup hx hb dX2_step_248 rfl ?_
    refine va_get (D := D) (ci := 2) (v := .int (nI (shows))) (C := RX2) (T := TX2) (N := 4) hx hb hts in_X2 hown hC.1 hP 0 rfl rfl 3 (by decide) (hts _ q44) (fun _ h9 => h9) rfl dX2_step_249 ?_
    refine lv_iconst (v := nI (1)) hx hb dX2_step_252 (by decide) ?_
    refine lv_iadd hx hb dX2_step_253 ?_
    refine mg_top (y := nI (shows + 1)) (nI_add _ _) ?_
    refine va_put (D := D) (ci := 2) (v := .int (nI (shows + 1))) (ty := .int) (C := RX2) (T := TX2) (N := 4) hx hb hts in_X2 tyX2 tyX2_ok nmX2 hown hC.1 hP hD hS 0 rfl rfl 3 (by decide) (hts _ q44) (fun _ h9 => h9) rfl (by decide +kernel) rfl rfl (Nat.le_of_ble_eq_true rfl) dX2_step_254 (fun H locs hP hD hS => ?_)
    have hP : va_P D mgCl (wGst ct g (regs) (upd (shown) ((shows) % 8) ((regs) (ga w))) (pc) (shows + 1) ++ wHost ct h (M) ++ wMk ct k (bd)) H := hP
    have hD : va_D A (wGst ct g (regs) (upd (shown) ((shows) % 8) ((regs) (ga w))) (pc) (shows + 1) ++ wHost ct h (M) ++ wMk ct k (bd)) := hD
    refine lv_aload_n hx hb dX2_step_257 rfl (lv_at hl 6 rfl) ?_
    refine lv_iload hx hb dX2_step_258 (lv_at hl 0 rfl) ?_
    refine va_put (D := D) (ci := 2) (v := .int (nI ((pc + 1) % 64))) (ty := .int) (C := RX2) (T := TX2) (N := 4) hx hb hts in_X2 tyX2 tyX2_ok nmX2 hown hC.1 hP hD hS 0 rfl rfl 2 (by decide) (hts _ q42) (fun _ h9 => h9) rfl (by decide +kernel) rfl rfl (Nat.le_of_ble_eq_true rfl) dX2_step_260 (fun H locs hP hD hS => ?_)
    have hP : va_P D mgCl (wGst ct g (regs) (upd (shown) ((shows) % 8) ((regs) (ga w))) ((pc + 1) % 64) (shows + 1) ++ wHost ct h (M) ++ wMk ct k (bd)) H := hP
    have hD : va_D A (wGst ct g (regs) (upd (shown) ((shows) % 8) ((regs) (ga w))) ((pc + 1) % 64) (shows + 1) ++ wHost ct h (M) ++ wMk ct k (bd)) := hD
    exact mg_vret hx hb hr hlocks hP hD hS dX2_step_263
set_option maxHeartbeats 4000000 in
set_option maxRecDepth 100000 in
/-- Guest.step(host, nobody) -/
theorem g_stepN (l : Launch) (D : va_G) (ct ad g h : Nat → Nat) (k : Nat) (σ : GS) (hpc : σ.2.2.2.1 < 64) (hsh : σ.2.2.2.2.1 < 2 ^ 30) : MV l yX2_step cX2_step 9 (rmN 1 30) D ct ad [.ref (g 0), .ref (h 0), .ref (k)] (wGN ct g h k σ) (wGN ct g h k (gst false σ)) := by
  obtain ⟨M, regs, shown, pc, shows, bd⟩ := σ
  dsimp only at hpc hsh
  refine mg_MV (by decide) (Nat.le_of_ble_eq_true rfl) ?_
  intro p e s m below meth c A hx hb hr hlocks hml hown hnm hts hC hP hD hA hS ls hl
  have hown : s.vm.findClass RX2 = some m.cls := hown
  have hl : lv_has ls 9 [(0, .ref (g 0)), (1, .ref (h 0)), (2, .ref (k))] := hl
  have hP : va_P D mgCl (wGst ct g (regs) (shown) (pc) (shows) ++ wHost ct h (M) ++ wNb (k)) s.heap := hP
  have hD : va_D A (wGst ct g (regs) (shown) (pc) (shows) ++ wHost ct h (M) ++ wNb (k)) := hD
  refine lv_aload_n hx hb dX2_step_0 rfl (lv_at hl 1 rfl) ?_
  refine lv_aload_n hx hb dX2_step_1 rfl (lv_at hl 0 rfl) ?_
  refine va_get (D := D) (ci := 2) (v := .int (nI (pc))) (C := RX2) (T := TX2) (N := 4) hx hb hts in_X2 hown hC.1 hP 0 rfl rfl 2 (by decide) (hts _ q42) (fun _ h9 => h9) rfl dX2_step_2 ?_
  refine mg_afterI (w1 := wHost ct h (M)) (wr := wGst ct g (regs) (shown) (pc) (shows) ++ wNb (k)) (w2 := wGst ct g (regs) (shown) (pc) (shows) ++ wHost ct h (M) ++ wNb (k)) (va_runV (As := [.int (nI (pc))]) (rest := []) ⟨hx, hb, hml, hown, hts⟩ (h_word l D ct ad h M pc hpc _) (cwV 1 hts (lw_V q143 q144 q145 q3 q146) rfl rfl rfl (by decide +kernel) ⟨Nat.le_of_ble_eq_true rfl, Nat.le_of_ble_eq_true rfl⟩) (mg_preV hC hP hD hS hA (wc := wHost ct h (M)) [3, 4, 5, 6, 7, 8, 9, 10, 11, 12] rfl (by decide) (ci := 1) (q0 := 0) rfl rfl [.int (nI (pc))]) rfl rfl hl.1 rfl (lv_room (Nat.le_of_ble_eq_true rfl)) dX2_step_5 ⟨Nat.zero_le _, Nat.zero_le _⟩) hP hD hS hA [3, 4, 5, 6, 7, 8, 9, 10, 11, 12] [0, 1, 2, 13] [0, 1, 2, 4, 5, 6, 7, 8, 9, 10, 11, 12, 13, 3] rfl rfl (by decide) (by decide) rfl (by decide) (fun H locs hP hD hS => ?_)
  generalize hw : M (pc / 8) (pc % 8) = w
  refine lv_istore_n (lv' := [(3, .int (w)), (0, .ref (g 0)), (1, .ref (h 0)), (2, .ref (k))]) hx hb dX2_step_8 rfl hl (by decide) rfl (fun ls hl => ?_)
  refine lv_iload_n hx hb dX2_step_9 rfl (lv_at hl 0 rfl) ?_
  refine lv_iconst (v := nI (3)) hx hb dX2_step_10 (by decide) ?_
  refine lv_ishr hx hb dX2_step_11 ?_
  refine lv_iconst (v := nI (3)) hx hb dX2_step_12 (by decide) ?_
  refine lv_iand hx hb dX2_step_13 ?_
  refine mg_top (y := nI (ga w)) (ga_eq w) ?_
  refine lv_istore (lv' := [(4, .int (nI (ga w))), (3, .int (w)), (0, .ref (g 0)), (1, .ref (h 0)), (2, .ref (k))]) hx hb dX2_step_14 hl (by decide) rfl (fun ls hl => ?_)
  refine lv_iload_n hx hb dX2_step_16 rfl (lv_at hl 1 rfl) ?_
  refine lv_iconst (v := nI (5)) hx hb dX2_step_17 (by decide) ?_
  refine lv_ishr hx hb dX2_step_18 ?_
  refine lv_iconst (v := nI (3)) hx hb dX2_step_19 (by decide) ?_
  refine lv_iand hx hb dX2_step_20 ?_
  refine mg_top (y := nI (gb w)) (gb_eq w) ?_
  refine lv_istore (lv' := [(5, .int (nI (gb w))), (4, .int (nI (ga w))), (3, .int (w)), (0, .ref (g 0)), (1, .ref (h 0)), (2, .ref (k))]) hx hb dX2_step_21 hl (by decide) rfl (fun ls hl => ?_)
  refine lv_iload_n hx hb dX2_step_23 rfl (lv_at hl 2 rfl) ?_
  refine lv_bipush (v := nI (7)) hx hb dX2_step_24 (by decide) ?_
  refine lv_ishr hx hb dX2_step_26 ?_
  refine lv_bipush (v := nI (127)) hx hb dX2_step_27 (by decide) ?_
  refine lv_iand hx hb dX2_step_29 ?_
  refine mg_top (y := nI (gk w)) (gk_eq w) ?_
  refine lv_istore (lv' := [(6, .int (nI (gk w))), (5, .int (nI (gb w))), (4, .int (nI (ga w))), (3, .int (w)), (0, .ref (g 0)), (1, .ref (h 0)), (2, .ref (k))]) hx hb dX2_step_30 hl (by decide) rfl (fun ls hl => ?_)
  refine lv_aload_n hx hb dX2_step_32 rfl (lv_at hl 4 rfl) ?_
  refine va_get (D := D) (ci := 2) (v := .ref (g 1)) (C := RX2) (T := TX2) (N := 4) hx hb hts in_X2 hown hC.1 hP 0 rfl rfl 0 (by decide) (hts _ q38) (fun _ h9 => h9) rfl dX2_step_33 ?_
  refine lv_iload hx hb dX2_step_36 (lv_at hl 1 rfl) ?_
  refine mg_iald hx hb hC.1 hP 1 rfl (i := gb w) (gb_lt w) dX2_step_38 ?_
  refine lv_iload hx hb dX2_step_39 (lv_at hl 0 rfl) ?_
  refine lv_iadd hx hb dX2_step_41 ?_
  refine lv_bipush (v := nI (63)) hx hb dX2_step_42 (by decide) ?_
  refine lv_iand hx hb dX2_step_44 ?_
  refine mg_top (y := nI (gat regs w)) (gat_eq regs w) ?_
  refine lv_istore (lv' := [(7, .int (nI (gat regs w))), (6, .int (nI (gk w))), (5, .int (nI (gb w))), (4, .int (nI (ga w))), (3, .int (w)), (0, .ref (g 0)), (1, .ref (h 0)), (2, .ref (k))]) hx hb dX2_step_45 hl (by decide) rfl (fun ls hl => ?_)
  refine lv_aload_n hx hb dX2_step_47 rfl (lv_at hl 5 rfl) ?_
  refine va_get (D := D) (ci := 2) (v := .int (nI (pc))) (C := RX2) (T := TX2) (N := 4) hx hb hts in_X2 hown hC.1 hP 0 rfl rfl 2 (by decide) (hts _ q42) (fun _ h9 => h9) rfl dX2_step_48 ?_
  refine lv_iconst (v := nI (1)) hx hb dX2_step_51 (by decide) ?_
  refine lv_iadd hx hb dX2_step_52 ?_
  refine mg_top (y := nI (pc + 1)) (nI_add _ _) ?_
  refine lv_bipush (v := nI (63)) hx hb dX2_step_53 (by decide) ?_
  refine lv_iand hx hb dX2_step_55 ?_
  refine mg_top (y := nI ((pc + 1) % 64)) (n63_eq (by omega)) ?_
  refine lv_istore (lv' := [(8, .int (nI ((pc + 1) % 64))), (7, .int (nI (gat regs w))), (6, .int (nI (gk w))), (5, .int (nI (gb w))), (4, .int (nI (ga w))), (3, .int (w)), (0, .ref (g 0)), (1, .ref (h 0)), (2, .ref (k))]) hx hb dX2_step_56 hl (by decide) rfl (fun ls hl => ?_)
  refine lv_iload_n hx hb dX2_step_58 rfl (lv_at hl 5 rfl) ?_
  refine lv_bipush (v := nI (7)) hx hb dX2_step_59 (by decide) ?_
  refine lv_iand hx hb dX2_step_61 ?_
  refine mg_top (y := nI (gop w)) (gop_eq w) ?_
  have hga := ga_lt w
  have hgb := gb_lt w
  have hgk := gk_lt w
  have hgt := gat_lt regs w
  have hgo := gop_lt w
  have hgw : gw (M, regs, shown, pc, shows, bd) = w := hw
  rcases (show gop w = 0 ∨ gop w = 1 ∨ gop w = 2 ∨ gop w = 3 ∨ gop w = 4 ∨ gop w = 5 ∨ gop w = 6 ∨ gop w = 7 by omega) with ho | ho | ho | ho | ho | ho | ho | ho
  · have eg : gst false (M, regs, shown, pc, shows, bd) = (M, regs, shown, pc, shows, bd) := by simp only [gst, hgw, ho]
    rw [eg]
    refine mg_top (y := nI (0)) (by rw [ho]) ?_
    refine lv_tableIn (off := 42) (tgt := 104) hx hb dX2_step_62 (by decide) (by decide) (by decide) (by decide) ?_
    refine lv_aload_n hx hb dX2_step_104 rfl (lv_at hl 6 rfl) ?_
    refine va_get (D := D) (ci := 2) (v := .int (nI (pc))) (C := RX2) (T := TX2) (N := 4) hx hb hts in_X2 hown hC.1 hP 0 rfl rfl 2 (by decide) (hts _ q42) (fun _ h9 => h9) rfl dX2_step_105 ?_
    refine lv_istore (lv' := [(8, .int (nI (pc))), (7, .int (nI (gat regs w))), (6, .int (nI (gk w))), (5, .int (nI (gb w))), (4, .int (nI (ga w))), (3, .int (w)), (0, .ref (g 0)), (1, .ref (h 0)), (2, .ref (k))]) hx hb dX2_step_108 hl (by decide) rfl (fun ls hl => ?_)
    refine lv_goto (tgt := 257) hx hb dX2_step_110 (by decide) ?_
    refine lv_aload_n hx hb dX2_step_257 rfl (lv_at hl 6 rfl) ?_
    refine lv_iload hx hb dX2_step_258 (lv_at hl 0 rfl) ?_
    refine va_put (D := D) (ci := 2) (v := .int (nI (pc))) (ty := .int) (C := RX2) (T := TX2) (N := 4) hx hb hts in_X2 tyX2 tyX2_ok nmX2 hown hC.1 hP hD hS 0 rfl rfl 2 (by decide) (hts _ q42) (fun _ h9 => h9) rfl (by decide +kernel) rfl rfl (Nat.le_of_ble_eq_true rfl) dX2_step_260 (fun H locs hP hD hS => ?_)
    have hP : va_P D mgCl (wGst ct g (regs) (shown) (pc) (shows) ++ wHost ct h (M) ++ wNb (k)) H := hP
    have hD : va_D A (wGst ct g (regs) (shown) (pc) (shows) ++ wHost ct h (M) ++ wNb (k)) := hD
    exact mg_vret hx hb hr hlocks hP hD hS dX2_step_263
  · have eg : gst false (M, regs, shown, pc, shows, bd) = (M, upd regs (ga w) (nI (gk w)), shown, (pc + 1) % 64, shows, bd) := by simp only [gst, hgw, ho]
    rw [eg]
    refine mg_top (y := nI (1)) (by rw [ho]) ?_
    refine lv_tableIn (off := 51) (tgt := 113) hx hb dX2_step_62 (by decide) (by decide) (by decide) (by decide) ?_
    refine lv_aload_n hx hb dX2_step_113 rfl (lv_at hl 6 rfl) ?_
    refine va_get (D := D) (ci := 2) (v := .ref (g 1)) (C := RX2) (T := TX2) (N := 4) hx hb hts in_X2 hown hC.1 hP 0 rfl rfl 0 (by decide) (hts _ q38) (fun _ h9 => h9) rfl dX2_step_114 ?_
    refine lv_iload hx hb dX2_step_117 (lv_at hl 4 rfl) ?_
    refine lv_iload hx hb dX2_step_119 (lv_at hl 2 rfl) ?_
    refine mg_iast hx hb hC.1 hP hD hS 1 rfl (i := ga w) hga dX2_step_121 (fun H locs hP hD hS => ?_)
    have hP : va_P D mgCl (wGst ct g (upd (regs) (ga w) (nI (gk w))) (shown) (pc) (shows) ++ wHost ct h (M) ++ wNb (k)) H := hP
    have hD : va_D A (wGst ct g (upd (regs) (ga w) (nI (gk w))) (shown) (pc) (shows) ++ wHost ct h (M) ++ wNb (k)) := hD
    refine lv_goto (tgt := 257) hx hb dX2_step_122 (by decide) ?_
    refine lv_aload_n hx hb dX2_step_257 rfl (lv_at hl 6 rfl) ?_
    refine lv_iload hx hb dX2_step_258 (lv_at hl 0 rfl) ?_
    refine va_put (D := D) (ci := 2) (v := .int (nI ((pc + 1) % 64))) (ty := .int) (C := RX2) (T := TX2) (N := 4) hx hb hts in_X2 tyX2 tyX2_ok nmX2 hown hC.1 hP hD hS 0 rfl rfl 2 (by decide) (hts _ q42) (fun _ h9 => h9) rfl (by decide +kernel) rfl rfl (Nat.le_of_ble_eq_true rfl) dX2_step_260 (fun H locs hP hD hS => ?_)
    have hP : va_P D mgCl (wGst ct g (upd (regs) (ga w) (nI (gk w))) (shown) ((pc + 1) % 64) (shows) ++ wHost ct h (M) ++ wNb (k)) H := hP
    have hD : va_D A (wGst ct g (upd (regs) (ga w) (nI (gk w))) (shown) ((pc + 1) % 64) (shows) ++ wHost ct h (M) ++ wNb (k)) := hD
    exact mg_vret hx hb hr hlocks hP hD hS dX2_step_263
  · have eg : gst false (M, regs, shown, pc, shows, bd) = (M, upd regs (ga w) (M (gat regs w / 8) (gat regs w % 8)), shown, (pc + 1) % 64, shows, bd) := by simp only [gst, hgw, ho]
    rw [eg]
    refine mg_top (y := nI (2)) (by rw [ho]) ?_
    refine lv_tableIn (off := 63) (tgt := 125) hx hb dX2_step_62 (by decide) (by decide) (by decide) (by decide) ?_
    refine lv_aload_n hx hb dX2_step_125 rfl (lv_at hl 6 rfl) ?_
    refine va_get (D := D) (ci := 2) (v := .ref (g 1)) (C := RX2) (T := TX2) (N := 4) hx hb hts in_X2 hown hC.1 hP 0 rfl rfl 0 (by decide) (hts _ q38) (fun _ h9 => h9) rfl dX2_step_126 ?_
    refine lv_iload hx hb dX2_step_129 (lv_at hl 4 rfl) ?_
    refine lv_aload_n hx hb dX2_step_131 rfl (lv_at hl 7 rfl) ?_
    refine lv_iload hx hb dX2_step_132 (lv_at hl 1 rfl) ?_
    refine mg_afterI (w1 := wHost ct h (M)) (wr := wGst ct g (regs) (shown) (pc) (shows) ++ wNb (k)) (w2 := wGst ct g (regs) (shown) (pc) (shows) ++ wHost ct h (M) ++ wNb (k)) (va_runV (As := [.int (nI (gat regs w))]) (rest := [.int (nI (ga w)), .ref (g 1)]) ⟨hx, hb, hml, hown, hts⟩ (h_word l D ct ad h M (gat regs w) hgt _) (cwV 1 hts (lw_V q143 q144 q145 q3 q146) rfl rfl rfl (by decide +kernel) ⟨Nat.le_of_ble_eq_true rfl, Nat.le_of_ble_eq_true rfl⟩) (mg_preV hC hP hD hS hA (wc := wHost ct h (M)) [3, 4, 5, 6, 7, 8, 9, 10, 11, 12] rfl (by decide) (ci := 1) (q0 := 0) rfl rfl [.int (nI (gat regs w))]) rfl rfl hl.1 rfl (lv_room (Nat.le_of_ble_eq_true rfl)) dX2_step_134 ⟨Nat.zero_le _, Nat.zero_le _⟩) hP hD hS hA [3, 4, 5, 6, 7, 8, 9, 10, 11, 12] [0, 1, 2, 13] [0, 1, 2, 4, 5, 6, 7, 8, 9, 10, 11, 12, 13, 3] rfl rfl (by decide) (by decide) rfl (by decide) (fun H locs hP hD hS => ?_)
    refine mg_iast hx hb hC.1 hP hD hS 1 rfl (i := ga w) hga dX2_step_137 (fun H locs hP hD hS => ?_)
    have hP : va_P D mgCl (wGst ct g (upd (regs) (ga w) (M (gat regs w / 8) (gat regs w % 8))) (shown) (pc) (shows) ++ wHost ct h (M) ++ wNb (k)) H := hP
    have hD : va_D A (wGst ct g (upd (regs) (ga w) (M (gat regs w / 8) (gat regs w % 8))) (shown) (pc) (shows) ++ wHost ct h (M) ++ wNb (k)) := hD
    refine lv_goto (tgt := 257) hx hb dX2_step_138 (by decide) ?_
    refine lv_aload_n hx hb dX2_step_257 rfl (lv_at hl 6 rfl) ?_
    refine lv_iload hx hb dX2_step_258 (lv_at hl 0 rfl) ?_
    refine va_put (D := D) (ci := 2) (v := .int (nI ((pc + 1) % 64))) (ty := .int) (C := RX2) (T := TX2) (N := 4) hx hb hts in_X2 tyX2 tyX2_ok nmX2 hown hC.1 hP hD hS 0 rfl rfl 2 (by decide) (hts _ q42) (fun _ h9 => h9) rfl (by decide +kernel) rfl rfl (Nat.le_of_ble_eq_true rfl) dX2_step_260 (fun H locs hP hD hS => ?_)
    have hP : va_P D mgCl (wGst ct g (upd (regs) (ga w) (M (gat regs w / 8) (gat regs w % 8))) (shown) ((pc + 1) % 64) (shows) ++ wHost ct h (M) ++ wNb (k)) H := hP
    have hD : va_D A (wGst ct g (upd (regs) (ga w) (M (gat regs w / 8) (gat regs w % 8))) (shown) ((pc + 1) % 64) (shows) ++ wHost ct h (M) ++ wNb (k)) := hD
    exact mg_vret hx hb hr hlocks hP hD hS dX2_step_263
  · have eg : gst false (M, regs, shown, pc, shows, bd) = (putM M (gat regs w) (regs (ga w)), regs, shown, (pc + 1) % 64, shows, bd) := by simp only [gst, hgw, ho, if_true, Bool.false_eq_true, if_false]
    rw [eg]
    refine mg_top (y := nI (3)) (by rw [ho]) ?_
    refine lv_tableIn (off := 79) (tgt := 141) hx hb dX2_step_62 (by decide) (by decide) (by decide) (by decide) ?_
    refine lv_aload_n hx hb dX2_step_141 rfl (lv_at hl 7 rfl) ?_
    refine lv_iload hx hb dX2_step_142 (lv_at hl 1 rfl) ?_
    refine lv_aload_n hx hb dX2_step_144 rfl (lv_at hl 6 rfl) ?_
    refine va_get (D := D) (ci := 2) (v := .ref (g 1)) (C := RX2) (T := TX2) (N := 4) hx hb hts in_X2 hown hC.1 hP 0 rfl rfl 0 (by decide) (hts _ q38) (fun _ h9 => h9) rfl dX2_step_145 ?_
    refine lv_iload hx hb dX2_step_148 (lv_at hl 4 rfl) ?_
    refine mg_iald hx hb hC.1 hP 1 rfl (i := ga w) hga dX2_step_150 ?_
    refine mg_afterV (w1 := wHost ct h (putM M (gat regs w) (regs (ga w)))) (wr := wGst ct g (regs) (shown) (pc) (shows) ++ wNb (k)) (w2 := wGst ct g (regs) (shown) (pc) (shows) ++ wHost ct h (putM M (gat regs w) (regs (ga w))) ++ wNb (k)) (va_runV (As := [.int (nI (gat regs w)), .int (regs (ga w))]) (rest := []) ⟨hx, hb, hml, hown, hts⟩ (h_put l D ct ad h M (gat regs w) hgt (regs (ga w)) _) (cwV 2 hts (lw_V q147 q118 q119 q3 q120) rfl rfl rfl (by decide +kernel) ⟨Nat.le_of_ble_eq_true rfl, Nat.le_of_ble_eq_true rfl⟩) (mg_preV hC hP hD hS hA (wc := wHost ct h (M)) [3, 4, 5, 6, 7, 8, 9, 10, 11, 12] rfl (by decide) (ci := 1) (q0 := 0) rfl rfl [.int (nI (gat regs w)), .int (regs (ga w))]) rfl rfl hl.1 rfl (lv_room (Nat.le_of_ble_eq_true rfl)) dX2_step_151 ⟨Nat.zero_le _, Nat.zero_le _⟩) hP hD hS hA [3, 4, 5, 6, 7, 8, 9, 10, 11, 12] [0, 1, 2, 13] [0, 1, 2, 4, 5, 6, 7, 8, 9, 10, 11, 12, 13, 3] rfl rfl (by decide) (by decide) rfl (by decide) (fun H locs hP hD hS => ?_)
    refine lv_aload_n hx hb dX2_step_154 rfl (lv_at hl 8 rfl) ?_
    refine lv_iload hx hb dX2_step_155 (lv_at hl 1 rfl) ?_
    refine lv_bipush (v := nI (8)) hx hb dX2_step_157 (by decide) ?_
    refine lv_idiv hx hb dX2_step_159 (by decide) ?_
    refine mg_top (y := nI ((gat regs w) / 8)) (pk_div (by omega) (by decide) (by decide)) ?_
    refine mg_afterF (w1 := wNb (k)) (wr := wGst ct g (regs) (shown) (pc) (shows) ++ wHost ct h (putM M (gat regs w) (regs (ga w)))) (w2 := wGst ct g (regs) (shown) (pc) (shows) ++ wHost ct h (putM M (gat regs w) (regs (ga w))) ++ wNb (k)) (va_runF (x := yW_wrote) (As := [.int (nI (gat regs w / 8))]) (rest := []) (hC.1.1 4 _ rfl).2 ⟨hx, hb, hml, hown, hts⟩ (n_wrote l D ct ad k (gat regs w / 8) _) (va_cwF 1 hts (lw_F q149 q159 q161 q7 q163) rfl rfl rfl hC.2.2.1.2.2.2 (by decide +kernel) ⟨Nat.le_of_ble_eq_true rfl, Nat.le_of_ble_eq_true rfl⟩) (mg_preV hC hP hD hS hA (wc := wNb (k)) [13] rfl (by decide) (ci := 4) (q0 := 0) rfl rfl [.int (nI (gat regs w / 8))]) rfl rfl hl.1 rfl (lv_room (Nat.le_of_ble_eq_true rfl)) dX2_step_160 ⟨Nat.zero_le _, Nat.zero_le _⟩) hP hD hS hA [13] [0, 1, 2, 3, 4, 5, 6, 7, 8, 9, 10, 11, 12] [0, 1, 2, 3, 4, 5, 6, 7, 8, 9, 10, 11, 12, 13] rfl rfl (by decide) (by decide) rfl (by decide) (fun H locs hP hD hS => ?_)
    refine lv_goto (tgt := 257) hx hb dX2_step_165 (by decide) ?_
    refine lv_aload_n hx hb dX2_step_257 rfl (lv_at hl 6 rfl) ?_
    refine lv_iload hx hb dX2_step_258 (lv_at hl 0 rfl) ?_
    refine va_put (D := D) (ci := 2) (v := .int (nI ((pc + 1) % 64))) (ty := .int) (C := RX2) (T := TX2) (N := 4) hx hb hts in_X2 tyX2 tyX2_ok nmX2 hown hC.1 hP hD hS 0 rfl rfl 2 (by decide) (hts _ q42) (fun _ h9 => h9) rfl (by decide +kernel) rfl rfl (Nat.le_of_ble_eq_true rfl) dX2_step_260 (fun H locs hP hD hS => ?_)
    have hP : va_P D mgCl (wGst ct g (regs) (shown) ((pc + 1) % 64) (shows) ++ wHost ct h (putM M (gat regs w) (regs (ga w))) ++ wNb (k)) H := hP
    have hD : va_D A (wGst ct g (regs) (shown) ((pc + 1) % 64) (shows) ++ wHost ct h (putM M (gat regs w) (regs (ga w))) ++ wNb (k)) := hD
    exact mg_vret hx hb hr hlocks hP hD hS dX2_step_263
  · have eg : gst false (M, regs, shown, pc, shows, bd) = (M, upd regs (ga w) (regs (ga w) + regs (gb w)), shown, (pc + 1) % 64, shows, bd) := by simp only [gst, hgw, ho]
    rw [eg]
    refine mg_top (y := nI (4)) (by rw [ho]) ?_
    refine lv_tableIn (off := 106) (tgt := 168) hx hb dX2_step_62 (by decide) (by decide) (by decide) (by decide) ?_
    refine lv_aload_n hx hb dX2_step_168 rfl (lv_at hl 6 rfl) ?_
    refine va_get (D := D) (ci := 2) (v := .ref (g 1)) (C := RX2) (T := TX2) (N := 4) hx hb hts in_X2 hown hC.1 hP 0 rfl rfl 0 (by decide) (hts _ q38) (fun _ h9 => h9) rfl dX2_step_169 ?_
    refine lv_iload hx hb dX2_step_172 (lv_at hl 4 rfl) ?_
    refine lv_dup2_11 hx hb dX2_step_174 rfl rfl ?_
    refine mg_iald hx hb hC.1 hP 1 rfl (i := ga w) hga dX2_step_175 ?_
    refine lv_aload_n hx hb dX2_step_176 rfl (lv_at hl 6 rfl) ?_
    refine va_get (D := D) (ci := 2) (v := .ref (g 1)) (C := RX2) (T := TX2) (N := 4) hx hb hts in_X2 hown hC.1 hP 0 rfl rfl 0 (by decide) (hts _ q38) (fun _ h9 => h9) rfl dX2_step_177 ?_
    refine lv_iload hx hb dX2_step_180 (lv_at hl 3 rfl) ?_
    refine mg_iald hx hb hC.1 hP 1 rfl (i := gb w) hgb dX2_step_182 ?_
    refine lv_iadd hx hb dX2_step_183 ?_
    refine mg_iast hx hb hC.1 hP hD hS 1 rfl (i := ga w) hga dX2_step_184 (fun H locs hP hD hS => ?_)
    have hP : va_P D mgCl (wGst ct g (upd (regs) (ga w) (((regs) (ga w)) + ((regs) (gb w)))) (shown) (pc) (shows) ++ wHost ct h (M) ++ wNb (k)) H := hP
    have hD : va_D A (wGst ct g (upd (regs) (ga w) (((regs) (ga w)) + ((regs) (gb w)))) (shown) (pc) (shows) ++ wHost ct h (M) ++ wNb (k)) := hD
    refine lv_goto (tgt := 257) hx hb dX2_step_185 (by decide) ?_
    refine lv_aload_n hx hb dX2_step_257 rfl (lv_at hl 6 rfl) ?_
    refine lv_iload hx hb dX2_step_258 (lv_at hl 0 rfl) ?_
    refine va_put (D := D) (ci := 2) (v := .int (nI ((pc + 1) % 64))) (ty := .int) (C := RX2) (T := TX2) (N := 4) hx hb hts in_X2 tyX2 tyX2_ok nmX2 hown hC.1 hP hD hS 0 rfl rfl 2 (by decide) (hts _ q42) (fun _ h9 => h9) rfl (by decide +kernel) rfl rfl (Nat.le_of_ble_eq_true rfl) dX2_step_260 (fun H locs hP hD hS => ?_)
    have hP : va_P D mgCl (wGst ct g (upd (regs) (ga w) (((regs) (ga w)) + ((regs) (gb w)))) (shown) ((pc + 1) % 64) (shows) ++ wHost ct h (M) ++ wNb (k)) H := hP
    have hD : va_D A (wGst ct g (upd (regs) (ga w) (((regs) (ga w)) + ((regs) (gb w)))) (shown) ((pc + 1) % 64) (shows) ++ wHost ct h (M) ++ wNb (k)) := hD
    exact mg_vret hx hb hr hlocks hP hD hS dX2_step_263
  · have eg : gst false (M, regs, shown, pc, shows, bd) = (M, upd regs (ga w) (regs (ga w) - regs (gb w)), shown, (pc + 1) % 64, shows, bd) := by simp only [gst, hgw, ho]
    rw [eg]
    refine mg_top (y := nI (5)) (by rw [ho]) ?_
    refine lv_tableIn (off := 126) (tgt := 188) hx hb dX2_step_62 (by decide) (by decide) (by decide) (by decide) ?_
    refine lv_aload_n hx hb dX2_step_188 rfl (lv_at hl 6 rfl) ?_
    refine va_get (D := D) (ci := 2) (v := .ref (g 1)) (C := RX2) (T := TX2) (N := 4) hx hb hts in_X2 hown hC.1 hP 0 rfl rfl 0 (by decide) (hts _ q38) (fun _ h9 => h9) rfl dX2_step_189 ?_
    refine lv_iload hx hb dX2_step_192 (lv_at hl 4 rfl) ?_
    refine lv_dup2_11 hx hb dX2_step_194 rfl rfl ?_
    refine mg_iald hx hb hC.1 hP 1 rfl (i := ga w) hga dX2_step_195 ?_
    refine lv_aload_n hx hb dX2_step_196 rfl (lv_at hl 6 rfl) ?_
    refine va_get (D := D) (ci := 2) (v := .ref (g 1)) (C := RX2) (T := TX2) (N := 4) hx hb hts in_X2 hown hC.1 hP 0 rfl rfl 0 (by decide) (hts _ q38) (fun _ h9 => h9) rfl dX2_step_197 ?_
    refine lv_iload hx hb dX2_step_200 (lv_at hl 3 rfl) ?_
    refine mg_iald hx hb hC.1 hP 1 rfl (i := gb w) hgb dX2_step_202 ?_
    refine lv_isub hx hb dX2_step_203 ?_
    refine mg_iast hx hb hC.1 hP hD hS 1 rfl (i := ga w) hga dX2_step_204 (fun H locs hP hD hS => ?_)
    have hP : va_P D mgCl (wGst ct g (upd (regs) (ga w) (((regs) (ga w)) - ((regs) (gb w)))) (shown) (pc) (shows) ++ wHost ct h (M) ++ wNb (k)) H := hP
    have hD : va_D A (wGst ct g (upd (regs) (ga w) (((regs) (ga w)) - ((regs) (gb w)))) (shown) (pc) (shows) ++ wHost ct h (M) ++ wNb (k)) := hD
    refine lv_goto (tgt := 257) hx hb dX2_step_205 (by decide) ?_
    refine lv_aload_n hx hb dX2_step_257 rfl (lv_at hl 6 rfl) ?_
    refine lv_iload hx hb dX2_step_258 (lv_at hl 0 rfl) ?_
    refine va_put (D := D) (ci := 2) (v := .int (nI ((pc + 1) % 64))) (ty := .int) (C := RX2) (T := TX2) (N := 4) hx hb hts in_X2 tyX2 tyX2_ok nmX2 hown hC.1 hP hD hS 0 rfl rfl 2 (by decide) (hts _ q42) (fun _ h9 => h9) rfl (by decide +kernel) rfl rfl (Nat.le_of_ble_eq_true rfl) dX2_step_260 (fun H locs hP hD hS => ?_)
    have hP : va_P D mgCl (wGst ct g (upd (regs) (ga w) (((regs) (ga w)) - ((regs) (gb w)))) (shown) ((pc + 1) % 64) (shows) ++ wHost ct h (M) ++ wNb (k)) H := hP
    have hD : va_D A (wGst ct g (upd (regs) (ga w) (((regs) (ga w)) - ((regs) (gb w)))) (shown) ((pc + 1) % 64) (shows) ++ wHost ct h (M) ++ wNb (k)) := hD
    exact mg_vret hx hb hr hlocks hP hD hS dX2_step_263
  · refine mg_top (y := nI (6)) (by rw [ho]) ?_
    refine lv_tableIn (off := 146) (tgt := 208) hx hb dX2_step_62 (by decide) (by decide) (by decide) (by decide) ?_
    refine lv_aload_n hx hb dX2_step_208 rfl (lv_at hl 6 rfl) ?_
    refine va_get (D := D) (ci := 2) (v := .ref (g 1)) (C := RX2) (T := TX2) (N := 4) hx hb hts in_X2 hown hC.1 hP 0 rfl rfl 0 (by decide) (hts _ q38) (fun _ h9 => h9) rfl dX2_step_209 ?_
    refine lv_iload hx hb dX2_step_212 (lv_at hl 4 rfl) ?_
    refine mg_iald hx hb hC.1 hP 1 rfl (i := ga w) hga dX2_step_214 ?_
    refine lv_if_eq (tgt := 257) hx hb dX2_step_215 (by decide) (fun cz => ?_) (fun cz => ?_)
    · have eg : gst false (M, regs, shown, pc, shows, bd) = (M, regs, shown, (pc + 1) % 64, shows, bd) := by simp only [gst, hgw, ho, cz, if_true]
      rw [eg]
      refine lv_aload_n hx hb dX2_step_257 rfl (lv_at hl 6 rfl) ?_
      refine lv_iload hx hb dX2_step_258 (lv_at hl 0 rfl) ?_
      refine va_put (D := D) (ci := 2) (v := .int (nI ((pc + 1) % 64))) (ty := .int) (C := RX2) (T := TX2) (N := 4) hx hb hts in_X2 tyX2 tyX2_ok nmX2 hown hC.1 hP hD hS 0 rfl rfl 2 (by decide) (hts _ q42) (fun _ h9 => h9) rfl (by decide +kernel) rfl rfl (Nat.le_of_ble_eq_true rfl) dX2_step_260 (fun H locs hP hD hS => ?_)
      have hP : va_P D mgCl (wGst ct g (regs) (shown) ((pc + 1) % 64) (shows) ++ wHost ct h (M) ++ wNb (k)) H := hP
      have hD : va_D A (wGst ct g (regs) (shown) ((pc + 1) % 64) (shows) ++ wHost ct h (M) ++ wNb (k)) := hD
      exact mg_vret hx hb hr hlocks hP hD hS dX2_step_263
    · have eg : gst false (M, regs, shown, pc, shows, bd) = (M, regs, shown, gk w % 64, shows, bd) := by simp only [gst, hgw, ho, cz, if_false]
      rw [eg]
      refine lv_iload hx hb dX2_step_218 (lv_at hl 2 rfl) ?_
      refine lv_bipush (v := nI (63)) hx hb dX2_step_220 (by decide) ?_
      refine lv_iand hx hb dX2_step_222 ?_
      refine mg_top (y := nI (gk w % 64)) (n63_eq (by omega)) ?_
      refine lv_istore (lv' := [(8, .int (nI (gk w % 64))), (7, .int (nI (gat regs w))), (6, .int (nI (gk w))), (5, .int (nI (gb w))), (4, .int (nI (ga w))), (3, .int (w)), (0, .ref (g 0)), (1, .ref (h 0)), (2, .ref (k))]) hx hb dX2_step_223 hl (by decide) rfl (fun ls hl => ?_)
      refine lv_goto (tgt := 257) hx hb dX2_step_225 (by decide) ?_
      refine lv_aload_n hx hb dX2_step_257 rfl (lv_at hl 6 rfl) ?_
      refine lv_iload hx hb dX2_step_258 (lv_at hl 0 rfl) ?_
      refine va_put (D := D) (ci := 2) (v := .int (nI (gk w % 64))) (ty := .int) (C := RX2) (T := TX2) (N := 4) hx hb hts in_X2 tyX2 tyX2_ok nmX2 hown hC.1 hP hD hS 0 rfl rfl 2 (by decide) (hts _ q42) (fun _ h9 => h9) rfl (by decide +kernel) rfl rfl (Nat.le_of_ble_eq_true rfl) dX2_step_260 (fun H locs hP hD hS => ?_)
      have hP : va_P D mgCl (wGst ct g (regs) (shown) (gk w % 64) (shows) ++ wHost ct h (M) ++ wNb (k)) H := hP
      have hD : va_D A (wGst ct g (regs) (shown) (gk w % 64) (shows) ++ wHost ct h (M) ++ wNb (k)) := hD
      exact mg_vret hx hb hr hlocks hP hD hS dX2_step_263
  · have eg : gst false (M, regs, shown, pc, shows, bd) = (M, regs, upd shown (shows % 8) (regs (ga w)), (pc + 1) % 64, shows + 1, bd) := by simp only [gst, hgw, ho]
    rw [eg]
    refine mg_top (y := nI (7)) (by rw [ho]) ?_
    refine lv_tableOut (tgt := 228) hx hb dX2_step_62 (by decide) (by decide) ?_
    refine lv_aload_n hx hb dX2_step_228 rfl (lv_at hl 6 rfl) ?_
    refine va_get (D := D) (ci := 2) (v := .ref (g 2)) (C := RX2) (T := TX2) (N := 4) hx hb hts in_X2 hown hC.1 hP 0 rfl rfl 1 (by decide) (hts _ q40) (fun _ h9 => h9) rfl dX2_step_229 ?_
    refine lv_aload_n hx hb dX2_step_232 rfl (lv_at hl 6 rfl) ?_
    refine va_get (D := D) (ci := 2) (v := .int (nI (shows))) (C := RX2) (T := TX2) (N := 4) hx hb hts in_X2 hown hC.1 hP 0 rfl rfl 3 (by decide) (hts _ q44) (fun _ h9 => h9) rfl dX2_step_233 ?_
    refine lv_bipush (v := nI (8)) hx hb dX2_step_236 (by decide) ?_
    refine lv_irem hx hb dX2_step_238 (by decide) ?_
    refine mg_top (y := nI ((shows) % 8)) (pk_rem (by omega) (by decide) (by decide)) ?_
    refine lv_aload_n hx hb dX2_step_239 rfl (lv_at hl 6 rfl) ?_
    refine va_get (D := D) (ci := 2) (v := .ref (g 1)) (C := RX2) (T := TX2) (N := 4) hx hb hts in_X2 hown hC.1 hP 0 rfl rfl 0 (by decide) (hts _ q38) (fun _ h9 => h9) rfl dX2_step_240 ?_
    refine lv_iload hx hb dX2_step_243 (lv_at hl 4 rfl) ?_
    refine mg_iald hx hb hC.1 hP 1 rfl (i := ga w) hga dX2_step_245 ?_
    refine mg_iast hx hb hC.1 hP hD hS 2 rfl (i := (shows) % 8) (by omega) dX2_step_246 (fun H locs hP hD hS => ?_)
    have hP : va_P D mgCl (wGst ct g (regs) (upd (shown) ((shows) % 8) ((regs) (ga w))) (pc) (shows) ++ wHost ct h (M) ++ wNb (k)) H := hP
    have hD : va_D A (wGst ct g (regs) (upd (shown) ((shows) % 8) ((regs) (ga w))) (pc) (shows) ++ wHost ct h (M) ++ wNb (k)) := hD
    refine lv_aload_n hx hb dX2_step_247 rfl (lv_at hl 6 rfl) ?_
    refine lv_dup hx hb dX2_step_248 rfl ?_
    refine va_get (D := D) (ci := 2) (v := .int (nI (shows))) (C := RX2) (T := TX2) (N := 4) hx hb hts in_X2 hown hC.1 hP 0 rfl rfl 3 (by decide) (hts _ q44) (fun _ h9 => h9) rfl dX2_step_249 ?_
    refine lv_iconst (v := nI (1)) hx hb dX2_step_252 (by decide) ?_
    refine lv_iadd hx hb dX2_step_253 ?_
    refine mg_top (y := nI (shows + 1)) (nI_add _ _) ?_
    refine va_put (D := D) (ci := 2) (v := .int (nI (shows + 1))) (ty := .int) (C := RX2) (T := TX2) (N := 4) hx hb hts in_X2 tyX2 tyX2_ok nmX2 hown hC.1 hP hD hS 0 rfl rfl 3 (by decide) (hts _ q44) (fun _ h9 => h9) rfl (by decide +kernel) rfl rfl (Nat.le_of_ble_eq_true rfl) dX2_step_254 (fun H locs hP hD hS => ?_)
    have hP : va_P D mgCl (wGst ct g (regs) (upd (shown) ((shows) % 8) ((regs) (ga w))) (pc) (shows + 1) ++ wHost ct h (M) ++ wNb (k)) H := hP
    have hD : va_D A (wGst ct g (regs) (upd (shown) ((shows) % 8) ((regs) (ga w))) (pc) (shows + 1) ++ wHost ct h (M) ++ wNb (k)) := hD
    refine lv_aload_n hx hb dX2_step_257 rfl (lv_at hl 6 rfl) ?_
    refine lv_iload hx hb dX2_step_258 (lv_at hl 0 rfl) ?_
    refine va_put (D := D) (ci := 2) (v := .int (nI ((pc + 1) % 64))) (ty := .int) (C := RX2) (T := TX2) (N := 4) hx hb hts in_X2 tyX2 tyX2_ok nmX2 hown hC.1 hP hD hS 0 rfl rfl 2 (by decide) (hts _ q42) (fun _ h9 => h9) rfl (by decide +kernel) rfl rfl (Nat.le_of_ble_eq_true rfl) dX2_step_260 (fun H locs hP hD hS => ?_)
    have hP : va_P D mgCl (wGst ct g (regs) (upd (shown) ((shows) % 8) ((regs) (ga w))) ((pc + 1) % 64) (shows + 1) ++ wHost ct h (M) ++ wNb (k)) H := hP
    have hD : va_D A (wGst ct g (regs) (upd (shown) ((shows) % 8) ((regs) (ga w))) ((pc + 1) % 64) (shows + 1) ++ wHost ct h (M) ++ wNb (k)) := hD
    exact mg_vret hx hb hr hlocks hP hD hS dX2_step_263
end
section
/-! NUMBERS: Int32 compares by their integers; THE MODEL's STEP, as numbers -/
set_option maxRecDepth 100000
theorem c_lt0 {x : Int32} : x < 0 ↔ x.toInt < 0 := by rw [Int32.lt_iff_toInt_lt]; rfl
theorem c_ltn {x : Int32} {n : Nat} (hn : n < 2 ^ 31) : x < nI n ↔ x.toInt < n := by rw [Int32.lt_iff_toInt_lt, nI_toInt hn]
theorem c_nlt {x : Int32} {n : Nat} (hn : n < 2 ^ 31) : nI n < x ↔ (n : Int) < x.toInt := by rw [Int32.lt_iff_toInt_lt, nI_toInt hn]
theorem c_len {x : Int32} {n : Nat} (hn : n < 2 ^ 31) : x ≤ nI n ↔ x.toInt ≤ n := by rw [Int32.le_iff_toInt_le, nI_toInt hn]
theorem c_nle {x : Int32} {n : Nat} (hn : n < 2 ^ 31) : nI n ≤ x ↔ (n : Int) ≤ x.toInt := by rw [Int32.le_iff_toInt_le, nI_toInt hn]
theorem c_eq0 {n : Nat} (hn : n < 2 ^ 31) : nI n = 0 ↔ n = 0 := nI_eq hn (by decide)
theorem c_le0 {n : Nat} (hn : n < 2 ^ 31) : nI n ≤ 0 ↔ n = 0 := by
  rw [show (0 : Int32) = nI 0 from by decide, nI_leI hn (by decide)]; omega
theorem c_lcmp {a b : Nat} (ha : a < 2 ^ 31) (hb : b < 2 ^ 31) : lg_cmp (lN a) (lN b) ≤ 0 ↔ ¬ b < a := by
  unfold lg_cmp
  by_cases h : b < a
  · rw [if_pos ((lN_lt hb ha).mpr h)]
    exact ⟨fun q => absurd q (by decide), fun q => absurd h q⟩
  · rw [if_neg (fun q => h ((lN_lt hb ha).mp q))]
    refine ⟨fun _ => h, fun _ => ?_⟩
    split <;> decide
theorem nI_of_in {x : Int32} {n : Nat} (hn : n < 2 ^ 31) (h0 : 0 ≤ x.toInt) (h1 : x.toInt < n) : ∃ k : Nat, k < n ∧ x = nI k := by
  refine ⟨x.toInt.toNat, by omega, ?_⟩
  rw [← Int32.toInt_inj, nI_toInt (by omega)]
  omega
/-- the first words shifted up: those above i are done -/
def shU (f : Nat → Int32) (i : Nat) : Nat → Int32 := fun j => if i < j ∧ j ≤ 7 then f (j - 1) else f j
theorem shU_7 (f : Nat → Int32) : shU f 7 = f := by
  funext j
  unfold shU
  rw [if_neg (by omega)]
theorem shU_s (f : Nat → Int32) {i : Nat} (h : i < 7) : upd (shU f (i + 1)) (i + 1) (shU f (i + 1) i) = shU f i := by
  funext j
  unfold upd shU
  rw [if_neg (show ¬ (i + 1 < i ∧ i ≤ 7) by omega)]
  by_cases h1 : j = i + 1
  · rw [if_pos h1, if_pos (by omega)]
    subst h1
    rfl
  · rw [if_neg h1]
    by_cases h2 : i + 1 < j ∧ j ≤ 7
    · rw [if_pos h2, if_pos (by omega)]
    · rw [if_neg h2, if_neg (by omega)]
/-- memory, registers, told, pc, shows, time, written -/
abbrev MT : Type := (Nat → Int32) × (Nat → Int32) × (Nat → Int32) × Nat × Nat × Nat × (Nat → Nat)
def mw (τ : MT) : Int32 := τ.1 τ.2.2.2.1
def mst (τ : MT) : MT :=
  match gop (mw τ) with
  | 0 => τ
  | 1 => (τ.1, upd τ.2.1 (ga (mw τ)) (nI (gk (mw τ))), τ.2.2.1, (τ.2.2.2.1 + 1) % 64, τ.2.2.2.2.1, τ.2.2.2.2.2.1, τ.2.2.2.2.2.2)
  | 2 => (τ.1, upd τ.2.1 (ga (mw τ)) (τ.1 (gat τ.2.1 (mw τ))), τ.2.2.1, (τ.2.2.2.1 + 1) % 64, τ.2.2.2.2.1, τ.2.2.2.2.2.1, τ.2.2.2.2.2.2)
  | 3 => (upd τ.1 (gat τ.2.1 (mw τ)) (τ.2.1 (ga (mw τ))), τ.2.1, τ.2.2.1, (τ.2.2.2.1 + 1) % 64, τ.2.2.2.2.1, τ.2.2.2.2.2.1 + 1, va_up τ.2.2.2.2.2.2 (gat τ.2.1 (mw τ) / 8) (τ.2.2.2.2.2.1 + 1))
  | 4 => (τ.1, upd τ.2.1 (ga (mw τ)) (τ.2.1 (ga (mw τ)) + τ.2.1 (gb (mw τ))), τ.2.2.1, (τ.2.2.2.1 + 1) % 64, τ.2.2.2.2.1, τ.2.2.2.2.2.1, τ.2.2.2.2.2.2)
  | 5 => (τ.1, upd τ.2.1 (ga (mw τ)) (τ.2.1 (ga (mw τ)) - τ.2.1 (gb (mw τ))), τ.2.2.1, (τ.2.2.2.1 + 1) % 64, τ.2.2.2.2.1, τ.2.2.2.2.2.1, τ.2.2.2.2.2.2)
  | 6 => (τ.1, τ.2.1, τ.2.2.1, (if τ.2.1 (ga (mw τ)) = 0 then (τ.2.2.2.1 + 1) % 64 else gk (mw τ) % 64), τ.2.2.2.2.1, τ.2.2.2.2.2.1, τ.2.2.2.2.2.2)
  | _ => (τ.1, τ.2.1, upd (shU τ.2.2.1 0) 0 (τ.2.1 (ga (mw τ))), (τ.2.2.2.1 + 1) % 64, τ.2.2.2.2.1 + 1, τ.2.2.2.2.2.1, τ.2.2.2.2.2.2)
def miter : Nat → MT → MT
  | 0, τ => τ
  | n + 1, τ => mst (miter n τ)
theorem mst_ok (τ : MT) (h : τ.2.2.2.1 < 64) : (mst τ).2.2.2.1 < 64 ∧ (mst τ).2.2.2.2.1 ≤ τ.2.2.2.2.1 + 1 ∧ (mst τ).2.2.2.2.2.1 ≤ τ.2.2.2.2.2.1 + 1 := by
  unfold mst
  split
  · exact ⟨h, Nat.le_succ _, Nat.le_succ _⟩
  all_goals first
    | exact ⟨Nat.mod_lt _ (by decide), Nat.le_succ _, Nat.le_succ _⟩
    | exact ⟨Nat.mod_lt _ (by decide), Nat.le_refl _, Nat.le_succ _⟩
    | exact ⟨Nat.mod_lt _ (by decide), Nat.le_succ _, Nat.le_refl _⟩
    | exact ⟨by dsimp only; split <;> exact Nat.mod_lt _ (by decide), Nat.le_succ _, Nat.le_succ _⟩
theorem miter_ok (τ : MT) (h : τ.2.2.2.1 < 64) : ∀ n, (miter n τ).2.2.2.1 < 64 ∧ (miter n τ).2.2.2.2.1 ≤ τ.2.2.2.2.1 + n ∧ (miter n τ).2.2.2.2.2.1 ≤ τ.2.2.2.2.2.1 + n
  | 0 => ⟨h, Nat.le_refl _, Nat.le_refl _⟩
  | n + 1 => by
    have h1 := miter_ok τ h n
    have h2 := mst_ok (miter n τ) h1.1
    exact ⟨h2.1, by show (mst (miter n τ)).2.2.2.2.1 ≤ _; omega, by show (mst (miter n τ)).2.2.2.2.2.1 ≤ _; omega⟩
/-- the model's world by its machine state -/
def wMT (ct b : Nat → Nat) (τ : MT) (kept copied : Nat → Int32) (want left : Nat → Bool) (ph : Nat) (rd th lm : Int32) (since : Nat) : va_W := wMod ct b τ.1 kept copied τ.2.1 τ.2.2.2.2.2.2 want left τ.2.2.1 τ.2.2.2.1 ph rd th lm τ.2.2.2.2.1 τ.2.2.2.2.2.1 since
/-- words 8 q .. 8 q + i - 1 come from g -/
def pgU (f g : Nat → Int32) (q i : Nat) : Nat → Int32 := fun j => if 8 * q ≤ j ∧ j < 8 * q + i then g j else f j
theorem pgU_0 (f g : Nat → Int32) (q : Nat) : pgU f g q 0 = f := by
  funext j
  unfold pgU
  rw [if_neg (by omega)]
theorem pgU_s (f g : Nat → Int32) (q i : Nat) : upd (pgU f g q i) (8 * q + i) (g (8 * q + i)) = pgU f g q (i + 1) := by
  funext j
  unfold upd pgU
  by_cases h : j = 8 * q + i
  · rw [if_pos h, if_pos (by omega), h]
  · rw [if_neg h]
    by_cases h2 : 8 * q ≤ j ∧ j < 8 * q + i
    · rw [if_pos h2, if_pos (by omega)]
    · rw [if_neg h2, if_neg (by omega)]
end
section
/-! MODULE MigratorModel: its methods but the constructor (written by gen/gen_model.py) -/
set_option maxRecDepth 100000
set_option maxHeartbeats 4000000 in
set_option maxRecDepth 100000 in
/-- phase() -/
theorem d_phase (l : Launch) (D : va_G) (ct ad b : Nat → Nat) (real kept copied reg : Nat → Int32) (written : Nat → Nat) (want left : Nat → Bool) (told : Nat → Int32) (pc ph : Nat) (rd th lm : Int32) (shows time since : Nat) : MI l yX5_phase cX5_phase 1 (some .int) rmZ D ct ad [.ref (b 0)] (wMod ct b (real) (kept) (copied) (reg) (written) (want) (left) (told) (pc) (ph) (rd) (th) (lm) (shows) (time) (since)) (wMod ct b (real) (kept) (copied) (reg) (written) (want) (left) (told) (pc) (ph) (rd) (th) (lm) (shows) (time) (since)) (nI (ph)) := by
  refine mg_MI (by decide) (Nat.le_of_ble_eq_true rfl) ?_
  intro p e s m below meth c A hx hb hr hlocks hml hown hnm hts hC hP hD hA hS ls hl
  have hown : s.vm.findClass RX5 = some m.cls := hown
  have hl : lv_has ls 1 [(0, .ref (b 0))] := hl
  refine lv_aload_n hx hb dX5_phase_0 rfl (lv_at hl 0 rfl) ?_
  refine va_get (D := D) (ci := 5) (v := .int (nI (ph))) (C := RX5) (T := TX5) (N := 16) hx hb hts in_X5 hown hC.1 hP 0 rfl rfl 9 (by decide) (hts _ q249) (fun _ h9 => h9) rfl dX5_phase_1 ?_
  exact mg_iret (ty := .int) hx hb hr hlocks (rfl) hP hD hS (rfl) dX5_phase_4

set_option maxHeartbeats 4000000 in
set_option maxRecDepth 100000 in
/-- round() -/
theorem d_round (l : Launch) (D : va_G) (ct ad b : Nat → Nat) (real kept copied reg : Nat → Int32) (written : Nat → Nat) (want left : Nat → Bool) (told : Nat → Int32) (pc ph : Nat) (rd th lm : Int32) (shows time since : Nat) : MI l yX5_round cX5_round 1 (some .int) rmZ D ct ad [.ref (b 0)] (wMod ct b (real) (kept) (copied) (reg) (written) (want) (left) (told) (pc) (ph) (rd) (th) (lm) (shows) (time) (since)) (wMod ct b (real) (kept) (copied) (reg) (written) (want) (left) (told) (pc) (ph) (rd) (th) (lm) (shows) (time) (since)) (rd) := by
  refine mg_MI (by decide) (Nat.le_of_ble_eq_true rfl) ?_
  intro p e s m below meth c A hx hb hr hlocks hml hown hnm hts hC hP hD hA hS ls hl
  have hown : s.vm.findClass RX5 = some m.cls := hown
  have hl : lv_has ls 1 [(0, .ref (b 0))] := hl
  refine lv_aload_n hx hb dX5_round_0 rfl (lv_at hl 0 rfl) ?_
  refine va_get (D := D) (ci := 5) (v := .int (rd)) (C := RX5) (T := TX5) (N := 16) hx hb hts in_X5 hown hC.1 hP 0 rfl rfl 10 (by decide) (hts _ q250) (fun _ h9 => h9) rfl dX5_round_1 ?_
  exact mg_iret (ty := .int) hx hb hr hlocks (rfl) hP hD hS (rfl) dX5_round_4

set_option maxHeartbeats 4000000 in
set_option maxRecDepth 100000 in
/-- pc() -/
theorem d_pc (l : Launch) (D : va_G) (ct ad b : Nat → Nat) (real kept copied reg : Nat → Int32) (written : Nat → Nat) (want left : Nat → Bool) (told : Nat → Int32) (pc ph : Nat) (rd th lm : Int32) (shows time since : Nat) : MI l yX5_pc cX5_pc 1 (some .int) rmZ D ct ad [.ref (b 0)] (wMod ct b (real) (kept) (copied) (reg) (written) (want) (left) (told) (pc) (ph) (rd) (th) (lm) (shows) (time) (since)) (wMod ct b (real) (kept) (copied) (reg) (written) (want) (left) (told) (pc) (ph) (rd) (th) (lm) (shows) (time) (since)) (nI (pc)) := by
  refine mg_MI (by decide) (Nat.le_of_ble_eq_true rfl) ?_
  intro p e s m below meth c A hx hb hr hlocks hml hown hnm hts hC hP hD hA hS ls hl
  have hown : s.vm.findClass RX5 = some m.cls := hown
  have hl : lv_has ls 1 [(0, .ref (b 0))] := hl
  refine lv_aload_n hx hb dX5_pc_0 rfl (lv_at hl 0 rfl) ?_
  refine va_get (D := D) (ci := 5) (v := .int (nI (pc))) (C := RX5) (T := TX5) (N := 16) hx hb hts in_X5 hown hC.1 hP 0 rfl rfl 8 (by decide) (hts _ q248) (fun _ h9 => h9) rfl dX5_pc_1 ?_
  exact mg_iret (ty := .int) hx hb hr hlocks (rfl) hP hD hS (rfl) dX5_pc_4

set_option maxHeartbeats 4000000 in
set_option maxRecDepth 100000 in
/-- shows() -/
theorem d_shows (l : Launch) (D : va_G) (ct ad b : Nat → Nat) (real kept copied reg : Nat → Int32) (written : Nat → Nat) (want left : Nat → Bool) (told : Nat → Int32) (pc ph : Nat) (rd th lm : Int32) (shows time since : Nat) : MI l yX5_shows cX5_shows 1 (some .int) rmZ D ct ad [.ref (b 0)] (wMod ct b (real) (kept) (copied) (reg) (written) (want) (left) (told) (pc) (ph) (rd) (th) (lm) (shows) (time) (since)) (wMod ct b (real) (kept) (copied) (reg) (written) (want) (left) (told) (pc) (ph) (rd) (th) (lm) (shows) (time) (since)) (nI (shows)) := by
  refine mg_MI (by decide) (Nat.le_of_ble_eq_true rfl) ?_
  intro p e s m below meth c A hx hb hr hlocks hml hown hnm hts hC hP hD hA hS ls hl
  have hown : s.vm.findClass RX5 = some m.cls := hown
  have hl : lv_has ls 1 [(0, .ref (b 0))] := hl
  refine lv_aload_n hx hb dX5_shows_0 rfl (lv_at hl 0 rfl) ?_
  refine va_get (D := D) (ci := 5) (v := .int (nI (shows))) (C := RX5) (T := TX5) (N := 16) hx hb hts in_X5 hown hC.1 hP 0 rfl rfl 13 (by decide) (hts _ q253) (fun _ h9 => h9) rfl dX5_shows_1 ?_
  exact mg_iret (ty := .int) hx hb hr hlocks (rfl) hP hD hS (rfl) dX5_shows_4

set_option maxHeartbeats 4000000 in
set_option maxRecDepth 100000 in
/-- poke(k, v), taken -/
theorem d_poke (l : Launch) (D : va_G) (ct ad b : Nat → Nat) (real kept copied reg : Nat → Int32) (written : Nat → Nat) (want left : Nat → Bool) (told : Nat → Int32) (pc : Nat) (rd th lm : Int32) (shows time since : Nat) (k : Nat) (hk : k < 64) (v : Int32) : MI l yX5_poke cX5_poke 3 (some .boolean) rmZ D ct ad [.ref (b 0), .int (nI k), .int v] (wMod ct b (real) (kept) (copied) (reg) (written) (want) (left) (told) (pc) (0) (rd) (th) (lm) (shows) (time) (since)) (wMod ct b (upd (real) (k) (v)) (kept) (copied) (reg) (written) (want) (left) (told) (pc) (0) (rd) (th) (lm) (shows) (time) (since)) (nI 1) := by
  refine mg_MI (by decide) (Nat.le_of_ble_eq_true rfl) ?_
  intro p e s m below meth c A hx hb hr hlocks hml hown hnm hts hC hP hD hA hS ls hl
  have hown : s.vm.findClass RX5 = some m.cls := hown
  have hl : lv_has ls 3 [(0, .ref (b 0)), (1, .int (nI (k))), (2, .int (v))] := hl
  refine lv_iload_n hx hb dX5_poke_0 rfl (lv_at hl 1 rfl) ?_
  refine lv_if_lt (tgt := 17) hx hb dX5_poke_1 (by decide) (fun cq => absurd cq (nI_pos (by omega))) (fun _ => ?_)
  refine lv_iload_n hx hb dX5_poke_4 rfl (lv_at hl 1 rfl) ?_
  refine lv_bipush (v := nI (63)) hx hb dX5_poke_5 (by decide) ?_
  refine lv_icmp_gt (tgt := 17) hx hb dX5_poke_7 (by decide) (fun cq => absurd cq (by first | decide | (rw [nI_leI (by omega) (by omega)]; omega) | (rw [nI_ltI (by omega) (by omega)]; omega) | exact nI_pos (by omega) | (rw [nI_eq (by omega) (by omega)]; omega) | (rw [c_eq0 (by omega)]; omega) | (rw [c_lt0]; omega) | (rw [c_nlt (by omega)]; omega) | (rw [c_ltn (by omega)]; omega) | (rw [c_nle (by omega)]; omega) | (rw [c_len (by omega)]; omega))) (fun _ => ?_)
  refine lv_aload_n hx hb dX5_poke_10 rfl (lv_at hl 0 rfl) ?_
  refine va_get (D := D) (ci := 5) (v := .int (nI (0))) (C := RX5) (T := TX5) (N := 16) hx hb hts in_X5 hown hC.1 hP 0 rfl rfl 9 (by decide) (hts _ q249) (fun _ h9 => h9) rfl dX5_poke_11 ?_
  refine lv_if_eq (tgt := 19) hx hb dX5_poke_14 (by decide) (fun _ => ?_) (fun cq => absurd (by decide) cq)
  refine lv_aload_n hx hb dX5_poke_19 rfl (lv_at hl 0 rfl) ?_
  refine va_get (D := D) (ci := 5) (v := .ref (b 1)) (C := RX5) (T := TX5) (N := 16) hx hb hts in_X5 hown hC.1 hP 0 rfl rfl 0 (by decide) (hts _ q240) (fun _ h9 => h9) rfl dX5_poke_20 ?_
  refine lv_iload_n hx hb dX5_poke_23 rfl (lv_at hl 1 rfl) ?_
  refine lv_iload_n hx hb dX5_poke_24 rfl (lv_at hl 2 rfl) ?_
  refine mg_iast hx hb hC.1 hP hD hS 1 rfl (i := k) hk dX5_poke_25 (fun H locs hP hD hS => ?_)
  have hP : va_P D mgCl (wMod ct b (upd (real) (k) (v)) (kept) (copied) (reg) (written) (want) (left) (told) (pc) (0) (rd) (th) (lm) (shows) (time) (since)) H := hP
  have hD : va_D A (wMod ct b (upd (real) (k) (v)) (kept) (copied) (reg) (written) (want) (left) (told) (pc) (0) (rd) (th) (lm) (shows) (time) (since)) := hD
  refine lv_iconst (v := nI (1)) hx hb dX5_poke_26 (by decide) ?_
  exact mg_iret (ty := .boolean) hx hb hr hlocks (rfl) hP hD hS (rfl) dX5_poke_27

set_option maxHeartbeats 4000000 in
set_option maxRecDepth 100000 in
/-- poke(x, v), refused -/
theorem d_pokeNo (l : Launch) (D : va_G) (ct ad b : Nat → Nat) (real kept copied reg : Nat → Int32) (written : Nat → Nat) (want left : Nat → Bool) (told : Nat → Int32) (pc ph : Nat) (rd th lm : Int32) (shows time since : Nat) (x v : Int32) (hph : ph ≤ 3) (hno : x.toInt < 0 ∨ 64 ≤ x.toInt ∨ ph ≠ 0) : MI l yX5_poke cX5_poke 3 (some .boolean) rmZ D ct ad [.ref (b 0), .int x, .int v] (wMod ct b (real) (kept) (copied) (reg) (written) (want) (left) (told) (pc) (ph) (rd) (th) (lm) (shows) (time) (since)) (wMod ct b (real) (kept) (copied) (reg) (written) (want) (left) (told) (pc) (ph) (rd) (th) (lm) (shows) (time) (since)) (nI 0) := by
  refine mg_MI (by decide) (Nat.le_of_ble_eq_true rfl) ?_
  intro p e s m below meth c A hx hb hr hlocks hml hown hnm hts hC hP hD hA hS ls hl
  have hown : s.vm.findClass RX5 = some m.cls := hown
  have hl : lv_has ls 3 [(0, .ref (b 0)), (1, .int (x)), (2, .int (v))] := hl
  refine lv_iload_n hx hb dX5_poke_0 rfl (lv_at hl 1 rfl) ?_
  refine lv_if_lt (tgt := 17) hx hb dX5_poke_1 (by decide) (fun c1 => ?_) (fun c1 => ?_)
  · refine lv_iconst (v := nI (0)) hx hb dX5_poke_17 (by decide) ?_
    exact mg_iret (ty := .boolean) hx hb hr hlocks (rfl) hP hD hS (rfl) dX5_poke_18
  · rw [c_lt0] at c1
    refine lv_iload_n hx hb dX5_poke_4 rfl (lv_at hl 1 rfl) ?_
    refine lv_bipush (v := nI (63)) hx hb dX5_poke_5 (by decide) ?_
    refine lv_icmp_gt (tgt := 17) hx hb dX5_poke_7 (by decide) (fun c2 => ?_) (fun c2 => ?_)
    · refine lv_iconst (v := nI (0)) hx hb dX5_poke_17 (by decide) ?_
      exact mg_iret (ty := .boolean) hx hb hr hlocks (rfl) hP hD hS (rfl) dX5_poke_18
    · rw [c_nlt (by decide)] at c2
      refine lv_aload_n hx hb dX5_poke_10 rfl (lv_at hl 0 rfl) ?_
      refine va_get (D := D) (ci := 5) (v := .int (nI (ph))) (C := RX5) (T := TX5) (N := 16) hx hb hts in_X5 hown hC.1 hP 0 rfl rfl 9 (by decide) (hts _ q249) (fun _ h9 => h9) rfl dX5_poke_11 ?_
      refine lv_if_eq (tgt := 19) hx hb dX5_poke_14 (by decide) (fun cq => absurd cq (by rw [c_eq0 (by omega)]; omega)) (fun _ => ?_)
      refine lv_iconst (v := nI (0)) hx hb dX5_poke_17 (by decide) ?_
      exact mg_iret (ty := .boolean) hx hb hr hlocks (rfl) hP hD hS (rfl) dX5_poke_18

set_option maxHeartbeats 4000000 in
set_option maxRecDepth 100000 in
/-- begin(t, n), taken -/
theorem d_begin (l : Launch) (D : va_G) (ct ad b : Nat → Nat) (real kept copied reg : Nat → Int32) (written : Nat → Nat) (want left : Nat → Bool) (told : Nat → Int32) (pc : Nat) (rd th lm : Int32) (shows time since : Nat) (t n : Int32) (ht : 0 ≤ t.toInt ∧ t.toInt ≤ 8) (hn : 1 ≤ n.toInt ∧ n.toInt ≤ 20) : MI l yX5_begin cX5_begin 4 (some .boolean) rmZ D ct ad [.ref (b 0), .int t, .int n] (wMod ct b (real) (kept) (copied) (reg) (written) (want) (left) (told) (pc) (0) (rd) (th) (lm) (shows) (time) (since)) (wMod ct b (real) (kept) (copied) (reg) (written) (cpB want (fun _ => true) (8)) (left) (told) (pc) (1) (nI (1)) (t) (n) (shows) (time) (time)) (nI 1) := by
  refine mg_MI (by decide) (Nat.le_of_ble_eq_true rfl) ?_
  intro p e s m below meth c A hx hb hr hlocks hml hown hnm hts hC hP hD hA hS ls hl
  have hown : s.vm.findClass RX5 = some m.cls := hown
  have hl : lv_has ls 4 [(0, .ref (b 0)), (1, .int (t)), (2, .int (n))] := hl
  refine lv_iload_n hx hb dX5_begin_0 rfl (lv_at hl 1 rfl) ?_
  refine lv_if_lt (tgt := 28) hx hb dX5_begin_1 (by decide) (fun cq => absurd cq (by first | decide | (rw [nI_leI (by omega) (by omega)]; omega) | (rw [nI_ltI (by omega) (by omega)]; omega) | exact nI_pos (by omega) | (rw [nI_eq (by omega) (by omega)]; omega) | (rw [c_eq0 (by omega)]; omega) | (rw [c_lt0]; omega) | (rw [c_nlt (by omega)]; omega) | (rw [c_ltn (by omega)]; omega) | (rw [c_nle (by omega)]; omega) | (rw [c_len (by omega)]; omega))) (fun _ => ?_)
  refine lv_iload_n hx hb dX5_begin_4 rfl (lv_at hl 1 rfl) ?_
  refine lv_bipush (v := nI (8)) hx hb dX5_begin_5 (by decide) ?_
  refine lv_icmp_gt (tgt := 28) hx hb dX5_begin_7 (by decide) (fun cq => absurd cq (by first | decide | (rw [nI_leI (by omega) (by omega)]; omega) | (rw [nI_ltI (by omega) (by omega)]; omega) | exact nI_pos (by omega) | (rw [nI_eq (by omega) (by omega)]; omega) | (rw [c_eq0 (by omega)]; omega) | (rw [c_lt0]; omega) | (rw [c_nlt (by omega)]; omega) | (rw [c_ltn (by omega)]; omega) | (rw [c_nle (by omega)]; omega) | (rw [c_len (by omega)]; omega))) (fun _ => ?_)
  refine lv_iload_n hx hb dX5_begin_10 rfl (lv_at hl 2 rfl) ?_
  refine lv_iconst (v := nI (1)) hx hb dX5_begin_11 (by decide) ?_
  refine lv_icmp_lt (tgt := 28) hx hb dX5_begin_12 (by decide) (fun cq => absurd cq (by first | decide | (rw [nI_leI (by omega) (by omega)]; omega) | (rw [nI_ltI (by omega) (by omega)]; omega) | exact nI_pos (by omega) | (rw [nI_eq (by omega) (by omega)]; omega) | (rw [c_eq0 (by omega)]; omega) | (rw [c_lt0]; omega) | (rw [c_nlt (by omega)]; omega) | (rw [c_ltn (by omega)]; omega) | (rw [c_nle (by omega)]; omega) | (rw [c_len (by omega)]; omega))) (fun _ => ?_)
  refine lv_iload_n hx hb dX5_begin_15 rfl (lv_at hl 2 rfl) ?_
  refine lv_bipush (v := nI (20)) hx hb dX5_begin_16 (by decide) ?_
  refine lv_icmp_gt (tgt := 28) hx hb dX5_begin_18 (by decide) (fun cq => absurd cq (by first | decide | (rw [nI_leI (by omega) (by omega)]; omega) | (rw [nI_ltI (by omega) (by omega)]; omega) | exact nI_pos (by omega) | (rw [nI_eq (by omega) (by omega)]; omega) | (rw [c_eq0 (by omega)]; omega) | (rw [c_lt0]; omega) | (rw [c_nlt (by omega)]; omega) | (rw [c_ltn (by omega)]; omega) | (rw [c_nle (by omega)]; omega) | (rw [c_len (by omega)]; omega))) (fun _ => ?_)
  refine lv_aload_n hx hb dX5_begin_21 rfl (lv_at hl 0 rfl) ?_
  refine va_get (D := D) (ci := 5) (v := .int (nI (0))) (C := RX5) (T := TX5) (N := 16) hx hb hts in_X5 hown hC.1 hP 0 rfl rfl 9 (by decide) (hts _ q249) (fun _ h9 => h9) rfl dX5_begin_22 ?_
  refine lv_if_eq (tgt := 30) hx hb dX5_begin_25 (by decide) (fun _ => ?_) (fun cq => absurd (by decide) cq)
  refine lv_aload_n hx hb dX5_begin_30 rfl (lv_at hl 0 rfl) ?_
  refine lv_iload_n hx hb dX5_begin_31 rfl (lv_at hl 1 rfl) ?_
  refine va_put (D := D) (ci := 5) (v := .int (t)) (ty := .int) (C := RX5) (T := TX5) (N := 16) hx hb hts in_X5 tyX5 tyX5_ok nmX5 hown hC.1 hP hD hS 0 rfl rfl 11 (by decide) (hts _ q251) (fun _ h9 => h9) rfl (by decide +kernel) rfl rfl (Nat.le_of_ble_eq_true rfl) dX5_begin_32 (fun H locs hP hD hS => ?_)
  have hP : va_P D mgCl (wMod ct b (real) (kept) (copied) (reg) (written) (want) (left) (told) (pc) (0) (rd) (t) (lm) (shows) (time) (since)) H := hP
  have hD : va_D A (wMod ct b (real) (kept) (copied) (reg) (written) (want) (left) (told) (pc) (0) (rd) (t) (lm) (shows) (time) (since)) := hD
  refine lv_aload_n hx hb dX5_begin_35 rfl (lv_at hl 0 rfl) ?_
  refine lv_iload_n hx hb dX5_begin_36 rfl (lv_at hl 2 rfl) ?_
  refine va_put (D := D) (ci := 5) (v := .int (n)) (ty := .int) (C := RX5) (T := TX5) (N := 16) hx hb hts in_X5 tyX5 tyX5_ok nmX5 hown hC.1 hP hD hS 0 rfl rfl 12 (by decide) (hts _ q252) (fun _ h9 => h9) rfl (by decide +kernel) rfl rfl (Nat.le_of_ble_eq_true rfl) dX5_begin_37 (fun H locs hP hD hS => ?_)
  have hP : va_P D mgCl (wMod ct b (real) (kept) (copied) (reg) (written) (want) (left) (told) (pc) (0) (rd) (t) (n) (shows) (time) (since)) H := hP
  have hD : va_D A (wMod ct b (real) (kept) (copied) (reg) (written) (want) (left) (told) (pc) (0) (rd) (t) (n) (shows) (time) (since)) := hD
  refine lv_aload_n hx hb dX5_begin_40 rfl (lv_at hl 0 rfl) ?_
  refine lv_iconst (v := nI (1)) hx hb dX5_begin_41 (by decide) ?_
  refine va_put (D := D) (ci := 5) (v := .int (nI (1))) (ty := .int) (C := RX5) (T := TX5) (N := 16) hx hb hts in_X5 tyX5 tyX5_ok nmX5 hown hC.1 hP hD hS 0 rfl rfl 9 (by decide) (hts _ q249) (fun _ h9 => h9) rfl (by decide +kernel) rfl rfl (Nat.le_of_ble_eq_true rfl) dX5_begin_42 (fun H locs hP hD hS => ?_)
  have hP : va_P D mgCl (wMod ct b (real) (kept) (copied) (reg) (written) (want) (left) (told) (pc) (1) (rd) (t) (n) (shows) (time) (since)) H := hP
  have hD : va_D A (wMod ct b (real) (kept) (copied) (reg) (written) (want) (left) (told) (pc) (1) (rd) (t) (n) (shows) (time) (since)) := hD
  refine lv_aload_n hx hb dX5_begin_45 rfl (lv_at hl 0 rfl) ?_
  refine lv_iconst (v := nI (1)) hx hb dX5_begin_46 (by decide) ?_
  refine va_put (D := D) (ci := 5) (v := .int (nI (1))) (ty := .int) (C := RX5) (T := TX5) (N := 16) hx hb hts in_X5 tyX5 tyX5_ok nmX5 hown hC.1 hP hD hS 0 rfl rfl 10 (by decide) (hts _ q250) (fun _ h9 => h9) rfl (by decide +kernel) rfl rfl (Nat.le_of_ble_eq_true rfl) dX5_begin_47 (fun H locs hP hD hS => ?_)
  have hP : va_P D mgCl (wMod ct b (real) (kept) (copied) (reg) (written) (want) (left) (told) (pc) (1) (nI (1)) (t) (n) (shows) (time) (since)) H := hP
  have hD : va_D A (wMod ct b (real) (kept) (copied) (reg) (written) (want) (left) (told) (pc) (1) (nI (1)) (t) (n) (shows) (time) (since)) := hD
  refine lv_aload_n hx hb dX5_begin_50 rfl (lv_at hl 0 rfl) ?_
  refine lv_aload_n hx hb dX5_begin_51 rfl (lv_at hl 0 rfl) ?_
  refine va_get (D := D) (ci := 5) (v := .long (lN (time))) (C := RX5) (T := TX5) (N := 16) hx hb hts in_X5 hown hC.1 hP 0 rfl rfl 14 (by decide) (hts _ q254) (fun _ h9 => h9) rfl dX5_begin_52 ?_
  refine va_put (D := D) (ci := 5) (v := .long (lN (time))) (ty := .long) (C := RX5) (T := TX5) (N := 16) hx hb hts in_X5 tyX5 tyX5_ok nmX5 hown hC.1 hP hD hS 0 rfl rfl 15 (by decide) (hts _ q255) (fun _ h9 => h9) rfl (by decide +kernel) rfl rfl (Nat.le_of_ble_eq_true rfl) dX5_begin_55 (fun H locs hP hD hS => ?_)
  have hP : va_P D mgCl (wMod ct b (real) (kept) (copied) (reg) (written) (want) (left) (told) (pc) (1) (nI (1)) (t) (n) (shows) (time) (time)) H := hP
  have hD : va_D A (wMod ct b (real) (kept) (copied) (reg) (written) (want) (left) (told) (pc) (1) (nI (1)) (t) (n) (shows) (time) (time)) := hD
  refine lv_iconst (v := nI (0)) hx hb dX5_begin_58 (by decide) ?_
  refine lv_istore_n (lv' := [(3, .int (nI (0))), (0, .ref (b 0)), (1, .int (t)), (2, .int (n))]) hx hb dX5_begin_59 rfl hl (by decide) rfl (fun ls hl => ?_)
  have e_1 : wMod ct b (real) (kept) (copied) (reg) (written) (want) (left) (told) (pc) (1) (nI (1)) (t) (n) (shows) (time) (time) = wMod ct b (real) (kept) (copied) (reg) (written) (cpB want (fun _ => true) (0)) (left) (told) (pc) (1) (nI (1)) (t) (n) (shows) (time) (time) := by rw [cpB_0]
  rw [e_1] at hP hD
  refine mg_loop (fun i H locs ls => va_P D mgCl (wMod ct b (real) (kept) (copied) (reg) (written) (cpB want (fun _ => true) (i)) (left) (told) (pc) (1) (nI (1)) (t) (n) (shows) (time) (time)) H ∧ va_D A (wMod ct b (real) (kept) (copied) (reg) (written) (cpB want (fun _ => true) (i)) (left) (told) (pc) (1) (nI (1)) (t) (n) (shows) (time) (time)) ∧ va_S A s.heap H locs ∧ lv_has ls 4 [(3, .int (nI (i))), (0, .ref (b 0)), (1, .int (t)), (2, .int (n))]) (8) ?_ 0 (by decide) ⟨hP, hD, hS, lv_sub hl [0, 1, 2, 3] rfl⟩
  intro i H locs ls hi hI ihi
  obtain ⟨hP, hD, hS, hl⟩ := hI
  refine lv_iload_n hx hb dX5_begin_60 rfl (lv_at hl 0 rfl) ?_
  refine lv_bipush (v := nI (8)) hx hb dX5_begin_61 (by decide) ?_
  refine lv_icmp_ge (tgt := 79) hx hb dX5_begin_63 (by decide) (fun cq => ?_) (fun cq => ?_)
  · have hi8 : i = 8 := by rw [nI_leI (by decide) (by omega)] at cq; omega
    subst hi8
    refine lv_iconst (v := nI (1)) hx hb dX5_begin_79 (by decide) ?_
    exact mg_iret (ty := .boolean) hx hb hr hlocks (rfl) hP hD hS (rfl) dX5_begin_80
  · have hi8 : i < 8 := by rw [nI_leI (by decide) (by omega)] at cq; omega
    refine lv_aload_n hx hb dX5_begin_66 rfl (lv_at hl 1 rfl) ?_
    refine va_get (D := D) (ci := 5) (v := .ref (b 6)) (C := RX5) (T := TX5) (N := 16) hx hb hts in_X5 hown hC.1 hP 0 rfl rfl 5 (by decide) (hts _ q245) (fun _ h9 => h9) rfl dX5_begin_67 ?_
    refine lv_iload_n hx hb dX5_begin_70 rfl (lv_at hl 0 rfl) ?_
    refine lv_iconst (v := nI (1)) hx hb dX5_begin_71 (by decide) ?_
    refine mg_zast hx hb hC.1 hP hD hS 6 rfl (i := i) (v := true) hi8 dX5_begin_72 (fun H locs hP hD hS => ?_)
    have hP : va_P D mgCl (wMod ct b (real) (kept) (copied) (reg) (written) (va_up (cpB want (fun _ => true) (i)) (i) (true)) (left) (told) (pc) (1) (nI (1)) (t) (n) (shows) (time) (time)) H := hP
    have hD : va_D A (wMod ct b (real) (kept) (copied) (reg) (written) (va_up (cpB want (fun _ => true) (i)) (i) (true)) (left) (told) (pc) (1) (nI (1)) (t) (n) (shows) (time) (time)) := hD
    rw [cpB_s want (fun _ => true) i] at hP hD
    refine lv_iinc (v := nI (i + 1)) (lv' := [(3, .int (nI (i + 1))), (0, .ref (b 0)), (1, .int (t)), (2, .int (n))]) hx hb dX5_begin_73 hl (k := 0) rfl (by rw [show Int32.ofInt 1 = nI 1 from by decide]; exact nI_add _ _) (by decide) rfl (fun ls hl => ?_)
    refine lv_goto (tgt := 60) hx hb dX5_begin_76 (by decide) ?_
    exact ihi hi8 _ _ _ ⟨hP, hD, hS, lv_sub hl [0, 1, 2, 3] rfl⟩

set_option maxHeartbeats 4000000 in
set_option maxRecDepth 100000 in
/-- begin(t, n), refused -/
theorem d_beginNo (l : Launch) (D : va_G) (ct ad b : Nat → Nat) (real kept copied reg : Nat → Int32) (written : Nat → Nat) (want left : Nat → Bool) (told : Nat → Int32) (pc ph : Nat) (rd th lm : Int32) (shows time since : Nat) (t n : Int32) (hph : ph ≤ 3) (hno : t.toInt < 0 ∨ 8 < t.toInt ∨ n.toInt < 1 ∨ 20 < n.toInt ∨ ph ≠ 0) : MI l yX5_begin cX5_begin 4 (some .boolean) rmZ D ct ad [.ref (b 0), .int t, .int n] (wMod ct b (real) (kept) (copied) (reg) (written) (want) (left) (told) (pc) (ph) (rd) (th) (lm) (shows) (time) (since)) (wMod ct b (real) (kept) (copied) (reg) (written) (want) (left) (told) (pc) (ph) (rd) (th) (lm) (shows) (time) (since)) (nI 0) := by
  refine mg_MI (by decide) (Nat.le_of_ble_eq_true rfl) ?_
  intro p e s m below meth c A hx hb hr hlocks hml hown hnm hts hC hP hD hA hS ls hl
  have hown : s.vm.findClass RX5 = some m.cls := hown
  have hl : lv_has ls 4 [(0, .ref (b 0)), (1, .int (t)), (2, .int (n))] := hl
  refine lv_iload_n hx hb dX5_begin_0 rfl (lv_at hl 1 rfl) ?_
  refine lv_if_lt (tgt := 28) hx hb dX5_begin_1 (by decide) (fun c1 => ?_) (fun c1 => ?_)
  · refine lv_iconst (v := nI (0)) hx hb dX5_begin_28 (by decide) ?_
    exact mg_iret (ty := .boolean) hx hb hr hlocks (rfl) hP hD hS (rfl) dX5_begin_29
  · rw [c_lt0] at c1
    refine lv_iload_n hx hb dX5_begin_4 rfl (lv_at hl 1 rfl) ?_
    refine lv_bipush (v := nI (8)) hx hb dX5_begin_5 (by decide) ?_
    refine lv_icmp_gt (tgt := 28) hx hb dX5_begin_7 (by decide) (fun c7 => ?_) (fun c7 => ?_)
    · refine lv_iconst (v := nI (0)) hx hb dX5_begin_28 (by decide) ?_
      exact mg_iret (ty := .boolean) hx hb hr hlocks (rfl) hP hD hS (rfl) dX5_begin_29
    · rw [c_nlt (by decide)] at c7
      refine lv_iload_n hx hb dX5_begin_10 rfl (lv_at hl 2 rfl) ?_
      refine lv_iconst (v := nI (1)) hx hb dX5_begin_11 (by decide) ?_
      refine lv_icmp_lt (tgt := 28) hx hb dX5_begin_12 (by decide) (fun c12 => ?_) (fun c12 => ?_)
      · refine lv_iconst (v := nI (0)) hx hb dX5_begin_28 (by decide) ?_
        exact mg_iret (ty := .boolean) hx hb hr hlocks (rfl) hP hD hS (rfl) dX5_begin_29
      · rw [c_ltn (by decide)] at c12
        refine lv_iload_n hx hb dX5_begin_15 rfl (lv_at hl 2 rfl) ?_
        refine lv_bipush (v := nI (20)) hx hb dX5_begin_16 (by decide) ?_
        refine lv_icmp_gt (tgt := 28) hx hb dX5_begin_18 (by decide) (fun c18 => ?_) (fun c18 => ?_)
        · refine lv_iconst (v := nI (0)) hx hb dX5_begin_28 (by decide) ?_
          exact mg_iret (ty := .boolean) hx hb hr hlocks (rfl) hP hD hS (rfl) dX5_begin_29
        · rw [c_nlt (by decide)] at c18
          refine lv_aload_n hx hb dX5_begin_21 rfl (lv_at hl 0 rfl) ?_
          refine va_get (D := D) (ci := 5) (v := .int (nI (ph))) (C := RX5) (T := TX5) (N := 16) hx hb hts in_X5 hown hC.1 hP 0 rfl rfl 9 (by decide) (hts _ q249) (fun _ h9 => h9) rfl dX5_begin_22 ?_
          refine lv_if_eq (tgt := 30) hx hb dX5_begin_25 (by decide) (fun cq => absurd cq (by rw [c_eq0 (by omega)]; omega)) (fun _ => ?_)
          refine lv_iconst (v := nI (0)) hx hb dX5_begin_28 (by decide) ?_
          exact mg_iret (ty := .boolean) hx hb hr hlocks (rfl) hP hD hS (rfl) dX5_begin_29

set_option maxHeartbeats 4000000 in
set_option maxRecDepth 100000 in
/-- dirty(x): no page, or at home -/
theorem d_dirty0 (l : Launch) (D : va_G) (ct ad b : Nat → Nat) (real kept copied reg : Nat → Int32) (written : Nat → Nat) (want left : Nat → Bool) (told : Nat → Int32) (pc ph : Nat) (rd th lm : Int32) (shows time since : Nat) (x : Int32) (hph : ph ≤ 3) (hno : x.toInt < 0 ∨ 8 ≤ x.toInt ∨ ph = 0) : MI l yX5_dirty cX5_dirty 2 (some .boolean) rmZ D ct ad [.ref (b 0), .int x] (wMod ct b (real) (kept) (copied) (reg) (written) (want) (left) (told) (pc) (ph) (rd) (th) (lm) (shows) (time) (since)) (wMod ct b (real) (kept) (copied) (reg) (written) (want) (left) (told) (pc) (ph) (rd) (th) (lm) (shows) (time) (since)) (bi false) := by
  refine mg_MI (by decide) (Nat.le_of_ble_eq_true rfl) ?_
  intro p e s m below meth c A hx hb hr hlocks hml hown hnm hts hC hP hD hA hS ls hl
  have hown : s.vm.findClass RX5 = some m.cls := hown
  have hl : lv_has ls 2 [(0, .ref (b 0)), (1, .int (x))] := hl
  refine lv_iload_n hx hb dX5_dirty_0 rfl (lv_at hl 1 rfl) ?_
  refine lv_if_lt (tgt := 17) hx hb dX5_dirty_1 (by decide) (fun c1 => ?_) (fun c1 => ?_)
  · refine lv_iconst (v := nI (0)) hx hb dX5_dirty_17 (by decide) ?_
    exact mg_iret (ty := .boolean) hx hb hr hlocks (rfl) hP hD hS (rfl) dX5_dirty_18
  · rw [c_lt0] at c1
    refine lv_iload_n hx hb dX5_dirty_4 rfl (lv_at hl 1 rfl) ?_
    refine lv_bipush (v := nI (7)) hx hb dX5_dirty_5 (by decide) ?_
    refine lv_icmp_gt (tgt := 17) hx hb dX5_dirty_7 (by decide) (fun c2 => ?_) (fun c2 => ?_)
    · refine lv_iconst (v := nI (0)) hx hb dX5_dirty_17 (by decide) ?_
      exact mg_iret (ty := .boolean) hx hb hr hlocks (rfl) hP hD hS (rfl) dX5_dirty_18
    · rw [c_nlt (by decide)] at c2
      refine lv_aload_n hx hb dX5_dirty_10 rfl (lv_at hl 0 rfl) ?_
      refine va_get (D := D) (ci := 5) (v := .int (nI (ph))) (C := RX5) (T := TX5) (N := 16) hx hb hts in_X5 hown hC.1 hP 0 rfl rfl 9 (by decide) (hts _ q249) (fun _ h9 => h9) rfl dX5_dirty_11 ?_
      refine lv_if_ne (tgt := 19) hx hb dX5_dirty_14 (by decide) (fun cq => absurd (by rw [c_eq0 (by omega)]; omega) cq) (fun _ => ?_)
      refine lv_iconst (v := nI (0)) hx hb dX5_dirty_17 (by decide) ?_
      exact mg_iret (ty := .boolean) hx hb hr hlocks (rfl) hP hD hS (rfl) dX5_dirty_18

set_option maxHeartbeats 4000000 in
set_option maxRecDepth 100000 in
/-- dirty(q) while copying -/
theorem d_dirty1 (l : Launch) (D : va_G) (ct ad b : Nat → Nat) (real kept copied reg : Nat → Int32) (written : Nat → Nat) (want left : Nat → Bool) (told : Nat → Int32) (pc : Nat) (rd th lm : Int32) (shows time since : Nat) (q : Nat) (hq : q < 8) (hw : written q < 2 ^ 31) (hs : since < 2 ^ 31) : MI l yX5_dirty cX5_dirty 2 (some .boolean) rmZ D ct ad [.ref (b 0), .int (nI q)] (wMod ct b (real) (kept) (copied) (reg) (written) (want) (left) (told) (pc) (1) (rd) (th) (lm) (shows) (time) (since)) (wMod ct b (real) (kept) (copied) (reg) (written) (want) (left) (told) (pc) (1) (rd) (th) (lm) (shows) (time) (since)) (bi (decide (since < written q))) := by
  refine mg_MI (by decide) (Nat.le_of_ble_eq_true rfl) ?_
  intro p e s m below meth c A hx hb hr hlocks hml hown hnm hts hC hP hD hA hS ls hl
  have hown : s.vm.findClass RX5 = some m.cls := hown
  have hl : lv_has ls 2 [(0, .ref (b 0)), (1, .int (nI (q)))] := hl
  refine lv_iload_n hx hb dX5_dirty_0 rfl (lv_at hl 1 rfl) ?_
  refine lv_if_lt (tgt := 17) hx hb dX5_dirty_1 (by decide) (fun cq => absurd cq (nI_pos (by omega))) (fun _ => ?_)
  refine lv_iload_n hx hb dX5_dirty_4 rfl (lv_at hl 1 rfl) ?_
  refine lv_bipush (v := nI (7)) hx hb dX5_dirty_5 (by decide) ?_
  refine lv_icmp_gt (tgt := 17) hx hb dX5_dirty_7 (by decide) (fun cq => absurd cq (by first | decide | (rw [nI_leI (by omega) (by omega)]; omega) | (rw [nI_ltI (by omega) (by omega)]; omega) | exact nI_pos (by omega) | (rw [nI_eq (by omega) (by omega)]; omega) | (rw [c_eq0 (by omega)]; omega) | (rw [c_lt0]; omega) | (rw [c_nlt (by omega)]; omega) | (rw [c_ltn (by omega)]; omega) | (rw [c_nle (by omega)]; omega) | (rw [c_len (by omega)]; omega))) (fun _ => ?_)
  refine lv_aload_n hx hb dX5_dirty_10 rfl (lv_at hl 0 rfl) ?_
  refine va_get (D := D) (ci := 5) (v := .int (nI (1))) (C := RX5) (T := TX5) (N := 16) hx hb hts in_X5 hown hC.1 hP 0 rfl rfl 9 (by decide) (hts _ q249) (fun _ h9 => h9) rfl dX5_dirty_11 ?_
  refine lv_if_ne (tgt := 19) hx hb dX5_dirty_14 (by decide) (fun _ => ?_) (fun cq => absurd cq (by decide))
  refine lv_aload_n hx hb dX5_dirty_19 rfl (lv_at hl 0 rfl) ?_
  refine va_get (D := D) (ci := 5) (v := .int (nI (1))) (C := RX5) (T := TX5) (N := 16) hx hb hts in_X5 hown hC.1 hP 0 rfl rfl 9 (by decide) (hts _ q249) (fun _ h9 => h9) rfl dX5_dirty_20 ?_
  refine lv_iconst (v := nI (1)) hx hb dX5_dirty_23 (by decide) ?_
  refine lv_icmp_ne (tgt := 49) hx hb dX5_dirty_24 (by decide) (fun cq => absurd (by decide) cq) (fun _ => ?_)
  refine lv_aload_n hx hb dX5_dirty_27 rfl (lv_at hl 0 rfl) ?_
  refine va_get (D := D) (ci := 5) (v := .ref (b 5)) (C := RX5) (T := TX5) (N := 16) hx hb hts in_X5 hown hC.1 hP 0 rfl rfl 4 (by decide) (hts _ q244) (fun _ h9 => h9) rfl dX5_dirty_28 ?_
  refine lv_iload_n hx hb dX5_dirty_31 rfl (lv_at hl 1 rfl) ?_
  refine mg_lald hx hb hC.1 hP 5 rfl (i := q) hq dX5_dirty_32 ?_
  refine lv_aload_n hx hb dX5_dirty_33 rfl (lv_at hl 0 rfl) ?_
  refine va_get (D := D) (ci := 5) (v := .long (lN (since))) (C := RX5) (T := TX5) (N := 16) hx hb hts in_X5 hown hC.1 hP 0 rfl rfl 15 (by decide) (hts _ q255) (fun _ h9 => h9) rfl dX5_dirty_34 ?_
  refine W.lcmp hx hb dX5_dirty_37 ?_
  refine lv_if_le (tgt := 45) hx hb dX5_dirty_38 (by decide) (fun cq => ?_) (fun cq => ?_)
  · rw [c_lcmp (by omega) (by omega)] at cq
    refine lv_iconst (v := nI (0)) hx hb dX5_dirty_45 (by decide) ?_
    refine lv_goto (tgt := 55) hx hb dX5_dirty_46 (by decide) ?_
    exact mg_iret (ty := .boolean) hx hb hr hlocks (rfl) hP hD hS (by rw [decide_eq_false cq]; rfl) dX5_dirty_55
  · rw [c_lcmp (by omega) (by omega), Decidable.not_not] at cq
    refine lv_iconst (v := nI (1)) hx hb dX5_dirty_41 (by decide) ?_
    refine lv_goto (tgt := 55) hx hb dX5_dirty_42 (by decide) ?_
    exact mg_iret (ty := .boolean) hx hb hr hlocks (rfl) hP hD hS (by rw [decide_eq_true cq]; rfl) dX5_dirty_55

set_option maxHeartbeats 4000000 in
set_option maxRecDepth 100000 in
/-- dirty(q) when stopped or moved -/
theorem d_dirty2 (l : Launch) (D : va_G) (ct ad b : Nat → Nat) (real kept copied reg : Nat → Int32) (written : Nat → Nat) (want left : Nat → Bool) (told : Nat → Int32) (pc ph : Nat) (rd th lm : Int32) (shows time since : Nat) (q : Nat) (hq : q < 8) (hph : 2 ≤ ph ∧ ph ≤ 3) : MI l yX5_dirty cX5_dirty 2 (some .boolean) rmZ D ct ad [.ref (b 0), .int (nI q)] (wMod ct b (real) (kept) (copied) (reg) (written) (want) (left) (told) (pc) (ph) (rd) (th) (lm) (shows) (time) (since)) (wMod ct b (real) (kept) (copied) (reg) (written) (want) (left) (told) (pc) (ph) (rd) (th) (lm) (shows) (time) (since)) (bi (left q)) := by
  refine mg_MI (by decide) (Nat.le_of_ble_eq_true rfl) ?_
  intro p e s m below meth c A hx hb hr hlocks hml hown hnm hts hC hP hD hA hS ls hl
  have hown : s.vm.findClass RX5 = some m.cls := hown
  have hl : lv_has ls 2 [(0, .ref (b 0)), (1, .int (nI (q)))] := hl
  refine lv_iload_n hx hb dX5_dirty_0 rfl (lv_at hl 1 rfl) ?_
  refine lv_if_lt (tgt := 17) hx hb dX5_dirty_1 (by decide) (fun cq => absurd cq (nI_pos (by omega))) (fun _ => ?_)
  refine lv_iload_n hx hb dX5_dirty_4 rfl (lv_at hl 1 rfl) ?_
  refine lv_bipush (v := nI (7)) hx hb dX5_dirty_5 (by decide) ?_
  refine lv_icmp_gt (tgt := 17) hx hb dX5_dirty_7 (by decide) (fun cq => absurd cq (by first | decide | (rw [nI_leI (by omega) (by omega)]; omega) | (rw [nI_ltI (by omega) (by omega)]; omega) | exact nI_pos (by omega) | (rw [nI_eq (by omega) (by omega)]; omega) | (rw [c_eq0 (by omega)]; omega) | (rw [c_lt0]; omega) | (rw [c_nlt (by omega)]; omega) | (rw [c_ltn (by omega)]; omega) | (rw [c_nle (by omega)]; omega) | (rw [c_len (by omega)]; omega))) (fun _ => ?_)
  refine lv_aload_n hx hb dX5_dirty_10 rfl (lv_at hl 0 rfl) ?_
  refine va_get (D := D) (ci := 5) (v := .int (nI (ph))) (C := RX5) (T := TX5) (N := 16) hx hb hts in_X5 hown hC.1 hP 0 rfl rfl 9 (by decide) (hts _ q249) (fun _ h9 => h9) rfl dX5_dirty_11 ?_
  refine lv_if_ne (tgt := 19) hx hb dX5_dirty_14 (by decide) (fun _ => ?_) (fun cq => absurd cq (by rw [c_eq0 (by omega)]; omega))
  refine lv_aload_n hx hb dX5_dirty_19 rfl (lv_at hl 0 rfl) ?_
  refine va_get (D := D) (ci := 5) (v := .int (nI (ph))) (C := RX5) (T := TX5) (N := 16) hx hb hts in_X5 hown hC.1 hP 0 rfl rfl 9 (by decide) (hts _ q249) (fun _ h9 => h9) rfl dX5_dirty_20 ?_
  refine lv_iconst (v := nI (1)) hx hb dX5_dirty_23 (by decide) ?_
  refine lv_icmp_ne (tgt := 49) hx hb dX5_dirty_24 (by decide) (fun _ => ?_) (fun cq => absurd cq (by rw [nI_eq (by omega) (by omega)]; omega))
  refine lv_aload_n hx hb dX5_dirty_49 rfl (lv_at hl 0 rfl) ?_
  refine va_get (D := D) (ci := 5) (v := .ref (b 7)) (C := RX5) (T := TX5) (N := 16) hx hb hts in_X5 hown hC.1 hP 0 rfl rfl 6 (by decide) (hts _ q246) (fun _ h9 => h9) rfl dX5_dirty_50 ?_
  refine lv_iload_n hx hb dX5_dirty_53 rfl (lv_at hl 1 rfl) ?_
  refine mg_zald hx hb hC.1 hP 7 rfl (i := q) hq dX5_dirty_54 ?_
  exact mg_iret (ty := .boolean) hx hb hr hlocks (bi_narrow _) hP hD hS (rfl) dX5_dirty_55

set_option maxHeartbeats 4000000 in
set_option maxRecDepth 100000 in
/-- waits(q) -/
theorem d_waits (l : Launch) (D : va_G) (ct ad b : Nat → Nat) (real kept copied reg : Nat → Int32) (written : Nat → Nat) (want left : Nat → Bool) (told : Nat → Int32) (pc ph : Nat) (rd th lm : Int32) (shows time since : Nat) (q : Nat) (hq : q < 8) : MI l yX5_waits cX5_waits 2 (some .boolean) rmZ D ct ad [.ref (b 0), .int (nI q)] (wMod ct b (real) (kept) (copied) (reg) (written) (want) (left) (told) (pc) (ph) (rd) (th) (lm) (shows) (time) (since)) (wMod ct b (real) (kept) (copied) (reg) (written) (want) (left) (told) (pc) (ph) (rd) (th) (lm) (shows) (time) (since)) (bi (want q)) := by
  refine mg_MI (by decide) (Nat.le_of_ble_eq_true rfl) ?_
  intro p e s m below meth c A hx hb hr hlocks hml hown hnm hts hC hP hD hA hS ls hl
  have hown : s.vm.findClass RX5 = some m.cls := hown
  have hl : lv_has ls 2 [(0, .ref (b 0)), (1, .int (nI (q)))] := hl
  refine lv_iload_n hx hb dX5_waits_0 rfl (lv_at hl 1 rfl) ?_
  refine lv_if_lt (tgt := 23) hx hb dX5_waits_1 (by decide) (fun cq => absurd cq (nI_pos (by omega))) (fun _ => ?_)
  refine lv_iload_n hx hb dX5_waits_4 rfl (lv_at hl 1 rfl) ?_
  refine lv_bipush (v := nI (7)) hx hb dX5_waits_5 (by decide) ?_
  refine lv_icmp_gt (tgt := 23) hx hb dX5_waits_7 (by decide) (fun cq => absurd cq (by first | decide | (rw [nI_leI (by omega) (by omega)]; omega) | (rw [nI_ltI (by omega) (by omega)]; omega) | exact nI_pos (by omega) | (rw [nI_eq (by omega) (by omega)]; omega) | (rw [c_eq0 (by omega)]; omega) | (rw [c_lt0]; omega) | (rw [c_nlt (by omega)]; omega) | (rw [c_ltn (by omega)]; omega) | (rw [c_nle (by omega)]; omega) | (rw [c_len (by omega)]; omega))) (fun _ => ?_)
  refine lv_aload_n hx hb dX5_waits_10 rfl (lv_at hl 0 rfl) ?_
  refine va_get (D := D) (ci := 5) (v := .ref (b 6)) (C := RX5) (T := TX5) (N := 16) hx hb hts in_X5 hown hC.1 hP 0 rfl rfl 5 (by decide) (hts _ q245) (fun _ h9 => h9) rfl dX5_waits_11 ?_
  refine lv_iload_n hx hb dX5_waits_14 rfl (lv_at hl 1 rfl) ?_
  refine mg_zald hx hb hC.1 hP 6 rfl (i := q) hq dX5_waits_15 ?_
  refine lv_if_eq (tgt := 23) hx hb dX5_waits_16 (by decide) (fun cq => ?_) (fun cq => ?_)
  · refine lv_iconst (v := nI (0)) hx hb dX5_waits_23 (by decide) ?_
    exact mg_iret (ty := .boolean) hx hb hr hlocks (rfl) hP hD hS (by rw [bi_eq0 cq]; rfl) dX5_waits_24
  · refine lv_iconst (v := nI (1)) hx hb dX5_waits_19 (by decide) ?_
    refine lv_goto (tgt := 24) hx hb dX5_waits_20 (by decide) ?_
    exact mg_iret (ty := .boolean) hx hb hr hlocks (rfl) hP hD hS (by rw [bi_ne cq]; rfl) dX5_waits_24

set_option maxHeartbeats 4000000 in
set_option maxRecDepth 100000 in
/-- waits(x): no page -/
theorem d_waitsNo (l : Launch) (D : va_G) (ct ad b : Nat → Nat) (real kept copied reg : Nat → Int32) (written : Nat → Nat) (want left : Nat → Bool) (told : Nat → Int32) (pc ph : Nat) (rd th lm : Int32) (shows time since : Nat) (x : Int32) (hno : x.toInt < 0 ∨ 8 ≤ x.toInt) : MI l yX5_waits cX5_waits 2 (some .boolean) rmZ D ct ad [.ref (b 0), .int x] (wMod ct b (real) (kept) (copied) (reg) (written) (want) (left) (told) (pc) (ph) (rd) (th) (lm) (shows) (time) (since)) (wMod ct b (real) (kept) (copied) (reg) (written) (want) (left) (told) (pc) (ph) (rd) (th) (lm) (shows) (time) (since)) (bi false) := by
  refine mg_MI (by decide) (Nat.le_of_ble_eq_true rfl) ?_
  intro p e s m below meth c A hx hb hr hlocks hml hown hnm hts hC hP hD hA hS ls hl
  have hown : s.vm.findClass RX5 = some m.cls := hown
  have hl : lv_has ls 2 [(0, .ref (b 0)), (1, .int (x))] := hl
  refine lv_iload_n hx hb dX5_waits_0 rfl (lv_at hl 1 rfl) ?_
  refine lv_if_lt (tgt := 23) hx hb dX5_waits_1 (by decide) (fun c1 => ?_) (fun c1 => ?_)
  · refine lv_iconst (v := nI (0)) hx hb dX5_waits_23 (by decide) ?_
    exact mg_iret (ty := .boolean) hx hb hr hlocks (rfl) hP hD hS (rfl) dX5_waits_24
  · rw [c_lt0] at c1
    refine lv_iload_n hx hb dX5_waits_4 rfl (lv_at hl 1 rfl) ?_
    refine lv_bipush (v := nI (7)) hx hb dX5_waits_5 (by decide) ?_
    refine lv_icmp_gt (tgt := 23) hx hb dX5_waits_7 (by decide) (fun _ => ?_) (fun cq => absurd (by first | decide | (rw [nI_leI (by omega) (by omega)]; omega) | (rw [nI_ltI (by omega) (by omega)]; omega) | exact nI_pos (by omega) | (rw [nI_eq (by omega) (by omega)]; omega) | (rw [c_eq0 (by omega)]; omega) | (rw [c_lt0]; omega) | (rw [c_nlt (by omega)]; omega) | (rw [c_ltn (by omega)]; omega) | (rw [c_nle (by omega)]; omega) | (rw [c_len (by omega)]; omega)) cq)
    refine lv_iconst (v := nI (0)) hx hb dX5_waits_23 (by decide) ?_
    exact mg_iret (ty := .boolean) hx hb hr hlocks (rfl) hP hD hS (rfl) dX5_waits_24

set_option maxHeartbeats 4000000 in
set_option maxRecDepth 100000 in
/-- source(k), moved -/
theorem d_source3 (l : Launch) (D : va_G) (ct ad b : Nat → Nat) (real kept copied reg : Nat → Int32) (written : Nat → Nat) (want left : Nat → Bool) (told : Nat → Int32) (pc : Nat) (rd th lm : Int32) (shows time since : Nat) (k : Nat) (hk : k < 64) : MI l yX5_source cX5_source 2 (some .int) rmZ D ct ad [.ref (b 0), .int (nI k)] (wMod ct b (real) (kept) (copied) (reg) (written) (want) (left) (told) (pc) (3) (rd) (th) (lm) (shows) (time) (since)) (wMod ct b (real) (kept) (copied) (reg) (written) (want) (left) (told) (pc) (3) (rd) (th) (lm) (shows) (time) (since)) (kept k) := by
  refine mg_MI (by decide) (Nat.le_of_ble_eq_true rfl) ?_
  intro p e s m below meth c A hx hb hr hlocks hml hown hnm hts hC hP hD hA hS ls hl
  have hown : s.vm.findClass RX5 = some m.cls := hown
  have hl : lv_has ls 2 [(0, .ref (b 0)), (1, .int (nI (k)))] := hl
  refine lv_iload_n hx hb dX5_source_0 rfl (lv_at hl 1 rfl) ?_
  refine lv_if_lt (tgt := 10) hx hb dX5_source_1 (by decide) (fun cq => absurd cq (nI_pos (by omega))) (fun _ => ?_)
  refine lv_iload_n hx hb dX5_source_4 rfl (lv_at hl 1 rfl) ?_
  refine lv_bipush (v := nI (63)) hx hb dX5_source_5 (by decide) ?_
  refine lv_icmp_le (tgt := 12) hx hb dX5_source_7 (by decide) (fun _ => ?_) (fun cq => absurd (by first | decide | (rw [nI_leI (by omega) (by omega)]; omega) | (rw [nI_ltI (by omega) (by omega)]; omega) | exact nI_pos (by omega) | (rw [nI_eq (by omega) (by omega)]; omega) | (rw [c_eq0 (by omega)]; omega) | (rw [c_lt0]; omega) | (rw [c_nlt (by omega)]; omega) | (rw [c_ltn (by omega)]; omega) | (rw [c_nle (by omega)]; omega) | (rw [c_len (by omega)]; omega)) cq)
  refine lv_aload_n hx hb dX5_source_12 rfl (lv_at hl 0 rfl) ?_
  refine va_get (D := D) (ci := 5) (v := .int (nI (3))) (C := RX5) (T := TX5) (N := 16) hx hb hts in_X5 hown hC.1 hP 0 rfl rfl 9 (by decide) (hts _ q249) (fun _ h9 => h9) rfl dX5_source_13 ?_
  refine lv_iconst (v := nI (3)) hx hb dX5_source_16 (by decide) ?_
  refine lv_icmp_ne (tgt := 29) hx hb dX5_source_17 (by decide) (fun cq => absurd (by decide) cq) (fun _ => ?_)
  refine lv_aload_n hx hb dX5_source_20 rfl (lv_at hl 0 rfl) ?_
  refine va_get (D := D) (ci := 5) (v := .ref (b 2)) (C := RX5) (T := TX5) (N := 16) hx hb hts in_X5 hown hC.1 hP 0 rfl rfl 1 (by decide) (hts _ q241) (fun _ h9 => h9) rfl dX5_source_21 ?_
  refine lv_iload_n hx hb dX5_source_24 rfl (lv_at hl 1 rfl) ?_
  refine mg_iald hx hb hC.1 hP 2 rfl (i := k) hk dX5_source_25 ?_
  refine lv_goto (tgt := 35) hx hb dX5_source_26 (by decide) ?_
  exact mg_iret (ty := .int) hx hb hr hlocks (rfl) hP hD hS (rfl) dX5_source_35

set_option maxHeartbeats 4000000 in
set_option maxRecDepth 100000 in
/-- source(k), not moved -/
theorem d_source (l : Launch) (D : va_G) (ct ad b : Nat → Nat) (real kept copied reg : Nat → Int32) (written : Nat → Nat) (want left : Nat → Bool) (told : Nat → Int32) (pc ph : Nat) (rd th lm : Int32) (shows time since : Nat) (k : Nat) (hk : k < 64) (hph : ph < 3) : MI l yX5_source cX5_source 2 (some .int) rmZ D ct ad [.ref (b 0), .int (nI k)] (wMod ct b (real) (kept) (copied) (reg) (written) (want) (left) (told) (pc) (ph) (rd) (th) (lm) (shows) (time) (since)) (wMod ct b (real) (kept) (copied) (reg) (written) (want) (left) (told) (pc) (ph) (rd) (th) (lm) (shows) (time) (since)) (real k) := by
  refine mg_MI (by decide) (Nat.le_of_ble_eq_true rfl) ?_
  intro p e s m below meth c A hx hb hr hlocks hml hown hnm hts hC hP hD hA hS ls hl
  have hown : s.vm.findClass RX5 = some m.cls := hown
  have hl : lv_has ls 2 [(0, .ref (b 0)), (1, .int (nI (k)))] := hl
  refine lv_iload_n hx hb dX5_source_0 rfl (lv_at hl 1 rfl) ?_
  refine lv_if_lt (tgt := 10) hx hb dX5_source_1 (by decide) (fun cq => absurd cq (nI_pos (by omega))) (fun _ => ?_)
  refine lv_iload_n hx hb dX5_source_4 rfl (lv_at hl 1 rfl) ?_
  refine lv_bipush (v := nI (63)) hx hb dX5_source_5 (by decide) ?_
  refine lv_icmp_le (tgt := 12) hx hb dX5_source_7 (by decide) (fun _ => ?_) (fun cq => absurd (by first | decide | (rw [nI_leI (by omega) (by omega)]; omega) | (rw [nI_ltI (by omega) (by omega)]; omega) | exact nI_pos (by omega) | (rw [nI_eq (by omega) (by omega)]; omega) | (rw [c_eq0 (by omega)]; omega) | (rw [c_lt0]; omega) | (rw [c_nlt (by omega)]; omega) | (rw [c_ltn (by omega)]; omega) | (rw [c_nle (by omega)]; omega) | (rw [c_len (by omega)]; omega)) cq)
  refine lv_aload_n hx hb dX5_source_12 rfl (lv_at hl 0 rfl) ?_
  refine va_get (D := D) (ci := 5) (v := .int (nI (ph))) (C := RX5) (T := TX5) (N := 16) hx hb hts in_X5 hown hC.1 hP 0 rfl rfl 9 (by decide) (hts _ q249) (fun _ h9 => h9) rfl dX5_source_13 ?_
  refine lv_iconst (v := nI (3)) hx hb dX5_source_16 (by decide) ?_
  refine lv_icmp_ne (tgt := 29) hx hb dX5_source_17 (by decide) (fun _ => ?_) (fun cq => absurd cq (by rw [nI_eq (by omega) (by omega)]; omega))
  refine lv_aload_n hx hb dX5_source_29 rfl (lv_at hl 0 rfl) ?_
  refine va_get (D := D) (ci := 5) (v := .ref (b 1)) (C := RX5) (T := TX5) (N := 16) hx hb hts in_X5 hown hC.1 hP 0 rfl rfl 0 (by decide) (hts _ q240) (fun _ h9 => h9) rfl dX5_source_30 ?_
  refine lv_iload_n hx hb dX5_source_33 rfl (lv_at hl 1 rfl) ?_
  refine mg_iald hx hb hC.1 hP 1 rfl (i := k) hk dX5_source_34 ?_
  exact mg_iret (ty := .int) hx hb hr hlocks (rfl) hP hD hS (rfl) dX5_source_35

set_option maxHeartbeats 4000000 in
set_option maxRecDepth 100000 in
/-- source(x): no address -/
theorem d_sourceNo (l : Launch) (D : va_G) (ct ad b : Nat → Nat) (real kept copied reg : Nat → Int32) (written : Nat → Nat) (want left : Nat → Bool) (told : Nat → Int32) (pc ph : Nat) (rd th lm : Int32) (shows time since : Nat) (x : Int32) (hno : x.toInt < 0 ∨ 64 ≤ x.toInt) : MI l yX5_source cX5_source 2 (some .int) rmZ D ct ad [.ref (b 0), .int x] (wMod ct b (real) (kept) (copied) (reg) (written) (want) (left) (told) (pc) (ph) (rd) (th) (lm) (shows) (time) (since)) (wMod ct b (real) (kept) (copied) (reg) (written) (want) (left) (told) (pc) (ph) (rd) (th) (lm) (shows) (time) (since)) (nI 0) := by
  refine mg_MI (by decide) (Nat.le_of_ble_eq_true rfl) ?_
  intro p e s m below meth c A hx hb hr hlocks hml hown hnm hts hC hP hD hA hS ls hl
  have hown : s.vm.findClass RX5 = some m.cls := hown
  have hl : lv_has ls 2 [(0, .ref (b 0)), (1, .int (x))] := hl
  refine lv_iload_n hx hb dX5_source_0 rfl (lv_at hl 1 rfl) ?_
  refine lv_if_lt (tgt := 10) hx hb dX5_source_1 (by decide) (fun c1 => ?_) (fun c1 => ?_)
  · refine lv_iconst (v := nI (0)) hx hb dX5_source_10 (by decide) ?_
    exact mg_iret (ty := .int) hx hb hr hlocks (rfl) hP hD hS (rfl) dX5_source_11
  · rw [c_lt0] at c1
    refine lv_iload_n hx hb dX5_source_4 rfl (lv_at hl 1 rfl) ?_
    refine lv_bipush (v := nI (63)) hx hb dX5_source_5 (by decide) ?_
    refine lv_icmp_le (tgt := 12) hx hb dX5_source_7 (by decide) (fun cq => absurd cq (by first | decide | (rw [nI_leI (by omega) (by omega)]; omega) | (rw [nI_ltI (by omega) (by omega)]; omega) | exact nI_pos (by omega) | (rw [nI_eq (by omega) (by omega)]; omega) | (rw [c_eq0 (by omega)]; omega) | (rw [c_lt0]; omega) | (rw [c_nlt (by omega)]; omega) | (rw [c_ltn (by omega)]; omega) | (rw [c_nle (by omega)]; omega) | (rw [c_len (by omega)]; omega))) (fun _ => ?_)
    refine lv_iconst (v := nI (0)) hx hb dX5_source_10 (by decide) ?_
    exact mg_iret (ty := .int) hx hb hr hlocks (rfl) hP hD hS (rfl) dX5_source_11

set_option maxHeartbeats 4000000 in
set_option maxRecDepth 100000 in
/-- destination(k), moved -/
theorem d_destination3 (l : Launch) (D : va_G) (ct ad b : Nat → Nat) (real kept copied reg : Nat → Int32) (written : Nat → Nat) (want left : Nat → Bool) (told : Nat → Int32) (pc : Nat) (rd th lm : Int32) (shows time since : Nat) (k : Nat) (hk : k < 64) : MI l yX5_destination cX5_destination 2 (some .int) rmZ D ct ad [.ref (b 0), .int (nI k)] (wMod ct b (real) (kept) (copied) (reg) (written) (want) (left) (told) (pc) (3) (rd) (th) (lm) (shows) (time) (since)) (wMod ct b (real) (kept) (copied) (reg) (written) (want) (left) (told) (pc) (3) (rd) (th) (lm) (shows) (time) (since)) (real k) := by
  refine mg_MI (by decide) (Nat.le_of_ble_eq_true rfl) ?_
  intro p e s m below meth c A hx hb hr hlocks hml hown hnm hts hC hP hD hA hS ls hl
  have hown : s.vm.findClass RX5 = some m.cls := hown
  have hl : lv_has ls 2 [(0, .ref (b 0)), (1, .int (nI (k)))] := hl
  refine lv_iload_n hx hb dX5_destination_0 rfl (lv_at hl 1 rfl) ?_
  refine lv_if_lt (tgt := 10) hx hb dX5_destination_1 (by decide) (fun cq => absurd cq (nI_pos (by omega))) (fun _ => ?_)
  refine lv_iload_n hx hb dX5_destination_4 rfl (lv_at hl 1 rfl) ?_
  refine lv_bipush (v := nI (63)) hx hb dX5_destination_5 (by decide) ?_
  refine lv_icmp_le (tgt := 12) hx hb dX5_destination_7 (by decide) (fun _ => ?_) (fun cq => absurd (by first | decide | (rw [nI_leI (by omega) (by omega)]; omega) | (rw [nI_ltI (by omega) (by omega)]; omega) | exact nI_pos (by omega) | (rw [nI_eq (by omega) (by omega)]; omega) | (rw [c_eq0 (by omega)]; omega) | (rw [c_lt0]; omega) | (rw [c_nlt (by omega)]; omega) | (rw [c_ltn (by omega)]; omega) | (rw [c_nle (by omega)]; omega) | (rw [c_len (by omega)]; omega)) cq)
  refine lv_aload_n hx hb dX5_destination_12 rfl (lv_at hl 0 rfl) ?_
  refine va_get (D := D) (ci := 5) (v := .int (nI (3))) (C := RX5) (T := TX5) (N := 16) hx hb hts in_X5 hown hC.1 hP 0 rfl rfl 9 (by decide) (hts _ q249) (fun _ h9 => h9) rfl dX5_destination_13 ?_
  refine lv_iconst (v := nI (3)) hx hb dX5_destination_16 (by decide) ?_
  refine lv_icmp_ne (tgt := 29) hx hb dX5_destination_17 (by decide) (fun cq => absurd (by decide) cq) (fun _ => ?_)
  refine lv_aload_n hx hb dX5_destination_20 rfl (lv_at hl 0 rfl) ?_
  refine va_get (D := D) (ci := 5) (v := .ref (b 1)) (C := RX5) (T := TX5) (N := 16) hx hb hts in_X5 hown hC.1 hP 0 rfl rfl 0 (by decide) (hts _ q240) (fun _ h9 => h9) rfl dX5_destination_21 ?_
  refine lv_iload_n hx hb dX5_destination_24 rfl (lv_at hl 1 rfl) ?_
  refine mg_iald hx hb hC.1 hP 1 rfl (i := k) hk dX5_destination_25 ?_
  refine lv_goto (tgt := 35) hx hb dX5_destination_26 (by decide) ?_
  exact mg_iret (ty := .int) hx hb hr hlocks (rfl) hP hD hS (rfl) dX5_destination_35

set_option maxHeartbeats 4000000 in
set_option maxRecDepth 100000 in
/-- destination(k), not moved -/
theorem d_destination (l : Launch) (D : va_G) (ct ad b : Nat → Nat) (real kept copied reg : Nat → Int32) (written : Nat → Nat) (want left : Nat → Bool) (told : Nat → Int32) (pc ph : Nat) (rd th lm : Int32) (shows time since : Nat) (k : Nat) (hk : k < 64) (hph : ph < 3) : MI l yX5_destination cX5_destination 2 (some .int) rmZ D ct ad [.ref (b 0), .int (nI k)] (wMod ct b (real) (kept) (copied) (reg) (written) (want) (left) (told) (pc) (ph) (rd) (th) (lm) (shows) (time) (since)) (wMod ct b (real) (kept) (copied) (reg) (written) (want) (left) (told) (pc) (ph) (rd) (th) (lm) (shows) (time) (since)) (copied k) := by
  refine mg_MI (by decide) (Nat.le_of_ble_eq_true rfl) ?_
  intro p e s m below meth c A hx hb hr hlocks hml hown hnm hts hC hP hD hA hS ls hl
  have hown : s.vm.findClass RX5 = some m.cls := hown
  have hl : lv_has ls 2 [(0, .ref (b 0)), (1, .int (nI (k)))] := hl
  refine lv_iload_n hx hb dX5_destination_0 rfl (lv_at hl 1 rfl) ?_
  refine lv_if_lt (tgt := 10) hx hb dX5_destination_1 (by decide) (fun cq => absurd cq (nI_pos (by omega))) (fun _ => ?_)
  refine lv_iload_n hx hb dX5_destination_4 rfl (lv_at hl 1 rfl) ?_
  refine lv_bipush (v := nI (63)) hx hb dX5_destination_5 (by decide) ?_
  refine lv_icmp_le (tgt := 12) hx hb dX5_destination_7 (by decide) (fun _ => ?_) (fun cq => absurd (by first | decide | (rw [nI_leI (by omega) (by omega)]; omega) | (rw [nI_ltI (by omega) (by omega)]; omega) | exact nI_pos (by omega) | (rw [nI_eq (by omega) (by omega)]; omega) | (rw [c_eq0 (by omega)]; omega) | (rw [c_lt0]; omega) | (rw [c_nlt (by omega)]; omega) | (rw [c_ltn (by omega)]; omega) | (rw [c_nle (by omega)]; omega) | (rw [c_len (by omega)]; omega)) cq)
  refine lv_aload_n hx hb dX5_destination_12 rfl (lv_at hl 0 rfl) ?_
  refine va_get (D := D) (ci := 5) (v := .int (nI (ph))) (C := RX5) (T := TX5) (N := 16) hx hb hts in_X5 hown hC.1 hP 0 rfl rfl 9 (by decide) (hts _ q249) (fun _ h9 => h9) rfl dX5_destination_13 ?_
  refine lv_iconst (v := nI (3)) hx hb dX5_destination_16 (by decide) ?_
  refine lv_icmp_ne (tgt := 29) hx hb dX5_destination_17 (by decide) (fun _ => ?_) (fun cq => absurd cq (by rw [nI_eq (by omega) (by omega)]; omega))
  refine lv_aload_n hx hb dX5_destination_29 rfl (lv_at hl 0 rfl) ?_
  refine va_get (D := D) (ci := 5) (v := .ref (b 3)) (C := RX5) (T := TX5) (N := 16) hx hb hts in_X5 hown hC.1 hP 0 rfl rfl 2 (by decide) (hts _ q242) (fun _ h9 => h9) rfl dX5_destination_30 ?_
  refine lv_iload_n hx hb dX5_destination_33 rfl (lv_at hl 1 rfl) ?_
  refine mg_iald hx hb hC.1 hP 3 rfl (i := k) hk dX5_destination_34 ?_
  exact mg_iret (ty := .int) hx hb hr hlocks (rfl) hP hD hS (rfl) dX5_destination_35

set_option maxHeartbeats 4000000 in
set_option maxRecDepth 100000 in
/-- destination(x): no address -/
theorem d_destinationNo (l : Launch) (D : va_G) (ct ad b : Nat → Nat) (real kept copied reg : Nat → Int32) (written : Nat → Nat) (want left : Nat → Bool) (told : Nat → Int32) (pc ph : Nat) (rd th lm : Int32) (shows time since : Nat) (x : Int32) (hno : x.toInt < 0 ∨ 64 ≤ x.toInt) : MI l yX5_destination cX5_destination 2 (some .int) rmZ D ct ad [.ref (b 0), .int x] (wMod ct b (real) (kept) (copied) (reg) (written) (want) (left) (told) (pc) (ph) (rd) (th) (lm) (shows) (time) (since)) (wMod ct b (real) (kept) (copied) (reg) (written) (want) (left) (told) (pc) (ph) (rd) (th) (lm) (shows) (time) (since)) (nI 0) := by
  refine mg_MI (by decide) (Nat.le_of_ble_eq_true rfl) ?_
  intro p e s m below meth c A hx hb hr hlocks hml hown hnm hts hC hP hD hA hS ls hl
  have hown : s.vm.findClass RX5 = some m.cls := hown
  have hl : lv_has ls 2 [(0, .ref (b 0)), (1, .int (x))] := hl
  refine lv_iload_n hx hb dX5_destination_0 rfl (lv_at hl 1 rfl) ?_
  refine lv_if_lt (tgt := 10) hx hb dX5_destination_1 (by decide) (fun c1 => ?_) (fun c1 => ?_)
  · refine lv_iconst (v := nI (0)) hx hb dX5_destination_10 (by decide) ?_
    exact mg_iret (ty := .int) hx hb hr hlocks (rfl) hP hD hS (rfl) dX5_destination_11
  · rw [c_lt0] at c1
    refine lv_iload_n hx hb dX5_destination_4 rfl (lv_at hl 1 rfl) ?_
    refine lv_bipush (v := nI (63)) hx hb dX5_destination_5 (by decide) ?_
    refine lv_icmp_le (tgt := 12) hx hb dX5_destination_7 (by decide) (fun cq => absurd cq (by first | decide | (rw [nI_leI (by omega) (by omega)]; omega) | (rw [nI_ltI (by omega) (by omega)]; omega) | exact nI_pos (by omega) | (rw [nI_eq (by omega) (by omega)]; omega) | (rw [c_eq0 (by omega)]; omega) | (rw [c_lt0]; omega) | (rw [c_nlt (by omega)]; omega) | (rw [c_ltn (by omega)]; omega) | (rw [c_nle (by omega)]; omega) | (rw [c_len (by omega)]; omega))) (fun _ => ?_)
    refine lv_iconst (v := nI (0)) hx hb dX5_destination_10 (by decide) ?_
    exact mg_iret (ty := .int) hx hb hr hlocks (rfl) hP hD hS (rfl) dX5_destination_11

set_option maxHeartbeats 4000000 in
set_option maxRecDepth 100000 in
/-- register(k) -/
theorem d_register (l : Launch) (D : va_G) (ct ad b : Nat → Nat) (real kept copied reg : Nat → Int32) (written : Nat → Nat) (want left : Nat → Bool) (told : Nat → Int32) (pc ph : Nat) (rd th lm : Int32) (shows time since : Nat) (k : Nat) (hk : k < 4) : MI l yX5_register cX5_register 2 (some .int) rmZ D ct ad [.ref (b 0), .int (nI k)] (wMod ct b (real) (kept) (copied) (reg) (written) (want) (left) (told) (pc) (ph) (rd) (th) (lm) (shows) (time) (since)) (wMod ct b (real) (kept) (copied) (reg) (written) (want) (left) (told) (pc) (ph) (rd) (th) (lm) (shows) (time) (since)) (reg k) := by
  refine mg_MI (by decide) (Nat.le_of_ble_eq_true rfl) ?_
  intro p e s m below meth c A hx hb hr hlocks hml hown hnm hts hC hP hD hA hS ls hl
  have hown : s.vm.findClass RX5 = some m.cls := hown
  have hl : lv_has ls 2 [(0, .ref (b 0)), (1, .int (nI (k)))] := hl
  refine lv_iload_n hx hb dX5_register_0 rfl (lv_at hl 1 rfl) ?_
  refine lv_if_lt (tgt := 9) hx hb dX5_register_1 (by decide) (fun cq => absurd cq (nI_pos (by omega))) (fun _ => ?_)
  refine lv_iload_n hx hb dX5_register_4 rfl (lv_at hl 1 rfl) ?_
  refine lv_iconst (v := nI (3)) hx hb dX5_register_5 (by decide) ?_
  refine lv_icmp_le (tgt := 13) hx hb dX5_register_6 (by decide) (fun _ => ?_) (fun cq => absurd (by first | decide | (rw [nI_leI (by omega) (by omega)]; omega) | (rw [nI_ltI (by omega) (by omega)]; omega) | exact nI_pos (by omega) | (rw [nI_eq (by omega) (by omega)]; omega) | (rw [c_eq0 (by omega)]; omega) | (rw [c_lt0]; omega) | (rw [c_nlt (by omega)]; omega) | (rw [c_ltn (by omega)]; omega) | (rw [c_nle (by omega)]; omega) | (rw [c_len (by omega)]; omega)) cq)
  refine lv_aload_n hx hb dX5_register_13 rfl (lv_at hl 0 rfl) ?_
  refine va_get (D := D) (ci := 5) (v := .ref (b 4)) (C := RX5) (T := TX5) (N := 16) hx hb hts in_X5 hown hC.1 hP 0 rfl rfl 3 (by decide) (hts _ q243) (fun _ h9 => h9) rfl dX5_register_14 ?_
  refine lv_iload_n hx hb dX5_register_17 rfl (lv_at hl 1 rfl) ?_
  refine mg_iald hx hb hC.1 hP 4 rfl (i := k) hk dX5_register_18 ?_
  exact mg_iret (ty := .int) hx hb hr hlocks (rfl) hP hD hS (rfl) dX5_register_19

set_option maxHeartbeats 4000000 in
set_option maxRecDepth 100000 in
/-- register(x): none -/
theorem d_registerNo (l : Launch) (D : va_G) (ct ad b : Nat → Nat) (real kept copied reg : Nat → Int32) (written : Nat → Nat) (want left : Nat → Bool) (told : Nat → Int32) (pc ph : Nat) (rd th lm : Int32) (shows time since : Nat) (x : Int32) (hno : x.toInt < 0 ∨ 4 ≤ x.toInt) : MI l yX5_register cX5_register 2 (some .int) rmZ D ct ad [.ref (b 0), .int x] (wMod ct b (real) (kept) (copied) (reg) (written) (want) (left) (told) (pc) (ph) (rd) (th) (lm) (shows) (time) (since)) (wMod ct b (real) (kept) (copied) (reg) (written) (want) (left) (told) (pc) (ph) (rd) (th) (lm) (shows) (time) (since)) (nI 0) := by
  refine mg_MI (by decide) (Nat.le_of_ble_eq_true rfl) ?_
  intro p e s m below meth c A hx hb hr hlocks hml hown hnm hts hC hP hD hA hS ls hl
  have hown : s.vm.findClass RX5 = some m.cls := hown
  have hl : lv_has ls 2 [(0, .ref (b 0)), (1, .int (x))] := hl
  refine lv_iload_n hx hb dX5_register_0 rfl (lv_at hl 1 rfl) ?_
  refine lv_if_lt (tgt := 9) hx hb dX5_register_1 (by decide) (fun c1 => ?_) (fun c1 => ?_)
  · refine lv_iconst (v := nI (0)) hx hb dX5_register_9 (by decide) ?_
    refine lv_goto (tgt := 19) hx hb dX5_register_10 (by decide) ?_
    exact mg_iret (ty := .int) hx hb hr hlocks (rfl) hP hD hS (rfl) dX5_register_19
  · rw [c_lt0] at c1
    refine lv_iload_n hx hb dX5_register_4 rfl (lv_at hl 1 rfl) ?_
    refine lv_iconst (v := nI (3)) hx hb dX5_register_5 (by decide) ?_
    refine lv_icmp_le (tgt := 13) hx hb dX5_register_6 (by decide) (fun cq => absurd cq (by first | decide | (rw [nI_leI (by omega) (by omega)]; omega) | (rw [nI_ltI (by omega) (by omega)]; omega) | exact nI_pos (by omega) | (rw [nI_eq (by omega) (by omega)]; omega) | (rw [c_eq0 (by omega)]; omega) | (rw [c_lt0]; omega) | (rw [c_nlt (by omega)]; omega) | (rw [c_ltn (by omega)]; omega) | (rw [c_nle (by omega)]; omega) | (rw [c_len (by omega)]; omega))) (fun _ => ?_)
    refine lv_iconst (v := nI (0)) hx hb dX5_register_9 (by decide) ?_
    refine lv_goto (tgt := 19) hx hb dX5_register_10 (by decide) ?_
    exact mg_iret (ty := .int) hx hb hr hlocks (rfl) hP hD hS (rfl) dX5_register_19

set_option maxHeartbeats 4000000 in
set_option maxRecDepth 100000 in
/-- shown(k) -/
theorem d_shown (l : Launch) (D : va_G) (ct ad b : Nat → Nat) (real kept copied reg : Nat → Int32) (written : Nat → Nat) (want left : Nat → Bool) (told : Nat → Int32) (pc ph : Nat) (rd th lm : Int32) (shows time since : Nat) (k : Nat) (hk : k < 8) (hks : k < shows) (hsh : shows < 2 ^ 31) : MI l yX5_shown cX5_shown 2 (some .int) rmZ D ct ad [.ref (b 0), .int (nI k)] (wMod ct b (real) (kept) (copied) (reg) (written) (want) (left) (told) (pc) (ph) (rd) (th) (lm) (shows) (time) (since)) (wMod ct b (real) (kept) (copied) (reg) (written) (want) (left) (told) (pc) (ph) (rd) (th) (lm) (shows) (time) (since)) (told k) := by
  refine mg_MI (by decide) (Nat.le_of_ble_eq_true rfl) ?_
  intro p e s m below meth c A hx hb hr hlocks hml hown hnm hts hC hP hD hA hS ls hl
  have hown : s.vm.findClass RX5 = some m.cls := hown
  have hl : lv_has ls 2 [(0, .ref (b 0)), (1, .int (nI (k)))] := hl
  refine lv_iload_n hx hb dX5_shown_0 rfl (lv_at hl 1 rfl) ?_
  refine lv_if_lt (tgt := 18) hx hb dX5_shown_1 (by decide) (fun cq => absurd cq (nI_pos (by omega))) (fun _ => ?_)
  refine lv_iload_n hx hb dX5_shown_4 rfl (lv_at hl 1 rfl) ?_
  refine lv_bipush (v := nI (7)) hx hb dX5_shown_5 (by decide) ?_
  refine lv_icmp_gt (tgt := 18) hx hb dX5_shown_7 (by decide) (fun cq => absurd cq (by first | decide | (rw [nI_leI (by omega) (by omega)]; omega) | (rw [nI_ltI (by omega) (by omega)]; omega) | exact nI_pos (by omega) | (rw [nI_eq (by omega) (by omega)]; omega) | (rw [c_eq0 (by omega)]; omega) | (rw [c_lt0]; omega) | (rw [c_nlt (by omega)]; omega) | (rw [c_ltn (by omega)]; omega) | (rw [c_nle (by omega)]; omega) | (rw [c_len (by omega)]; omega))) (fun _ => ?_)
  refine lv_iload_n hx hb dX5_shown_10 rfl (lv_at hl 1 rfl) ?_
  refine lv_aload_n hx hb dX5_shown_11 rfl (lv_at hl 0 rfl) ?_
  refine va_get (D := D) (ci := 5) (v := .int (nI (shows))) (C := RX5) (T := TX5) (N := 16) hx hb hts in_X5 hown hC.1 hP 0 rfl rfl 13 (by decide) (hts _ q253) (fun _ h9 => h9) rfl dX5_shown_12 ?_
  refine lv_icmp_lt (tgt := 22) hx hb dX5_shown_15 (by decide) (fun _ => ?_) (fun cq => absurd (by first | decide | (rw [nI_leI (by omega) (by omega)]; omega) | (rw [nI_ltI (by omega) (by omega)]; omega) | exact nI_pos (by omega) | (rw [nI_eq (by omega) (by omega)]; omega) | (rw [c_eq0 (by omega)]; omega) | (rw [c_lt0]; omega) | (rw [c_nlt (by omega)]; omega) | (rw [c_ltn (by omega)]; omega) | (rw [c_nle (by omega)]; omega) | (rw [c_len (by omega)]; omega)) cq)
  refine lv_aload_n hx hb dX5_shown_22 rfl (lv_at hl 0 rfl) ?_
  refine va_get (D := D) (ci := 5) (v := .ref (b 8)) (C := RX5) (T := TX5) (N := 16) hx hb hts in_X5 hown hC.1 hP 0 rfl rfl 7 (by decide) (hts _ q247) (fun _ h9 => h9) rfl dX5_shown_23 ?_
  refine lv_iload_n hx hb dX5_shown_26 rfl (lv_at hl 1 rfl) ?_
  refine mg_iald hx hb hC.1 hP 8 rfl (i := k) hk dX5_shown_27 ?_
  exact mg_iret (ty := .int) hx hb hr hlocks (rfl) hP hD hS (rfl) dX5_shown_28

set_option maxHeartbeats 4000000 in
set_option maxRecDepth 100000 in
/-- shown(x): none -/
theorem d_shownNo (l : Launch) (D : va_G) (ct ad b : Nat → Nat) (real kept copied reg : Nat → Int32) (written : Nat → Nat) (want left : Nat → Bool) (told : Nat → Int32) (pc ph : Nat) (rd th lm : Int32) (shows time since : Nat) (x : Int32) (hsh : shows < 2 ^ 31) (hno : x.toInt < 0 ∨ 8 ≤ x.toInt ∨ (shows : Int) ≤ x.toInt) : MI l yX5_shown cX5_shown 2 (some .int) rmZ D ct ad [.ref (b 0), .int x] (wMod ct b (real) (kept) (copied) (reg) (written) (want) (left) (told) (pc) (ph) (rd) (th) (lm) (shows) (time) (since)) (wMod ct b (real) (kept) (copied) (reg) (written) (want) (left) (told) (pc) (ph) (rd) (th) (lm) (shows) (time) (since)) (nI 0) := by
  refine mg_MI (by decide) (Nat.le_of_ble_eq_true rfl) ?_
  intro p e s m below meth c A hx hb hr hlocks hml hown hnm hts hC hP hD hA hS ls hl
  have hown : s.vm.findClass RX5 = some m.cls := hown
  have hl : lv_has ls 2 [(0, .ref (b 0)), (1, .int (x))] := hl
  refine lv_iload_n hx hb dX5_shown_0 rfl (lv_at hl 1 rfl) ?_
  refine lv_if_lt (tgt := 18) hx hb dX5_shown_1 (by decide) (fun c1 => ?_) (fun c1 => ?_)
  · refine lv_iconst (v := nI (0)) hx hb dX5_shown_18 (by decide) ?_
    refine lv_goto (tgt := 28) hx hb dX5_shown_19 (by decide) ?_
    exact mg_iret (ty := .int) hx hb hr hlocks (rfl) hP hD hS (rfl) dX5_shown_28
  · rw [c_lt0] at c1
    refine lv_iload_n hx hb dX5_shown_4 rfl (lv_at hl 1 rfl) ?_
    refine lv_bipush (v := nI (7)) hx hb dX5_shown_5 (by decide) ?_
    refine lv_icmp_gt (tgt := 18) hx hb dX5_shown_7 (by decide) (fun c2 => ?_) (fun c2 => ?_)
    · refine lv_iconst (v := nI (0)) hx hb dX5_shown_18 (by decide) ?_
      refine lv_goto (tgt := 28) hx hb dX5_shown_19 (by decide) ?_
      exact mg_iret (ty := .int) hx hb hr hlocks (rfl) hP hD hS (rfl) dX5_shown_28
    · rw [c_nlt (by decide)] at c2
      refine lv_iload_n hx hb dX5_shown_10 rfl (lv_at hl 1 rfl) ?_
      refine lv_aload_n hx hb dX5_shown_11 rfl (lv_at hl 0 rfl) ?_
      refine va_get (D := D) (ci := 5) (v := .int (nI (shows))) (C := RX5) (T := TX5) (N := 16) hx hb hts in_X5 hown hC.1 hP 0 rfl rfl 13 (by decide) (hts _ q253) (fun _ h9 => h9) rfl dX5_shown_12 ?_
      refine lv_icmp_lt (tgt := 22) hx hb dX5_shown_15 (by decide) (fun cq => absurd cq (by rw [c_ltn (by omega)]; omega)) (fun _ => ?_)
      refine lv_iconst (v := nI (0)) hx hb dX5_shown_18 (by decide) ?_
      refine lv_goto (tgt := 28) hx hb dX5_shown_19 (by decide) ?_
      exact mg_iret (ty := .int) hx hb hr hlocks (rfl) hP hD hS (rfl) dX5_shown_28
end
section
/-! MODULE MigratorModel: step, run (written by gen/gen_model.py) -/
set_option maxRecDepth 100000
set_option maxHeartbeats 4000000 in
set_option maxRecDepth 100000 in
/-- step() -/
theorem d_step (l : Launch) (D : va_G) (ct ad b : Nat → Nat) (τ : MT) (kept copied : Nat → Int32) (want left : Nat → Bool) (ph : Nat) (rd th lm : Int32) (since : Nat) (hpc : τ.2.2.2.1 < 64) : MV l yX5_step cX5_step 8 rmZ D ct ad [.ref (b 0)] (wMT ct b τ kept copied want left ph rd th lm since) (wMT ct b (mst τ) kept copied want left ph rd th lm since) := by
  obtain ⟨real, reg, told, pc, shows, time, written⟩ := τ
  dsimp only at hpc
  refine mg_MV (by decide) (Nat.le_of_ble_eq_true rfl) ?_
  intro p e s m below meth c A hx hb hr hlocks hml hown hnm hts hC hP hD hA hS ls hl
  have hown : s.vm.findClass RX5 = some m.cls := hown
  have hl : lv_has ls 8 [(0, .ref (b 0))] := hl
  have hP : va_P D mgCl (wMod ct b (real) (kept) (copied) (reg) (written) (want) (left) (told) (pc) (ph) (rd) (th) (lm) (shows) (time) (since)) s.heap := hP
  have hD : va_D A (wMod ct b (real) (kept) (copied) (reg) (written) (want) (left) (told) (pc) (ph) (rd) (th) (lm) (shows) (time) (since)) := hD
  refine lv_aload_n hx hb dX5_step_0 rfl (lv_at hl 0 rfl) ?_
  refine va_get (D := D) (ci := 5) (v := .ref (b 1)) (C := RX5) (T := TX5) (N := 16) hx hb hts in_X5 hown hC.1 hP 0 rfl rfl 0 (by decide) (hts _ q240) (fun _ h9 => h9) rfl dX5_step_1 ?_
  refine lv_aload_n hx hb dX5_step_4 rfl (lv_at hl 0 rfl) ?_
  refine va_get (D := D) (ci := 5) (v := .int (nI (pc))) (C := RX5) (T := TX5) (N := 16) hx hb hts in_X5 hown hC.1 hP 0 rfl rfl 8 (by decide) (hts _ q248) (fun _ h9 => h9) rfl dX5_step_5 ?_
  refine mg_iald hx hb hC.1 hP 1 rfl (i := pc) hpc dX5_step_8 ?_
  generalize hw : real pc = w
  refine lv_istore_n (lv' := [(1, .int (w)), (0, .ref (b 0))]) hx hb dX5_step_9 rfl hl (by decide) rfl (fun ls hl => ?_)
  refine lv_iload_n hx hb dX5_step_10 rfl (lv_at hl 0 rfl) ?_
  refine lv_iconst (v := nI (3)) hx hb dX5_step_11 (by decide) ?_
  refine lv_ishr hx hb dX5_step_12 ?_
  refine lv_iconst (v := nI (3)) hx hb dX5_step_13 (by decide) ?_
  refine lv_iand hx hb dX5_step_14 ?_
  refine mg_top (y := nI (ga w)) (ga_eq w) ?_
  refine lv_istore_n (lv' := [(2, .int (nI (ga w))), (1, .int (w)), (0, .ref (b 0))]) hx hb dX5_step_15 rfl hl (by decide) rfl (fun ls hl => ?_)
  refine lv_iload_n hx hb dX5_step_16 rfl (lv_at hl 1 rfl) ?_
  refine lv_iconst (v := nI (5)) hx hb dX5_step_17 (by decide) ?_
  refine lv_ishr hx hb dX5_step_18 ?_
  refine lv_iconst (v := nI (3)) hx hb dX5_step_19 (by decide) ?_
  refine lv_iand hx hb dX5_step_20 ?_
  refine mg_top (y := nI (gb w)) (gb_eq w) ?_
  refine lv_istore_n (lv' := [(3, .int (nI (gb w))), (2, .int (nI (ga w))), (1, .int (w)), (0, .ref (b 0))]) hx hb dX5_step_21 rfl hl (by decide) rfl (fun ls hl => ?_)
  refine lv_iload_n hx hb dX5_step_22 rfl (lv_at hl 2 rfl) ?_
  refine lv_bipush (v := nI (7)) hx hb dX5_step_23 (by decide) ?_
  refine lv_ishr hx hb dX5_step_25 ?_
  refine lv_bipush (v := nI (127)) hx hb dX5_step_26 (by decide) ?_
  refine lv_iand hx hb dX5_step_28 ?_
  refine mg_top (y := nI (gk w)) (gk_eq w) ?_
  refine lv_istore (lv' := [(4, .int (nI (gk w))), (3, .int (nI (gb w))), (2, .int (nI (ga w))), (1, .int (w)), (0, .ref (b 0))]) hx hb dX5_step_29 hl (by decide) rfl (fun ls hl => ?_)
  refine lv_aload_n hx hb dX5_step_31 rfl (lv_at hl 4 rfl) ?_
  refine va_get (D := D) (ci := 5) (v := .ref (b 4)) (C := RX5) (T := TX5) (N := 16) hx hb hts in_X5 hown hC.1 hP 0 rfl rfl 3 (by decide) (hts _ q243) (fun _ h9 => h9) rfl dX5_step_32 ?_
  refine lv_iload_n hx hb dX5_step_35 rfl (lv_at hl 1 rfl) ?_
  refine mg_iald hx hb hC.1 hP 4 rfl (i := gb w) (gb_lt w) dX5_step_36 ?_
  refine lv_iload hx hb dX5_step_37 (lv_at hl 0 rfl) ?_
  refine lv_iadd hx hb dX5_step_39 ?_
  refine lv_bipush (v := nI (63)) hx hb dX5_step_40 (by decide) ?_
  refine lv_iand hx hb dX5_step_42 ?_
  refine mg_top (y := nI (gat reg w)) (gat_eq reg w) ?_
  refine lv_istore (lv' := [(5, .int (nI (gat reg w))), (4, .int (nI (gk w))), (3, .int (nI (gb w))), (2, .int (nI (ga w))), (1, .int (w)), (0, .ref (b 0))]) hx hb dX5_step_43 hl (by decide) rfl (fun ls hl => ?_)
  refine lv_aload_n hx hb dX5_step_45 rfl (lv_at hl 5 rfl) ?_
  refine va_get (D := D) (ci := 5) (v := .int (nI (pc))) (C := RX5) (T := TX5) (N := 16) hx hb hts in_X5 hown hC.1 hP 0 rfl rfl 8 (by decide) (hts _ q248) (fun _ h9 => h9) rfl dX5_step_46 ?_
  refine lv_iconst (v := nI (1)) hx hb dX5_step_49 (by decide) ?_
  refine lv_iadd hx hb dX5_step_50 ?_
  refine mg_top (y := nI (pc + 1)) (nI_add _ _) ?_
  refine lv_bipush (v := nI (63)) hx hb dX5_step_51 (by decide) ?_
  refine lv_iand hx hb dX5_step_53 ?_
  refine mg_top (y := nI ((pc + 1) % 64)) (n63_eq (by omega)) ?_
  refine lv_istore (lv' := [(6, .int (nI ((pc + 1) % 64))), (5, .int (nI (gat reg w))), (4, .int (nI (gk w))), (3, .int (nI (gb w))), (2, .int (nI (ga w))), (1, .int (w)), (0, .ref (b 0))]) hx hb dX5_step_54 hl (by decide) rfl (fun ls hl => ?_)
  refine lv_iload_n hx hb dX5_step_56 rfl (lv_at hl 5 rfl) ?_
  refine lv_bipush (v := nI (7)) hx hb dX5_step_57 (by decide) ?_
  refine lv_iand hx hb dX5_step_59 ?_
  refine mg_top (y := nI (gop w)) (gop_eq w) ?_
  have hga := ga_lt w
  have hgb := gb_lt w
  have hgk := gk_lt w
  have hgt := gat_lt reg w
  have hgo := gop_lt w
  have hgw : mw (real, reg, told, pc, shows, time, written) = w := hw
  rcases (show gop w = 0 ∨ gop w = 1 ∨ gop w = 2 ∨ gop w = 3 ∨ gop w = 4 ∨ gop w = 5 ∨ gop w = 6 ∨ gop w = 7 by omega) with ho | ho | ho | ho | ho | ho | ho | ho
  · have eg : mst (real, reg, told, pc, shows, time, written) = (real, reg, told, pc, shows, time, written) := by simp only [mst, hgw, ho]
    rw [eg]
    refine mg_top (y := nI (0)) (by rw [ho]) ?_
    refine lv_tableIn (off := 44) (tgt := 104) hx hb dX5_step_60 (by decide) (by decide) (by decide) (by decide) ?_
    refine lv_aload_n hx hb dX5_step_104 rfl (lv_at hl 6 rfl) ?_
    refine va_get (D := D) (ci := 5) (v := .int (nI (pc))) (C := RX5) (T := TX5) (N := 16) hx hb hts in_X5 hown hC.1 hP 0 rfl rfl 8 (by decide) (hts _ q248) (fun _ h9 => h9) rfl dX5_step_105 ?_
    refine lv_istore (lv' := [(6, .int (nI (pc))), (5, .int (nI (gat reg w))), (4, .int (nI (gk w))), (3, .int (nI (gb w))), (2, .int (nI (ga w))), (1, .int (w)), (0, .ref (b 0))]) hx hb dX5_step_108 hl (by decide) rfl (fun ls hl => ?_)
    refine lv_goto (tgt := 296) hx hb dX5_step_110 (by decide) ?_
    refine lv_aload_n hx hb dX5_step_296 rfl (lv_at hl 6 rfl) ?_
    refine lv_iload hx hb dX5_step_297 (lv_at hl 0 rfl) ?_
    refine va_put (D := D) (ci := 5) (v := .int (nI (pc))) (ty := .int) (C := RX5) (T := TX5) (N := 16) hx hb hts in_X5 tyX5 tyX5_ok nmX5 hown hC.1 hP hD hS 0 rfl rfl 8 (by decide) (hts _ q248) (fun _ h9 => h9) rfl (by decide +kernel) rfl rfl (Nat.le_of_ble_eq_true rfl) dX5_step_299 (fun H locs hP hD hS => ?_)
    have hP : va_P D mgCl (wMod ct b (real) (kept) (copied) (reg) (written) (want) (left) (told) (pc) (ph) (rd) (th) (lm) (shows) (time) (since)) H := hP
    have hD : va_D A (wMod ct b (real) (kept) (copied) (reg) (written) (want) (left) (told) (pc) (ph) (rd) (th) (lm) (shows) (time) (since)) := hD
    exact mg_vret hx hb hr hlocks hP hD hS dX5_step_302
  · have eg : mst (real, reg, told, pc, shows, time, written) = (real, upd reg (ga w) (nI (gk w)), told, (pc + 1) % 64, shows, time, written) := by simp only [mst, hgw, ho]
    rw [eg]
    refine mg_top (y := nI (1)) (by rw [ho]) ?_
    refine lv_tableIn (off := 53) (tgt := 113) hx hb dX5_step_60 (by decide) (by decide) (by decide) (by decide) ?_
    refine lv_aload_n hx hb dX5_step_113 rfl (lv_at hl 6 rfl) ?_
    refine va_get (D := D) (ci := 5) (v := .ref (b 4)) (C := RX5) (T := TX5) (N := 16) hx hb hts in_X5 hown hC.1 hP 0 rfl rfl 3 (by decide) (hts _ q243) (fun _ h9 => h9) rfl dX5_step_114 ?_
    refine lv_iload_n hx hb dX5_step_117 rfl (lv_at hl 4 rfl) ?_
    refine lv_iload hx hb dX5_step_118 (lv_at hl 2 rfl) ?_
    refine mg_iast hx hb hC.1 hP hD hS 4 rfl (i := ga w) hga dX5_step_120 (fun H locs hP hD hS => ?_)
    have hP : va_P D mgCl (wMod ct b (real) (kept) (copied) (upd (reg) (ga w) (nI (gk w))) (written) (want) (left) (told) (pc) (ph) (rd) (th) (lm) (shows) (time) (since)) H := hP
    have hD : va_D A (wMod ct b (real) (kept) (copied) (upd (reg) (ga w) (nI (gk w))) (written) (want) (left) (told) (pc) (ph) (rd) (th) (lm) (shows) (time) (since)) := hD
    refine lv_goto (tgt := 296) hx hb dX5_step_121 (by decide) ?_
    refine lv_aload_n hx hb dX5_step_296 rfl (lv_at hl 6 rfl) ?_
    refine lv_iload hx hb dX5_step_297 (lv_at hl 0 rfl) ?_
    refine va_put (D := D) (ci := 5) (v := .int (nI ((pc + 1) % 64))) (ty := .int) (C := RX5) (T := TX5) (N := 16) hx hb hts in_X5 tyX5 tyX5_ok nmX5 hown hC.1 hP hD hS 0 rfl rfl 8 (by decide) (hts _ q248) (fun _ h9 => h9) rfl (by decide +kernel) rfl rfl (Nat.le_of_ble_eq_true rfl) dX5_step_299 (fun H locs hP hD hS => ?_)
    have hP : va_P D mgCl (wMod ct b (real) (kept) (copied) (upd (reg) (ga w) (nI (gk w))) (written) (want) (left) (told) ((pc + 1) % 64) (ph) (rd) (th) (lm) (shows) (time) (since)) H := hP
    have hD : va_D A (wMod ct b (real) (kept) (copied) (upd (reg) (ga w) (nI (gk w))) (written) (want) (left) (told) ((pc + 1) % 64) (ph) (rd) (th) (lm) (shows) (time) (since)) := hD
    exact mg_vret hx hb hr hlocks hP hD hS dX5_step_302
  · have eg : mst (real, reg, told, pc, shows, time, written) = (real, upd reg (ga w) (real (gat reg w)), told, (pc + 1) % 64, shows, time, written) := by simp only [mst, hgw, ho]
    rw [eg]
    refine mg_top (y := nI (2)) (by rw [ho]) ?_
    refine lv_tableIn (off := 64) (tgt := 124) hx hb dX5_step_60 (by decide) (by decide) (by decide) (by decide) ?_
    refine lv_aload_n hx hb dX5_step_124 rfl (lv_at hl 6 rfl) ?_
    refine va_get (D := D) (ci := 5) (v := .ref (b 4)) (C := RX5) (T := TX5) (N := 16) hx hb hts in_X5 hown hC.1 hP 0 rfl rfl 3 (by decide) (hts _ q243) (fun _ h9 => h9) rfl dX5_step_125 ?_
    refine lv_iload_n hx hb dX5_step_128 rfl (lv_at hl 4 rfl) ?_
    refine lv_aload_n hx hb dX5_step_129 rfl (lv_at hl 6 rfl) ?_
    refine va_get (D := D) (ci := 5) (v := .ref (b 1)) (C := RX5) (T := TX5) (N := 16) hx hb hts in_X5 hown hC.1 hP 0 rfl rfl 0 (by decide) (hts _ q240) (fun _ h9 => h9) rfl dX5_step_130 ?_
    refine lv_iload hx hb dX5_step_133 (lv_at hl 1 rfl) ?_
    refine mg_iald hx hb hC.1 hP 1 rfl (i := gat reg w) hgt dX5_step_135 ?_
    refine mg_iast hx hb hC.1 hP hD hS 4 rfl (i := ga w) hga dX5_step_136 (fun H locs hP hD hS => ?_)
    have hP : va_P D mgCl (wMod ct b (real) (kept) (copied) (upd (reg) (ga w) ((real) (gat reg w))) (written) (want) (left) (told) (pc) (ph) (rd) (th) (lm) (shows) (time) (since)) H := hP
    have hD : va_D A (wMod ct b (real) (kept) (copied) (upd (reg) (ga w) ((real) (gat reg w))) (written) (want) (left) (told) (pc) (ph) (rd) (th) (lm) (shows) (time) (since)) := hD
    refine lv_goto (tgt := 296) hx hb dX5_step_137 (by decide) ?_
    refine lv_aload_n hx hb dX5_step_296 rfl (lv_at hl 6 rfl) ?_
    refine lv_iload hx hb dX5_step_297 (lv_at hl 0 rfl) ?_
    refine va_put (D := D) (ci := 5) (v := .int (nI ((pc + 1) % 64))) (ty := .int) (C := RX5) (T := TX5) (N := 16) hx hb hts in_X5 tyX5 tyX5_ok nmX5 hown hC.1 hP hD hS 0 rfl rfl 8 (by decide) (hts _ q248) (fun _ h9 => h9) rfl (by decide +kernel) rfl rfl (Nat.le_of_ble_eq_true rfl) dX5_step_299 (fun H locs hP hD hS => ?_)
    have hP : va_P D mgCl (wMod ct b (real) (kept) (copied) (upd (reg) (ga w) ((real) (gat reg w))) (written) (want) (left) (told) ((pc + 1) % 64) (ph) (rd) (th) (lm) (shows) (time) (since)) H := hP
    have hD : va_D A (wMod ct b (real) (kept) (copied) (upd (reg) (ga w) ((real) (gat reg w))) (written) (want) (left) (told) ((pc + 1) % 64) (ph) (rd) (th) (lm) (shows) (time) (since)) := hD
    exact mg_vret hx hb hr hlocks hP hD hS dX5_step_302
  · have eg : mst (real, reg, told, pc, shows, time, written) = (upd real (gat reg w) (reg (ga w)), reg, told, (pc + 1) % 64, shows, time + 1, va_up written (gat reg w / 8) (time + 1)) := by simp only [mst, hgw, ho]
    rw [eg]
    refine mg_top (y := nI (3)) (by rw [ho]) ?_
    refine lv_tableIn (off := 80) (tgt := 140) hx hb dX5_step_60 (by decide) (by decide) (by decide) (by decide) ?_
    refine lv_aload_n hx hb dX5_step_140 rfl (lv_at hl 6 rfl) ?_
    refine lv_aload_n hx hb dX5_step_141 rfl (lv_at hl 6 rfl) ?_
    refine va_get (D := D) (ci := 5) (v := .long (lN (time))) (C := RX5) (T := TX5) (N := 16) hx hb hts in_X5 hown hC.1 hP 0 rfl rfl 14 (by decide) (hts _ q254) (fun _ h9 => h9) rfl dX5_step_142 ?_
    refine lv_lconst (v := lN (1)) hx hb dX5_step_145 (by decide) ?_
    refine lv_ladd hx hb dX5_step_146 ?_
    refine mg_topl (y := lN (time + 1)) (lN_add _ _) ?_
    refine va_put (D := D) (ci := 5) (v := .long (lN (time + 1))) (ty := .long) (C := RX5) (T := TX5) (N := 16) hx hb hts in_X5 tyX5 tyX5_ok nmX5 hown hC.1 hP hD hS 0 rfl rfl 14 (by decide) (hts _ q254) (fun _ h9 => h9) rfl (by decide +kernel) rfl rfl (Nat.le_of_ble_eq_true rfl) dX5_step_147 (fun H locs hP hD hS => ?_)
    have hP : va_P D mgCl (wMod ct b (real) (kept) (copied) (reg) (written) (want) (left) (told) (pc) (ph) (rd) (th) (lm) (shows) (time + 1) (since)) H := hP
    have hD : va_D A (wMod ct b (real) (kept) (copied) (reg) (written) (want) (left) (told) (pc) (ph) (rd) (th) (lm) (shows) (time + 1) (since)) := hD
    refine lv_aload_n hx hb dX5_step_150 rfl (lv_at hl 6 rfl) ?_
    refine va_get (D := D) (ci := 5) (v := .ref (b 5)) (C := RX5) (T := TX5) (N := 16) hx hb hts in_X5 hown hC.1 hP 0 rfl rfl 4 (by decide) (hts _ q244) (fun _ h9 => h9) rfl dX5_step_151 ?_
    refine lv_iload hx hb dX5_step_154 (lv_at hl 1 rfl) ?_
    refine lv_bipush (v := nI (8)) hx hb dX5_step_156 (by decide) ?_
    refine lv_idiv hx hb dX5_step_158 (by decide) ?_
    refine mg_top (y := nI ((gat reg w) / 8)) (pk_div (by omega) (by decide) (by decide)) ?_
    refine lv_aload_n hx hb dX5_step_159 rfl (lv_at hl 6 rfl) ?_
    refine va_get (D := D) (ci := 5) (v := .long (lN (time + 1))) (C := RX5) (T := TX5) (N := 16) hx hb hts in_X5 hown hC.1 hP 0 rfl rfl 14 (by decide) (hts _ q254) (fun _ h9 => h9) rfl dX5_step_160 ?_
    refine mg_last hx hb hC.1 hP hD hS 5 rfl (i := (gat reg w) / 8) (v := time + 1) (by omega) dX5_step_163 (fun H locs hP hD hS => ?_)
    have hP : va_P D mgCl (wMod ct b (real) (kept) (copied) (reg) (va_up (written) ((gat reg w) / 8) (time + 1)) (want) (left) (told) (pc) (ph) (rd) (th) (lm) (shows) (time + 1) (since)) H := hP
    have hD : va_D A (wMod ct b (real) (kept) (copied) (reg) (va_up (written) ((gat reg w) / 8) (time + 1)) (want) (left) (told) (pc) (ph) (rd) (th) (lm) (shows) (time + 1) (since)) := hD
    refine lv_aload_n hx hb dX5_step_164 rfl (lv_at hl 6 rfl) ?_
    refine va_get (D := D) (ci := 5) (v := .ref (b 1)) (C := RX5) (T := TX5) (N := 16) hx hb hts in_X5 hown hC.1 hP 0 rfl rfl 0 (by decide) (hts _ q240) (fun _ h9 => h9) rfl dX5_step_165 ?_
    refine lv_iload hx hb dX5_step_168 (lv_at hl 1 rfl) ?_
    refine lv_aload_n hx hb dX5_step_170 rfl (lv_at hl 6 rfl) ?_
    refine va_get (D := D) (ci := 5) (v := .ref (b 4)) (C := RX5) (T := TX5) (N := 16) hx hb hts in_X5 hown hC.1 hP 0 rfl rfl 3 (by decide) (hts _ q243) (fun _ h9 => h9) rfl dX5_step_171 ?_
    refine lv_iload_n hx hb dX5_step_174 rfl (lv_at hl 4 rfl) ?_
    refine mg_iald hx hb hC.1 hP 4 rfl (i := ga w) hga dX5_step_175 ?_
    refine mg_iast hx hb hC.1 hP hD hS 1 rfl (i := gat reg w) hgt dX5_step_176 (fun H locs hP hD hS => ?_)
    have hP : va_P D mgCl (wMod ct b (upd (real) (gat reg w) ((reg) (ga w))) (kept) (copied) (reg) (va_up (written) ((gat reg w) / 8) (time + 1)) (want) (left) (told) (pc) (ph) (rd) (th) (lm) (shows) (time + 1) (since)) H := hP
    have hD : va_D A (wMod ct b (upd (real) (gat reg w) ((reg) (ga w))) (kept) (copied) (reg) (va_up (written) ((gat reg w) / 8) (time + 1)) (want) (left) (told) (pc) (ph) (rd) (th) (lm) (shows) (time + 1) (since)) := hD
    refine lv_goto (tgt := 296) hx hb dX5_step_177 (by decide) ?_
    refine lv_aload_n hx hb dX5_step_296 rfl (lv_at hl 6 rfl) ?_
    refine lv_iload hx hb dX5_step_297 (lv_at hl 0 rfl) ?_
    refine va_put (D := D) (ci := 5) (v := .int (nI ((pc + 1) % 64))) (ty := .int) (C := RX5) (T := TX5) (N := 16) hx hb hts in_X5 tyX5 tyX5_ok nmX5 hown hC.1 hP hD hS 0 rfl rfl 8 (by decide) (hts _ q248) (fun _ h9 => h9) rfl (by decide +kernel) rfl rfl (Nat.le_of_ble_eq_true rfl) dX5_step_299 (fun H locs hP hD hS => ?_)
    have hP : va_P D mgCl (wMod ct b (upd (real) (gat reg w) ((reg) (ga w))) (kept) (copied) (reg) (va_up (written) ((gat reg w) / 8) (time + 1)) (want) (left) (told) ((pc + 1) % 64) (ph) (rd) (th) (lm) (shows) (time + 1) (since)) H := hP
    have hD : va_D A (wMod ct b (upd (real) (gat reg w) ((reg) (ga w))) (kept) (copied) (reg) (va_up (written) ((gat reg w) / 8) (time + 1)) (want) (left) (told) ((pc + 1) % 64) (ph) (rd) (th) (lm) (shows) (time + 1) (since)) := hD
    exact mg_vret hx hb hr hlocks hP hD hS dX5_step_302
  · have eg : mst (real, reg, told, pc, shows, time, written) = (real, upd reg (ga w) (reg (ga w) + reg (gb w)), told, (pc + 1) % 64, shows, time, written) := by simp only [mst, hgw, ho]
    rw [eg]
    refine mg_top (y := nI (4)) (by rw [ho]) ?_
    refine lv_tableIn (off := 120) (tgt := 180) hx hb dX5_step_60 (by decide) (by decide) (by decide) (by decide) ?_
    refine lv_aload_n hx hb dX5_step_180 rfl (lv_at hl 6 rfl) ?_
    refine va_get (D := D) (ci := 5) (v := .ref (b 4)) (C := RX5) (T := TX5) (N := 16) hx hb hts in_X5 hown hC.1 hP 0 rfl rfl 3 (by decide) (hts _ q243) (fun _ h9 => h9) rfl dX5_step_181 ?_
    refine lv_iload_n hx hb dX5_step_184 rfl (lv_at hl 4 rfl) ?_
    refine lv_aload_n hx hb dX5_step_185 rfl (lv_at hl 6 rfl) ?_
    refine va_get (D := D) (ci := 5) (v := .ref (b 4)) (C := RX5) (T := TX5) (N := 16) hx hb hts in_X5 hown hC.1 hP 0 rfl rfl 3 (by decide) (hts _ q243) (fun _ h9 => h9) rfl dX5_step_186 ?_
    refine lv_iload_n hx hb dX5_step_189 rfl (lv_at hl 4 rfl) ?_
    refine mg_iald hx hb hC.1 hP 4 rfl (i := ga w) hga dX5_step_190 ?_
    refine lv_aload_n hx hb dX5_step_191 rfl (lv_at hl 6 rfl) ?_
    refine va_get (D := D) (ci := 5) (v := .ref (b 4)) (C := RX5) (T := TX5) (N := 16) hx hb hts in_X5 hown hC.1 hP 0 rfl rfl 3 (by decide) (hts _ q243) (fun _ h9 => h9) rfl dX5_step_192 ?_
    refine lv_iload_n hx hb dX5_step_195 rfl (lv_at hl 3 rfl) ?_
    refine mg_iald hx hb hC.1 hP 4 rfl (i := gb w) hgb dX5_step_196 ?_
    refine lv_iadd hx hb dX5_step_197 ?_
    refine mg_iast hx hb hC.1 hP hD hS 4 rfl (i := ga w) hga dX5_step_198 (fun H locs hP hD hS => ?_)
    have hP : va_P D mgCl (wMod ct b (real) (kept) (copied) (upd (reg) (ga w) (((reg) (ga w)) + ((reg) (gb w)))) (written) (want) (left) (told) (pc) (ph) (rd) (th) (lm) (shows) (time) (since)) H := hP
    have hD : va_D A (wMod ct b (real) (kept) (copied) (upd (reg) (ga w) (((reg) (ga w)) + ((reg) (gb w)))) (written) (want) (left) (told) (pc) (ph) (rd) (th) (lm) (shows) (time) (since)) := hD
    refine lv_goto (tgt := 296) hx hb dX5_step_199 (by decide) ?_
    refine lv_aload_n hx hb dX5_step_296 rfl (lv_at hl 6 rfl) ?_
    refine lv_iload hx hb dX5_step_297 (lv_at hl 0 rfl) ?_
    refine va_put (D := D) (ci := 5) (v := .int (nI ((pc + 1) % 64))) (ty := .int) (C := RX5) (T := TX5) (N := 16) hx hb hts in_X5 tyX5 tyX5_ok nmX5 hown hC.1 hP hD hS 0 rfl rfl 8 (by decide) (hts _ q248) (fun _ h9 => h9) rfl (by decide +kernel) rfl rfl (Nat.le_of_ble_eq_true rfl) dX5_step_299 (fun H locs hP hD hS => ?_)
    have hP : va_P D mgCl (wMod ct b (real) (kept) (copied) (upd (reg) (ga w) (((reg) (ga w)) + ((reg) (gb w)))) (written) (want) (left) (told) ((pc + 1) % 64) (ph) (rd) (th) (lm) (shows) (time) (since)) H := hP
    have hD : va_D A (wMod ct b (real) (kept) (copied) (upd (reg) (ga w) (((reg) (ga w)) + ((reg) (gb w)))) (written) (want) (left) (told) ((pc + 1) % 64) (ph) (rd) (th) (lm) (shows) (time) (since)) := hD
    exact mg_vret hx hb hr hlocks hP hD hS dX5_step_302
  · have eg : mst (real, reg, told, pc, shows, time, written) = (real, upd reg (ga w) (reg (ga w) - reg (gb w)), told, (pc + 1) % 64, shows, time, written) := by simp only [mst, hgw, ho]
    rw [eg]
    refine mg_top (y := nI (5)) (by rw [ho]) ?_
    refine lv_tableIn (off := 142) (tgt := 202) hx hb dX5_step_60 (by decide) (by decide) (by decide) (by decide) ?_
    refine lv_aload_n hx hb dX5_step_202 rfl (lv_at hl 6 rfl) ?_
    refine va_get (D := D) (ci := 5) (v := .ref (b 4)) (C := RX5) (T := TX5) (N := 16) hx hb hts in_X5 hown hC.1 hP 0 rfl rfl 3 (by decide) (hts _ q243) (fun _ h9 => h9) rfl dX5_step_203 ?_
    refine lv_iload_n hx hb dX5_step_206 rfl (lv_at hl 4 rfl) ?_
    refine lv_aload_n hx hb dX5_step_207 rfl (lv_at hl 6 rfl) ?_
    refine va_get (D := D) (ci := 5) (v := .ref (b 4)) (C := RX5) (T := TX5) (N := 16) hx hb hts in_X5 hown hC.1 hP 0 rfl rfl 3 (by decide) (hts _ q243) (fun _ h9 => h9) rfl dX5_step_208 ?_
    refine lv_iload_n hx hb dX5_step_211 rfl (lv_at hl 4 rfl) ?_
    refine mg_iald hx hb hC.1 hP 4 rfl (i := ga w) hga dX5_step_212 ?_
    refine lv_aload_n hx hb dX5_step_213 rfl (lv_at hl 6 rfl) ?_
    refine va_get (D := D) (ci := 5) (v := .ref (b 4)) (C := RX5) (T := TX5) (N := 16) hx hb hts in_X5 hown hC.1 hP 0 rfl rfl 3 (by decide) (hts _ q243) (fun _ h9 => h9) rfl dX5_step_214 ?_
    refine lv_iload_n hx hb dX5_step_217 rfl (lv_at hl 3 rfl) ?_
    refine mg_iald hx hb hC.1 hP 4 rfl (i := gb w) hgb dX5_step_218 ?_
    refine lv_isub hx hb dX5_step_219 ?_
    refine mg_iast hx hb hC.1 hP hD hS 4 rfl (i := ga w) hga dX5_step_220 (fun H locs hP hD hS => ?_)
    have hP : va_P D mgCl (wMod ct b (real) (kept) (copied) (upd (reg) (ga w) (((reg) (ga w)) - ((reg) (gb w)))) (written) (want) (left) (told) (pc) (ph) (rd) (th) (lm) (shows) (time) (since)) H := hP
    have hD : va_D A (wMod ct b (real) (kept) (copied) (upd (reg) (ga w) (((reg) (ga w)) - ((reg) (gb w)))) (written) (want) (left) (told) (pc) (ph) (rd) (th) (lm) (shows) (time) (since)) := hD
    refine lv_goto (tgt := 296) hx hb dX5_step_221 (by decide) ?_
    refine lv_aload_n hx hb dX5_step_296 rfl (lv_at hl 6 rfl) ?_
    refine lv_iload hx hb dX5_step_297 (lv_at hl 0 rfl) ?_
    refine va_put (D := D) (ci := 5) (v := .int (nI ((pc + 1) % 64))) (ty := .int) (C := RX5) (T := TX5) (N := 16) hx hb hts in_X5 tyX5 tyX5_ok nmX5 hown hC.1 hP hD hS 0 rfl rfl 8 (by decide) (hts _ q248) (fun _ h9 => h9) rfl (by decide +kernel) rfl rfl (Nat.le_of_ble_eq_true rfl) dX5_step_299 (fun H locs hP hD hS => ?_)
    have hP : va_P D mgCl (wMod ct b (real) (kept) (copied) (upd (reg) (ga w) (((reg) (ga w)) - ((reg) (gb w)))) (written) (want) (left) (told) ((pc + 1) % 64) (ph) (rd) (th) (lm) (shows) (time) (since)) H := hP
    have hD : va_D A (wMod ct b (real) (kept) (copied) (upd (reg) (ga w) (((reg) (ga w)) - ((reg) (gb w)))) (written) (want) (left) (told) ((pc + 1) % 64) (ph) (rd) (th) (lm) (shows) (time) (since)) := hD
    exact mg_vret hx hb hr hlocks hP hD hS dX5_step_302
  · refine mg_top (y := nI (6)) (by rw [ho]) ?_
    refine lv_tableIn (off := 164) (tgt := 224) hx hb dX5_step_60 (by decide) (by decide) (by decide) (by decide) ?_
    refine lv_aload_n hx hb dX5_step_224 rfl (lv_at hl 6 rfl) ?_
    refine va_get (D := D) (ci := 5) (v := .ref (b 4)) (C := RX5) (T := TX5) (N := 16) hx hb hts in_X5 hown hC.1 hP 0 rfl rfl 3 (by decide) (hts _ q243) (fun _ h9 => h9) rfl dX5_step_225 ?_
    refine lv_iload_n hx hb dX5_step_228 rfl (lv_at hl 4 rfl) ?_
    refine mg_iald hx hb hC.1 hP 4 rfl (i := ga w) hga dX5_step_229 ?_
    refine lv_if_eq (tgt := 296) hx hb dX5_step_230 (by decide) (fun cz => ?_) (fun cz => ?_)
    · have eg : mst (real, reg, told, pc, shows, time, written) = (real, reg, told, (pc + 1) % 64, shows, time, written) := by simp only [mst, hgw, ho, cz, if_true]
      rw [eg]
      refine lv_aload_n hx hb dX5_step_296 rfl (lv_at hl 6 rfl) ?_
      refine lv_iload hx hb dX5_step_297 (lv_at hl 0 rfl) ?_
      refine va_put (D := D) (ci := 5) (v := .int (nI ((pc + 1) % 64))) (ty := .int) (C := RX5) (T := TX5) (N := 16) hx hb hts in_X5 tyX5 tyX5_ok nmX5 hown hC.1 hP hD hS 0 rfl rfl 8 (by decide) (hts _ q248) (fun _ h9 => h9) rfl (by decide +kernel) rfl rfl (Nat.le_of_ble_eq_true rfl) dX5_step_299 (fun H locs hP hD hS => ?_)
      have hP : va_P D mgCl (wMod ct b (real) (kept) (copied) (reg) (written) (want) (left) (told) ((pc + 1) % 64) (ph) (rd) (th) (lm) (shows) (time) (since)) H := hP
      have hD : va_D A (wMod ct b (real) (kept) (copied) (reg) (written) (want) (left) (told) ((pc + 1) % 64) (ph) (rd) (th) (lm) (shows) (time) (since)) := hD
      exact mg_vret hx hb hr hlocks hP hD hS dX5_step_302
    · have eg : mst (real, reg, told, pc, shows, time, written) = (real, reg, told, gk w % 64, shows, time, written) := by simp only [mst, hgw, ho, cz, if_false]
      rw [eg]
      refine lv_iload hx hb dX5_step_233 (lv_at hl 2 rfl) ?_
      refine lv_bipush (v := nI (63)) hx hb dX5_step_235 (by decide) ?_
      refine lv_iand hx hb dX5_step_237 ?_
      refine mg_top (y := nI (gk w % 64)) (n63_eq (by omega)) ?_
      refine lv_istore (lv' := [(6, .int (nI (gk w % 64))), (5, .int (nI (gat reg w))), (4, .int (nI (gk w))), (3, .int (nI (gb w))), (2, .int (nI (ga w))), (1, .int (w)), (0, .ref (b 0))]) hx hb dX5_step_238 hl (by decide) rfl (fun ls hl => ?_)
      refine lv_goto (tgt := 296) hx hb dX5_step_240 (by decide) ?_
      refine lv_aload_n hx hb dX5_step_296 rfl (lv_at hl 6 rfl) ?_
      refine lv_iload hx hb dX5_step_297 (lv_at hl 0 rfl) ?_
      refine va_put (D := D) (ci := 5) (v := .int (nI (gk w % 64))) (ty := .int) (C := RX5) (T := TX5) (N := 16) hx hb hts in_X5 tyX5 tyX5_ok nmX5 hown hC.1 hP hD hS 0 rfl rfl 8 (by decide) (hts _ q248) (fun _ h9 => h9) rfl (by decide +kernel) rfl rfl (Nat.le_of_ble_eq_true rfl) dX5_step_299 (fun H locs hP hD hS => ?_)
      have hP : va_P D mgCl (wMod ct b (real) (kept) (copied) (reg) (written) (want) (left) (told) (gk w % 64) (ph) (rd) (th) (lm) (shows) (time) (since)) H := hP
      have hD : va_D A (wMod ct b (real) (kept) (copied) (reg) (written) (want) (left) (told) (gk w % 64) (ph) (rd) (th) (lm) (shows) (time) (since)) := hD
      exact mg_vret hx hb hr hlocks hP hD hS dX5_step_302
  · have eg : mst (real, reg, told, pc, shows, time, written) = (real, reg, upd (shU told 0) 0 (reg (ga w)), (pc + 1) % 64, shows + 1, time, written) := by simp only [mst, hgw, ho]
    rw [eg]
    refine mg_top (y := nI (7)) (by rw [ho]) ?_
    refine lv_tableOut (tgt := 243) hx hb dX5_step_60 (by decide) (by decide) ?_
    refine lv_bipush (v := nI (7)) hx hb dX5_step_243 (by decide) ?_
    refine lv_istore (lv' := [(7, .int (nI (7))), (6, .int (nI ((pc + 1) % 64))), (5, .int (nI (gat reg w))), (4, .int (nI (gk w))), (3, .int (nI (gb w))), (2, .int (nI (ga w))), (1, .int (w)), (0, .ref (b 0))]) hx hb dX5_step_245 hl (by decide) rfl (fun ls hl => ?_)
    have e_2 : wMod ct b (real) (kept) (copied) (reg) (written) (want) (left) (told) (pc) (ph) (rd) (th) (lm) (shows) (time) (since) = wMod ct b (real) (kept) (copied) (reg) (written) (want) (left) (shU told (7 - (0))) (pc) (ph) (rd) (th) (lm) (shows) (time) (since) := by rw [show 7 - 0 = 7 from rfl, shU_7]
    rw [e_2] at hP hD
    refine mg_loop (fun j H locs ls => va_P D mgCl (wMod ct b (real) (kept) (copied) (reg) (written) (want) (left) (shU told (7 - (j))) (pc) (ph) (rd) (th) (lm) (shows) (time) (since)) H ∧ va_D A (wMod ct b (real) (kept) (copied) (reg) (written) (want) (left) (shU told (7 - (j))) (pc) (ph) (rd) (th) (lm) (shows) (time) (since)) ∧ va_S A s.heap H locs ∧ lv_has ls 8 [(7, .int (nI (7 - (j)))), (6, .int (nI ((pc + 1) % 64))), (5, .int (nI (gat reg w))), (4, .int (nI (gk w))), (3, .int (nI (gb w))), (2, .int (nI (ga w))), (1, .int (w)), (0, .ref (b 0))]) (7) ?_ 0 (by decide) ⟨hP, hD, hS, lv_sub hl [0, 1, 2, 3, 4, 5, 6, 7] rfl⟩
    intro j H locs ls hj hI ihj
    obtain ⟨hP, hD, hS, hl⟩ := hI
    refine lv_iload hx hb dX5_step_247 (lv_at hl 0 rfl) ?_
    refine lv_if_le (tgt := 274) hx hb dX5_step_249 (by decide) (fun cq => ?_) (fun cq => ?_)
    · have hj7 : j = 7 := by rw [c_le0 (by omega)] at cq; omega
      subst hj7
      have hP : va_P D mgCl (wMod ct b (real) (kept) (copied) (reg) (written) (want) (left) (shU told 0) (pc) (ph) (rd) (th) (lm) (shows) (time) (since)) H := hP
      have hD : va_D A (wMod ct b (real) (kept) (copied) (reg) (written) (want) (left) (shU told 0) (pc) (ph) (rd) (th) (lm) (shows) (time) (since)) := hD
      refine lv_aload_n hx hb dX5_step_274 rfl (lv_at hl 7 rfl) ?_
      refine va_get (D := D) (ci := 5) (v := .ref (b 8)) (C := RX5) (T := TX5) (N := 16) hx hb hts in_X5 hown hC.1 hP 0 rfl rfl 7 (by decide) (hts _ q247) (fun _ h9 => h9) rfl dX5_step_275 ?_
      refine lv_iconst (v := nI (0)) hx hb dX5_step_278 (by decide) ?_
      refine lv_aload_n hx hb dX5_step_279 rfl (lv_at hl 7 rfl) ?_
      refine va_get (D := D) (ci := 5) (v := .ref (b 4)) (C := RX5) (T := TX5) (N := 16) hx hb hts in_X5 hown hC.1 hP 0 rfl rfl 3 (by decide) (hts _ q243) (fun _ h9 => h9) rfl dX5_step_280 ?_
      refine lv_iload_n hx hb dX5_step_283 rfl (lv_at hl 5 rfl) ?_
      refine mg_iald hx hb hC.1 hP 4 rfl (i := ga w) hga dX5_step_284 ?_
      refine mg_iast hx hb hC.1 hP hD hS 8 rfl (i := 0) (by decide) dX5_step_285 (fun H locs hP hD hS => ?_)
      have hP : va_P D mgCl (wMod ct b (real) (kept) (copied) (reg) (written) (want) (left) (upd (shU told 0) (0) ((reg) (ga w))) (pc) (ph) (rd) (th) (lm) (shows) (time) (since)) H := hP
      have hD : va_D A (wMod ct b (real) (kept) (copied) (reg) (written) (want) (left) (upd (shU told 0) (0) ((reg) (ga w))) (pc) (ph) (rd) (th) (lm) (shows) (time) (since)) := hD
      refine lv_aload_n hx hb dX5_step_286 rfl (lv_at hl 7 rfl) ?_
      refine lv_aload_n hx hb dX5_step_287 rfl (lv_at hl 7 rfl) ?_
      refine va_get (D := D) (ci := 5) (v := .int (nI (shows))) (C := RX5) (T := TX5) (N := 16) hx hb hts in_X5 hown hC.1 hP 0 rfl rfl 13 (by decide) (hts _ q253) (fun _ h9 => h9) rfl dX5_step_288 ?_
      refine lv_iconst (v := nI (1)) hx hb dX5_step_291 (by decide) ?_
      refine lv_iadd hx hb dX5_step_292 ?_
      refine mg_top (y := nI (shows + 1)) (nI_add _ _) ?_
      refine va_put (D := D) (ci := 5) (v := .int (nI (shows + 1))) (ty := .int) (C := RX5) (T := TX5) (N := 16) hx hb hts in_X5 tyX5 tyX5_ok nmX5 hown hC.1 hP hD hS 0 rfl rfl 13 (by decide) (hts _ q253) (fun _ h9 => h9) rfl (by decide +kernel) rfl rfl (Nat.le_of_ble_eq_true rfl) dX5_step_293 (fun H locs hP hD hS => ?_)
      have hP : va_P D mgCl (wMod ct b (real) (kept) (copied) (reg) (written) (want) (left) (upd (shU told 0) (0) ((reg) (ga w))) (pc) (ph) (rd) (th) (lm) (shows + 1) (time) (since)) H := hP
      have hD : va_D A (wMod ct b (real) (kept) (copied) (reg) (written) (want) (left) (upd (shU told 0) (0) ((reg) (ga w))) (pc) (ph) (rd) (th) (lm) (shows + 1) (time) (since)) := hD
      refine lv_aload_n hx hb dX5_step_296 rfl (lv_at hl 7 rfl) ?_
      refine lv_iload hx hb dX5_step_297 (lv_at hl 1 rfl) ?_
      refine va_put (D := D) (ci := 5) (v := .int (nI ((pc + 1) % 64))) (ty := .int) (C := RX5) (T := TX5) (N := 16) hx hb hts in_X5 tyX5 tyX5_ok nmX5 hown hC.1 hP hD hS 0 rfl rfl 8 (by decide) (hts _ q248) (fun _ h9 => h9) rfl (by decide +kernel) rfl rfl (Nat.le_of_ble_eq_true rfl) dX5_step_299 (fun H locs hP hD hS => ?_)
      have hP : va_P D mgCl (wMod ct b (real) (kept) (copied) (reg) (written) (want) (left) (upd (shU told 0) (0) ((reg) (ga w))) ((pc + 1) % 64) (ph) (rd) (th) (lm) (shows + 1) (time) (since)) H := hP
      have hD : va_D A (wMod ct b (real) (kept) (copied) (reg) (written) (want) (left) (upd (shU told 0) (0) ((reg) (ga w))) ((pc + 1) % 64) (ph) (rd) (th) (lm) (shows + 1) (time) (since)) := hD
      exact mg_vret hx hb hr hlocks hP hD hS dX5_step_302
    · have hj7 : j < 7 := by rw [c_le0 (by omega)] at cq; omega
      refine lv_aload_n hx hb dX5_step_252 rfl (lv_at hl 7 rfl) ?_
      refine va_get (D := D) (ci := 5) (v := .ref (b 8)) (C := RX5) (T := TX5) (N := 16) hx hb hts in_X5 hown hC.1 hP 0 rfl rfl 7 (by decide) (hts _ q247) (fun _ h9 => h9) rfl dX5_step_253 ?_
      refine lv_iload hx hb dX5_step_256 (lv_at hl 0 rfl) ?_
      refine lv_aload_n hx hb dX5_step_258 rfl (lv_at hl 7 rfl) ?_
      refine va_get (D := D) (ci := 5) (v := .ref (b 8)) (C := RX5) (T := TX5) (N := 16) hx hb hts in_X5 hown hC.1 hP 0 rfl rfl 7 (by decide) (hts _ q247) (fun _ h9 => h9) rfl dX5_step_259 ?_
      refine lv_iload hx hb dX5_step_262 (lv_at hl 0 rfl) ?_
      refine lv_iconst (v := nI (1)) hx hb dX5_step_264 (by decide) ?_
      refine lv_isub hx hb dX5_step_265 ?_
      refine mg_top (y := nI (7 - (j) - 1)) (pk_sub (by omega)) ?_
      refine mg_iald hx hb hC.1 hP 8 rfl (i := 7 - (j) - 1) (by omega) dX5_step_266 ?_
      refine mg_iast hx hb hC.1 hP hD hS 8 rfl (i := 7 - (j)) (by omega) dX5_step_267 (fun H locs hP hD hS => ?_)
      have hP : va_P D mgCl (wMod ct b (real) (kept) (copied) (reg) (written) (want) (left) (upd (shU told (7 - (j))) (7 - (j)) ((shU told (7 - (j))) (7 - (j) - 1))) (pc) (ph) (rd) (th) (lm) (shows) (time) (since)) H := hP
      have hD : va_D A (wMod ct b (real) (kept) (copied) (reg) (written) (want) (left) (upd (shU told (7 - (j))) (7 - (j)) ((shU told (7 - (j))) (7 - (j) - 1))) (pc) (ph) (rd) (th) (lm) (shows) (time) (since)) := hD
      refine lv_iinc (v := nI (7 - (j + 1))) (lv' := [(7, .int (nI (7 - (j + 1)))), (6, .int (nI ((pc + 1) % 64))), (5, .int (nI (gat reg w))), (4, .int (nI (gk w))), (3, .int (nI (gb w))), (2, .int (nI (ga w))), (1, .int (w)), (0, .ref (b 0))]) hx hb dX5_step_268 hl (k := 0) rfl (by rw [show Int32.ofInt (-1) = -1 from by decide, sb_m1 (by omega)]; congr 1) (by decide) rfl (fun ls hl => ?_)
      refine lv_goto (tgt := 247) hx hb dX5_step_271 (by decide) ?_
      have e_3 : wMod ct b (real) (kept) (copied) (reg) (written) (want) (left) (upd (shU told (7 - (j))) (7 - (j)) ((shU told (7 - (j))) (7 - (j) - 1))) (pc) (ph) (rd) (th) (lm) (shows) (time) (since) = wMod ct b (real) (kept) (copied) (reg) (written) (want) (left) (shU told (7 - (j + 1))) (pc) (ph) (rd) (th) (lm) (shows) (time) (since) := by rw [show 7 - j = (7 - (j + 1)) + 1 by omega, show (7 - (j + 1)) + 1 - 1 = 7 - (j + 1) by omega, shU_s told (by omega)]
      rw [e_3] at hP hD
      exact ihj hj7 _ _ _ ⟨hP, hD, hS, lv_sub hl [0, 1, 2, 3, 4, 5, 6, 7] rfl⟩

set_option maxHeartbeats 4000000 in
set_option maxRecDepth 100000 in
/-- run(n) -/
theorem d_run (l : Launch) (D : va_G) (ct ad b : Nat → Nat) (τ : MT) (kept copied : Nat → Int32) (want left : Nat → Bool) (ph : Nat) (rd th lm : Int32) (since : Nat) (n : Nat) (hn : n ≤ 1000) (hph : ph ≤ 3 ∧ ph ≠ 2) (hpc : τ.2.2.2.1 < 64) : MI l yX5_run cX5_run 3 (some .int) (rmN 1 30) D ct ad [.ref (b 0), .int (nI n)] (wMT ct b (τ) (kept) (copied) (want) (left) (ph) (rd) (th) (lm) (since)) (wMT ct b (miter n τ) (kept) (copied) (want) (left) (ph) (rd) (th) (lm) (since)) (nI n) := by
  refine mg_MI (by decide) (Nat.le_of_ble_eq_true rfl) ?_
  intro p e s m below meth c A hx hb hr hlocks hml hown hnm hts hC hP hD hA hS ls hl
  have hown : s.vm.findClass RX5 = some m.cls := hown
  have hl : lv_has ls 3 [(0, .ref (b 0)), (1, .int (nI (n)))] := hl
  refine lv_iload_n hx hb dX5_run_0 rfl (lv_at hl 1 rfl) ?_
  refine lv_if_lt (tgt := 19) hx hb dX5_run_1 (by decide) (fun cq => absurd cq (nI_pos (by omega))) (fun _ => ?_)
  refine lv_iload_n hx hb dX5_run_4 rfl (lv_at hl 1 rfl) ?_
  refine lv_sipush (v := nI (1000)) hx hb dX5_run_5 (by decide) ?_
  refine lv_icmp_gt (tgt := 19) hx hb dX5_run_8 (by decide) (fun cq => absurd cq (by first | decide | (rw [nI_leI (by omega) (by omega)]; omega) | (rw [nI_ltI (by omega) (by omega)]; omega) | exact nI_pos (by omega) | (rw [nI_eq (by omega) (by omega)]; omega) | (rw [c_eq0 (by omega)]; omega) | (rw [c_lt0]; omega) | (rw [c_nlt (by omega)]; omega) | (rw [c_ltn (by omega)]; omega) | (rw [c_nle (by omega)]; omega) | (rw [c_len (by omega)]; omega))) (fun _ => ?_)
  refine lv_aload_n hx hb dX5_run_11 rfl (lv_at hl 0 rfl) ?_
  refine va_get (D := D) (ci := 5) (v := .int (nI (ph))) (C := RX5) (T := TX5) (N := 16) hx hb hts in_X5 hown hC.1 hP 0 rfl rfl 9 (by decide) (hts _ q249) (fun _ h9 => h9) rfl dX5_run_12 ?_
  refine lv_iconst (v := nI (2)) hx hb dX5_run_15 (by decide) ?_
  refine lv_icmp_ne (tgt := 21) hx hb dX5_run_16 (by decide) (fun _ => ?_) (fun cq => absurd cq (by rw [nI_eq (by omega) (by omega)]; omega))
  refine lv_iconst (v := nI (0)) hx hb dX5_run_21 (by decide) ?_
  refine lv_istore_n (lv' := [(2, .int (nI (0))), (0, .ref (b 0)), (1, .int (nI (n)))]) hx hb dX5_run_22 rfl hl (by decide) rfl (fun ls hl => ?_)
  have e_4 : wMT ct b (τ) (kept) (copied) (want) (left) (ph) (rd) (th) (lm) (since) = wMT ct b (miter (0) τ) (kept) (copied) (want) (left) (ph) (rd) (th) (lm) (since) := by rfl
  rw [e_4] at hP hD
  refine mg_loop (fun i H locs ls => va_P D mgCl (wMT ct b (miter (i) τ) (kept) (copied) (want) (left) (ph) (rd) (th) (lm) (since)) H ∧ va_D A (wMT ct b (miter (i) τ) (kept) (copied) (want) (left) (ph) (rd) (th) (lm) (since)) ∧ va_S A s.heap H locs ∧ lv_has ls 3 [(2, .int (nI (i))), (0, .ref (b 0)), (1, .int (nI (n)))]) (n) ?_ 0 (Nat.zero_le _) ⟨hP, hD, hS, lv_sub hl [0, 1, 2] rfl⟩
  intro i H locs ls hi hI ihi
  obtain ⟨hP, hD, hS, hl⟩ := hI
  refine lv_iload_n hx hb dX5_run_23 rfl (lv_at hl 0 rfl) ?_
  refine lv_iload_n hx hb dX5_run_24 rfl (lv_at hl 2 rfl) ?_
  refine lv_icmp_ge (tgt := 38) hx hb dX5_run_25 (by decide) (fun cq => ?_) (fun cq => ?_)
  · have hin : i = n := by rw [nI_leI (by omega) (by omega)] at cq; omega
    subst hin
    refine lv_iload_n hx hb dX5_run_38 rfl (lv_at hl 2 rfl) ?_
    exact mg_iret (ty := .int) hx hb hr hlocks (rfl) hP hD hS (rfl) dX5_run_39
  · have hin : i < n := by rw [nI_leI (by omega) (by omega)] at cq; omega
    refine lv_aload_n hx hb dX5_run_28 rfl (lv_at hl 1 rfl) ?_
    refine mg_afterV (w1 := wMT ct b (miter (i + 1) τ) (kept) (copied) (want) (left) (ph) (rd) (th) (lm) (since)) (wr := []) (w2 := wMT ct b (miter (i + 1) τ) (kept) (copied) (want) (left) (ph) (rd) (th) (lm) (since)) (va_runV (As := []) (rest := []) ⟨hx, hb, hml, hown, hts⟩ (d_step l D ct ad b (miter i τ) kept copied want left ph rd th lm since (miter_ok τ hpc i).1 _) (cwV 0 hts (lw_V q302 q304 qs0 q10 q305) rfl rfl rfl (by decide +kernel) ⟨Nat.le_of_ble_eq_true rfl, Nat.le_of_ble_eq_true rfl⟩) (mg_preV hC hP hD hS hA (wc := wMT ct b (miter (i) τ) (kept) (copied) (want) (left) (ph) (rd) (th) (lm) (since)) [0, 1, 2, 3, 4, 5, 6, 7, 8] rfl (by decide) (ci := 5) (q0 := 0) rfl rfl []) rfl rfl hl.1 rfl (lv_room (Nat.le_of_ble_eq_true rfl)) dX5_run_29 ⟨Nat.zero_le _, Nat.zero_le _⟩) hP hD hS hA [0, 1, 2, 3, 4, 5, 6, 7, 8] [] [0, 1, 2, 3, 4, 5, 6, 7, 8] rfl rfl (by decide) (by decide) rfl (by decide) (fun H locs hP hD hS => ?_)
    refine lv_iinc (v := nI (i + 1)) (lv' := [(2, .int (nI (i + 1))), (0, .ref (b 0)), (1, .int (nI (n)))]) hx hb dX5_run_32 hl (k := 0) rfl (by rw [show Int32.ofInt 1 = nI 1 from by decide]; exact nI_add _ _) (by decide) rfl (fun ls hl => ?_)
    refine lv_goto (tgt := 23) hx hb dX5_run_35 (by decide) ?_
    exact ihi hin _ _ _ ⟨hP, hD, hS, lv_sub hl [0, 1, 2] rfl⟩

set_option maxHeartbeats 4000000 in
set_option maxRecDepth 100000 in
/-- run(x), refused -/
theorem d_runNo (l : Launch) (D : va_G) (ct ad b : Nat → Nat) (real kept copied reg : Nat → Int32) (written : Nat → Nat) (want left : Nat → Bool) (told : Nat → Int32) (pc ph : Nat) (rd th lm : Int32) (shows time since : Nat) (x : Int32) (hph : ph ≤ 3) (hno : x.toInt < 0 ∨ 1000 < x.toInt ∨ ph = 2) : MI l yX5_run cX5_run 3 (some .int) (rmN 1 30) D ct ad [.ref (b 0), .int x] (wMod ct b (real) (kept) (copied) (reg) (written) (want) (left) (told) (pc) (ph) (rd) (th) (lm) (shows) (time) (since)) (wMod ct b (real) (kept) (copied) (reg) (written) (want) (left) (told) (pc) (ph) (rd) (th) (lm) (shows) (time) (since)) (nI 0) := by
  refine mg_MI (by decide) (Nat.le_of_ble_eq_true rfl) ?_
  intro p e s m below meth c A hx hb hr hlocks hml hown hnm hts hC hP hD hA hS ls hl
  have hown : s.vm.findClass RX5 = some m.cls := hown
  have hl : lv_has ls 3 [(0, .ref (b 0)), (1, .int (x))] := hl
  refine lv_iload_n hx hb dX5_run_0 rfl (lv_at hl 1 rfl) ?_
  refine lv_if_lt (tgt := 19) hx hb dX5_run_1 (by decide) (fun c1 => ?_) (fun c1 => ?_)
  · refine lv_iconst (v := nI (0)) hx hb dX5_run_19 (by decide) ?_
    exact mg_iret (ty := .int) hx hb hr hlocks (rfl) hP hD hS (rfl) dX5_run_20
  · rw [c_lt0] at c1
    refine lv_iload_n hx hb dX5_run_4 rfl (lv_at hl 1 rfl) ?_
    refine lv_sipush (v := nI (1000)) hx hb dX5_run_5 (by decide) ?_
    refine lv_icmp_gt (tgt := 19) hx hb dX5_run_8 (by decide) (fun c2 => ?_) (fun c2 => ?_)
    · refine lv_iconst (v := nI (0)) hx hb dX5_run_19 (by decide) ?_
      exact mg_iret (ty := .int) hx hb hr hlocks (rfl) hP hD hS (rfl) dX5_run_20
    · rw [c_nlt (by decide)] at c2
      refine lv_aload_n hx hb dX5_run_11 rfl (lv_at hl 0 rfl) ?_
      refine va_get (D := D) (ci := 5) (v := .int (nI (ph))) (C := RX5) (T := TX5) (N := 16) hx hb hts in_X5 hown hC.1 hP 0 rfl rfl 9 (by decide) (hts _ q249) (fun _ h9 => h9) rfl dX5_run_12 ?_
      refine lv_iconst (v := nI (2)) hx hb dX5_run_15 (by decide) ?_
      refine lv_icmp_ne (tgt := 21) hx hb dX5_run_16 (by decide) (fun cq => absurd (by rw [nI_eq (by omega) (by omega)]; omega) cq) (fun _ => ?_)
      refine lv_iconst (v := nI (0)) hx hb dX5_run_19 (by decide) ?_
      exact mg_iret (ty := .int) hx hb hr hlocks (rfl) hP hD hS (rfl) dX5_run_20
end
section
/-! MODULE MigratorModel: copy (written by gen/gen_model.py) -/
set_option maxRecDepth 100000
set_option maxHeartbeats 4000000 in
set_option maxRecDepth 100000 in
/-- copy() at home or moved -/
theorem d_copyNo (l : Launch) (D : va_G) (ct ad b : Nat → Nat) (real kept copied reg : Nat → Int32) (written : Nat → Nat) (want left : Nat → Bool) (told : Nat → Int32) (pc ph : Nat) (rd th lm : Int32) (shows time since : Nat) (hph : ph = 0 ∨ ph = 3) : MI l yX5_copy cX5_copy 3 (some .int) (rmN 1 30) D ct ad [.ref (b 0)] (wMod ct b (real) (kept) (copied) (reg) (written) (want) (left) (told) (pc) (ph) (rd) (th) (lm) (shows) (time) (since)) (wMod ct b (real) (kept) (copied) (reg) (written) (want) (left) (told) (pc) (ph) (rd) (th) (lm) (shows) (time) (since)) (-1) := by
  refine mg_MI (by decide) (Nat.le_of_ble_eq_true rfl) ?_
  intro p e s m below meth c A hx hb hr hlocks hml hown hnm hts hC hP hD hA hS ls hl
  have hown : s.vm.findClass RX5 = some m.cls := hown
  have hl : lv_has ls 3 [(0, .ref (b 0))] := hl
  refine lv_aload_n hx hb dX5_copy_0 rfl (lv_at hl 0 rfl) ?_
  refine va_get (D := D) (ci := 5) (v := .int (nI (ph))) (C := RX5) (T := TX5) (N := 16) hx hb hts in_X5 hown hC.1 hP 0 rfl rfl 9 (by decide) (hts _ q249) (fun _ h9 => h9) rfl dX5_copy_1 ?_
  refine lv_if_eq (tgt := 15) hx hb dX5_copy_4 (by decide) (fun c1 => ?_) (fun c1 => ?_)
  · refine lv_iconst (v := -1) hx hb dX5_copy_15 (by decide) ?_
    exact mg_iret (ty := .int) hx hb hr hlocks (rfl) hP hD hS (rfl) dX5_copy_16
  · rw [c_eq0 (by omega)] at c1
    refine lv_aload_n hx hb dX5_copy_7 rfl (lv_at hl 0 rfl) ?_
    refine va_get (D := D) (ci := 5) (v := .int (nI (ph))) (C := RX5) (T := TX5) (N := 16) hx hb hts in_X5 hown hC.1 hP 0 rfl rfl 9 (by decide) (hts _ q249) (fun _ h9 => h9) rfl dX5_copy_8 ?_
    refine lv_iconst (v := nI (3)) hx hb dX5_copy_11 (by decide) ?_
    refine lv_icmp_ne (tgt := 17) hx hb dX5_copy_12 (by decide) (fun cq => absurd (by rw [nI_eq (by omega) (by omega)]; omega) cq) (fun _ => ?_)
    refine lv_iconst (v := -1) hx hb dX5_copy_15 (by decide) ?_
    exact mg_iret (ty := .int) hx hb hr hlocks (rfl) hP hD hS (rfl) dX5_copy_16

set_option maxHeartbeats 4000000 in
set_option maxRecDepth 100000 in
/-- copy(): page q is the first that is wanted -/
theorem d_copyPage (l : Launch) (D : va_G) (ct ad b : Nat → Nat) (real kept copied reg : Nat → Int32) (written : Nat → Nat) (want left : Nat → Bool) (told : Nat → Int32) (pc ph : Nat) (rd th lm : Int32) (shows time since : Nat) (hph : ph = 1 ∨ ph = 2) (q : Nat) (hq : q < 8) (ht : want q = true) (hf : ∀ j, j < q → want j = false) : MI l yX5_copy cX5_copy 3 (some .int) (rmN 1 30) D ct ad [.ref (b 0)] (wMod ct b (real) (kept) (copied) (reg) (written) (want) (left) (told) (pc) (ph) (rd) (th) (lm) (shows) (time) (since)) (wMod ct b (real) (kept) (pgU copied real q 8) (reg) (written) (va_up want q false) (left) (told) (pc) (ph) (rd) (th) (lm) (shows) (time) (since)) (nI q) := by
  refine mg_MI (by decide) (Nat.le_of_ble_eq_true rfl) ?_
  intro p e s m below meth c A hx hb hr hlocks hml hown hnm hts hC hP hD hA hS ls hl
  have hown : s.vm.findClass RX5 = some m.cls := hown
  have hl : lv_has ls 3 [(0, .ref (b 0))] := hl
  refine lv_aload_n hx hb dX5_copy_0 rfl (lv_at hl 0 rfl) ?_
  refine va_get (D := D) (ci := 5) (v := .int (nI (ph))) (C := RX5) (T := TX5) (N := 16) hx hb hts in_X5 hown hC.1 hP 0 rfl rfl 9 (by decide) (hts _ q249) (fun _ h9 => h9) rfl dX5_copy_1 ?_
  refine lv_if_eq (tgt := 15) hx hb dX5_copy_4 (by decide) (fun cq => absurd cq (by rw [c_eq0 (by omega)]; omega)) (fun _ => ?_)
  refine lv_aload_n hx hb dX5_copy_7 rfl (lv_at hl 0 rfl) ?_
  refine va_get (D := D) (ci := 5) (v := .int (nI (ph))) (C := RX5) (T := TX5) (N := 16) hx hb hts in_X5 hown hC.1 hP 0 rfl rfl 9 (by decide) (hts _ q249) (fun _ h9 => h9) rfl dX5_copy_8 ?_
  refine lv_iconst (v := nI (3)) hx hb dX5_copy_11 (by decide) ?_
  refine lv_icmp_ne (tgt := 17) hx hb dX5_copy_12 (by decide) (fun _ => ?_) (fun cq => absurd cq (by rw [nI_eq (by omega) (by omega)]; omega))
  refine lv_iconst (v := nI (0)) hx hb dX5_copy_17 (by decide) ?_
  refine lv_istore_n (lv' := [(1, .int (nI (0))), (0, .ref (b 0))]) hx hb dX5_copy_18 rfl hl (by decide) rfl (fun ls hl => ?_)
  refine mg_loop (fun i H locs ls => va_P D mgCl (wMod ct b (real) (kept) (copied) (reg) (written) (want) (left) (told) (pc) (ph) (rd) (th) (lm) (shows) (time) (since)) H ∧ va_D A (wMod ct b (real) (kept) (copied) (reg) (written) (want) (left) (told) (pc) (ph) (rd) (th) (lm) (shows) (time) (since)) ∧ va_S A s.heap H locs ∧ lv_has ls 3 [(1, .int (nI (i))), (0, .ref (b 0))]) (q) ?_ 0 (Nat.zero_le _) ⟨hP, hD, hS, lv_sub hl [0, 1] rfl⟩
  intro i H locs ls hi hI ihi
  obtain ⟨hP, hD, hS, hl⟩ := hI
  refine lv_iload_n hx hb dX5_copy_19 rfl (lv_at hl 0 rfl) ?_
  refine lv_bipush (v := nI (8)) hx hb dX5_copy_20 (by decide) ?_
  refine lv_icmp_ge (tgt := 85) hx hb dX5_copy_22 (by decide) (fun cq => absurd cq (by rw [nI_leI (by decide) (by omega)]; omega)) (fun _ => ?_)
  refine lv_aload_n hx hb dX5_copy_25 rfl (lv_at hl 1 rfl) ?_
  refine va_get (D := D) (ci := 5) (v := .ref (b 6)) (C := RX5) (T := TX5) (N := 16) hx hb hts in_X5 hown hC.1 hP 0 rfl rfl 5 (by decide) (hts _ q245) (fun _ h9 => h9) rfl dX5_copy_26 ?_
  refine lv_iload_n hx hb dX5_copy_29 rfl (lv_at hl 0 rfl) ?_
  refine mg_zald hx hb hC.1 hP 6 rfl (i := i) (by omega) dX5_copy_30 ?_
  rcases Nat.lt_or_ge i q with hlt | hge
  · refine lv_if_eq (tgt := 79) hx hb dX5_copy_31 (by decide) (fun _ => ?_) (fun cq => absurd (by rw [hf i hlt]; rfl) cq)
    refine lv_iinc (v := nI (i + 1)) (lv' := [(1, .int (nI (i + 1))), (0, .ref (b 0))]) hx hb dX5_copy_79 hl (k := 0) rfl (by rw [show Int32.ofInt 1 = nI 1 from by decide]; exact nI_add _ _) (by decide) rfl (fun ls hl => ?_)
    refine lv_goto (tgt := 19) hx hb dX5_copy_82 (by decide) ?_
    exact ihi hlt _ _ _ ⟨hP, hD, hS, lv_sub hl [0, 1] rfl⟩
  · have hiq : i = q := by omega
    subst hiq
    refine lv_if_eq (tgt := 79) hx hb dX5_copy_31 (by decide) (fun cq => absurd cq (by rw [ht]; decide)) (fun _ => ?_)
    refine lv_iconst (v := nI (0)) hx hb dX5_copy_34 (by decide) ?_
    refine lv_istore_n (lv' := [(2, .int (nI (0))), (1, .int (nI (i))), (0, .ref (b 0))]) hx hb dX5_copy_35 rfl hl (by decide) rfl (fun ls hl => ?_)
    have e_5 : wMod ct b (real) (kept) (copied) (reg) (written) (want) (left) (told) (pc) (ph) (rd) (th) (lm) (shows) (time) (since) = wMod ct b (real) (kept) (pgU copied real i (0)) (reg) (written) (want) (left) (told) (pc) (ph) (rd) (th) (lm) (shows) (time) (since) := by rw [pgU_0]
    rw [e_5] at hP hD
    refine mg_loop (fun j H locs ls => va_P D mgCl (wMod ct b (real) (kept) (pgU copied real i (j)) (reg) (written) (want) (left) (told) (pc) (ph) (rd) (th) (lm) (shows) (time) (since)) H ∧ va_D A (wMod ct b (real) (kept) (pgU copied real i (j)) (reg) (written) (want) (left) (told) (pc) (ph) (rd) (th) (lm) (shows) (time) (since)) ∧ va_S A s.heap H locs ∧ lv_has ls 3 [(2, .int (nI (j))), (1, .int (nI (i))), (0, .ref (b 0))]) (8) ?_ 0 (by decide) ⟨hP, hD, hS, lv_sub hl [0, 1, 2] rfl⟩
    intro j H locs ls hj hI ihj
    obtain ⟨hP, hD, hS, hl⟩ := hI
    refine lv_iload_n hx hb dX5_copy_36 rfl (lv_at hl 0 rfl) ?_
    refine lv_bipush (v := nI (8)) hx hb dX5_copy_37 (by decide) ?_
    refine lv_icmp_ge (tgt := 70) hx hb dX5_copy_39 (by decide) (fun cq => ?_) (fun cq => ?_)
    · have hj8 : j = 8 := by rw [nI_leI (by decide) (by omega)] at cq; omega
      subst hj8
      refine lv_aload_n hx hb dX5_copy_70 rfl (lv_at hl 2 rfl) ?_
      refine va_get (D := D) (ci := 5) (v := .ref (b 6)) (C := RX5) (T := TX5) (N := 16) hx hb hts in_X5 hown hC.1 hP 0 rfl rfl 5 (by decide) (hts _ q245) (fun _ h9 => h9) rfl dX5_copy_71 ?_
      refine lv_iload_n hx hb dX5_copy_74 rfl (lv_at hl 1 rfl) ?_
      refine lv_iconst (v := nI (0)) hx hb dX5_copy_75 (by decide) ?_
      refine mg_zast hx hb hC.1 hP hD hS 6 rfl (i := i) (v := false) (by omega) dX5_copy_76 (fun H locs hP hD hS => ?_)
      have hP : va_P D mgCl (wMod ct b (real) (kept) (pgU copied real i (8)) (reg) (written) (va_up (want) (i) (false)) (left) (told) (pc) (ph) (rd) (th) (lm) (shows) (time) (since)) H := hP
      have hD : va_D A (wMod ct b (real) (kept) (pgU copied real i (8)) (reg) (written) (va_up (want) (i) (false)) (left) (told) (pc) (ph) (rd) (th) (lm) (shows) (time) (since)) := hD
      refine lv_iload_n hx hb dX5_copy_77 rfl (lv_at hl 1 rfl) ?_
      exact mg_iret (ty := .int) hx hb hr hlocks (rfl) hP hD hS (rfl) dX5_copy_78
    · have hj8 : j < 8 := by rw [nI_leI (by decide) (by omega)] at cq; omega
      refine lv_aload_n hx hb dX5_copy_42 rfl (lv_at hl 2 rfl) ?_
      refine va_get (D := D) (ci := 5) (v := .ref (b 3)) (C := RX5) (T := TX5) (N := 16) hx hb hts in_X5 hown hC.1 hP 0 rfl rfl 2 (by decide) (hts _ q242) (fun _ h9 => h9) rfl dX5_copy_43 ?_
      refine lv_bipush (v := nI (8)) hx hb dX5_copy_46 (by decide) ?_
      refine lv_iload_n hx hb dX5_copy_48 rfl (lv_at hl 1 rfl) ?_
      refine lv_imul hx hb dX5_copy_49 ?_
      refine mg_top (y := nI (8 * (i))) (pk_mul _ _) ?_
      refine lv_iload_n hx hb dX5_copy_50 rfl (lv_at hl 0 rfl) ?_
      refine lv_iadd hx hb dX5_copy_51 ?_
      refine mg_top (y := nI (8 * (i) + j)) (nI_add _ _) ?_
      refine lv_aload_n hx hb dX5_copy_52 rfl (lv_at hl 2 rfl) ?_
      refine va_get (D := D) (ci := 5) (v := .ref (b 1)) (C := RX5) (T := TX5) (N := 16) hx hb hts in_X5 hown hC.1 hP 0 rfl rfl 0 (by decide) (hts _ q240) (fun _ h9 => h9) rfl dX5_copy_53 ?_
      refine lv_bipush (v := nI (8)) hx hb dX5_copy_56 (by decide) ?_
      refine lv_iload_n hx hb dX5_copy_58 rfl (lv_at hl 1 rfl) ?_
      refine lv_imul hx hb dX5_copy_59 ?_
      refine mg_top (y := nI (8 * (i))) (pk_mul _ _) ?_
      refine lv_iload_n hx hb dX5_copy_60 rfl (lv_at hl 0 rfl) ?_
      refine lv_iadd hx hb dX5_copy_61 ?_
      refine mg_top (y := nI (8 * (i) + j)) (nI_add _ _) ?_
      refine mg_iald hx hb hC.1 hP 1 rfl (i := 8 * (i) + j) (by omega) dX5_copy_62 ?_
      refine mg_iast hx hb hC.1 hP hD hS 3 rfl (i := 8 * (i) + j) (by omega) dX5_copy_63 (fun H locs hP hD hS => ?_)
      have hP : va_P D mgCl (wMod ct b (real) (kept) (upd (pgU copied real i (j)) (8 * (i) + j) ((real) (8 * (i) + j))) (reg) (written) (want) (left) (told) (pc) (ph) (rd) (th) (lm) (shows) (time) (since)) H := hP
      have hD : va_D A (wMod ct b (real) (kept) (upd (pgU copied real i (j)) (8 * (i) + j) ((real) (8 * (i) + j))) (reg) (written) (want) (left) (told) (pc) (ph) (rd) (th) (lm) (shows) (time) (since)) := hD
      refine lv_iinc (v := nI (j + 1)) (lv' := [(2, .int (nI (j + 1))), (1, .int (nI (i))), (0, .ref (b 0))]) hx hb dX5_copy_64 hl (k := 0) rfl (by rw [show Int32.ofInt 1 = nI 1 from by decide]; exact nI_add _ _) (by decide) rfl (fun ls hl => ?_)
      refine lv_goto (tgt := 36) hx hb dX5_copy_67 (by decide) ?_
      have e_6 : wMod ct b (real) (kept) (upd (pgU copied real i (j)) (8 * (i) + j) ((real) (8 * (i) + j))) (reg) (written) (want) (left) (told) (pc) (ph) (rd) (th) (lm) (shows) (time) (since) = wMod ct b (real) (kept) (pgU copied real i (j + 1)) (reg) (written) (want) (left) (told) (pc) (ph) (rd) (th) (lm) (shows) (time) (since) := by rw [pgU_s copied real i j]
      rw [e_6] at hP hD
      exact ihj hj8 _ _ _ ⟨hP, hD, hS, lv_sub hl [0, 1, 2] rfl⟩

set_option maxHeartbeats 4000000 in
set_option maxRecDepth 100000 in
/-- copy(): stopped, nothing wanted -/
theorem d_copyMove (l : Launch) (D : va_G) (ct ad b : Nat → Nat) (real kept copied reg : Nat → Int32) (written : Nat → Nat) (want left : Nat → Bool) (told : Nat → Int32) (pc : Nat) (rd th lm : Int32) (shows time since : Nat) (hf : ∀ j, j < 8 → want j = false) : MI l yX5_copy cX5_copy 3 (some .int) (rmN 1 30) D ct ad [.ref (b 0)] (wMod ct b (real) (kept) (copied) (reg) (written) (want) (left) (told) (pc) (2) (rd) (th) (lm) (shows) (time) (since)) (wMod ct b (real) (cpU kept real 64) (copied) (reg) (written) (want) (left) (told) (pc) (3) (rd) (th) (lm) (shows) (time) (since)) (nI 34) := by
  refine mg_MI (by decide) (Nat.le_of_ble_eq_true rfl) ?_
  intro p e s m below meth c A hx hb hr hlocks hml hown hnm hts hC hP hD hA hS ls hl
  have hown : s.vm.findClass RX5 = some m.cls := hown
  have hl : lv_has ls 3 [(0, .ref (b 0))] := hl
  refine lv_aload_n hx hb dX5_copy_0 rfl (lv_at hl 0 rfl) ?_
  refine va_get (D := D) (ci := 5) (v := .int (nI (2))) (C := RX5) (T := TX5) (N := 16) hx hb hts in_X5 hown hC.1 hP 0 rfl rfl 9 (by decide) (hts _ q249) (fun _ h9 => h9) rfl dX5_copy_1 ?_
  refine lv_if_eq (tgt := 15) hx hb dX5_copy_4 (by decide) (fun cq => absurd cq (by decide)) (fun _ => ?_)
  refine lv_aload_n hx hb dX5_copy_7 rfl (lv_at hl 0 rfl) ?_
  refine va_get (D := D) (ci := 5) (v := .int (nI (2))) (C := RX5) (T := TX5) (N := 16) hx hb hts in_X5 hown hC.1 hP 0 rfl rfl 9 (by decide) (hts _ q249) (fun _ h9 => h9) rfl dX5_copy_8 ?_
  refine lv_iconst (v := nI (3)) hx hb dX5_copy_11 (by decide) ?_
  refine lv_icmp_ne (tgt := 17) hx hb dX5_copy_12 (by decide) (fun _ => ?_) (fun cq => absurd cq (by decide))
  refine lv_iconst (v := nI (0)) hx hb dX5_copy_17 (by decide) ?_
  refine lv_istore_n (lv' := [(1, .int (nI (0))), (0, .ref (b 0))]) hx hb dX5_copy_18 rfl hl (by decide) rfl (fun ls hl => ?_)
  refine mg_loop (fun i H locs ls => va_P D mgCl (wMod ct b (real) (kept) (copied) (reg) (written) (want) (left) (told) (pc) (2) (rd) (th) (lm) (shows) (time) (since)) H ∧ va_D A (wMod ct b (real) (kept) (copied) (reg) (written) (want) (left) (told) (pc) (2) (rd) (th) (lm) (shows) (time) (since)) ∧ va_S A s.heap H locs ∧ lv_has ls 3 [(1, .int (nI (i))), (0, .ref (b 0))]) (8) ?_ 0 (by decide) ⟨hP, hD, hS, lv_sub hl [0, 1] rfl⟩
  intro i H locs ls hi hI ihi
  obtain ⟨hP, hD, hS, hl⟩ := hI
  refine lv_iload_n hx hb dX5_copy_19 rfl (lv_at hl 0 rfl) ?_
  refine lv_bipush (v := nI (8)) hx hb dX5_copy_20 (by decide) ?_
  refine lv_icmp_ge (tgt := 85) hx hb dX5_copy_22 (by decide) (fun cq => ?_) (fun cq => ?_)
  · have hi8 : i = 8 := by rw [nI_leI (by decide) (by omega)] at cq; omega
    subst hi8
    refine lv_aload_n hx hb dX5_copy_85 rfl (lv_at hl 1 rfl) ?_
    refine va_get (D := D) (ci := 5) (v := .int (nI (2))) (C := RX5) (T := TX5) (N := 16) hx hb hts in_X5 hown hC.1 hP 0 rfl rfl 9 (by decide) (hts _ q249) (fun _ h9 => h9) rfl dX5_copy_86 ?_
    refine lv_iconst (v := nI (2)) hx hb dX5_copy_89 (by decide) ?_
    refine lv_icmp_ne (tgt := 127) hx hb dX5_copy_90 (by decide) (fun cq => absurd (by decide) cq) (fun _ => ?_)
    refine lv_aload_n hx hb dX5_copy_93 rfl (lv_at hl 1 rfl) ?_
    refine lv_iconst (v := nI (3)) hx hb dX5_copy_94 (by decide) ?_
    refine va_put (D := D) (ci := 5) (v := .int (nI (3))) (ty := .int) (C := RX5) (T := TX5) (N := 16) hx hb hts in_X5 tyX5 tyX5_ok nmX5 hown hC.1 hP hD hS 0 rfl rfl 9 (by decide) (hts _ q249) (fun _ h9 => h9) rfl (by decide +kernel) rfl rfl (Nat.le_of_ble_eq_true rfl) dX5_copy_95 (fun H locs hP hD hS => ?_)
    have hP : va_P D mgCl (wMod ct b (real) (kept) (copied) (reg) (written) (want) (left) (told) (pc) (3) (rd) (th) (lm) (shows) (time) (since)) H := hP
    have hD : va_D A (wMod ct b (real) (kept) (copied) (reg) (written) (want) (left) (told) (pc) (3) (rd) (th) (lm) (shows) (time) (since)) := hD
    refine lv_iconst (v := nI (0)) hx hb dX5_copy_98 (by decide) ?_
    refine lv_istore_n (lv' := [(1, .int (nI (0))), (0, .ref (b 0))]) hx hb dX5_copy_99 rfl hl (by decide) rfl (fun ls hl => ?_)
    have e_7 : wMod ct b (real) (kept) (copied) (reg) (written) (want) (left) (told) (pc) (3) (rd) (th) (lm) (shows) (time) (since) = wMod ct b (real) (cpU kept real (0)) (copied) (reg) (written) (want) (left) (told) (pc) (3) (rd) (th) (lm) (shows) (time) (since) := by rw [cpU_0]
    rw [e_7] at hP hD
    refine mg_loop (fun j H locs ls => va_P D mgCl (wMod ct b (real) (cpU kept real (j)) (copied) (reg) (written) (want) (left) (told) (pc) (3) (rd) (th) (lm) (shows) (time) (since)) H ∧ va_D A (wMod ct b (real) (cpU kept real (j)) (copied) (reg) (written) (want) (left) (told) (pc) (3) (rd) (th) (lm) (shows) (time) (since)) ∧ va_S A s.heap H locs ∧ lv_has ls 3 [(1, .int (nI (j))), (0, .ref (b 0))]) (64) ?_ 0 (by decide) ⟨hP, hD, hS, lv_sub hl [0, 1] rfl⟩
    intro j H locs ls hj hI ihj
    obtain ⟨hP, hD, hS, hl⟩ := hI
    refine lv_iload_n hx hb dX5_copy_100 rfl (lv_at hl 0 rfl) ?_
    refine lv_bipush (v := nI (64)) hx hb dX5_copy_101 (by decide) ?_
    refine lv_icmp_ge (tgt := 124) hx hb dX5_copy_103 (by decide) (fun cj => ?_) (fun cj => ?_)
    · have hj8 : j = 64 := by rw [nI_leI (by decide) (by omega)] at cj; omega
      subst hj8
      refine lv_bipush (v := nI (34)) hx hb dX5_copy_124 (by decide) ?_
      exact mg_iret (ty := .int) hx hb hr hlocks (rfl) hP hD hS (rfl) dX5_copy_126
    · have hj8 : j < 64 := by rw [nI_leI (by decide) (by omega)] at cj; omega
      refine lv_aload_n hx hb dX5_copy_106 rfl (lv_at hl 1 rfl) ?_
      refine va_get (D := D) (ci := 5) (v := .ref (b 2)) (C := RX5) (T := TX5) (N := 16) hx hb hts in_X5 hown hC.1 hP 0 rfl rfl 1 (by decide) (hts _ q241) (fun _ h9 => h9) rfl dX5_copy_107 ?_
      refine lv_iload_n hx hb dX5_copy_110 rfl (lv_at hl 0 rfl) ?_
      refine lv_aload_n hx hb dX5_copy_111 rfl (lv_at hl 1 rfl) ?_
      refine va_get (D := D) (ci := 5) (v := .ref (b 1)) (C := RX5) (T := TX5) (N := 16) hx hb hts in_X5 hown hC.1 hP 0 rfl rfl 0 (by decide) (hts _ q240) (fun _ h9 => h9) rfl dX5_copy_112 ?_
      refine lv_iload_n hx hb dX5_copy_115 rfl (lv_at hl 0 rfl) ?_
      refine mg_iald hx hb hC.1 hP 1 rfl (i := j) hj8 dX5_copy_116 ?_
      refine mg_iast hx hb hC.1 hP hD hS 2 rfl (i := j) hj8 dX5_copy_117 (fun H locs hP hD hS => ?_)
      have hP : va_P D mgCl (wMod ct b (real) (upd (cpU kept real (j)) (j) ((real) (j))) (copied) (reg) (written) (want) (left) (told) (pc) (3) (rd) (th) (lm) (shows) (time) (since)) H := hP
      have hD : va_D A (wMod ct b (real) (upd (cpU kept real (j)) (j) ((real) (j))) (copied) (reg) (written) (want) (left) (told) (pc) (3) (rd) (th) (lm) (shows) (time) (since)) := hD
      refine lv_iinc (v := nI (j + 1)) (lv' := [(1, .int (nI (j + 1))), (0, .ref (b 0))]) hx hb dX5_copy_118 hl (k := 0) rfl (by rw [show Int32.ofInt 1 = nI 1 from by decide]; exact nI_add _ _) (by decide) rfl (fun ls hl => ?_)
      refine lv_goto (tgt := 100) hx hb dX5_copy_121 (by decide) ?_
      have e_8 : wMod ct b (real) (upd (cpU kept real (j)) (j) ((real) (j))) (copied) (reg) (written) (want) (left) (told) (pc) (3) (rd) (th) (lm) (shows) (time) (since) = wMod ct b (real) (cpU kept real (j + 1)) (copied) (reg) (written) (want) (left) (told) (pc) (3) (rd) (th) (lm) (shows) (time) (since) := by rw [cpU_s kept real j]
      rw [e_8] at hP hD
      exact ihj hj8 _ _ _ ⟨hP, hD, hS, lv_sub hl [0, 1] rfl⟩
  · have hi8 : i < 8 := by rw [nI_leI (by decide) (by omega)] at cq; omega
    refine lv_aload_n hx hb dX5_copy_25 rfl (lv_at hl 1 rfl) ?_
    refine va_get (D := D) (ci := 5) (v := .ref (b 6)) (C := RX5) (T := TX5) (N := 16) hx hb hts in_X5 hown hC.1 hP 0 rfl rfl 5 (by decide) (hts _ q245) (fun _ h9 => h9) rfl dX5_copy_26 ?_
    refine lv_iload_n hx hb dX5_copy_29 rfl (lv_at hl 0 rfl) ?_
    refine mg_zald hx hb hC.1 hP 6 rfl (i := i) hi8 dX5_copy_30 ?_
    refine lv_if_eq (tgt := 79) hx hb dX5_copy_31 (by decide) (fun _ => ?_) (fun cq => absurd (by rw [hf i hi8]; rfl) cq)
    refine lv_iinc (v := nI (i + 1)) (lv' := [(1, .int (nI (i + 1))), (0, .ref (b 0))]) hx hb dX5_copy_79 hl (k := 0) rfl (by rw [show Int32.ofInt 1 = nI 1 from by decide]; exact nI_add _ _) (by decide) rfl (fun ls hl => ?_)
    refine lv_goto (tgt := 19) hx hb dX5_copy_82 (by decide) ?_
    exact ihi hi8 _ _ _ ⟨hP, hD, hS, lv_sub hl [0, 1] rfl⟩

set_option maxHeartbeats 4000000 in
set_option maxRecDepth 100000 in
/-- copy(): the last round ends -/
theorem d_copyStop (l : Launch) (D : va_G) (ct ad b : Nat → Nat) (real kept copied reg : Nat → Int32) (written : Nat → Nat) (want left : Nat → Bool) (told : Nat → Int32) (pc : Nat) (rd th lm : Int32) (shows time since : Nat) (hf : ∀ j, j < 8 → want j = false) (hw : ∀ j, j < 8 → written j < 2 ^ 31) (hs : since < 2 ^ 31) (hst : nI (cnt (fun z => decide (since < written z)) 8) ≤ th ∨ rd = lm) : MI l yX5_copy cX5_copy 3 (some .int) (rmN 1 30) D ct ad [.ref (b 0)] (wMod ct b (real) (kept) (copied) (reg) (written) (want) (left) (told) (pc) (1) (rd) (th) (lm) (shows) (time) (since)) (wMod ct b (real) (kept) (copied) (reg) (written) (cpB want (fun z => decide (since < written z)) 8) (cpB left (fun z => decide (since < written z)) 8) (told) (pc) (2) (rd) (th) (lm) (shows) (time) (since)) (nI 33) := by
  refine mg_MI (by decide) (Nat.le_of_ble_eq_true rfl) ?_
  intro p e s m below meth c A hx hb hr hlocks hml hown hnm hts hC hP hD hA hS ls hl
  have hown : s.vm.findClass RX5 = some m.cls := hown
  have hl : lv_has ls 3 [(0, .ref (b 0))] := hl
  refine lv_aload_n hx hb dX5_copy_0 rfl (lv_at hl 0 rfl) ?_
  refine va_get (D := D) (ci := 5) (v := .int (nI (1))) (C := RX5) (T := TX5) (N := 16) hx hb hts in_X5 hown hC.1 hP 0 rfl rfl 9 (by decide) (hts _ q249) (fun _ h9 => h9) rfl dX5_copy_1 ?_
  refine lv_if_eq (tgt := 15) hx hb dX5_copy_4 (by decide) (fun cq => absurd cq (by decide)) (fun _ => ?_)
  refine lv_aload_n hx hb dX5_copy_7 rfl (lv_at hl 0 rfl) ?_
  refine va_get (D := D) (ci := 5) (v := .int (nI (1))) (C := RX5) (T := TX5) (N := 16) hx hb hts in_X5 hown hC.1 hP 0 rfl rfl 9 (by decide) (hts _ q249) (fun _ h9 => h9) rfl dX5_copy_8 ?_
  refine lv_iconst (v := nI (3)) hx hb dX5_copy_11 (by decide) ?_
  refine lv_icmp_ne (tgt := 17) hx hb dX5_copy_12 (by decide) (fun _ => ?_) (fun cq => absurd cq (by decide))
  refine lv_iconst (v := nI (0)) hx hb dX5_copy_17 (by decide) ?_
  refine lv_istore_n (lv' := [(1, .int (nI (0))), (0, .ref (b 0))]) hx hb dX5_copy_18 rfl hl (by decide) rfl (fun ls hl => ?_)
  refine mg_loop (fun i H locs ls => va_P D mgCl (wMod ct b (real) (kept) (copied) (reg) (written) (want) (left) (told) (pc) (1) (rd) (th) (lm) (shows) (time) (since)) H ∧ va_D A (wMod ct b (real) (kept) (copied) (reg) (written) (want) (left) (told) (pc) (1) (rd) (th) (lm) (shows) (time) (since)) ∧ va_S A s.heap H locs ∧ lv_has ls 3 [(1, .int (nI (i))), (0, .ref (b 0))]) (8) ?_ 0 (by decide) ⟨hP, hD, hS, lv_sub hl [0, 1] rfl⟩
  intro i H locs ls hi hI ihi
  obtain ⟨hP, hD, hS, hl⟩ := hI
  refine lv_iload_n hx hb dX5_copy_19 rfl (lv_at hl 0 rfl) ?_
  refine lv_bipush (v := nI (8)) hx hb dX5_copy_20 (by decide) ?_
  refine lv_icmp_ge (tgt := 85) hx hb dX5_copy_22 (by decide) (fun cq => ?_) (fun cq => ?_)
  · have hi8 : i = 8 := by rw [nI_leI (by decide) (by omega)] at cq; omega
    subst hi8
    refine lv_aload_n hx hb dX5_copy_85 rfl (lv_at hl 1 rfl) ?_
    refine va_get (D := D) (ci := 5) (v := .int (nI (1))) (C := RX5) (T := TX5) (N := 16) hx hb hts in_X5 hown hC.1 hP 0 rfl rfl 9 (by decide) (hts _ q249) (fun _ h9 => h9) rfl dX5_copy_86 ?_
    refine lv_iconst (v := nI (2)) hx hb dX5_copy_89 (by decide) ?_
    refine lv_icmp_ne (tgt := 127) hx hb dX5_copy_90 (by decide) (fun _ => ?_) (fun cq => absurd cq (by decide))
    refine lv_iconst (v := nI (0)) hx hb dX5_copy_127 (by decide) ?_
    refine lv_istore_n (lv' := [(1, .int (nI (0))), (0, .ref (b 0))]) hx hb dX5_copy_128 rfl hl (by decide) rfl (fun ls hl => ?_)
    refine lv_iconst (v := nI (0)) hx hb dX5_copy_129 (by decide) ?_
    refine lv_istore_n (lv' := [(2, .int (nI (0))), (1, .int (nI (0))), (0, .ref (b 0))]) hx hb dX5_copy_130 rfl hl (by decide) rfl (fun ls hl => ?_)
    have e_9 : wMod ct b (real) (kept) (copied) (reg) (written) (want) (left) (told) (pc) (1) (rd) (th) (lm) (shows) (time) (since) = wMod ct b (real) (kept) (copied) (reg) (written) (cpB want (fun z => decide (since < written z)) (0)) (cpB left (fun z => decide (since < written z)) (0)) (told) (pc) (1) (rd) (th) (lm) (shows) (time) (since) := by rw [cpB_0, cpB_0]
    rw [e_9] at hP hD
    refine mg_loop (fun j H locs ls => va_P D mgCl (wMod ct b (real) (kept) (copied) (reg) (written) (cpB want (fun z => decide (since < written z)) (j)) (cpB left (fun z => decide (since < written z)) (j)) (told) (pc) (1) (rd) (th) (lm) (shows) (time) (since)) H ∧ va_D A (wMod ct b (real) (kept) (copied) (reg) (written) (cpB want (fun z => decide (since < written z)) (j)) (cpB left (fun z => decide (since < written z)) (j)) (told) (pc) (1) (rd) (th) (lm) (shows) (time) (since)) ∧ va_S A s.heap H locs ∧ lv_has ls 3 [(2, .int (nI (j))), (1, .int (nI (cnt (fun z => decide (since < written z)) (j)))), (0, .ref (b 0))]) (8) ?_ 0 (by decide) ⟨hP, hD, hS, lv_sub hl [0, 1, 2] rfl⟩
    intro j H locs ls hj hI ihj
    obtain ⟨hP, hD, hS, hl⟩ := hI
    refine lv_iload_n hx hb dX5_copy_131 rfl (lv_at hl 0 rfl) ?_
    refine lv_bipush (v := nI (8)) hx hb dX5_copy_132 (by decide) ?_
    refine lv_icmp_ge (tgt := 179) hx hb dX5_copy_134 (by decide) (fun cj => ?_) (fun cj => ?_)
    · have hj8 : j = 8 := by rw [nI_leI (by decide) (by omega)] at cj; omega
      subst hj8
      refine lv_iload_n hx hb dX5_copy_179 rfl (lv_at hl 1 rfl) ?_
      refine lv_aload_n hx hb dX5_copy_180 rfl (lv_at hl 2 rfl) ?_
      refine va_get (D := D) (ci := 5) (v := .int (th)) (C := RX5) (T := TX5) (N := 16) hx hb hts in_X5 hown hC.1 hP 0 rfl rfl 11 (by decide) (hts _ q251) (fun _ h9 => h9) rfl dX5_copy_181 ?_
      refine lv_icmp_le (tgt := 198) hx hb dX5_copy_184 (by decide) (fun ck => ?_) (fun ck => ?_)
      · refine lv_aload_n hx hb dX5_copy_198 rfl (lv_at hl 2 rfl) ?_
        refine lv_iconst (v := nI (2)) hx hb dX5_copy_199 (by decide) ?_
        refine va_put (D := D) (ci := 5) (v := .int (nI (2))) (ty := .int) (C := RX5) (T := TX5) (N := 16) hx hb hts in_X5 tyX5 tyX5_ok nmX5 hown hC.1 hP hD hS 0 rfl rfl 9 (by decide) (hts _ q249) (fun _ h9 => h9) rfl (by decide +kernel) rfl rfl (Nat.le_of_ble_eq_true rfl) dX5_copy_200 (fun H locs hP hD hS => ?_)
        have hP : va_P D mgCl (wMod ct b (real) (kept) (copied) (reg) (written) (cpB want (fun z => decide (since < written z)) (8)) (cpB left (fun z => decide (since < written z)) (8)) (told) (pc) (2) (rd) (th) (lm) (shows) (time) (since)) H := hP
        have hD : va_D A (wMod ct b (real) (kept) (copied) (reg) (written) (cpB want (fun z => decide (since < written z)) (8)) (cpB left (fun z => decide (since < written z)) (8)) (told) (pc) (2) (rd) (th) (lm) (shows) (time) (since)) := hD
        refine lv_bipush (v := nI (33)) hx hb dX5_copy_203 (by decide) ?_
        exact mg_iret (ty := .int) hx hb hr hlocks (rfl) hP hD hS (rfl) dX5_copy_205
      · have hrl : rd = lm := hst.resolve_left ck
        refine lv_aload_n hx hb dX5_copy_187 rfl (lv_at hl 2 rfl) ?_
        refine va_get (D := D) (ci := 5) (v := .int (rd)) (C := RX5) (T := TX5) (N := 16) hx hb hts in_X5 hown hC.1 hP 0 rfl rfl 10 (by decide) (hts _ q250) (fun _ h9 => h9) rfl dX5_copy_188 ?_
        refine lv_aload_n hx hb dX5_copy_191 rfl (lv_at hl 2 rfl) ?_
        refine va_get (D := D) (ci := 5) (v := .int (lm)) (C := RX5) (T := TX5) (N := 16) hx hb hts in_X5 hown hC.1 hP 0 rfl rfl 12 (by decide) (hts _ q252) (fun _ h9 => h9) rfl dX5_copy_192 ?_
        refine lv_icmp_ne (tgt := 206) hx hb dX5_copy_195 (by decide) (fun cq => absurd (hrl) cq) (fun _ => ?_)
        refine lv_aload_n hx hb dX5_copy_198 rfl (lv_at hl 2 rfl) ?_
        refine lv_iconst (v := nI (2)) hx hb dX5_copy_199 (by decide) ?_
        refine va_put (D := D) (ci := 5) (v := .int (nI (2))) (ty := .int) (C := RX5) (T := TX5) (N := 16) hx hb hts in_X5 tyX5 tyX5_ok nmX5 hown hC.1 hP hD hS 0 rfl rfl 9 (by decide) (hts _ q249) (fun _ h9 => h9) rfl (by decide +kernel) rfl rfl (Nat.le_of_ble_eq_true rfl) dX5_copy_200 (fun H locs hP hD hS => ?_)
        have hP : va_P D mgCl (wMod ct b (real) (kept) (copied) (reg) (written) (cpB want (fun z => decide (since < written z)) (8)) (cpB left (fun z => decide (since < written z)) (8)) (told) (pc) (2) (rd) (th) (lm) (shows) (time) (since)) H := hP
        have hD : va_D A (wMod ct b (real) (kept) (copied) (reg) (written) (cpB want (fun z => decide (since < written z)) (8)) (cpB left (fun z => decide (since < written z)) (8)) (told) (pc) (2) (rd) (th) (lm) (shows) (time) (since)) := hD
        refine lv_bipush (v := nI (33)) hx hb dX5_copy_203 (by decide) ?_
        exact mg_iret (ty := .int) hx hb hr hlocks (rfl) hP hD hS (rfl) dX5_copy_205
    · have hj8 : j < 8 := by rw [nI_leI (by decide) (by omega)] at cj; omega
      refine lv_aload_n hx hb dX5_copy_137 rfl (lv_at hl 2 rfl) ?_
      refine va_get (D := D) (ci := 5) (v := .ref (b 6)) (C := RX5) (T := TX5) (N := 16) hx hb hts in_X5 hown hC.1 hP 0 rfl rfl 5 (by decide) (hts _ q245) (fun _ h9 => h9) rfl dX5_copy_138 ?_
      refine lv_iload_n hx hb dX5_copy_141 rfl (lv_at hl 0 rfl) ?_
      refine lv_aload_n hx hb dX5_copy_142 rfl (lv_at hl 2 rfl) ?_
      refine lv_iload_n hx hb dX5_copy_143 rfl (lv_at hl 0 rfl) ?_
      refine mg_afterI (w1 := wMod ct b (real) (kept) (copied) (reg) (written) (cpB want (fun z => decide (since < written z)) (j)) (cpB left (fun z => decide (since < written z)) (j)) (told) (pc) (1) (rd) (th) (lm) (shows) (time) (since)) (wr := []) (w2 := wMod ct b (real) (kept) (copied) (reg) (written) (cpB want (fun z => decide (since < written z)) (j)) (cpB left (fun z => decide (since < written z)) (j)) (told) (pc) (1) (rd) (th) (lm) (shows) (time) (since)) (va_runV (As := [.int (nI (j))]) (rest := [.int (nI (j)), .ref (b 6)]) ⟨hx, hb, hml, hown, hts⟩ (d_dirty1 l D ct ad b real kept copied reg written (cpB want (fun z => decide (since < written z)) (j)) (cpB left (fun z => decide (since < written z)) (j)) told pc rd th lm shows time since j hj8 (hw j hj8) hs _) (cwV 1 hts (lw_V q310 q311 q312 q10 q313) rfl rfl rfl (by decide +kernel) ⟨Nat.le_of_ble_eq_true rfl, Nat.le_of_ble_eq_true rfl⟩) (mg_preV hC hP hD hS hA (wc := wMod ct b (real) (kept) (copied) (reg) (written) (cpB want (fun z => decide (since < written z)) (j)) (cpB left (fun z => decide (since < written z)) (j)) (told) (pc) (1) (rd) (th) (lm) (shows) (time) (since)) [0, 1, 2, 3, 4, 5, 6, 7, 8] rfl (by decide) (ci := 5) (q0 := 0) rfl rfl [.int (nI (j))]) rfl rfl hl.1 rfl (lv_room (Nat.le_of_ble_eq_true rfl)) dX5_copy_144 ⟨Nat.zero_le _, Nat.zero_le _⟩) hP hD hS hA [0, 1, 2, 3, 4, 5, 6, 7, 8] [] [0, 1, 2, 3, 4, 5, 6, 7, 8] rfl rfl (by decide) (by decide) rfl (by decide) (fun H locs hP hD hS => ?_)
      refine mg_zast hx hb hC.1 hP hD hS 6 rfl (i := j) (v := (fun z => decide (since < written z)) j) hj8 dX5_copy_147 (fun H locs hP hD hS => ?_)
      have hP : va_P D mgCl (wMod ct b (real) (kept) (copied) (reg) (written) (va_up (cpB want (fun z => decide (since < written z)) (j)) (j) ((fun z => decide (since < written z)) j)) (cpB left (fun z => decide (since < written z)) (j)) (told) (pc) (1) (rd) (th) (lm) (shows) (time) (since)) H := hP
      have hD : va_D A (wMod ct b (real) (kept) (copied) (reg) (written) (va_up (cpB want (fun z => decide (since < written z)) (j)) (j) ((fun z => decide (since < written z)) j)) (cpB left (fun z => decide (since < written z)) (j)) (told) (pc) (1) (rd) (th) (lm) (shows) (time) (since)) := hD
      rw [cpB_s want (fun z => decide (since < written z)) j] at hP hD
      refine lv_aload_n hx hb dX5_copy_148 rfl (lv_at hl 2 rfl) ?_
      refine va_get (D := D) (ci := 5) (v := .ref (b 7)) (C := RX5) (T := TX5) (N := 16) hx hb hts in_X5 hown hC.1 hP 0 rfl rfl 6 (by decide) (hts _ q246) (fun _ h9 => h9) rfl dX5_copy_149 ?_
      refine lv_iload_n hx hb dX5_copy_152 rfl (lv_at hl 0 rfl) ?_
      refine lv_aload_n hx hb dX5_copy_153 rfl (lv_at hl 2 rfl) ?_
      refine va_get (D := D) (ci := 5) (v := .ref (b 6)) (C := RX5) (T := TX5) (N := 16) hx hb hts in_X5 hown hC.1 hP 0 rfl rfl 5 (by decide) (hts _ q245) (fun _ h9 => h9) rfl dX5_copy_154 ?_
      refine lv_iload_n hx hb dX5_copy_157 rfl (lv_at hl 0 rfl) ?_
      refine mg_zald hx hb hC.1 hP 6 rfl (i := j) hj8 dX5_copy_158 ?_
      refine mg_top (y := bi ((fun z => decide (since < written z)) j)) (by rw [show cpB want (fun z => decide (since < written z)) (j + 1) j = (fun z => decide (since < written z)) j from if_pos (Nat.lt_succ_self j)]) ?_
      refine mg_zast hx hb hC.1 hP hD hS 7 rfl (i := j) (v := (fun z => decide (since < written z)) j) hj8 dX5_copy_159 (fun H locs hP hD hS => ?_)
      have hP : va_P D mgCl (wMod ct b (real) (kept) (copied) (reg) (written) (cpB want (fun z => decide (since < written z)) (j + 1)) (va_up (cpB left (fun z => decide (since < written z)) (j)) (j) ((fun z => decide (since < written z)) j)) (told) (pc) (1) (rd) (th) (lm) (shows) (time) (since)) H := hP
      have hD : va_D A (wMod ct b (real) (kept) (copied) (reg) (written) (cpB want (fun z => decide (since < written z)) (j + 1)) (va_up (cpB left (fun z => decide (since < written z)) (j)) (j) ((fun z => decide (since < written z)) j)) (told) (pc) (1) (rd) (th) (lm) (shows) (time) (since)) := hD
      rw [cpB_s left (fun z => decide (since < written z)) j] at hP hD
      refine lv_aload_n hx hb dX5_copy_160 rfl (lv_at hl 2 rfl) ?_
      refine va_get (D := D) (ci := 5) (v := .ref (b 6)) (C := RX5) (T := TX5) (N := 16) hx hb hts in_X5 hown hC.1 hP 0 rfl rfl 5 (by decide) (hts _ q245) (fun _ h9 => h9) rfl dX5_copy_161 ?_
      refine lv_iload_n hx hb dX5_copy_164 rfl (lv_at hl 0 rfl) ?_
      refine mg_zald hx hb hC.1 hP 6 rfl (i := j) hj8 dX5_copy_165 ?_
      refine mg_top (y := bi ((fun z => decide (since < written z)) j)) (by rw [show cpB want (fun z => decide (since < written z)) (j + 1) j = (fun z => decide (since < written z)) j from if_pos (Nat.lt_succ_self j)]) ?_
      refine lv_if_eq (tgt := 173) hx hb dX5_copy_166 (by decide) (fun cz => ?_) (fun cz => ?_)
      · have hz : cnt (fun z => decide (since < written z)) (j + 1) = cnt (fun z => decide (since < written z)) j := cnt_f (bi_eq0 cz)
        refine lv_iinc (v := nI (j + 1)) (lv' := [(2, .int (nI (j + 1))), (1, .int (nI (cnt (fun z => decide (since < written z)) (j)))), (0, .ref (b 0))]) hx hb dX5_copy_173 hl (k := 0) rfl (by rw [show Int32.ofInt 1 = nI 1 from by decide]; exact nI_add _ _) (by decide) rfl (fun ls hl => ?_)
        refine lv_goto (tgt := 131) hx hb dX5_copy_176 (by decide) ?_
        exact ihj hj8 _ _ _ ⟨hP, hD, hS, by rw [hz]; exact lv_sub hl [0, 1, 2] rfl⟩
      · have hz : cnt (fun z => decide (since < written z)) (j + 1) = cnt (fun z => decide (since < written z)) j + 1 := cnt_t (bi_ne cz)
        refine lv_iload_n hx hb dX5_copy_169 rfl (lv_at hl 1 rfl) ?_
        refine lv_iconst (v := nI (1)) hx hb dX5_copy_170 (by decide) ?_
        refine lv_iadd hx hb dX5_copy_171 ?_
        refine mg_top (y := nI (cnt (fun z => decide (since < written z)) (j) + 1)) (nI_add _ _) ?_
        refine lv_istore_n (lv' := [(1, .int (nI (cnt (fun z => decide (since < written z)) (j) + 1))), (2, .int (nI (j))), (0, .ref (b 0))]) hx hb dX5_copy_172 rfl hl (by decide) rfl (fun ls hl => ?_)
        refine lv_iinc (v := nI (j + 1)) (lv' := [(2, .int (nI (j + 1))), (1, .int (nI (cnt (fun z => decide (since < written z)) (j) + 1))), (0, .ref (b 0))]) hx hb dX5_copy_173 hl (k := 1) rfl (by rw [show Int32.ofInt 1 = nI 1 from by decide]; exact nI_add _ _) (by decide) rfl (fun ls hl => ?_)
        refine lv_goto (tgt := 131) hx hb dX5_copy_176 (by decide) ?_
        exact ihj hj8 _ _ _ ⟨hP, hD, hS, by rw [hz]; exact lv_sub hl [0, 1, 2] rfl⟩
  · have hi8 : i < 8 := by rw [nI_leI (by decide) (by omega)] at cq; omega
    refine lv_aload_n hx hb dX5_copy_25 rfl (lv_at hl 1 rfl) ?_
    refine va_get (D := D) (ci := 5) (v := .ref (b 6)) (C := RX5) (T := TX5) (N := 16) hx hb hts in_X5 hown hC.1 hP 0 rfl rfl 5 (by decide) (hts _ q245) (fun _ h9 => h9) rfl dX5_copy_26 ?_
    refine lv_iload_n hx hb dX5_copy_29 rfl (lv_at hl 0 rfl) ?_
    refine mg_zald hx hb hC.1 hP 6 rfl (i := i) hi8 dX5_copy_30 ?_
    refine lv_if_eq (tgt := 79) hx hb dX5_copy_31 (by decide) (fun _ => ?_) (fun cq => absurd (by rw [hf i hi8]; rfl) cq)
    refine lv_iinc (v := nI (i + 1)) (lv' := [(1, .int (nI (i + 1))), (0, .ref (b 0))]) hx hb dX5_copy_79 hl (k := 0) rfl (by rw [show Int32.ofInt 1 = nI 1 from by decide]; exact nI_add _ _) (by decide) rfl (fun ls hl => ?_)
    refine lv_goto (tgt := 19) hx hb dX5_copy_82 (by decide) ?_
    exact ihi hi8 _ _ _ ⟨hP, hD, hS, lv_sub hl [0, 1] rfl⟩

set_option maxHeartbeats 4000000 in
set_option maxRecDepth 100000 in
/-- copy(): a round ends -/
theorem d_copyRound (l : Launch) (D : va_G) (ct ad b : Nat → Nat) (real kept copied reg : Nat → Int32) (written : Nat → Nat) (want left : Nat → Bool) (told : Nat → Int32) (pc : Nat) (rd th lm : Int32) (shows time since : Nat) (hf : ∀ j, j < 8 → want j = false) (hw : ∀ j, j < 8 → written j < 2 ^ 31) (hs : since < 2 ^ 31) (hst : ¬ nI (cnt (fun z => decide (since < written z)) 8) ≤ th ∧ ¬ rd = lm) : MI l yX5_copy cX5_copy 3 (some .int) (rmN 1 30) D ct ad [.ref (b 0)] (wMod ct b (real) (kept) (copied) (reg) (written) (want) (left) (told) (pc) (1) (rd) (th) (lm) (shows) (time) (since)) (wMod ct b (real) (kept) (copied) (reg) (written) (cpB want (fun z => decide (since < written z)) 8) (cpB left (fun z => decide (since < written z)) 8) (told) (pc) (1) (rd + nI 1) (th) (lm) (shows) (time) (time)) (nI 32) := by
  refine mg_MI (by decide) (Nat.le_of_ble_eq_true rfl) ?_
  intro p e s m below meth c A hx hb hr hlocks hml hown hnm hts hC hP hD hA hS ls hl
  have hown : s.vm.findClass RX5 = some m.cls := hown
  have hl : lv_has ls 3 [(0, .ref (b 0))] := hl
  refine lv_aload_n hx hb dX5_copy_0 rfl (lv_at hl 0 rfl) ?_
  refine va_get (D := D) (ci := 5) (v := .int (nI (1))) (C := RX5) (T := TX5) (N := 16) hx hb hts in_X5 hown hC.1 hP 0 rfl rfl 9 (by decide) (hts _ q249) (fun _ h9 => h9) rfl dX5_copy_1 ?_
  refine lv_if_eq (tgt := 15) hx hb dX5_copy_4 (by decide) (fun cq => absurd cq (by decide)) (fun _ => ?_)
  refine lv_aload_n hx hb dX5_copy_7 rfl (lv_at hl 0 rfl) ?_
  refine va_get (D := D) (ci := 5) (v := .int (nI (1))) (C := RX5) (T := TX5) (N := 16) hx hb hts in_X5 hown hC.1 hP 0 rfl rfl 9 (by decide) (hts _ q249) (fun _ h9 => h9) rfl dX5_copy_8 ?_
  refine lv_iconst (v := nI (3)) hx hb dX5_copy_11 (by decide) ?_
  refine lv_icmp_ne (tgt := 17) hx hb dX5_copy_12 (by decide) (fun _ => ?_) (fun cq => absurd cq (by decide))
  refine lv_iconst (v := nI (0)) hx hb dX5_copy_17 (by decide) ?_
  refine lv_istore_n (lv' := [(1, .int (nI (0))), (0, .ref (b 0))]) hx hb dX5_copy_18 rfl hl (by decide) rfl (fun ls hl => ?_)
  refine mg_loop (fun i H locs ls => va_P D mgCl (wMod ct b (real) (kept) (copied) (reg) (written) (want) (left) (told) (pc) (1) (rd) (th) (lm) (shows) (time) (since)) H ∧ va_D A (wMod ct b (real) (kept) (copied) (reg) (written) (want) (left) (told) (pc) (1) (rd) (th) (lm) (shows) (time) (since)) ∧ va_S A s.heap H locs ∧ lv_has ls 3 [(1, .int (nI (i))), (0, .ref (b 0))]) (8) ?_ 0 (by decide) ⟨hP, hD, hS, lv_sub hl [0, 1] rfl⟩
  intro i H locs ls hi hI ihi
  obtain ⟨hP, hD, hS, hl⟩ := hI
  refine lv_iload_n hx hb dX5_copy_19 rfl (lv_at hl 0 rfl) ?_
  refine lv_bipush (v := nI (8)) hx hb dX5_copy_20 (by decide) ?_
  refine lv_icmp_ge (tgt := 85) hx hb dX5_copy_22 (by decide) (fun cq => ?_) (fun cq => ?_)
  · have hi8 : i = 8 := by rw [nI_leI (by decide) (by omega)] at cq; omega
    subst hi8
    refine lv_aload_n hx hb dX5_copy_85 rfl (lv_at hl 1 rfl) ?_
    refine va_get (D := D) (ci := 5) (v := .int (nI (1))) (C := RX5) (T := TX5) (N := 16) hx hb hts in_X5 hown hC.1 hP 0 rfl rfl 9 (by decide) (hts _ q249) (fun _ h9 => h9) rfl dX5_copy_86 ?_
    refine lv_iconst (v := nI (2)) hx hb dX5_copy_89 (by decide) ?_
    refine lv_icmp_ne (tgt := 127) hx hb dX5_copy_90 (by decide) (fun _ => ?_) (fun cq => absurd cq (by decide))
    refine lv_iconst (v := nI (0)) hx hb dX5_copy_127 (by decide) ?_
    refine lv_istore_n (lv' := [(1, .int (nI (0))), (0, .ref (b 0))]) hx hb dX5_copy_128 rfl hl (by decide) rfl (fun ls hl => ?_)
    refine lv_iconst (v := nI (0)) hx hb dX5_copy_129 (by decide) ?_
    refine lv_istore_n (lv' := [(2, .int (nI (0))), (1, .int (nI (0))), (0, .ref (b 0))]) hx hb dX5_copy_130 rfl hl (by decide) rfl (fun ls hl => ?_)
    have e_10 : wMod ct b (real) (kept) (copied) (reg) (written) (want) (left) (told) (pc) (1) (rd) (th) (lm) (shows) (time) (since) = wMod ct b (real) (kept) (copied) (reg) (written) (cpB want (fun z => decide (since < written z)) (0)) (cpB left (fun z => decide (since < written z)) (0)) (told) (pc) (1) (rd) (th) (lm) (shows) (time) (since) := by rw [cpB_0, cpB_0]
    rw [e_10] at hP hD
    refine mg_loop (fun j H locs ls => va_P D mgCl (wMod ct b (real) (kept) (copied) (reg) (written) (cpB want (fun z => decide (since < written z)) (j)) (cpB left (fun z => decide (since < written z)) (j)) (told) (pc) (1) (rd) (th) (lm) (shows) (time) (since)) H ∧ va_D A (wMod ct b (real) (kept) (copied) (reg) (written) (cpB want (fun z => decide (since < written z)) (j)) (cpB left (fun z => decide (since < written z)) (j)) (told) (pc) (1) (rd) (th) (lm) (shows) (time) (since)) ∧ va_S A s.heap H locs ∧ lv_has ls 3 [(2, .int (nI (j))), (1, .int (nI (cnt (fun z => decide (since < written z)) (j)))), (0, .ref (b 0))]) (8) ?_ 0 (by decide) ⟨hP, hD, hS, lv_sub hl [0, 1, 2] rfl⟩
    intro j H locs ls hj hI ihj
    obtain ⟨hP, hD, hS, hl⟩ := hI
    refine lv_iload_n hx hb dX5_copy_131 rfl (lv_at hl 0 rfl) ?_
    refine lv_bipush (v := nI (8)) hx hb dX5_copy_132 (by decide) ?_
    refine lv_icmp_ge (tgt := 179) hx hb dX5_copy_134 (by decide) (fun cj => ?_) (fun cj => ?_)
    · have hj8 : j = 8 := by rw [nI_leI (by decide) (by omega)] at cj; omega
      subst hj8
      refine lv_iload_n hx hb dX5_copy_179 rfl (lv_at hl 1 rfl) ?_
      refine lv_aload_n hx hb dX5_copy_180 rfl (lv_at hl 2 rfl) ?_
      refine va_get (D := D) (ci := 5) (v := .int (th)) (C := RX5) (T := TX5) (N := 16) hx hb hts in_X5 hown hC.1 hP 0 rfl rfl 11 (by decide) (hts _ q251) (fun _ h9 => h9) rfl dX5_copy_181 ?_
      refine lv_icmp_le (tgt := 198) hx hb dX5_copy_184 (by decide) (fun cq => absurd cq (hst.1)) (fun _ => ?_)
      refine lv_aload_n hx hb dX5_copy_187 rfl (lv_at hl 2 rfl) ?_
      refine va_get (D := D) (ci := 5) (v := .int (rd)) (C := RX5) (T := TX5) (N := 16) hx hb hts in_X5 hown hC.1 hP 0 rfl rfl 10 (by decide) (hts _ q250) (fun _ h9 => h9) rfl dX5_copy_188 ?_
      refine lv_aload_n hx hb dX5_copy_191 rfl (lv_at hl 2 rfl) ?_
      refine va_get (D := D) (ci := 5) (v := .int (lm)) (C := RX5) (T := TX5) (N := 16) hx hb hts in_X5 hown hC.1 hP 0 rfl rfl 12 (by decide) (hts _ q252) (fun _ h9 => h9) rfl dX5_copy_192 ?_
      refine lv_icmp_ne (tgt := 206) hx hb dX5_copy_195 (by decide) (fun _ => ?_) (fun cq => absurd cq (hst.2))
      refine lv_aload_n hx hb dX5_copy_206 rfl (lv_at hl 2 rfl) ?_
      refine lv_aload_n hx hb dX5_copy_207 rfl (lv_at hl 2 rfl) ?_
      refine va_get (D := D) (ci := 5) (v := .int (rd)) (C := RX5) (T := TX5) (N := 16) hx hb hts in_X5 hown hC.1 hP 0 rfl rfl 10 (by decide) (hts _ q250) (fun _ h9 => h9) rfl dX5_copy_208 ?_
      refine lv_iconst (v := nI (1)) hx hb dX5_copy_211 (by decide) ?_
      refine lv_iadd hx hb dX5_copy_212 ?_
      refine va_put (D := D) (ci := 5) (v := .int ((rd) + (nI (1)))) (ty := .int) (C := RX5) (T := TX5) (N := 16) hx hb hts in_X5 tyX5 tyX5_ok nmX5 hown hC.1 hP hD hS 0 rfl rfl 10 (by decide) (hts _ q250) (fun _ h9 => h9) rfl (by decide +kernel) rfl rfl (Nat.le_of_ble_eq_true rfl) dX5_copy_213 (fun H locs hP hD hS => ?_)
      have hP : va_P D mgCl (wMod ct b (real) (kept) (copied) (reg) (written) (cpB want (fun z => decide (since < written z)) (8)) (cpB left (fun z => decide (since < written z)) (8)) (told) (pc) (1) ((rd) + (nI (1))) (th) (lm) (shows) (time) (since)) H := hP
      have hD : va_D A (wMod ct b (real) (kept) (copied) (reg) (written) (cpB want (fun z => decide (since < written z)) (8)) (cpB left (fun z => decide (since < written z)) (8)) (told) (pc) (1) ((rd) + (nI (1))) (th) (lm) (shows) (time) (since)) := hD
      refine lv_aload_n hx hb dX5_copy_216 rfl (lv_at hl 2 rfl) ?_
      refine lv_aload_n hx hb dX5_copy_217 rfl (lv_at hl 2 rfl) ?_
      refine va_get (D := D) (ci := 5) (v := .long (lN (time))) (C := RX5) (T := TX5) (N := 16) hx hb hts in_X5 hown hC.1 hP 0 rfl rfl 14 (by decide) (hts _ q254) (fun _ h9 => h9) rfl dX5_copy_218 ?_
      refine va_put (D := D) (ci := 5) (v := .long (lN (time))) (ty := .long) (C := RX5) (T := TX5) (N := 16) hx hb hts in_X5 tyX5 tyX5_ok nmX5 hown hC.1 hP hD hS 0 rfl rfl 15 (by decide) (hts _ q255) (fun _ h9 => h9) rfl (by decide +kernel) rfl rfl (Nat.le_of_ble_eq_true rfl) dX5_copy_221 (fun H locs hP hD hS => ?_)
      have hP : va_P D mgCl (wMod ct b (real) (kept) (copied) (reg) (written) (cpB want (fun z => decide (since < written z)) (8)) (cpB left (fun z => decide (since < written z)) (8)) (told) (pc) (1) ((rd) + (nI (1))) (th) (lm) (shows) (time) (time)) H := hP
      have hD : va_D A (wMod ct b (real) (kept) (copied) (reg) (written) (cpB want (fun z => decide (since < written z)) (8)) (cpB left (fun z => decide (since < written z)) (8)) (told) (pc) (1) ((rd) + (nI (1))) (th) (lm) (shows) (time) (time)) := hD
      refine lv_bipush (v := nI (32)) hx hb dX5_copy_224 (by decide) ?_
      exact mg_iret (ty := .int) hx hb hr hlocks (rfl) hP hD hS (rfl) dX5_copy_226
    · have hj8 : j < 8 := by rw [nI_leI (by decide) (by omega)] at cj; omega
      refine lv_aload_n hx hb dX5_copy_137 rfl (lv_at hl 2 rfl) ?_
      refine va_get (D := D) (ci := 5) (v := .ref (b 6)) (C := RX5) (T := TX5) (N := 16) hx hb hts in_X5 hown hC.1 hP 0 rfl rfl 5 (by decide) (hts _ q245) (fun _ h9 => h9) rfl dX5_copy_138 ?_
      refine lv_iload_n hx hb dX5_copy_141 rfl (lv_at hl 0 rfl) ?_
      refine lv_aload_n hx hb dX5_copy_142 rfl (lv_at hl 2 rfl) ?_
      refine lv_iload_n hx hb dX5_copy_143 rfl (lv_at hl 0 rfl) ?_
      refine mg_afterI (w1 := wMod ct b (real) (kept) (copied) (reg) (written) (cpB want (fun z => decide (since < written z)) (j)) (cpB left (fun z => decide (since < written z)) (j)) (told) (pc) (1) (rd) (th) (lm) (shows) (time) (since)) (wr := []) (w2 := wMod ct b (real) (kept) (copied) (reg) (written) (cpB want (fun z => decide (since < written z)) (j)) (cpB left (fun z => decide (since < written z)) (j)) (told) (pc) (1) (rd) (th) (lm) (shows) (time) (since)) (va_runV (As := [.int (nI (j))]) (rest := [.int (nI (j)), .ref (b 6)]) ⟨hx, hb, hml, hown, hts⟩ (d_dirty1 l D ct ad b real kept copied reg written (cpB want (fun z => decide (since < written z)) (j)) (cpB left (fun z => decide (since < written z)) (j)) told pc rd th lm shows time since j hj8 (hw j hj8) hs _) (cwV 1 hts (lw_V q310 q311 q312 q10 q313) rfl rfl rfl (by decide +kernel) ⟨Nat.le_of_ble_eq_true rfl, Nat.le_of_ble_eq_true rfl⟩) (mg_preV hC hP hD hS hA (wc := wMod ct b (real) (kept) (copied) (reg) (written) (cpB want (fun z => decide (since < written z)) (j)) (cpB left (fun z => decide (since < written z)) (j)) (told) (pc) (1) (rd) (th) (lm) (shows) (time) (since)) [0, 1, 2, 3, 4, 5, 6, 7, 8] rfl (by decide) (ci := 5) (q0 := 0) rfl rfl [.int (nI (j))]) rfl rfl hl.1 rfl (lv_room (Nat.le_of_ble_eq_true rfl)) dX5_copy_144 ⟨Nat.zero_le _, Nat.zero_le _⟩) hP hD hS hA [0, 1, 2, 3, 4, 5, 6, 7, 8] [] [0, 1, 2, 3, 4, 5, 6, 7, 8] rfl rfl (by decide) (by decide) rfl (by decide) (fun H locs hP hD hS => ?_)
      refine mg_zast hx hb hC.1 hP hD hS 6 rfl (i := j) (v := (fun z => decide (since < written z)) j) hj8 dX5_copy_147 (fun H locs hP hD hS => ?_)
      have hP : va_P D mgCl (wMod ct b (real) (kept) (copied) (reg) (written) (va_up (cpB want (fun z => decide (since < written z)) (j)) (j) ((fun z => decide (since < written z)) j)) (cpB left (fun z => decide (since < written z)) (j)) (told) (pc) (1) (rd) (th) (lm) (shows) (time) (since)) H := hP
      have hD : va_D A (wMod ct b (real) (kept) (copied) (reg) (written) (va_up (cpB want (fun z => decide (since < written z)) (j)) (j) ((fun z => decide (since < written z)) j)) (cpB left (fun z => decide (since < written z)) (j)) (told) (pc) (1) (rd) (th) (lm) (shows) (time) (since)) := hD
      rw [cpB_s want (fun z => decide (since < written z)) j] at hP hD
      refine lv_aload_n hx hb dX5_copy_148 rfl (lv_at hl 2 rfl) ?_
      refine va_get (D := D) (ci := 5) (v := .ref (b 7)) (C := RX5) (T := TX5) (N := 16) hx hb hts in_X5 hown hC.1 hP 0 rfl rfl 6 (by decide) (hts _ q246) (fun _ h9 => h9) rfl dX5_copy_149 ?_
      refine lv_iload_n hx hb dX5_copy_152 rfl (lv_at hl 0 rfl) ?_
      refine lv_aload_n hx hb dX5_copy_153 rfl (lv_at hl 2 rfl) ?_
      refine va_get (D := D) (ci := 5) (v := .ref (b 6)) (C := RX5) (T := TX5) (N := 16) hx hb hts in_X5 hown hC.1 hP 0 rfl rfl 5 (by decide) (hts _ q245) (fun _ h9 => h9) rfl dX5_copy_154 ?_
      refine lv_iload_n hx hb dX5_copy_157 rfl (lv_at hl 0 rfl) ?_
      refine mg_zald hx hb hC.1 hP 6 rfl (i := j) hj8 dX5_copy_158 ?_
      refine mg_top (y := bi ((fun z => decide (since < written z)) j)) (by rw [show cpB want (fun z => decide (since < written z)) (j + 1) j = (fun z => decide (since < written z)) j from if_pos (Nat.lt_succ_self j)]) ?_
      refine mg_zast hx hb hC.1 hP hD hS 7 rfl (i := j) (v := (fun z => decide (since < written z)) j) hj8 dX5_copy_159 (fun H locs hP hD hS => ?_)
      have hP : va_P D mgCl (wMod ct b (real) (kept) (copied) (reg) (written) (cpB want (fun z => decide (since < written z)) (j + 1)) (va_up (cpB left (fun z => decide (since < written z)) (j)) (j) ((fun z => decide (since < written z)) j)) (told) (pc) (1) (rd) (th) (lm) (shows) (time) (since)) H := hP
      have hD : va_D A (wMod ct b (real) (kept) (copied) (reg) (written) (cpB want (fun z => decide (since < written z)) (j + 1)) (va_up (cpB left (fun z => decide (since < written z)) (j)) (j) ((fun z => decide (since < written z)) j)) (told) (pc) (1) (rd) (th) (lm) (shows) (time) (since)) := hD
      rw [cpB_s left (fun z => decide (since < written z)) j] at hP hD
      refine lv_aload_n hx hb dX5_copy_160 rfl (lv_at hl 2 rfl) ?_
      refine va_get (D := D) (ci := 5) (v := .ref (b 6)) (C := RX5) (T := TX5) (N := 16) hx hb hts in_X5 hown hC.1 hP 0 rfl rfl 5 (by decide) (hts _ q245) (fun _ h9 => h9) rfl dX5_copy_161 ?_
      refine lv_iload_n hx hb dX5_copy_164 rfl (lv_at hl 0 rfl) ?_
      refine mg_zald hx hb hC.1 hP 6 rfl (i := j) hj8 dX5_copy_165 ?_
      refine mg_top (y := bi ((fun z => decide (since < written z)) j)) (by rw [show cpB want (fun z => decide (since < written z)) (j + 1) j = (fun z => decide (since < written z)) j from if_pos (Nat.lt_succ_self j)]) ?_
      refine lv_if_eq (tgt := 173) hx hb dX5_copy_166 (by decide) (fun cz => ?_) (fun cz => ?_)
      · have hz : cnt (fun z => decide (since < written z)) (j + 1) = cnt (fun z => decide (since < written z)) j := cnt_f (bi_eq0 cz)
        refine lv_iinc (v := nI (j + 1)) (lv' := [(2, .int (nI (j + 1))), (1, .int (nI (cnt (fun z => decide (since < written z)) (j)))), (0, .ref (b 0))]) hx hb dX5_copy_173 hl (k := 0) rfl (by rw [show Int32.ofInt 1 = nI 1 from by decide]; exact nI_add _ _) (by decide) rfl (fun ls hl => ?_)
        refine lv_goto (tgt := 131) hx hb dX5_copy_176 (by decide) ?_
        exact ihj hj8 _ _ _ ⟨hP, hD, hS, by rw [hz]; exact lv_sub hl [0, 1, 2] rfl⟩
      · have hz : cnt (fun z => decide (since < written z)) (j + 1) = cnt (fun z => decide (since < written z)) j + 1 := cnt_t (bi_ne cz)
        refine lv_iload_n hx hb dX5_copy_169 rfl (lv_at hl 1 rfl) ?_
        refine lv_iconst (v := nI (1)) hx hb dX5_copy_170 (by decide) ?_
        refine lv_iadd hx hb dX5_copy_171 ?_
        refine mg_top (y := nI (cnt (fun z => decide (since < written z)) (j) + 1)) (nI_add _ _) ?_
        refine lv_istore_n (lv' := [(1, .int (nI (cnt (fun z => decide (since < written z)) (j) + 1))), (2, .int (nI (j))), (0, .ref (b 0))]) hx hb dX5_copy_172 rfl hl (by decide) rfl (fun ls hl => ?_)
        refine lv_iinc (v := nI (j + 1)) (lv' := [(2, .int (nI (j + 1))), (1, .int (nI (cnt (fun z => decide (since < written z)) (j) + 1))), (0, .ref (b 0))]) hx hb dX5_copy_173 hl (k := 1) rfl (by rw [show Int32.ofInt 1 = nI 1 from by decide]; exact nI_add _ _) (by decide) rfl (fun ls hl => ?_)
        refine lv_goto (tgt := 131) hx hb dX5_copy_176 (by decide) ?_
        exact ihj hj8 _ _ _ ⟨hP, hD, hS, by rw [hz]; exact lv_sub hl [0, 1, 2] rfl⟩
  · have hi8 : i < 8 := by rw [nI_leI (by decide) (by omega)] at cq; omega
    refine lv_aload_n hx hb dX5_copy_25 rfl (lv_at hl 1 rfl) ?_
    refine va_get (D := D) (ci := 5) (v := .ref (b 6)) (C := RX5) (T := TX5) (N := 16) hx hb hts in_X5 hown hC.1 hP 0 rfl rfl 5 (by decide) (hts _ q245) (fun _ h9 => h9) rfl dX5_copy_26 ?_
    refine lv_iload_n hx hb dX5_copy_29 rfl (lv_at hl 0 rfl) ?_
    refine mg_zald hx hb hC.1 hP 6 rfl (i := i) hi8 dX5_copy_30 ?_
    refine lv_if_eq (tgt := 79) hx hb dX5_copy_31 (by decide) (fun _ => ?_) (fun cq => absurd (by rw [hf i hi8]; rfl) cq)
    refine lv_iinc (v := nI (i + 1)) (lv' := [(1, .int (nI (i + 1))), (0, .ref (b 0))]) hx hb dX5_copy_79 hl (k := 0) rfl (by rw [show Int32.ofInt 1 = nI 1 from by decide]; exact nI_add _ _) (by decide) rfl (fun ls hl => ?_)
    refine lv_goto (tgt := 19) hx hb dX5_copy_82 (by decide) ?_
    exact ihi hi8 _ _ _ ⟨hP, hD, hS, lv_sub hl [0, 1] rfl⟩
end
section
/-! MODULE Migrator: its methods but run, copy and the constructor (written by gen/gen_mig.py) -/
set_option maxRecDepth 100000
/-- two constants differ -/
theorem mg_ne {D : va_G} {ct ad : Nat → Nat} {A : Nat → Prop} {U : State} {H : Heap} (h : mg_C D ct ad A U H) {i j : Nat} (hi : i < 4) (hj : j < 4) (hne : i ≠ j) : ¬ some (ad i) = some (ad j) := fun q => hne (h.2.2.2.2 i j hi hj (Option.some.inj q))
/-- what an inherited method asks -/
theorem lw_U {own : String} {idx : Nat} {C owner : String} {x y : MethodName} {b : ByteArray} {L : Nat} {r : Option FieldType} (h1 : Cond.methodLink own idx x ∈ lw_all) (h2 : Cond.sameMethod x.cls owner x.name x.desc ∈ lw_all) (h3 : Cond.selects C x y ∈ lw_all) (h4 : Cond.instanceMethod y ∈ lw_all) (h5 : Cond.initialized y.cls ∈ lw_all) (h6 : Cond.code y b L r ∈ lw_all) : GoodIn lw_all (va_wsU own idx C owner x y (ws_ y b L r)) := by
  refine lw_app ?_ (lw_meth h6)
  intro w hw
  simp only [List.mem_cons, List.not_mem_nil, or_false] at hw
  rcases hw with e | e | e | e | e
  · rw [e]; exact h1
  · rw [e]; exact h2
  · rw [e]; exact h3
  · rw [e]; exact h4
  · rw [e]; exact h5
def yP_ordinal : MethodName := ⟨"Migrator$Phase", "ordinal", "()I"⟩
set_option maxHeartbeats 4000000 in
set_option maxRecDepth 100000 in
/-- isAddress(k) -/
theorem s_isAddress (l : Launch) (D : va_G) (ct ad : Nat → Nat) (k : Nat) (hk : k < 64) : MI l yX0_isAddress cX0_isAddress 1 (some .boolean) (rmZ) D ct ad [.int (nI k)] (([] : va_W)) (([] : va_W)) (nI 1) := by
  refine mg_MI (by decide) (Nat.le_of_ble_eq_true rfl) ?_
  intro p e s m below meth c A hx hb hr hlocks hml hown hnm hts hC hP hD hA hS ls hl
  have hown : s.vm.findClass RX0 = some m.cls := hown
  have hl : lv_has ls 1 [(0, .int (nI (k)))] := hl
  refine lv_iload_n hx hb dX0_isAddress_0 rfl (lv_at hl 0 rfl) ?_
  refine lv_if_lt (tgt := 14) hx hb dX0_isAddress_1 (by decide) (fun cq => absurd cq (nI_pos (by omega))) (fun _ => ?_)
  refine lv_iload_n hx hb dX0_isAddress_4 rfl (lv_at hl 0 rfl) ?_
  refine lv_bipush (v := nI (64)) hx hb dX0_isAddress_5 (by decide) ?_
  refine lv_icmp_ge (tgt := 14) hx hb dX0_isAddress_7 (by decide) (fun cq => absurd cq (by first | decide | (rw [nI_leI (by omega) (by omega)]; omega) | (rw [nI_ltI (by omega) (by omega)]; omega) | exact nI_pos (by omega) | (rw [nI_eq (by omega) (by omega)]; omega) | (rw [c_eq0 (by omega)]; omega) | (rw [c_lt0]; omega) | (rw [c_nlt (by omega)]; omega) | (rw [c_ltn (by omega)]; omega) | (rw [c_nle (by omega)]; omega) | (rw [c_len (by omega)]; omega))) (fun _ => ?_)
  refine lv_iconst (v := nI (1)) hx hb dX0_isAddress_10 (by decide) ?_
  refine lv_goto (tgt := 15) hx hb dX0_isAddress_11 (by decide) ?_
  exact mg_iret (ty := .boolean) hx hb hr hlocks (rfl) hP hD hS (rfl) dX0_isAddress_15

set_option maxHeartbeats 4000000 in
set_option maxRecDepth 100000 in
/-- isAddress(x), no -/
theorem s_isAddressNo (l : Launch) (D : va_G) (ct ad : Nat → Nat) (x : Int32) (hno : x.toInt < 0 ∨ 64 ≤ x.toInt) : MI l yX0_isAddress cX0_isAddress 1 (some .boolean) (rmZ) D ct ad [.int x] (([] : va_W)) (([] : va_W)) (nI 0) := by
  refine mg_MI (by decide) (Nat.le_of_ble_eq_true rfl) ?_
  intro p e s m below meth c A hx hb hr hlocks hml hown hnm hts hC hP hD hA hS ls hl
  have hown : s.vm.findClass RX0 = some m.cls := hown
  have hl : lv_has ls 1 [(0, .int (x))] := hl
  refine lv_iload_n hx hb dX0_isAddress_0 rfl (lv_at hl 0 rfl) ?_
  refine lv_if_lt (tgt := 14) hx hb dX0_isAddress_1 (by decide) (fun c1 => ?_) (fun c1 => ?_)
  · refine lv_iconst (v := nI (0)) hx hb dX0_isAddress_14 (by decide) ?_
    exact mg_iret (ty := .boolean) hx hb hr hlocks (rfl) hP hD hS (rfl) dX0_isAddress_15
  · rw [c_lt0] at c1
    refine lv_iload_n hx hb dX0_isAddress_4 rfl (lv_at hl 0 rfl) ?_
    refine lv_bipush (v := nI (64)) hx hb dX0_isAddress_5 (by decide) ?_
    refine lv_icmp_ge (tgt := 14) hx hb dX0_isAddress_7 (by decide) (fun _ => ?_) (fun cq => absurd (by first | decide | (rw [nI_leI (by omega) (by omega)]; omega) | (rw [nI_ltI (by omega) (by omega)]; omega) | exact nI_pos (by omega) | (rw [nI_eq (by omega) (by omega)]; omega) | (rw [c_eq0 (by omega)]; omega) | (rw [c_lt0]; omega) | (rw [c_nlt (by omega)]; omega) | (rw [c_ltn (by omega)]; omega) | (rw [c_nle (by omega)]; omega) | (rw [c_len (by omega)]; omega)) cq)
    refine lv_iconst (v := nI (0)) hx hb dX0_isAddress_14 (by decide) ?_
    exact mg_iret (ty := .boolean) hx hb hr hlocks (rfl) hP hD hS (rfl) dX0_isAddress_15

set_option maxHeartbeats 4000000 in
set_option maxRecDepth 100000 in
/-- isPage(k) -/
theorem s_isPage (l : Launch) (D : va_G) (ct ad : Nat → Nat) (k : Nat) (hk : k < 8) : MI l yX0_isPage cX0_isPage 1 (some .boolean) (rmZ) D ct ad [.int (nI k)] (([] : va_W)) (([] : va_W)) (nI 1) := by
  refine mg_MI (by decide) (Nat.le_of_ble_eq_true rfl) ?_
  intro p e s m below meth c A hx hb hr hlocks hml hown hnm hts hC hP hD hA hS ls hl
  have hown : s.vm.findClass RX0 = some m.cls := hown
  have hl : lv_has ls 1 [(0, .int (nI (k)))] := hl
  refine lv_iload_n hx hb dX0_isPage_0 rfl (lv_at hl 0 rfl) ?_
  refine lv_if_lt (tgt := 14) hx hb dX0_isPage_1 (by decide) (fun cq => absurd cq (nI_pos (by omega))) (fun _ => ?_)
  refine lv_iload_n hx hb dX0_isPage_4 rfl (lv_at hl 0 rfl) ?_
  refine lv_bipush (v := nI (8)) hx hb dX0_isPage_5 (by decide) ?_
  refine lv_icmp_ge (tgt := 14) hx hb dX0_isPage_7 (by decide) (fun cq => absurd cq (by first | decide | (rw [nI_leI (by omega) (by omega)]; omega) | (rw [nI_ltI (by omega) (by omega)]; omega) | exact nI_pos (by omega) | (rw [nI_eq (by omega) (by omega)]; omega) | (rw [c_eq0 (by omega)]; omega) | (rw [c_lt0]; omega) | (rw [c_nlt (by omega)]; omega) | (rw [c_ltn (by omega)]; omega) | (rw [c_nle (by omega)]; omega) | (rw [c_len (by omega)]; omega))) (fun _ => ?_)
  refine lv_iconst (v := nI (1)) hx hb dX0_isPage_10 (by decide) ?_
  refine lv_goto (tgt := 15) hx hb dX0_isPage_11 (by decide) ?_
  exact mg_iret (ty := .boolean) hx hb hr hlocks (rfl) hP hD hS (rfl) dX0_isPage_15

set_option maxHeartbeats 4000000 in
set_option maxRecDepth 100000 in
/-- isPage(x), no -/
theorem s_isPageNo (l : Launch) (D : va_G) (ct ad : Nat → Nat) (x : Int32) (hno : x.toInt < 0 ∨ 8 ≤ x.toInt) : MI l yX0_isPage cX0_isPage 1 (some .boolean) (rmZ) D ct ad [.int x] (([] : va_W)) (([] : va_W)) (nI 0) := by
  refine mg_MI (by decide) (Nat.le_of_ble_eq_true rfl) ?_
  intro p e s m below meth c A hx hb hr hlocks hml hown hnm hts hC hP hD hA hS ls hl
  have hown : s.vm.findClass RX0 = some m.cls := hown
  have hl : lv_has ls 1 [(0, .int (x))] := hl
  refine lv_iload_n hx hb dX0_isPage_0 rfl (lv_at hl 0 rfl) ?_
  refine lv_if_lt (tgt := 14) hx hb dX0_isPage_1 (by decide) (fun c1 => ?_) (fun c1 => ?_)
  · refine lv_iconst (v := nI (0)) hx hb dX0_isPage_14 (by decide) ?_
    exact mg_iret (ty := .boolean) hx hb hr hlocks (rfl) hP hD hS (rfl) dX0_isPage_15
  · rw [c_lt0] at c1
    refine lv_iload_n hx hb dX0_isPage_4 rfl (lv_at hl 0 rfl) ?_
    refine lv_bipush (v := nI (8)) hx hb dX0_isPage_5 (by decide) ?_
    refine lv_icmp_ge (tgt := 14) hx hb dX0_isPage_7 (by decide) (fun _ => ?_) (fun cq => absurd (by first | decide | (rw [nI_leI (by omega) (by omega)]; omega) | (rw [nI_ltI (by omega) (by omega)]; omega) | exact nI_pos (by omega) | (rw [nI_eq (by omega) (by omega)]; omega) | (rw [c_eq0 (by omega)]; omega) | (rw [c_lt0]; omega) | (rw [c_nlt (by omega)]; omega) | (rw [c_ltn (by omega)]; omega) | (rw [c_nle (by omega)]; omega) | (rw [c_len (by omega)]; omega)) cq)
    refine lv_iconst (v := nI (0)) hx hb dX0_isPage_14 (by decide) ?_
    exact mg_iret (ty := .boolean) hx hb hr hlocks (rfl) hP hD hS (rfl) dX0_isPage_15

set_option maxHeartbeats 4000000 in
set_option maxRecDepth 100000 in
/-- round() -/
theorem c_round (l : Launch) (D : va_G) (ct ad a : Nat → Nat) (M N : Nat → Nat → Int32) (regs shown : Nat → Int32) (pc shows : Nat) (bd bw : Nat → Bool) (ph : Nat) (rd th lm : Int32) : MI l yX0_round cX0_round 1 (some .int) (rmN 1 30) D ct ad [.ref (a 0)] (wMig ct ad a (M) (N) (regs) (shown) (pc) (shows) (bd) (bw) (ph) (rd) (th) (lm)) (wMig ct ad a (M) (N) (regs) (shown) (pc) (shows) (bd) (bw) (ph) (rd) (th) (lm)) (rd) := by
  refine mg_MI (by decide) (Nat.le_of_ble_eq_true rfl) ?_
  intro p e s m below meth c A hx hb hr hlocks hml hown hnm hts hC hP hD hA hS ls hl
  have hown : s.vm.findClass RX0 = some m.cls := hown
  have hl : lv_has ls 1 [(0, .ref (a 0))] := hl
  refine lv_aload_n hx hb dX0_round_0 rfl (lv_at hl 0 rfl) ?_
  refine va_get (D := D) (ci := 0) (v := .int (rd)) (C := RX0) (T := TX0) (N := 10) hx hb hts in_X0 hown hC.1 hP 0 rfl rfl 7 (by decide) (hts _ q86) (fun _ h9 => h9) rfl dX0_round_1 ?_
  exact mg_iret (ty := .int) hx hb hr hlocks (rfl) hP hD hS (rfl) dX0_round_4

set_option maxHeartbeats 4000000 in
set_option maxRecDepth 100000 in
/-- pc() -/
theorem c_pc (l : Launch) (D : va_G) (ct ad a : Nat → Nat) (M N : Nat → Nat → Int32) (regs shown : Nat → Int32) (pc shows : Nat) (bd bw : Nat → Bool) (ph : Nat) (rd th lm : Int32) : MI l yX0_pc cX0_pc 1 (some .int) (rmN 1 30) D ct ad [.ref (a 0)] (wMig ct ad a (M) (N) (regs) (shown) (pc) (shows) (bd) (bw) (ph) (rd) (th) (lm)) (wMig ct ad a (M) (N) (regs) (shown) (pc) (shows) (bd) (bw) (ph) (rd) (th) (lm)) (nI pc) := by
  refine mg_MI (by decide) (Nat.le_of_ble_eq_true rfl) ?_
  intro p e s m below meth c A hx hb hr hlocks hml hown hnm hts hC hP hD hA hS ls hl
  have hown : s.vm.findClass RX0 = some m.cls := hown
  have hl : lv_has ls 1 [(0, .ref (a 0))] := hl
  refine lv_aload_n hx hb dX0_pc_0 rfl (lv_at hl 0 rfl) ?_
  refine va_get (D := D) (ci := 0) (v := .ref (a 21)) (C := RX0) (T := TX0) (N := 10) hx hb hts in_X0 hown hC.1 hP 0 rfl rfl 2 (by decide) (hts _ q81) (fun _ h9 => h9) rfl dX0_pc_1 ?_
  refine va_getN (D := D) (ci := 2) (v := .int (nI (pc))) (C := RX2) (T := TX2) (N := 4) hx hb hts in_X2 hown hC.1 hP 21 rfl rfl 2 (by decide) (va_Nw.use rfl hC.2.2.1.2.1.2.2.1) (fun _ h9 => h9) rfl dX0_pc_4 ?_
  exact mg_iret (ty := .int) hx hb hr hlocks (rfl) hP hD hS (rfl) dX0_pc_7

set_option maxHeartbeats 4000000 in
set_option maxRecDepth 100000 in
/-- shows() -/
theorem c_shows (l : Launch) (D : va_G) (ct ad a : Nat → Nat) (M N : Nat → Nat → Int32) (regs shown : Nat → Int32) (pc shows : Nat) (bd bw : Nat → Bool) (ph : Nat) (rd th lm : Int32) : MI l yX0_shows cX0_shows 1 (some .int) (rmN 1 30) D ct ad [.ref (a 0)] (wMig ct ad a (M) (N) (regs) (shown) (pc) (shows) (bd) (bw) (ph) (rd) (th) (lm)) (wMig ct ad a (M) (N) (regs) (shown) (pc) (shows) (bd) (bw) (ph) (rd) (th) (lm)) (nI shows) := by
  refine mg_MI (by decide) (Nat.le_of_ble_eq_true rfl) ?_
  intro p e s m below meth c A hx hb hr hlocks hml hown hnm hts hC hP hD hA hS ls hl
  have hown : s.vm.findClass RX0 = some m.cls := hown
  have hl : lv_has ls 1 [(0, .ref (a 0))] := hl
  refine lv_aload_n hx hb dX0_shows_0 rfl (lv_at hl 0 rfl) ?_
  refine va_get (D := D) (ci := 0) (v := .ref (a 21)) (C := RX0) (T := TX0) (N := 10) hx hb hts in_X0 hown hC.1 hP 0 rfl rfl 2 (by decide) (hts _ q81) (fun _ h9 => h9) rfl dX0_shows_1 ?_
  refine va_getN (D := D) (ci := 2) (v := .int (nI (shows))) (C := RX2) (T := TX2) (N := 4) hx hb hts in_X2 hown hC.1 hP 21 rfl rfl 3 (by decide) (va_Nw.use rfl hC.2.2.1.2.1.2.2.2.1) (fun _ h9 => h9) rfl dX0_shows_4 ?_
  exact mg_iret (ty := .int) hx hb hr hlocks (rfl) hP hD hS (rfl) dX0_shows_7

set_option maxHeartbeats 4000000 in
set_option maxRecDepth 100000 in
/-- Enum.ordinal() of a phase -/
theorem j_ordinal (l : Launch) (D : va_G) (ct ad : Nat → Nat) (i : Nat) (hi : i < 4) : MI l yJ1_ordinal cJ1_ordinal 1 (some .int) rmZ D ct ad [.ref (ad i)] ([] : va_W) ([] : va_W) (nI i) := by
  refine mg_MI (by decide) (Nat.le_of_ble_eq_true rfl) ?_
  intro p e s m below meth c A hx hb hr hlocks hml hown hnm hts hC hP hD hA hS ls hl
  have hown : s.vm.findClass RJ1 = some m.cls := hown
  have hl : lv_has ls 1 [(0, .ref (ad i))] := hl
  refine lv_aload_n hx hb dJ1_ordinal_0 rfl (lv_at hl 0 rfl) ?_
  refine va_getE hx hb hC.2.2.2 (i := i) hi hS hown (q := ("java/lang/Enum", "ordinal", "I", [0, 1, 2, 3])) List.mem_cons_self (hts _ q351) (fun _ h9 => h9) dJ1_ordinal_1 ?_
  refine mg_top (y := nI (i)) (by rcases (show i = 0 ∨ i = 1 ∨ i = 2 ∨ i = 3 by omega) with rfl | rfl | rfl | rfl <;> decide) ?_
  exact mg_iret (ty := .int) hx hb hr hlocks (rfl) hP hD hS (rfl) dJ1_ordinal_4

set_option maxHeartbeats 4000000 in
set_option maxRecDepth 100000 in
/-- phase() -/
theorem c_phase (l : Launch) (D : va_G) (ct ad a : Nat → Nat) (M N : Nat → Nat → Int32) (regs shown : Nat → Int32) (pc shows : Nat) (bd bw : Nat → Bool) (ph : Nat) (rd th lm : Int32) (hph : ph < 4) : MI l yX0_phase cX0_phase 1 (some .int) (rmN 1 30) D ct ad [.ref (a 0)] (wMig ct ad a (M) (N) (regs) (shown) (pc) (shows) (bd) (bw) (ph) (rd) (th) (lm)) (wMig ct ad a (M) (N) (regs) (shown) (pc) (shows) (bd) (bw) (ph) (rd) (th) (lm)) (nI ph) := by
  refine mg_MI (by decide) (Nat.le_of_ble_eq_true rfl) ?_
  intro p e s m below meth c A hx hb hr hlocks hml hown hnm hts hC hP hD hA hS ls hl
  have hown : s.vm.findClass RX0 = some m.cls := hown
  have hl : lv_has ls 1 [(0, .ref (a 0))] := hl
  refine lv_aload_n hx hb dX0_phase_0 rfl (lv_at hl 0 rfl) ?_
  refine va_get (D := D) (ci := 0) (v := .ref (ad ph)) (C := RX0) (T := TX0) (N := 10) hx hb hts in_X0 hown hC.1 hP 0 rfl rfl 6 (by decide) (hts _ q85) (fun _ h9 => h9) rfl dX0_phase_1 ?_
  refine mg_afterI (w1 := ([] : va_W)) (wr := wMig ct ad a (M) (N) (regs) (shown) (pc) (shows) (bd) (bw) (ph) (rd) (th) (lm)) (w2 := wMig ct ad a (M) (N) (regs) (shown) (pc) (shows) (bd) (bw) (ph) (rd) (th) (lm)) (va_runU (x := yP_ordinal) (owner := "java/lang/Enum") (C := "Migrator$Phase") (As := []) (rest := []) ⟨hx, hb, hml, hown, hts⟩ (j_ordinal l D ct ad ph hph _) (va_cwU 0 hts (lw_U q188 q189 q191 q192 q8 q193) rfl rfl rfl rfl (by decide +kernel) ⟨Nat.le_of_ble_eq_true rfl, Nat.le_of_ble_eq_true rfl⟩) ⟨(mg_preOf hC hP hD hS hA (wc := ([] : va_W)) [] rfl (by decide) [.ref (ad ph)]).1, va_recvE hC.2.2.2 (i := ph) hph hS, (mg_preOf hC hP hD hS hA (wc := ([] : va_W)) [] rfl (by decide) [.ref (ad ph)]).2⟩ rfl rfl hl.1 rfl (lv_room (Nat.le_of_ble_eq_true rfl)) dX0_phase_4 ⟨Nat.zero_le _, Nat.zero_le _⟩) hP hD hS hA [] [0, 1, 2, 3, 4, 5, 6, 7, 8, 9, 10, 11, 12, 13, 14, 15, 16, 17, 18, 19, 20, 21, 22, 23, 24, 25, 26, 27, 28] [0, 1, 2, 3, 4, 5, 6, 7, 8, 9, 10, 11, 12, 13, 14, 15, 16, 17, 18, 19, 20, 21, 22, 23, 24, 25, 26, 27, 28] rfl rfl (by decide) (by decide) rfl (by decide) (fun H locs hP hD hS => ?_)
  exact mg_iret (ty := .int) hx hb hr hlocks (rfl) hP hD hS (rfl) dX0_phase_7

set_option maxHeartbeats 4000000 in
set_option maxRecDepth 100000 in
/-- poke(k, v), taken -/
theorem c_poke (l : Launch) (D : va_G) (ct ad a : Nat → Nat) (M N : Nat → Nat → Int32) (regs shown : Nat → Int32) (pc shows : Nat) (bd bw : Nat → Bool) (rd th lm : Int32) (k : Nat) (hk : k < 64) (v : Int32) : MI l yX0_poke cX0_poke 3 (some .boolean) (rmN 1 30) D ct ad [.ref (a 0), .int (nI k), .int v] (wMig ct ad a (M) (N) (regs) (shown) (pc) (shows) (bd) (bw) (0) (rd) (th) (lm)) (wMig ct ad a (putM M k v) (N) (regs) (shown) (pc) (shows) (bd) (bw) (0) (rd) (th) (lm)) (nI 1) := by
  refine mg_MI (by decide) (Nat.le_of_ble_eq_true rfl) ?_
  intro p e s m below meth c A hx hb hr hlocks hml hown hnm hts hC hP hD hA hS ls hl
  have hown : s.vm.findClass RX0 = some m.cls := hown
  have hl : lv_has ls 3 [(0, .ref (a 0)), (1, .int (nI (k))), (2, .int (v))] := hl
  refine lv_iload_n hx hb dX0_poke_0 rfl (lv_at hl 1 rfl) ?_
  refine mg_afterI (w1 := ([] : va_W)) (wr := wMig ct ad a (M) (N) (regs) (shown) (pc) (shows) (bd) (bw) (0) (rd) (th) (lm)) (w2 := wMig ct ad a (M) (N) (regs) (shown) (pc) (shows) (bd) (bw) (0) (rd) (th) (lm)) (va_runS (As := [.int (nI (k))]) (rest := []) ⟨hx, hb, hml, hown, hts⟩ (s_isAddress l D ct ad k hk _) (va_cwS 1 hts (lw_S q114 q115 q2 q116) rfl rfl rfl (by decide +kernel) ⟨Nat.le_of_ble_eq_true rfl, Nat.le_of_ble_eq_true rfl⟩) (mg_preOf hC hP hD hS hA (wc := ([] : va_W)) [] rfl (by decide) [.int (nI (k))]) rfl rfl hl.1 rfl (lv_room (Nat.le_of_ble_eq_true rfl)) dX0_poke_1 ⟨Nat.zero_le _, Nat.zero_le _⟩) hP hD hS hA [] [0, 1, 2, 3, 4, 5, 6, 7, 8, 9, 10, 11, 12, 13, 14, 15, 16, 17, 18, 19, 20, 21, 22, 23, 24, 25, 26, 27, 28] [0, 1, 2, 3, 4, 5, 6, 7, 8, 9, 10, 11, 12, 13, 14, 15, 16, 17, 18, 19, 20, 21, 22, 23, 24, 25, 26, 27, 28] rfl rfl (by decide) (by decide) rfl (by decide) (fun H locs hP hD hS => ?_)
  refine lv_if_eq (tgt := 17) hx hb dX0_poke_4 (by decide) (fun cq => absurd cq (by decide)) (fun _ => ?_)
  refine lv_aload_n hx hb dX0_poke_7 rfl (lv_at hl 0 rfl) ?_
  refine va_get (D := D) (ci := 0) (v := .ref (ad 0)) (C := RX0) (T := TX0) (N := 10) hx hb hts in_X0 hown hC.1 hP 0 rfl rfl 6 (by decide) (hts _ q85) (fun _ h9 => h9) rfl dX0_poke_8 ?_
  refine va_gets (C := "Migrator$Phase") (n := "HOME") (d := "LMigrator$Phase;") (v := .ref (ad 0)) hx hb (hC.2.2.2.1 0 (by decide)).1 hS hown (hts _ q77) (fun _ h9 => h9) dX0_poke_11 ?_
  refine lv_acmp_eq (rx := some (ad 0)) (ry := some (ad 0)) (tgt := 19) hx hb dX0_poke_14 (by decide) (fun _ => ?_) (fun cq => absurd (rfl) cq)
  refine lv_aload_n hx hb dX0_poke_19 rfl (lv_at hl 0 rfl) ?_
  refine va_get (D := D) (ci := 0) (v := .ref (a 1)) (C := RX0) (T := TX0) (N := 10) hx hb hts in_X0 hown hC.1 hP 0 rfl rfl 0 (by decide) (hts _ q79) (fun _ h9 => h9) rfl dX0_poke_20 ?_
  refine lv_iload_n hx hb dX0_poke_23 rfl (lv_at hl 1 rfl) ?_
  refine lv_iload_n hx hb dX0_poke_24 rfl (lv_at hl 2 rfl) ?_
  refine mg_afterV (w1 := wHost ct (fun i => a (1 + i)) (putM M k v)) (wr := wHd a (ad (0)) (rd) (th) (lm) ++ wHost ct (fun i => a (11 + i)) (N) ++ wGst ct (fun i => a (21 + i)) (regs) (shown) (pc) (shows) ++ wMk ct (fun i => a (24 + i)) (bd) ++ wMk ct (fun i => a (26 + i)) (bw) ++ wNb (a 28)) (w2 := wMig ct ad a (putM M k v) (N) (regs) (shown) (pc) (shows) (bd) (bw) (0) (rd) (th) (lm)) (va_runV (As := [.int (nI (k)), .int (v)]) (rest := []) ⟨hx, hb, hml, hown, hts⟩ (h_put l D ct ad (fun i => a (1 + i)) M k hk v _) (cwV 2 hts (lw_V q117 q118 q119 q3 q120) rfl rfl rfl (by decide +kernel) ⟨Nat.le_of_ble_eq_true rfl, Nat.le_of_ble_eq_true rfl⟩) (mg_preV hC hP hD hS hA (wc := wHost ct (fun i => a (1 + i)) (M)) [1, 2, 3, 4, 5, 6, 7, 8, 9, 10] rfl (by decide) (ci := 1) (q0 := 0) rfl rfl [.int (nI (k)), .int (v)]) rfl rfl hl.1 rfl (lv_room (Nat.le_of_ble_eq_true rfl)) dX0_poke_25 ⟨Nat.zero_le _, Nat.zero_le _⟩) hP hD hS hA [1, 2, 3, 4, 5, 6, 7, 8, 9, 10] [0, 11, 12, 13, 14, 15, 16, 17, 18, 19, 20, 21, 22, 23, 24, 25, 26, 27, 28] [0, 19, 20, 21, 22, 23, 24, 25, 26, 27, 28, 1, 2, 3, 4, 5, 6, 7, 8, 9, 10, 11, 12, 13, 14, 15, 16, 17, 18] rfl rfl (by decide) (by decide) rfl (by decide) (fun H locs hP hD hS => ?_)
  refine lv_iconst (v := nI (1)) hx hb dX0_poke_28 (by decide) ?_
  exact mg_iret (ty := .boolean) hx hb hr hlocks (rfl) hP hD hS (rfl) dX0_poke_29

set_option maxHeartbeats 4000000 in
set_option maxRecDepth 100000 in
/-- poke(x, v), no address -/
theorem c_pokeNo (l : Launch) (D : va_G) (ct ad a : Nat → Nat) (M N : Nat → Nat → Int32) (regs shown : Nat → Int32) (pc shows : Nat) (bd bw : Nat → Bool) (ph : Nat) (rd th lm : Int32) (x v : Int32) (hno : x.toInt < 0 ∨ 64 ≤ x.toInt) : MI l yX0_poke cX0_poke 3 (some .boolean) (rmN 1 30) D ct ad [.ref (a 0), .int x, .int v] (wMig ct ad a (M) (N) (regs) (shown) (pc) (shows) (bd) (bw) (ph) (rd) (th) (lm)) (wMig ct ad a (M) (N) (regs) (shown) (pc) (shows) (bd) (bw) (ph) (rd) (th) (lm)) (nI 0) := by
  refine mg_MI (by decide) (Nat.le_of_ble_eq_true rfl) ?_
  intro p e s m below meth c A hx hb hr hlocks hml hown hnm hts hC hP hD hA hS ls hl
  have hown : s.vm.findClass RX0 = some m.cls := hown
  have hl : lv_has ls 3 [(0, .ref (a 0)), (1, .int (x)), (2, .int (v))] := hl
  refine lv_iload_n hx hb dX0_poke_0 rfl (lv_at hl 1 rfl) ?_
  refine mg_afterI (w1 := ([] : va_W)) (wr := wMig ct ad a (M) (N) (regs) (shown) (pc) (shows) (bd) (bw) (ph) (rd) (th) (lm)) (w2 := wMig ct ad a (M) (N) (regs) (shown) (pc) (shows) (bd) (bw) (ph) (rd) (th) (lm)) (va_runS (As := [.int (x)]) (rest := []) ⟨hx, hb, hml, hown, hts⟩ (s_isAddressNo l D ct ad x hno _) (va_cwS 1 hts (lw_S q114 q115 q2 q116) rfl rfl rfl (by decide +kernel) ⟨Nat.le_of_ble_eq_true rfl, Nat.le_of_ble_eq_true rfl⟩) (mg_preOf hC hP hD hS hA (wc := ([] : va_W)) [] rfl (by decide) [.int (x)]) rfl rfl hl.1 rfl (lv_room (Nat.le_of_ble_eq_true rfl)) dX0_poke_1 ⟨Nat.zero_le _, Nat.zero_le _⟩) hP hD hS hA [] [0, 1, 2, 3, 4, 5, 6, 7, 8, 9, 10, 11, 12, 13, 14, 15, 16, 17, 18, 19, 20, 21, 22, 23, 24, 25, 26, 27, 28] [0, 1, 2, 3, 4, 5, 6, 7, 8, 9, 10, 11, 12, 13, 14, 15, 16, 17, 18, 19, 20, 21, 22, 23, 24, 25, 26, 27, 28] rfl rfl (by decide) (by decide) rfl (by decide) (fun H locs hP hD hS => ?_)
  refine lv_if_eq (tgt := 17) hx hb dX0_poke_4 (by decide) (fun _ => ?_) (fun cq => absurd (by decide) cq)
  refine lv_iconst (v := nI (0)) hx hb dX0_poke_17 (by decide) ?_
  exact mg_iret (ty := .boolean) hx hb hr hlocks (rfl) hP hD hS (rfl) dX0_poke_18

set_option maxHeartbeats 4000000 in
set_option maxRecDepth 100000 in
/-- poke(k, v), not at home -/
theorem c_pokeAway (l : Launch) (D : va_G) (ct ad a : Nat → Nat) (M N : Nat → Nat → Int32) (regs shown : Nat → Int32) (pc shows : Nat) (bd bw : Nat → Bool) (ph : Nat) (rd th lm : Int32) (k : Nat) (hk : k < 64) (v : Int32) (hph : 0 < ph ∧ ph < 4) : MI l yX0_poke cX0_poke 3 (some .boolean) (rmN 1 30) D ct ad [.ref (a 0), .int (nI k), .int v] (wMig ct ad a (M) (N) (regs) (shown) (pc) (shows) (bd) (bw) (ph) (rd) (th) (lm)) (wMig ct ad a (M) (N) (regs) (shown) (pc) (shows) (bd) (bw) (ph) (rd) (th) (lm)) (nI 0) := by
  refine mg_MI (by decide) (Nat.le_of_ble_eq_true rfl) ?_
  intro p e s m below meth c A hx hb hr hlocks hml hown hnm hts hC hP hD hA hS ls hl
  have hown : s.vm.findClass RX0 = some m.cls := hown
  have hl : lv_has ls 3 [(0, .ref (a 0)), (1, .int (nI (k))), (2, .int (v))] := hl
  refine lv_iload_n hx hb dX0_poke_0 rfl (lv_at hl 1 rfl) ?_
  refine mg_afterI (w1 := ([] : va_W)) (wr := wMig ct ad a (M) (N) (regs) (shown) (pc) (shows) (bd) (bw) (ph) (rd) (th) (lm)) (w2 := wMig ct ad a (M) (N) (regs) (shown) (pc) (shows) (bd) (bw) (ph) (rd) (th) (lm)) (va_runS (As := [.int (nI (k))]) (rest := []) ⟨hx, hb, hml, hown, hts⟩ (s_isAddress l D ct ad k hk _) (va_cwS 1 hts (lw_S q114 q115 q2 q116) rfl rfl rfl (by decide +kernel) ⟨Nat.le_of_ble_eq_true rfl, Nat.le_of_ble_eq_true rfl⟩) (mg_preOf hC hP hD hS hA (wc := ([] : va_W)) [] rfl (by decide) [.int (nI (k))]) rfl rfl hl.1 rfl (lv_room (Nat.le_of_ble_eq_true rfl)) dX0_poke_1 ⟨Nat.zero_le _, Nat.zero_le _⟩) hP hD hS hA [] [0, 1, 2, 3, 4, 5, 6, 7, 8, 9, 10, 11, 12, 13, 14, 15, 16, 17, 18, 19, 20, 21, 22, 23, 24, 25, 26, 27, 28] [0, 1, 2, 3, 4, 5, 6, 7, 8, 9, 10, 11, 12, 13, 14, 15, 16, 17, 18, 19, 20, 21, 22, 23, 24, 25, 26, 27, 28] rfl rfl (by decide) (by decide) rfl (by decide) (fun H locs hP hD hS => ?_)
  refine lv_if_eq (tgt := 17) hx hb dX0_poke_4 (by decide) (fun cq => absurd cq (by decide)) (fun _ => ?_)
  refine lv_aload_n hx hb dX0_poke_7 rfl (lv_at hl 0 rfl) ?_
  refine va_get (D := D) (ci := 0) (v := .ref (ad ph)) (C := RX0) (T := TX0) (N := 10) hx hb hts in_X0 hown hC.1 hP 0 rfl rfl 6 (by decide) (hts _ q85) (fun _ h9 => h9) rfl dX0_poke_8 ?_
  refine va_gets (C := "Migrator$Phase") (n := "HOME") (d := "LMigrator$Phase;") (v := .ref (ad 0)) hx hb (hC.2.2.2.1 0 (by decide)).1 hS hown (hts _ q77) (fun _ h9 => h9) dX0_poke_11 ?_
  refine lv_acmp_eq (rx := some (ad ph)) (ry := some (ad 0)) (tgt := 19) hx hb dX0_poke_14 (by decide) (fun cq => absurd cq (mg_ne hC (by omega) (by decide) (by omega))) (fun _ => ?_)
  refine lv_iconst (v := nI (0)) hx hb dX0_poke_17 (by decide) ?_
  exact mg_iret (ty := .boolean) hx hb hr hlocks (rfl) hP hD hS (rfl) dX0_poke_18

set_option maxHeartbeats 4000000 in
set_option maxRecDepth 100000 in
/-- begin(t, n), taken -/
theorem c_begin (l : Launch) (D : va_G) (ct ad a : Nat → Nat) (M N : Nat → Nat → Int32) (regs shown : Nat → Int32) (pc shows : Nat) (bd bw : Nat → Bool) (rd th lm : Int32) (t n : Int32) (ht : 0 ≤ t.toInt ∧ t.toInt ≤ 8) (hn : 1 ≤ n.toInt ∧ n.toInt ≤ 20) : MI l yX0_begin cX0_begin 3 (some .boolean) (rmN 1 30) D ct ad [.ref (a 0), .int t, .int n] (wMig ct ad a (M) (N) (regs) (shown) (pc) (shows) (bd) (bw) (0) (rd) (th) (lm)) (wMig ct ad a (M) (N) (regs) (shown) (pc) (shows) (cpB bd (fun _ => false) 8) (cpB bw (fun _ => true) 8) (1) (nI (1)) (t) (n)) (nI 1) := by
  refine mg_MI (by decide) (Nat.le_of_ble_eq_true rfl) ?_
  intro p e s m below meth c A hx hb hr hlocks hml hown hnm hts hC hP hD hA hS ls hl
  have hown : s.vm.findClass RX0 = some m.cls := hown
  have hl : lv_has ls 3 [(0, .ref (a 0)), (1, .int (t)), (2, .int (n))] := hl
  refine lv_iload_n hx hb dX0_begin_0 rfl (lv_at hl 1 rfl) ?_
  refine lv_if_lt (tgt := 31) hx hb dX0_begin_1 (by decide) (fun cq => absurd cq (by first | decide | (rw [nI_leI (by omega) (by omega)]; omega) | (rw [nI_ltI (by omega) (by omega)]; omega) | exact nI_pos (by omega) | (rw [nI_eq (by omega) (by omega)]; omega) | (rw [c_eq0 (by omega)]; omega) | (rw [c_lt0]; omega) | (rw [c_nlt (by omega)]; omega) | (rw [c_ltn (by omega)]; omega) | (rw [c_nle (by omega)]; omega) | (rw [c_len (by omega)]; omega))) (fun _ => ?_)
  refine lv_iload_n hx hb dX0_begin_4 rfl (lv_at hl 1 rfl) ?_
  refine lv_bipush (v := nI (8)) hx hb dX0_begin_5 (by decide) ?_
  refine lv_icmp_gt (tgt := 31) hx hb dX0_begin_7 (by decide) (fun cq => absurd cq (by first | decide | (rw [nI_leI (by omega) (by omega)]; omega) | (rw [nI_ltI (by omega) (by omega)]; omega) | exact nI_pos (by omega) | (rw [nI_eq (by omega) (by omega)]; omega) | (rw [c_eq0 (by omega)]; omega) | (rw [c_lt0]; omega) | (rw [c_nlt (by omega)]; omega) | (rw [c_ltn (by omega)]; omega) | (rw [c_nle (by omega)]; omega) | (rw [c_len (by omega)]; omega))) (fun _ => ?_)
  refine lv_iload_n hx hb dX0_begin_10 rfl (lv_at hl 2 rfl) ?_
  refine lv_iconst (v := nI (1)) hx hb dX0_begin_11 (by decide) ?_
  refine lv_icmp_lt (tgt := 31) hx hb dX0_begin_12 (by decide) (fun cq => absurd cq (by first | decide | (rw [nI_leI (by omega) (by omega)]; omega) | (rw [nI_ltI (by omega) (by omega)]; omega) | exact nI_pos (by omega) | (rw [nI_eq (by omega) (by omega)]; omega) | (rw [c_eq0 (by omega)]; omega) | (rw [c_lt0]; omega) | (rw [c_nlt (by omega)]; omega) | (rw [c_ltn (by omega)]; omega) | (rw [c_nle (by omega)]; omega) | (rw [c_len (by omega)]; omega))) (fun _ => ?_)
  refine lv_iload_n hx hb dX0_begin_15 rfl (lv_at hl 2 rfl) ?_
  refine lv_bipush (v := nI (20)) hx hb dX0_begin_16 (by decide) ?_
  refine lv_icmp_gt (tgt := 31) hx hb dX0_begin_18 (by decide) (fun cq => absurd cq (by first | decide | (rw [nI_leI (by omega) (by omega)]; omega) | (rw [nI_ltI (by omega) (by omega)]; omega) | exact nI_pos (by omega) | (rw [nI_eq (by omega) (by omega)]; omega) | (rw [c_eq0 (by omega)]; omega) | (rw [c_lt0]; omega) | (rw [c_nlt (by omega)]; omega) | (rw [c_ltn (by omega)]; omega) | (rw [c_nle (by omega)]; omega) | (rw [c_len (by omega)]; omega))) (fun _ => ?_)
  refine lv_aload_n hx hb dX0_begin_21 rfl (lv_at hl 0 rfl) ?_
  refine va_get (D := D) (ci := 0) (v := .ref (ad 0)) (C := RX0) (T := TX0) (N := 10) hx hb hts in_X0 hown hC.1 hP 0 rfl rfl 6 (by decide) (hts _ q85) (fun _ h9 => h9) rfl dX0_begin_22 ?_
  refine va_gets (C := "Migrator$Phase") (n := "HOME") (d := "LMigrator$Phase;") (v := .ref (ad 0)) hx hb (hC.2.2.2.1 0 (by decide)).1 hS hown (hts _ q77) (fun _ h9 => h9) dX0_begin_25 ?_
  refine lv_acmp_eq (rx := some (ad 0)) (ry := some (ad 0)) (tgt := 33) hx hb dX0_begin_28 (by decide) (fun _ => ?_) (fun cq => absurd (rfl) cq)
  refine lv_aload_n hx hb dX0_begin_33 rfl (lv_at hl 0 rfl) ?_
  refine lv_iload_n hx hb dX0_begin_34 rfl (lv_at hl 1 rfl) ?_
  refine va_put (D := D) (ci := 0) (v := .int (t)) (ty := .int) (C := RX0) (T := TX0) (N := 10) hx hb hts in_X0 tyX0 tyX0_ok nmX0 hown hC.1 hP hD hS 0 rfl rfl 8 (by decide) (hts _ q87) (fun _ h9 => h9) rfl (by decide +kernel) rfl rfl (Nat.le_of_ble_eq_true rfl) dX0_begin_35 (fun H locs hP hD hS => ?_)
  have hP : va_P D mgCl (wMig ct ad a (M) (N) (regs) (shown) (pc) (shows) (bd) (bw) (0) (rd) (t) (lm)) H := hP
  have hD : va_D A (wMig ct ad a (M) (N) (regs) (shown) (pc) (shows) (bd) (bw) (0) (rd) (t) (lm)) := hD
  refine lv_aload_n hx hb dX0_begin_38 rfl (lv_at hl 0 rfl) ?_
  refine lv_iload_n hx hb dX0_begin_39 rfl (lv_at hl 2 rfl) ?_
  refine va_put (D := D) (ci := 0) (v := .int (n)) (ty := .int) (C := RX0) (T := TX0) (N := 10) hx hb hts in_X0 tyX0 tyX0_ok nmX0 hown hC.1 hP hD hS 0 rfl rfl 9 (by decide) (hts _ q88) (fun _ h9 => h9) rfl (by decide +kernel) rfl rfl (Nat.le_of_ble_eq_true rfl) dX0_begin_40 (fun H locs hP hD hS => ?_)
  have hP : va_P D mgCl (wMig ct ad a (M) (N) (regs) (shown) (pc) (shows) (bd) (bw) (0) (rd) (t) (n)) H := hP
  have hD : va_D A (wMig ct ad a (M) (N) (regs) (shown) (pc) (shows) (bd) (bw) (0) (rd) (t) (n)) := hD
  refine lv_aload_n hx hb dX0_begin_43 rfl (lv_at hl 0 rfl) ?_
  refine lv_iconst (v := nI (1)) hx hb dX0_begin_44 (by decide) ?_
  refine va_put (D := D) (ci := 0) (v := .int (nI (1))) (ty := .int) (C := RX0) (T := TX0) (N := 10) hx hb hts in_X0 tyX0 tyX0_ok nmX0 hown hC.1 hP hD hS 0 rfl rfl 7 (by decide) (hts _ q86) (fun _ h9 => h9) rfl (by decide +kernel) rfl rfl (Nat.le_of_ble_eq_true rfl) dX0_begin_45 (fun H locs hP hD hS => ?_)
  have hP : va_P D mgCl (wMig ct ad a (M) (N) (regs) (shown) (pc) (shows) (bd) (bw) (0) (nI (1)) (t) (n)) H := hP
  have hD : va_D A (wMig ct ad a (M) (N) (regs) (shown) (pc) (shows) (bd) (bw) (0) (nI (1)) (t) (n)) := hD
  refine lv_aload_n hx hb dX0_begin_48 rfl (lv_at hl 0 rfl) ?_
  refine va_gets (C := "Migrator$Phase") (n := "COPYING") (d := "LMigrator$Phase;") (v := .ref (ad 1)) hx hb (hC.2.2.2.1 1 (by decide)).1 hS hown (hts _ q125) (fun _ h9 => h9) dX0_begin_49 ?_
  refine va_put (D := D) (ci := 0) (v := .ref (ad 1)) (ty := .object "Migrator$Phase") (C := RX0) (T := TX0) (N := 10) hx hb hts in_X0 tyX0 tyX0_ok nmX0 hown hC.1 hP hD hS 0 rfl rfl 6 (by decide) (hts _ q85) (fun _ h9 => h9) rfl (by decide +kernel) rfl rfl (Nat.le_of_ble_eq_true rfl) dX0_begin_52 (fun H locs hP hD hS => ?_)
  have hP : va_P D mgCl (wMig ct ad a (M) (N) (regs) (shown) (pc) (shows) (bd) (bw) (1) (nI (1)) (t) (n)) H := hP
  have hD : va_D A (wMig ct ad a (M) (N) (regs) (shown) (pc) (shows) (bd) (bw) (1) (nI (1)) (t) (n)) := hD
  refine lv_aload_n hx hb dX0_begin_55 rfl (lv_at hl 0 rfl) ?_
  refine va_get (D := D) (ci := 0) (v := .ref (a 26)) (C := RX0) (T := TX0) (N := 10) hx hb hts in_X0 hown hC.1 hP 0 rfl rfl 4 (by decide) (hts _ q83) (fun _ h9 => h9) rfl dX0_begin_56 ?_
  refine lv_iconst (v := nI (1)) hx hb dX0_begin_59 (by decide) ?_
  refine mg_top (y := bi (true)) (by decide) ?_
  refine mg_afterV (w1 := wMk ct (fun i => a (26 + i)) (cpB bw (fun _ => true) 8)) (wr := wHd a (ad (1)) (nI (1)) (t) (n) ++ wHost ct (fun i => a (1 + i)) (M) ++ wHost ct (fun i => a (11 + i)) (N) ++ wGst ct (fun i => a (21 + i)) (regs) (shown) (pc) (shows) ++ wMk ct (fun i => a (24 + i)) (bd) ++ wNb (a 28)) (w2 := wMig ct ad a (M) (N) (regs) (shown) (pc) (shows) (bd) (cpB bw (fun _ => true) 8) (1) (nI (1)) (t) (n)) (va_runV (As := [.int (bi (true))]) (rest := []) ⟨hx, hb, hml, hown, hts⟩ (m_fill l D ct ad (fun i => a (26 + i)) bw true _) (cwV 1 hts (lw_V q127 q128 q129 q5 q130) rfl rfl rfl (by decide +kernel) ⟨Nat.le_of_ble_eq_true rfl, Nat.le_of_ble_eq_true rfl⟩) (mg_preV hC hP hD hS hA (wc := wMk ct (fun i => a (26 + i)) (bw)) [26, 27] rfl (by decide) (ci := 3) (q0 := 0) rfl rfl [.int (bi (true))]) rfl rfl hl.1 rfl (lv_room (Nat.le_of_ble_eq_true rfl)) dX0_begin_60 ⟨Nat.zero_le _, Nat.zero_le _⟩) hP hD hS hA [26, 27] [0, 1, 2, 3, 4, 5, 6, 7, 8, 9, 10, 11, 12, 13, 14, 15, 16, 17, 18, 19, 20, 21, 22, 23, 24, 25, 28] [0, 1, 2, 3, 4, 5, 6, 7, 8, 9, 10, 11, 12, 13, 14, 15, 16, 17, 18, 19, 20, 21, 22, 23, 24, 25, 27, 28, 26] rfl rfl (by decide) (by decide) rfl (by decide) (fun H locs hP hD hS => ?_)
  refine lv_aload_n hx hb dX0_begin_63 rfl (lv_at hl 0 rfl) ?_
  refine va_get (D := D) (ci := 0) (v := .ref (a 24)) (C := RX0) (T := TX0) (N := 10) hx hb hts in_X0 hown hC.1 hP 0 rfl rfl 3 (by decide) (hts _ q82) (fun _ h9 => h9) rfl dX0_begin_64 ?_
  refine lv_iconst (v := nI (0)) hx hb dX0_begin_67 (by decide) ?_
  refine mg_top (y := bi (false)) (by decide) ?_
  refine mg_afterV (w1 := wMk ct (fun i => a (24 + i)) (cpB bd (fun _ => false) 8)) (wr := wHd a (ad (1)) (nI (1)) (t) (n) ++ wHost ct (fun i => a (1 + i)) (M) ++ wHost ct (fun i => a (11 + i)) (N) ++ wGst ct (fun i => a (21 + i)) (regs) (shown) (pc) (shows) ++ wMk ct (fun i => a (26 + i)) (cpB bw (fun _ => true) 8) ++ wNb (a 28)) (w2 := wMig ct ad a (M) (N) (regs) (shown) (pc) (shows) (cpB bd (fun _ => false) 8) (cpB bw (fun _ => true) 8) (1) (nI (1)) (t) (n)) (va_runV (As := [.int (bi (false))]) (rest := []) ⟨hx, hb, hml, hown, hts⟩ (m_fill l D ct ad (fun i => a (24 + i)) bd false _) (cwV 1 hts (lw_V q127 q128 q129 q5 q130) rfl rfl rfl (by decide +kernel) ⟨Nat.le_of_ble_eq_true rfl, Nat.le_of_ble_eq_true rfl⟩) (mg_preV hC hP hD hS hA (wc := wMk ct (fun i => a (24 + i)) (bd)) [24, 25] rfl (by decide) (ci := 3) (q0 := 0) rfl rfl [.int (bi (false))]) rfl rfl hl.1 rfl (lv_room (Nat.le_of_ble_eq_true rfl)) dX0_begin_68 ⟨Nat.zero_le _, Nat.zero_le _⟩) hP hD hS hA [24, 25] [0, 1, 2, 3, 4, 5, 6, 7, 8, 9, 10, 11, 12, 13, 14, 15, 16, 17, 18, 19, 20, 21, 22, 23, 26, 27, 28] [0, 1, 2, 3, 4, 5, 6, 7, 8, 9, 10, 11, 12, 13, 14, 15, 16, 17, 18, 19, 20, 21, 22, 23, 27, 28, 24, 25, 26] rfl rfl (by decide) (by decide) rfl (by decide) (fun H locs hP hD hS => ?_)
  refine lv_iconst (v := nI (1)) hx hb dX0_begin_71 (by decide) ?_
  exact mg_iret (ty := .boolean) hx hb hr hlocks (rfl) hP hD hS (rfl) dX0_begin_72

set_option maxHeartbeats 4000000 in
set_option maxRecDepth 100000 in
/-- begin(t, n), refused -/
theorem c_beginNo (l : Launch) (D : va_G) (ct ad a : Nat → Nat) (M N : Nat → Nat → Int32) (regs shown : Nat → Int32) (pc shows : Nat) (bd bw : Nat → Bool) (ph : Nat) (rd th lm : Int32) (t n : Int32) (hph : ph ≤ 3) (hno : t.toInt < 0 ∨ 8 < t.toInt ∨ n.toInt < 1 ∨ 20 < n.toInt ∨ ph ≠ 0) : MI l yX0_begin cX0_begin 3 (some .boolean) (rmN 1 30) D ct ad [.ref (a 0), .int t, .int n] (wMig ct ad a (M) (N) (regs) (shown) (pc) (shows) (bd) (bw) (ph) (rd) (th) (lm)) (wMig ct ad a (M) (N) (regs) (shown) (pc) (shows) (bd) (bw) (ph) (rd) (th) (lm)) (nI 0) := by
  refine mg_MI (by decide) (Nat.le_of_ble_eq_true rfl) ?_
  intro p e s m below meth c A hx hb hr hlocks hml hown hnm hts hC hP hD hA hS ls hl
  have hown : s.vm.findClass RX0 = some m.cls := hown
  have hl : lv_has ls 3 [(0, .ref (a 0)), (1, .int (t)), (2, .int (n))] := hl
  refine lv_iload_n hx hb dX0_begin_0 rfl (lv_at hl 1 rfl) ?_
  refine lv_if_lt (tgt := 31) hx hb dX0_begin_1 (by decide) (fun c1 => ?_) (fun c1 => ?_)
  · refine lv_iconst (v := nI (0)) hx hb dX0_begin_31 (by decide) ?_
    exact mg_iret (ty := .boolean) hx hb hr hlocks (rfl) hP hD hS (rfl) dX0_begin_32
  · rw [c_lt0] at c1
    refine lv_iload_n hx hb dX0_begin_4 rfl (lv_at hl 1 rfl) ?_
    refine lv_bipush (v := nI (8)) hx hb dX0_begin_5 (by decide) ?_
    refine lv_icmp_gt (tgt := 31) hx hb dX0_begin_7 (by decide) (fun c7 => ?_) (fun c7 => ?_)
    · refine lv_iconst (v := nI (0)) hx hb dX0_begin_31 (by decide) ?_
      exact mg_iret (ty := .boolean) hx hb hr hlocks (rfl) hP hD hS (rfl) dX0_begin_32
    · rw [c_nlt (by decide)] at c7
      refine lv_iload_n hx hb dX0_begin_10 rfl (lv_at hl 2 rfl) ?_
      refine lv_iconst (v := nI (1)) hx hb dX0_begin_11 (by decide) ?_
      refine lv_icmp_lt (tgt := 31) hx hb dX0_begin_12 (by decide) (fun c12 => ?_) (fun c12 => ?_)
      · refine lv_iconst (v := nI (0)) hx hb dX0_begin_31 (by decide) ?_
        exact mg_iret (ty := .boolean) hx hb hr hlocks (rfl) hP hD hS (rfl) dX0_begin_32
      · rw [c_ltn (by decide)] at c12
        refine lv_iload_n hx hb dX0_begin_15 rfl (lv_at hl 2 rfl) ?_
        refine lv_bipush (v := nI (20)) hx hb dX0_begin_16 (by decide) ?_
        refine lv_icmp_gt (tgt := 31) hx hb dX0_begin_18 (by decide) (fun c18 => ?_) (fun c18 => ?_)
        · refine lv_iconst (v := nI (0)) hx hb dX0_begin_31 (by decide) ?_
          exact mg_iret (ty := .boolean) hx hb hr hlocks (rfl) hP hD hS (rfl) dX0_begin_32
        · rw [c_nlt (by decide)] at c18
          refine lv_aload_n hx hb dX0_begin_21 rfl (lv_at hl 0 rfl) ?_
          refine va_get (D := D) (ci := 0) (v := .ref (ad ph)) (C := RX0) (T := TX0) (N := 10) hx hb hts in_X0 hown hC.1 hP 0 rfl rfl 6 (by decide) (hts _ q85) (fun _ h9 => h9) rfl dX0_begin_22 ?_
          refine va_gets (C := "Migrator$Phase") (n := "HOME") (d := "LMigrator$Phase;") (v := .ref (ad 0)) hx hb (hC.2.2.2.1 0 (by decide)).1 hS hown (hts _ q77) (fun _ h9 => h9) dX0_begin_25 ?_
          refine lv_acmp_eq (rx := some (ad ph)) (ry := some (ad 0)) (tgt := 33) hx hb dX0_begin_28 (by decide) (fun cq => absurd cq (mg_ne hC (by omega) (by decide) (by omega))) (fun _ => ?_)
          refine lv_iconst (v := nI (0)) hx hb dX0_begin_31 (by decide) ?_
          exact mg_iret (ty := .boolean) hx hb hr hlocks (rfl) hP hD hS (rfl) dX0_begin_32

set_option maxHeartbeats 4000000 in
set_option maxRecDepth 100000 in
/-- dirty(q) -/
theorem c_dirty (l : Launch) (D : va_G) (ct ad a : Nat → Nat) (M N : Nat → Nat → Int32) (regs shown : Nat → Int32) (pc shows : Nat) (bd bw : Nat → Bool) (ph : Nat) (rd th lm : Int32) (q : Nat) (hq : q < 8) : MI l yX0_dirty cX0_dirty 2 (some .boolean) (rmN 1 30) D ct ad [.ref (a 0), .int (nI q)] (wMig ct ad a (M) (N) (regs) (shown) (pc) (shows) (bd) (bw) (ph) (rd) (th) (lm)) (wMig ct ad a (M) (N) (regs) (shown) (pc) (shows) (bd) (bw) (ph) (rd) (th) (lm)) (bi (bd q)) := by
  refine mg_MI (by decide) (Nat.le_of_ble_eq_true rfl) ?_
  intro p e s m below meth c A hx hb hr hlocks hml hown hnm hts hC hP hD hA hS ls hl
  have hown : s.vm.findClass RX0 = some m.cls := hown
  have hl : lv_has ls 2 [(0, .ref (a 0)), (1, .int (nI (q)))] := hl
  refine lv_iload_n hx hb dX0_dirty_0 rfl (lv_at hl 1 rfl) ?_
  refine mg_afterI (w1 := ([] : va_W)) (wr := wMig ct ad a (M) (N) (regs) (shown) (pc) (shows) (bd) (bw) (ph) (rd) (th) (lm)) (w2 := wMig ct ad a (M) (N) (regs) (shown) (pc) (shows) (bd) (bw) (ph) (rd) (th) (lm)) (va_runS (As := [.int (nI (q))]) (rest := []) ⟨hx, hb, hml, hown, hts⟩ (s_isPage l D ct ad q hq _) (va_cwS 1 hts (lw_S q202 q203 q2 q204) rfl rfl rfl (by decide +kernel) ⟨Nat.le_of_ble_eq_true rfl, Nat.le_of_ble_eq_true rfl⟩) (mg_preOf hC hP hD hS hA (wc := ([] : va_W)) [] rfl (by decide) [.int (nI (q))]) rfl rfl hl.1 rfl (lv_room (Nat.le_of_ble_eq_true rfl)) dX0_dirty_1 ⟨Nat.zero_le _, Nat.zero_le _⟩) hP hD hS hA [] [0, 1, 2, 3, 4, 5, 6, 7, 8, 9, 10, 11, 12, 13, 14, 15, 16, 17, 18, 19, 20, 21, 22, 23, 24, 25, 26, 27, 28] [0, 1, 2, 3, 4, 5, 6, 7, 8, 9, 10, 11, 12, 13, 14, 15, 16, 17, 18, 19, 20, 21, 22, 23, 24, 25, 26, 27, 28] rfl rfl (by decide) (by decide) rfl (by decide) (fun H locs hP hD hS => ?_)
  refine lv_if_eq (tgt := 23) hx hb dX0_dirty_4 (by decide) (fun cq => absurd cq (by decide)) (fun _ => ?_)
  refine lv_aload_n hx hb dX0_dirty_7 rfl (lv_at hl 0 rfl) ?_
  refine va_get (D := D) (ci := 0) (v := .ref (a 24)) (C := RX0) (T := TX0) (N := 10) hx hb hts in_X0 hown hC.1 hP 0 rfl rfl 3 (by decide) (hts _ q82) (fun _ h9 => h9) rfl dX0_dirty_8 ?_
  refine va_getN (D := D) (ci := 3) (v := .ref (a 25)) (C := RX3) (T := TX3) (N := 1) hx hb hts in_X3 hown hC.1 hP 24 rfl rfl 0 (by decide) (va_Nw.use rfl hC.2.2.1.2.1.2.2.2.2) (fun _ h9 => h9) rfl dX0_dirty_11 ?_
  refine lv_iload_n hx hb dX0_dirty_14 rfl (lv_at hl 1 rfl) ?_
  refine mg_zald hx hb hC.1 hP 25 rfl (i := q) hq dX0_dirty_15 ?_
  refine lv_if_eq (tgt := 23) hx hb dX0_dirty_16 (by decide) (fun cq => ?_) (fun cq => ?_)
  · refine lv_iconst (v := nI (0)) hx hb dX0_dirty_23 (by decide) ?_
    exact mg_iret (ty := .boolean) hx hb hr hlocks (rfl) hP hD hS (by rw [bi_eq0 cq]; rfl) dX0_dirty_24
  · refine lv_iconst (v := nI (1)) hx hb dX0_dirty_19 (by decide) ?_
    refine lv_goto (tgt := 24) hx hb dX0_dirty_20 (by decide) ?_
    exact mg_iret (ty := .boolean) hx hb hr hlocks (rfl) hP hD hS (by rw [bi_ne cq]; rfl) dX0_dirty_24

set_option maxHeartbeats 4000000 in
set_option maxRecDepth 100000 in
/-- dirty(x): no page -/
theorem c_dirtyNo (l : Launch) (D : va_G) (ct ad a : Nat → Nat) (M N : Nat → Nat → Int32) (regs shown : Nat → Int32) (pc shows : Nat) (bd bw : Nat → Bool) (ph : Nat) (rd th lm : Int32) (x : Int32) (hno : x.toInt < 0 ∨ 8 ≤ x.toInt) : MI l yX0_dirty cX0_dirty 2 (some .boolean) (rmN 1 30) D ct ad [.ref (a 0), .int x] (wMig ct ad a (M) (N) (regs) (shown) (pc) (shows) (bd) (bw) (ph) (rd) (th) (lm)) (wMig ct ad a (M) (N) (regs) (shown) (pc) (shows) (bd) (bw) (ph) (rd) (th) (lm)) (bi false) := by
  refine mg_MI (by decide) (Nat.le_of_ble_eq_true rfl) ?_
  intro p e s m below meth c A hx hb hr hlocks hml hown hnm hts hC hP hD hA hS ls hl
  have hown : s.vm.findClass RX0 = some m.cls := hown
  have hl : lv_has ls 2 [(0, .ref (a 0)), (1, .int (x))] := hl
  refine lv_iload_n hx hb dX0_dirty_0 rfl (lv_at hl 1 rfl) ?_
  refine mg_afterI (w1 := ([] : va_W)) (wr := wMig ct ad a (M) (N) (regs) (shown) (pc) (shows) (bd) (bw) (ph) (rd) (th) (lm)) (w2 := wMig ct ad a (M) (N) (regs) (shown) (pc) (shows) (bd) (bw) (ph) (rd) (th) (lm)) (va_runS (As := [.int (x)]) (rest := []) ⟨hx, hb, hml, hown, hts⟩ (s_isPageNo l D ct ad x hno _) (va_cwS 1 hts (lw_S q202 q203 q2 q204) rfl rfl rfl (by decide +kernel) ⟨Nat.le_of_ble_eq_true rfl, Nat.le_of_ble_eq_true rfl⟩) (mg_preOf hC hP hD hS hA (wc := ([] : va_W)) [] rfl (by decide) [.int (x)]) rfl rfl hl.1 rfl (lv_room (Nat.le_of_ble_eq_true rfl)) dX0_dirty_1 ⟨Nat.zero_le _, Nat.zero_le _⟩) hP hD hS hA [] [0, 1, 2, 3, 4, 5, 6, 7, 8, 9, 10, 11, 12, 13, 14, 15, 16, 17, 18, 19, 20, 21, 22, 23, 24, 25, 26, 27, 28] [0, 1, 2, 3, 4, 5, 6, 7, 8, 9, 10, 11, 12, 13, 14, 15, 16, 17, 18, 19, 20, 21, 22, 23, 24, 25, 26, 27, 28] rfl rfl (by decide) (by decide) rfl (by decide) (fun H locs hP hD hS => ?_)
  refine lv_if_eq (tgt := 23) hx hb dX0_dirty_4 (by decide) (fun _ => ?_) (fun cq => absurd (by decide) cq)
  refine lv_iconst (v := nI (0)) hx hb dX0_dirty_23 (by decide) ?_
  exact mg_iret (ty := .boolean) hx hb hr hlocks (rfl) hP hD hS (rfl) dX0_dirty_24

set_option maxHeartbeats 4000000 in
set_option maxRecDepth 100000 in
/-- waits(q) -/
theorem c_waits (l : Launch) (D : va_G) (ct ad a : Nat → Nat) (M N : Nat → Nat → Int32) (regs shown : Nat → Int32) (pc shows : Nat) (bd bw : Nat → Bool) (ph : Nat) (rd th lm : Int32) (q : Nat) (hq : q < 8) : MI l yX0_waits cX0_waits 2 (some .boolean) (rmN 1 30) D ct ad [.ref (a 0), .int (nI q)] (wMig ct ad a (M) (N) (regs) (shown) (pc) (shows) (bd) (bw) (ph) (rd) (th) (lm)) (wMig ct ad a (M) (N) (regs) (shown) (pc) (shows) (bd) (bw) (ph) (rd) (th) (lm)) (bi (bw q)) := by
  refine mg_MI (by decide) (Nat.le_of_ble_eq_true rfl) ?_
  intro p e s m below meth c A hx hb hr hlocks hml hown hnm hts hC hP hD hA hS ls hl
  have hown : s.vm.findClass RX0 = some m.cls := hown
  have hl : lv_has ls 2 [(0, .ref (a 0)), (1, .int (nI (q)))] := hl
  refine lv_iload_n hx hb dX0_waits_0 rfl (lv_at hl 1 rfl) ?_
  refine mg_afterI (w1 := ([] : va_W)) (wr := wMig ct ad a (M) (N) (regs) (shown) (pc) (shows) (bd) (bw) (ph) (rd) (th) (lm)) (w2 := wMig ct ad a (M) (N) (regs) (shown) (pc) (shows) (bd) (bw) (ph) (rd) (th) (lm)) (va_runS (As := [.int (nI (q))]) (rest := []) ⟨hx, hb, hml, hown, hts⟩ (s_isPage l D ct ad q hq _) (va_cwS 1 hts (lw_S q202 q203 q2 q204) rfl rfl rfl (by decide +kernel) ⟨Nat.le_of_ble_eq_true rfl, Nat.le_of_ble_eq_true rfl⟩) (mg_preOf hC hP hD hS hA (wc := ([] : va_W)) [] rfl (by decide) [.int (nI (q))]) rfl rfl hl.1 rfl (lv_room (Nat.le_of_ble_eq_true rfl)) dX0_waits_1 ⟨Nat.zero_le _, Nat.zero_le _⟩) hP hD hS hA [] [0, 1, 2, 3, 4, 5, 6, 7, 8, 9, 10, 11, 12, 13, 14, 15, 16, 17, 18, 19, 20, 21, 22, 23, 24, 25, 26, 27, 28] [0, 1, 2, 3, 4, 5, 6, 7, 8, 9, 10, 11, 12, 13, 14, 15, 16, 17, 18, 19, 20, 21, 22, 23, 24, 25, 26, 27, 28] rfl rfl (by decide) (by decide) rfl (by decide) (fun H locs hP hD hS => ?_)
  refine lv_if_eq (tgt := 23) hx hb dX0_waits_4 (by decide) (fun cq => absurd cq (by decide)) (fun _ => ?_)
  refine lv_aload_n hx hb dX0_waits_7 rfl (lv_at hl 0 rfl) ?_
  refine va_get (D := D) (ci := 0) (v := .ref (a 26)) (C := RX0) (T := TX0) (N := 10) hx hb hts in_X0 hown hC.1 hP 0 rfl rfl 4 (by decide) (hts _ q83) (fun _ h9 => h9) rfl dX0_waits_8 ?_
  refine va_getN (D := D) (ci := 3) (v := .ref (a 27)) (C := RX3) (T := TX3) (N := 1) hx hb hts in_X3 hown hC.1 hP 26 rfl rfl 0 (by decide) (va_Nw.use rfl hC.2.2.1.2.1.2.2.2.2) (fun _ h9 => h9) rfl dX0_waits_11 ?_
  refine lv_iload_n hx hb dX0_waits_14 rfl (lv_at hl 1 rfl) ?_
  refine mg_zald hx hb hC.1 hP 27 rfl (i := q) hq dX0_waits_15 ?_
  refine lv_if_eq (tgt := 23) hx hb dX0_waits_16 (by decide) (fun cq => ?_) (fun cq => ?_)
  · refine lv_iconst (v := nI (0)) hx hb dX0_waits_23 (by decide) ?_
    exact mg_iret (ty := .boolean) hx hb hr hlocks (rfl) hP hD hS (by rw [bi_eq0 cq]; rfl) dX0_waits_24
  · refine lv_iconst (v := nI (1)) hx hb dX0_waits_19 (by decide) ?_
    refine lv_goto (tgt := 24) hx hb dX0_waits_20 (by decide) ?_
    exact mg_iret (ty := .boolean) hx hb hr hlocks (rfl) hP hD hS (by rw [bi_ne cq]; rfl) dX0_waits_24

set_option maxHeartbeats 4000000 in
set_option maxRecDepth 100000 in
/-- waits(x): no page -/
theorem c_waitsNo (l : Launch) (D : va_G) (ct ad a : Nat → Nat) (M N : Nat → Nat → Int32) (regs shown : Nat → Int32) (pc shows : Nat) (bd bw : Nat → Bool) (ph : Nat) (rd th lm : Int32) (x : Int32) (hno : x.toInt < 0 ∨ 8 ≤ x.toInt) : MI l yX0_waits cX0_waits 2 (some .boolean) (rmN 1 30) D ct ad [.ref (a 0), .int x] (wMig ct ad a (M) (N) (regs) (shown) (pc) (shows) (bd) (bw) (ph) (rd) (th) (lm)) (wMig ct ad a (M) (N) (regs) (shown) (pc) (shows) (bd) (bw) (ph) (rd) (th) (lm)) (bi false) := by
  refine mg_MI (by decide) (Nat.le_of_ble_eq_true rfl) ?_
  intro p e s m below meth c A hx hb hr hlocks hml hown hnm hts hC hP hD hA hS ls hl
  have hown : s.vm.findClass RX0 = some m.cls := hown
  have hl : lv_has ls 2 [(0, .ref (a 0)), (1, .int (x))] := hl
  refine lv_iload_n hx hb dX0_waits_0 rfl (lv_at hl 1 rfl) ?_
  refine mg_afterI (w1 := ([] : va_W)) (wr := wMig ct ad a (M) (N) (regs) (shown) (pc) (shows) (bd) (bw) (ph) (rd) (th) (lm)) (w2 := wMig ct ad a (M) (N) (regs) (shown) (pc) (shows) (bd) (bw) (ph) (rd) (th) (lm)) (va_runS (As := [.int (x)]) (rest := []) ⟨hx, hb, hml, hown, hts⟩ (s_isPageNo l D ct ad x hno _) (va_cwS 1 hts (lw_S q202 q203 q2 q204) rfl rfl rfl (by decide +kernel) ⟨Nat.le_of_ble_eq_true rfl, Nat.le_of_ble_eq_true rfl⟩) (mg_preOf hC hP hD hS hA (wc := ([] : va_W)) [] rfl (by decide) [.int (x)]) rfl rfl hl.1 rfl (lv_room (Nat.le_of_ble_eq_true rfl)) dX0_waits_1 ⟨Nat.zero_le _, Nat.zero_le _⟩) hP hD hS hA [] [0, 1, 2, 3, 4, 5, 6, 7, 8, 9, 10, 11, 12, 13, 14, 15, 16, 17, 18, 19, 20, 21, 22, 23, 24, 25, 26, 27, 28] [0, 1, 2, 3, 4, 5, 6, 7, 8, 9, 10, 11, 12, 13, 14, 15, 16, 17, 18, 19, 20, 21, 22, 23, 24, 25, 26, 27, 28] rfl rfl (by decide) (by decide) rfl (by decide) (fun H locs hP hD hS => ?_)
  refine lv_if_eq (tgt := 23) hx hb dX0_waits_4 (by decide) (fun _ => ?_) (fun cq => absurd (by decide) cq)
  refine lv_iconst (v := nI (0)) hx hb dX0_waits_23 (by decide) ?_
  exact mg_iret (ty := .boolean) hx hb hr hlocks (rfl) hP hD hS (rfl) dX0_waits_24

set_option maxHeartbeats 4000000 in
set_option maxRecDepth 100000 in
/-- source(k) -/
theorem c_source (l : Launch) (D : va_G) (ct ad a : Nat → Nat) (M N : Nat → Nat → Int32) (regs shown : Nat → Int32) (pc shows : Nat) (bd bw : Nat → Bool) (ph : Nat) (rd th lm : Int32) (k : Nat) (hk : k < 64) : MI l yX0_source cX0_source 2 (some .int) (rmN 1 30) D ct ad [.ref (a 0), .int (nI k)] (wMig ct ad a (M) (N) (regs) (shown) (pc) (shows) (bd) (bw) (ph) (rd) (th) (lm)) (wMig ct ad a (M) (N) (regs) (shown) (pc) (shows) (bd) (bw) (ph) (rd) (th) (lm)) (M (k / 8) (k % 8)) := by
  refine mg_MI (by decide) (Nat.le_of_ble_eq_true rfl) ?_
  intro p e s m below meth c A hx hb hr hlocks hml hown hnm hts hC hP hD hA hS ls hl
  have hown : s.vm.findClass RX0 = some m.cls := hown
  have hl : lv_has ls 2 [(0, .ref (a 0)), (1, .int (nI (k)))] := hl
  refine lv_iload_n hx hb dX0_source_0 rfl (lv_at hl 1 rfl) ?_
  refine mg_afterI (w1 := ([] : va_W)) (wr := wMig ct ad a (M) (N) (regs) (shown) (pc) (shows) (bd) (bw) (ph) (rd) (th) (lm)) (w2 := wMig ct ad a (M) (N) (regs) (shown) (pc) (shows) (bd) (bw) (ph) (rd) (th) (lm)) (va_runS (As := [.int (nI (k))]) (rest := []) ⟨hx, hb, hml, hown, hts⟩ (s_isAddress l D ct ad k hk _) (va_cwS 1 hts (lw_S q114 q115 q2 q116) rfl rfl rfl (by decide +kernel) ⟨Nat.le_of_ble_eq_true rfl, Nat.le_of_ble_eq_true rfl⟩) (mg_preOf hC hP hD hS hA (wc := ([] : va_W)) [] rfl (by decide) [.int (nI (k))]) rfl rfl hl.1 rfl (lv_room (Nat.le_of_ble_eq_true rfl)) dX0_source_1 ⟨Nat.zero_le _, Nat.zero_le _⟩) hP hD hS hA [] [0, 1, 2, 3, 4, 5, 6, 7, 8, 9, 10, 11, 12, 13, 14, 15, 16, 17, 18, 19, 20, 21, 22, 23, 24, 25, 26, 27, 28] [0, 1, 2, 3, 4, 5, 6, 7, 8, 9, 10, 11, 12, 13, 14, 15, 16, 17, 18, 19, 20, 21, 22, 23, 24, 25, 26, 27, 28] rfl rfl (by decide) (by decide) rfl (by decide) (fun H locs hP hD hS => ?_)
  refine lv_if_eq (tgt := 18) hx hb dX0_source_4 (by decide) (fun cq => absurd cq (by decide)) (fun _ => ?_)
  refine lv_aload_n hx hb dX0_source_7 rfl (lv_at hl 0 rfl) ?_
  refine va_get (D := D) (ci := 0) (v := .ref (a 1)) (C := RX0) (T := TX0) (N := 10) hx hb hts in_X0 hown hC.1 hP 0 rfl rfl 0 (by decide) (hts _ q79) (fun _ h9 => h9) rfl dX0_source_8 ?_
  refine lv_iload_n hx hb dX0_source_11 rfl (lv_at hl 1 rfl) ?_
  refine mg_afterI (w1 := wHost ct (fun i => a (1 + i)) (M)) (wr := wHd a (ad (ph)) (rd) (th) (lm) ++ wHost ct (fun i => a (11 + i)) (N) ++ wGst ct (fun i => a (21 + i)) (regs) (shown) (pc) (shows) ++ wMk ct (fun i => a (24 + i)) (bd) ++ wMk ct (fun i => a (26 + i)) (bw) ++ wNb (a 28)) (w2 := wMig ct ad a (M) (N) (regs) (shown) (pc) (shows) (bd) (bw) (ph) (rd) (th) (lm)) (va_runV (As := [.int (nI (k))]) (rest := []) ⟨hx, hb, hml, hown, hts⟩ (h_word l D ct ad (fun i => a (1 + i)) M k hk _) (cwV 1 hts (lw_V q213 q144 q145 q3 q146) rfl rfl rfl (by decide +kernel) ⟨Nat.le_of_ble_eq_true rfl, Nat.le_of_ble_eq_true rfl⟩) (mg_preV hC hP hD hS hA (wc := wHost ct (fun i => a (1 + i)) (M)) [1, 2, 3, 4, 5, 6, 7, 8, 9, 10] rfl (by decide) (ci := 1) (q0 := 0) rfl rfl [.int (nI (k))]) rfl rfl hl.1 rfl (lv_room (Nat.le_of_ble_eq_true rfl)) dX0_source_12 ⟨Nat.zero_le _, Nat.zero_le _⟩) hP hD hS hA [1, 2, 3, 4, 5, 6, 7, 8, 9, 10] [0, 11, 12, 13, 14, 15, 16, 17, 18, 19, 20, 21, 22, 23, 24, 25, 26, 27, 28] [0, 19, 20, 21, 22, 23, 24, 25, 26, 27, 28, 1, 2, 3, 4, 5, 6, 7, 8, 9, 10, 11, 12, 13, 14, 15, 16, 17, 18] rfl rfl (by decide) (by decide) rfl (by decide) (fun H locs hP hD hS => ?_)
  refine lv_goto (tgt := 19) hx hb dX0_source_15 (by decide) ?_
  exact mg_iret (ty := .int) hx hb hr hlocks (rfl) hP hD hS (rfl) dX0_source_19

set_option maxHeartbeats 4000000 in
set_option maxRecDepth 100000 in
/-- source(x): no address -/
theorem c_sourceNo (l : Launch) (D : va_G) (ct ad a : Nat → Nat) (M N : Nat → Nat → Int32) (regs shown : Nat → Int32) (pc shows : Nat) (bd bw : Nat → Bool) (ph : Nat) (rd th lm : Int32) (x : Int32) (hno : x.toInt < 0 ∨ 64 ≤ x.toInt) : MI l yX0_source cX0_source 2 (some .int) (rmN 1 30) D ct ad [.ref (a 0), .int x] (wMig ct ad a (M) (N) (regs) (shown) (pc) (shows) (bd) (bw) (ph) (rd) (th) (lm)) (wMig ct ad a (M) (N) (regs) (shown) (pc) (shows) (bd) (bw) (ph) (rd) (th) (lm)) (nI 0) := by
  refine mg_MI (by decide) (Nat.le_of_ble_eq_true rfl) ?_
  intro p e s m below meth c A hx hb hr hlocks hml hown hnm hts hC hP hD hA hS ls hl
  have hown : s.vm.findClass RX0 = some m.cls := hown
  have hl : lv_has ls 2 [(0, .ref (a 0)), (1, .int (x))] := hl
  refine lv_iload_n hx hb dX0_source_0 rfl (lv_at hl 1 rfl) ?_
  refine mg_afterI (w1 := ([] : va_W)) (wr := wMig ct ad a (M) (N) (regs) (shown) (pc) (shows) (bd) (bw) (ph) (rd) (th) (lm)) (w2 := wMig ct ad a (M) (N) (regs) (shown) (pc) (shows) (bd) (bw) (ph) (rd) (th) (lm)) (va_runS (As := [.int (x)]) (rest := []) ⟨hx, hb, hml, hown, hts⟩ (s_isAddressNo l D ct ad x hno _) (va_cwS 1 hts (lw_S q114 q115 q2 q116) rfl rfl rfl (by decide +kernel) ⟨Nat.le_of_ble_eq_true rfl, Nat.le_of_ble_eq_true rfl⟩) (mg_preOf hC hP hD hS hA (wc := ([] : va_W)) [] rfl (by decide) [.int (x)]) rfl rfl hl.1 rfl (lv_room (Nat.le_of_ble_eq_true rfl)) dX0_source_1 ⟨Nat.zero_le _, Nat.zero_le _⟩) hP hD hS hA [] [0, 1, 2, 3, 4, 5, 6, 7, 8, 9, 10, 11, 12, 13, 14, 15, 16, 17, 18, 19, 20, 21, 22, 23, 24, 25, 26, 27, 28] [0, 1, 2, 3, 4, 5, 6, 7, 8, 9, 10, 11, 12, 13, 14, 15, 16, 17, 18, 19, 20, 21, 22, 23, 24, 25, 26, 27, 28] rfl rfl (by decide) (by decide) rfl (by decide) (fun H locs hP hD hS => ?_)
  refine lv_if_eq (tgt := 18) hx hb dX0_source_4 (by decide) (fun _ => ?_) (fun cq => absurd (by decide) cq)
  refine lv_iconst (v := nI (0)) hx hb dX0_source_18 (by decide) ?_
  exact mg_iret (ty := .int) hx hb hr hlocks (rfl) hP hD hS (rfl) dX0_source_19

set_option maxHeartbeats 4000000 in
set_option maxRecDepth 100000 in
/-- destination(k) -/
theorem c_destination (l : Launch) (D : va_G) (ct ad a : Nat → Nat) (M N : Nat → Nat → Int32) (regs shown : Nat → Int32) (pc shows : Nat) (bd bw : Nat → Bool) (ph : Nat) (rd th lm : Int32) (k : Nat) (hk : k < 64) : MI l yX0_destination cX0_destination 2 (some .int) (rmN 1 30) D ct ad [.ref (a 0), .int (nI k)] (wMig ct ad a (M) (N) (regs) (shown) (pc) (shows) (bd) (bw) (ph) (rd) (th) (lm)) (wMig ct ad a (M) (N) (regs) (shown) (pc) (shows) (bd) (bw) (ph) (rd) (th) (lm)) (N (k / 8) (k % 8)) := by
  refine mg_MI (by decide) (Nat.le_of_ble_eq_true rfl) ?_
  intro p e s m below meth c A hx hb hr hlocks hml hown hnm hts hC hP hD hA hS ls hl
  have hown : s.vm.findClass RX0 = some m.cls := hown
  have hl : lv_has ls 2 [(0, .ref (a 0)), (1, .int (nI (k)))] := hl
  refine lv_iload_n hx hb dX0_destination_0 rfl (lv_at hl 1 rfl) ?_
  refine mg_afterI (w1 := ([] : va_W)) (wr := wMig ct ad a (M) (N) (regs) (shown) (pc) (shows) (bd) (bw) (ph) (rd) (th) (lm)) (w2 := wMig ct ad a (M) (N) (regs) (shown) (pc) (shows) (bd) (bw) (ph) (rd) (th) (lm)) (va_runS (As := [.int (nI (k))]) (rest := []) ⟨hx, hb, hml, hown, hts⟩ (s_isAddress l D ct ad k hk _) (va_cwS 1 hts (lw_S q114 q115 q2 q116) rfl rfl rfl (by decide +kernel) ⟨Nat.le_of_ble_eq_true rfl, Nat.le_of_ble_eq_true rfl⟩) (mg_preOf hC hP hD hS hA (wc := ([] : va_W)) [] rfl (by decide) [.int (nI (k))]) rfl rfl hl.1 rfl (lv_room (Nat.le_of_ble_eq_true rfl)) dX0_destination_1 ⟨Nat.zero_le _, Nat.zero_le _⟩) hP hD hS hA [] [0, 1, 2, 3, 4, 5, 6, 7, 8, 9, 10, 11, 12, 13, 14, 15, 16, 17, 18, 19, 20, 21, 22, 23, 24, 25, 26, 27, 28] [0, 1, 2, 3, 4, 5, 6, 7, 8, 9, 10, 11, 12, 13, 14, 15, 16, 17, 18, 19, 20, 21, 22, 23, 24, 25, 26, 27, 28] rfl rfl (by decide) (by decide) rfl (by decide) (fun H locs hP hD hS => ?_)
  refine lv_if_eq (tgt := 18) hx hb dX0_destination_4 (by decide) (fun cq => absurd cq (by decide)) (fun _ => ?_)
  refine lv_aload_n hx hb dX0_destination_7 rfl (lv_at hl 0 rfl) ?_
  refine va_get (D := D) (ci := 0) (v := .ref (a 11)) (C := RX0) (T := TX0) (N := 10) hx hb hts in_X0 hown hC.1 hP 0 rfl rfl 1 (by decide) (hts _ q80) (fun _ h9 => h9) rfl dX0_destination_8 ?_
  refine lv_iload_n hx hb dX0_destination_11 rfl (lv_at hl 1 rfl) ?_
  refine mg_afterI (w1 := wHost ct (fun i => a (11 + i)) (N)) (wr := wHd a (ad (ph)) (rd) (th) (lm) ++ wHost ct (fun i => a (1 + i)) (M) ++ wGst ct (fun i => a (21 + i)) (regs) (shown) (pc) (shows) ++ wMk ct (fun i => a (24 + i)) (bd) ++ wMk ct (fun i => a (26 + i)) (bw) ++ wNb (a 28)) (w2 := wMig ct ad a (M) (N) (regs) (shown) (pc) (shows) (bd) (bw) (ph) (rd) (th) (lm)) (va_runV (As := [.int (nI (k))]) (rest := []) ⟨hx, hb, hml, hown, hts⟩ (h_word l D ct ad (fun i => a (11 + i)) N k hk _) (cwV 1 hts (lw_V q213 q144 q145 q3 q146) rfl rfl rfl (by decide +kernel) ⟨Nat.le_of_ble_eq_true rfl, Nat.le_of_ble_eq_true rfl⟩) (mg_preV hC hP hD hS hA (wc := wHost ct (fun i => a (11 + i)) (N)) [11, 12, 13, 14, 15, 16, 17, 18, 19, 20] rfl (by decide) (ci := 1) (q0 := 0) rfl rfl [.int (nI (k))]) rfl rfl hl.1 rfl (lv_room (Nat.le_of_ble_eq_true rfl)) dX0_destination_12 ⟨Nat.zero_le _, Nat.zero_le _⟩) hP hD hS hA [11, 12, 13, 14, 15, 16, 17, 18, 19, 20] [0, 1, 2, 3, 4, 5, 6, 7, 8, 9, 10, 21, 22, 23, 24, 25, 26, 27, 28] [0, 1, 2, 3, 4, 5, 6, 7, 8, 9, 10, 19, 20, 21, 22, 23, 24, 25, 26, 27, 28, 11, 12, 13, 14, 15, 16, 17, 18] rfl rfl (by decide) (by decide) rfl (by decide) (fun H locs hP hD hS => ?_)
  refine lv_goto (tgt := 19) hx hb dX0_destination_15 (by decide) ?_
  exact mg_iret (ty := .int) hx hb hr hlocks (rfl) hP hD hS (rfl) dX0_destination_19

set_option maxHeartbeats 4000000 in
set_option maxRecDepth 100000 in
/-- destination(x): no address -/
theorem c_destinationNo (l : Launch) (D : va_G) (ct ad a : Nat → Nat) (M N : Nat → Nat → Int32) (regs shown : Nat → Int32) (pc shows : Nat) (bd bw : Nat → Bool) (ph : Nat) (rd th lm : Int32) (x : Int32) (hno : x.toInt < 0 ∨ 64 ≤ x.toInt) : MI l yX0_destination cX0_destination 2 (some .int) (rmN 1 30) D ct ad [.ref (a 0), .int x] (wMig ct ad a (M) (N) (regs) (shown) (pc) (shows) (bd) (bw) (ph) (rd) (th) (lm)) (wMig ct ad a (M) (N) (regs) (shown) (pc) (shows) (bd) (bw) (ph) (rd) (th) (lm)) (nI 0) := by
  refine mg_MI (by decide) (Nat.le_of_ble_eq_true rfl) ?_
  intro p e s m below meth c A hx hb hr hlocks hml hown hnm hts hC hP hD hA hS ls hl
  have hown : s.vm.findClass RX0 = some m.cls := hown
  have hl : lv_has ls 2 [(0, .ref (a 0)), (1, .int (x))] := hl
  refine lv_iload_n hx hb dX0_destination_0 rfl (lv_at hl 1 rfl) ?_
  refine mg_afterI (w1 := ([] : va_W)) (wr := wMig ct ad a (M) (N) (regs) (shown) (pc) (shows) (bd) (bw) (ph) (rd) (th) (lm)) (w2 := wMig ct ad a (M) (N) (regs) (shown) (pc) (shows) (bd) (bw) (ph) (rd) (th) (lm)) (va_runS (As := [.int (x)]) (rest := []) ⟨hx, hb, hml, hown, hts⟩ (s_isAddressNo l D ct ad x hno _) (va_cwS 1 hts (lw_S q114 q115 q2 q116) rfl rfl rfl (by decide +kernel) ⟨Nat.le_of_ble_eq_true rfl, Nat.le_of_ble_eq_true rfl⟩) (mg_preOf hC hP hD hS hA (wc := ([] : va_W)) [] rfl (by decide) [.int (x)]) rfl rfl hl.1 rfl (lv_room (Nat.le_of_ble_eq_true rfl)) dX0_destination_1 ⟨Nat.zero_le _, Nat.zero_le _⟩) hP hD hS hA [] [0, 1, 2, 3, 4, 5, 6, 7, 8, 9, 10, 11, 12, 13, 14, 15, 16, 17, 18, 19, 20, 21, 22, 23, 24, 25, 26, 27, 28] [0, 1, 2, 3, 4, 5, 6, 7, 8, 9, 10, 11, 12, 13, 14, 15, 16, 17, 18, 19, 20, 21, 22, 23, 24, 25, 26, 27, 28] rfl rfl (by decide) (by decide) rfl (by decide) (fun H locs hP hD hS => ?_)
  refine lv_if_eq (tgt := 18) hx hb dX0_destination_4 (by decide) (fun _ => ?_) (fun cq => absurd (by decide) cq)
  refine lv_iconst (v := nI (0)) hx hb dX0_destination_18 (by decide) ?_
  exact mg_iret (ty := .int) hx hb hr hlocks (rfl) hP hD hS (rfl) dX0_destination_19

set_option maxHeartbeats 4000000 in
set_option maxRecDepth 100000 in
/-- register(k) -/
theorem c_register (l : Launch) (D : va_G) (ct ad a : Nat → Nat) (M N : Nat → Nat → Int32) (regs shown : Nat → Int32) (pc shows : Nat) (bd bw : Nat → Bool) (ph : Nat) (rd th lm : Int32) (k : Nat) (hk : k < 4) : MI l yX0_register cX0_register 2 (some .int) (rmN 1 30) D ct ad [.ref (a 0), .int (nI k)] (wMig ct ad a (M) (N) (regs) (shown) (pc) (shows) (bd) (bw) (ph) (rd) (th) (lm)) (wMig ct ad a (M) (N) (regs) (shown) (pc) (shows) (bd) (bw) (ph) (rd) (th) (lm)) (regs k) := by
  refine mg_MI (by decide) (Nat.le_of_ble_eq_true rfl) ?_
  intro p e s m below meth c A hx hb hr hlocks hml hown hnm hts hC hP hD hA hS ls hl
  have hown : s.vm.findClass RX0 = some m.cls := hown
  have hl : lv_has ls 2 [(0, .ref (a 0)), (1, .int (nI (k)))] := hl
  refine lv_iload_n hx hb dX0_register_0 rfl (lv_at hl 1 rfl) ?_
  refine lv_if_lt (tgt := 9) hx hb dX0_register_1 (by decide) (fun cq => absurd cq (nI_pos (by omega))) (fun _ => ?_)
  refine lv_iload_n hx hb dX0_register_4 rfl (lv_at hl 1 rfl) ?_
  refine lv_iconst (v := nI (3)) hx hb dX0_register_5 (by decide) ?_
  refine lv_icmp_le (tgt := 13) hx hb dX0_register_6 (by decide) (fun _ => ?_) (fun cq => absurd (by first | decide | (rw [nI_leI (by omega) (by omega)]; omega) | (rw [nI_ltI (by omega) (by omega)]; omega) | exact nI_pos (by omega) | (rw [nI_eq (by omega) (by omega)]; omega) | (rw [c_eq0 (by omega)]; omega) | (rw [c_lt0]; omega) | (rw [c_nlt (by omega)]; omega) | (rw [c_ltn (by omega)]; omega) | (rw [c_nle (by omega)]; omega) | (rw [c_len (by omega)]; omega)) cq)
  refine lv_aload_n hx hb dX0_register_13 rfl (lv_at hl 0 rfl) ?_
  refine va_get (D := D) (ci := 0) (v := .ref (a 21)) (C := RX0) (T := TX0) (N := 10) hx hb hts in_X0 hown hC.1 hP 0 rfl rfl 2 (by decide) (hts _ q81) (fun _ h9 => h9) rfl dX0_register_14 ?_
  refine va_getN (D := D) (ci := 2) (v := .ref (a 22)) (C := RX2) (T := TX2) (N := 4) hx hb hts in_X2 hown hC.1 hP 21 rfl rfl 0 (by decide) (va_Nw.use rfl hC.2.2.1.2.1.1) (fun _ h9 => h9) rfl dX0_register_17 ?_
  refine lv_iload_n hx hb dX0_register_20 rfl (lv_at hl 1 rfl) ?_
  refine mg_iald hx hb hC.1 hP 22 rfl (i := k) hk dX0_register_21 ?_
  exact mg_iret (ty := .int) hx hb hr hlocks (rfl) hP hD hS (rfl) dX0_register_22

set_option maxHeartbeats 4000000 in
set_option maxRecDepth 100000 in
/-- register(x): none -/
theorem c_registerNo (l : Launch) (D : va_G) (ct ad a : Nat → Nat) (M N : Nat → Nat → Int32) (regs shown : Nat → Int32) (pc shows : Nat) (bd bw : Nat → Bool) (ph : Nat) (rd th lm : Int32) (x : Int32) (hno : x.toInt < 0 ∨ 4 ≤ x.toInt) : MI l yX0_register cX0_register 2 (some .int) (rmN 1 30) D ct ad [.ref (a 0), .int x] (wMig ct ad a (M) (N) (regs) (shown) (pc) (shows) (bd) (bw) (ph) (rd) (th) (lm)) (wMig ct ad a (M) (N) (regs) (shown) (pc) (shows) (bd) (bw) (ph) (rd) (th) (lm)) (nI 0) := by
  refine mg_MI (by decide) (Nat.le_of_ble_eq_true rfl) ?_
  intro p e s m below meth c A hx hb hr hlocks hml hown hnm hts hC hP hD hA hS ls hl
  have hown : s.vm.findClass RX0 = some m.cls := hown
  have hl : lv_has ls 2 [(0, .ref (a 0)), (1, .int (x))] := hl
  refine lv_iload_n hx hb dX0_register_0 rfl (lv_at hl 1 rfl) ?_
  refine lv_if_lt (tgt := 9) hx hb dX0_register_1 (by decide) (fun c1 => ?_) (fun c1 => ?_)
  · refine lv_iconst (v := nI (0)) hx hb dX0_register_9 (by decide) ?_
    refine lv_goto (tgt := 22) hx hb dX0_register_10 (by decide) ?_
    exact mg_iret (ty := .int) hx hb hr hlocks (rfl) hP hD hS (rfl) dX0_register_22
  · rw [c_lt0] at c1
    refine lv_iload_n hx hb dX0_register_4 rfl (lv_at hl 1 rfl) ?_
    refine lv_iconst (v := nI (3)) hx hb dX0_register_5 (by decide) ?_
    refine lv_icmp_le (tgt := 13) hx hb dX0_register_6 (by decide) (fun cq => absurd cq (by first | decide | (rw [nI_leI (by omega) (by omega)]; omega) | (rw [nI_ltI (by omega) (by omega)]; omega) | exact nI_pos (by omega) | (rw [nI_eq (by omega) (by omega)]; omega) | (rw [c_eq0 (by omega)]; omega) | (rw [c_lt0]; omega) | (rw [c_nlt (by omega)]; omega) | (rw [c_ltn (by omega)]; omega) | (rw [c_nle (by omega)]; omega) | (rw [c_len (by omega)]; omega))) (fun _ => ?_)
    refine lv_iconst (v := nI (0)) hx hb dX0_register_9 (by decide) ?_
    refine lv_goto (tgt := 22) hx hb dX0_register_10 (by decide) ?_
    exact mg_iret (ty := .int) hx hb hr hlocks (rfl) hP hD hS (rfl) dX0_register_22

set_option maxHeartbeats 4000000 in
set_option maxRecDepth 100000 in
/-- shown(k) -/
theorem c_shown (l : Launch) (D : va_G) (ct ad a : Nat → Nat) (M N : Nat → Nat → Int32) (regs shown : Nat → Int32) (pc shows : Nat) (bd bw : Nat → Bool) (ph : Nat) (rd th lm : Int32) (k : Nat) (hk : k < 8) (hks : k < shows) (hsh : shows < 2 ^ 31) : MI l yX0_shown cX0_shown 2 (some .int) (rmN 1 30) D ct ad [.ref (a 0), .int (nI k)] (wMig ct ad a (M) (N) (regs) (shown) (pc) (shows) (bd) (bw) (ph) (rd) (th) (lm)) (wMig ct ad a (M) (N) (regs) (shown) (pc) (shows) (bd) (bw) (ph) (rd) (th) (lm)) (shown ((shows - 1 - k) % 8)) := by
  refine mg_MI (by decide) (Nat.le_of_ble_eq_true rfl) ?_
  intro p e s m below meth c A hx hb hr hlocks hml hown hnm hts hC hP hD hA hS ls hl
  have hown : s.vm.findClass RX0 = some m.cls := hown
  have hl : lv_has ls 2 [(0, .ref (a 0)), (1, .int (nI (k)))] := hl
  refine lv_iload_n hx hb dX0_shown_0 rfl (lv_at hl 1 rfl) ?_
  refine lv_if_lt (tgt := 21) hx hb dX0_shown_1 (by decide) (fun cq => absurd cq (nI_pos (by omega))) (fun _ => ?_)
  refine lv_iload_n hx hb dX0_shown_4 rfl (lv_at hl 1 rfl) ?_
  refine lv_bipush (v := nI (8)) hx hb dX0_shown_5 (by decide) ?_
  refine lv_icmp_ge (tgt := 21) hx hb dX0_shown_7 (by decide) (fun cq => absurd cq (by first | decide | (rw [nI_leI (by omega) (by omega)]; omega) | (rw [nI_ltI (by omega) (by omega)]; omega) | exact nI_pos (by omega) | (rw [nI_eq (by omega) (by omega)]; omega) | (rw [c_eq0 (by omega)]; omega) | (rw [c_lt0]; omega) | (rw [c_nlt (by omega)]; omega) | (rw [c_ltn (by omega)]; omega) | (rw [c_nle (by omega)]; omega) | (rw [c_len (by omega)]; omega))) (fun _ => ?_)
  refine lv_iload_n hx hb dX0_shown_10 rfl (lv_at hl 1 rfl) ?_
  refine lv_aload_n hx hb dX0_shown_11 rfl (lv_at hl 0 rfl) ?_
  refine va_get (D := D) (ci := 0) (v := .ref (a 21)) (C := RX0) (T := TX0) (N := 10) hx hb hts in_X0 hown hC.1 hP 0 rfl rfl 2 (by decide) (hts _ q81) (fun _ h9 => h9) rfl dX0_shown_12 ?_
  refine va_getN (D := D) (ci := 2) (v := .int (nI (shows))) (C := RX2) (T := TX2) (N := 4) hx hb hts in_X2 hown hC.1 hP 21 rfl rfl 3 (by decide) (va_Nw.use rfl hC.2.2.1.2.1.2.2.2.1) (fun _ h9 => h9) rfl dX0_shown_15 ?_
  refine lv_icmp_lt (tgt := 23) hx hb dX0_shown_18 (by decide) (fun _ => ?_) (fun cq => absurd (by first | decide | (rw [nI_leI (by omega) (by omega)]; omega) | (rw [nI_ltI (by omega) (by omega)]; omega) | exact nI_pos (by omega) | (rw [nI_eq (by omega) (by omega)]; omega) | (rw [c_eq0 (by omega)]; omega) | (rw [c_lt0]; omega) | (rw [c_nlt (by omega)]; omega) | (rw [c_ltn (by omega)]; omega) | (rw [c_nle (by omega)]; omega) | (rw [c_len (by omega)]; omega)) cq)
  refine lv_aload_n hx hb dX0_shown_23 rfl (lv_at hl 0 rfl) ?_
  refine va_get (D := D) (ci := 0) (v := .ref (a 21)) (C := RX0) (T := TX0) (N := 10) hx hb hts in_X0 hown hC.1 hP 0 rfl rfl 2 (by decide) (hts _ q81) (fun _ h9 => h9) rfl dX0_shown_24 ?_
  refine va_getN (D := D) (ci := 2) (v := .ref (a 23)) (C := RX2) (T := TX2) (N := 4) hx hb hts in_X2 hown hC.1 hP 21 rfl rfl 1 (by decide) (va_Nw.use rfl hC.2.2.1.2.1.2.1) (fun _ h9 => h9) rfl dX0_shown_27 ?_
  refine lv_aload_n hx hb dX0_shown_30 rfl (lv_at hl 0 rfl) ?_
  refine va_get (D := D) (ci := 0) (v := .ref (a 21)) (C := RX0) (T := TX0) (N := 10) hx hb hts in_X0 hown hC.1 hP 0 rfl rfl 2 (by decide) (hts _ q81) (fun _ h9 => h9) rfl dX0_shown_31 ?_
  refine va_getN (D := D) (ci := 2) (v := .int (nI (shows))) (C := RX2) (T := TX2) (N := 4) hx hb hts in_X2 hown hC.1 hP 21 rfl rfl 3 (by decide) (va_Nw.use rfl hC.2.2.1.2.1.2.2.2.1) (fun _ h9 => h9) rfl dX0_shown_34 ?_
  refine lv_iconst (v := nI (1)) hx hb dX0_shown_37 (by decide) ?_
  refine lv_isub hx hb dX0_shown_38 ?_
  refine mg_top (y := nI (shows - 1)) (pk_sub (by omega)) ?_
  refine lv_iload_n hx hb dX0_shown_39 rfl (lv_at hl 1 rfl) ?_
  refine lv_isub hx hb dX0_shown_40 ?_
  refine mg_top (y := nI (shows - 1 - k)) (pk_sub (by omega)) ?_
  refine lv_bipush (v := nI (8)) hx hb dX0_shown_41 (by decide) ?_
  refine lv_irem hx hb dX0_shown_43 (by decide) ?_
  refine mg_top (y := nI ((shows - 1 - k) % 8)) (pk_rem (by omega) (by decide) (by decide)) ?_
  refine mg_iald hx hb hC.1 hP 23 rfl (i := (shows - 1 - k) % 8) (by omega) dX0_shown_44 ?_
  exact mg_iret (ty := .int) hx hb hr hlocks (rfl) hP hD hS (rfl) dX0_shown_45

set_option maxHeartbeats 4000000 in
set_option maxRecDepth 100000 in
/-- shown(x): none -/
theorem c_shownNo (l : Launch) (D : va_G) (ct ad a : Nat → Nat) (M N : Nat → Nat → Int32) (regs shown : Nat → Int32) (pc shows : Nat) (bd bw : Nat → Bool) (ph : Nat) (rd th lm : Int32) (x : Int32) (hsh : shows < 2 ^ 31) (hno : x.toInt < 0 ∨ 8 ≤ x.toInt ∨ (shows : Int) ≤ x.toInt) : MI l yX0_shown cX0_shown 2 (some .int) (rmN 1 30) D ct ad [.ref (a 0), .int x] (wMig ct ad a (M) (N) (regs) (shown) (pc) (shows) (bd) (bw) (ph) (rd) (th) (lm)) (wMig ct ad a (M) (N) (regs) (shown) (pc) (shows) (bd) (bw) (ph) (rd) (th) (lm)) (nI 0) := by
  refine mg_MI (by decide) (Nat.le_of_ble_eq_true rfl) ?_
  intro p e s m below meth c A hx hb hr hlocks hml hown hnm hts hC hP hD hA hS ls hl
  have hown : s.vm.findClass RX0 = some m.cls := hown
  have hl : lv_has ls 2 [(0, .ref (a 0)), (1, .int (x))] := hl
  refine lv_iload_n hx hb dX0_shown_0 rfl (lv_at hl 1 rfl) ?_
  refine lv_if_lt (tgt := 21) hx hb dX0_shown_1 (by decide) (fun c1 => ?_) (fun c1 => ?_)
  · refine lv_iconst (v := nI (0)) hx hb dX0_shown_21 (by decide) ?_
    exact mg_iret (ty := .int) hx hb hr hlocks (rfl) hP hD hS (rfl) dX0_shown_22
  · rw [c_lt0] at c1
    refine lv_iload_n hx hb dX0_shown_4 rfl (lv_at hl 1 rfl) ?_
    refine lv_bipush (v := nI (8)) hx hb dX0_shown_5 (by decide) ?_
    refine lv_icmp_ge (tgt := 21) hx hb dX0_shown_7 (by decide) (fun c2 => ?_) (fun c2 => ?_)
    · refine lv_iconst (v := nI (0)) hx hb dX0_shown_21 (by decide) ?_
      exact mg_iret (ty := .int) hx hb hr hlocks (rfl) hP hD hS (rfl) dX0_shown_22
    · rw [c_nle (by decide)] at c2
      refine lv_iload_n hx hb dX0_shown_10 rfl (lv_at hl 1 rfl) ?_
      refine lv_aload_n hx hb dX0_shown_11 rfl (lv_at hl 0 rfl) ?_
      refine va_get (D := D) (ci := 0) (v := .ref (a 21)) (C := RX0) (T := TX0) (N := 10) hx hb hts in_X0 hown hC.1 hP 0 rfl rfl 2 (by decide) (hts _ q81) (fun _ h9 => h9) rfl dX0_shown_12 ?_
      refine va_getN (D := D) (ci := 2) (v := .int (nI (shows))) (C := RX2) (T := TX2) (N := 4) hx hb hts in_X2 hown hC.1 hP 21 rfl rfl 3 (by decide) (va_Nw.use rfl hC.2.2.1.2.1.2.2.2.1) (fun _ h9 => h9) rfl dX0_shown_15 ?_
      refine lv_icmp_lt (tgt := 23) hx hb dX0_shown_18 (by decide) (fun cq => absurd cq (by rw [c_ltn (by omega)]; omega)) (fun _ => ?_)
      refine lv_iconst (v := nI (0)) hx hb dX0_shown_21 (by decide) ?_
      exact mg_iret (ty := .int) hx hb hr hlocks (rfl) hP hD hS (rfl) dX0_shown_22
end
section
/-! MODULE Migrator: run, copy (written by gen/gen_mig.py) -/
set_option maxRecDepth 100000
set_option maxHeartbeats 4000000 in
set_option maxRecDepth 100000 in
/-- run(n) in phase 0 -/
theorem c_run0 (l : Launch) (D : va_G) (ct ad a : Nat → Nat) (σ : GS) (N : Nat → Nat → Int32) (bd bw : Nat → Bool) (rd th lm : Int32) (n : Nat) (hn : n ≤ 1000) (hpc : σ.2.2.2.1 < 64) (hsh : σ.2.2.2.2.1 < 2 ^ 29) : MI l yX0_run cX0_run 5 (some .int) (rmN 2 60) D ct ad [.ref (a 0), .int (nI n)] (wMig ct ad a ((σ).1) (N) ((σ).2.1) ((σ).2.2.1) ((σ).2.2.2.1) ((σ).2.2.2.2.1) (bd) (bw) (0) (rd) (th) (lm)) (wMig ct ad a ((giter false n σ).1) (N) ((giter false n σ).2.1) ((giter false n σ).2.2.1) ((giter false n σ).2.2.2.1) ((giter false n σ).2.2.2.2.1) (bd) (bw) (0) (rd) (th) (lm)) (nI n) := by
  refine mg_MI (by decide) (Nat.le_of_ble_eq_true rfl) ?_
  intro p e s m below meth c A hx hb hr hlocks hml hown hnm hts hC hP hD hA hS ls hl
  have hown : s.vm.findClass RX0 = some m.cls := hown
  have hl : lv_has ls 5 [(0, .ref (a 0)), (1, .int (nI (n)))] := hl
  refine lv_iload_n hx hb dX0_run_0 rfl (lv_at hl 1 rfl) ?_
  refine lv_if_lt (tgt := 21) hx hb dX0_run_1 (by decide) (fun cq => absurd cq (nI_pos (by omega))) (fun _ => ?_)
  refine lv_iload_n hx hb dX0_run_4 rfl (lv_at hl 1 rfl) ?_
  refine lv_sipush (v := nI (1000)) hx hb dX0_run_5 (by decide) ?_
  refine lv_icmp_gt (tgt := 21) hx hb dX0_run_8 (by decide) (fun cq => absurd cq (by first | decide | (rw [nI_leI (by omega) (by omega)]; omega) | (rw [nI_ltI (by omega) (by omega)]; omega) | exact nI_pos (by omega) | (rw [nI_eq (by omega) (by omega)]; omega) | (rw [c_eq0 (by omega)]; omega) | (rw [c_lt0]; omega) | (rw [c_nlt (by omega)]; omega) | (rw [c_ltn (by omega)]; omega) | (rw [c_nle (by omega)]; omega) | (rw [c_len (by omega)]; omega))) (fun _ => ?_)
  refine lv_aload_n hx hb dX0_run_11 rfl (lv_at hl 0 rfl) ?_
  refine va_get (D := D) (ci := 0) (v := .ref (ad 0)) (C := RX0) (T := TX0) (N := 10) hx hb hts in_X0 hown hC.1 hP 0 rfl rfl 6 (by decide) (hts _ q85) (fun _ h9 => h9) rfl dX0_run_12 ?_
  refine va_gets (C := "Migrator$Phase") (n := "STOPPED") (d := "LMigrator$Phase;") (v := .ref (ad 2)) hx hb (hC.2.2.2.1 2 (by decide)).1 hS hown (hts _ q135) (fun _ h9 => h9) dX0_run_15 ?_
  refine lv_acmp_ne (rx := some (ad 0)) (ry := some (ad 2)) (tgt := 23) hx hb dX0_run_18 (by decide) (fun _ => ?_) (fun cq => absurd cq (mg_ne hC (by decide) (by decide) (by decide)))
  refine lv_aload_n hx hb dX0_run_23 rfl (lv_at hl 0 rfl) ?_
  refine va_get (D := D) (ci := 0) (v := .ref (ad 0)) (C := RX0) (T := TX0) (N := 10) hx hb hts in_X0 hown hC.1 hP 0 rfl rfl 6 (by decide) (hts _ q85) (fun _ h9 => h9) rfl dX0_run_24 ?_
  refine va_gets (C := "Migrator$Phase") (n := "MOVED") (d := "LMigrator$Phase;") (v := .ref (ad 3)) hx hb (hC.2.2.2.1 3 (by decide)).1 hS hown (hts _ q137) (fun _ h9 => h9) dX0_run_27 ?_
  refine lv_acmp_ne (rx := some (ad 0)) (ry := some (ad 3)) (tgt := 40) hx hb dX0_run_30 (by decide) (fun _ => ?_) (fun cq => absurd cq (mg_ne hC (by decide) (by decide) (by decide)))
  refine lv_aload_n hx hb dX0_run_40 rfl (lv_at hl 0 rfl) ?_
  refine va_get (D := D) (ci := 0) (v := .ref (a 1)) (C := RX0) (T := TX0) (N := 10) hx hb hts in_X0 hown hC.1 hP 0 rfl rfl 0 (by decide) (hts _ q79) (fun _ h9 => h9) rfl dX0_run_41 ?_
  refine lv_astore_n (lv' := [(2, .ref (a 1)), (0, .ref (a 0)), (1, .int (nI (n)))]) hx hb dX0_run_44 rfl hl (by decide) rfl (fun ls hl => ?_)
  refine lv_aload_n hx hb dX0_run_45 rfl (lv_at hl 1 rfl) ?_
  refine va_get (D := D) (ci := 0) (v := .ref (a 28)) (C := RX0) (T := TX0) (N := 10) hx hb hts in_X0 hown hC.1 hP 0 rfl rfl 5 (by decide) (hts _ q84) (fun _ h9 => h9) rfl dX0_run_46 ?_
  refine lv_astore_n (lv' := [(3, .ref (a 28)), (2, .ref (a 1)), (0, .ref (a 0)), (1, .int (nI (n)))]) hx hb dX0_run_49 rfl hl (by decide) rfl (fun ls hl => ?_)
  refine lv_aload_n hx hb dX0_run_50 rfl (lv_at hl 2 rfl) ?_
  refine va_get (D := D) (ci := 0) (v := .ref (ad 0)) (C := RX0) (T := TX0) (N := 10) hx hb hts in_X0 hown hC.1 hP 0 rfl rfl 6 (by decide) (hts _ q85) (fun _ h9 => h9) rfl dX0_run_51 ?_
  refine va_gets (C := "Migrator$Phase") (n := "COPYING") (d := "LMigrator$Phase;") (v := .ref (ad 1)) hx hb (hC.2.2.2.1 1 (by decide)).1 hS hown (hts _ q125) (fun _ h9 => h9) dX0_run_54 ?_
  refine lv_acmp_ne (rx := some (ad 0)) (ry := some (ad 1)) (tgt := 65) hx hb dX0_run_57 (by decide) (fun _ => ?_) (fun cq => absurd cq (mg_ne hC (by decide) (by decide) (by decide)))
  refine lv_iconst (v := nI (0)) hx hb dX0_run_65 (by decide) ?_
  refine lv_istore (lv' := [(4, .int (nI (0))), (3, .ref (a 28)), (2, .ref (a 1)), (0, .ref (a 0)), (1, .int (nI (n)))]) hx hb dX0_run_66 hl (by decide) rfl (fun ls hl => ?_)
  have e_1 : wMig ct ad a ((σ).1) (N) ((σ).2.1) ((σ).2.2.1) ((σ).2.2.2.1) ((σ).2.2.2.2.1) (bd) (bw) (0) (rd) (th) (lm) = wMig ct ad a ((giter false (0) σ).1) (N) ((giter false (0) σ).2.1) ((giter false (0) σ).2.2.1) ((giter false (0) σ).2.2.2.1) ((giter false (0) σ).2.2.2.2.1) (bd) (bw) (0) (rd) (th) (lm) := by rfl
  rw [e_1] at hP hD
  refine mg_loop (fun i H locs ls => va_P D mgCl (wMig ct ad a ((giter false (i) σ).1) (N) ((giter false (i) σ).2.1) ((giter false (i) σ).2.2.1) ((giter false (i) σ).2.2.2.1) ((giter false (i) σ).2.2.2.2.1) (bd) (bw) (0) (rd) (th) (lm)) H ∧ va_D A (wMig ct ad a ((giter false (i) σ).1) (N) ((giter false (i) σ).2.1) ((giter false (i) σ).2.2.1) ((giter false (i) σ).2.2.2.1) ((giter false (i) σ).2.2.2.2.1) (bd) (bw) (0) (rd) (th) (lm)) ∧ va_S A s.heap H locs ∧ lv_has ls 5 [(4, .int (nI (i))), (0, .ref (a 0)), (1, .int (nI (n))), (2, .ref (a 1)), (3, .ref (a 28))]) (n) ?_ 0 (Nat.zero_le _) ⟨hP, hD, hS, lv_sub hl [0, 3, 4, 2, 1] rfl⟩
  intro i H locs ls hi hI ihi
  obtain ⟨hP, hD, hS, hl⟩ := hI
  refine lv_iload hx hb dX0_run_68 (lv_at hl 0 rfl) ?_
  refine lv_iload_n hx hb dX0_run_70 rfl (lv_at hl 2 rfl) ?_
  refine lv_icmp_ge (tgt := 89) hx hb dX0_run_71 (by decide) (fun cq => ?_) (fun cq => ?_)
  · have hin : i = n := by rw [nI_leI (by omega) (by omega)] at cq; omega
    subst hin
    refine lv_iload_n hx hb dX0_run_89 rfl (lv_at hl 2 rfl) ?_
    exact mg_iret (ty := .int) hx hb hr hlocks (rfl) hP hD hS (rfl) dX0_run_90
  · have hin : i < n := by rw [nI_leI (by omega) (by omega)] at cq; omega
    have hok := giter_ok false σ hpc i
    refine lv_aload_n hx hb dX0_run_74 rfl (lv_at hl 1 rfl) ?_
    refine va_get (D := D) (ci := 0) (v := .ref (a 21)) (C := RX0) (T := TX0) (N := 10) hx hb hts in_X0 hown hC.1 hP 0 rfl rfl 2 (by decide) (hts _ q81) (fun _ h9 => h9) rfl dX0_run_75 ?_
    refine lv_aload_n hx hb dX0_run_78 rfl (lv_at hl 3 rfl) ?_
    refine lv_aload_n hx hb dX0_run_79 rfl (lv_at hl 4 rfl) ?_
    refine mg_afterV (w1 := wGN ct (fun i => a (21 + i)) (fun i => a (1 + i)) (a 28) (gst false (giter false i σ))) (wr := wHd a (ad (0)) (rd) (th) (lm) ++ wHost ct (fun i => a (11 + i)) (N) ++ wMk ct (fun i => a (24 + i)) (bd) ++ wMk ct (fun i => a (26 + i)) (bw)) (w2 := wMig ct ad a ((giter false (i + 1) σ).1) (N) ((giter false (i + 1) σ).2.1) ((giter false (i + 1) σ).2.2.1) ((giter false (i + 1) σ).2.2.2.1) ((giter false (i + 1) σ).2.2.2.2.1) (bd) (bw) (0) (rd) (th) (lm)) (va_runV (As := [.ref (a 1), .ref (a 28)]) (rest := []) ⟨hx, hb, hml, hown, hts⟩ (g_stepN l D ct ad (fun i => a (21 + i)) (fun i => a (1 + i)) (a 28) (giter false i σ) hok.1 (by omega) _) (cwV 2 hts (lw_V q139 q140 q141 q4 q142) rfl rfl rfl (by decide +kernel) ⟨Nat.le_of_ble_eq_true rfl, Nat.le_of_ble_eq_true rfl⟩) (mg_preV hC hP hD hS hA (wc := wGN ct (fun i => a (21 + i)) (fun i => a (1 + i)) (a 28) (giter false i σ)) [21, 22, 23, 1, 2, 3, 4, 5, 6, 7, 8, 9, 10, 28] rfl (by decide) (ci := 2) (q0 := 0) rfl rfl [.ref (a 1), .ref (a 28)]) rfl rfl hl.1 rfl (lv_room (Nat.le_of_ble_eq_true rfl)) dX0_run_80 ⟨Nat.zero_le _, Nat.zero_le _⟩) hP hD hS hA [21, 22, 23, 1, 2, 3, 4, 5, 6, 7, 8, 9, 10, 28] [0, 11, 12, 13, 14, 15, 16, 17, 18, 19, 20, 24, 25, 26, 27] [0, 18, 19, 20, 21, 22, 23, 24, 25, 26, 27, 1, 2, 3, 4, 5, 6, 7, 8, 9, 10, 15, 16, 17, 11, 12, 13, 14, 28] rfl rfl (by decide) (by decide) rfl (by decide) (fun H locs hP hD hS => ?_)
    refine lv_iinc (v := nI (i + 1)) (lv' := [(4, .int (nI (i + 1))), (0, .ref (a 0)), (1, .int (nI (n))), (2, .ref (a 1)), (3, .ref (a 28))]) hx hb dX0_run_83 hl (k := 0) rfl (by rw [show Int32.ofInt 1 = nI 1 from by decide]; exact nI_add _ _) (by decide) rfl (fun ls hl => ?_)
    refine lv_goto (tgt := 68) hx hb dX0_run_86 (by decide) ?_
    exact ihi hin _ _ _ ⟨hP, hD, hS, lv_sub hl [0, 1, 2, 3, 4] rfl⟩

set_option maxHeartbeats 4000000 in
set_option maxRecDepth 100000 in
/-- run(n) in phase 1 -/
theorem c_run1 (l : Launch) (D : va_G) (ct ad a : Nat → Nat) (σ : GS) (N : Nat → Nat → Int32) (bw : Nat → Bool) (rd th lm : Int32) (n : Nat) (hn : n ≤ 1000) (hpc : σ.2.2.2.1 < 64) (hsh : σ.2.2.2.2.1 < 2 ^ 29) : MI l yX0_run cX0_run 5 (some .int) (rmN 2 60) D ct ad [.ref (a 0), .int (nI n)] (wMig ct ad a ((σ).1) (N) ((σ).2.1) ((σ).2.2.1) ((σ).2.2.2.1) ((σ).2.2.2.2.1) ((σ).2.2.2.2.2) (bw) (1) (rd) (th) (lm)) (wMig ct ad a ((giter true n σ).1) (N) ((giter true n σ).2.1) ((giter true n σ).2.2.1) ((giter true n σ).2.2.2.1) ((giter true n σ).2.2.2.2.1) ((giter true n σ).2.2.2.2.2) (bw) (1) (rd) (th) (lm)) (nI n) := by
  refine mg_MI (by decide) (Nat.le_of_ble_eq_true rfl) ?_
  intro p e s m below meth c A hx hb hr hlocks hml hown hnm hts hC hP hD hA hS ls hl
  have hown : s.vm.findClass RX0 = some m.cls := hown
  have hl : lv_has ls 5 [(0, .ref (a 0)), (1, .int (nI (n)))] := hl
  refine lv_iload_n hx hb dX0_run_0 rfl (lv_at hl 1 rfl) ?_
  refine lv_if_lt (tgt := 21) hx hb dX0_run_1 (by decide) (fun cq => absurd cq (nI_pos (by omega))) (fun _ => ?_)
  refine lv_iload_n hx hb dX0_run_4 rfl (lv_at hl 1 rfl) ?_
  refine lv_sipush (v := nI (1000)) hx hb dX0_run_5 (by decide) ?_
  refine lv_icmp_gt (tgt := 21) hx hb dX0_run_8 (by decide) (fun cq => absurd cq (by first | decide | (rw [nI_leI (by omega) (by omega)]; omega) | (rw [nI_ltI (by omega) (by omega)]; omega) | exact nI_pos (by omega) | (rw [nI_eq (by omega) (by omega)]; omega) | (rw [c_eq0 (by omega)]; omega) | (rw [c_lt0]; omega) | (rw [c_nlt (by omega)]; omega) | (rw [c_ltn (by omega)]; omega) | (rw [c_nle (by omega)]; omega) | (rw [c_len (by omega)]; omega))) (fun _ => ?_)
  refine lv_aload_n hx hb dX0_run_11 rfl (lv_at hl 0 rfl) ?_
  refine va_get (D := D) (ci := 0) (v := .ref (ad 1)) (C := RX0) (T := TX0) (N := 10) hx hb hts in_X0 hown hC.1 hP 0 rfl rfl 6 (by decide) (hts _ q85) (fun _ h9 => h9) rfl dX0_run_12 ?_
  refine va_gets (C := "Migrator$Phase") (n := "STOPPED") (d := "LMigrator$Phase;") (v := .ref (ad 2)) hx hb (hC.2.2.2.1 2 (by decide)).1 hS hown (hts _ q135) (fun _ h9 => h9) dX0_run_15 ?_
  refine lv_acmp_ne (rx := some (ad 1)) (ry := some (ad 2)) (tgt := 23) hx hb dX0_run_18 (by decide) (fun _ => ?_) (fun cq => absurd cq (mg_ne hC (by decide) (by decide) (by decide)))
  refine lv_aload_n hx hb dX0_run_23 rfl (lv_at hl 0 rfl) ?_
  refine va_get (D := D) (ci := 0) (v := .ref (ad 1)) (C := RX0) (T := TX0) (N := 10) hx hb hts in_X0 hown hC.1 hP 0 rfl rfl 6 (by decide) (hts _ q85) (fun _ h9 => h9) rfl dX0_run_24 ?_
  refine va_gets (C := "Migrator$Phase") (n := "MOVED") (d := "LMigrator$Phase;") (v := .ref (ad 3)) hx hb (hC.2.2.2.1 3 (by decide)).1 hS hown (hts _ q137) (fun _ h9 => h9) dX0_run_27 ?_
  refine lv_acmp_ne (rx := some (ad 1)) (ry := some (ad 3)) (tgt := 40) hx hb dX0_run_30 (by decide) (fun _ => ?_) (fun cq => absurd cq (mg_ne hC (by decide) (by decide) (by decide)))
  refine lv_aload_n hx hb dX0_run_40 rfl (lv_at hl 0 rfl) ?_
  refine va_get (D := D) (ci := 0) (v := .ref (a 1)) (C := RX0) (T := TX0) (N := 10) hx hb hts in_X0 hown hC.1 hP 0 rfl rfl 0 (by decide) (hts _ q79) (fun _ h9 => h9) rfl dX0_run_41 ?_
  refine lv_astore_n (lv' := [(2, .ref (a 1)), (0, .ref (a 0)), (1, .int (nI (n)))]) hx hb dX0_run_44 rfl hl (by decide) rfl (fun ls hl => ?_)
  refine lv_aload_n hx hb dX0_run_45 rfl (lv_at hl 1 rfl) ?_
  refine va_get (D := D) (ci := 0) (v := .ref (a 28)) (C := RX0) (T := TX0) (N := 10) hx hb hts in_X0 hown hC.1 hP 0 rfl rfl 5 (by decide) (hts _ q84) (fun _ h9 => h9) rfl dX0_run_46 ?_
  refine lv_astore_n (lv' := [(3, .ref (a 28)), (2, .ref (a 1)), (0, .ref (a 0)), (1, .int (nI (n)))]) hx hb dX0_run_49 rfl hl (by decide) rfl (fun ls hl => ?_)
  refine lv_aload_n hx hb dX0_run_50 rfl (lv_at hl 2 rfl) ?_
  refine va_get (D := D) (ci := 0) (v := .ref (ad 1)) (C := RX0) (T := TX0) (N := 10) hx hb hts in_X0 hown hC.1 hP 0 rfl rfl 6 (by decide) (hts _ q85) (fun _ h9 => h9) rfl dX0_run_51 ?_
  refine va_gets (C := "Migrator$Phase") (n := "COPYING") (d := "LMigrator$Phase;") (v := .ref (ad 1)) hx hb (hC.2.2.2.1 1 (by decide)).1 hS hown (hts _ q125) (fun _ h9 => h9) dX0_run_54 ?_
  refine lv_acmp_ne (rx := some (ad 1)) (ry := some (ad 1)) (tgt := 65) hx hb dX0_run_57 (by decide) (fun cq => absurd (rfl) cq) (fun _ => ?_)
  refine lv_aload_n hx hb dX0_run_60 rfl (lv_at hl 2 rfl) ?_
  refine va_get (D := D) (ci := 0) (v := .ref (a 24)) (C := RX0) (T := TX0) (N := 10) hx hb hts in_X0 hown hC.1 hP 0 rfl rfl 3 (by decide) (hts _ q82) (fun _ h9 => h9) rfl dX0_run_61 ?_
  refine lv_astore_n (lv' := [(3, .ref (a 24)), (2, .ref (a 1)), (0, .ref (a 0)), (1, .int (nI (n)))]) hx hb dX0_run_64 rfl hl (by decide) rfl (fun ls hl => ?_)
  refine lv_iconst (v := nI (0)) hx hb dX0_run_65 (by decide) ?_
  refine lv_istore (lv' := [(4, .int (nI (0))), (3, .ref (a 24)), (2, .ref (a 1)), (0, .ref (a 0)), (1, .int (nI (n)))]) hx hb dX0_run_66 hl (by decide) rfl (fun ls hl => ?_)
  have e_2 : wMig ct ad a ((σ).1) (N) ((σ).2.1) ((σ).2.2.1) ((σ).2.2.2.1) ((σ).2.2.2.2.1) ((σ).2.2.2.2.2) (bw) (1) (rd) (th) (lm) = wMig ct ad a ((giter true (0) σ).1) (N) ((giter true (0) σ).2.1) ((giter true (0) σ).2.2.1) ((giter true (0) σ).2.2.2.1) ((giter true (0) σ).2.2.2.2.1) ((giter true (0) σ).2.2.2.2.2) (bw) (1) (rd) (th) (lm) := by rfl
  rw [e_2] at hP hD
  refine mg_loop (fun i H locs ls => va_P D mgCl (wMig ct ad a ((giter true (i) σ).1) (N) ((giter true (i) σ).2.1) ((giter true (i) σ).2.2.1) ((giter true (i) σ).2.2.2.1) ((giter true (i) σ).2.2.2.2.1) ((giter true (i) σ).2.2.2.2.2) (bw) (1) (rd) (th) (lm)) H ∧ va_D A (wMig ct ad a ((giter true (i) σ).1) (N) ((giter true (i) σ).2.1) ((giter true (i) σ).2.2.1) ((giter true (i) σ).2.2.2.1) ((giter true (i) σ).2.2.2.2.1) ((giter true (i) σ).2.2.2.2.2) (bw) (1) (rd) (th) (lm)) ∧ va_S A s.heap H locs ∧ lv_has ls 5 [(4, .int (nI (i))), (0, .ref (a 0)), (1, .int (nI (n))), (2, .ref (a 1)), (3, .ref (a 24))]) (n) ?_ 0 (Nat.zero_le _) ⟨hP, hD, hS, lv_sub hl [0, 3, 4, 2, 1] rfl⟩
  intro i H locs ls hi hI ihi
  obtain ⟨hP, hD, hS, hl⟩ := hI
  refine lv_iload hx hb dX0_run_68 (lv_at hl 0 rfl) ?_
  refine lv_iload_n hx hb dX0_run_70 rfl (lv_at hl 2 rfl) ?_
  refine lv_icmp_ge (tgt := 89) hx hb dX0_run_71 (by decide) (fun cq => ?_) (fun cq => ?_)
  · have hin : i = n := by rw [nI_leI (by omega) (by omega)] at cq; omega
    subst hin
    refine lv_iload_n hx hb dX0_run_89 rfl (lv_at hl 2 rfl) ?_
    exact mg_iret (ty := .int) hx hb hr hlocks (rfl) hP hD hS (rfl) dX0_run_90
  · have hin : i < n := by rw [nI_leI (by omega) (by omega)] at cq; omega
    have hok := giter_ok true σ hpc i
    refine lv_aload_n hx hb dX0_run_74 rfl (lv_at hl 1 rfl) ?_
    refine va_get (D := D) (ci := 0) (v := .ref (a 21)) (C := RX0) (T := TX0) (N := 10) hx hb hts in_X0 hown hC.1 hP 0 rfl rfl 2 (by decide) (hts _ q81) (fun _ h9 => h9) rfl dX0_run_75 ?_
    refine lv_aload_n hx hb dX0_run_78 rfl (lv_at hl 3 rfl) ?_
    refine lv_aload_n hx hb dX0_run_79 rfl (lv_at hl 4 rfl) ?_
    refine mg_afterV (w1 := wGM ct (fun i => a (21 + i)) (fun i => a (1 + i)) (fun i => a (24 + i)) (gst true (giter true i σ))) (wr := wHd a (ad (1)) (rd) (th) (lm) ++ wHost ct (fun i => a (11 + i)) (N) ++ wMk ct (fun i => a (26 + i)) (bw) ++ wNb (a 28)) (w2 := wMig ct ad a ((giter true (i + 1) σ).1) (N) ((giter true (i + 1) σ).2.1) ((giter true (i + 1) σ).2.2.1) ((giter true (i + 1) σ).2.2.2.1) ((giter true (i + 1) σ).2.2.2.2.1) ((giter true (i + 1) σ).2.2.2.2.2) (bw) (1) (rd) (th) (lm)) (va_runV (As := [.ref (a 1), .ref (a 24)]) (rest := []) ⟨hx, hb, hml, hown, hts⟩ (g_stepM l D ct ad (fun i => a (21 + i)) (fun i => a (1 + i)) (fun i => a (24 + i)) (giter true i σ) hok.1 (by omega) _) (cwV 2 hts (lw_V q139 q140 q141 q4 q142) rfl rfl rfl (by decide +kernel) ⟨Nat.le_of_ble_eq_true rfl, Nat.le_of_ble_eq_true rfl⟩) (mg_preV hC hP hD hS hA (wc := wGM ct (fun i => a (21 + i)) (fun i => a (1 + i)) (fun i => a (24 + i)) (giter true i σ)) [21, 22, 23, 1, 2, 3, 4, 5, 6, 7, 8, 9, 10, 24, 25] rfl (by decide) (ci := 2) (q0 := 0) rfl rfl [.ref (a 1), .ref (a 24)]) rfl rfl hl.1 rfl (lv_room (Nat.le_of_ble_eq_true rfl)) dX0_run_80 ⟨Nat.zero_le _, Nat.zero_le _⟩) hP hD hS hA [21, 22, 23, 1, 2, 3, 4, 5, 6, 7, 8, 9, 10, 24, 25] [0, 11, 12, 13, 14, 15, 16, 17, 18, 19, 20, 26, 27, 28] [0, 17, 18, 19, 20, 21, 22, 23, 24, 25, 26, 1, 2, 3, 4, 5, 6, 7, 8, 9, 10, 14, 15, 16, 27, 28, 11, 12, 13] rfl rfl (by decide) (by decide) rfl (by decide) (fun H locs hP hD hS => ?_)
    refine lv_iinc (v := nI (i + 1)) (lv' := [(4, .int (nI (i + 1))), (0, .ref (a 0)), (1, .int (nI (n))), (2, .ref (a 1)), (3, .ref (a 24))]) hx hb dX0_run_83 hl (k := 0) rfl (by rw [show Int32.ofInt 1 = nI 1 from by decide]; exact nI_add _ _) (by decide) rfl (fun ls hl => ?_)
    refine lv_goto (tgt := 68) hx hb dX0_run_86 (by decide) ?_
    exact ihi hin _ _ _ ⟨hP, hD, hS, lv_sub hl [0, 1, 2, 3, 4] rfl⟩

set_option maxHeartbeats 4000000 in
set_option maxRecDepth 100000 in
/-- run(n) in phase 3 -/
theorem c_run3 (l : Launch) (D : va_G) (ct ad a : Nat → Nat) (σ : GS) (M : Nat → Nat → Int32) (bd bw : Nat → Bool) (rd th lm : Int32) (n : Nat) (hn : n ≤ 1000) (hpc : σ.2.2.2.1 < 64) (hsh : σ.2.2.2.2.1 < 2 ^ 29) : MI l yX0_run cX0_run 5 (some .int) (rmN 2 60) D ct ad [.ref (a 0), .int (nI n)] (wMig ct ad a (M) ((σ).1) ((σ).2.1) ((σ).2.2.1) ((σ).2.2.2.1) ((σ).2.2.2.2.1) (bd) (bw) (3) (rd) (th) (lm)) (wMig ct ad a (M) ((giter false n σ).1) ((giter false n σ).2.1) ((giter false n σ).2.2.1) ((giter false n σ).2.2.2.1) ((giter false n σ).2.2.2.2.1) (bd) (bw) (3) (rd) (th) (lm)) (nI n) := by
  refine mg_MI (by decide) (Nat.le_of_ble_eq_true rfl) ?_
  intro p e s m below meth c A hx hb hr hlocks hml hown hnm hts hC hP hD hA hS ls hl
  have hown : s.vm.findClass RX0 = some m.cls := hown
  have hl : lv_has ls 5 [(0, .ref (a 0)), (1, .int (nI (n)))] := hl
  refine lv_iload_n hx hb dX0_run_0 rfl (lv_at hl 1 rfl) ?_
  refine lv_if_lt (tgt := 21) hx hb dX0_run_1 (by decide) (fun cq => absurd cq (nI_pos (by omega))) (fun _ => ?_)
  refine lv_iload_n hx hb dX0_run_4 rfl (lv_at hl 1 rfl) ?_
  refine lv_sipush (v := nI (1000)) hx hb dX0_run_5 (by decide) ?_
  refine lv_icmp_gt (tgt := 21) hx hb dX0_run_8 (by decide) (fun cq => absurd cq (by first | decide | (rw [nI_leI (by omega) (by omega)]; omega) | (rw [nI_ltI (by omega) (by omega)]; omega) | exact nI_pos (by omega) | (rw [nI_eq (by omega) (by omega)]; omega) | (rw [c_eq0 (by omega)]; omega) | (rw [c_lt0]; omega) | (rw [c_nlt (by omega)]; omega) | (rw [c_ltn (by omega)]; omega) | (rw [c_nle (by omega)]; omega) | (rw [c_len (by omega)]; omega))) (fun _ => ?_)
  refine lv_aload_n hx hb dX0_run_11 rfl (lv_at hl 0 rfl) ?_
  refine va_get (D := D) (ci := 0) (v := .ref (ad 3)) (C := RX0) (T := TX0) (N := 10) hx hb hts in_X0 hown hC.1 hP 0 rfl rfl 6 (by decide) (hts _ q85) (fun _ h9 => h9) rfl dX0_run_12 ?_
  refine va_gets (C := "Migrator$Phase") (n := "STOPPED") (d := "LMigrator$Phase;") (v := .ref (ad 2)) hx hb (hC.2.2.2.1 2 (by decide)).1 hS hown (hts _ q135) (fun _ h9 => h9) dX0_run_15 ?_
  refine lv_acmp_ne (rx := some (ad 3)) (ry := some (ad 2)) (tgt := 23) hx hb dX0_run_18 (by decide) (fun _ => ?_) (fun cq => absurd cq (mg_ne hC (by decide) (by decide) (by decide)))
  refine lv_aload_n hx hb dX0_run_23 rfl (lv_at hl 0 rfl) ?_
  refine va_get (D := D) (ci := 0) (v := .ref (ad 3)) (C := RX0) (T := TX0) (N := 10) hx hb hts in_X0 hown hC.1 hP 0 rfl rfl 6 (by decide) (hts _ q85) (fun _ h9 => h9) rfl dX0_run_24 ?_
  refine va_gets (C := "Migrator$Phase") (n := "MOVED") (d := "LMigrator$Phase;") (v := .ref (ad 3)) hx hb (hC.2.2.2.1 3 (by decide)).1 hS hown (hts _ q137) (fun _ h9 => h9) dX0_run_27 ?_
  refine lv_acmp_ne (rx := some (ad 3)) (ry := some (ad 3)) (tgt := 40) hx hb dX0_run_30 (by decide) (fun cq => absurd (rfl) cq) (fun _ => ?_)
  refine lv_aload_n hx hb dX0_run_33 rfl (lv_at hl 0 rfl) ?_
  refine va_get (D := D) (ci := 0) (v := .ref (a 11)) (C := RX0) (T := TX0) (N := 10) hx hb hts in_X0 hown hC.1 hP 0 rfl rfl 1 (by decide) (hts _ q80) (fun _ h9 => h9) rfl dX0_run_34 ?_
  refine lv_goto (tgt := 44) hx hb dX0_run_37 (by decide) ?_
  refine lv_astore_n (lv' := [(2, .ref (a 11)), (0, .ref (a 0)), (1, .int (nI (n)))]) hx hb dX0_run_44 rfl hl (by decide) rfl (fun ls hl => ?_)
  refine lv_aload_n hx hb dX0_run_45 rfl (lv_at hl 1 rfl) ?_
  refine va_get (D := D) (ci := 0) (v := .ref (a 28)) (C := RX0) (T := TX0) (N := 10) hx hb hts in_X0 hown hC.1 hP 0 rfl rfl 5 (by decide) (hts _ q84) (fun _ h9 => h9) rfl dX0_run_46 ?_
  refine lv_astore_n (lv' := [(3, .ref (a 28)), (2, .ref (a 11)), (0, .ref (a 0)), (1, .int (nI (n)))]) hx hb dX0_run_49 rfl hl (by decide) rfl (fun ls hl => ?_)
  refine lv_aload_n hx hb dX0_run_50 rfl (lv_at hl 2 rfl) ?_
  refine va_get (D := D) (ci := 0) (v := .ref (ad 3)) (C := RX0) (T := TX0) (N := 10) hx hb hts in_X0 hown hC.1 hP 0 rfl rfl 6 (by decide) (hts _ q85) (fun _ h9 => h9) rfl dX0_run_51 ?_
  refine va_gets (C := "Migrator$Phase") (n := "COPYING") (d := "LMigrator$Phase;") (v := .ref (ad 1)) hx hb (hC.2.2.2.1 1 (by decide)).1 hS hown (hts _ q125) (fun _ h9 => h9) dX0_run_54 ?_
  refine lv_acmp_ne (rx := some (ad 3)) (ry := some (ad 1)) (tgt := 65) hx hb dX0_run_57 (by decide) (fun _ => ?_) (fun cq => absurd cq (mg_ne hC (by decide) (by decide) (by decide)))
  refine lv_iconst (v := nI (0)) hx hb dX0_run_65 (by decide) ?_
  refine lv_istore (lv' := [(4, .int (nI (0))), (3, .ref (a 28)), (2, .ref (a 11)), (0, .ref (a 0)), (1, .int (nI (n)))]) hx hb dX0_run_66 hl (by decide) rfl (fun ls hl => ?_)
  have e_3 : wMig ct ad a (M) ((σ).1) ((σ).2.1) ((σ).2.2.1) ((σ).2.2.2.1) ((σ).2.2.2.2.1) (bd) (bw) (3) (rd) (th) (lm) = wMig ct ad a (M) ((giter false (0) σ).1) ((giter false (0) σ).2.1) ((giter false (0) σ).2.2.1) ((giter false (0) σ).2.2.2.1) ((giter false (0) σ).2.2.2.2.1) (bd) (bw) (3) (rd) (th) (lm) := by rfl
  rw [e_3] at hP hD
  refine mg_loop (fun i H locs ls => va_P D mgCl (wMig ct ad a (M) ((giter false (i) σ).1) ((giter false (i) σ).2.1) ((giter false (i) σ).2.2.1) ((giter false (i) σ).2.2.2.1) ((giter false (i) σ).2.2.2.2.1) (bd) (bw) (3) (rd) (th) (lm)) H ∧ va_D A (wMig ct ad a (M) ((giter false (i) σ).1) ((giter false (i) σ).2.1) ((giter false (i) σ).2.2.1) ((giter false (i) σ).2.2.2.1) ((giter false (i) σ).2.2.2.2.1) (bd) (bw) (3) (rd) (th) (lm)) ∧ va_S A s.heap H locs ∧ lv_has ls 5 [(4, .int (nI (i))), (0, .ref (a 0)), (1, .int (nI (n))), (2, .ref (a 11)), (3, .ref (a 28))]) (n) ?_ 0 (Nat.zero_le _) ⟨hP, hD, hS, lv_sub hl [0, 3, 4, 2, 1] rfl⟩
  intro i H locs ls hi hI ihi
  obtain ⟨hP, hD, hS, hl⟩ := hI
  refine lv_iload hx hb dX0_run_68 (lv_at hl 0 rfl) ?_
  refine lv_iload_n hx hb dX0_run_70 rfl (lv_at hl 2 rfl) ?_
  refine lv_icmp_ge (tgt := 89) hx hb dX0_run_71 (by decide) (fun cq => ?_) (fun cq => ?_)
  · have hin : i = n := by rw [nI_leI (by omega) (by omega)] at cq; omega
    subst hin
    refine lv_iload_n hx hb dX0_run_89 rfl (lv_at hl 2 rfl) ?_
    exact mg_iret (ty := .int) hx hb hr hlocks (rfl) hP hD hS (rfl) dX0_run_90
  · have hin : i < n := by rw [nI_leI (by omega) (by omega)] at cq; omega
    have hok := giter_ok false σ hpc i
    refine lv_aload_n hx hb dX0_run_74 rfl (lv_at hl 1 rfl) ?_
    refine va_get (D := D) (ci := 0) (v := .ref (a 21)) (C := RX0) (T := TX0) (N := 10) hx hb hts in_X0 hown hC.1 hP 0 rfl rfl 2 (by decide) (hts _ q81) (fun _ h9 => h9) rfl dX0_run_75 ?_
    refine lv_aload_n hx hb dX0_run_78 rfl (lv_at hl 3 rfl) ?_
    refine lv_aload_n hx hb dX0_run_79 rfl (lv_at hl 4 rfl) ?_
    refine mg_afterV (w1 := wGN ct (fun i => a (21 + i)) (fun i => a (11 + i)) (a 28) (gst false (giter false i σ))) (wr := wHd a (ad (3)) (rd) (th) (lm) ++ wHost ct (fun i => a (1 + i)) (M) ++ wMk ct (fun i => a (24 + i)) (bd) ++ wMk ct (fun i => a (26 + i)) (bw)) (w2 := wMig ct ad a (M) ((giter false (i + 1) σ).1) ((giter false (i + 1) σ).2.1) ((giter false (i + 1) σ).2.2.1) ((giter false (i + 1) σ).2.2.2.1) ((giter false (i + 1) σ).2.2.2.2.1) (bd) (bw) (3) (rd) (th) (lm)) (va_runV (As := [.ref (a 11), .ref (a 28)]) (rest := []) ⟨hx, hb, hml, hown, hts⟩ (g_stepN l D ct ad (fun i => a (21 + i)) (fun i => a (11 + i)) (a 28) (giter false i σ) hok.1 (by omega) _) (cwV 2 hts (lw_V q139 q140 q141 q4 q142) rfl rfl rfl (by decide +kernel) ⟨Nat.le_of_ble_eq_true rfl, Nat.le_of_ble_eq_true rfl⟩) (mg_preV hC hP hD hS hA (wc := wGN ct (fun i => a (21 + i)) (fun i => a (11 + i)) (a 28) (giter false i σ)) [21, 22, 23, 11, 12, 13, 14, 15, 16, 17, 18, 19, 20, 28] rfl (by decide) (ci := 2) (q0 := 0) rfl rfl [.ref (a 11), .ref (a 28)]) rfl rfl hl.1 rfl (lv_room (Nat.le_of_ble_eq_true rfl)) dX0_run_80 ⟨Nat.zero_le _, Nat.zero_le _⟩) hP hD hS hA [21, 22, 23, 11, 12, 13, 14, 15, 16, 17, 18, 19, 20, 28] [0, 1, 2, 3, 4, 5, 6, 7, 8, 9, 10, 24, 25, 26, 27] [0, 1, 2, 3, 4, 5, 6, 7, 8, 9, 10, 18, 19, 20, 21, 22, 23, 24, 25, 26, 27, 15, 16, 17, 11, 12, 13, 14, 28] rfl rfl (by decide) (by decide) rfl (by decide) (fun H locs hP hD hS => ?_)
    refine lv_iinc (v := nI (i + 1)) (lv' := [(4, .int (nI (i + 1))), (0, .ref (a 0)), (1, .int (nI (n))), (2, .ref (a 11)), (3, .ref (a 28))]) hx hb dX0_run_83 hl (k := 0) rfl (by rw [show Int32.ofInt 1 = nI 1 from by decide]; exact nI_add _ _) (by decide) rfl (fun ls hl => ?_)
    refine lv_goto (tgt := 68) hx hb dX0_run_86 (by decide) ?_
    exact ihi hin _ _ _ ⟨hP, hD, hS, lv_sub hl [0, 1, 2, 3, 4] rfl⟩

set_option maxHeartbeats 4000000 in
set_option maxRecDepth 100000 in
/-- run(x), refused -/
theorem c_runNo (l : Launch) (D : va_G) (ct ad a : Nat → Nat) (M N : Nat → Nat → Int32) (regs shown : Nat → Int32) (pc shows : Nat) (bd bw : Nat → Bool) (ph : Nat) (rd th lm : Int32) (x : Int32) (hno : x.toInt < 0 ∨ 1000 < x.toInt ∨ ph = 2) : MI l yX0_run cX0_run 5 (some .int) (rmN 2 60) D ct ad [.ref (a 0), .int x] (wMig ct ad a (M) (N) (regs) (shown) (pc) (shows) (bd) (bw) (ph) (rd) (th) (lm)) (wMig ct ad a (M) (N) (regs) (shown) (pc) (shows) (bd) (bw) (ph) (rd) (th) (lm)) (nI 0) := by
  refine mg_MI (by decide) (Nat.le_of_ble_eq_true rfl) ?_
  intro p e s m below meth c A hx hb hr hlocks hml hown hnm hts hC hP hD hA hS ls hl
  have hown : s.vm.findClass RX0 = some m.cls := hown
  have hl : lv_has ls 5 [(0, .ref (a 0)), (1, .int (x))] := hl
  refine lv_iload_n hx hb dX0_run_0 rfl (lv_at hl 1 rfl) ?_
  refine lv_if_lt (tgt := 21) hx hb dX0_run_1 (by decide) (fun c1 => ?_) (fun c1 => ?_)
  · refine lv_iconst (v := nI (0)) hx hb dX0_run_21 (by decide) ?_
    exact mg_iret (ty := .int) hx hb hr hlocks (rfl) hP hD hS (rfl) dX0_run_22
  · rw [c_lt0] at c1
    refine lv_iload_n hx hb dX0_run_4 rfl (lv_at hl 1 rfl) ?_
    refine lv_sipush (v := nI (1000)) hx hb dX0_run_5 (by decide) ?_
    refine lv_icmp_gt (tgt := 21) hx hb dX0_run_8 (by decide) (fun c2 => ?_) (fun c2 => ?_)
    · refine lv_iconst (v := nI (0)) hx hb dX0_run_21 (by decide) ?_
      exact mg_iret (ty := .int) hx hb hr hlocks (rfl) hP hD hS (rfl) dX0_run_22
    · rw [c_nlt (by decide)] at c2
      have hp2 : ph = 2 := by omega
      refine lv_aload_n hx hb dX0_run_11 rfl (lv_at hl 0 rfl) ?_
      refine va_get (D := D) (ci := 0) (v := .ref (ad ph)) (C := RX0) (T := TX0) (N := 10) hx hb hts in_X0 hown hC.1 hP 0 rfl rfl 6 (by decide) (hts _ q85) (fun _ h9 => h9) rfl dX0_run_12 ?_
      refine va_gets (C := "Migrator$Phase") (n := "STOPPED") (d := "LMigrator$Phase;") (v := .ref (ad 2)) hx hb (hC.2.2.2.1 2 (by decide)).1 hS hown (hts _ q135) (fun _ h9 => h9) dX0_run_15 ?_
      refine lv_acmp_ne (rx := some (ad ph)) (ry := some (ad 2)) (tgt := 23) hx hb dX0_run_18 (by decide) (fun cq => absurd (by rw [hp2]) cq) (fun _ => ?_)
      refine lv_iconst (v := nI (0)) hx hb dX0_run_21 (by decide) ?_
      exact mg_iret (ty := .int) hx hb hr hlocks (rfl) hP hD hS (rfl) dX0_run_22

set_option maxHeartbeats 4000000 in
set_option maxRecDepth 100000 in
/-- copy() at home -/
theorem c_copy0 (l : Launch) (D : va_G) (ct ad a : Nat → Nat) (M N : Nat → Nat → Int32) (regs shown : Nat → Int32) (pc shows : Nat) (bd bw : Nat → Bool) (rd th lm : Int32) : MI l yX0_copy cX0_copy 2 (some .int) (rmN 1 30) D ct ad [.ref (a 0)] (wMig ct ad a (M) (N) (regs) (shown) (pc) (shows) (bd) (bw) (0) (rd) (th) (lm)) (wMig ct ad a (M) (N) (regs) (shown) (pc) (shows) (bd) (bw) (0) (rd) (th) (lm)) (-1) := by
  refine mg_MI (by decide) (Nat.le_of_ble_eq_true rfl) ?_
  intro p e s m below meth c A hx hb hr hlocks hml hown hnm hts hC hP hD hA hS ls hl
  have hown : s.vm.findClass RX0 = some m.cls := hown
  have hl : lv_has ls 2 [(0, .ref (a 0))] := hl
  refine lv_aload_n hx hb dX0_copy_0 rfl (lv_at hl 0 rfl) ?_
  refine va_get (D := D) (ci := 0) (v := .ref (ad 0)) (C := RX0) (T := TX0) (N := 10) hx hb hts in_X0 hown hC.1 hP 0 rfl rfl 6 (by decide) (hts _ q85) (fun _ h9 => h9) rfl dX0_copy_1 ?_
  refine va_gets (C := "Migrator$Phase") (n := "HOME") (d := "LMigrator$Phase;") (v := .ref (ad 0)) hx hb (hC.2.2.2.1 0 (by decide)).1 hS hown (hts _ q77) (fun _ h9 => h9) dX0_copy_4 ?_
  refine lv_acmp_eq (rx := some (ad 0)) (ry := some (ad 0)) (tgt := 20) hx hb dX0_copy_7 (by decide) (fun _ => ?_) (fun cq => absurd (rfl) cq)
  refine lv_iconst (v := -1) hx hb dX0_copy_20 (by decide) ?_
  exact mg_iret (ty := .int) hx hb hr hlocks (rfl) hP hD hS (rfl) dX0_copy_21

set_option maxHeartbeats 4000000 in
set_option maxRecDepth 100000 in
/-- copy() when moved -/
theorem c_copy3 (l : Launch) (D : va_G) (ct ad a : Nat → Nat) (M N : Nat → Nat → Int32) (regs shown : Nat → Int32) (pc shows : Nat) (bd bw : Nat → Bool) (rd th lm : Int32) : MI l yX0_copy cX0_copy 2 (some .int) (rmN 1 30) D ct ad [.ref (a 0)] (wMig ct ad a (M) (N) (regs) (shown) (pc) (shows) (bd) (bw) (3) (rd) (th) (lm)) (wMig ct ad a (M) (N) (regs) (shown) (pc) (shows) (bd) (bw) (3) (rd) (th) (lm)) (-1) := by
  refine mg_MI (by decide) (Nat.le_of_ble_eq_true rfl) ?_
  intro p e s m below meth c A hx hb hr hlocks hml hown hnm hts hC hP hD hA hS ls hl
  have hown : s.vm.findClass RX0 = some m.cls := hown
  have hl : lv_has ls 2 [(0, .ref (a 0))] := hl
  refine lv_aload_n hx hb dX0_copy_0 rfl (lv_at hl 0 rfl) ?_
  refine va_get (D := D) (ci := 0) (v := .ref (ad 3)) (C := RX0) (T := TX0) (N := 10) hx hb hts in_X0 hown hC.1 hP 0 rfl rfl 6 (by decide) (hts _ q85) (fun _ h9 => h9) rfl dX0_copy_1 ?_
  refine va_gets (C := "Migrator$Phase") (n := "HOME") (d := "LMigrator$Phase;") (v := .ref (ad 0)) hx hb (hC.2.2.2.1 0 (by decide)).1 hS hown (hts _ q77) (fun _ h9 => h9) dX0_copy_4 ?_
  refine lv_acmp_eq (rx := some (ad 3)) (ry := some (ad 0)) (tgt := 20) hx hb dX0_copy_7 (by decide) (fun cq => absurd cq (mg_ne hC (by decide) (by decide) (by decide))) (fun _ => ?_)
  refine lv_aload_n hx hb dX0_copy_10 rfl (lv_at hl 0 rfl) ?_
  refine va_get (D := D) (ci := 0) (v := .ref (ad 3)) (C := RX0) (T := TX0) (N := 10) hx hb hts in_X0 hown hC.1 hP 0 rfl rfl 6 (by decide) (hts _ q85) (fun _ h9 => h9) rfl dX0_copy_11 ?_
  refine va_gets (C := "Migrator$Phase") (n := "MOVED") (d := "LMigrator$Phase;") (v := .ref (ad 3)) hx hb (hC.2.2.2.1 3 (by decide)).1 hS hown (hts _ q137) (fun _ h9 => h9) dX0_copy_14 ?_
  refine lv_acmp_ne (rx := some (ad 3)) (ry := some (ad 3)) (tgt := 22) hx hb dX0_copy_17 (by decide) (fun cq => absurd (rfl) cq) (fun _ => ?_)
  refine lv_iconst (v := -1) hx hb dX0_copy_20 (by decide) ?_
  exact mg_iret (ty := .int) hx hb hr hlocks (rfl) hP hD hS (rfl) dX0_copy_21

set_option maxHeartbeats 4000000 in
set_option maxRecDepth 100000 in
/-- copy(): page q is the first that waits -/
theorem c_copyPage (l : Launch) (D : va_G) (ct ad a : Nat → Nat) (M N : Nat → Nat → Int32) (regs shown : Nat → Int32) (pc shows : Nat) (bd bw : Nat → Bool) (ph : Nat) (rd th lm : Int32) (hph : ph = 1 ∨ ph = 2) (q : Nat) (hq : q < 8) (ht : bw q = true) (hf : ∀ j, j < q → bw j = false) : MI l yX0_copy cX0_copy 2 (some .int) (rmN 1 30) D ct ad [.ref (a 0)] (wMig ct ad a (M) (N) (regs) (shown) (pc) (shows) (bd) (bw) (ph) (rd) (th) (lm)) (wMig ct ad a (M) (va_up N q (cpU (N q) (M q) 8)) (regs) (shown) (pc) (shows) (bd) (va_up bw q false) (ph) (rd) (th) (lm)) (nI q) := by
  refine mg_MI (by decide) (Nat.le_of_ble_eq_true rfl) ?_
  intro p e s m below meth c A hx hb hr hlocks hml hown hnm hts hC hP hD hA hS ls hl
  have hown : s.vm.findClass RX0 = some m.cls := hown
  have hl : lv_has ls 2 [(0, .ref (a 0))] := hl
  refine lv_aload_n hx hb dX0_copy_0 rfl (lv_at hl 0 rfl) ?_
  refine va_get (D := D) (ci := 0) (v := .ref (ad ph)) (C := RX0) (T := TX0) (N := 10) hx hb hts in_X0 hown hC.1 hP 0 rfl rfl 6 (by decide) (hts _ q85) (fun _ h9 => h9) rfl dX0_copy_1 ?_
  refine va_gets (C := "Migrator$Phase") (n := "HOME") (d := "LMigrator$Phase;") (v := .ref (ad 0)) hx hb (hC.2.2.2.1 0 (by decide)).1 hS hown (hts _ q77) (fun _ h9 => h9) dX0_copy_4 ?_
  refine lv_acmp_eq (rx := some (ad ph)) (ry := some (ad 0)) (tgt := 20) hx hb dX0_copy_7 (by decide) (fun cq => absurd cq (mg_ne hC (by omega) (by decide) (by omega))) (fun _ => ?_)
  refine lv_aload_n hx hb dX0_copy_10 rfl (lv_at hl 0 rfl) ?_
  refine va_get (D := D) (ci := 0) (v := .ref (ad ph)) (C := RX0) (T := TX0) (N := 10) hx hb hts in_X0 hown hC.1 hP 0 rfl rfl 6 (by decide) (hts _ q85) (fun _ h9 => h9) rfl dX0_copy_11 ?_
  refine va_gets (C := "Migrator$Phase") (n := "MOVED") (d := "LMigrator$Phase;") (v := .ref (ad 3)) hx hb (hC.2.2.2.1 3 (by decide)).1 hS hown (hts _ q137) (fun _ h9 => h9) dX0_copy_14 ?_
  refine lv_acmp_ne (rx := some (ad ph)) (ry := some (ad 3)) (tgt := 22) hx hb dX0_copy_17 (by decide) (fun _ => ?_) (fun cq => absurd cq (mg_ne hC (by omega) (by decide) (by omega)))
  refine lv_aload_n hx hb dX0_copy_22 rfl (lv_at hl 0 rfl) ?_
  refine va_get (D := D) (ci := 0) (v := .ref (a 26)) (C := RX0) (T := TX0) (N := 10) hx hb hts in_X0 hown hC.1 hP 0 rfl rfl 4 (by decide) (hts _ q83) (fun _ h9 => h9) rfl dX0_copy_23 ?_
  refine mg_afterI (w1 := wMk ct (fun i => a (26 + i)) (va_up bw q false)) (wr := wHd a (ad (ph)) (rd) (th) (lm) ++ wHost ct (fun i => a (1 + i)) (M) ++ wHost ct (fun i => a (11 + i)) (N) ++ wGst ct (fun i => a (21 + i)) (regs) (shown) (pc) (shows) ++ wMk ct (fun i => a (24 + i)) (bd) ++ wNb (a 28)) (w2 := wMig ct ad a (M) (N) (regs) (shown) (pc) (shows) (bd) (va_up bw q false) (ph) (rd) (th) (lm)) (va_runV (As := []) (rest := []) ⟨hx, hb, hml, hown, hts⟩ (m_takeFirst l D ct ad (fun i => a (26 + i)) bw q hq ht hf _) (cwV 0 hts (lw_V q168 q169 q170 q5 q171) rfl rfl rfl (by decide +kernel) ⟨Nat.le_of_ble_eq_true rfl, Nat.le_of_ble_eq_true rfl⟩) (mg_preV hC hP hD hS hA (wc := wMk ct (fun i => a (26 + i)) (bw)) [26, 27] rfl (by decide) (ci := 3) (q0 := 0) rfl rfl []) rfl rfl hl.1 rfl (lv_room (Nat.le_of_ble_eq_true rfl)) dX0_copy_26 ⟨Nat.zero_le _, Nat.zero_le _⟩) hP hD hS hA [26, 27] [0, 1, 2, 3, 4, 5, 6, 7, 8, 9, 10, 11, 12, 13, 14, 15, 16, 17, 18, 19, 20, 21, 22, 23, 24, 25, 28] [0, 1, 2, 3, 4, 5, 6, 7, 8, 9, 10, 11, 12, 13, 14, 15, 16, 17, 18, 19, 20, 21, 22, 23, 24, 25, 27, 28, 26] rfl rfl (by decide) (by decide) rfl (by decide) (fun H locs hP hD hS => ?_)
  refine lv_istore_n (lv' := [(1, .int (nI (q))), (0, .ref (a 0))]) hx hb dX0_copy_29 rfl hl (by decide) rfl (fun ls hl => ?_)
  refine lv_iload_n hx hb dX0_copy_30 rfl (lv_at hl 0 rfl) ?_
  refine lv_if_lt (tgt := 48) hx hb dX0_copy_31 (by decide) (fun cq => absurd cq (nI_pos (by omega))) (fun _ => ?_)
  refine lv_aload_n hx hb dX0_copy_34 rfl (lv_at hl 1 rfl) ?_
  refine va_get (D := D) (ci := 0) (v := .ref (a 11)) (C := RX0) (T := TX0) (N := 10) hx hb hts in_X0 hown hC.1 hP 0 rfl rfl 1 (by decide) (hts _ q80) (fun _ h9 => h9) rfl dX0_copy_35 ?_
  refine lv_iload_n hx hb dX0_copy_38 rfl (lv_at hl 0 rfl) ?_
  refine lv_aload_n hx hb dX0_copy_39 rfl (lv_at hl 1 rfl) ?_
  refine va_get (D := D) (ci := 0) (v := .ref (a 1)) (C := RX0) (T := TX0) (N := 10) hx hb hts in_X0 hown hC.1 hP 0 rfl rfl 0 (by decide) (hts _ q79) (fun _ h9 => h9) rfl dX0_copy_40 ?_
  refine mg_afterV (w1 := wHost ct (fun i => a (11 + i)) (va_up N q (cpU (N q) (M q) 8)) ++ wHost ct (fun i => a (1 + i)) (M)) (wr := wHd a (ad (ph)) (rd) (th) (lm) ++ wGst ct (fun i => a (21 + i)) (regs) (shown) (pc) (shows) ++ wMk ct (fun i => a (24 + i)) (bd) ++ wMk ct (fun i => a (26 + i)) (va_up bw q false) ++ wNb (a 28)) (w2 := wMig ct ad a (M) (va_up N q (cpU (N q) (M q) 8)) (regs) (shown) (pc) (shows) (bd) (va_up bw q false) (ph) (rd) (th) (lm)) (va_runV (As := [.int (nI (q)), .ref (a 1)]) (rest := []) ⟨hx, hb, hml, hown, hts⟩ (h_takePage l D ct ad (fun i => a (11 + i)) (fun i => a (1 + i)) N M q hq _) (cwV 2 hts (lw_V q172 q173 q174 q3 q175) rfl rfl rfl (by decide +kernel) ⟨Nat.le_of_ble_eq_true rfl, Nat.le_of_ble_eq_true rfl⟩) (mg_preV hC hP hD hS hA (wc := wHost ct (fun i => a (11 + i)) (N) ++ wHost ct (fun i => a (1 + i)) (M)) [11, 12, 13, 14, 15, 16, 17, 18, 19, 20, 1, 2, 3, 4, 5, 6, 7, 8, 9, 10] rfl (by decide) (ci := 1) (q0 := 0) rfl rfl [.int (nI (q)), .ref (a 1)]) rfl rfl hl.1 rfl (lv_room (Nat.le_of_ble_eq_true rfl)) dX0_copy_43 ⟨Nat.zero_le _, Nat.zero_le _⟩) hP hD hS hA [11, 12, 13, 14, 15, 16, 17, 18, 19, 20, 1, 2, 3, 4, 5, 6, 7, 8, 9, 10] [0, 21, 22, 23, 24, 25, 26, 27, 28] [0, 19, 20, 21, 22, 23, 24, 25, 26, 27, 28, 9, 10, 11, 12, 13, 14, 15, 16, 17, 18, 1, 2, 3, 4, 5, 6, 7, 8] rfl rfl (by decide) (by decide) rfl (by decide) (fun H locs hP hD hS => ?_)
  refine lv_iload_n hx hb dX0_copy_46 rfl (lv_at hl 0 rfl) ?_
  exact mg_iret (ty := .int) hx hb hr hlocks (rfl) hP hD hS (rfl) dX0_copy_47

set_option maxHeartbeats 4000000 in
set_option maxRecDepth 100000 in
/-- copy(): stopped, nothing waits -/
theorem c_copyMove (l : Launch) (D : va_G) (ct ad a : Nat → Nat) (M N : Nat → Nat → Int32) (regs shown : Nat → Int32) (pc shows : Nat) (bd bw : Nat → Bool) (rd th lm : Int32) (hf : ∀ j, j < 8 → bw j = false) : MI l yX0_copy cX0_copy 2 (some .int) (rmN 1 30) D ct ad [.ref (a 0)] (wMig ct ad a (M) (N) (regs) (shown) (pc) (shows) (bd) (bw) (2) (rd) (th) (lm)) (wMig ct ad a (M) (N) (regs) (shown) (pc) (shows) (bd) (bw) (3) (rd) (th) (lm)) (nI 34) := by
  refine mg_MI (by decide) (Nat.le_of_ble_eq_true rfl) ?_
  intro p e s m below meth c A hx hb hr hlocks hml hown hnm hts hC hP hD hA hS ls hl
  have hown : s.vm.findClass RX0 = some m.cls := hown
  have hl : lv_has ls 2 [(0, .ref (a 0))] := hl
  refine lv_aload_n hx hb dX0_copy_0 rfl (lv_at hl 0 rfl) ?_
  refine va_get (D := D) (ci := 0) (v := .ref (ad 2)) (C := RX0) (T := TX0) (N := 10) hx hb hts in_X0 hown hC.1 hP 0 rfl rfl 6 (by decide) (hts _ q85) (fun _ h9 => h9) rfl dX0_copy_1 ?_
  refine va_gets (C := "Migrator$Phase") (n := "HOME") (d := "LMigrator$Phase;") (v := .ref (ad 0)) hx hb (hC.2.2.2.1 0 (by decide)).1 hS hown (hts _ q77) (fun _ h9 => h9) dX0_copy_4 ?_
  refine lv_acmp_eq (rx := some (ad 2)) (ry := some (ad 0)) (tgt := 20) hx hb dX0_copy_7 (by decide) (fun cq => absurd cq (mg_ne hC (by decide) (by decide) (by decide))) (fun _ => ?_)
  refine lv_aload_n hx hb dX0_copy_10 rfl (lv_at hl 0 rfl) ?_
  refine va_get (D := D) (ci := 0) (v := .ref (ad 2)) (C := RX0) (T := TX0) (N := 10) hx hb hts in_X0 hown hC.1 hP 0 rfl rfl 6 (by decide) (hts _ q85) (fun _ h9 => h9) rfl dX0_copy_11 ?_
  refine va_gets (C := "Migrator$Phase") (n := "MOVED") (d := "LMigrator$Phase;") (v := .ref (ad 3)) hx hb (hC.2.2.2.1 3 (by decide)).1 hS hown (hts _ q137) (fun _ h9 => h9) dX0_copy_14 ?_
  refine lv_acmp_ne (rx := some (ad 2)) (ry := some (ad 3)) (tgt := 22) hx hb dX0_copy_17 (by decide) (fun _ => ?_) (fun cq => absurd cq (mg_ne hC (by decide) (by decide) (by decide)))
  refine lv_aload_n hx hb dX0_copy_22 rfl (lv_at hl 0 rfl) ?_
  refine va_get (D := D) (ci := 0) (v := .ref (a 26)) (C := RX0) (T := TX0) (N := 10) hx hb hts in_X0 hown hC.1 hP 0 rfl rfl 4 (by decide) (hts _ q83) (fun _ h9 => h9) rfl dX0_copy_23 ?_
  refine mg_afterI (w1 := wMk ct (fun i => a (26 + i)) (bw)) (wr := wHd a (ad (2)) (rd) (th) (lm) ++ wHost ct (fun i => a (1 + i)) (M) ++ wHost ct (fun i => a (11 + i)) (N) ++ wGst ct (fun i => a (21 + i)) (regs) (shown) (pc) (shows) ++ wMk ct (fun i => a (24 + i)) (bd) ++ wNb (a 28)) (w2 := wMig ct ad a (M) (N) (regs) (shown) (pc) (shows) (bd) (bw) (2) (rd) (th) (lm)) (va_runV (As := []) (rest := []) ⟨hx, hb, hml, hown, hts⟩ (m_takeNone l D ct ad (fun i => a (26 + i)) bw hf _) (cwV 0 hts (lw_V q168 q169 q170 q5 q171) rfl rfl rfl (by decide +kernel) ⟨Nat.le_of_ble_eq_true rfl, Nat.le_of_ble_eq_true rfl⟩) (mg_preV hC hP hD hS hA (wc := wMk ct (fun i => a (26 + i)) (bw)) [26, 27] rfl (by decide) (ci := 3) (q0 := 0) rfl rfl []) rfl rfl hl.1 rfl (lv_room (Nat.le_of_ble_eq_true rfl)) dX0_copy_26 ⟨Nat.zero_le _, Nat.zero_le _⟩) hP hD hS hA [26, 27] [0, 1, 2, 3, 4, 5, 6, 7, 8, 9, 10, 11, 12, 13, 14, 15, 16, 17, 18, 19, 20, 21, 22, 23, 24, 25, 28] [0, 1, 2, 3, 4, 5, 6, 7, 8, 9, 10, 11, 12, 13, 14, 15, 16, 17, 18, 19, 20, 21, 22, 23, 24, 25, 27, 28, 26] rfl rfl (by decide) (by decide) rfl (by decide) (fun H locs hP hD hS => ?_)
  refine lv_istore_n (lv' := [(1, .int (-1)), (0, .ref (a 0))]) hx hb dX0_copy_29 rfl hl (by decide) rfl (fun ls hl => ?_)
  refine lv_iload_n hx hb dX0_copy_30 rfl (lv_at hl 0 rfl) ?_
  refine lv_if_lt (tgt := 48) hx hb dX0_copy_31 (by decide) (fun _ => ?_) (fun cq => absurd (by decide) cq)
  refine lv_aload_n hx hb dX0_copy_48 rfl (lv_at hl 1 rfl) ?_
  refine va_get (D := D) (ci := 0) (v := .ref (ad 2)) (C := RX0) (T := TX0) (N := 10) hx hb hts in_X0 hown hC.1 hP 0 rfl rfl 6 (by decide) (hts _ q85) (fun _ h9 => h9) rfl dX0_copy_49 ?_
  refine va_gets (C := "Migrator$Phase") (n := "STOPPED") (d := "LMigrator$Phase;") (v := .ref (ad 2)) hx hb (hC.2.2.2.1 2 (by decide)).1 hS hown (hts _ q135) (fun _ h9 => h9) dX0_copy_52 ?_
  refine lv_acmp_ne (rx := some (ad 2)) (ry := some (ad 2)) (tgt := 68) hx hb dX0_copy_55 (by decide) (fun cq => absurd (rfl) cq) (fun _ => ?_)
  refine lv_aload_n hx hb dX0_copy_58 rfl (lv_at hl 1 rfl) ?_
  refine va_gets (C := "Migrator$Phase") (n := "MOVED") (d := "LMigrator$Phase;") (v := .ref (ad 3)) hx hb (hC.2.2.2.1 3 (by decide)).1 hS hown (hts _ q137) (fun _ h9 => h9) dX0_copy_59 ?_
  refine va_put (D := D) (ci := 0) (v := .ref (ad 3)) (ty := .object "Migrator$Phase") (C := RX0) (T := TX0) (N := 10) hx hb hts in_X0 tyX0 tyX0_ok nmX0 hown hC.1 hP hD hS 0 rfl rfl 6 (by decide) (hts _ q85) (fun _ h9 => h9) rfl (by decide +kernel) rfl rfl (Nat.le_of_ble_eq_true rfl) dX0_copy_62 (fun H locs hP hD hS => ?_)
  have hP : va_P D mgCl (wMig ct ad a (M) (N) (regs) (shown) (pc) (shows) (bd) (bw) (3) (rd) (th) (lm)) H := hP
  have hD : va_D A (wMig ct ad a (M) (N) (regs) (shown) (pc) (shows) (bd) (bw) (3) (rd) (th) (lm)) := hD
  refine lv_bipush (v := nI (34)) hx hb dX0_copy_65 (by decide) ?_
  exact mg_iret (ty := .int) hx hb hr hlocks (rfl) hP hD hS (rfl) dX0_copy_67

set_option maxHeartbeats 4000000 in
set_option maxRecDepth 100000 in
/-- copy(): the last round ends -/
theorem c_copyStop (l : Launch) (D : va_G) (ct ad a : Nat → Nat) (M N : Nat → Nat → Int32) (regs shown : Nat → Int32) (pc shows : Nat) (bd bw : Nat → Bool) (rd th lm : Int32) (hf : ∀ j, j < 8 → bw j = false) (hst : nI (cnt bd 8) ≤ th ∨ rd = lm) : MI l yX0_copy cX0_copy 2 (some .int) (rmN 1 30) D ct ad [.ref (a 0)] (wMig ct ad a (M) (N) (regs) (shown) (pc) (shows) (bd) (bw) (1) (rd) (th) (lm)) (wMig ct ad a (M) (N) (regs) (shown) (pc) (shows) (bd) (cpB bw bd 8) (2) (rd) (th) (lm)) (nI 33) := by
  refine mg_MI (by decide) (Nat.le_of_ble_eq_true rfl) ?_
  intro p e s m below meth c A hx hb hr hlocks hml hown hnm hts hC hP hD hA hS ls hl
  have hown : s.vm.findClass RX0 = some m.cls := hown
  have hl : lv_has ls 2 [(0, .ref (a 0))] := hl
  refine lv_aload_n hx hb dX0_copy_0 rfl (lv_at hl 0 rfl) ?_
  refine va_get (D := D) (ci := 0) (v := .ref (ad 1)) (C := RX0) (T := TX0) (N := 10) hx hb hts in_X0 hown hC.1 hP 0 rfl rfl 6 (by decide) (hts _ q85) (fun _ h9 => h9) rfl dX0_copy_1 ?_
  refine va_gets (C := "Migrator$Phase") (n := "HOME") (d := "LMigrator$Phase;") (v := .ref (ad 0)) hx hb (hC.2.2.2.1 0 (by decide)).1 hS hown (hts _ q77) (fun _ h9 => h9) dX0_copy_4 ?_
  refine lv_acmp_eq (rx := some (ad 1)) (ry := some (ad 0)) (tgt := 20) hx hb dX0_copy_7 (by decide) (fun cq => absurd cq (mg_ne hC (by decide) (by decide) (by decide))) (fun _ => ?_)
  refine lv_aload_n hx hb dX0_copy_10 rfl (lv_at hl 0 rfl) ?_
  refine va_get (D := D) (ci := 0) (v := .ref (ad 1)) (C := RX0) (T := TX0) (N := 10) hx hb hts in_X0 hown hC.1 hP 0 rfl rfl 6 (by decide) (hts _ q85) (fun _ h9 => h9) rfl dX0_copy_11 ?_
  refine va_gets (C := "Migrator$Phase") (n := "MOVED") (d := "LMigrator$Phase;") (v := .ref (ad 3)) hx hb (hC.2.2.2.1 3 (by decide)).1 hS hown (hts _ q137) (fun _ h9 => h9) dX0_copy_14 ?_
  refine lv_acmp_ne (rx := some (ad 1)) (ry := some (ad 3)) (tgt := 22) hx hb dX0_copy_17 (by decide) (fun _ => ?_) (fun cq => absurd cq (mg_ne hC (by decide) (by decide) (by decide)))
  refine lv_aload_n hx hb dX0_copy_22 rfl (lv_at hl 0 rfl) ?_
  refine va_get (D := D) (ci := 0) (v := .ref (a 26)) (C := RX0) (T := TX0) (N := 10) hx hb hts in_X0 hown hC.1 hP 0 rfl rfl 4 (by decide) (hts _ q83) (fun _ h9 => h9) rfl dX0_copy_23 ?_
  refine mg_afterI (w1 := wMk ct (fun i => a (26 + i)) (bw)) (wr := wHd a (ad (1)) (rd) (th) (lm) ++ wHost ct (fun i => a (1 + i)) (M) ++ wHost ct (fun i => a (11 + i)) (N) ++ wGst ct (fun i => a (21 + i)) (regs) (shown) (pc) (shows) ++ wMk ct (fun i => a (24 + i)) (bd) ++ wNb (a 28)) (w2 := wMig ct ad a (M) (N) (regs) (shown) (pc) (shows) (bd) (bw) (1) (rd) (th) (lm)) (va_runV (As := []) (rest := []) ⟨hx, hb, hml, hown, hts⟩ (m_takeNone l D ct ad (fun i => a (26 + i)) bw hf _) (cwV 0 hts (lw_V q168 q169 q170 q5 q171) rfl rfl rfl (by decide +kernel) ⟨Nat.le_of_ble_eq_true rfl, Nat.le_of_ble_eq_true rfl⟩) (mg_preV hC hP hD hS hA (wc := wMk ct (fun i => a (26 + i)) (bw)) [26, 27] rfl (by decide) (ci := 3) (q0 := 0) rfl rfl []) rfl rfl hl.1 rfl (lv_room (Nat.le_of_ble_eq_true rfl)) dX0_copy_26 ⟨Nat.zero_le _, Nat.zero_le _⟩) hP hD hS hA [26, 27] [0, 1, 2, 3, 4, 5, 6, 7, 8, 9, 10, 11, 12, 13, 14, 15, 16, 17, 18, 19, 20, 21, 22, 23, 24, 25, 28] [0, 1, 2, 3, 4, 5, 6, 7, 8, 9, 10, 11, 12, 13, 14, 15, 16, 17, 18, 19, 20, 21, 22, 23, 24, 25, 27, 28, 26] rfl rfl (by decide) (by decide) rfl (by decide) (fun H locs hP hD hS => ?_)
  refine lv_istore_n (lv' := [(1, .int (-1)), (0, .ref (a 0))]) hx hb dX0_copy_29 rfl hl (by decide) rfl (fun ls hl => ?_)
  refine lv_iload_n hx hb dX0_copy_30 rfl (lv_at hl 0 rfl) ?_
  refine lv_if_lt (tgt := 48) hx hb dX0_copy_31 (by decide) (fun _ => ?_) (fun cq => absurd (by decide) cq)
  refine lv_aload_n hx hb dX0_copy_48 rfl (lv_at hl 1 rfl) ?_
  refine va_get (D := D) (ci := 0) (v := .ref (ad 1)) (C := RX0) (T := TX0) (N := 10) hx hb hts in_X0 hown hC.1 hP 0 rfl rfl 6 (by decide) (hts _ q85) (fun _ h9 => h9) rfl dX0_copy_49 ?_
  refine va_gets (C := "Migrator$Phase") (n := "STOPPED") (d := "LMigrator$Phase;") (v := .ref (ad 2)) hx hb (hC.2.2.2.1 2 (by decide)).1 hS hown (hts _ q135) (fun _ h9 => h9) dX0_copy_52 ?_
  refine lv_acmp_ne (rx := some (ad 1)) (ry := some (ad 2)) (tgt := 68) hx hb dX0_copy_55 (by decide) (fun _ => ?_) (fun cq => absurd cq (mg_ne hC (by decide) (by decide) (by decide)))
  refine lv_aload_n hx hb dX0_copy_68 rfl (lv_at hl 1 rfl) ?_
  refine va_get (D := D) (ci := 0) (v := .ref (a 26)) (C := RX0) (T := TX0) (N := 10) hx hb hts in_X0 hown hC.1 hP 0 rfl rfl 4 (by decide) (hts _ q83) (fun _ h9 => h9) rfl dX0_copy_69 ?_
  refine lv_aload_n hx hb dX0_copy_72 rfl (lv_at hl 1 rfl) ?_
  refine va_get (D := D) (ci := 0) (v := .ref (a 24)) (C := RX0) (T := TX0) (N := 10) hx hb hts in_X0 hown hC.1 hP 0 rfl rfl 3 (by decide) (hts _ q82) (fun _ h9 => h9) rfl dX0_copy_73 ?_
  refine mg_afterV (w1 := wMk ct (fun i => a (26 + i)) (cpB bw bd 8) ++ wMk ct (fun i => a (24 + i)) (bd)) (wr := wHd a (ad (1)) (rd) (th) (lm) ++ wHost ct (fun i => a (1 + i)) (M) ++ wHost ct (fun i => a (11 + i)) (N) ++ wGst ct (fun i => a (21 + i)) (regs) (shown) (pc) (shows) ++ wNb (a 28)) (w2 := wMig ct ad a (M) (N) (regs) (shown) (pc) (shows) (bd) (cpB bw bd 8) (1) (rd) (th) (lm)) (va_runV (As := [.ref (a 24)]) (rest := []) ⟨hx, hb, hml, hown, hts⟩ (m_copy l D ct ad (fun i => a (26 + i)) (fun i => a (24 + i)) bw bd _) (cwV 1 hts (lw_V q176 q177 q178 q5 q179) rfl rfl rfl (by decide +kernel) ⟨Nat.le_of_ble_eq_true rfl, Nat.le_of_ble_eq_true rfl⟩) (mg_preV hC hP hD hS hA (wc := wMk ct (fun i => a (26 + i)) (bw) ++ wMk ct (fun i => a (24 + i)) (bd)) [26, 27, 24, 25] rfl (by decide) (ci := 3) (q0 := 0) rfl rfl [.ref (a 24)]) rfl rfl hl.1 rfl (lv_room (Nat.le_of_ble_eq_true rfl)) dX0_copy_76 ⟨Nat.zero_le _, Nat.zero_le _⟩) hP hD hS hA [26, 27, 24, 25] [0, 1, 2, 3, 4, 5, 6, 7, 8, 9, 10, 11, 12, 13, 14, 15, 16, 17, 18, 19, 20, 21, 22, 23, 28] [0, 1, 2, 3, 4, 5, 6, 7, 8, 9, 10, 11, 12, 13, 14, 15, 16, 17, 18, 19, 20, 21, 22, 23, 27, 28, 25, 26, 24] rfl rfl (by decide) (by decide) rfl (by decide) (fun H locs hP hD hS => ?_)
  refine lv_aload_n hx hb dX0_copy_79 rfl (lv_at hl 1 rfl) ?_
  refine va_get (D := D) (ci := 0) (v := .ref (a 24)) (C := RX0) (T := TX0) (N := 10) hx hb hts in_X0 hown hC.1 hP 0 rfl rfl 3 (by decide) (hts _ q82) (fun _ h9 => h9) rfl dX0_copy_80 ?_
  refine mg_afterI (w1 := wMk ct (fun i => a (24 + i)) (bd)) (wr := wHd a (ad (1)) (rd) (th) (lm) ++ wHost ct (fun i => a (1 + i)) (M) ++ wHost ct (fun i => a (11 + i)) (N) ++ wGst ct (fun i => a (21 + i)) (regs) (shown) (pc) (shows) ++ wMk ct (fun i => a (26 + i)) (cpB bw bd 8) ++ wNb (a 28)) (w2 := wMig ct ad a (M) (N) (regs) (shown) (pc) (shows) (bd) (cpB bw bd 8) (1) (rd) (th) (lm)) (va_runV (As := []) (rest := []) ⟨hx, hb, hml, hown, hts⟩ (m_count l D ct ad (fun i => a (24 + i)) bd _) (cwV 0 hts (lw_V q180 q181 q182 q5 q183) rfl rfl rfl (by decide +kernel) ⟨Nat.le_of_ble_eq_true rfl, Nat.le_of_ble_eq_true rfl⟩) (mg_preV hC hP hD hS hA (wc := wMk ct (fun i => a (24 + i)) (bd)) [24, 25] rfl (by decide) (ci := 3) (q0 := 0) rfl rfl []) rfl rfl hl.1 rfl (lv_room (Nat.le_of_ble_eq_true rfl)) dX0_copy_83 ⟨Nat.zero_le _, Nat.zero_le _⟩) hP hD hS hA [24, 25] [0, 1, 2, 3, 4, 5, 6, 7, 8, 9, 10, 11, 12, 13, 14, 15, 16, 17, 18, 19, 20, 21, 22, 23, 26, 27, 28] [0, 1, 2, 3, 4, 5, 6, 7, 8, 9, 10, 11, 12, 13, 14, 15, 16, 17, 18, 19, 20, 21, 22, 23, 27, 28, 24, 25, 26] rfl rfl (by decide) (by decide) rfl (by decide) (fun H locs hP hD hS => ?_)
  refine lv_aload_n hx hb dX0_copy_86 rfl (lv_at hl 1 rfl) ?_
  refine va_get (D := D) (ci := 0) (v := .int (th)) (C := RX0) (T := TX0) (N := 10) hx hb hts in_X0 hown hC.1 hP 0 rfl rfl 8 (by decide) (hts _ q87) (fun _ h9 => h9) rfl dX0_copy_87 ?_
  refine lv_icmp_le (tgt := 104) hx hb dX0_copy_90 (by decide) (fun ck => ?_) (fun ck => ?_)
  · refine lv_aload_n hx hb dX0_copy_104 rfl (lv_at hl 1 rfl) ?_
    refine va_gets (C := "Migrator$Phase") (n := "STOPPED") (d := "LMigrator$Phase;") (v := .ref (ad 2)) hx hb (hC.2.2.2.1 2 (by decide)).1 hS hown (hts _ q135) (fun _ h9 => h9) dX0_copy_105 ?_
    refine va_put (D := D) (ci := 0) (v := .ref (ad 2)) (ty := .object "Migrator$Phase") (C := RX0) (T := TX0) (N := 10) hx hb hts in_X0 tyX0 tyX0_ok nmX0 hown hC.1 hP hD hS 0 rfl rfl 6 (by decide) (hts _ q85) (fun _ h9 => h9) rfl (by decide +kernel) rfl rfl (Nat.le_of_ble_eq_true rfl) dX0_copy_108 (fun H locs hP hD hS => ?_)
    have hP : va_P D mgCl (wMig ct ad a (M) (N) (regs) (shown) (pc) (shows) (bd) (cpB bw bd 8) (2) (rd) (th) (lm)) H := hP
    have hD : va_D A (wMig ct ad a (M) (N) (regs) (shown) (pc) (shows) (bd) (cpB bw bd 8) (2) (rd) (th) (lm)) := hD
    refine lv_bipush (v := nI (33)) hx hb dX0_copy_111 (by decide) ?_
    exact mg_iret (ty := .int) hx hb hr hlocks (rfl) hP hD hS (rfl) dX0_copy_113
  · have hrl : rd = lm := hst.resolve_left ck
    refine lv_aload_n hx hb dX0_copy_93 rfl (lv_at hl 1 rfl) ?_
    refine va_get (D := D) (ci := 0) (v := .int (rd)) (C := RX0) (T := TX0) (N := 10) hx hb hts in_X0 hown hC.1 hP 0 rfl rfl 7 (by decide) (hts _ q86) (fun _ h9 => h9) rfl dX0_copy_94 ?_
    refine lv_aload_n hx hb dX0_copy_97 rfl (lv_at hl 1 rfl) ?_
    refine va_get (D := D) (ci := 0) (v := .int (lm)) (C := RX0) (T := TX0) (N := 10) hx hb hts in_X0 hown hC.1 hP 0 rfl rfl 9 (by decide) (hts _ q88) (fun _ h9 => h9) rfl dX0_copy_98 ?_
    refine lv_icmp_ne (tgt := 114) hx hb dX0_copy_101 (by decide) (fun cq => absurd (hrl) cq) (fun _ => ?_)
    refine lv_aload_n hx hb dX0_copy_104 rfl (lv_at hl 1 rfl) ?_
    refine va_gets (C := "Migrator$Phase") (n := "STOPPED") (d := "LMigrator$Phase;") (v := .ref (ad 2)) hx hb (hC.2.2.2.1 2 (by decide)).1 hS hown (hts _ q135) (fun _ h9 => h9) dX0_copy_105 ?_
    refine va_put (D := D) (ci := 0) (v := .ref (ad 2)) (ty := .object "Migrator$Phase") (C := RX0) (T := TX0) (N := 10) hx hb hts in_X0 tyX0 tyX0_ok nmX0 hown hC.1 hP hD hS 0 rfl rfl 6 (by decide) (hts _ q85) (fun _ h9 => h9) rfl (by decide +kernel) rfl rfl (Nat.le_of_ble_eq_true rfl) dX0_copy_108 (fun H locs hP hD hS => ?_)
    have hP : va_P D mgCl (wMig ct ad a (M) (N) (regs) (shown) (pc) (shows) (bd) (cpB bw bd 8) (2) (rd) (th) (lm)) H := hP
    have hD : va_D A (wMig ct ad a (M) (N) (regs) (shown) (pc) (shows) (bd) (cpB bw bd 8) (2) (rd) (th) (lm)) := hD
    refine lv_bipush (v := nI (33)) hx hb dX0_copy_111 (by decide) ?_
    exact mg_iret (ty := .int) hx hb hr hlocks (rfl) hP hD hS (rfl) dX0_copy_113

set_option maxHeartbeats 4000000 in
set_option maxRecDepth 100000 in
/-- copy(): a round ends -/
theorem c_copyRound (l : Launch) (D : va_G) (ct ad a : Nat → Nat) (M N : Nat → Nat → Int32) (regs shown : Nat → Int32) (pc shows : Nat) (bd bw : Nat → Bool) (rd th lm : Int32) (hf : ∀ j, j < 8 → bw j = false) (hst : ¬ nI (cnt bd 8) ≤ th ∧ ¬ rd = lm) : MI l yX0_copy cX0_copy 2 (some .int) (rmN 1 30) D ct ad [.ref (a 0)] (wMig ct ad a (M) (N) (regs) (shown) (pc) (shows) (bd) (bw) (1) (rd) (th) (lm)) (wMig ct ad a (M) (N) (regs) (shown) (pc) (shows) (cpB bd (fun _ => false) 8) (cpB bw bd 8) (1) (rd + nI 1) (th) (lm)) (nI 32) := by
  refine mg_MI (by decide) (Nat.le_of_ble_eq_true rfl) ?_
  intro p e s m below meth c A hx hb hr hlocks hml hown hnm hts hC hP hD hA hS ls hl
  have hown : s.vm.findClass RX0 = some m.cls := hown
  have hl : lv_has ls 2 [(0, .ref (a 0))] := hl
  refine lv_aload_n hx hb dX0_copy_0 rfl (lv_at hl 0 rfl) ?_
  refine va_get (D := D) (ci := 0) (v := .ref (ad 1)) (C := RX0) (T := TX0) (N := 10) hx hb hts in_X0 hown hC.1 hP 0 rfl rfl 6 (by decide) (hts _ q85) (fun _ h9 => h9) rfl dX0_copy_1 ?_
  refine va_gets (C := "Migrator$Phase") (n := "HOME") (d := "LMigrator$Phase;") (v := .ref (ad 0)) hx hb (hC.2.2.2.1 0 (by decide)).1 hS hown (hts _ q77) (fun _ h9 => h9) dX0_copy_4 ?_
  refine lv_acmp_eq (rx := some (ad 1)) (ry := some (ad 0)) (tgt := 20) hx hb dX0_copy_7 (by decide) (fun cq => absurd cq (mg_ne hC (by decide) (by decide) (by decide))) (fun _ => ?_)
  refine lv_aload_n hx hb dX0_copy_10 rfl (lv_at hl 0 rfl) ?_
  refine va_get (D := D) (ci := 0) (v := .ref (ad 1)) (C := RX0) (T := TX0) (N := 10) hx hb hts in_X0 hown hC.1 hP 0 rfl rfl 6 (by decide) (hts _ q85) (fun _ h9 => h9) rfl dX0_copy_11 ?_
  refine va_gets (C := "Migrator$Phase") (n := "MOVED") (d := "LMigrator$Phase;") (v := .ref (ad 3)) hx hb (hC.2.2.2.1 3 (by decide)).1 hS hown (hts _ q137) (fun _ h9 => h9) dX0_copy_14 ?_
  refine lv_acmp_ne (rx := some (ad 1)) (ry := some (ad 3)) (tgt := 22) hx hb dX0_copy_17 (by decide) (fun _ => ?_) (fun cq => absurd cq (mg_ne hC (by decide) (by decide) (by decide)))
  refine lv_aload_n hx hb dX0_copy_22 rfl (lv_at hl 0 rfl) ?_
  refine va_get (D := D) (ci := 0) (v := .ref (a 26)) (C := RX0) (T := TX0) (N := 10) hx hb hts in_X0 hown hC.1 hP 0 rfl rfl 4 (by decide) (hts _ q83) (fun _ h9 => h9) rfl dX0_copy_23 ?_
  refine mg_afterI (w1 := wMk ct (fun i => a (26 + i)) (bw)) (wr := wHd a (ad (1)) (rd) (th) (lm) ++ wHost ct (fun i => a (1 + i)) (M) ++ wHost ct (fun i => a (11 + i)) (N) ++ wGst ct (fun i => a (21 + i)) (regs) (shown) (pc) (shows) ++ wMk ct (fun i => a (24 + i)) (bd) ++ wNb (a 28)) (w2 := wMig ct ad a (M) (N) (regs) (shown) (pc) (shows) (bd) (bw) (1) (rd) (th) (lm)) (va_runV (As := []) (rest := []) ⟨hx, hb, hml, hown, hts⟩ (m_takeNone l D ct ad (fun i => a (26 + i)) bw hf _) (cwV 0 hts (lw_V q168 q169 q170 q5 q171) rfl rfl rfl (by decide +kernel) ⟨Nat.le_of_ble_eq_true rfl, Nat.le_of_ble_eq_true rfl⟩) (mg_preV hC hP hD hS hA (wc := wMk ct (fun i => a (26 + i)) (bw)) [26, 27] rfl (by decide) (ci := 3) (q0 := 0) rfl rfl []) rfl rfl hl.1 rfl (lv_room (Nat.le_of_ble_eq_true rfl)) dX0_copy_26 ⟨Nat.zero_le _, Nat.zero_le _⟩) hP hD hS hA [26, 27] [0, 1, 2, 3, 4, 5, 6, 7, 8, 9, 10, 11, 12, 13, 14, 15, 16, 17, 18, 19, 20, 21, 22, 23, 24, 25, 28] [0, 1, 2, 3, 4, 5, 6, 7, 8, 9, 10, 11, 12, 13, 14, 15, 16, 17, 18, 19, 20, 21, 22, 23, 24, 25, 27, 28, 26] rfl rfl (by decide) (by decide) rfl (by decide) (fun H locs hP hD hS => ?_)
  refine lv_istore_n (lv' := [(1, .int (-1)), (0, .ref (a 0))]) hx hb dX0_copy_29 rfl hl (by decide) rfl (fun ls hl => ?_)
  refine lv_iload_n hx hb dX0_copy_30 rfl (lv_at hl 0 rfl) ?_
  refine lv_if_lt (tgt := 48) hx hb dX0_copy_31 (by decide) (fun _ => ?_) (fun cq => absurd (by decide) cq)
  refine lv_aload_n hx hb dX0_copy_48 rfl (lv_at hl 1 rfl) ?_
  refine va_get (D := D) (ci := 0) (v := .ref (ad 1)) (C := RX0) (T := TX0) (N := 10) hx hb hts in_X0 hown hC.1 hP 0 rfl rfl 6 (by decide) (hts _ q85) (fun _ h9 => h9) rfl dX0_copy_49 ?_
  refine va_gets (C := "Migrator$Phase") (n := "STOPPED") (d := "LMigrator$Phase;") (v := .ref (ad 2)) hx hb (hC.2.2.2.1 2 (by decide)).1 hS hown (hts _ q135) (fun _ h9 => h9) dX0_copy_52 ?_
  refine lv_acmp_ne (rx := some (ad 1)) (ry := some (ad 2)) (tgt := 68) hx hb dX0_copy_55 (by decide) (fun _ => ?_) (fun cq => absurd cq (mg_ne hC (by decide) (by decide) (by decide)))
  refine lv_aload_n hx hb dX0_copy_68 rfl (lv_at hl 1 rfl) ?_
  refine va_get (D := D) (ci := 0) (v := .ref (a 26)) (C := RX0) (T := TX0) (N := 10) hx hb hts in_X0 hown hC.1 hP 0 rfl rfl 4 (by decide) (hts _ q83) (fun _ h9 => h9) rfl dX0_copy_69 ?_
  refine lv_aload_n hx hb dX0_copy_72 rfl (lv_at hl 1 rfl) ?_
  refine va_get (D := D) (ci := 0) (v := .ref (a 24)) (C := RX0) (T := TX0) (N := 10) hx hb hts in_X0 hown hC.1 hP 0 rfl rfl 3 (by decide) (hts _ q82) (fun _ h9 => h9) rfl dX0_copy_73 ?_
  refine mg_afterV (w1 := wMk ct (fun i => a (26 + i)) (cpB bw bd 8) ++ wMk ct (fun i => a (24 + i)) (bd)) (wr := wHd a (ad (1)) (rd) (th) (lm) ++ wHost ct (fun i => a (1 + i)) (M) ++ wHost ct (fun i => a (11 + i)) (N) ++ wGst ct (fun i => a (21 + i)) (regs) (shown) (pc) (shows) ++ wNb (a 28)) (w2 := wMig ct ad a (M) (N) (regs) (shown) (pc) (shows) (bd) (cpB bw bd 8) (1) (rd) (th) (lm)) (va_runV (As := [.ref (a 24)]) (rest := []) ⟨hx, hb, hml, hown, hts⟩ (m_copy l D ct ad (fun i => a (26 + i)) (fun i => a (24 + i)) bw bd _) (cwV 1 hts (lw_V q176 q177 q178 q5 q179) rfl rfl rfl (by decide +kernel) ⟨Nat.le_of_ble_eq_true rfl, Nat.le_of_ble_eq_true rfl⟩) (mg_preV hC hP hD hS hA (wc := wMk ct (fun i => a (26 + i)) (bw) ++ wMk ct (fun i => a (24 + i)) (bd)) [26, 27, 24, 25] rfl (by decide) (ci := 3) (q0 := 0) rfl rfl [.ref (a 24)]) rfl rfl hl.1 rfl (lv_room (Nat.le_of_ble_eq_true rfl)) dX0_copy_76 ⟨Nat.zero_le _, Nat.zero_le _⟩) hP hD hS hA [26, 27, 24, 25] [0, 1, 2, 3, 4, 5, 6, 7, 8, 9, 10, 11, 12, 13, 14, 15, 16, 17, 18, 19, 20, 21, 22, 23, 28] [0, 1, 2, 3, 4, 5, 6, 7, 8, 9, 10, 11, 12, 13, 14, 15, 16, 17, 18, 19, 20, 21, 22, 23, 27, 28, 25, 26, 24] rfl rfl (by decide) (by decide) rfl (by decide) (fun H locs hP hD hS => ?_)
  refine lv_aload_n hx hb dX0_copy_79 rfl (lv_at hl 1 rfl) ?_
  refine va_get (D := D) (ci := 0) (v := .ref (a 24)) (C := RX0) (T := TX0) (N := 10) hx hb hts in_X0 hown hC.1 hP 0 rfl rfl 3 (by decide) (hts _ q82) (fun _ h9 => h9) rfl dX0_copy_80 ?_
  refine mg_afterI (w1 := wMk ct (fun i => a (24 + i)) (bd)) (wr := wHd a (ad (1)) (rd) (th) (lm) ++ wHost ct (fun i => a (1 + i)) (M) ++ wHost ct (fun i => a (11 + i)) (N) ++ wGst ct (fun i => a (21 + i)) (regs) (shown) (pc) (shows) ++ wMk ct (fun i => a (26 + i)) (cpB bw bd 8) ++ wNb (a 28)) (w2 := wMig ct ad a (M) (N) (regs) (shown) (pc) (shows) (bd) (cpB bw bd 8) (1) (rd) (th) (lm)) (va_runV (As := []) (rest := []) ⟨hx, hb, hml, hown, hts⟩ (m_count l D ct ad (fun i => a (24 + i)) bd _) (cwV 0 hts (lw_V q180 q181 q182 q5 q183) rfl rfl rfl (by decide +kernel) ⟨Nat.le_of_ble_eq_true rfl, Nat.le_of_ble_eq_true rfl⟩) (mg_preV hC hP hD hS hA (wc := wMk ct (fun i => a (24 + i)) (bd)) [24, 25] rfl (by decide) (ci := 3) (q0 := 0) rfl rfl []) rfl rfl hl.1 rfl (lv_room (Nat.le_of_ble_eq_true rfl)) dX0_copy_83 ⟨Nat.zero_le _, Nat.zero_le _⟩) hP hD hS hA [24, 25] [0, 1, 2, 3, 4, 5, 6, 7, 8, 9, 10, 11, 12, 13, 14, 15, 16, 17, 18, 19, 20, 21, 22, 23, 26, 27, 28] [0, 1, 2, 3, 4, 5, 6, 7, 8, 9, 10, 11, 12, 13, 14, 15, 16, 17, 18, 19, 20, 21, 22, 23, 27, 28, 24, 25, 26] rfl rfl (by decide) (by decide) rfl (by decide) (fun H locs hP hD hS => ?_)
  refine lv_aload_n hx hb dX0_copy_86 rfl (lv_at hl 1 rfl) ?_
  refine va_get (D := D) (ci := 0) (v := .int (th)) (C := RX0) (T := TX0) (N := 10) hx hb hts in_X0 hown hC.1 hP 0 rfl rfl 8 (by decide) (hts _ q87) (fun _ h9 => h9) rfl dX0_copy_87 ?_
  refine lv_icmp_le (tgt := 104) hx hb dX0_copy_90 (by decide) (fun cq => absurd cq (hst.1)) (fun _ => ?_)
  refine lv_aload_n hx hb dX0_copy_93 rfl (lv_at hl 1 rfl) ?_
  refine va_get (D := D) (ci := 0) (v := .int (rd)) (C := RX0) (T := TX0) (N := 10) hx hb hts in_X0 hown hC.1 hP 0 rfl rfl 7 (by decide) (hts _ q86) (fun _ h9 => h9) rfl dX0_copy_94 ?_
  refine lv_aload_n hx hb dX0_copy_97 rfl (lv_at hl 1 rfl) ?_
  refine va_get (D := D) (ci := 0) (v := .int (lm)) (C := RX0) (T := TX0) (N := 10) hx hb hts in_X0 hown hC.1 hP 0 rfl rfl 9 (by decide) (hts _ q88) (fun _ h9 => h9) rfl dX0_copy_98 ?_
  refine lv_icmp_ne (tgt := 114) hx hb dX0_copy_101 (by decide) (fun _ => ?_) (fun cq => absurd cq (hst.2))
  refine lv_aload_n hx hb dX0_copy_114 rfl (lv_at hl 1 rfl) ?_
  refine va_get (D := D) (ci := 0) (v := .ref (a 24)) (C := RX0) (T := TX0) (N := 10) hx hb hts in_X0 hown hC.1 hP 0 rfl rfl 3 (by decide) (hts _ q82) (fun _ h9 => h9) rfl dX0_copy_115 ?_
  refine lv_iconst (v := nI (0)) hx hb dX0_copy_118 (by decide) ?_
  refine mg_top (y := bi (false)) (by decide) ?_
  refine mg_afterV (w1 := wMk ct (fun i => a (24 + i)) (cpB bd (fun _ => false) 8)) (wr := wHd a (ad (1)) (rd) (th) (lm) ++ wHost ct (fun i => a (1 + i)) (M) ++ wHost ct (fun i => a (11 + i)) (N) ++ wGst ct (fun i => a (21 + i)) (regs) (shown) (pc) (shows) ++ wMk ct (fun i => a (26 + i)) (cpB bw bd 8) ++ wNb (a 28)) (w2 := wMig ct ad a (M) (N) (regs) (shown) (pc) (shows) (cpB bd (fun _ => false) 8) (cpB bw bd 8) (1) (rd) (th) (lm)) (va_runV (As := [.int (bi (false))]) (rest := []) ⟨hx, hb, hml, hown, hts⟩ (m_fill l D ct ad (fun i => a (24 + i)) bd false _) (cwV 1 hts (lw_V q127 q128 q129 q5 q130) rfl rfl rfl (by decide +kernel) ⟨Nat.le_of_ble_eq_true rfl, Nat.le_of_ble_eq_true rfl⟩) (mg_preV hC hP hD hS hA (wc := wMk ct (fun i => a (24 + i)) (bd)) [24, 25] rfl (by decide) (ci := 3) (q0 := 0) rfl rfl [.int (bi (false))]) rfl rfl hl.1 rfl (lv_room (Nat.le_of_ble_eq_true rfl)) dX0_copy_119 ⟨Nat.zero_le _, Nat.zero_le _⟩) hP hD hS hA [24, 25] [0, 1, 2, 3, 4, 5, 6, 7, 8, 9, 10, 11, 12, 13, 14, 15, 16, 17, 18, 19, 20, 21, 22, 23, 26, 27, 28] [0, 1, 2, 3, 4, 5, 6, 7, 8, 9, 10, 11, 12, 13, 14, 15, 16, 17, 18, 19, 20, 21, 22, 23, 27, 28, 24, 25, 26] rfl rfl (by decide) (by decide) rfl (by decide) (fun H locs hP hD hS => ?_)
  refine lv_aload_n hx hb dX0_copy_122 rfl (lv_at hl 1 rfl) ?_
  refine lv_dup hx hb dX0_copy_123 rfl ?_
  refine va_get (D := D) (ci := 0) (v := .int (rd)) (C := RX0) (T := TX0) (N := 10) hx hb hts in_X0 hown hC.1 hP 0 rfl rfl 7 (by decide) (hts _ q86) (fun _ h9 => h9) rfl dX0_copy_124 ?_
  refine lv_iconst (v := nI (1)) hx hb dX0_copy_127 (by decide) ?_
  refine lv_iadd hx hb dX0_copy_128 ?_
  refine va_put (D := D) (ci := 0) (v := .int ((rd) + (nI (1)))) (ty := .int) (C := RX0) (T := TX0) (N := 10) hx hb hts in_X0 tyX0 tyX0_ok nmX0 hown hC.1 hP hD hS 0 rfl rfl 7 (by decide) (hts _ q86) (fun _ h9 => h9) rfl (by decide +kernel) rfl rfl (Nat.le_of_ble_eq_true rfl) dX0_copy_129 (fun H locs hP hD hS => ?_)
  have hP : va_P D mgCl (wMig ct ad a (M) (N) (regs) (shown) (pc) (shows) (cpB bd (fun _ => false) 8) (cpB bw bd 8) (1) ((rd) + (nI (1))) (th) (lm)) H := hP
  have hD : va_D A (wMig ct ad a (M) (N) (regs) (shown) (pc) (shows) (cpB bd (fun _ => false) 8) (cpB bw bd 8) (1) ((rd) + (nI (1))) (th) (lm)) := hD
  refine lv_bipush (v := nI (32)) hx hb dX0_copy_132 (by decide) ?_
  exact mg_iret (ty := .int) hx hb hr hlocks (rfl) hP hD hS (rfl) dX0_copy_134
end
section
/-! new int[8][8]: a row of our own over the machine (multianewarray), as the kit has none -/
set_option maxRecDepth 100000
/-- the outer array's contents when i rows stand -/
def gfr (h0 i : Nat) : Nat → Value := fun j => if j < i then .ref (h0 + 1 + j) else .null
theorem gfr_s (h0 i : Nat) : updV (gfr h0 i) i (.ref (h0 + 1 + i)) = gfr h0 (i + 1) := by
  funext j
  unfold updV gfr
  by_cases h : j = i
  · rw [if_pos h, if_pos (by omega), h]
  · rw [if_neg h]
    by_cases h2 : j < i
    · rw [if_pos h2, if_pos (by omega)]
    · rw [if_neg h2, if_neg (by omega)]
/-- the machine when i rows stand -/
def gfS (T : State) (cA cI : ClassId) : Nat → State
  | 0 => T.pushCell (arrV cA 8 (gfr T.heap.size 0))
  | i + 1 => ((gfS T cA cI i).pushCell (arrV cI 8 (fun _ => .int 0))).setCell T.heap.size (arrV cA 8 (gfr T.heap.size (i + 1)))
theorem gfS_facts (T : State) (cA cI : ClassId) : ∀ i, (gfS T cA cI i).heap.size = T.heap.size + 1 + i ∧ (gfS T cA cI i).heap[T.heap.size]? = some (arrV cA 8 (gfr T.heap.size i)) ∧ (gfS T cA cI i).vm = T.vm ∧ (gfS T cA cI i).slotsUsed = T.slotsUsed + 8 + i * 8
  | 0 => ⟨by simp [gfS], by simp [gfS], rfl, by simp [gfS, arrV_size]⟩
  | i + 1 => by
    obtain ⟨a, b, d, u⟩ := gfS_facts T cA cI i
    have hlt : T.heap.size < (gfS T cA cI i).heap.size := by omega
    have hb : ((gfS T cA cI i).pushCell (arrV cI 8 (fun _ => .int 0))).heap[T.heap.size]? = some (arrV cA 8 (gfr T.heap.size i)) := by rw [State.heap_pushCell_of_lt (h := hlt)]; exact b
    refine ⟨?_, State.heap_setCell_self hb, by simp [gfS, d], ?_⟩
    · simp [gfS, State.setCell, a]; omega
    · simp [gfS, u, arrV_size]; omega
theorem gfS_top (T : State) (f : JFrame) (cA cI : ClassId) : ∀ i, gfS (T.setTop f) cA cI i = (gfS T cA cI i).setTop f
  | 0 => rfl
  | i + 1 => by simp only [gfS, gfS_top T f cA cI i, State.heap_setTop, State.pushCell_setTop, State.setCell_setTop]
theorem gfS_old (T : State) (cA cI : ClassId) {a : Nat} (ha : a < T.heap.size) : ∀ i, (gfS T cA cI i).heap[a]? = T.heap[a]?
  | 0 => State.heap_pushCell_of_lt _ _ ha
  | i + 1 => by
    have f1 := (gfS_facts T cA cI i).1
    have hlt : a < (gfS T cA cI i).heap.size := by omega
    show (((gfS T cA cI i).pushCell _).setCell T.heap.size _).heap[a]? = _
    rw [State.heap_setCell_other (Nat.ne_of_gt ha), State.heap_pushCell_of_lt (h := hlt)]
    exact gfS_old T cA cI ha i
theorem gfS_row (T : State) (cA cI : ClassId) : ∀ i j, j < i → (gfS T cA cI i).heap[T.heap.size + 1 + j]? = some (arrV cI 8 (fun _ => .int 0))
  | 0, _, h => absurd h (Nat.not_lt_zero _)
  | i + 1, j, h => by
    have f1 := (gfS_facts T cA cI i).1
    show (((gfS T cA cI i).pushCell _).setCell T.heap.size _).heap[T.heap.size + 1 + j]? = _
    rw [State.heap_setCell_other (show T.heap.size ≠ T.heap.size + 1 + j by omega)]
    rcases Nat.lt_or_ge j i with hj | hj
    · have hlt : T.heap.size + 1 + j < (gfS T cA cI i).heap.size := by omega
      rw [State.heap_pushCell_of_lt (h := hlt)]
      exact gfS_row T cA cI i j hj
    · have e : j = i := by omega
      subst e
      rw [← f1]
      exact State.heap_pushCell_size _ _
theorem gfS_stand {p : Program} {l : Launch} {e : Env} {R : Room} {s : State} {m : MethodId} {args : Array Value} {below : List Frame} {meth : Method} {c : Code} {T : State} {locs : List Loc} {cells slots : Nat} (X : Stand p l e R s m args below meth c T locs cells slots) (cA cI : ClassId) : ∀ i, ∃ L : List Loc, (∀ q ∈ L, q.base = T.heap.size) ∧ Stand p l e R s m args below meth c (gfS T cA cI i) (locs ++ L) (cells + 1 + i) (slots + 8 + i * 8)
  | 0 => by
    have h := X.pushed (arrV cA 8 (gfr T.heap.size 0))
    rw [arrV_size] at h
    exact ⟨[], fun _ h => absurd h List.not_mem_nil, by rw [List.append_nil]; exact h⟩
  | i + 1 => by
    obtain ⟨L, hL, Xi⟩ := gfS_stand X cA cI i
    obtain ⟨f1, f2, f3, f4⟩ := gfS_facts T cA cI i
    have hlt : T.heap.size < (gfS T cA cI i).heap.size := by omega
    have hcell : ((gfS T cA cI i).pushCell (arrV cI 8 (fun _ => .int 0))).heap[T.heap.size]? = some (arrV cA 8 (gfr T.heap.size i)) := by rw [State.heap_pushCell_of_lt (h := hlt)]; exact f2
    have h := (Xi.pushed (arrV cI 8 (fun _ => .int 0))).stored hcell i (.ref (T.heap.size + 1 + i))
    rw [arrV_size, arrV_store, gfr_s] at h
    refine ⟨L ++ [⟨T.heap.size, i⟩], fun q hq => ?_, ?_⟩
    · rcases List.mem_append.mp hq with h1 | h1
      · exact hL q h1
      · rw [List.mem_singleton.mp h1]
    · rw [← List.append_assoc, show slots + 8 + (i + 1) * 8 = slots + 8 + i * 8 + 8 by omega, show cells + 1 + (i + 1) = cells + 1 + i + 1 by omega]
      exact h
/-- the model's own 'make' of 8 rows of 8 ints -/
theorem gf_make {E : CtlPost} {e : Env} {d : Bool} {acts : List Action} {T : State} {cA cI c0 : ClassId} {kA kI : Class} (hkA : T.vm.classes[cA]? = some kA) (hA : kA.kind = .array cI (.array .int)) (hkI : T.vm.classes[cI]? = some kI) (hI : kI.kind = .array c0 .int)
    (hlim : ¬ 8 > e.platform.arrayLengthLimit) (hby : ¬ 8 * 4 > e.platform.maxHeapBytes) (hc : T.heap.size + 9 ≤ e.platform.maxCells) (hs : T.slotsUsed + 72 ≤ e.platform.maxSlots)
    {Q : Addr → Pre} (hq : ∀ d' acts', Q T.heap.size d' acts' (gfS T cA cI 8)) : wp (multianewarray.make cA [nI 8, nI 8]) Q E e d acts T := by
  have hn : ¬ nI 8 < 0 := by decide
  have h8 : (nI 8).toNatClampNeg = 8 := by decide
  have hfind : ([nI 8].find? (· < 0)) = none := by decide
  rw [multianewarray.make]
  simp only [wp_bind', W.ite, hn, if_false, wp_pure', W.theClass, hkA, hA, Option.some.injEq, exists_eq_left', h8]
  refine W.newArray_of hkA hA hlim hby (by omega) (by omega) rfl (fun acts' => ?_)
  rw [arrV_new]
  simp only [hfind]
  rw [ite_self, wp_bind', Std.Legacy.Range.forIn_eq_forIn_range']
  have hsz : ([:8] : Std.Legacy.Range).size = 8 := by simp [Std.Legacy.Range.size]
  rw [hsz]
  have h0 : (arrV cA 8 (fun _ => Value.null)) = arrV cA 8 (gfr T.heap.size 0) := by congr 1
  rw [h0]
  refine wp_forIn_inv (fun rest U => ∃ i, i ≤ 8 ∧ rest = List.range' i (8 - i) ∧ U = gfS T cA cI i) _ _ ⟨0, Nat.zero_le _, rfl, rfl⟩ ?_ ?_
  · rintro x rest U d' acts' Q' ⟨i, hi, hl, rfl⟩ hnext
    have hlt : i < 8 := by
      rcases Nat.lt_or_ge i 8 with h | h
      · exact h
      · rw [show 8 - i = 0 by omega] at hl
        cases hl
    obtain ⟨rfl, hrest⟩ : x = i ∧ rest = List.range' (i + 1) (8 - (i + 1)) := by
      rw [show 8 - i = (8 - (i + 1)) + 1 by omega, List.range'_succ] at hl
      exact List.cons.inj hl
    obtain ⟨f1, f2, f3, f4⟩ := gfS_facts T cA cI x
    have hlt0 : T.heap.size < (gfS T cA cI x).heap.size := by omega
    simp only [wp_bind']
    rw [multianewarray.make]
    simp only [wp_bind', W.ite, hn, if_false, wp_pure', W.theClass, f3, hkI, hI, Option.some.injEq, exists_eq_left', h8]
    refine W.newArray_of (by rw [f3]; exact hkI) hI hlim hby (by omega) (by omega) rfl (fun acts2 => ?_)
    rw [arrV_new]
    simp only [wp_bind', W.writeLoc, wp_pure']
    refine ⟨arrV cA 8 (gfr T.heap.size x), by rw [State.heap_pushCell_of_lt (h := hlt0)]; exact f2, (fun h => by cases h), by rw [arrV_size]; exact hlt, ?_, hnext _ _ _ ⟨x + 1, hlt, hrest, ?_⟩⟩
    · simp [State.fitsSlot, State.slotType?, f3, hkA, hA, arrV, fits]
    · rw [arrV_store, f1, gfr_s]
      rfl
  · rintro U d' acts' ⟨i, hi, hl, rfl⟩
    have hi8 : i = 8 := by
      rcases Nat.lt_or_ge i 8 with h | h
      · rw [show 8 - i = (8 - (i + 1)) + 1 by omega, List.range'_succ] at hl
        cases hl
      · omega
    subst hi8
    simp only [wp_pure']
    exact hq _ _
/-- a host's pages -/
def wGrid (ct h : Nat → Nat) (M : Nat → Nat → Int32) : va_W := [(h 0, .inl (ct 3, 8, .inr (.inr (.inr (.inr (fun i => some (h (1 + i)))))))), (h 1, .inl (ct 0, 8, .inl (M 0))), (h 2, .inl (ct 0, 8, .inl (M 1))), (h 3, .inl (ct 0, 8, .inl (M 2))), (h 4, .inl (ct 0, 8, .inl (M 3))), (h 5, .inl (ct 0, 8, .inl (M 4))), (h 6, .inl (ct 0, 8, .inl (M 5))), (h 7, .inl (ct 0, 8, .inl (M 6))), (h 8, .inl (ct 0, 8, .inl (M 7)))]
theorem wGrid_at {ct h : Nat → Nat} {M : Nat → Nat → Int32} {k : Nat} {q : Nat × va_E} (hq : (wGrid ct h M)[k]? = some q) : (k = 0 ∧ q = (h 0, .inl (ct 3, 8, .inr (.inr (.inr (.inr (fun i => some (h (1 + i))))))))) ∨ ∃ i, i < 8 ∧ k = i + 1 ∧ q = (h (1 + i), .inl (ct 0, 8, .inl (M i))) := by
  have hk : k < 9 := (List.getElem?_eq_some_iff.mp hq).1
  rcases (show k = 0 ∨ k = 1 ∨ k = 2 ∨ k = 3 ∨ k = 4 ∨ k = 5 ∨ k = 6 ∨ k = 7 ∨ k = 8 by omega) with rfl | rfl | rfl | rfl | rfl | rfl | rfl | rfl | rfl
  · exact Or.inl ⟨rfl, (Option.some.inj hq).symm⟩
  · exact Or.inr ⟨0, by decide, rfl, (Option.some.inj hq).symm⟩
  · exact Or.inr ⟨1, by decide, rfl, (Option.some.inj hq).symm⟩
  · exact Or.inr ⟨2, by decide, rfl, (Option.some.inj hq).symm⟩
  · exact Or.inr ⟨3, by decide, rfl, (Option.some.inj hq).symm⟩
  · exact Or.inr ⟨4, by decide, rfl, (Option.some.inj hq).symm⟩
  · exact Or.inr ⟨5, by decide, rfl, (Option.some.inj hq).symm⟩
  · exact Or.inr ⟨6, by decide, rfl, (Option.some.inj hq).symm⟩
  · exact Or.inr ⟨7, by decide, rfl, (Option.some.inj hq).symm⟩
section GF
variable {p : Program} {l : Launch} {e : Env} {R : Room} {s : State} {m : MethodId} {args : Array Value} {below : List Frame} {meth : Method} {c : Code} {H : Heap} {locs : List Loc} {cells slots : Nat} {Q : State → Prop}
variable {cc : ByteArray} {pc : Nat} {ls : Array Slot} {rest : List Value} {D : va_G} {A : Nat → Prop} {ws : va_W} {H0 : Heap} {ct : Nat → Nat}
/-- new int[8][8] -/
theorem mg_newg (hx : p.tables.exec = Jvm.exec) (hb : c.code = cc) {own : String} {index : Nat} (hown : s.vm.findClass own = some m.cls) (hcl : (Cond.classLink own index "[[I").before args s = true) (hAA : mg_AA ct s) (hP : va_P D mgCl ws H) (hD : va_D A ws) (hS : va_S A H0 H locs) (hA : ∀ q, H0.size ≤ q → A q) (hcells : cells + 9 ≤ R.cells) (hslots : slots + 72 ≤ R.slots) (hdg : decode cc pc = .ok (.multianewarray index 2, 4))
    (kk : ∀ (h : Nat → Nat) (H1 : Heap) (locs1 : List Loc), va_P D mgCl (ws ++ wGrid ct h (fun _ _ => 0)) H1 → va_D A (ws ++ wGrid ct h (fun _ _ => 0)) → va_S A H0 H1 locs1 → W p l e R s m args below meth c H1 locs1 (cells + 9) (slots + 72) Q (F0 m (pc + 4) ls (.ref (h 0) :: rest))) : W p l e R s m args below meth c H locs cells slots Q (F0 m pc ls (.int (nI 8) :: .int (nI 8) :: rest)) := by
  intro T hT X
  subst hT
  obtain ⟨kA, kI, c0, h1, h2, h3, h4, h5, h6⟩ := hAA
  have hpl : e.platform.magicAccessors = ({} : Platform).magicAccessors := by rw [X.admits.platform]
  obtain ⟨c1, hfc1, hcl1⟩ := Cond.classLink_spec hown hcl e.platform hpl
  cases h5.symm.trans hfc1
  obtain ⟨hg₁, hwarm₁, hready₁⟩ := State.classEntry (e := e) X.warmed hcl1
  generalize T.vm.noted m.cls index (.cls (ct 3)) = vm₁ at hg₁ hwarm₁ hready₁
  have hal : s.vm.Alike vm₁ := hwarm₁.alike
  obtain ⟨kA1, hkA1, heA⟩ := hal.2.2 _ _ h1
  obtain ⟨kI1, hkI1, heI⟩ := hal.2.2 _ _ h3
  have hkA : kA1.kind = .array (ct 0) (.array .int) := by rw [heA]; exact h2
  have hkI : kI1.kind = .array c0 .int := by rw [heI]; exact h4
  have X₁ := X.noted hwarm₁
  obtain ⟨hr1, hr2⟩ := X.roomAbove (a := 9) (b := 72) hcells hslots
  obtain ⟨L, hL, X₂⟩ := gfS_stand X₁ (ct 3) (ct 0) 8
  have hTs : (T.setVm vm₁).heap = T.heap := rfl
  obtain ⟨f1, f2, f3, f4⟩ := gfS_facts (T.setVm vm₁) (ct 3) (ct 0) 8
  have fold := fun (a : Nat) (ha : a < T.heap.size) => gfS_old (T.setVm vm₁) (ct 3) (ct 0) (a := a) ha 8
  have frow := fun (j : Nat) (hj : j < 8) => gfS_row (T.setVm vm₁) (ct 3) (ct 0) 8 j hj
  rw [hTs] at f1 f2 hL fold frow
  have hAz : ∀ q, T.heap.size ≤ q → A q := fun q hq => hA q (Nat.le_trans hS.1 hq)
  have hPg : va_P D mgCl (wGrid ct (fun i => T.heap.size + i) (fun _ _ => 0)) (gfS (T.setVm vm₁) (ct 3) (ct 0) 8).heap := by
    intro k q hk
    rcases wGrid_at hk with ⟨-, rfl⟩ | ⟨i, hi, -, rfl⟩
    · show _ = some (vp_cell _ _)
      rw [vp_cell_q]
      show (gfS (T.setVm vm₁) (ct 3) (ct 0) 8).heap[T.heap.size + 0]? = _
      rw [Nat.add_zero, f2]
      congr 1
    · show _ = some (vp_cell _ _)
      rw [vp_cell_i]
      show (gfS (T.setVm vm₁) (ct 3) (ct 0) 8).heap[T.heap.size + (1 + i)]? = _
      rw [show T.heap.size + (1 + i) = T.heap.size + 1 + i by omega, frow i hi]
  have hP2 : va_P D mgCl ws (gfS (T.setVm vm₁) (ct 3) (ct 0) 8).heap := hP.kept (fun k q hk => fold q.1 ((hP k q hk).lt))
  have hDg : va_D A (wGrid ct (fun i => T.heap.size + i) (fun _ _ => 0)) := by
    refine ⟨fun i j x y hi hj hxy => ?_, fun k q hk => ?_⟩
    · rcases wGrid_at hi with ⟨h7, rfl⟩ | ⟨i1, hi1, h7, rfl⟩ <;> rcases wGrid_at hj with ⟨h8, rfl⟩ | ⟨j1, hj1, h8, rfl⟩ <;> dsimp only at hxy <;> omega
    · rcases wGrid_at hk with ⟨-, rfl⟩ | ⟨i1, hi1, -, rfl⟩
      · exact hAz _ (Nat.le_add_right _ _)
      · exact hAz _ (Nat.le_add_right _ _)
  have hD2 : va_D A (ws ++ wGrid ct (fun i => T.heap.size + i) (fun _ _ => 0)) := hD.app hDg (fun i j x y hx hy hxy => by
    have hl := (hP i x hx).lt
    rcases wGrid_at hy with ⟨-, rfl⟩ | ⟨j1, hj1, -, rfl⟩ <;> dsimp only at hxy <;> omega)
  have hS2 : va_S A H0 (gfS (T.setVm vm₁) (ct 3) (ct 0) 8).heap (locs ++ L) := ⟨Nat.le_trans hS.1 (by omega), fun q h7 h8 => (fold q (Nat.lt_of_lt_of_le h7 hS.1)).trans (hS.2.1 q h7 h8), fun q hq => by
    rcases List.mem_append.mp hq with h7 | h7
    · exact hS.2.2 q h7
    · rw [hL q h7]; exact hAz _ (Nat.le_refl _)⟩
  obtain ⟨t, ht, hQ⟩ := kk (fun i => T.heap.size + i) _ _ (hP2.app hPg) hD2 hS2 _ rfl X₂
  refine ⟨t, ?_, hQ⟩
  have hlim : ¬ 8 > e.platform.arrayLengthLimit := by rw [Launch.admits_arrayLengthLimit X.admits]; decide
  have hby : ¬ 8 * 4 > e.platform.maxHeapBytes := by rw [Launch.admits_maxHeapBytes X.admits]; decide
  jvm_step X.here [hx, hb, hdg]
  simp only [multianewarray.sem, wp_bind', W.resolveClassAt_links (State.method?_setTop (F0 m pc ls (.int (nI 8) :: .int (nI 8) :: rest)) X.here.top) hg₁]
  rw [W.popN, if_neg (by decide)]
  refine ⟨F0 m pc ls (.int (nI 8) :: .int (nI 8) :: rest), State.topJava?_setTop' (s := T.setVm vm₁) _ X.here.top, [.int (nI 8), .int (nI 8)], rest, rfl, rfl, ?_⟩
  simp only [List.mapM_cons, List.mapM_nil, wp_bind', wp_pure']
  have eS : ((T.setTop (F0 m pc ls (.int (nI 8) :: .int (nI 8) :: rest))).setVm vm₁).setTop (F0 m pc ls rest) = (T.setVm vm₁).setTop (F0 m pc ls rest) := by
    show ((T.setVm vm₁).setTop _).setTop _ = _
    rw [State.setTop_setTop]
  refine gf_make (kA := kA1) (kI := kI1) (cI := ct 0) (c0 := c0) hkA1 hkA hkI1 hkI hlim hby (by show T.heap.size + 9 ≤ _; omega) (by show T.slotsUsed + 72 ≤ _; omega) (fun d' acts' => ?_)
  rw [show (((T.setTop (F0 m pc ls (.int (nI 8) :: .int (nI 8) :: rest))).setVm vm₁).setTop { (F0 m pc ls (.int (nI 8) :: .int (nI 8) :: rest)) with stack := rest }) = (T.setVm vm₁).setTop (F0 m pc ls rest) from eS, gfS_top]
  simp only [wp_bind', W.mark, W.pushRef, State.topJava?_setTop' _ X₂.here.top, Option.some.injEq, exists_eq_left', State.setTop_setTop, State.heap_setTop]
  intro acts
  simp [jvm, X₂.here.top]
  exact ht
end GF
end
section
/-! CONSTRUCTORS: their contracts' form, and what puts a Migrator's cells together -/
set_option maxRecDepth 100000
/-- a constructor: the new cells' addresses come with the world; the object itself stays where it is -/
abbrev MC (l : Launch) (y : MethodName) (b : ByteArray) (n : Nat) (rm : Room) (D : va_G) (ct ad : Nat → Nat) (args : List Value) (w : va_W) (w' : (Nat → Nat) → va_W) (a0 mc ms : Nat) : Prop :=
  ∀ sz : Nat, Met l y (ws_ y b n none) rm (va_Pc args (mg_pre D ct ad w sz)) (va_Qv (fun (u : Nat → Nat) => u 0 = a0) (fun u t => va_P D mgCl (w' u) t.heap ∧ va_D (va_A w sz) (w' u)) (va_A w sz)) mc ms (va_A w sz)
theorem mg_MC {l : Launch} {y : MethodName} {b : ByteArray} {n : Nat} {rm : Room} {D : va_G} {ct ad : Nat → Nat} {args : List Value} {w : va_W} {w' : (Nat → Nat) → va_W} {a0 mc ms : Nat} (hy : plainName y.cls = true) (hL : (lg_sl args).length ≤ n) (body : mg_Body l y b n none rm D ct ad args w mc ms (fun A => va_Qv (fun (u : Nat → Nat) => u 0 = a0) (fun u t => va_P D mgCl (w' u) t.heap ∧ va_D A (w' u)) A)) : MC l y b n rm D ct ad args w w' a0 mc ms := mg_start hy hL body
section CT
variable {p : Program} {l : Launch} {e : Env} {R : Room} {s : State} {m : MethodId} {args : Array Value} {below : List Frame} {meth : Method} {c : Code} {H : Heap} {locs : List Loc} {cells slots : Nat} {Q : State → Prop}
variable {cc : ByteArray} {pc : Nat} {ls : Array Slot} {rest st0 : List Value} {D : va_G} {A : Nat → Prop} {a : Nat} {ws : va_W} {H0 : Heap} {ct ad : Nat → Nat}
theorem mg_cret {w' : (Nat → Nat) → va_W} {a0 mc ms : Nat} (u : Nat → Nat) (hu : u 0 = a0) (hx : p.tables.exec = Jvm.exec) (hb : c.code = cc) (hr : meth.sig.returnType = none) (hlocks : meth.locks = false) (hP : va_P D mgCl (w' u) H) (hD : va_D A (w' u)) (hS : va_S A s.heap H locs) (hdg : decode cc pc = .ok (.return_, 1)) : W p l e R s m args below meth c H locs mc ms (MQ below (va_Qv (fun (u : Nat → Nat) => u 0 = a0) (fun u t => va_P D mgCl (w' u) t.heap ∧ va_D A (w' u)) A) args s mc ms A) (F0 m pc ls []) :=
  W.vret hx hb hr (fun t ht hW => ⟨⟨u, rfl, hu, by rw [ht]; exact hP, hD⟩, hS.F ht⟩) hS.2.2 hdg
theorem mg_afterC {wc wr : va_W} {w' : (Nat → Nat) → va_W} {a0 mc ms : Nat} {av : Array Value} (hr : va_Run p l e R s m args below meth c H locs cells slots mc ms (F0 m pc ls st0) rest (va_Qv (fun (u : Nat → Nat) => u 0 = a0) (fun u t => va_P D mgCl (w' u) t.heap ∧ va_D (va_A wc H.size) (w' u)) (va_A wc H.size) av) (va_A wc H.size)) (hP : va_P D mgCl ws H) (hD : va_D A ws) (hS : va_S A s.heap H locs) (hA : ∀ q : Nat, s.heap.size ≤ q → A q) (isC isR : List Nat) (hi : isC.map (fun i => ws[i]?) = wc.map some) (hiR : isR.map (fun i => ws[i]?) = wr.map some) (hnR : va_nd isR = true) (hdis : ∀ i ∈ isR, i ∉ isC)
    (kk : ∀ (u : Nat → Nat) (H1 : Heap) (locs1 : List Loc), u 0 = a0 → va_P D mgCl (wr ++ w' u) H1 → va_D A (wr ++ w' u) → va_S A s.heap H1 locs1 → W p l e R s m args below meth c H1 locs1 (cells + mc) (slots + ms) Q (F0 m (pc + 3) ls rest)) : W p l e R s m args below meth c H locs cells slots Q (F0 m pc ls st0) := by
  have hF := va_free hD hS hA isC hi
  refine va_callv hr hS (fun q _ h => hF q h) hF (fun u t H1 locs1 ht hvm hp hB hz hk hS1 => ?_)
  obtain ⟨hP1, hD1⟩ := hB
  rw [ht] at hP1
  obtain ⟨hP2, hD2⟩ := va_join hP hD isC isR hi hiR hnR hdis hk hF hP1 hD1
  exact kk u H1 locs1 hp hP2 hD2 hS1
end CT
theorem vp_q_congr {cA : ClassId} {n : Nat} {f g : Nat → Option Nat} (h : ∀ j, j < n → f j = g j) : vp_cell cA (n, .inr (.inr (.inr (.inr f)))) = vp_cell cA (n, .inr (.inr (.inr (.inr g)))) := by
  rw [vp_cell_q, vp_cell_q]
  have e : (Array.ofFn (n := n) fun j => va_rf (f j.val)) = Array.ofFn (n := n) fun j => va_rf (g j.val) := by
    congr 1
    funext j
    rw [h j.val j.isLt]
  show ({ cls := cA, slots := Array.ofFn (n := n) fun j => va_rf (f j.val), vm := .none } : Cell) = { cls := cA, slots := Array.ofFn (n := n) fun j => va_rf (g j.val), vm := .none }
  rw [e]
theorem wHost_congr {D : va_G} {ct h g : Nat → Nat} {M : Nat → Nat → Int32} {H : Heap} (he : ∀ i, i < 10 → h i = g i) (hP : va_P D mgCl (wHost ct h M) H) : va_P D mgCl (wHost ct g M) H := by
  intro k q hk
  have hk10 : k < 10 := (List.getElem?_eq_some_iff.mp hk).1
  rcases (show k = 0 ∨ k = 1 ∨ (2 ≤ k ∧ k < 10) by omega) with rfl | rfl | h2
  · have hq : q = (g 0, .inr (1, [.ref (g 1)])) := (Option.some.inj hk).symm
    subst hq
    have h0 := hP 0 (h 0, .inr (1, [.ref (h 1)])) rfl
    rw [he 0 (by decide), he 1 (by decide)] at h0
    exact h0
  · have hq : q = (g 1, .inl (ct 3, 8, .inr (.inr (.inr (.inr (fun i => some (g (2 + i)))))))) := (Option.some.inj hk).symm
    subst hq
    have h0 : H[h 1]? = some (vp_cell (ct 3) (8, .inr (.inr (.inr (.inr (fun i => some (h (2 + i)))))))) := hP 1 (h 1, .inl (ct 3, 8, .inr (.inr (.inr (.inr (fun i => some (h (2 + i)))))))) rfl
    rw [he 1 (by decide), vp_q_congr (g := fun i => some (g (2 + i))) (fun j hj => by show some (h (2 + j)) = some (g (2 + j)); rw [he (2 + j) (by omega)])] at h0
    exact h0
  · obtain ⟨i, rfl⟩ : ∃ i, k = 2 + i := ⟨k - 2, by omega⟩
    rw [wHost_get (by omega)] at hk
    have hq : q = (g (2 + i), .inl (ct 0, 8, .inl (M i))) := (Option.some.inj hk).symm
    subst hq
    have h0 := hP (2 + i) _ (wHost_get (by omega))
    rw [he (2 + i) (by omega)] at h0
    exact h0
theorem va_D_map {A : Nat → Prop} {x y : va_W} (h : x.map (fun q => q.1) = y.map (fun q => q.1)) (hx : va_D A x) : va_D A y := by
  have key : ∀ (k : Nat) (q : Nat × va_E), y[k]? = some q → ∃ q0, x[k]? = some q0 ∧ q0.1 = q.1 := by
    intro k q hk
    have h1 : (x.map (fun q => q.1))[k]? = some q.1 := by rw [h, List.getElem?_map, hk]; rfl
    rw [List.getElem?_map] at h1
    cases hx2 : x[k]? with
    | none => rw [hx2] at h1; cases h1
    | some q0 => rw [hx2] at h1; exact ⟨q0, rfl, Option.some.inj h1⟩
  refine ⟨fun i j p q hi hj hpq => ?_, fun k q hk => ?_⟩
  · obtain ⟨p0, h1, h2⟩ := key i p hi
    obtain ⟨q0, h3, h4⟩ := key j q hj
    exact hx.1 i j p0 q0 h1 h3 (h2.trans (hpq.trans h4.symm))
  · obtain ⟨q0, h1, h2⟩ := key k q hk
    rw [← h2]
    exact hx.2 k q0 h1
/-- a Migrator's addresses out of its parts' -/
def mgA (a0 : Nat) (u1 u2 u3 u4 u5 : Nat → Nat) (q6 : Nat) : Nat → Nat := fun i => if i = 0 then a0 else if i < 11 then u1 (i - 1) else if i < 21 then u2 (i - 11) else if i < 24 then u3 (i - 21) else if i < 26 then u4 (i - 24) else if i < 28 then u5 (i - 26) else q6
theorem mig_join {D : va_G} {ct ad : Nat → Nat} {A : Nat → Prop} {H : Heap} {a0 q6 ph : Nat} {u1 u2 u3 u4 u5 : Nat → Nat} {M N : Nat → Nat → Int32} {regs shown : Nat → Int32} {pc shows : Nat} {bd bw : Nat → Bool} {rd th lm : Int32}
    (hP : va_P D mgCl ([(a0, .inr (0, [.ref (u1 0), .ref (u2 0), .ref (u3 0), .ref (u4 0), .ref (u5 0), .ref q6, .ref (ad ph), .int rd, .int th, .int lm]))] ++ wHost ct u1 M ++ wHost ct u2 N ++ wGst ct u3 regs shown pc shows ++ wMk ct u4 bd ++ wMk ct u5 bw ++ wNb q6) H)
    (hD : va_D A ([(a0, .inr (0, [.ref (u1 0), .ref (u2 0), .ref (u3 0), .ref (u4 0), .ref (u5 0), .ref q6, .ref (ad ph), .int rd, .int th, .int lm]))] ++ wHost ct u1 M ++ wHost ct u2 N ++ wGst ct u3 regs shown pc shows ++ wMk ct u4 bd ++ wMk ct u5 bw ++ wNb q6)) :
    va_P D mgCl (wMig ct ad (mgA a0 u1 u2 u3 u4 u5 q6) M N regs shown pc shows bd bw ph rd th lm) H ∧ va_D A (wMig ct ad (mgA a0 u1 u2 u3 u4 u5 q6) M N regs shown pc shows bd bw ph rd th lm) := by
  refine ⟨?_, by refine va_D_map ?_ hD; rfl⟩
  have s0 : va_P D mgCl (wHd (mgA a0 u1 u2 u3 u4 u5 q6) (ad ph) rd th lm) H := mg_sub hP (is := [0]) rfl
  have s1 : va_P D mgCl (wHost ct u1 M) H := mg_sub hP (is := [1, 2, 3, 4, 5, 6, 7, 8, 9, 10]) rfl
  have s2 : va_P D mgCl (wHost ct u2 N) H := mg_sub hP (is := [11, 12, 13, 14, 15, 16, 17, 18, 19, 20]) rfl
  have s3 : va_P D mgCl (wGst ct (fun i => mgA a0 u1 u2 u3 u4 u5 q6 (21 + i)) regs shown pc shows) H := mg_sub hP (is := [21, 22, 23]) rfl
  have s4 : va_P D mgCl (wMk ct (fun i => mgA a0 u1 u2 u3 u4 u5 q6 (24 + i)) bd) H := mg_sub hP (is := [24, 25]) rfl
  have s5 : va_P D mgCl (wMk ct (fun i => mgA a0 u1 u2 u3 u4 u5 q6 (26 + i)) bw) H := mg_sub hP (is := [26, 27]) rfl
  have s6 : va_P D mgCl (wNb (mgA a0 u1 u2 u3 u4 u5 q6 28)) H := mg_sub hP (is := [28]) rfl
  have t1 : va_P D mgCl (wHost ct (fun i => mgA a0 u1 u2 u3 u4 u5 q6 (1 + i)) M) H := wHost_congr (fun i hi => by
    show u1 i = mgA a0 u1 u2 u3 u4 u5 q6 (1 + i)
    unfold mgA
    rw [if_neg (by omega), if_pos (by omega), show 1 + i - 1 = i by omega]) s1
  have t2 : va_P D mgCl (wHost ct (fun i => mgA a0 u1 u2 u3 u4 u5 q6 (11 + i)) N) H := wHost_congr (fun i hi => by
    show u2 i = mgA a0 u1 u2 u3 u4 u5 q6 (11 + i)
    unfold mgA
    rw [if_neg (by omega), if_neg (by omega), if_pos (by omega), show 11 + i - 11 = i by omega]) s2
  exact s0.app (t1.app (t2.app (s3.app (s4.app (s5.app s6)))))
end
section
/-! THE CONSTRUCTORS (written by gen/gen_ctor.py) -/
set_option maxRecDepth 100000
set_option maxHeartbeats 4000000 in
set_option maxRecDepth 100000 in
/-- Record() -/
theorem j_record (l : Launch) (D : va_G) (ct ad : Nat → Nat) (q : Nat) : MV l yJ0_init cJ0_init 1 (rmN 1 12) D ct ad [.ref q] ([] : va_W) ([] : va_W) := by
  refine mg_MV (by decide) (Nat.le_of_ble_eq_true rfl) ?_
  intro p e s m below meth c A hx hb hr hlocks hml hown hnm hts hC hP hD hA hS ls hl
  have hown : s.vm.findClass RJ0 = some m.cls := hown
  have hl : lv_has ls 1 [(0, .ref (q))] := hl
  refine lv_aload_n hx hb dJ0_init_0 rfl (lv_at hl 0 rfl) ?_
  refine W.objInit hx hb hown (hts _ q75) (hts _ q17) (hts _ q18) rfl (by rw [hml]; exact hl.1) rfl dJ0_init_1 (Nat.le_of_ble_eq_true rfl) (Nat.le_of_ble_eq_true rfl) ?_
  refine W.eq (g2 := F0 m 4 ls []) rfl ?_
  exact mg_vret hx hb hr hlocks hP hD hS dJ0_init_4

set_option maxHeartbeats 4000000 in
set_option maxRecDepth 100000 in
/-- Nobody() -/
theorem n_init (l : Launch) (D : va_G) (ct ad : Nat → Nat) (q : Nat) : MV l yX4_init cX4_init 1 (rmN 2 32) D ct ad [.ref q] (wNb q) (wNb q) := by
  refine mg_MV (by decide) (Nat.le_of_ble_eq_true rfl) ?_
  intro p e s m below meth c A hx hb hr hlocks hml hown hnm hts hC hP hD hA hS ls hl
  have hown : s.vm.findClass RX4 = some m.cls := hown
  have hl : lv_has ls 1 [(0, .ref (q))] := hl
  refine lv_aload_n hx hb dX4_init_0 rfl (lv_at hl 0 rfl) ?_
  refine mg_afterV (w1 := ([] : va_W)) (wr := wNb q) (w2 := wNb q) (va_runI (As := []) (rest := []) ⟨hx, hb, hml, hown, hts⟩ (j_record l D ct ad q _) (cwI 0 hts (lw_meth q74) rfl rfl rfl (hts _ q6) (hts _ q72) (hts _ q73) rfl (by decide +kernel) ⟨Nat.le_of_ble_eq_true rfl, Nat.le_of_ble_eq_true rfl⟩) (mg_preOf hC hP hD hS hA (wc := ([] : va_W)) [] rfl (by decide) [.ref q]) rfl rfl hl.1 rfl (lv_room (Nat.le_of_ble_eq_true rfl)) dX4_init_1 ⟨Nat.zero_le _, Nat.zero_le _⟩) hP hD hS hA [] [0] [0] rfl rfl (by decide) (by decide) rfl (by decide) (fun H locs hP hD hS => ?_)
  exact mg_vret hx hb hr hlocks hP hD hS dX4_init_4

set_option maxHeartbeats 4000000 in
set_option maxRecDepth 100000 in
/-- Host() -/
theorem h_init (l : Launch) (D : va_G) (ct ad : Nat → Nat) (q : Nat) : MC l yX1_init cX1_init 1 ({ frames := 1, cells := 9, slots := 72, locals := 12 } : Room) D ct ad [.ref q] ([(q, .inr (1, [.null]))]) (fun u => wHost ct u (fun _ _ => 0)) q 9 72 := by
  refine mg_MC (by decide) (Nat.le_of_ble_eq_true rfl) ?_
  intro p e s m below meth c A hx hb hr hlocks hml hown hnm hts hC hP hD hA hS ls hl
  have hown : s.vm.findClass RX1 = some m.cls := hown
  have hl : lv_has ls 1 [(0, .ref (q))] := hl
  refine lv_aload_n hx hb dX1_init_0 rfl (lv_at hl 0 rfl) ?_
  refine W.objInit hx hb hown (hts _ q24) (hts _ q17) (hts _ q18) rfl (by rw [hml]; exact hl.1) rfl dX1_init_1 (Nat.le_of_ble_eq_true rfl) (Nat.le_of_ble_eq_true rfl) ?_
  refine W.eq (g2 := F0 m 4 ls []) rfl ?_
  refine lv_aload_n hx hb dX1_init_4 rfl (lv_at hl 0 rfl) ?_
  refine lv_bipush (v := nI (8)) hx hb dX1_init_5 (by decide) ?_
  refine lv_bipush (v := nI (8)) hx hb dX1_init_7 (by decide) ?_
  refine mg_newg hx hb hown (hts _ q25) hC.2.1 hP hD hS hA (Nat.le_of_ble_eq_true rfl) (Nat.le_of_ble_eq_true rfl) dX1_init_9 (fun h H locs hP hD hS => ?_)
  refine va_putF (D := D) (ci := 1) (v := .ref (h 0)) (ty := .array (.array .int)) (C := RX1) (T := TX1) (N := 1) hx hb hts in_X1 tyX1 tyX1_ok nmX1 hown hC.1 hP hD hS 0 rfl rfl 0 (by decide) (hts _ q27) (fun _ h9 => h9) rfl hnm rfl (by decide +kernel) rfl rfl (Nat.le_of_ble_eq_true rfl) dX1_init_13 (fun H locs hP hD hS => ?_)
  have hu : (fun i => some ((fun i => if i = 0 then q else h (i - 1)) (2 + i))) = fun i => some (h (1 + i)) := by
    funext i
    show some (if 2 + i = 0 then q else h (2 + i - 1)) = _
    rw [if_neg (by omega), show 2 + i - 1 = 1 + i by omega]
  have eW : wHost ct (fun i => if i = 0 then q else h (i - 1)) (fun _ _ => 0) = (q, .inr (1, [.ref (h 0)])) :: wGrid ct h (fun _ _ => 0) := by
    unfold wHost wGrid
    rw [hu]
    rfl
  exact mg_cret (w' := fun u => wHost ct u (fun _ _ => 0)) (fun i => if i = 0 then q else h (i - 1)) rfl hx hb hr hlocks (by rw [eW]; exact hP) (by rw [eW]; exact hD) hS dX1_init_16

set_option maxHeartbeats 4000000 in
set_option maxRecDepth 100000 in
/-- Marks() -/
theorem m_init (l : Launch) (D : va_G) (ct ad : Nat → Nat) (q : Nat) : MC l yX3_init cX3_init 1 ({ frames := 1, cells := 1, slots := 8, locals := 12 } : Room) D ct ad [.ref q] ([(q, .inr (3, [.null]))]) (fun u => wMk ct u (fun _ => false)) q 1 8 := by
  refine mg_MC (by decide) (Nat.le_of_ble_eq_true rfl) ?_
  intro p e s m below meth c A hx hb hr hlocks hml hown hnm hts hC hP hD hA hS ls hl
  have hown : s.vm.findClass RX3 = some m.cls := hown
  have hl : lv_has ls 1 [(0, .ref (q))] := hl
  refine lv_aload_n hx hb dX3_init_0 rfl (lv_at hl 0 rfl) ?_
  refine W.objInit hx hb hown (hts _ q60) (hts _ q17) (hts _ q18) rfl (by rw [hml]; exact hl.1) rfl dX3_init_1 (Nat.le_of_ble_eq_true rfl) (Nat.le_of_ble_eq_true rfl) ?_
  refine W.eq (g2 := F0 m 4 ls []) rfl ?_
  refine lv_aload_n hx hb dX3_init_4 rfl (lv_at hl 0 rfl) ?_
  refine lv_bipush (v := nI (8)) hx hb dX3_init_5 (by decide) ?_
  refine mg_newz hx hb (hts _ q66) hC.1 hP hD hS hA (n := 8) (by decide) (Nat.le_of_ble_eq_true rfl) (Nat.le_of_ble_eq_true rfl) dX3_init_7 (fun r H hP hD hS => ?_)
  have hP : va_P D mgCl ([(q, .inr (3, [.null])), (r, .inl (ct 1, 8, .inl (fun j => bi ((fun _ => false) j))))]) H := hP
  have hD : va_D A ([(q, .inr (3, [.null])), (r, .inl (ct 1, 8, .inl (fun j => bi ((fun _ => false) j))))]) := hD
  refine va_putF (D := D) (ci := 3) (v := .ref (r)) (ty := .array .boolean) (C := RX3) (T := TX3) (N := 1) hx hb hts in_X3 tyX3 tyX3_ok nmX3 hown hC.1 hP hD hS 0 rfl rfl 0 (by decide) (hts _ q61) (fun _ h9 => h9) rfl hnm rfl (by decide +kernel) rfl rfl (Nat.le_of_ble_eq_true rfl) dX3_init_9 (fun H locs hP hD hS => ?_)
  have hP : va_P D mgCl ([(q, .inr (3, [.ref (r)])), (r, .inl (ct 1, 8, .inl (fun j => bi ((fun _ => false) j))))]) H := hP
  have hD : va_D A ([(q, .inr (3, [.ref (r)])), (r, .inl (ct 1, 8, .inl (fun j => bi ((fun _ => false) j))))]) := hD
  exact mg_cret (w' := fun u => wMk ct u (fun _ => false)) (fun i => if i = 0 then q else r) rfl hx hb hr hlocks hP hD hS dX3_init_12

set_option maxHeartbeats 4000000 in
set_option maxRecDepth 100000 in
/-- Guest() -/
theorem g_init (l : Launch) (D : va_G) (ct ad : Nat → Nat) (q : Nat) : MC l yX2_init cX2_init 1 ({ frames := 1, cells := 2, slots := 12, locals := 12 } : Room) D ct ad [.ref q] ([(q, .inr (2, [.null, .null, .int (nI (0)), .int (nI (0))]))]) (fun u => wGst ct u (fun _ => 0) (fun _ => 0) 0 0) q 2 12 := by
  refine mg_MC (by decide) (Nat.le_of_ble_eq_true rfl) ?_
  intro p e s m below meth c A hx hb hr hlocks hml hown hnm hts hC hP hD hA hS ls hl
  have hown : s.vm.findClass RX2 = some m.cls := hown
  have hl : lv_has ls 1 [(0, .ref (q))] := hl
  refine lv_aload_n hx hb dX2_init_0 rfl (lv_at hl 0 rfl) ?_
  refine W.objInit hx hb hown (hts _ q37) (hts _ q17) (hts _ q18) rfl (by rw [hml]; exact hl.1) rfl dX2_init_1 (Nat.le_of_ble_eq_true rfl) (Nat.le_of_ble_eq_true rfl) ?_
  refine W.eq (g2 := F0 m 4 ls []) rfl ?_
  refine lv_aload_n hx hb dX2_init_4 rfl (lv_at hl 0 rfl) ?_
  refine lv_iconst (v := nI (4)) hx hb dX2_init_5 (by decide) ?_
  refine mg_newi hx hb (hts _ q31) hC.1 hP hD hS hA (n := 4) (by decide) (Nat.le_of_ble_eq_true rfl) (Nat.le_of_ble_eq_true rfl) dX2_init_6 (fun r1 H hP hD hS => ?_)
  have hP : va_P D mgCl ([(q, .inr (2, [.null, .null, .int (nI (0)), .int (nI (0))])), (r1, .inl (ct 0, 4, .inl (fun _ => 0)))]) H := hP
  have hD : va_D A ([(q, .inr (2, [.null, .null, .int (nI (0)), .int (nI (0))])), (r1, .inl (ct 0, 4, .inl (fun _ => 0)))]) := hD
  refine va_putF (D := D) (ci := 2) (v := .ref (r1)) (ty := .array .int) (C := RX2) (T := TX2) (N := 4) hx hb hts in_X2 tyX2 tyX2_ok nmX2 hown hC.1 hP hD hS 0 rfl rfl 0 (by decide) (hts _ q38) (fun _ h9 => h9) rfl hnm rfl (by decide +kernel) rfl rfl (Nat.le_of_ble_eq_true rfl) dX2_init_8 (fun H locs hP hD hS => ?_)
  have hP : va_P D mgCl ([(q, .inr (2, [.ref (r1), .null, .int (nI (0)), .int (nI (0))])), (r1, .inl (ct 0, 4, .inl (fun _ => 0)))]) H := hP
  have hD : va_D A ([(q, .inr (2, [.ref (r1), .null, .int (nI (0)), .int (nI (0))])), (r1, .inl (ct 0, 4, .inl (fun _ => 0)))]) := hD
  refine lv_aload_n hx hb dX2_init_11 rfl (lv_at hl 0 rfl) ?_
  refine lv_bipush (v := nI (8)) hx hb dX2_init_12 (by decide) ?_
  refine mg_newi hx hb (hts _ q31) hC.1 hP hD hS hA (n := 8) (by decide) (Nat.le_of_ble_eq_true rfl) (Nat.le_of_ble_eq_true rfl) dX2_init_14 (fun r2 H hP hD hS => ?_)
  have hP : va_P D mgCl ([(q, .inr (2, [.ref (r1), .null, .int (nI (0)), .int (nI (0))])), (r1, .inl (ct 0, 4, .inl (fun _ => 0))), (r2, .inl (ct 0, 8, .inl (fun _ => 0)))]) H := hP
  have hD : va_D A ([(q, .inr (2, [.ref (r1), .null, .int (nI (0)), .int (nI (0))])), (r1, .inl (ct 0, 4, .inl (fun _ => 0))), (r2, .inl (ct 0, 8, .inl (fun _ => 0)))]) := hD
  refine va_putF (D := D) (ci := 2) (v := .ref (r2)) (ty := .array .int) (C := RX2) (T := TX2) (N := 4) hx hb hts in_X2 tyX2 tyX2_ok nmX2 hown hC.1 hP hD hS 0 rfl rfl 1 (by decide) (hts _ q40) (fun _ h9 => h9) rfl hnm rfl (by decide +kernel) rfl rfl (Nat.le_of_ble_eq_true rfl) dX2_init_16 (fun H locs hP hD hS => ?_)
  have hP : va_P D mgCl ([(q, .inr (2, [.ref (r1), .ref (r2), .int (nI (0)), .int (nI (0))])), (r1, .inl (ct 0, 4, .inl (fun _ => 0))), (r2, .inl (ct 0, 8, .inl (fun _ => 0)))]) H := hP
  have hD : va_D A ([(q, .inr (2, [.ref (r1), .ref (r2), .int (nI (0)), .int (nI (0))])), (r1, .inl (ct 0, 4, .inl (fun _ => 0))), (r2, .inl (ct 0, 8, .inl (fun _ => 0)))]) := hD
  exact mg_cret (w' := fun u => wGst ct u (fun _ => 0) (fun _ => 0) 0 0) (fun i => if i = 0 then q else if i = 1 then r1 else r2) rfl hx hb hr hlocks hP hD hS dX2_init_19

set_option maxHeartbeats 4000000 in
set_option maxRecDepth 100000 in
/-- MigratorModel() -/
theorem d_init (l : Launch) (D : va_G) (ct ad : Nat → Nat) (q : Nat) : MC l yX5_init cX5_init 1 ({ frames := 1, cells := 8, slots := 228, locals := 12 } : Room) D ct ad [.ref q] ([(q, .inr (5, [.null, .null, .null, .null, .null, .null, .null, .null, .int (nI (0)), .int (nI (0)), .int (0), .int (0), .int (0), .int (nI (0)), .long (lN (0)), .long (lN (0))]))]) (fun u => wMod ct u (fun _ => 0) (fun _ => 0) (fun _ => 0) (fun _ => 0) (fun _ => 0) (fun _ => false) (fun _ => false) (fun _ => 0) 0 0 0 0 0 0 0 0) q 8 228 := by
  refine mg_MC (by decide) (Nat.le_of_ble_eq_true rfl) ?_
  intro p e s m below meth c A hx hb hr hlocks hml hown hnm hts hC hP hD hA hS ls hl
  have hown : s.vm.findClass RX5 = some m.cls := hown
  have hl : lv_has ls 1 [(0, .ref (q))] := hl
  refine lv_aload_n hx hb dX5_init_0 rfl (lv_at hl 0 rfl) ?_
  refine W.objInit hx hb hown (hts _ q239) (hts _ q17) (hts _ q18) rfl (by rw [hml]; exact hl.1) rfl dX5_init_1 (Nat.le_of_ble_eq_true rfl) (Nat.le_of_ble_eq_true rfl) ?_
  refine W.eq (g2 := F0 m 4 ls []) rfl ?_
  refine lv_aload_n hx hb dX5_init_4 rfl (lv_at hl 0 rfl) ?_
  refine lv_bipush (v := nI (64)) hx hb dX5_init_5 (by decide) ?_
  refine mg_newi hx hb (hts _ q31) hC.1 hP hD hS hA (n := 64) (by decide) (Nat.le_of_ble_eq_true rfl) (Nat.le_of_ble_eq_true rfl) dX5_init_7 (fun r1 H hP hD hS => ?_)
  have hP : va_P D mgCl ([(q, .inr (5, [.null, .null, .null, .null, .null, .null, .null, .null, .int (nI (0)), .int (nI (0)), .int (0), .int (0), .int (0), .int (nI (0)), .long (lN (0)), .long (lN (0))])), (r1, .inl (ct 0, 64, .inl (fun _ => 0)))]) H := hP
  have hD : va_D A ([(q, .inr (5, [.null, .null, .null, .null, .null, .null, .null, .null, .int (nI (0)), .int (nI (0)), .int (0), .int (0), .int (0), .int (nI (0)), .long (lN (0)), .long (lN (0))])), (r1, .inl (ct 0, 64, .inl (fun _ => 0)))]) := hD
  refine va_putF (D := D) (ci := 5) (v := .ref (r1)) (ty := .array .int) (C := RX5) (T := TX5) (N := 16) hx hb hts in_X5 tyX5 tyX5_ok nmX5 hown hC.1 hP hD hS 0 rfl rfl 0 (by decide) (hts _ q240) (fun _ h9 => h9) rfl hnm rfl (by decide +kernel) rfl rfl (Nat.le_of_ble_eq_true rfl) dX5_init_9 (fun H locs hP hD hS => ?_)
  have hP : va_P D mgCl ([(q, .inr (5, [.ref (r1), .null, .null, .null, .null, .null, .null, .null, .int (nI (0)), .int (nI (0)), .int (0), .int (0), .int (0), .int (nI (0)), .long (lN (0)), .long (lN (0))])), (r1, .inl (ct 0, 64, .inl (fun _ => 0)))]) H := hP
  have hD : va_D A ([(q, .inr (5, [.ref (r1), .null, .null, .null, .null, .null, .null, .null, .int (nI (0)), .int (nI (0)), .int (0), .int (0), .int (0), .int (nI (0)), .long (lN (0)), .long (lN (0))])), (r1, .inl (ct 0, 64, .inl (fun _ => 0)))]) := hD
  refine lv_aload_n hx hb dX5_init_12 rfl (lv_at hl 0 rfl) ?_
  refine lv_bipush (v := nI (64)) hx hb dX5_init_13 (by decide) ?_
  refine mg_newi hx hb (hts _ q31) hC.1 hP hD hS hA (n := 64) (by decide) (Nat.le_of_ble_eq_true rfl) (Nat.le_of_ble_eq_true rfl) dX5_init_15 (fun r2 H hP hD hS => ?_)
  have hP : va_P D mgCl ([(q, .inr (5, [.ref (r1), .null, .null, .null, .null, .null, .null, .null, .int (nI (0)), .int (nI (0)), .int (0), .int (0), .int (0), .int (nI (0)), .long (lN (0)), .long (lN (0))])), (r1, .inl (ct 0, 64, .inl (fun _ => 0))), (r2, .inl (ct 0, 64, .inl (fun _ => 0)))]) H := hP
  have hD : va_D A ([(q, .inr (5, [.ref (r1), .null, .null, .null, .null, .null, .null, .null, .int (nI (0)), .int (nI (0)), .int (0), .int (0), .int (0), .int (nI (0)), .long (lN (0)), .long (lN (0))])), (r1, .inl (ct 0, 64, .inl (fun _ => 0))), (r2, .inl (ct 0, 64, .inl (fun _ => 0)))]) := hD
  refine va_putF (D := D) (ci := 5) (v := .ref (r2)) (ty := .array .int) (C := RX5) (T := TX5) (N := 16) hx hb hts in_X5 tyX5 tyX5_ok nmX5 hown hC.1 hP hD hS 0 rfl rfl 1 (by decide) (hts _ q241) (fun _ h9 => h9) rfl hnm rfl (by decide +kernel) rfl rfl (Nat.le_of_ble_eq_true rfl) dX5_init_17 (fun H locs hP hD hS => ?_)
  have hP : va_P D mgCl ([(q, .inr (5, [.ref (r1), .ref (r2), .null, .null, .null, .null, .null, .null, .int (nI (0)), .int (nI (0)), .int (0), .int (0), .int (0), .int (nI (0)), .long (lN (0)), .long (lN (0))])), (r1, .inl (ct 0, 64, .inl (fun _ => 0))), (r2, .inl (ct 0, 64, .inl (fun _ => 0)))]) H := hP
  have hD : va_D A ([(q, .inr (5, [.ref (r1), .ref (r2), .null, .null, .null, .null, .null, .null, .int (nI (0)), .int (nI (0)), .int (0), .int (0), .int (0), .int (nI (0)), .long (lN (0)), .long (lN (0))])), (r1, .inl (ct 0, 64, .inl (fun _ => 0))), (r2, .inl (ct 0, 64, .inl (fun _ => 0)))]) := hD
  refine lv_aload_n hx hb dX5_init_20 rfl (lv_at hl 0 rfl) ?_
  refine lv_bipush (v := nI (64)) hx hb dX5_init_21 (by decide) ?_
  refine mg_newi hx hb (hts _ q31) hC.1 hP hD hS hA (n := 64) (by decide) (Nat.le_of_ble_eq_true rfl) (Nat.le_of_ble_eq_true rfl) dX5_init_23 (fun r3 H hP hD hS => ?_)
  have hP : va_P D mgCl ([(q, .inr (5, [.ref (r1), .ref (r2), .null, .null, .null, .null, .null, .null, .int (nI (0)), .int (nI (0)), .int (0), .int (0), .int (0), .int (nI (0)), .long (lN (0)), .long (lN (0))])), (r1, .inl (ct 0, 64, .inl (fun _ => 0))), (r2, .inl (ct 0, 64, .inl (fun _ => 0))), (r3, .inl (ct 0, 64, .inl (fun _ => 0)))]) H := hP
  have hD : va_D A ([(q, .inr (5, [.ref (r1), .ref (r2), .null, .null, .null, .null, .null, .null, .int (nI (0)), .int (nI (0)), .int (0), .int (0), .int (0), .int (nI (0)), .long (lN (0)), .long (lN (0))])), (r1, .inl (ct 0, 64, .inl (fun _ => 0))), (r2, .inl (ct 0, 64, .inl (fun _ => 0))), (r3, .inl (ct 0, 64, .inl (fun _ => 0)))]) := hD
  refine va_putF (D := D) (ci := 5) (v := .ref (r3)) (ty := .array .int) (C := RX5) (T := TX5) (N := 16) hx hb hts in_X5 tyX5 tyX5_ok nmX5 hown hC.1 hP hD hS 0 rfl rfl 2 (by decide) (hts _ q242) (fun _ h9 => h9) rfl hnm rfl (by decide +kernel) rfl rfl (Nat.le_of_ble_eq_true rfl) dX5_init_25 (fun H locs hP hD hS => ?_)
  have hP : va_P D mgCl ([(q, .inr (5, [.ref (r1), .ref (r2), .ref (r3), .null, .null, .null, .null, .null, .int (nI (0)), .int (nI (0)), .int (0), .int (0), .int (0), .int (nI (0)), .long (lN (0)), .long (lN (0))])), (r1, .inl (ct 0, 64, .inl (fun _ => 0))), (r2, .inl (ct 0, 64, .inl (fun _ => 0))), (r3, .inl (ct 0, 64, .inl (fun _ => 0)))]) H := hP
  have hD : va_D A ([(q, .inr (5, [.ref (r1), .ref (r2), .ref (r3), .null, .null, .null, .null, .null, .int (nI (0)), .int (nI (0)), .int (0), .int (0), .int (0), .int (nI (0)), .long (lN (0)), .long (lN (0))])), (r1, .inl (ct 0, 64, .inl (fun _ => 0))), (r2, .inl (ct 0, 64, .inl (fun _ => 0))), (r3, .inl (ct 0, 64, .inl (fun _ => 0)))]) := hD
  refine lv_aload_n hx hb dX5_init_28 rfl (lv_at hl 0 rfl) ?_
  refine lv_iconst (v := nI (4)) hx hb dX5_init_29 (by decide) ?_
  refine mg_newi hx hb (hts _ q31) hC.1 hP hD hS hA (n := 4) (by decide) (Nat.le_of_ble_eq_true rfl) (Nat.le_of_ble_eq_true rfl) dX5_init_30 (fun r4 H hP hD hS => ?_)
  have hP : va_P D mgCl ([(q, .inr (5, [.ref (r1), .ref (r2), .ref (r3), .null, .null, .null, .null, .null, .int (nI (0)), .int (nI (0)), .int (0), .int (0), .int (0), .int (nI (0)), .long (lN (0)), .long (lN (0))])), (r1, .inl (ct 0, 64, .inl (fun _ => 0))), (r2, .inl (ct 0, 64, .inl (fun _ => 0))), (r3, .inl (ct 0, 64, .inl (fun _ => 0))), (r4, .inl (ct 0, 4, .inl (fun _ => 0)))]) H := hP
  have hD : va_D A ([(q, .inr (5, [.ref (r1), .ref (r2), .ref (r3), .null, .null, .null, .null, .null, .int (nI (0)), .int (nI (0)), .int (0), .int (0), .int (0), .int (nI (0)), .long (lN (0)), .long (lN (0))])), (r1, .inl (ct 0, 64, .inl (fun _ => 0))), (r2, .inl (ct 0, 64, .inl (fun _ => 0))), (r3, .inl (ct 0, 64, .inl (fun _ => 0))), (r4, .inl (ct 0, 4, .inl (fun _ => 0)))]) := hD
  refine va_putF (D := D) (ci := 5) (v := .ref (r4)) (ty := .array .int) (C := RX5) (T := TX5) (N := 16) hx hb hts in_X5 tyX5 tyX5_ok nmX5 hown hC.1 hP hD hS 0 rfl rfl 3 (by decide) (hts _ q243) (fun _ h9 => h9) rfl hnm rfl (by decide +kernel) rfl rfl (Nat.le_of_ble_eq_true rfl) dX5_init_32 (fun H locs hP hD hS => ?_)
  have hP : va_P D mgCl ([(q, .inr (5, [.ref (r1), .ref (r2), .ref (r3), .ref (r4), .null, .null, .null, .null, .int (nI (0)), .int (nI (0)), .int (0), .int (0), .int (0), .int (nI (0)), .long (lN (0)), .long (lN (0))])), (r1, .inl (ct 0, 64, .inl (fun _ => 0))), (r2, .inl (ct 0, 64, .inl (fun _ => 0))), (r3, .inl (ct 0, 64, .inl (fun _ => 0))), (r4, .inl (ct 0, 4, .inl (fun _ => 0)))]) H := hP
  have hD : va_D A ([(q, .inr (5, [.ref (r1), .ref (r2), .ref (r3), .ref (r4), .null, .null, .null, .null, .int (nI (0)), .int (nI (0)), .int (0), .int (0), .int (0), .int (nI (0)), .long (lN (0)), .long (lN (0))])), (r1, .inl (ct 0, 64, .inl (fun _ => 0))), (r2, .inl (ct 0, 64, .inl (fun _ => 0))), (r3, .inl (ct 0, 64, .inl (fun _ => 0))), (r4, .inl (ct 0, 4, .inl (fun _ => 0)))]) := hD
  refine lv_aload_n hx hb dX5_init_35 rfl (lv_at hl 0 rfl) ?_
  refine lv_bipush (v := nI (8)) hx hb dX5_init_36 (by decide) ?_
  refine mg_newl hx hb (hts _ q289) hC.1 hP hD hS hA (n := 8) (by decide) (Nat.le_of_ble_eq_true rfl) (Nat.le_of_ble_eq_true rfl) dX5_init_38 (fun r5 H hP hD hS => ?_)
  have hP : va_P D mgCl ([(q, .inr (5, [.ref (r1), .ref (r2), .ref (r3), .ref (r4), .null, .null, .null, .null, .int (nI (0)), .int (nI (0)), .int (0), .int (0), .int (0), .int (nI (0)), .long (lN (0)), .long (lN (0))])), (r1, .inl (ct 0, 64, .inl (fun _ => 0))), (r2, .inl (ct 0, 64, .inl (fun _ => 0))), (r3, .inl (ct 0, 64, .inl (fun _ => 0))), (r4, .inl (ct 0, 4, .inl (fun _ => 0))), (r5, .inl (ct 2, 8, .inr (.inl (fun j => lN ((fun _ => 0) j)))))]) H := hP
  have hD : va_D A ([(q, .inr (5, [.ref (r1), .ref (r2), .ref (r3), .ref (r4), .null, .null, .null, .null, .int (nI (0)), .int (nI (0)), .int (0), .int (0), .int (0), .int (nI (0)), .long (lN (0)), .long (lN (0))])), (r1, .inl (ct 0, 64, .inl (fun _ => 0))), (r2, .inl (ct 0, 64, .inl (fun _ => 0))), (r3, .inl (ct 0, 64, .inl (fun _ => 0))), (r4, .inl (ct 0, 4, .inl (fun _ => 0))), (r5, .inl (ct 2, 8, .inr (.inl (fun j => lN ((fun _ => 0) j)))))]) := hD
  refine va_putF (D := D) (ci := 5) (v := .ref (r5)) (ty := .array .long) (C := RX5) (T := TX5) (N := 16) hx hb hts in_X5 tyX5 tyX5_ok nmX5 hown hC.1 hP hD hS 0 rfl rfl 4 (by decide) (hts _ q244) (fun _ h9 => h9) rfl hnm rfl (by decide +kernel) rfl rfl (Nat.le_of_ble_eq_true rfl) dX5_init_40 (fun H locs hP hD hS => ?_)
  have hP : va_P D mgCl ([(q, .inr (5, [.ref (r1), .ref (r2), .ref (r3), .ref (r4), .ref (r5), .null, .null, .null, .int (nI (0)), .int (nI (0)), .int (0), .int (0), .int (0), .int (nI (0)), .long (lN (0)), .long (lN (0))])), (r1, .inl (ct 0, 64, .inl (fun _ => 0))), (r2, .inl (ct 0, 64, .inl (fun _ => 0))), (r3, .inl (ct 0, 64, .inl (fun _ => 0))), (r4, .inl (ct 0, 4, .inl (fun _ => 0))), (r5, .inl (ct 2, 8, .inr (.inl (fun j => lN ((fun _ => 0) j)))))]) H := hP
  have hD : va_D A ([(q, .inr (5, [.ref (r1), .ref (r2), .ref (r3), .ref (r4), .ref (r5), .null, .null, .null, .int (nI (0)), .int (nI (0)), .int (0), .int (0), .int (0), .int (nI (0)), .long (lN (0)), .long (lN (0))])), (r1, .inl (ct 0, 64, .inl (fun _ => 0))), (r2, .inl (ct 0, 64, .inl (fun _ => 0))), (r3, .inl (ct 0, 64, .inl (fun _ => 0))), (r4, .inl (ct 0, 4, .inl (fun _ => 0))), (r5, .inl (ct 2, 8, .inr (.inl (fun j => lN ((fun _ => 0) j)))))]) := hD
  refine lv_aload_n hx hb dX5_init_43 rfl (lv_at hl 0 rfl) ?_
  refine lv_bipush (v := nI (8)) hx hb dX5_init_44 (by decide) ?_
  refine mg_newz hx hb (hts _ q66) hC.1 hP hD hS hA (n := 8) (by decide) (Nat.le_of_ble_eq_true rfl) (Nat.le_of_ble_eq_true rfl) dX5_init_46 (fun r6 H hP hD hS => ?_)
  have hP : va_P D mgCl ([(q, .inr (5, [.ref (r1), .ref (r2), .ref (r3), .ref (r4), .ref (r5), .null, .null, .null, .int (nI (0)), .int (nI (0)), .int (0), .int (0), .int (0), .int (nI (0)), .long (lN (0)), .long (lN (0))])), (r1, .inl (ct 0, 64, .inl (fun _ => 0))), (r2, .inl (ct 0, 64, .inl (fun _ => 0))), (r3, .inl (ct 0, 64, .inl (fun _ => 0))), (r4, .inl (ct 0, 4, .inl (fun _ => 0))), (r5, .inl (ct 2, 8, .inr (.inl (fun j => lN ((fun _ => 0) j))))), (r6, .inl (ct 1, 8, .inl (fun j => bi ((fun _ => false) j))))]) H := hP
  have hD : va_D A ([(q, .inr (5, [.ref (r1), .ref (r2), .ref (r3), .ref (r4), .ref (r5), .null, .null, .null, .int (nI (0)), .int (nI (0)), .int (0), .int (0), .int (0), .int (nI (0)), .long (lN (0)), .long (lN (0))])), (r1, .inl (ct 0, 64, .inl (fun _ => 0))), (r2, .inl (ct 0, 64, .inl (fun _ => 0))), (r3, .inl (ct 0, 64, .inl (fun _ => 0))), (r4, .inl (ct 0, 4, .inl (fun _ => 0))), (r5, .inl (ct 2, 8, .inr (.inl (fun j => lN ((fun _ => 0) j))))), (r6, .inl (ct 1, 8, .inl (fun j => bi ((fun _ => false) j))))]) := hD
  refine va_putF (D := D) (ci := 5) (v := .ref (r6)) (ty := .array .boolean) (C := RX5) (T := TX5) (N := 16) hx hb hts in_X5 tyX5 tyX5_ok nmX5 hown hC.1 hP hD hS 0 rfl rfl 5 (by decide) (hts _ q245) (fun _ h9 => h9) rfl hnm rfl (by decide +kernel) rfl rfl (Nat.le_of_ble_eq_true rfl) dX5_init_48 (fun H locs hP hD hS => ?_)
  have hP : va_P D mgCl ([(q, .inr (5, [.ref (r1), .ref (r2), .ref (r3), .ref (r4), .ref (r5), .ref (r6), .null, .null, .int (nI (0)), .int (nI (0)), .int (0), .int (0), .int (0), .int (nI (0)), .long (lN (0)), .long (lN (0))])), (r1, .inl (ct 0, 64, .inl (fun _ => 0))), (r2, .inl (ct 0, 64, .inl (fun _ => 0))), (r3, .inl (ct 0, 64, .inl (fun _ => 0))), (r4, .inl (ct 0, 4, .inl (fun _ => 0))), (r5, .inl (ct 2, 8, .inr (.inl (fun j => lN ((fun _ => 0) j))))), (r6, .inl (ct 1, 8, .inl (fun j => bi ((fun _ => false) j))))]) H := hP
  have hD : va_D A ([(q, .inr (5, [.ref (r1), .ref (r2), .ref (r3), .ref (r4), .ref (r5), .ref (r6), .null, .null, .int (nI (0)), .int (nI (0)), .int (0), .int (0), .int (0), .int (nI (0)), .long (lN (0)), .long (lN (0))])), (r1, .inl (ct 0, 64, .inl (fun _ => 0))), (r2, .inl (ct 0, 64, .inl (fun _ => 0))), (r3, .inl (ct 0, 64, .inl (fun _ => 0))), (r4, .inl (ct 0, 4, .inl (fun _ => 0))), (r5, .inl (ct 2, 8, .inr (.inl (fun j => lN ((fun _ => 0) j))))), (r6, .inl (ct 1, 8, .inl (fun j => bi ((fun _ => false) j))))]) := hD
  refine lv_aload_n hx hb dX5_init_51 rfl (lv_at hl 0 rfl) ?_
  refine lv_bipush (v := nI (8)) hx hb dX5_init_52 (by decide) ?_
  refine mg_newz hx hb (hts _ q66) hC.1 hP hD hS hA (n := 8) (by decide) (Nat.le_of_ble_eq_true rfl) (Nat.le_of_ble_eq_true rfl) dX5_init_54 (fun r7 H hP hD hS => ?_)
  have hP : va_P D mgCl ([(q, .inr (5, [.ref (r1), .ref (r2), .ref (r3), .ref (r4), .ref (r5), .ref (r6), .null, .null, .int (nI (0)), .int (nI (0)), .int (0), .int (0), .int (0), .int (nI (0)), .long (lN (0)), .long (lN (0))])), (r1, .inl (ct 0, 64, .inl (fun _ => 0))), (r2, .inl (ct 0, 64, .inl (fun _ => 0))), (r3, .inl (ct 0, 64, .inl (fun _ => 0))), (r4, .inl (ct 0, 4, .inl (fun _ => 0))), (r5, .inl (ct 2, 8, .inr (.inl (fun j => lN ((fun _ => 0) j))))), (r6, .inl (ct 1, 8, .inl (fun j => bi ((fun _ => false) j)))), (r7, .inl (ct 1, 8, .inl (fun j => bi ((fun _ => false) j))))]) H := hP
  have hD : va_D A ([(q, .inr (5, [.ref (r1), .ref (r2), .ref (r3), .ref (r4), .ref (r5), .ref (r6), .null, .null, .int (nI (0)), .int (nI (0)), .int (0), .int (0), .int (0), .int (nI (0)), .long (lN (0)), .long (lN (0))])), (r1, .inl (ct 0, 64, .inl (fun _ => 0))), (r2, .inl (ct 0, 64, .inl (fun _ => 0))), (r3, .inl (ct 0, 64, .inl (fun _ => 0))), (r4, .inl (ct 0, 4, .inl (fun _ => 0))), (r5, .inl (ct 2, 8, .inr (.inl (fun j => lN ((fun _ => 0) j))))), (r6, .inl (ct 1, 8, .inl (fun j => bi ((fun _ => false) j)))), (r7, .inl (ct 1, 8, .inl (fun j => bi ((fun _ => false) j))))]) := hD
  refine va_putF (D := D) (ci := 5) (v := .ref (r7)) (ty := .array .boolean) (C := RX5) (T := TX5) (N := 16) hx hb hts in_X5 tyX5 tyX5_ok nmX5 hown hC.1 hP hD hS 0 rfl rfl 6 (by decide) (hts _ q246) (fun _ h9 => h9) rfl hnm rfl (by decide +kernel) rfl rfl (Nat.le_of_ble_eq_true rfl) dX5_init_56 (fun H locs hP hD hS => ?_)
  have hP : va_P D mgCl ([(q, .inr (5, [.ref (r1), .ref (r2), .ref (r3), .ref (r4), .ref (r5), .ref (r6), .ref (r7), .null, .int (nI (0)), .int (nI (0)), .int (0), .int (0), .int (0), .int (nI (0)), .long (lN (0)), .long (lN (0))])), (r1, .inl (ct 0, 64, .inl (fun _ => 0))), (r2, .inl (ct 0, 64, .inl (fun _ => 0))), (r3, .inl (ct 0, 64, .inl (fun _ => 0))), (r4, .inl (ct 0, 4, .inl (fun _ => 0))), (r5, .inl (ct 2, 8, .inr (.inl (fun j => lN ((fun _ => 0) j))))), (r6, .inl (ct 1, 8, .inl (fun j => bi ((fun _ => false) j)))), (r7, .inl (ct 1, 8, .inl (fun j => bi ((fun _ => false) j))))]) H := hP
  have hD : va_D A ([(q, .inr (5, [.ref (r1), .ref (r2), .ref (r3), .ref (r4), .ref (r5), .ref (r6), .ref (r7), .null, .int (nI (0)), .int (nI (0)), .int (0), .int (0), .int (0), .int (nI (0)), .long (lN (0)), .long (lN (0))])), (r1, .inl (ct 0, 64, .inl (fun _ => 0))), (r2, .inl (ct 0, 64, .inl (fun _ => 0))), (r3, .inl (ct 0, 64, .inl (fun _ => 0))), (r4, .inl (ct 0, 4, .inl (fun _ => 0))), (r5, .inl (ct 2, 8, .inr (.inl (fun j => lN ((fun _ => 0) j))))), (r6, .inl (ct 1, 8, .inl (fun j => bi ((fun _ => false) j)))), (r7, .inl (ct 1, 8, .inl (fun j => bi ((fun _ => false) j))))]) := hD
  refine lv_aload_n hx hb dX5_init_59 rfl (lv_at hl 0 rfl) ?_
  refine lv_bipush (v := nI (8)) hx hb dX5_init_60 (by decide) ?_
  refine mg_newi hx hb (hts _ q31) hC.1 hP hD hS hA (n := 8) (by decide) (Nat.le_of_ble_eq_true rfl) (Nat.le_of_ble_eq_true rfl) dX5_init_62 (fun r8 H hP hD hS => ?_)
  have hP : va_P D mgCl ([(q, .inr (5, [.ref (r1), .ref (r2), .ref (r3), .ref (r4), .ref (r5), .ref (r6), .ref (r7), .null, .int (nI (0)), .int (nI (0)), .int (0), .int (0), .int (0), .int (nI (0)), .long (lN (0)), .long (lN (0))])), (r1, .inl (ct 0, 64, .inl (fun _ => 0))), (r2, .inl (ct 0, 64, .inl (fun _ => 0))), (r3, .inl (ct 0, 64, .inl (fun _ => 0))), (r4, .inl (ct 0, 4, .inl (fun _ => 0))), (r5, .inl (ct 2, 8, .inr (.inl (fun j => lN ((fun _ => 0) j))))), (r6, .inl (ct 1, 8, .inl (fun j => bi ((fun _ => false) j)))), (r7, .inl (ct 1, 8, .inl (fun j => bi ((fun _ => false) j)))), (r8, .inl (ct 0, 8, .inl (fun _ => 0)))]) H := hP
  have hD : va_D A ([(q, .inr (5, [.ref (r1), .ref (r2), .ref (r3), .ref (r4), .ref (r5), .ref (r6), .ref (r7), .null, .int (nI (0)), .int (nI (0)), .int (0), .int (0), .int (0), .int (nI (0)), .long (lN (0)), .long (lN (0))])), (r1, .inl (ct 0, 64, .inl (fun _ => 0))), (r2, .inl (ct 0, 64, .inl (fun _ => 0))), (r3, .inl (ct 0, 64, .inl (fun _ => 0))), (r4, .inl (ct 0, 4, .inl (fun _ => 0))), (r5, .inl (ct 2, 8, .inr (.inl (fun j => lN ((fun _ => 0) j))))), (r6, .inl (ct 1, 8, .inl (fun j => bi ((fun _ => false) j)))), (r7, .inl (ct 1, 8, .inl (fun j => bi ((fun _ => false) j)))), (r8, .inl (ct 0, 8, .inl (fun _ => 0)))]) := hD
  refine va_putF (D := D) (ci := 5) (v := .ref (r8)) (ty := .array .int) (C := RX5) (T := TX5) (N := 16) hx hb hts in_X5 tyX5 tyX5_ok nmX5 hown hC.1 hP hD hS 0 rfl rfl 7 (by decide) (hts _ q247) (fun _ h9 => h9) rfl hnm rfl (by decide +kernel) rfl rfl (Nat.le_of_ble_eq_true rfl) dX5_init_64 (fun H locs hP hD hS => ?_)
  have hP : va_P D mgCl ([(q, .inr (5, [.ref (r1), .ref (r2), .ref (r3), .ref (r4), .ref (r5), .ref (r6), .ref (r7), .ref (r8), .int (nI (0)), .int (nI (0)), .int (0), .int (0), .int (0), .int (nI (0)), .long (lN (0)), .long (lN (0))])), (r1, .inl (ct 0, 64, .inl (fun _ => 0))), (r2, .inl (ct 0, 64, .inl (fun _ => 0))), (r3, .inl (ct 0, 64, .inl (fun _ => 0))), (r4, .inl (ct 0, 4, .inl (fun _ => 0))), (r5, .inl (ct 2, 8, .inr (.inl (fun j => lN ((fun _ => 0) j))))), (r6, .inl (ct 1, 8, .inl (fun j => bi ((fun _ => false) j)))), (r7, .inl (ct 1, 8, .inl (fun j => bi ((fun _ => false) j)))), (r8, .inl (ct 0, 8, .inl (fun _ => 0)))]) H := hP
  have hD : va_D A ([(q, .inr (5, [.ref (r1), .ref (r2), .ref (r3), .ref (r4), .ref (r5), .ref (r6), .ref (r7), .ref (r8), .int (nI (0)), .int (nI (0)), .int (0), .int (0), .int (0), .int (nI (0)), .long (lN (0)), .long (lN (0))])), (r1, .inl (ct 0, 64, .inl (fun _ => 0))), (r2, .inl (ct 0, 64, .inl (fun _ => 0))), (r3, .inl (ct 0, 64, .inl (fun _ => 0))), (r4, .inl (ct 0, 4, .inl (fun _ => 0))), (r5, .inl (ct 2, 8, .inr (.inl (fun j => lN ((fun _ => 0) j))))), (r6, .inl (ct 1, 8, .inl (fun j => bi ((fun _ => false) j)))), (r7, .inl (ct 1, 8, .inl (fun j => bi ((fun _ => false) j)))), (r8, .inl (ct 0, 8, .inl (fun _ => 0)))]) := hD
  refine lv_aload_n hx hb dX5_init_67 rfl (lv_at hl 0 rfl) ?_
  refine lv_iconst (v := nI (0)) hx hb dX5_init_68 (by decide) ?_
  refine va_put (D := D) (ci := 5) (v := .int (nI (0))) (ty := .int) (C := RX5) (T := TX5) (N := 16) hx hb hts in_X5 tyX5 tyX5_ok nmX5 hown hC.1 hP hD hS 0 rfl rfl 9 (by decide) (hts _ q249) (fun _ h9 => h9) rfl (by decide +kernel) rfl rfl (Nat.le_of_ble_eq_true rfl) dX5_init_69 (fun H locs hP hD hS => ?_)
  have hP : va_P D mgCl ([(q, .inr (5, [.ref (r1), .ref (r2), .ref (r3), .ref (r4), .ref (r5), .ref (r6), .ref (r7), .ref (r8), .int (nI (0)), .int (nI (0)), .int (0), .int (0), .int (0), .int (nI (0)), .long (lN (0)), .long (lN (0))])), (r1, .inl (ct 0, 64, .inl (fun _ => 0))), (r2, .inl (ct 0, 64, .inl (fun _ => 0))), (r3, .inl (ct 0, 64, .inl (fun _ => 0))), (r4, .inl (ct 0, 4, .inl (fun _ => 0))), (r5, .inl (ct 2, 8, .inr (.inl (fun j => lN ((fun _ => 0) j))))), (r6, .inl (ct 1, 8, .inl (fun j => bi ((fun _ => false) j)))), (r7, .inl (ct 1, 8, .inl (fun j => bi ((fun _ => false) j)))), (r8, .inl (ct 0, 8, .inl (fun _ => 0)))]) H := hP
  have hD : va_D A ([(q, .inr (5, [.ref (r1), .ref (r2), .ref (r3), .ref (r4), .ref (r5), .ref (r6), .ref (r7), .ref (r8), .int (nI (0)), .int (nI (0)), .int (0), .int (0), .int (0), .int (nI (0)), .long (lN (0)), .long (lN (0))])), (r1, .inl (ct 0, 64, .inl (fun _ => 0))), (r2, .inl (ct 0, 64, .inl (fun _ => 0))), (r3, .inl (ct 0, 64, .inl (fun _ => 0))), (r4, .inl (ct 0, 4, .inl (fun _ => 0))), (r5, .inl (ct 2, 8, .inr (.inl (fun j => lN ((fun _ => 0) j))))), (r6, .inl (ct 1, 8, .inl (fun j => bi ((fun _ => false) j)))), (r7, .inl (ct 1, 8, .inl (fun j => bi ((fun _ => false) j)))), (r8, .inl (ct 0, 8, .inl (fun _ => 0)))]) := hD
  exact mg_cret (w' := fun u => wMod ct u (fun _ => 0) (fun _ => 0) (fun _ => 0) (fun _ => 0) (fun _ => 0) (fun _ => false) (fun _ => false) (fun _ => 0) 0 0 0 0 0 0 0 0) (fun i => if i = 0 then q else if i = 1 then r1 else if i = 2 then r2 else if i = 3 then r3 else if i = 4 then r4 else if i = 5 then r5 else if i = 6 then r6 else if i = 7 then r7 else r8) rfl hx hb hr hlocks hP hD hS dX5_init_72
end
section
/-! THE CONSTRUCTOR of Migrator (written by gen/gen_ctor.py) -/
set_option maxRecDepth 100000
set_option maxHeartbeats 4000000 in
set_option maxRecDepth 100000 in
/-- Migrator() -/
theorem c_init (l : Launch) (D : va_G) (ct ad : Nat → Nat) (q : Nat) : MC l yX0_init cX0_init 1 ({ frames := 3, cells := 28, slots := 180, locals := 56 } : Room) D ct ad [.ref q] ([(q, .inr (0, [.null, .null, .null, .null, .null, .null, .null, .int (0), .int (0), .int (0)]))]) (fun a => wMig ct ad a (fun _ _ => 0) (fun _ _ => 0) (fun _ => 0) (fun _ => 0) 0 0 (fun _ => false) (fun _ => false) 0 0 0 0) q 28 180 := by
  refine mg_MC (by decide) (Nat.le_of_ble_eq_true rfl) ?_
  intro p e s m below meth c A hx hb hr hlocks hml hown hnm hts hC hP hD hA hS ls hl
  have hown : s.vm.findClass RX0 = some m.cls := hown
  have hl : lv_has ls 1 [(0, .ref (q))] := hl
  refine lv_aload_n hx hb dX0_init_0 rfl (lv_at hl 0 rfl) ?_
  refine W.objInit hx hb hown (hts _ q16) (hts _ q17) (hts _ q18) rfl (by rw [hml]; exact hl.1) rfl dX0_init_1 (Nat.le_of_ble_eq_true rfl) (Nat.le_of_ble_eq_true rfl) ?_
  refine W.eq (g2 := F0 m 4 ls []) rfl ?_
  refine lv_aload_n hx hb dX0_init_4 rfl (lv_at hl 0 rfl) ?_
  refine va_new (ci := 1) (fs := [.null]) (C := RX1) (T := TX1) (N := 1) hx hb hts in_X1 tyX1 tyX1_ok hown (hts _ q19) (hts _ q20) (hts _ q3) hC.1 hP hD hS hA rfl (fun j hj => by rcases (show j = 0 by omega) with rfl <;> rfl) (Nat.le_of_ble_eq_true rfl) (Nat.le_of_ble_eq_true rfl) dX0_init_5 (fun zu1 H hP hD hS => ?_)
  refine lv_dup hx hb dX0_init_8 rfl ?_
  refine mg_afterC (w' := fun u => wHost ct u (fun _ _ => 0)) (wr := [(q, .inr (0, [.null, .null, .null, .null, .null, .null, .null, .int (0), .int (0), .int (0)]))]) (va_runIN (As := []) (rest := [.ref (zu1), .ref (q)]) ⟨hx, hb, hml, hown, hts⟩ (h_init l D ct ad zu1 _) ⟨va_cnB 0 hts (lw_meth q23) rfl rfl rfl hC.2.2.1.1.1 (hts _ q3) (by decide +kernel) ⟨Nat.le_of_ble_eq_true rfl, Nat.le_of_ble_eq_true rfl⟩, rfl, hts _ q22⟩ (mg_preOf hC hP hD hS hA (wc := [(zu1, .inr (1, [.null]))]) [1] rfl (by decide) [.ref zu1]) rfl rfl hl.1 rfl (lv_room (Nat.le_of_ble_eq_true rfl)) dX0_init_9 ⟨Nat.le_of_ble_eq_true rfl, Nat.le_of_ble_eq_true rfl⟩) hP hD hS hA [1] [0] rfl rfl (by decide) (by decide) (fun u1 Hn locsn hu hPn hDn hSn => ?_)
  clear hP hD hS
  subst hu
  obtain ⟨H, rfl⟩ : ∃ z, z = Hn := ⟨_, rfl⟩
  have hP := hPn
  have hD := hDn
  have hS := hSn
  clear hPn hDn hSn
  have hP : va_P D mgCl ([(q, .inr (0, [.null, .null, .null, .null, .null, .null, .null, .int (0), .int (0), .int (0)]))] ++ wHost ct u1 (fun _ _ => 0)) H := hP
  have hD : va_D A ([(q, .inr (0, [.null, .null, .null, .null, .null, .null, .null, .int (0), .int (0), .int (0)]))] ++ wHost ct u1 (fun _ _ => 0)) := hD
  refine va_putF (D := D) (ci := 0) (v := .ref (u1 0)) (ty := .object "Migrator$Host") (C := RX0) (T := TX0) (N := 10) hx hb hts in_X0 tyX0 tyX0_ok nmX0 hown hC.1 hP hD hS 0 rfl rfl 0 (by decide) (hts _ q79) (fun _ h9 => h9) rfl hnm rfl (by decide +kernel) rfl rfl (Nat.le_of_ble_eq_true rfl) dX0_init_12 (fun H locs hP hD hS => ?_)
  have hP : va_P D mgCl ([(q, .inr (0, [.ref (u1 0), .null, .null, .null, .null, .null, .null, .int (0), .int (0), .int (0)]))] ++ wHost ct u1 (fun _ _ => 0)) H := hP
  have hD : va_D A ([(q, .inr (0, [.ref (u1 0), .null, .null, .null, .null, .null, .null, .int (0), .int (0), .int (0)]))] ++ wHost ct u1 (fun _ _ => 0)) := hD
  refine lv_aload_n hx hb dX0_init_15 rfl (lv_at hl 0 rfl) ?_
  refine va_new (ci := 1) (fs := [.null]) (C := RX1) (T := TX1) (N := 1) hx hb hts in_X1 tyX1 tyX1_ok hown (hts _ q19) (hts _ q20) (hts _ q3) hC.1 hP hD hS hA rfl (fun j hj => by rcases (show j = 0 by omega) with rfl <;> rfl) (Nat.le_of_ble_eq_true rfl) (Nat.le_of_ble_eq_true rfl) dX0_init_16 (fun zu2 H hP hD hS => ?_)
  refine lv_dup hx hb dX0_init_19 rfl ?_
  refine mg_afterC (w' := fun u => wHost ct u (fun _ _ => 0)) (wr := [(q, .inr (0, [.ref (u1 0), .null, .null, .null, .null, .null, .null, .int (0), .int (0), .int (0)]))] ++ wHost ct u1 (fun _ _ => 0)) (va_runIN (As := []) (rest := [.ref (zu2), .ref (q)]) ⟨hx, hb, hml, hown, hts⟩ (h_init l D ct ad zu2 _) ⟨va_cnB 0 hts (lw_meth q23) rfl rfl rfl hC.2.2.1.1.1 (hts _ q3) (by decide +kernel) ⟨Nat.le_of_ble_eq_true rfl, Nat.le_of_ble_eq_true rfl⟩, rfl, hts _ q22⟩ (mg_preOf hC hP hD hS hA (wc := [(zu2, .inr (1, [.null]))]) [11] rfl (by decide) [.ref zu2]) rfl rfl hl.1 rfl (lv_room (Nat.le_of_ble_eq_true rfl)) dX0_init_20 ⟨Nat.le_of_ble_eq_true rfl, Nat.le_of_ble_eq_true rfl⟩) hP hD hS hA [11] [0, 1, 2, 3, 4, 5, 6, 7, 8, 9, 10] rfl rfl (by decide) (by decide) (fun u2 Hn locsn hu hPn hDn hSn => ?_)
  clear hP hD hS
  subst hu
  obtain ⟨H, rfl⟩ : ∃ z, z = Hn := ⟨_, rfl⟩
  have hP := hPn
  have hD := hDn
  have hS := hSn
  clear hPn hDn hSn
  have hP : va_P D mgCl ([(q, .inr (0, [.ref (u1 0), .null, .null, .null, .null, .null, .null, .int (0), .int (0), .int (0)]))] ++ wHost ct u1 (fun _ _ => 0) ++ wHost ct u2 (fun _ _ => 0)) H := hP
  have hD : va_D A ([(q, .inr (0, [.ref (u1 0), .null, .null, .null, .null, .null, .null, .int (0), .int (0), .int (0)]))] ++ wHost ct u1 (fun _ _ => 0) ++ wHost ct u2 (fun _ _ => 0)) := hD
  refine va_putF (D := D) (ci := 0) (v := .ref (u2 0)) (ty := .object "Migrator$Host") (C := RX0) (T := TX0) (N := 10) hx hb hts in_X0 tyX0 tyX0_ok nmX0 hown hC.1 hP hD hS 0 rfl rfl 1 (by decide) (hts _ q80) (fun _ h9 => h9) rfl hnm rfl (by decide +kernel) rfl rfl (Nat.le_of_ble_eq_true rfl) dX0_init_23 (fun H locs hP hD hS => ?_)
  have hP : va_P D mgCl ([(q, .inr (0, [.ref (u1 0), .ref (u2 0), .null, .null, .null, .null, .null, .int (0), .int (0), .int (0)]))] ++ wHost ct u1 (fun _ _ => 0) ++ wHost ct u2 (fun _ _ => 0)) H := hP
  have hD : va_D A ([(q, .inr (0, [.ref (u1 0), .ref (u2 0), .null, .null, .null, .null, .null, .int (0), .int (0), .int (0)]))] ++ wHost ct u1 (fun _ _ => 0) ++ wHost ct u2 (fun _ _ => 0)) := hD
  refine lv_aload_n hx hb dX0_init_26 rfl (lv_at hl 0 rfl) ?_
  refine va_new (ci := 2) (fs := [.null, .null, .int (nI 0), .int (nI 0)]) (C := RX2) (T := TX2) (N := 4) hx hb hts in_X2 tyX2 tyX2_ok hown (hts _ q32) (hts _ q33) (hts _ q4) hC.1 hP hD hS hA rfl (fun j hj => by rcases (show j = 0 ∨ j = 1 ∨ j = 2 ∨ j = 3 by omega) with rfl | rfl | rfl | rfl <;> rfl) (Nat.le_of_ble_eq_true rfl) (Nat.le_of_ble_eq_true rfl) dX0_init_27 (fun zu3 H hP hD hS => ?_)
  refine lv_dup hx hb dX0_init_30 rfl ?_
  refine mg_afterC (w' := fun u => wGst ct u (fun _ => 0) (fun _ => 0) (0) (0)) (wr := [(q, .inr (0, [.ref (u1 0), .ref (u2 0), .null, .null, .null, .null, .null, .int (0), .int (0), .int (0)]))] ++ wHost ct u1 (fun _ _ => 0) ++ wHost ct u2 (fun _ _ => 0)) (va_runIN (As := []) (rest := [.ref (zu3), .ref (q)]) ⟨hx, hb, hml, hown, hts⟩ (g_init l D ct ad zu3 _) ⟨va_cnB 0 hts (lw_meth q36) rfl rfl rfl hC.2.2.1.1.2.1 (hts _ q4) (by decide +kernel) ⟨Nat.le_of_ble_eq_true rfl, Nat.le_of_ble_eq_true rfl⟩, rfl, hts _ q35⟩ (mg_preOf hC hP hD hS hA (wc := [(zu3, .inr (2, [.null, .null, .int (nI 0), .int (nI 0)]))]) [21] rfl (by decide) [.ref zu3]) rfl rfl hl.1 rfl (lv_room (Nat.le_of_ble_eq_true rfl)) dX0_init_31 ⟨Nat.le_of_ble_eq_true rfl, Nat.le_of_ble_eq_true rfl⟩) hP hD hS hA [21] [0, 1, 2, 3, 4, 5, 6, 7, 8, 9, 10, 11, 12, 13, 14, 15, 16, 17, 18, 19, 20] rfl rfl (by decide) (by decide) (fun u3 Hn locsn hu hPn hDn hSn => ?_)
  clear hP hD hS
  subst hu
  obtain ⟨H, rfl⟩ : ∃ z, z = Hn := ⟨_, rfl⟩
  have hP := hPn
  have hD := hDn
  have hS := hSn
  clear hPn hDn hSn
  have hP : va_P D mgCl ([(q, .inr (0, [.ref (u1 0), .ref (u2 0), .null, .null, .null, .null, .null, .int (0), .int (0), .int (0)]))] ++ wHost ct u1 (fun _ _ => 0) ++ wHost ct u2 (fun _ _ => 0) ++ wGst ct u3 (fun _ => 0) (fun _ => 0) (0) (0)) H := hP
  have hD : va_D A ([(q, .inr (0, [.ref (u1 0), .ref (u2 0), .null, .null, .null, .null, .null, .int (0), .int (0), .int (0)]))] ++ wHost ct u1 (fun _ _ => 0) ++ wHost ct u2 (fun _ _ => 0) ++ wGst ct u3 (fun _ => 0) (fun _ => 0) (0) (0)) := hD
  refine va_putF (D := D) (ci := 0) (v := .ref (u3 0)) (ty := .object "Migrator$Guest") (C := RX0) (T := TX0) (N := 10) hx hb hts in_X0 tyX0 tyX0_ok nmX0 hown hC.1 hP hD hS 0 rfl rfl 2 (by decide) (hts _ q81) (fun _ h9 => h9) rfl hnm rfl (by decide +kernel) rfl rfl (Nat.le_of_ble_eq_true rfl) dX0_init_34 (fun H locs hP hD hS => ?_)
  have hP : va_P D mgCl ([(q, .inr (0, [.ref (u1 0), .ref (u2 0), .ref (u3 0), .null, .null, .null, .null, .int (0), .int (0), .int (0)]))] ++ wHost ct u1 (fun _ _ => 0) ++ wHost ct u2 (fun _ _ => 0) ++ wGst ct u3 (fun _ => 0) (fun _ => 0) (0) (0)) H := hP
  have hD : va_D A ([(q, .inr (0, [.ref (u1 0), .ref (u2 0), .ref (u3 0), .null, .null, .null, .null, .int (0), .int (0), .int (0)]))] ++ wHost ct u1 (fun _ _ => 0) ++ wHost ct u2 (fun _ _ => 0) ++ wGst ct u3 (fun _ => 0) (fun _ => 0) (0) (0)) := hD
  refine lv_aload_n hx hb dX0_init_37 rfl (lv_at hl 0 rfl) ?_
  refine va_new (ci := 3) (fs := [.null]) (C := RX3) (T := TX3) (N := 1) hx hb hts in_X3 tyX3 tyX3_ok hown (hts _ q55) (hts _ q56) (hts _ q5) hC.1 hP hD hS hA rfl (fun j hj => by rcases (show j = 0 by omega) with rfl <;> rfl) (Nat.le_of_ble_eq_true rfl) (Nat.le_of_ble_eq_true rfl) dX0_init_38 (fun zu4 H hP hD hS => ?_)
  refine lv_dup hx hb dX0_init_41 rfl ?_
  refine mg_afterC (w' := fun u => wMk ct u (fun _ => false)) (wr := [(q, .inr (0, [.ref (u1 0), .ref (u2 0), .ref (u3 0), .null, .null, .null, .null, .int (0), .int (0), .int (0)]))] ++ wHost ct u1 (fun _ _ => 0) ++ wHost ct u2 (fun _ _ => 0) ++ wGst ct u3 (fun _ => 0) (fun _ => 0) (0) (0)) (va_runIN (As := []) (rest := [.ref (zu4), .ref (q)]) ⟨hx, hb, hml, hown, hts⟩ (m_init l D ct ad zu4 _) ⟨va_cnB 0 hts (lw_meth q59) rfl rfl rfl hC.2.2.1.1.2.2.1 (hts _ q5) (by decide +kernel) ⟨Nat.le_of_ble_eq_true rfl, Nat.le_of_ble_eq_true rfl⟩, rfl, hts _ q58⟩ (mg_preOf hC hP hD hS hA (wc := [(zu4, .inr (3, [.null]))]) [24] rfl (by decide) [.ref zu4]) rfl rfl hl.1 rfl (lv_room (Nat.le_of_ble_eq_true rfl)) dX0_init_42 ⟨Nat.le_of_ble_eq_true rfl, Nat.le_of_ble_eq_true rfl⟩) hP hD hS hA [24] [0, 1, 2, 3, 4, 5, 6, 7, 8, 9, 10, 11, 12, 13, 14, 15, 16, 17, 18, 19, 20, 21, 22, 23] rfl rfl (by decide) (by decide) (fun u4 Hn locsn hu hPn hDn hSn => ?_)
  clear hP hD hS
  subst hu
  obtain ⟨H, rfl⟩ : ∃ z, z = Hn := ⟨_, rfl⟩
  have hP := hPn
  have hD := hDn
  have hS := hSn
  clear hPn hDn hSn
  have hP : va_P D mgCl ([(q, .inr (0, [.ref (u1 0), .ref (u2 0), .ref (u3 0), .null, .null, .null, .null, .int (0), .int (0), .int (0)]))] ++ wHost ct u1 (fun _ _ => 0) ++ wHost ct u2 (fun _ _ => 0) ++ wGst ct u3 (fun _ => 0) (fun _ => 0) (0) (0) ++ wMk ct u4 (fun _ => false)) H := hP
  have hD : va_D A ([(q, .inr (0, [.ref (u1 0), .ref (u2 0), .ref (u3 0), .null, .null, .null, .null, .int (0), .int (0), .int (0)]))] ++ wHost ct u1 (fun _ _ => 0) ++ wHost ct u2 (fun _ _ => 0) ++ wGst ct u3 (fun _ => 0) (fun _ => 0) (0) (0) ++ wMk ct u4 (fun _ => false)) := hD
  refine va_putF (D := D) (ci := 0) (v := .ref (u4 0)) (ty := .object "Migrator$Marks") (C := RX0) (T := TX0) (N := 10) hx hb hts in_X0 tyX0 tyX0_ok nmX0 hown hC.1 hP hD hS 0 rfl rfl 3 (by decide) (hts _ q82) (fun _ h9 => h9) rfl hnm rfl (by decide +kernel) rfl rfl (Nat.le_of_ble_eq_true rfl) dX0_init_45 (fun H locs hP hD hS => ?_)
  have hP : va_P D mgCl ([(q, .inr (0, [.ref (u1 0), .ref (u2 0), .ref (u3 0), .ref (u4 0), .null, .null, .null, .int (0), .int (0), .int (0)]))] ++ wHost ct u1 (fun _ _ => 0) ++ wHost ct u2 (fun _ _ => 0) ++ wGst ct u3 (fun _ => 0) (fun _ => 0) (0) (0) ++ wMk ct u4 (fun _ => false)) H := hP
  have hD : va_D A ([(q, .inr (0, [.ref (u1 0), .ref (u2 0), .ref (u3 0), .ref (u4 0), .null, .null, .null, .int (0), .int (0), .int (0)]))] ++ wHost ct u1 (fun _ _ => 0) ++ wHost ct u2 (fun _ _ => 0) ++ wGst ct u3 (fun _ => 0) (fun _ => 0) (0) (0) ++ wMk ct u4 (fun _ => false)) := hD
  refine lv_aload_n hx hb dX0_init_48 rfl (lv_at hl 0 rfl) ?_
  refine va_new (ci := 3) (fs := [.null]) (C := RX3) (T := TX3) (N := 1) hx hb hts in_X3 tyX3 tyX3_ok hown (hts _ q55) (hts _ q56) (hts _ q5) hC.1 hP hD hS hA rfl (fun j hj => by rcases (show j = 0 by omega) with rfl <;> rfl) (Nat.le_of_ble_eq_true rfl) (Nat.le_of_ble_eq_true rfl) dX0_init_49 (fun zu5 H hP hD hS => ?_)
  refine lv_dup hx hb dX0_init_52 rfl ?_
  refine mg_afterC (w' := fun u => wMk ct u (fun _ => false)) (wr := [(q, .inr (0, [.ref (u1 0), .ref (u2 0), .ref (u3 0), .ref (u4 0), .null, .null, .null, .int (0), .int (0), .int (0)]))] ++ wHost ct u1 (fun _ _ => 0) ++ wHost ct u2 (fun _ _ => 0) ++ wGst ct u3 (fun _ => 0) (fun _ => 0) (0) (0) ++ wMk ct u4 (fun _ => false)) (va_runIN (As := []) (rest := [.ref (zu5), .ref (q)]) ⟨hx, hb, hml, hown, hts⟩ (m_init l D ct ad zu5 _) ⟨va_cnB 0 hts (lw_meth q59) rfl rfl rfl hC.2.2.1.1.2.2.1 (hts _ q5) (by decide +kernel) ⟨Nat.le_of_ble_eq_true rfl, Nat.le_of_ble_eq_true rfl⟩, rfl, hts _ q58⟩ (mg_preOf hC hP hD hS hA (wc := [(zu5, .inr (3, [.null]))]) [26] rfl (by decide) [.ref zu5]) rfl rfl hl.1 rfl (lv_room (Nat.le_of_ble_eq_true rfl)) dX0_init_53 ⟨Nat.le_of_ble_eq_true rfl, Nat.le_of_ble_eq_true rfl⟩) hP hD hS hA [26] [0, 1, 2, 3, 4, 5, 6, 7, 8, 9, 10, 11, 12, 13, 14, 15, 16, 17, 18, 19, 20, 21, 22, 23, 24, 25] rfl rfl (by decide) (by decide) (fun u5 Hn locsn hu hPn hDn hSn => ?_)
  clear hP hD hS
  subst hu
  obtain ⟨H, rfl⟩ : ∃ z, z = Hn := ⟨_, rfl⟩
  have hP := hPn
  have hD := hDn
  have hS := hSn
  clear hPn hDn hSn
  have hP : va_P D mgCl ([(q, .inr (0, [.ref (u1 0), .ref (u2 0), .ref (u3 0), .ref (u4 0), .null, .null, .null, .int (0), .int (0), .int (0)]))] ++ wHost ct u1 (fun _ _ => 0) ++ wHost ct u2 (fun _ _ => 0) ++ wGst ct u3 (fun _ => 0) (fun _ => 0) (0) (0) ++ wMk ct u4 (fun _ => false) ++ wMk ct u5 (fun _ => false)) H := hP
  have hD : va_D A ([(q, .inr (0, [.ref (u1 0), .ref (u2 0), .ref (u3 0), .ref (u4 0), .null, .null, .null, .int (0), .int (0), .int (0)]))] ++ wHost ct u1 (fun _ _ => 0) ++ wHost ct u2 (fun _ _ => 0) ++ wGst ct u3 (fun _ => 0) (fun _ => 0) (0) (0) ++ wMk ct u4 (fun _ => false) ++ wMk ct u5 (fun _ => false)) := hD
  refine va_putF (D := D) (ci := 0) (v := .ref (u5 0)) (ty := .object "Migrator$Marks") (C := RX0) (T := TX0) (N := 10) hx hb hts in_X0 tyX0 tyX0_ok nmX0 hown hC.1 hP hD hS 0 rfl rfl 4 (by decide) (hts _ q83) (fun _ h9 => h9) rfl hnm rfl (by decide +kernel) rfl rfl (Nat.le_of_ble_eq_true rfl) dX0_init_56 (fun H locs hP hD hS => ?_)
  have hP : va_P D mgCl ([(q, .inr (0, [.ref (u1 0), .ref (u2 0), .ref (u3 0), .ref (u4 0), .ref (u5 0), .null, .null, .int (0), .int (0), .int (0)]))] ++ wHost ct u1 (fun _ _ => 0) ++ wHost ct u2 (fun _ _ => 0) ++ wGst ct u3 (fun _ => 0) (fun _ => 0) (0) (0) ++ wMk ct u4 (fun _ => false) ++ wMk ct u5 (fun _ => false)) H := hP
  have hD : va_D A ([(q, .inr (0, [.ref (u1 0), .ref (u2 0), .ref (u3 0), .ref (u4 0), .ref (u5 0), .null, .null, .int (0), .int (0), .int (0)]))] ++ wHost ct u1 (fun _ _ => 0) ++ wHost ct u2 (fun _ _ => 0) ++ wGst ct u3 (fun _ => 0) (fun _ => 0) (0) (0) ++ wMk ct u4 (fun _ => false) ++ wMk ct u5 (fun _ => false)) := hD
  refine lv_aload_n hx hb dX0_init_59 rfl (lv_at hl 0 rfl) ?_
  refine va_new (ci := 4) (fs := []) (C := RX4) (T := TX4) (N := 0) hx hb hts in_X4 tyX4 tyX4_ok hown (hts _ q67) (hts _ q68) (hts _ q7) hC.1 hP hD hS hA rfl (fun j hj => absurd hj (Nat.not_lt_zero j)) (Nat.le_of_ble_eq_true rfl) (Nat.le_of_ble_eq_true rfl) dX0_init_60 (fun q6 H hP hD hS => ?_)
  refine lv_dup hx hb dX0_init_63 rfl ?_
  refine mg_afterV (w1 := wNb (q6)) (wr := [(q, .inr (0, [.ref (u1 0), .ref (u2 0), .ref (u3 0), .ref (u4 0), .ref (u5 0), .null, .null, .int (0), .int (0), .int (0)]))] ++ wHost ct u1 (fun _ _ => 0) ++ wHost ct u2 (fun _ _ => 0) ++ wGst ct u3 (fun _ => 0) (fun _ => 0) (0) (0) ++ wMk ct u4 (fun _ => false) ++ wMk ct u5 (fun _ => false)) (w2 := [(q, .inr (0, [.ref (u1 0), .ref (u2 0), .ref (u3 0), .ref (u4 0), .ref (u5 0), .null, .null, .int (0), .int (0), .int (0)]))] ++ wHost ct u1 (fun _ _ => 0) ++ wHost ct u2 (fun _ _ => 0) ++ wGst ct u3 (fun _ => 0) (fun _ => 0) (0) (0) ++ wMk ct u4 (fun _ => false) ++ wMk ct u5 (fun _ => false) ++ wNb (q6)) (va_runIN (As := []) (rest := [.ref (q6), .ref (q)]) ⟨hx, hb, hml, hown, hts⟩ (n_init l D ct ad q6 _) ⟨va_cnB 0 hts (lw_meth q71) rfl rfl rfl hC.2.2.1.1.2.2.2 (hts _ q7) (by decide +kernel) ⟨Nat.le_of_ble_eq_true rfl, Nat.le_of_ble_eq_true rfl⟩, rfl, hts _ q70⟩ (mg_preOf hC hP hD hS hA (wc := [(q6, .inr (4, []))]) [28] rfl (by decide) [.ref q6]) rfl rfl hl.1 rfl (lv_room (Nat.le_of_ble_eq_true rfl)) dX0_init_64 ⟨Nat.le_of_ble_eq_true rfl, Nat.le_of_ble_eq_true rfl⟩) hP hD hS hA [28] [0, 1, 2, 3, 4, 5, 6, 7, 8, 9, 10, 11, 12, 13, 14, 15, 16, 17, 18, 19, 20, 21, 22, 23, 24, 25, 26, 27] [0, 1, 2, 3, 4, 5, 6, 7, 8, 9, 10, 11, 12, 13, 14, 15, 16, 17, 18, 19, 20, 21, 22, 23, 24, 25, 26, 27, 28] rfl rfl (by decide) (by decide) rfl (by decide) (fun H locs hP hD hS => ?_)
  have hP : va_P D mgCl ([(q, .inr (0, [.ref (u1 0), .ref (u2 0), .ref (u3 0), .ref (u4 0), .ref (u5 0), .null, .null, .int (0), .int (0), .int (0)]))] ++ wHost ct u1 (fun _ _ => 0) ++ wHost ct u2 (fun _ _ => 0) ++ wGst ct u3 (fun _ => 0) (fun _ => 0) (0) (0) ++ wMk ct u4 (fun _ => false) ++ wMk ct u5 (fun _ => false) ++ wNb (q6)) H := hP
  have hD : va_D A ([(q, .inr (0, [.ref (u1 0), .ref (u2 0), .ref (u3 0), .ref (u4 0), .ref (u5 0), .null, .null, .int (0), .int (0), .int (0)]))] ++ wHost ct u1 (fun _ _ => 0) ++ wHost ct u2 (fun _ _ => 0) ++ wGst ct u3 (fun _ => 0) (fun _ => 0) (0) (0) ++ wMk ct u4 (fun _ => false) ++ wMk ct u5 (fun _ => false) ++ wNb (q6)) := hD
  refine va_putF (D := D) (ci := 0) (v := .ref (q6)) (ty := .object "Migrator$Nobody") (C := RX0) (T := TX0) (N := 10) hx hb hts in_X0 tyX0 tyX0_ok nmX0 hown hC.1 hP hD hS 0 rfl rfl 5 (by decide) (hts _ q84) (fun _ h9 => h9) rfl hnm rfl (by decide +kernel) rfl rfl (Nat.le_of_ble_eq_true rfl) dX0_init_67 (fun H locs hP hD hS => ?_)
  have hP : va_P D mgCl ([(q, .inr (0, [.ref (u1 0), .ref (u2 0), .ref (u3 0), .ref (u4 0), .ref (u5 0), .ref (q6), .null, .int (0), .int (0), .int (0)]))] ++ wHost ct u1 (fun _ _ => 0) ++ wHost ct u2 (fun _ _ => 0) ++ wGst ct u3 (fun _ => 0) (fun _ => 0) (0) (0) ++ wMk ct u4 (fun _ => false) ++ wMk ct u5 (fun _ => false) ++ wNb (q6)) H := hP
  have hD : va_D A ([(q, .inr (0, [.ref (u1 0), .ref (u2 0), .ref (u3 0), .ref (u4 0), .ref (u5 0), .ref (q6), .null, .int (0), .int (0), .int (0)]))] ++ wHost ct u1 (fun _ _ => 0) ++ wHost ct u2 (fun _ _ => 0) ++ wGst ct u3 (fun _ => 0) (fun _ => 0) (0) (0) ++ wMk ct u4 (fun _ => false) ++ wMk ct u5 (fun _ => false) ++ wNb (q6)) := hD
  refine lv_aload_n hx hb dX0_init_70 rfl (lv_at hl 0 rfl) ?_
  refine va_gets (C := "Migrator$Phase") (n := "HOME") (d := "LMigrator$Phase;") (v := .ref (ad 0)) hx hb (hC.2.2.2.1 0 (by decide)).1 hS hown (hts _ q77) (fun _ h9 => h9) dX0_init_71 ?_
  refine va_put (D := D) (ci := 0) (v := .ref (ad 0)) (ty := .object "Migrator$Phase") (C := RX0) (T := TX0) (N := 10) hx hb hts in_X0 tyX0 tyX0_ok nmX0 hown hC.1 hP hD hS 0 rfl rfl 6 (by decide) (hts _ q85) (fun _ h9 => h9) rfl (by decide +kernel) rfl rfl (Nat.le_of_ble_eq_true rfl) dX0_init_74 (fun H locs hP hD hS => ?_)
  have hP : va_P D mgCl ([(q, .inr (0, [.ref (u1 0), .ref (u2 0), .ref (u3 0), .ref (u4 0), .ref (u5 0), .ref (q6), .ref (ad 0), .int (0), .int (0), .int (0)]))] ++ wHost ct u1 (fun _ _ => 0) ++ wHost ct u2 (fun _ _ => 0) ++ wGst ct u3 (fun _ => 0) (fun _ => 0) (0) (0) ++ wMk ct u4 (fun _ => false) ++ wMk ct u5 (fun _ => false) ++ wNb (q6)) H := hP
  have hD : va_D A ([(q, .inr (0, [.ref (u1 0), .ref (u2 0), .ref (u3 0), .ref (u4 0), .ref (u5 0), .ref (q6), .ref (ad 0), .int (0), .int (0), .int (0)]))] ++ wHost ct u1 (fun _ _ => 0) ++ wHost ct u2 (fun _ _ => 0) ++ wGst ct u3 (fun _ => 0) (fun _ => 0) (0) (0) ++ wMk ct u4 (fun _ => false) ++ wMk ct u5 (fun _ => false) ++ wNb (q6)) := hD
  obtain ⟨hP, hD⟩ := mig_join (ad := ad) (ph := 0) hP hD
  exact mg_cret (w' := fun a => wMig ct ad a (fun _ _ => 0) (fun _ _ => 0) (fun _ => 0) (fun _ => 0) 0 0 (fun _ => false) (fun _ => false) 0 0 0 0) (mgA q u1 u2 u3 u4 u5 q6) rfl hx hb hr hlocks hP hD hS dX0_init_77
end
section
/-! THE LAW's START: what every method knows holds there -/
set_option maxRecDepth 100000
theorem ao_spec {args : Array Value} {s : State} (h : (Cond.arrayOver (.array .int)).before args s = true) : ∃ (comp c : ClassId) (k : Class), s.vm.findClass "[I" = some comp ∧ s.vm.classes[c]? = some k ∧ k.kind = .array comp (.array .int) ∧ s.vm.findClass "[[I" = some c := by
  have e1 : (FieldType.array FieldType.int).toString = "[I" := by decide +kernel
  have e2 : "[" ++ (FieldType.array FieldType.int).toString = "[[I" := by decide +kernel
  simp only [Cond.before, Cond.holds, Cond.value, beq_iff_eq] at h
  rw [e2, e1] at h
  cases hc : s.vm.findClass "[I" with
  | none => simp [hc] at h
  | some comp =>
    simp only [hc, Option.bind_some, Option.bind_eq_some_iff, Option.map_eq_some_iff] at h
    obtain ⟨c, hi, k, hk, hb⟩ := h
    obtain ⟨hlt, hp, -⟩ := Array.findIdx?_eq_some_iff_getElem.mp hi
    rw [(Array.getElem?_eq_some_iff.mp hk).2] at hp
    cases hkind : k.kind with
    | array component ty =>
      rw [hkind] at hb hp
      simp at hb hp
      exact ⟨comp, c, k, rfl, hk, by rw [hkind, hp, hb.1], hb.2⟩
    | _ => rw [hkind] at hb; simp at hb
theorem mg_ground {s : State} {b0 : Nat} (hts : ∀ w ∈ lw_tbl, w.before #[Value.ref b0] s = true) (hgv : (Jvm.Cond.and given_1 narrow_1).before #[Value.ref b0] s = true) : ∃ (D : va_G) (ct ad : Nat → Nat), mg_C D ct ad (fun q => s.heap.size ≤ q) s s.heap := by
  have hta : ∀ w ∈ lw_all, w.before #[Value.ref b0] s = true := fun w h => hts w (lw_all_tbl h)
  obtain ⟨c0, i0, k0⟩ := u_known (C := RX0) (T := TX0) (N := 10) hta in_X0 (hta _ q12)
  obtain ⟨c1, i1, k1⟩ := u_known (C := RX1) (T := TX1) (N := 1) hta in_X1 (hta _ q20)
  obtain ⟨c2, i2, k2⟩ := u_known (C := RX2) (T := TX2) (N := 4) hta in_X2 (hta _ q33)
  obtain ⟨c3, i3, k3⟩ := u_known (C := RX3) (T := TX3) (N := 1) hta in_X3 (hta _ q56)
  obtain ⟨c4, i4, k4⟩ := u_known (C := RX4) (T := TX4) (N := 0) hta in_X4 (hta _ q68)
  obtain ⟨c5, i5, k5⟩ := u_known (C := RX5) (T := TX5) (N := 16) hta in_X5 (hta _ q235)
  obtain ⟨cI, kI, oI, f1, f2, f3⟩ := Cond.arrayClass_spec (hta _ q31)
  obtain ⟨cZ, kZ, oZ, g1, g2, g3⟩ := Cond.arrayClass_spec (hta _ q66)
  obtain ⟨cL, kL, oL, l1, l2, l3⟩ := Cond.arrayClass_spec (hta _ q289)
  obtain ⟨comp, cG, kG, a1, a2, a3, a4⟩ := ao_spec (hts _ q26)
  have eI : "[" ++ (FieldType.int).toString = "[I" := by decide +kernel
  have eG : "[" ++ (FieldType.array FieldType.int).toString = "[[I" := by decide +kernel
  have f1' : s.vm.findClass "[I" = some cI := by rw [← eI]; exact f1
  have hcI : comp = cI := Option.some.inj (a1.symm.trans f1')
  subst hcI
  have hs := flat_of_before _ hgv
  obtain ⟨ad, hE⟩ : ∃ ad : Nat → Nat, mg_E ad (fun q => s.heap.size ≤ q) s s.heap := by
    refine va_Enof (args := #[Value.ref b0]) (fun i hi => ?_) (hta _ q9) (fun i hi => ?_) (fun q hq i hi => ?_) (fun i j hi hj hij => ?_) (fun a ha => Nat.not_le.mpr ha)
    · have hi : i < 4 := hi
      rcases (show i = 0 ∨ i = 1 ∨ i = 2 ∨ i = 3 by omega) with rfl | rfl | rfl | rfl
      · exact hts _ q78
      · exact hts _ q126
      · exact hts _ q136
      · exact hts _ q138
    · have hi : i < 4 := hi
      rcases (show i = 0 ∨ i = 1 ∨ i = 2 ∨ i = 3 by omega) with rfl | rfl | rfl | rfl
      · exact hs (Cond.exactly (.static "Migrator$Phase" "HOME" "LMigrator$Phase;") "Migrator$Phase") (by decide +kernel)
      · exact hs (Cond.exactly (.static "Migrator$Phase" "COPYING" "LMigrator$Phase;") "Migrator$Phase") (by decide +kernel)
      · exact hs (Cond.exactly (.static "Migrator$Phase" "STOPPED" "LMigrator$Phase;") "Migrator$Phase") (by decide +kernel)
      · exact hs (Cond.exactly (.static "Migrator$Phase" "MOVED" "LMigrator$Phase;") "Migrator$Phase") (by decide +kernel)
    · have hi : i < 4 := hi
      rw [List.mem_singleton.mp hq]
      rcases (show i = 0 ∨ i = 1 ∨ i = 2 ∨ i = 3 by omega) with rfl | rfl | rfl | rfl
      · exact hs (Cond.eq (.field (.static "Migrator$Phase" "HOME" "LMigrator$Phase;") "java/lang/Enum" "ordinal" "I") (.int 0)) (by decide +kernel)
      · exact hs (Cond.eq (.field (.static "Migrator$Phase" "COPYING" "LMigrator$Phase;") "java/lang/Enum" "ordinal" "I") (.int 1)) (by decide +kernel)
      · exact hs (Cond.eq (.field (.static "Migrator$Phase" "STOPPED" "LMigrator$Phase;") "java/lang/Enum" "ordinal" "I") (.int 2)) (by decide +kernel)
      · exact hs (Cond.eq (.field (.static "Migrator$Phase" "MOVED" "LMigrator$Phase;") "java/lang/Enum" "ordinal" "I") (.int 3)) (by decide +kernel)
    · have hi : i < 4 := hi
      have hj : j < 4 := hj
      have d01 := hs (Cond.not (.eq (.static "Migrator$Phase" "HOME" "LMigrator$Phase;") (.static "Migrator$Phase" "COPYING" "LMigrator$Phase;"))) (by decide +kernel)
      have d02 := hs (Cond.not (.eq (.static "Migrator$Phase" "HOME" "LMigrator$Phase;") (.static "Migrator$Phase" "STOPPED" "LMigrator$Phase;"))) (by decide +kernel)
      have d03 := hs (Cond.not (.eq (.static "Migrator$Phase" "HOME" "LMigrator$Phase;") (.static "Migrator$Phase" "MOVED" "LMigrator$Phase;"))) (by decide +kernel)
      have d12 := hs (Cond.not (.eq (.static "Migrator$Phase" "COPYING" "LMigrator$Phase;") (.static "Migrator$Phase" "STOPPED" "LMigrator$Phase;"))) (by decide +kernel)
      have d13 := hs (Cond.not (.eq (.static "Migrator$Phase" "COPYING" "LMigrator$Phase;") (.static "Migrator$Phase" "MOVED" "LMigrator$Phase;"))) (by decide +kernel)
      have d23 := hs (Cond.not (.eq (.static "Migrator$Phase" "STOPPED" "LMigrator$Phase;") (.static "Migrator$Phase" "MOVED" "LMigrator$Phase;"))) (by decide +kernel)
      rcases (show i = 0 ∨ i = 1 ∨ i = 2 ∨ i = 3 by omega) with rfl | rfl | rfl | rfl <;> rcases (show j = 0 ∨ j = 1 ∨ j = 2 ∨ j = 3 by omega) with rfl | rfl | rfl | rfl
      · exact absurd rfl hij
      · exact Or.inl d01
      · exact Or.inl d02
      · exact Or.inl d03
      · exact Or.inr d01
      · exact absurd rfl hij
      · exact Or.inl d12
      · exact Or.inl d13
      · exact Or.inr d02
      · exact Or.inr d12
      · exact absurd rfl hij
      · exact Or.inl d23
      · exact Or.inr d03
      · exact Or.inr d13
      · exact Or.inr d23
      · exact absurd rfl hij
  refine ⟨(fun k => if k = 0 then c0 else if k = 1 then c1 else if k = 2 then c2 else if k = 3 then c3 else if k = 4 then c4 else c5, fun k => if k = 0 then i0 else if k = 1 then i1 else if k = 2 then i2 else if k = 3 then i3 else if k = 4 then i4 else i5), fun k => if k = 0 then comp else if k = 1 then cZ else if k = 2 then cL else cG, ad, ⟨?_, ?_⟩, ?_, ?_, hE⟩
  · intro k q hq
    match k, hq with
    | 0, hq => cases hq; exact k0
    | 1, hq => cases hq; exact k1
    | 2, hq => cases hq; exact k2
    | 3, hq => cases hq; exact k3
    | 4, hq => cases hq; exact k4
    | 5, hq => cases hq; exact k5
    | k + 6, hq => simp [mgCl] at hq
  · intro k q hq
    match k, hq with
    | 0, hq => cases hq; exact ⟨fun n z => ⟨fun k h => (by cases h), kI, f2, oI, f3⟩, f1⟩
    | 1, hq => cases hq; exact ⟨fun n z => ⟨fun k h => (by cases h), kZ, g2, oZ, g3⟩, g1⟩
    | 2, hq => cases hq; exact ⟨fun n z => ⟨fun k h => (by cases h), kL, l2, oL, l3⟩, l1⟩
    | 3, hq => cases hq; exact ⟨fun n z => ⟨fun k h => (by cases h), kG, a2, comp, a3⟩, by show s.vm.findClass ("[" ++ (FieldType.array FieldType.int).toString) = some cG; rw [eG]; exact a4⟩
    | k + 4, hq => simp [mgT] at hq
  · exact ⟨kG, kI, oI, a2, a3, f2, f3, a4, f1'⟩
  · exact ⟨⟨va_Nw.of rfl (hts _ q21), va_Nw.of rfl (hts _ q34), va_Nw.of rfl (hts _ q57), va_Nw.of rfl (hts _ q69)⟩, ⟨va_Nw.of rfl (hts _ q39), va_Nw.of rfl (hts _ q41), va_Nw.of rfl (hts _ q43), va_Nw.of rfl (hts _ q45), va_Nw.of rfl (hts _ q62)⟩, va_Fw.of (hts _ q151) (hts _ q150) (hts _ q156) (hts _ q154) (hts _ q152), va_Fw.of (hts _ q151) (hts _ q150) (hts _ q162) (hts _ q160) (hts _ q158)⟩
end
section
/-! THE PLAIN LAW: what the system and the reference compute goes together; no program in sight -/
set_option maxRecDepth 100000
/-- the guest's machine against the reference's -/
def GR (σ : GS) (τ : MT) : Prop :=
  (∀ k, k < 64 → σ.1 (k / 8) (k % 8) = τ.1 k) ∧ (∀ j, j < 4 → σ.2.1 j = τ.2.1 j) ∧ (∀ j, j < 8 → j < σ.2.2.2.2.1 → σ.2.2.1 ((σ.2.2.2.2.1 - 1 - j) % 8) = τ.2.2.1 j) ∧
  σ.2.2.2.1 = τ.2.2.2.1 ∧ σ.2.2.2.1 < 64 ∧ σ.2.2.2.2.1 = τ.2.2.2.2.1 ∧ (∀ q, q < 8 → τ.2.2.2.2.2.2 q ≤ τ.2.2.2.2.2.1)
theorem putM_eq {M : Nat → Nat → Int32} {real : Nat → Int32} (h : ∀ k, k < 64 → M (k / 8) (k % 8) = real k) (t : Nat) (v : Int32) : ∀ k, k < 64 → putM M t v (k / 8) (k % 8) = upd real t v k := by
  intro k hk
  unfold putM va_up upd
  by_cases e : k = t
  · subst e
    rw [if_pos rfl, if_pos rfl, if_pos rfl]
  · rw [if_neg e]
    by_cases e1 : k / 8 = t / 8
    · rw [if_pos e1]
      rw [if_neg (by omega), ← e1]
      exact h k hk
    · rw [if_neg e1]
      exact h k hk
theorem upd_eq4 {f g : Nat → Int32} (h : ∀ j, j < 4 → f j = g j) (a : Nat) {x y : Int32} (e : x = y) : ∀ j, j < 4 → upd f a x j = upd g a y j := by
  intro j hj
  unfold upd
  by_cases h1 : j = a
  · rw [if_pos h1, if_pos h1, e]
  · rw [if_neg h1, if_neg h1]
    exact h j hj
theorem ring_eq {f g : Nat → Int32} {n : Nat} (h : ∀ j, j < 8 → j < n → f ((n - 1 - j) % 8) = g j) {x y : Int32} (e : x = y) : ∀ j, j < 8 → j < n + 1 → upd f (n % 8) x ((n + 1 - 1 - j) % 8) = upd (shU g 0) 0 y j := by
  intro j h8 hn
  unfold upd shU
  by_cases h0 : j = 0
  · subst h0
    rw [if_pos (by omega), if_pos rfl, e]
  · rw [if_neg (by omega), if_neg h0, if_pos (by omega), ← h (j - 1) (by omega) (by omega)]
    congr 1
    omega
theorem GR_step (wt : Bool) {σ : GS} {τ : MT} (h : GR σ τ) : GR (gst wt σ) (mst τ) := by
  obtain ⟨M, regs, shown, pc, shows, bd⟩ := σ
  obtain ⟨real, reg, told, pc', shows', time, written⟩ := τ
  obtain ⟨h1, h2, h3, h4, h5, h6, h7⟩ := h
  dsimp only at h1 h2 h3 h4 h5 h6 h7
  subst h4
  subst h6
  obtain ⟨w, hw⟩ : ∃ w, w = real pc := ⟨_, rfl⟩
  have hgw : gw (M, regs, shown, pc, shows, bd) = w := by rw [hw]; exact h1 pc h5
  have hmw : mw (real, reg, told, pc, shows, time, written) = w := hw.symm
  have ha := h2 (ga w) (ga_lt w)
  have hb := h2 (gb w) (gb_lt w)
  have ht : gat regs w = gat reg w := by unfold gat; rw [hb]
  have hgo := gop_lt w
  rcases (show gop w = 0 ∨ gop w = 1 ∨ gop w = 2 ∨ gop w = 3 ∨ gop w = 4 ∨ gop w = 5 ∨ gop w = 6 ∨ gop w = 7 by omega) with ho | ho | ho | ho | ho | ho | ho | ho
  · have e1 : gst wt (M, regs, shown, pc, shows, bd) = (M, regs, shown, pc, shows, bd) := by simp only [gst, hgw, ho]
    have e2 : mst (real, reg, told, pc, shows, time, written) = (real, reg, told, pc, shows, time, written) := by simp only [mst, hmw, ho]
    rw [e1, e2]
    exact ⟨h1, h2, h3, rfl, h5, rfl, h7⟩
  · have e1 : gst wt (M, regs, shown, pc, shows, bd) = (M, upd regs (ga w) (nI (gk w)), shown, (pc + 1) % 64, shows, bd) := by simp only [gst, hgw, ho]
    have e2 : mst (real, reg, told, pc, shows, time, written) = (real, upd reg (ga w) (nI (gk w)), told, (pc + 1) % 64, shows, time, written) := by simp only [mst, hmw, ho]
    rw [e1, e2]
    exact ⟨h1, upd_eq4 h2 _ rfl, h3, rfl, Nat.mod_lt _ (by decide), rfl, h7⟩
  · have e1 : gst wt (M, regs, shown, pc, shows, bd) = (M, upd regs (ga w) (M (gat regs w / 8) (gat regs w % 8)), shown, (pc + 1) % 64, shows, bd) := by simp only [gst, hgw, ho]
    have e2 : mst (real, reg, told, pc, shows, time, written) = (real, upd reg (ga w) (real (gat reg w)), told, (pc + 1) % 64, shows, time, written) := by simp only [mst, hmw, ho]
    rw [e1, e2]
    exact ⟨h1, upd_eq4 h2 _ (by rw [ht]; exact h1 _ (gat_lt reg w)), h3, rfl, Nat.mod_lt _ (by decide), rfl, h7⟩
  · obtain ⟨bd', e1⟩ : ∃ bd', gst wt (M, regs, shown, pc, shows, bd) = (putM M (gat regs w) (regs (ga w)), regs, shown, (pc + 1) % 64, shows, bd') := ⟨_, by simp only [gst, hgw, ho]; rfl⟩
    have e2 : mst (real, reg, told, pc, shows, time, written) = (upd real (gat reg w) (reg (ga w)), reg, told, (pc + 1) % 64, shows, time + 1, va_up written (gat reg w / 8) (time + 1)) := by simp only [mst, hmw, ho]
    rw [e1, e2, ht, ha]
    refine ⟨putM_eq h1 _ _, h2, h3, rfl, Nat.mod_lt _ (by decide), rfl, fun q hq => ?_⟩
    show va_up written (gat reg w / 8) (time + 1) q ≤ time + 1
    unfold va_up
    split
    · exact Nat.le_refl _
    · exact Nat.le_succ_of_le (h7 q hq)
  · have e1 : gst wt (M, regs, shown, pc, shows, bd) = (M, upd regs (ga w) (regs (ga w) + regs (gb w)), shown, (pc + 1) % 64, shows, bd) := by simp only [gst, hgw, ho]
    have e2 : mst (real, reg, told, pc, shows, time, written) = (real, upd reg (ga w) (reg (ga w) + reg (gb w)), told, (pc + 1) % 64, shows, time, written) := by simp only [mst, hmw, ho]
    rw [e1, e2]
    exact ⟨h1, upd_eq4 h2 _ (by rw [ha, hb]), h3, rfl, Nat.mod_lt _ (by decide), rfl, h7⟩
  · have e1 : gst wt (M, regs, shown, pc, shows, bd) = (M, upd regs (ga w) (regs (ga w) - regs (gb w)), shown, (pc + 1) % 64, shows, bd) := by simp only [gst, hgw, ho]
    have e2 : mst (real, reg, told, pc, shows, time, written) = (real, upd reg (ga w) (reg (ga w) - reg (gb w)), told, (pc + 1) % 64, shows, time, written) := by simp only [mst, hmw, ho]
    rw [e1, e2]
    exact ⟨h1, upd_eq4 h2 _ (by rw [ha, hb]), h3, rfl, Nat.mod_lt _ (by decide), rfl, h7⟩
  · have e1 : gst wt (M, regs, shown, pc, shows, bd) = (M, regs, shown, (if regs (ga w) = 0 then (pc + 1) % 64 else gk w % 64), shows, bd) := by simp only [gst, hgw, ho]
    have e2 : mst (real, reg, told, pc, shows, time, written) = (real, reg, told, (if reg (ga w) = 0 then (pc + 1) % 64 else gk w % 64), shows, time, written) := by simp only [mst, hmw, ho]
    rw [e1, e2]
    exact ⟨h1, h2, h3, by dsimp only; rw [ha], by dsimp only; split <;> exact Nat.mod_lt _ (by decide), rfl, h7⟩
  · have e1 : gst wt (M, regs, shown, pc, shows, bd) = (M, regs, upd shown (shows % 8) (regs (ga w)), (pc + 1) % 64, shows + 1, bd) := by simp only [gst, hgw, ho]
    have e2 : mst (real, reg, told, pc, shows, time, written) = (real, reg, upd (shU told 0) 0 (reg (ga w)), (pc + 1) % 64, shows + 1, time, written) := by simp only [mst, hmw, ho]
    rw [e1, e2]
    exact ⟨h1, h2, ring_eq h3 ha, rfl, Nat.mod_lt _ (by decide), rfl, h7⟩
theorem GR_iter (wt : Bool) {σ : GS} {τ : MT} (h : GR σ τ) : ∀ n, GR (giter wt n σ) (miter n τ)
  | 0 => h
  | n + 1 => GR_step wt (GR_iter wt h n)
/-- the marks against the reference's times, and the pages that were brought over -/
def MK (σ : GS) (τ : MT) (since : Nat) (bw : Nat → Bool) (N : Nat → Nat → Int32) : Prop :=
  since ≤ τ.2.2.2.2.2.1 ∧ (∀ q, q < 8 → σ.2.2.2.2.2 q = decide (since < τ.2.2.2.2.2.2 q)) ∧ (∀ q, q < 8 → bw q = false → σ.2.2.2.2.2 q = false → ∀ j, j < 8 → N q j = σ.1 q j)
theorem MK_step {σ : GS} {τ : MT} {since : Nat} {bw : Nat → Bool} {N : Nat → Nat → Int32} (hg : GR σ τ) (h : MK σ τ since bw N) : MK (gst true σ) (mst τ) since bw N := by
  obtain ⟨M, regs, shown, pc, shows, bd⟩ := σ
  obtain ⟨real, reg, told, pc', shows', time, written⟩ := τ
  obtain ⟨h1, h2, h3, h4, h5, h6, h7⟩ := hg
  dsimp only at h1 h2 h3 h4 h5 h6 h7
  subst h4
  subst h6
  obtain ⟨w, hw⟩ : ∃ w, w = real pc := ⟨_, rfl⟩
  have hgw : gw (M, regs, shown, pc, shows, bd) = w := by rw [hw]; exact h1 pc h5
  have hmw : mw (real, reg, told, pc, shows, time, written) = w := hw.symm
  have hb := h2 (gb w) (gb_lt w)
  have ht : gat regs w = gat reg w := by unfold gat; rw [hb]
  have hgo := gop_lt w
  obtain ⟨k1, k2, k3⟩ := h
  dsimp only at k1 k2 k3
  by_cases h3o : gop w = 3
  · have e1 : gst true (M, regs, shown, pc, shows, bd) = (putM M (gat regs w) (regs (ga w)), regs, shown, (pc + 1) % 64, shows, va_up bd (gat regs w / 8) true) := by simp only [gst, hgw, h3o, if_true]
    have e2 : mst (real, reg, told, pc, shows, time, written) = (upd real (gat reg w) (reg (ga w)), reg, told, (pc + 1) % 64, shows, time + 1, va_up written (gat reg w / 8) (time + 1)) := by simp only [mst, hmw, h3o]
    rw [e1, e2, ht]
    refine ⟨Nat.le_succ_of_le k1, fun q hq => ?_, fun q hq hbw hbd j hj => ?_⟩
    · show va_up bd (gat reg w / 8) true q = decide (since < va_up written (gat reg w / 8) (time + 1) q)
      unfold va_up
      by_cases e : q = gat reg w / 8
      · rw [if_pos e, if_pos e, decide_eq_true (by omega)]
      · rw [if_neg e, if_neg e]
        exact k2 q hq
    · have hbd : va_up bd (gat reg w / 8) true q = false := hbd
      show N q j = putM M (gat reg w) (regs (ga w)) q j
      unfold va_up at hbd
      by_cases e : q = gat reg w / 8
      · rw [if_pos e] at hbd
        cases hbd
      · rw [if_neg e] at hbd
        unfold putM va_up
        rw [if_neg e]
        exact k3 q hq hbw hbd j hj
  · have e1 : (gst true (M, regs, shown, pc, shows, bd)).1 = M ∧ (gst true (M, regs, shown, pc, shows, bd)).2.2.2.2.2 = bd := by
      rcases (show gop w = 0 ∨ gop w = 1 ∨ gop w = 2 ∨ gop w = 4 ∨ gop w = 5 ∨ gop w = 6 ∨ gop w = 7 by omega) with ho | ho | ho | ho | ho | ho | ho <;> simp only [gst, hgw, ho, and_self]
    have e2 : (mst (real, reg, told, pc, shows, time, written)).2.2.2.2.2.1 = time ∧ (mst (real, reg, told, pc, shows, time, written)).2.2.2.2.2.2 = written := by
      rcases (show gop w = 0 ∨ gop w = 1 ∨ gop w = 2 ∨ gop w = 4 ∨ gop w = 5 ∨ gop w = 6 ∨ gop w = 7 by omega) with ho | ho | ho | ho | ho | ho | ho <;> simp only [mst, hmw, ho, and_self]
    refine ⟨by rw [e2.1]; exact k1, fun q hq => by rw [e1.2, e2.2]; exact k2 q hq, fun q hq hbw hbd j hj => ?_⟩
    rw [e1.2] at hbd
    rw [e1.1]
    exact k3 q hq hbw hbd j hj
theorem MK_iter {σ : GS} {τ : MT} {since : Nat} {bw : Nat → Bool} {N : Nat → Nat → Int32} (hg : GR σ τ) (h : MK σ τ since bw N) : ∀ n, MK (giter true n σ) (miter n τ) since bw N
  | 0 => h
  | n + 1 => MK_step (GR_iter true hg n) (MK_iter hg h n)
theorem mst_time (τ : MT) : τ.2.2.2.2.2.1 ≤ (mst τ).2.2.2.2.2.1 := by
  unfold mst
  split
  all_goals first
    | exact Nat.le_refl _
    | exact Nat.le_succ _
theorem miter_time (τ : MT) : ∀ n, τ.2.2.2.2.2.1 ≤ (miter n τ).2.2.2.2.2.1
  | 0 => Nat.le_refl _
  | n + 1 => Nat.le_trans (miter_time τ n) (mst_time (miter n τ))
theorem cnt_congr {b d : Nat → Bool} : ∀ n, (∀ j, j < n → b j = d j) → cnt b n = cnt d n
  | 0, _ => rfl
  | n + 1, h => by
    show cnt b n + _ = cnt d n + _
    rw [cnt_congr n (fun j hj => h j (Nat.lt_succ_of_lt hj)), h n (Nat.lt_succ_self n)]
theorem cpB_in {b d : Nat → Bool} {n q : Nat} (h : q < n) : cpB b d n q = d q := if_pos h
theorem cpU_in {f g : Nat → Int32} {n q : Nat} (h : q < n) : cpU f g n q = g q := if_pos h
/-- THE INVARIANT between a Migrator's numbers and a MigratorModel's; B bounds the counts -/
def RR (M N : Nat → Nat → Int32) (regs shown : Nat → Int32) (pc shows : Nat) (bd bw : Nat → Bool) (ph : Nat) (real kept copied reg : Nat → Int32) (written : Nat → Nat) (want left : Nat → Bool) (told : Nat → Int32) (pc2 shows2 time since B : Nat) : Prop :=
  (ph ≤ 3 ∧ pc = pc2 ∧ pc < 64 ∧ shows = shows2 ∧ shows ≤ B ∧ time ≤ B ∧ since ≤ time) ∧ (∀ q, q < 8 → written q ≤ time) ∧
  (∀ j, j < 4 → regs j = reg j) ∧ (∀ j, j < 8 → j < shows → shown ((shows - 1 - j) % 8) = told j) ∧ (∀ q, q < 8 → bw q = want q) ∧
  (ph < 3 → (∀ k, k < 64 → M (k / 8) (k % 8) = real k) ∧ ∀ k, k < 64 → N (k / 8) (k % 8) = copied k) ∧
  (ph = 3 → (∀ k, k < 64 → M (k / 8) (k % 8) = kept k) ∧ ∀ k, k < 64 → N (k / 8) (k % 8) = real k) ∧
  (ph = 0 → ∀ q, q < 8 → bd q = false) ∧ (ph = 1 → ∀ q, q < 8 → bd q = decide (since < written q)) ∧ (2 ≤ ph → ∀ q, q < 8 → bd q = left q) ∧
  (ph = 1 → ∀ q, q < 8 → bw q = false → bd q = false → ∀ j, j < 8 → N q j = M q j) ∧ (ph = 2 → ∀ q, q < 8 → bw q = false → ∀ j, j < 8 → N q j = M q j)
section RRL
variable {M N : Nat → Nat → Int32} {regs shown : Nat → Int32} {pc shows : Nat} {bd bw : Nat → Bool} {ph : Nat} {real kept copied reg : Nat → Int32} {written : Nat → Nat} {want left : Nat → Bool} {told : Nat → Int32} {pc2 shows2 time since B : Nat}
theorem RR_0 : RR (fun _ _ => 0) (fun _ _ => 0) (fun _ => 0) (fun _ => 0) 0 0 (fun _ => false) (fun _ => false) 0 (fun _ => 0) (fun _ => 0) (fun _ => 0) (fun _ => 0) (fun _ => 0) (fun _ => false) (fun _ => false) (fun _ => 0) 0 0 0 0 0 :=
  ⟨⟨by decide, rfl, by decide, rfl, by decide, by decide, by decide⟩, fun _ _ => Nat.le_refl _, fun _ _ => rfl, fun _ _ _ => rfl, fun _ _ => rfl, fun _ => ⟨fun _ _ => rfl, fun _ _ => rfl⟩, fun h => absurd h (by decide), fun _ _ _ => rfl, fun h => absurd h (by decide), fun h => absurd h (by decide), fun h => absurd h (by decide), fun h => absurd h (by decide)⟩
theorem RR_mono {B' : Nat} (h : RR M N regs shown pc shows bd bw ph real kept copied reg written want left told pc2 shows2 time since B) (hB : B ≤ B') : RR M N regs shown pc shows bd bw ph real kept copied reg written want left told pc2 shows2 time since B' := by
  obtain ⟨⟨a1, a2, a3, a4, a5, a6, a7⟩, h⟩ := h
  exact ⟨⟨a1, a2, a3, a4, Nat.le_trans a5 hB, Nat.le_trans a6 hB, a7⟩, h⟩
theorem RR_poke (h : RR M N regs shown pc shows bd bw 0 real kept copied reg written want left told pc2 shows2 time since B) (k : Nat) (v : Int32) : RR (putM M k v) N regs shown pc shows bd bw 0 (upd real k v) kept copied reg written want left told pc2 shows2 time since B := by
  obtain ⟨h1, h2, h3, h4, h5, h6, h7, h8, h9, h10, h11, h12⟩ := h
  exact ⟨h1, h2, h3, h4, h5, fun _ => ⟨putM_eq (h6 (by decide)).1 k v, (h6 (by decide)).2⟩, fun q => absurd q (by decide), h8, fun q => absurd q (by decide), fun q => absurd q (by decide), fun q => absurd q (by decide), fun q => absurd q (by decide)⟩
theorem RR_begin (h : RR M N regs shown pc shows bd bw 0 real kept copied reg written want left told pc2 shows2 time since B) : RR M N regs shown pc shows (cpB bd (fun _ => false) 8) (cpB bw (fun _ => true) 8) 1 real kept copied reg written (cpB want (fun _ => true) 8) left told pc2 shows2 time time B := by
  obtain ⟨⟨a1, a2, a3, a4, a5, a6, a7⟩, h2, h3, h4, h5, h6, h7, h8, h9, h10, h11, h12⟩ := h
  refine ⟨⟨by decide, a2, a3, a4, a5, a6, Nat.le_refl _⟩, h2, h3, h4, fun q hq => by rw [cpB_in hq, cpB_in hq], fun _ => h6 (by decide), fun q => absurd q (by decide), fun q => absurd q (by decide), fun _ q hq => ?_, fun q => absurd q (by decide), fun _ q hq hb => ?_, fun q => absurd q (by decide)⟩
  · rw [cpB_in hq, decide_eq_false (Nat.not_lt.mpr (h2 q hq))]
  · rw [cpB_in hq] at hb
    cases hb
theorem RR_GR (h : RR M N regs shown pc shows bd bw ph real kept copied reg written want left told pc2 shows2 time since B) (hph : ph < 3) : GR (M, regs, shown, pc, shows, bd) (real, reg, told, pc2, shows2, time, written) := by
  obtain ⟨⟨a1, a2, a3, a4, a5, a6, a7⟩, h2, h3, h4, h5, h6, h7⟩ := h
  exact ⟨(h6 hph).1, h3, h4, a2, a3, a4, h2⟩
theorem RR_run0 (h : RR M N regs shown pc shows bd bw 0 real kept copied reg written want left told pc2 shows2 time since B) (n : Nat) (hn : n ≤ 1000) :
    RR (giter false n (M, regs, shown, pc, shows, bd)).1 N (giter false n (M, regs, shown, pc, shows, bd)).2.1 (giter false n (M, regs, shown, pc, shows, bd)).2.2.1 (giter false n (M, regs, shown, pc, shows, bd)).2.2.2.1 (giter false n (M, regs, shown, pc, shows, bd)).2.2.2.2.1 bd bw 0
      (miter n (real, reg, told, pc2, shows2, time, written)).1 kept copied (miter n (real, reg, told, pc2, shows2, time, written)).2.1 (miter n (real, reg, told, pc2, shows2, time, written)).2.2.2.2.2.2 want left (miter n (real, reg, told, pc2, shows2, time, written)).2.2.1 (miter n (real, reg, told, pc2, shows2, time, written)).2.2.2.1 (miter n (real, reg, told, pc2, shows2, time, written)).2.2.2.2.1 (miter n (real, reg, told, pc2, shows2, time, written)).2.2.2.2.2.1 since (B + 1000) := by
  have g := GR_iter false (RR_GR h (by decide)) n
  have ht := miter_time (real, reg, told, pc2, shows2, time, written) n
  obtain ⟨⟨a1, a2, a3, a4, a5, a6, a7⟩, h2, h3, h4, h5, h6, h7, h8, h9, h10, h11, h12⟩ := h
  have ok := giter_ok false (M, regs, shown, pc, shows, bd) a3 n
  have ok2 := miter_ok (real, reg, told, pc2, shows2, time, written) (by rw [← a2]; exact a3) n
  obtain ⟨g1, g2, g3, g4, g5, g6, g7⟩ := g
  dsimp only at ok ok2 ht
  exact ⟨⟨by decide, g4, g5, g6, by omega, by omega, by omega⟩, g7, g2, g3, h5, fun _ => ⟨g1, (h6 (by decide)).2⟩, fun q => absurd q (by decide), h8, fun q => absurd q (by decide), fun q => absurd q (by decide), fun q => absurd q (by decide), fun q => absurd q (by decide)⟩
theorem RR_run1 (h : RR M N regs shown pc shows bd bw 1 real kept copied reg written want left told pc2 shows2 time since B) (n : Nat) (hn : n ≤ 1000) :
    RR (giter true n (M, regs, shown, pc, shows, bd)).1 N (giter true n (M, regs, shown, pc, shows, bd)).2.1 (giter true n (M, regs, shown, pc, shows, bd)).2.2.1 (giter true n (M, regs, shown, pc, shows, bd)).2.2.2.1 (giter true n (M, regs, shown, pc, shows, bd)).2.2.2.2.1 (giter true n (M, regs, shown, pc, shows, bd)).2.2.2.2.2 bw 1
      (miter n (real, reg, told, pc2, shows2, time, written)).1 kept copied (miter n (real, reg, told, pc2, shows2, time, written)).2.1 (miter n (real, reg, told, pc2, shows2, time, written)).2.2.2.2.2.2 want left (miter n (real, reg, told, pc2, shows2, time, written)).2.2.1 (miter n (real, reg, told, pc2, shows2, time, written)).2.2.2.1 (miter n (real, reg, told, pc2, shows2, time, written)).2.2.2.2.1 (miter n (real, reg, told, pc2, shows2, time, written)).2.2.2.2.2.1 since (B + 1000) := by
  have g0 := RR_GR h (by decide)
  have g := GR_iter true g0 n
  obtain ⟨⟨a1, a2, a3, a4, a5, a6, a7⟩, h2, h3, h4, h5, h6, h7, h8, h9, h10, h11, h12⟩ := h
  have mk : MK (M, regs, shown, pc, shows, bd) (real, reg, told, pc2, shows2, time, written) since bw N := ⟨a7, h9 rfl, h11 rfl⟩
  obtain ⟨k1, k2, k3⟩ := MK_iter g0 mk n
  have ok := giter_ok true (M, regs, shown, pc, shows, bd) a3 n
  have ok2 := miter_ok (real, reg, told, pc2, shows2, time, written) (by rw [← a2]; exact a3) n
  obtain ⟨g1, g2, g3, g4, g5, g6, g7⟩ := g
  dsimp only at ok ok2
  exact ⟨⟨by decide, g4, g5, g6, by omega, by omega, k1⟩, g7, g2, g3, h5, fun _ => ⟨g1, (h6 (by decide)).2⟩, fun q => absurd q (by decide), fun q => absurd q (by decide), fun _ => k2, fun q => absurd q (by decide), fun _ => k3, fun q => absurd q (by decide)⟩
theorem RR_run3 (h : RR M N regs shown pc shows bd bw 3 real kept copied reg written want left told pc2 shows2 time since B) (n : Nat) (hn : n ≤ 1000) :
    RR M (giter false n (N, regs, shown, pc, shows, bd)).1 (giter false n (N, regs, shown, pc, shows, bd)).2.1 (giter false n (N, regs, shown, pc, shows, bd)).2.2.1 (giter false n (N, regs, shown, pc, shows, bd)).2.2.2.1 (giter false n (N, regs, shown, pc, shows, bd)).2.2.2.2.1 bd bw 3
      (miter n (real, reg, told, pc2, shows2, time, written)).1 kept copied (miter n (real, reg, told, pc2, shows2, time, written)).2.1 (miter n (real, reg, told, pc2, shows2, time, written)).2.2.2.2.2.2 want left (miter n (real, reg, told, pc2, shows2, time, written)).2.2.1 (miter n (real, reg, told, pc2, shows2, time, written)).2.2.2.1 (miter n (real, reg, told, pc2, shows2, time, written)).2.2.2.2.1 (miter n (real, reg, told, pc2, shows2, time, written)).2.2.2.2.2.1 since (B + 1000) := by
  have ht := miter_time (real, reg, told, pc2, shows2, time, written) n
  obtain ⟨⟨a1, a2, a3, a4, a5, a6, a7⟩, h2, h3, h4, h5, h6, h7, h8, h9, h10, h11, h12⟩ := h
  have g := GR_iter false (show GR (N, regs, shown, pc, shows, bd) (real, reg, told, pc2, shows2, time, written) from ⟨(h7 rfl).2, h3, h4, a2, a3, a4, h2⟩) n
  have ok := giter_ok false (N, regs, shown, pc, shows, bd) a3 n
  have ok2 := miter_ok (real, reg, told, pc2, shows2, time, written) (by rw [← a2]; exact a3) n
  obtain ⟨g1, g2, g3, g4, g5, g6, g7⟩ := g
  dsimp only at ok ok2 ht
  exact ⟨⟨by decide, g4, g5, g6, by omega, by omega, by omega⟩, g7, g2, g3, h5, fun q => absurd q (by decide), fun _ => ⟨(h7 rfl).1, g1⟩, fun q => absurd q (by decide), fun q => absurd q (by decide), h10, fun q => absurd q (by decide), fun q => absurd q (by decide)⟩
theorem RR_page (h : RR M N regs shown pc shows bd bw ph real kept copied reg written want left told pc2 shows2 time since B) (hph : ph = 1 ∨ ph = 2) {q : Nat} (hq : q < 8) : RR M (va_up N q (cpU (N q) (M q) 8)) regs shown pc shows bd (va_up bw q false) ph real kept (pgU copied real q 8) reg written (va_up want q false) left told pc2 shows2 time since B := by
  obtain ⟨h1, h2, h3, h4, h5, h6, h7, h8, h9, h10, h11, h12⟩ := h
  have hN : ∀ z, z < 8 → ∀ j, j < 8 → va_up N q (cpU (N q) (M q) 8) z j = if z = q then M z j else N z j := by
    intro z hz j hj
    unfold va_up
    by_cases e : z = q
    · subst e
      rw [if_pos rfl, if_pos rfl, cpU_in hj]
    · rw [if_neg e, if_neg e]
  refine ⟨h1, h2, h3, h4, fun z hz => ?_, fun hp => ⟨(h6 hp).1, fun k hk => ?_⟩, fun hp => by omega, fun hp => by omega, h9, h10, fun hp z hz hb hd j hj => ?_, fun hp z hz hb j hj => ?_⟩
  · unfold va_up
    by_cases e : z = q
    · rw [if_pos e, if_pos e]
    · rw [if_neg e, if_neg e]
      exact h5 z hz
  · rw [hN (k / 8) (by omega) (k % 8) (by omega)]
    unfold pgU
    by_cases e : k / 8 = q
    · rw [if_pos e, if_pos (by omega)]
      exact (h6 hp).1 k hk
    · rw [if_neg e, if_neg (by omega)]
      exact (h6 hp).2 k hk
  · rw [hN z hz j hj]
    by_cases e : z = q
    · rw [if_pos e]
    · rw [if_neg e]
      unfold va_up at hb
      rw [if_neg e] at hb
      exact h11 hp z hz hb hd j hj
  · rw [hN z hz j hj]
    by_cases e : z = q
    · rw [if_pos e]
    · rw [if_neg e]
      unfold va_up at hb
      rw [if_neg e] at hb
      exact h12 hp z hz hb j hj
theorem RR_move (h : RR M N regs shown pc shows bd bw 2 real kept copied reg written want left told pc2 shows2 time since B) (hf : ∀ j, j < 8 → bw j = false) : RR M N regs shown pc shows bd bw 3 real (cpU kept real 64) copied reg written want left told pc2 shows2 time since B := by
  obtain ⟨⟨a1, a2, a3, a4, a5, a6, a7⟩, h2, h3, h4, h5, h6, h7, h8, h9, h10, h11, h12⟩ := h
  refine ⟨⟨by decide, a2, a3, a4, a5, a6, a7⟩, h2, h3, h4, h5, fun q => absurd q (by decide), fun _ => ⟨fun k hk => ?_, fun k hk => ?_⟩, fun q => absurd q (by decide), fun q => absurd q (by decide), fun _ => h10 (by decide), fun q => absurd q (by decide), fun q => absurd q (by decide)⟩
  · rw [cpU_in hk]
    exact (h6 (by decide)).1 k hk
  · rw [h12 rfl (k / 8) (by omega) (hf _ (by omega)) (k % 8) (by omega)]
    exact (h6 (by decide)).1 k hk
theorem RR_stop (h : RR M N regs shown pc shows bd bw 1 real kept copied reg written want left told pc2 shows2 time since B) (hf : ∀ j, j < 8 → bw j = false) : RR M N regs shown pc shows bd (cpB bw bd 8) 2 real kept copied reg written (cpB want (fun z => decide (since < written z)) 8) (cpB left (fun z => decide (since < written z)) 8) told pc2 shows2 time since B := by
  obtain ⟨⟨a1, a2, a3, a4, a5, a6, a7⟩, h2, h3, h4, h5, h6, h7, h8, h9, h10, h11, h12⟩ := h
  refine ⟨⟨by decide, a2, a3, a4, a5, a6, a7⟩, h2, h3, h4, fun q hq => ?_, fun _ => h6 (by decide), fun q => absurd q (by decide), fun q => absurd q (by decide), fun q => absurd q (by decide), fun _ q hq => ?_, fun q => absurd q (by decide), fun _ q hq hb j hj => ?_⟩
  · rw [cpB_in hq, cpB_in hq]
    exact h9 rfl q hq
  · rw [cpB_in hq]
    exact h9 rfl q hq
  · rw [cpB_in hq] at hb
    exact h11 rfl q hq (hf q hq) hb j hj
theorem RR_round (h : RR M N regs shown pc shows bd bw 1 real kept copied reg written want left told pc2 shows2 time since B) (hf : ∀ j, j < 8 → bw j = false) : RR M N regs shown pc shows (cpB bd (fun _ => false) 8) (cpB bw bd 8) 1 real kept copied reg written (cpB want (fun z => decide (since < written z)) 8) (cpB left (fun z => decide (since < written z)) 8) told pc2 shows2 time time B := by
  obtain ⟨⟨a1, a2, a3, a4, a5, a6, a7⟩, h2, h3, h4, h5, h6, h7, h8, h9, h10, h11, h12⟩ := h
  refine ⟨⟨by decide, a2, a3, a4, a5, a6, Nat.le_refl _⟩, h2, h3, h4, fun q hq => ?_, fun _ => h6 (by decide), fun q => absurd q (by decide), fun q => absurd q (by decide), fun _ q hq => ?_, fun q => absurd q (by decide), fun _ q hq hb hd j hj => ?_, fun q => absurd q (by decide)⟩
  · rw [cpB_in hq, cpB_in hq]
    exact h9 rfl q hq
  · rw [cpB_in hq, decide_eq_false (Nat.not_lt.mpr (h2 q hq))]
  · rw [cpB_in hq] at hb
    exact h11 rfl q hq (hf q hq) hb j hj
end RRL
/-- the first of eight, or none -/
theorem first8 (b : Nat → Bool) : (∀ j, j < 8 → b j = false) ∨ ∃ q, q < 8 ∧ b q = true ∧ ∀ j, j < q → b j = false := by
  by_cases h : ∃ q, q < 8 ∧ b q = true
  · obtain ⟨q, ⟨h1, h2⟩, h3⟩ := pk_least (fun q => q < 8 ∧ b q = true) h
    refine Or.inr ⟨q, h1, h2, fun j hj => ?_⟩
    cases hb : b j with
    | false => rfl
    | true => exact absurd ⟨by omega, hb⟩ (h3 j hj)
  · refine Or.inl (fun j hj => ?_)
    cases hb : b j with
    | false => rfl
    | true => exact absurd ⟨j, hj, hb⟩ h
end
section
/-! THE PAIRS: every call of the law, on both sides, by their contracts (written by gen/gen_pairs.py) -/
set_option maxRecDepth 100000
/-- both worlds go together; B bounds the counts -/
def ZZ (ct ad a b : Nat → Nat) (B : Nat) (w1 w2 : va_W) : Prop := ∃ (M N : Nat → Nat → Int32) (regs shown : Nat → Int32) (pc shows : Nat) (bd bw : Nat → Bool) (ph : Nat) (rd th lm : Int32) (real kept copied reg : Nat → Int32) (written : Nat → Nat) (want left : Nat → Bool) (told : Nat → Int32) (pc2 shows2 time since : Nat), RR M N regs shown pc shows bd bw ph real kept copied reg written want left told pc2 shows2 time since B ∧ w1 = wMig ct ad a M N regs shown pc shows bd bw ph rd th lm ∧ w2 = wMod ct b real kept copied reg written want left told pc2 ph rd th lm shows2 time since
/-- one call on both sides: the same answer, and worlds that go together -/
def PR (l : Launch) (D : va_G) (ct ad a b : Nat → Nat) (y1 : MethodName) (c1 : ByteArray) (n1 : Nat) (rm1 : Room) (y2 : MethodName) (c2 : ByteArray) (n2 : Nat) (rm2 : Room) (r : Option FieldType) (As : List Value) (B : Nat) (w1 w2 : va_W) : Prop :=
  ∃ (v : Int32) (w1' w2' : va_W), MI l y1 c1 n1 r rm1 D ct ad (.ref (a 0) :: As) w1 w1' v ∧ MI l y2 c2 n2 r rm2 D ct ad (.ref (b 0) :: As) w2 w2' v ∧ ZZ ct ad a b (B + 1000) w1' w2'
theorem ZZ_mono {ct ad a b : Nat → Nat} {B B' : Nat} {w1 w2 : va_W} (h : ZZ ct ad a b B w1 w2) (hB : B ≤ B') : ZZ ct ad a b B' w1 w2 := by
  obtain ⟨M, N, regs, shown, pc, shows, bd, bw, ph, rd, th, lm, real, kept, copied, reg, written, want, left, told, pc2, shows2, time, since, h, e1, e2⟩ := h
  exact ⟨M, N, regs, shown, pc, shows, bd, bw, ph, rd, th, lm, real, kept, copied, reg, written, want, left, told, pc2, shows2, time, since, RR_mono h hB, e1, e2⟩
/-- into [0, n) or out of it -/
theorem in_or {x : Int32} {n : Nat} (hn : n < 2 ^ 31) : (x.toInt < 0 ∨ (n : Int) ≤ x.toInt) ∨ ∃ k : Nat, k < n ∧ x = nI k := by
  by_cases h : x.toInt < 0 ∨ (n : Int) ≤ x.toInt
  · exact Or.inl h
  · exact Or.inr (nI_of_in hn (by omega) (by omega))
set_option maxHeartbeats 1000000 in
theorem pr_phase (l : Launch) (D : va_G) {ct ad a b : Nat → Nat} {B : Nat} {w1 w2 : va_W} (hz : ZZ ct ad a b B w1 w2) (hB : B ≤ 1000000) : PR l D ct ad a b yX0_phase cX0_phase 1 (rmN 1 30) yX5_phase cX5_phase 1 (rmZ) (some .int) [] B w1 w2 := by
  obtain ⟨M, N, regs, shown, pc, shows, bd, bw, ph, rd, th, lm, real, kept, copied, reg, written, want, left, told, pc2, shows2, time, since, h, rfl, rfl⟩ := id hz
  obtain ⟨⟨a1, a2, a3, a4, a5, a6, a7⟩, h2, h3, h4, h5, h6, h7, h8, h9, h10, h11, h12⟩ := id h
  exact ⟨nI ph, _, _, c_phase l D ct ad a M N regs shown pc shows bd bw ph rd th lm (by omega), d_phase l D ct ad b real kept copied reg written want left told pc2 ph rd th lm shows2 time since, ZZ_mono hz (by omega)⟩
set_option maxHeartbeats 1000000 in
theorem pr_round (l : Launch) (D : va_G) {ct ad a b : Nat → Nat} {B : Nat} {w1 w2 : va_W} (hz : ZZ ct ad a b B w1 w2) (hB : B ≤ 1000000) : PR l D ct ad a b yX0_round cX0_round 1 (rmN 1 30) yX5_round cX5_round 1 (rmZ) (some .int) [] B w1 w2 := by
  obtain ⟨M, N, regs, shown, pc, shows, bd, bw, ph, rd, th, lm, real, kept, copied, reg, written, want, left, told, pc2, shows2, time, since, h, rfl, rfl⟩ := id hz
  obtain ⟨⟨a1, a2, a3, a4, a5, a6, a7⟩, h2, h3, h4, h5, h6, h7, h8, h9, h10, h11, h12⟩ := id h
  exact ⟨rd, _, _, c_round l D ct ad a M N regs shown pc shows bd bw ph rd th lm, d_round l D ct ad b real kept copied reg written want left told pc2 ph rd th lm shows2 time since, ZZ_mono hz (by omega)⟩
set_option maxHeartbeats 1000000 in
theorem pr_pc (l : Launch) (D : va_G) {ct ad a b : Nat → Nat} {B : Nat} {w1 w2 : va_W} (hz : ZZ ct ad a b B w1 w2) (hB : B ≤ 1000000) : PR l D ct ad a b yX0_pc cX0_pc 1 (rmN 1 30) yX5_pc cX5_pc 1 (rmZ) (some .int) [] B w1 w2 := by
  obtain ⟨M, N, regs, shown, pc, shows, bd, bw, ph, rd, th, lm, real, kept, copied, reg, written, want, left, told, pc2, shows2, time, since, h, rfl, rfl⟩ := id hz
  obtain ⟨⟨a1, a2, a3, a4, a5, a6, a7⟩, h2, h3, h4, h5, h6, h7, h8, h9, h10, h11, h12⟩ := id h
  subst a2
  exact ⟨nI pc, _, _, c_pc l D ct ad a M N regs shown pc shows bd bw ph rd th lm, d_pc l D ct ad b real kept copied reg written want left told pc ph rd th lm shows2 time since, ZZ_mono hz (by omega)⟩
set_option maxHeartbeats 1000000 in
theorem pr_shows (l : Launch) (D : va_G) {ct ad a b : Nat → Nat} {B : Nat} {w1 w2 : va_W} (hz : ZZ ct ad a b B w1 w2) (hB : B ≤ 1000000) : PR l D ct ad a b yX0_shows cX0_shows 1 (rmN 1 30) yX5_shows cX5_shows 1 (rmZ) (some .int) [] B w1 w2 := by
  obtain ⟨M, N, regs, shown, pc, shows, bd, bw, ph, rd, th, lm, real, kept, copied, reg, written, want, left, told, pc2, shows2, time, since, h, rfl, rfl⟩ := id hz
  obtain ⟨⟨a1, a2, a3, a4, a5, a6, a7⟩, h2, h3, h4, h5, h6, h7, h8, h9, h10, h11, h12⟩ := id h
  subst a4
  exact ⟨nI shows, _, _, c_shows l D ct ad a M N regs shown pc shows bd bw ph rd th lm, d_shows l D ct ad b real kept copied reg written want left told pc2 ph rd th lm shows time since, ZZ_mono hz (by omega)⟩
set_option maxHeartbeats 1000000 in
theorem pr_dirty (l : Launch) (D : va_G) {ct ad a b : Nat → Nat} {B : Nat} {w1 w2 : va_W} (hz : ZZ ct ad a b B w1 w2) (hB : B ≤ 1000000) (x : Int32) : PR l D ct ad a b yX0_dirty cX0_dirty 2 (rmN 1 30) yX5_dirty cX5_dirty 2 (rmZ) (some .boolean) [.int x] B w1 w2 := by
  obtain ⟨M, N, regs, shown, pc, shows, bd, bw, ph, rd, th, lm, real, kept, copied, reg, written, want, left, told, pc2, shows2, time, since, h, rfl, rfl⟩ := id hz
  obtain ⟨⟨a1, a2, a3, a4, a5, a6, a7⟩, h2, h3, h4, h5, h6, h7, h8, h9, h10, h11, h12⟩ := id h
  rcases in_or (x := x) (n := 8) (by decide) with ho | ⟨q, hq, rfl⟩
  · exact ⟨bi false, _, _, c_dirtyNo l D ct ad a M N regs shown pc shows bd bw ph rd th lm x ho, d_dirty0 l D ct ad b real kept copied reg written want left told pc2 ph rd th lm shows2 time since x a1 (by omega), ZZ_mono hz (by omega)⟩
  · rcases (show ph = 0 ∨ ph = 1 ∨ 2 ≤ ph by omega) with rfl | rfl | hp
    · have hv : MI l yX0_dirty cX0_dirty 2 (some .boolean) (rmN 1 30) D ct ad [.ref (a 0), .int (nI q)] _ _ (bi (bd q)) := c_dirty l D ct ad a M N regs shown pc shows bd bw 0 rd th lm q hq
      rw [h8 rfl q hq] at hv
      exact ⟨bi false, _, _, hv, d_dirty0 l D ct ad b real kept copied reg written want left told pc2 0 rd th lm shows2 time since (nI q) a1 (by omega), ZZ_mono hz (by omega)⟩
    · have hv : MI l yX0_dirty cX0_dirty 2 (some .boolean) (rmN 1 30) D ct ad [.ref (a 0), .int (nI q)] _ _ (bi (bd q)) := c_dirty l D ct ad a M N regs shown pc shows bd bw 1 rd th lm q hq
      rw [h9 rfl q hq] at hv
      have hw := h2 q hq
      exact ⟨bi (decide (since < written q)), _, _, hv, d_dirty1 l D ct ad b real kept copied reg written want left told pc2 rd th lm shows2 time since q hq (by omega) (by omega), ZZ_mono hz (by omega)⟩
    · have hv : MI l yX0_dirty cX0_dirty 2 (some .boolean) (rmN 1 30) D ct ad [.ref (a 0), .int (nI q)] _ _ (bi (bd q)) := c_dirty l D ct ad a M N regs shown pc shows bd bw ph rd th lm q hq
      rw [h10 hp q hq] at hv
      exact ⟨bi (left q), _, _, hv, d_dirty2 l D ct ad b real kept copied reg written want left told pc2 ph rd th lm shows2 time since q hq ⟨hp, a1⟩, ZZ_mono hz (by omega)⟩
set_option maxHeartbeats 1000000 in
theorem pr_waits (l : Launch) (D : va_G) {ct ad a b : Nat → Nat} {B : Nat} {w1 w2 : va_W} (hz : ZZ ct ad a b B w1 w2) (hB : B ≤ 1000000) (x : Int32) : PR l D ct ad a b yX0_waits cX0_waits 2 (rmN 1 30) yX5_waits cX5_waits 2 (rmZ) (some .boolean) [.int x] B w1 w2 := by
  obtain ⟨M, N, regs, shown, pc, shows, bd, bw, ph, rd, th, lm, real, kept, copied, reg, written, want, left, told, pc2, shows2, time, since, h, rfl, rfl⟩ := id hz
  obtain ⟨⟨a1, a2, a3, a4, a5, a6, a7⟩, h2, h3, h4, h5, h6, h7, h8, h9, h10, h11, h12⟩ := id h
  rcases in_or (x := x) (n := 8) (by decide) with ho | ⟨q, hq, rfl⟩
  · exact ⟨bi false, _, _, c_waitsNo l D ct ad a M N regs shown pc shows bd bw ph rd th lm x ho, d_waitsNo l D ct ad b real kept copied reg written want left told pc2 ph rd th lm shows2 time since x ho, ZZ_mono hz (by omega)⟩
  · have hv : MI l yX0_waits cX0_waits 2 (some .boolean) (rmN 1 30) D ct ad [.ref (a 0), .int (nI q)] _ _ (bi (bw q)) := c_waits l D ct ad a M N regs shown pc shows bd bw ph rd th lm q hq
    rw [h5 q hq] at hv
    exact ⟨bi (want q), _, _, hv, d_waits l D ct ad b real kept copied reg written want left told pc2 ph rd th lm shows2 time since q hq, ZZ_mono hz (by omega)⟩
set_option maxHeartbeats 1000000 in
theorem pr_source (l : Launch) (D : va_G) {ct ad a b : Nat → Nat} {B : Nat} {w1 w2 : va_W} (hz : ZZ ct ad a b B w1 w2) (hB : B ≤ 1000000) (x : Int32) : PR l D ct ad a b yX0_source cX0_source 2 (rmN 1 30) yX5_source cX5_source 2 (rmZ) (some .int) [.int x] B w1 w2 := by
  obtain ⟨M, N, regs, shown, pc, shows, bd, bw, ph, rd, th, lm, real, kept, copied, reg, written, want, left, told, pc2, shows2, time, since, h, rfl, rfl⟩ := id hz
  obtain ⟨⟨a1, a2, a3, a4, a5, a6, a7⟩, h2, h3, h4, h5, h6, h7, h8, h9, h10, h11, h12⟩ := id h
  rcases in_or (x := x) (n := 64) (by decide) with ho | ⟨k, hk, rfl⟩
  · exact ⟨nI 0, _, _, c_sourceNo l D ct ad a M N regs shown pc shows bd bw ph rd th lm x ho, d_sourceNo l D ct ad b real kept copied reg written want left told pc2 ph rd th lm shows2 time since x ho, ZZ_mono hz (by omega)⟩
  · rcases (show ph < 3 ∨ ph = 3 by omega) with hp | rfl
    · have hv : MI l yX0_source cX0_source 2 (some .int) (rmN 1 30) D ct ad [.ref (a 0), .int (nI k)] _ _ (M (k / 8) (k % 8)) := c_source l D ct ad a M N regs shown pc shows bd bw ph rd th lm k hk
      rw [(h6 hp).1 k hk] at hv
      exact ⟨real k, _, _, hv, d_source l D ct ad b real kept copied reg written want left told pc2 ph rd th lm shows2 time since k hk hp, ZZ_mono hz (by omega)⟩
    · have hv : MI l yX0_source cX0_source 2 (some .int) (rmN 1 30) D ct ad [.ref (a 0), .int (nI k)] _ _ (M (k / 8) (k % 8)) := c_source l D ct ad a M N regs shown pc shows bd bw 3 rd th lm k hk
      rw [(h7 rfl).1 k hk] at hv
      exact ⟨kept k, _, _, hv, d_source3 l D ct ad b real kept copied reg written want left told pc2 rd th lm shows2 time since k hk, ZZ_mono hz (by omega)⟩
set_option maxHeartbeats 1000000 in
theorem pr_destination (l : Launch) (D : va_G) {ct ad a b : Nat → Nat} {B : Nat} {w1 w2 : va_W} (hz : ZZ ct ad a b B w1 w2) (hB : B ≤ 1000000) (x : Int32) : PR l D ct ad a b yX0_destination cX0_destination 2 (rmN 1 30) yX5_destination cX5_destination 2 (rmZ) (some .int) [.int x] B w1 w2 := by
  obtain ⟨M, N, regs, shown, pc, shows, bd, bw, ph, rd, th, lm, real, kept, copied, reg, written, want, left, told, pc2, shows2, time, since, h, rfl, rfl⟩ := id hz
  obtain ⟨⟨a1, a2, a3, a4, a5, a6, a7⟩, h2, h3, h4, h5, h6, h7, h8, h9, h10, h11, h12⟩ := id h
  rcases in_or (x := x) (n := 64) (by decide) with ho | ⟨k, hk, rfl⟩
  · exact ⟨nI 0, _, _, c_destinationNo l D ct ad a M N regs shown pc shows bd bw ph rd th lm x ho, d_destinationNo l D ct ad b real kept copied reg written want left told pc2 ph rd th lm shows2 time since x ho, ZZ_mono hz (by omega)⟩
  · rcases (show ph < 3 ∨ ph = 3 by omega) with hp | rfl
    · have hv : MI l yX0_destination cX0_destination 2 (some .int) (rmN 1 30) D ct ad [.ref (a 0), .int (nI k)] _ _ (N (k / 8) (k % 8)) := c_destination l D ct ad a M N regs shown pc shows bd bw ph rd th lm k hk
      rw [(h6 hp).2 k hk] at hv
      exact ⟨copied k, _, _, hv, d_destination l D ct ad b real kept copied reg written want left told pc2 ph rd th lm shows2 time since k hk hp, ZZ_mono hz (by omega)⟩
    · have hv : MI l yX0_destination cX0_destination 2 (some .int) (rmN 1 30) D ct ad [.ref (a 0), .int (nI k)] _ _ (N (k / 8) (k % 8)) := c_destination l D ct ad a M N regs shown pc shows bd bw 3 rd th lm k hk
      rw [(h7 rfl).2 k hk] at hv
      exact ⟨real k, _, _, hv, d_destination3 l D ct ad b real kept copied reg written want left told pc2 rd th lm shows2 time since k hk, ZZ_mono hz (by omega)⟩
set_option maxHeartbeats 1000000 in
theorem pr_register (l : Launch) (D : va_G) {ct ad a b : Nat → Nat} {B : Nat} {w1 w2 : va_W} (hz : ZZ ct ad a b B w1 w2) (hB : B ≤ 1000000) (x : Int32) : PR l D ct ad a b yX0_register cX0_register 2 (rmN 1 30) yX5_register cX5_register 2 (rmZ) (some .int) [.int x] B w1 w2 := by
  obtain ⟨M, N, regs, shown, pc, shows, bd, bw, ph, rd, th, lm, real, kept, copied, reg, written, want, left, told, pc2, shows2, time, since, h, rfl, rfl⟩ := id hz
  obtain ⟨⟨a1, a2, a3, a4, a5, a6, a7⟩, h2, h3, h4, h5, h6, h7, h8, h9, h10, h11, h12⟩ := id h
  rcases in_or (x := x) (n := 4) (by decide) with ho | ⟨k, hk, rfl⟩
  · exact ⟨nI 0, _, _, c_registerNo l D ct ad a M N regs shown pc shows bd bw ph rd th lm x ho, d_registerNo l D ct ad b real kept copied reg written want left told pc2 ph rd th lm shows2 time since x ho, ZZ_mono hz (by omega)⟩
  · have hv : MI l yX0_register cX0_register 2 (some .int) (rmN 1 30) D ct ad [.ref (a 0), .int (nI k)] _ _ (regs k) := c_register l D ct ad a M N regs shown pc shows bd bw ph rd th lm k hk
    rw [h3 k hk] at hv
    exact ⟨reg k, _, _, hv, d_register l D ct ad b real kept copied reg written want left told pc2 ph rd th lm shows2 time since k hk, ZZ_mono hz (by omega)⟩
set_option maxHeartbeats 1000000 in
theorem pr_shown (l : Launch) (D : va_G) {ct ad a b : Nat → Nat} {B : Nat} {w1 w2 : va_W} (hz : ZZ ct ad a b B w1 w2) (hB : B ≤ 1000000) (x : Int32) : PR l D ct ad a b yX0_shown cX0_shown 2 (rmN 1 30) yX5_shown cX5_shown 2 (rmZ) (some .int) [.int x] B w1 w2 := by
  obtain ⟨M, N, regs, shown, pc, shows, bd, bw, ph, rd, th, lm, real, kept, copied, reg, written, want, left, told, pc2, shows2, time, since, h, rfl, rfl⟩ := id hz
  obtain ⟨⟨a1, a2, a3, a4, a5, a6, a7⟩, h2, h3, h4, h5, h6, h7, h8, h9, h10, h11, h12⟩ := id h
  subst a4
  rcases in_or (x := x) (n := 8) (by decide) with ho | ⟨k, hk, rfl⟩
  · exact ⟨nI 0, _, _, c_shownNo l D ct ad a M N regs shown pc shows bd bw ph rd th lm x (by omega) (by omega), d_shownNo l D ct ad b real kept copied reg written want left told pc2 ph rd th lm shows time since x (by omega) (by omega), ZZ_mono hz (by omega)⟩
  · by_cases hks : k < shows
    · have hv : MI l yX0_shown cX0_shown 2 (some .int) (rmN 1 30) D ct ad [.ref (a 0), .int (nI k)] _ _ (shown ((shows - 1 - k) % 8)) := c_shown l D ct ad a M N regs shown pc shows bd bw ph rd th lm k hk hks (by omega)
      rw [h4 k hk hks] at hv
      exact ⟨told k, _, _, hv, d_shown l D ct ad b real kept copied reg written want left told pc2 ph rd th lm shows time since k hk hks (by omega), ZZ_mono hz (by omega)⟩
    · have hi : (nI k).toInt = (k : Int) := nI_toInt (by omega)
      exact ⟨nI 0, _, _, c_shownNo l D ct ad a M N regs shown pc shows bd bw ph rd th lm (nI k) (by omega) (by omega), d_shownNo l D ct ad b real kept copied reg written want left told pc2 ph rd th lm shows time since (nI k) (by omega) (by omega), ZZ_mono hz (by omega)⟩
set_option maxHeartbeats 1000000 in
theorem pr_poke (l : Launch) (D : va_G) {ct ad a b : Nat → Nat} {B : Nat} {w1 w2 : va_W} (hz : ZZ ct ad a b B w1 w2) (hB : B ≤ 1000000) (x v : Int32) : PR l D ct ad a b yX0_poke cX0_poke 3 (rmN 1 30) yX5_poke cX5_poke 3 (rmZ) (some .boolean) [.int x, .int v] B w1 w2 := by
  obtain ⟨M, N, regs, shown, pc, shows, bd, bw, ph, rd, th, lm, real, kept, copied, reg, written, want, left, told, pc2, shows2, time, since, h, rfl, rfl⟩ := id hz
  obtain ⟨⟨a1, a2, a3, a4, a5, a6, a7⟩, h2, h3, h4, h5, h6, h7, h8, h9, h10, h11, h12⟩ := id h
  rcases in_or (x := x) (n := 64) (by decide) with ho | ⟨k, hk, rfl⟩
  · exact ⟨nI 0, _, _, c_pokeNo l D ct ad a M N regs shown pc shows bd bw ph rd th lm x v ho, d_pokeNo l D ct ad b real kept copied reg written want left told pc2 ph rd th lm shows2 time since x v a1 (by omega), ZZ_mono hz (by omega)⟩
  · rcases (show ph = 0 ∨ 0 < ph by omega) with rfl | hp
    · exact ⟨nI 1, _, _, c_poke l D ct ad a M N regs shown pc shows bd bw rd th lm k hk v, d_poke l D ct ad b real kept copied reg written want left told pc2 rd th lm shows2 time since k hk v, _, N, regs, shown, pc, shows, bd, bw, 0, rd, th, lm, _, kept, copied, reg, written, want, left, told, pc2, shows2, time, since, RR_mono (RR_poke h k v) (by omega), rfl, rfl⟩
    · exact ⟨nI 0, _, _, c_pokeAway l D ct ad a M N regs shown pc shows bd bw ph rd th lm k hk v ⟨hp, by omega⟩, d_pokeNo l D ct ad b real kept copied reg written want left told pc2 ph rd th lm shows2 time since (nI k) v a1 (by omega), ZZ_mono hz (by omega)⟩
set_option maxHeartbeats 1000000 in
theorem pr_begin (l : Launch) (D : va_G) {ct ad a b : Nat → Nat} {B : Nat} {w1 w2 : va_W} (hz : ZZ ct ad a b B w1 w2) (hB : B ≤ 1000000) (t n : Int32) : PR l D ct ad a b yX0_begin cX0_begin 3 (rmN 1 30) yX5_begin cX5_begin 4 (rmZ) (some .boolean) [.int t, .int n] B w1 w2 := by
  obtain ⟨M, N, regs, shown, pc, shows, bd, bw, ph, rd, th, lm, real, kept, copied, reg, written, want, left, told, pc2, shows2, time, since, h, rfl, rfl⟩ := id hz
  obtain ⟨⟨a1, a2, a3, a4, a5, a6, a7⟩, h2, h3, h4, h5, h6, h7, h8, h9, h10, h11, h12⟩ := id h
  by_cases ho : t.toInt < 0 ∨ 8 < t.toInt ∨ n.toInt < 1 ∨ 20 < n.toInt ∨ ph ≠ 0
  · exact ⟨nI 0, _, _, c_beginNo l D ct ad a M N regs shown pc shows bd bw ph rd th lm t n a1 ho, d_beginNo l D ct ad b real kept copied reg written want left told pc2 ph rd th lm shows2 time since t n a1 ho, ZZ_mono hz (by omega)⟩
  · obtain rfl : ph = 0 := by omega
    exact ⟨nI 1, _, _, c_begin l D ct ad a M N regs shown pc shows bd bw rd th lm t n ⟨by omega, by omega⟩ ⟨by omega, by omega⟩, d_begin l D ct ad b real kept copied reg written want left told pc2 rd th lm shows2 time since t n ⟨by omega, by omega⟩ ⟨by omega, by omega⟩, M, N, regs, shown, pc, shows, _, _, 1, nI 1, t, n, real, kept, copied, reg, written, _, left, told, pc2, shows2, time, time, RR_mono (RR_begin h) (by omega), rfl, rfl⟩
set_option maxHeartbeats 1000000 in
theorem pr_run (l : Launch) (D : va_G) {ct ad a b : Nat → Nat} {B : Nat} {w1 w2 : va_W} (hz : ZZ ct ad a b B w1 w2) (hB : B ≤ 1000000) (x : Int32) : PR l D ct ad a b yX0_run cX0_run 5 (rmN 2 60) yX5_run cX5_run 3 (rmN 1 30) (some .int) [.int x] B w1 w2 := by
  obtain ⟨M, N, regs, shown, pc, shows, bd, bw, ph, rd, th, lm, real, kept, copied, reg, written, want, left, told, pc2, shows2, time, since, h, rfl, rfl⟩ := id hz
  obtain ⟨⟨a1, a2, a3, a4, a5, a6, a7⟩, h2, h3, h4, h5, h6, h7, h8, h9, h10, h11, h12⟩ := id h
  by_cases ho : x.toInt < 0 ∨ 1000 < x.toInt ∨ ph = 2
  · exact ⟨nI 0, _, _, c_runNo l D ct ad a M N regs shown pc shows bd bw ph rd th lm x ho, d_runNo l D ct ad b real kept copied reg written want left told pc2 ph rd th lm shows2 time since x a1 ho, ZZ_mono hz (by omega)⟩
  · obtain ⟨n, hn, rfl⟩ : ∃ n : Nat, n < 1001 ∧ x = nI n := nI_of_in (by decide) (by omega) (by omega)
    rcases (show ph = 0 ∨ ph = 1 ∨ ph = 3 by omega) with rfl | rfl | rfl
    · exact ⟨nI n, _, _, c_run0 l D ct ad a (M, regs, shown, pc, shows, bd) N bd bw rd th lm n (by omega) a3 (by show shows < _; omega), d_run l D ct ad b (real, reg, told, pc2, shows2, time, written) kept copied want left 0 rd th lm since n (by omega) (by decide) (by show pc2 < 64; omega), (giter false n (M, regs, shown, pc, shows, bd)).1, N, (giter false n (M, regs, shown, pc, shows, bd)).2.1, (giter false n (M, regs, shown, pc, shows, bd)).2.2.1, (giter false n (M, regs, shown, pc, shows, bd)).2.2.2.1, (giter false n (M, regs, shown, pc, shows, bd)).2.2.2.2.1, bd, bw, 0, rd, th, lm, (miter n (real, reg, told, pc2, shows2, time, written)).1, kept, copied, (miter n (real, reg, told, pc2, shows2, time, written)).2.1, (miter n (real, reg, told, pc2, shows2, time, written)).2.2.2.2.2.2, want, left, (miter n (real, reg, told, pc2, shows2, time, written)).2.2.1, (miter n (real, reg, told, pc2, shows2, time, written)).2.2.2.1, (miter n (real, reg, told, pc2, shows2, time, written)).2.2.2.2.1, (miter n (real, reg, told, pc2, shows2, time, written)).2.2.2.2.2.1, since, RR_run0 h n (by omega), rfl, rfl⟩
    · exact ⟨nI n, _, _, c_run1 l D ct ad a (M, regs, shown, pc, shows, bd) N bw rd th lm n (by omega) a3 (by show shows < _; omega), d_run l D ct ad b (real, reg, told, pc2, shows2, time, written) kept copied want left 1 rd th lm since n (by omega) (by decide) (by show pc2 < 64; omega), (giter true n (M, regs, shown, pc, shows, bd)).1, N, (giter true n (M, regs, shown, pc, shows, bd)).2.1, (giter true n (M, regs, shown, pc, shows, bd)).2.2.1, (giter true n (M, regs, shown, pc, shows, bd)).2.2.2.1, (giter true n (M, regs, shown, pc, shows, bd)).2.2.2.2.1, (giter true n (M, regs, shown, pc, shows, bd)).2.2.2.2.2, bw, 1, rd, th, lm, (miter n (real, reg, told, pc2, shows2, time, written)).1, kept, copied, (miter n (real, reg, told, pc2, shows2, time, written)).2.1, (miter n (real, reg, told, pc2, shows2, time, written)).2.2.2.2.2.2, want, left, (miter n (real, reg, told, pc2, shows2, time, written)).2.2.1, (miter n (real, reg, told, pc2, shows2, time, written)).2.2.2.1, (miter n (real, reg, told, pc2, shows2, time, written)).2.2.2.2.1, (miter n (real, reg, told, pc2, shows2, time, written)).2.2.2.2.2.1, since, RR_run1 h n (by omega), rfl, rfl⟩
    · exact ⟨nI n, _, _, c_run3 l D ct ad a (N, regs, shown, pc, shows, bd) M bd bw rd th lm n (by omega) a3 (by show shows < _; omega), d_run l D ct ad b (real, reg, told, pc2, shows2, time, written) kept copied want left 3 rd th lm since n (by omega) (by decide) (by show pc2 < 64; omega), M, (giter false n (N, regs, shown, pc, shows, bd)).1, (giter false n (N, regs, shown, pc, shows, bd)).2.1, (giter false n (N, regs, shown, pc, shows, bd)).2.2.1, (giter false n (N, regs, shown, pc, shows, bd)).2.2.2.1, (giter false n (N, regs, shown, pc, shows, bd)).2.2.2.2.1, bd, bw, 3, rd, th, lm, (miter n (real, reg, told, pc2, shows2, time, written)).1, kept, copied, (miter n (real, reg, told, pc2, shows2, time, written)).2.1, (miter n (real, reg, told, pc2, shows2, time, written)).2.2.2.2.2.2, want, left, (miter n (real, reg, told, pc2, shows2, time, written)).2.2.1, (miter n (real, reg, told, pc2, shows2, time, written)).2.2.2.1, (miter n (real, reg, told, pc2, shows2, time, written)).2.2.2.2.1, (miter n (real, reg, told, pc2, shows2, time, written)).2.2.2.2.2.1, since, RR_run3 h n (by omega), rfl, rfl⟩
set_option maxHeartbeats 1000000 in
theorem pr_copy (l : Launch) (D : va_G) {ct ad a b : Nat → Nat} {B : Nat} {w1 w2 : va_W} (hz : ZZ ct ad a b B w1 w2) (hB : B ≤ 1000000) : PR l D ct ad a b yX0_copy cX0_copy 2 (rmN 1 30) yX5_copy cX5_copy 3 (rmN 1 30) (some .int) [] B w1 w2 := by
  obtain ⟨M, N, regs, shown, pc, shows, bd, bw, ph, rd, th, lm, real, kept, copied, reg, written, want, left, told, pc2, shows2, time, since, h, rfl, rfl⟩ := id hz
  obtain ⟨⟨a1, a2, a3, a4, a5, a6, a7⟩, h2, h3, h4, h5, h6, h7, h8, h9, h10, h11, h12⟩ := id h
  rcases (show ph = 0 ∨ ph = 3 ∨ ph = 1 ∨ ph = 2 by omega) with rfl | rfl | hp
  · exact ⟨-1, _, _, c_copy0 l D ct ad a M N regs shown pc shows bd bw rd th lm, d_copyNo l D ct ad b real kept copied reg written want left told pc2 0 rd th lm shows2 time since (Or.inl rfl), ZZ_mono hz (by omega)⟩
  · exact ⟨-1, _, _, c_copy3 l D ct ad a M N regs shown pc shows bd bw rd th lm, d_copyNo l D ct ad b real kept copied reg written want left told pc2 3 rd th lm shows2 time since (Or.inr rfl), ZZ_mono hz (by omega)⟩
  · rcases first8 bw with hf | ⟨q, hq, ht, hf⟩
    · have hf2 : ∀ j, j < 8 → want j = false := fun j hj => by rw [← h5 j hj]; exact hf j hj
      rcases hp with rfl | rfl
      · have hc : cnt bd 8 = cnt (fun z => decide (since < written z)) 8 := cnt_congr 8 (fun j hj => h9 rfl j hj)
        have hw : ∀ j, j < 8 → written j < 2 ^ 31 := fun j hj => by have := h2 j hj; omega
        by_cases hst : nI (cnt bd 8) ≤ th ∨ rd = lm
        · exact ⟨nI 33, _, _, c_copyStop l D ct ad a M N regs shown pc shows bd bw rd th lm hf hst, d_copyStop l D ct ad b real kept copied reg written want left told pc2 rd th lm shows2 time since hf2 hw (by omega) (by rw [← hc]; exact hst), M, N, regs, shown, pc, shows, bd, _, 2, rd, th, lm, real, kept, copied, reg, written, _, _, told, pc2, shows2, time, since, RR_mono (RR_stop h hf) (by omega), rfl, rfl⟩
        · have hst' : ¬ nI (cnt bd 8) ≤ th ∧ ¬ rd = lm := ⟨fun q => hst (Or.inl q), fun q => hst (Or.inr q)⟩
          exact ⟨nI 32, _, _, c_copyRound l D ct ad a M N regs shown pc shows bd bw rd th lm hf hst', d_copyRound l D ct ad b real kept copied reg written want left told pc2 rd th lm shows2 time since hf2 hw (by omega) (by rw [← hc]; exact hst'), M, N, regs, shown, pc, shows, _, _, 1, (rd + nI 1), th, lm, real, kept, copied, reg, written, _, _, told, pc2, shows2, time, time, RR_mono (RR_round h hf) (by omega), rfl, rfl⟩
      · exact ⟨nI 34, _, _, c_copyMove l D ct ad a M N regs shown pc shows bd bw rd th lm hf, d_copyMove l D ct ad b real kept copied reg written want left told pc2 rd th lm shows2 time since hf2, M, N, regs, shown, pc, shows, bd, bw, 3, rd, th, lm, real, _, copied, reg, written, want, left, told, pc2, shows2, time, since, RR_mono (RR_move h hf) (by omega), rfl, rfl⟩
    · exact ⟨nI q, _, _, c_copyPage l D ct ad a M N regs shown pc shows bd bw ph rd th lm hp q hq ht hf, d_copyPage l D ct ad b real kept copied reg written want left told pc2 ph rd th lm shows2 time since hp q hq (by rw [← h5 q hq]; exact ht) (fun j hj => by rw [← h5 j (by omega)]; exact hf j hj), M, _, regs, shown, pc, shows, bd, _, ph, rd, th, lm, real, kept, _, reg, written, _, left, told, pc2, shows2, time, since, RR_mono (RR_page h hp hq) (by omega), rfl, rfl⟩
end
section
/-! THE LAW: its frame (rows of kit/laws/SKELETON.whole, which this part began as), a cell of the script -/
set_option maxRecDepth 100000
/-! THE CLAIM OUT OF ONE WALK OF THE LAW'S BODY. Your part is whole_start (and what it stands on); all else here is the same for every law, but numbers. -/
def R_law : String := "MigratorLaw"
def lw_P (b : Addr) (xs : List Int32) (args : Array Value) (s : State) : Prop := args = #[.ref b] ∧ s.IntsAt b xs ∧ xs.length ≤ 192 ∧ (Jvm.Cond.and given_1 narrow_1).before args s = true
def lw_Q (_ : Array Value) (s : State) (o : Outcome) (t : State) : Prop := o = .returned (some (.int 1)) ∧ Framed s o t [] 644546 7168611
def lw_Z (below : List Frame) (a : Array Value) (s : State) : State → Prop := fun t => ∃ o, t.status = .running ∧ Ended t below o ∧ lw_Q a s o t
/-- the law's own end, with 1 on the stack, nothing written that was there before, its room as the claim has it -/
theorem lw_ret {p : Program} {l : Launch} {e : Env} {s : State} {m : MethodId} {below : List Frame} {meth : Method} {c : Code} {b : Nat} (hx : p.tables.exec = Jvm.exec) (hb : c.code = code) (hr : meth.sig.returnType = ret) (hlocks : meth.locks = false) {pc : Nat} {H : Heap} {ls : Array Slot} (hdg : decode code pc = .ok (.ireturn, 1)) : W p l e room_1 s m #[Value.ref b] below meth c H [] 644546 7168611 (lw_Z below #[Value.ref b] s) (F0 m pc ls [.int 1]) := by
  intro T hT X
  obtain ⟨fs, hret, hrun, hended, hW, hframe⟩ := X.leave (v := some (.int 1)) (hlocks := hlocks) (fun h => by rw [hr] at h; cases h)
  have hmeth' : T.vm.method? m = some meth := X.method'
  refine ⟨T.setFrames fs, ?_, .returned (some (.int 1)), hrun, hended, rfl, ⟨_, rfl⟩, hW, hframe⟩
  jvm_step X.here [X.here.top, hx, hb, hdg, hmeth', hr, ret, narrow_b1]
  (try refine ⟨rfl, ?_⟩); (try refine ⟨rfl, ?_⟩)
  first | (intro acts; rw [hret _ acts rfl rfl rfl]) | rw [hret _ _ rfl rfl rfl]
  exact Steps.refl _
/-- what holds at the law's entry: the machine, the code, the tables' words (any of lw_tbl by 'hts w (by decide +kernel)'), the script of L ints xs at the cell b, what the Statement gives of the start (any of its parts by flat_of_before) -/
def lw_At (p : Program) (s : State) (m : MethodId) (meth : Method) (c : Code) (b L : Nat) (xs : Nat → Int32) : Prop :=
  p.tables.exec = Jvm.exec ∧ c.code = code ∧ meth.sig.returnType = ret ∧ c.maxLocals = 4 ∧ s.vm.findClass R_law = some m.cls ∧ (∀ w ∈ lw_tbl, w.before #[Value.ref b] s = true) ∧ va_X b L xs s s.heap ∧ b < s.heap.size ∧ meth.locks = false ∧ (Jvm.Cond.and given_1 narrow_1).before #[Value.ref b] s = true
theorem lw_sld {p : Program} {l : Launch} {e : Env} {R : Room} {s : State} {m : MethodId} {args : Array Value} {below : List Frame} {meth : Method} {c : Code} {H : Heap} {locs : List Loc} {cells slots : Nat} {Q : State → Prop} {cc : ByteArray} {pc : Nat} {ls : Array Slot} {rest : List Value} {A : Nat → Prop} {H0 : Heap} (hx : p.tables.exec = Jvm.exec) (hb : c.code = cc) {b L : Nat} {xs : Nat → Int32} (hX : va_X b L xs s H0) (hbl : b < H0.size) (hbA : ¬ A b) (hS : va_S A H0 H locs) {i : Nat} (hi : i < L) (hL : L < 2 ^ 31) (hdg : decode cc pc = .ok (.iaload, 1))
    (kk : W p l e R s m args below meth c H locs cells slots Q (F0 m (pc + 1) ls (.int (xs i) :: rest))) : W p l e R s m args below meth c H locs cells slots Q (F0 m pc ls (.int (nI i) :: .ref b :: rest)) := by
  refine va_sld hx hb hX hbl hbA hS (vp_in_nI hi hL) hdg ?_
  rw [nI_clamp (by omega)]
  exact kk
end
section
/-! THE LAW's CASES (written by gen/gen_law.py) -/
set_option maxRecDepth 100000
set_option maxHeartbeats 4000000 in
set_option maxRecDepth 100000 in
/-- case 0: poke -/
theorem lo_poke {p : Program} {l : Launch} {e : Env} {s : State} {m : MethodId} {below : List Frame} {meth : Method} {c : Code} {D : va_G} {ct ad a b : Nat → Nat} {b0 L : Nat} {xs : Nat → Int32} (hL : L ≤ 192) (C0 : lw_At p s m meth c b0 L xs) (hC : mg_C D ct ad (fun q : Nat => s.heap.size ≤ q) s s.heap) {i : Nat} (hi : i + 3 ≤ L) {B : Nat} (hB : B ≤ 1000000) {w1 w2 : va_W} (hz : ZZ ct ad a b B w1 w2) {H : Heap} {locs : List Loc} (hP : va_P D mgCl (w1 ++ w2) H) (hD : va_D (fun q : Nat => s.heap.size ≤ q) (w1 ++ w2)) (hS : va_S (fun q : Nat => s.heap.size ≤ q) s.heap H locs) {ls : Array Slot} (hl : lv_has ls 4 [(0, .ref b0), (1, .ref (a 0)), (2, .ref (b 0)), (3, .int (nI i))])
    (kk : ∀ (w1 w2 : va_W) (H : Heap) (locs : List Loc), ZZ ct ad a b (B + 1000) w1 w2 → va_P D mgCl (w1 ++ w2) H → va_D (fun q : Nat => s.heap.size ≤ q) (w1 ++ w2) → va_S (fun q : Nat => s.heap.size ≤ q) s.heap H locs → W p l e room_1 s m #[Value.ref b0] below meth c H locs 38 434 (lw_Z below #[Value.ref b0] s) (F0 m 396 ls [])) : W p l e room_1 s m #[Value.ref b0] below meth c H locs 38 434 (lw_Z below #[Value.ref b0] s) (F0 m 104 ls []) := by
  obtain ⟨hx, hb, hr, hml, hown, hts0, hX, hbl, hlocks, hgv⟩ := id C0
  have hts : ∀ w ∈ lw_all, w.before #[Value.ref b0] s = true := fun w h => hts0 w (lw_all_tbl h)
  have hown : s.vm.findClass "MigratorLaw" = some m.cls := hown
  have hA : ∀ q : Nat, s.heap.size ≤ q → (fun q : Nat => s.heap.size ≤ q) q := fun _ h => h
  have hbA : ¬ (fun q : Nat => s.heap.size ≤ q) b0 := Nat.not_le.mpr hbl
  obtain ⟨v, u1, u2, m1, m2, hz'⟩ := pr_poke l D hz hB (xs (i + 1)) (xs (i + 2))
  obtain ⟨M, N, regs, shown, pc, shows, bd, bw, ph, rd, th, lm, real, kept, copied, reg, written, want, left, told, pc2, shows2, time, since, -, rfl, rfl⟩ := hz
  obtain ⟨M', N', regs', shown', pc', shows', bd', bw', ph', rd', th', lm', real', kept', copied', reg', written', want', left', told', pc2', shows2', time', since', -, rfl, rfl⟩ := id hz'
  have hP : va_P D mgCl (wMig ct ad a M N regs shown pc shows bd bw ph rd th lm ++ wMod ct b real kept copied reg written want left told pc2 ph rd th lm shows2 time since) H := hP
  have hD : va_D (fun q : Nat => s.heap.size ≤ q) (wMig ct ad a M N regs shown pc shows bd bw ph rd th lm ++ wMod ct b real kept copied reg written want left told pc2 ph rd th lm shows2 time since) := hD
  refine lv_aload_n hx hb dL_law_104 rfl (lv_at hl 1 rfl) ?_
  refine lv_aload_n hx hb dL_law_105 rfl (lv_at hl 0 rfl) ?_
  refine lv_iload_n hx hb dL_law_106 rfl (lv_at hl 3 rfl) ?_
  refine lv_iconst (v := nI 1) hx hb dL_law_107 (by decide) ?_
  refine lv_iadd hx hb dL_law_108 ?_
  refine mg_top (y := nI (i + 1)) (nI_add _ _) ?_
  refine lw_sld hx hb hX hbl hbA hS (by omega) (by omega) dL_law_109 ?_
  refine lv_aload_n hx hb dL_law_110 rfl (lv_at hl 0 rfl) ?_
  refine lv_iload_n hx hb dL_law_111 rfl (lv_at hl 3 rfl) ?_
  refine lv_iconst (v := nI 2) hx hb dL_law_112 (by decide) ?_
  refine lv_iadd hx hb dL_law_113 ?_
  refine mg_top (y := nI (i + 2)) (nI_add _ _) ?_
  refine lw_sld hx hb hX hbl hbA hS (by omega) (by omega) dL_law_114 ?_
  refine mg_afterI (w1 := wMig ct ad a M' N' regs' shown' pc' shows' bd' bw' ph' rd' th' lm') (wr := wMod ct b real kept copied reg written want left told pc2 ph rd th lm shows2 time since) (w2 := wMig ct ad a M' N' regs' shown' pc' shows' bd' bw' ph' rd' th' lm' ++ wMod ct b real kept copied reg written want left told pc2 ph rd th lm shows2 time since) (va_runV (As := [.int (xs (i + 1)), .int (xs (i + 2))]) (rest := []) ⟨hx, hb, hml, hown, hts⟩ (m1 _) (cwV 2 hts (lw_V q110 q111 q112 q2 q113) rfl rfl rfl (by decide +kernel) ⟨Nat.le_of_ble_eq_true rfl, Nat.le_of_ble_eq_true rfl⟩) (mg_preV hC hP hD hS hA (wc := wMig ct ad a M N regs shown pc shows bd bw ph rd th lm) [0, 1, 2, 3, 4, 5, 6, 7, 8, 9, 10, 11, 12, 13, 14, 15, 16, 17, 18, 19, 20, 21, 22, 23, 24, 25, 26, 27, 28] rfl (by decide) (ci := 0) (q0 := 0) rfl rfl [.int (xs (i + 1)), .int (xs (i + 2))]) rfl rfl hl.1 rfl (lv_room (Nat.le_of_ble_eq_true rfl)) dL_law_115 ⟨Nat.le_of_ble_eq_true rfl, Nat.le_of_ble_eq_true rfl⟩) hP hD hS hA [0, 1, 2, 3, 4, 5, 6, 7, 8, 9, 10, 11, 12, 13, 14, 15, 16, 17, 18, 19, 20, 21, 22, 23, 24, 25, 26, 27, 28] [29, 30, 31, 32, 33, 34, 35, 36, 37] [9, 10, 11, 12, 13, 14, 15, 16, 17, 18, 19, 20, 21, 22, 23, 24, 25, 26, 27, 28, 29, 30, 31, 32, 33, 34, 35, 36, 37, 0, 1, 2, 3, 4, 5, 6, 7, 8] rfl rfl (by decide) (by decide) rfl (by decide) (fun H locs hP hD hS => ?_)
  refine lv_aload_n hx hb dL_law_118 rfl (lv_at hl 2 rfl) ?_
  refine lv_aload_n hx hb dL_law_119 rfl (lv_at hl 0 rfl) ?_
  refine lv_iload_n hx hb dL_law_120 rfl (lv_at hl 3 rfl) ?_
  refine lv_iconst (v := nI 1) hx hb dL_law_121 (by decide) ?_
  refine lv_iadd hx hb dL_law_122 ?_
  refine mg_top (y := nI (i + 1)) (nI_add _ _) ?_
  refine lw_sld hx hb hX hbl hbA hS (by omega) (by omega) dL_law_123 ?_
  refine lv_aload_n hx hb dL_law_124 rfl (lv_at hl 0 rfl) ?_
  refine lv_iload_n hx hb dL_law_125 rfl (lv_at hl 3 rfl) ?_
  refine lv_iconst (v := nI 2) hx hb dL_law_126 (by decide) ?_
  refine lv_iadd hx hb dL_law_127 ?_
  refine mg_top (y := nI (i + 2)) (nI_add _ _) ?_
  refine lw_sld hx hb hX hbl hbA hS (by omega) (by omega) dL_law_128 ?_
  refine mg_afterI (w1 := wMod ct b real' kept' copied' reg' written' want' left' told' pc2' ph' rd' th' lm' shows2' time' since') (wr := wMig ct ad a M' N' regs' shown' pc' shows' bd' bw' ph' rd' th' lm') (w2 := wMig ct ad a M' N' regs' shown' pc' shows' bd' bw' ph' rd' th' lm' ++ wMod ct b real' kept' copied' reg' written' want' left' told' pc2' ph' rd' th' lm' shows2' time' since') (va_runV (As := [.int (xs (i + 1)), .int (xs (i + 2))]) (rest := [.int v]) ⟨hx, hb, hml, hown, hts⟩ (m2 _) (cwV 2 hts (lw_V q290 q291 q292 q10 q293) rfl rfl rfl (by decide +kernel) ⟨Nat.le_of_ble_eq_true rfl, Nat.le_of_ble_eq_true rfl⟩) (mg_preV hC hP hD hS hA (wc := wMod ct b real kept copied reg written want left told pc2 ph rd th lm shows2 time since) [29, 30, 31, 32, 33, 34, 35, 36, 37] rfl (by decide) (ci := 5) (q0 := 0) rfl rfl [.int (xs (i + 1)), .int (xs (i + 2))]) rfl rfl hl.1 rfl (lv_room (Nat.le_of_ble_eq_true rfl)) dL_law_129 ⟨Nat.le_of_ble_eq_true rfl, Nat.le_of_ble_eq_true rfl⟩) hP hD hS hA [29, 30, 31, 32, 33, 34, 35, 36, 37] [0, 1, 2, 3, 4, 5, 6, 7, 8, 9, 10, 11, 12, 13, 14, 15, 16, 17, 18, 19, 20, 21, 22, 23, 24, 25, 26, 27, 28] [0, 1, 2, 3, 4, 5, 6, 7, 8, 9, 10, 11, 12, 13, 14, 15, 16, 17, 18, 19, 20, 21, 22, 23, 24, 25, 26, 27, 28, 29, 30, 31, 32, 33, 34, 35, 36, 37] rfl rfl (by decide) (by decide) rfl (by decide) (fun H locs hP hD hS => ?_)
  refine lv_icmp_eq (tgt := 396) hx hb dL_law_132 (by decide) (fun _ => ?_) (fun cq => absurd rfl cq)
  exact kk _ _ H locs hz' hP hD hS
set_option maxHeartbeats 4000000 in
set_option maxRecDepth 100000 in
/-- case 1: begin -/
theorem lo_begin {p : Program} {l : Launch} {e : Env} {s : State} {m : MethodId} {below : List Frame} {meth : Method} {c : Code} {D : va_G} {ct ad a b : Nat → Nat} {b0 L : Nat} {xs : Nat → Int32} (hL : L ≤ 192) (C0 : lw_At p s m meth c b0 L xs) (hC : mg_C D ct ad (fun q : Nat => s.heap.size ≤ q) s s.heap) {i : Nat} (hi : i + 3 ≤ L) {B : Nat} (hB : B ≤ 1000000) {w1 w2 : va_W} (hz : ZZ ct ad a b B w1 w2) {H : Heap} {locs : List Loc} (hP : va_P D mgCl (w1 ++ w2) H) (hD : va_D (fun q : Nat => s.heap.size ≤ q) (w1 ++ w2)) (hS : va_S (fun q : Nat => s.heap.size ≤ q) s.heap H locs) {ls : Array Slot} (hl : lv_has ls 4 [(0, .ref b0), (1, .ref (a 0)), (2, .ref (b 0)), (3, .int (nI i))])
    (kk : ∀ (w1 w2 : va_W) (H : Heap) (locs : List Loc), ZZ ct ad a b (B + 1000) w1 w2 → va_P D mgCl (w1 ++ w2) H → va_D (fun q : Nat => s.heap.size ≤ q) (w1 ++ w2) → va_S (fun q : Nat => s.heap.size ≤ q) s.heap H locs → W p l e room_1 s m #[Value.ref b0] below meth c H locs 38 434 (lw_Z below #[Value.ref b0] s) (F0 m 396 ls [])) : W p l e room_1 s m #[Value.ref b0] below meth c H locs 38 434 (lw_Z below #[Value.ref b0] s) (F0 m 137 ls []) := by
  obtain ⟨hx, hb, hr, hml, hown, hts0, hX, hbl, hlocks, hgv⟩ := id C0
  have hts : ∀ w ∈ lw_all, w.before #[Value.ref b0] s = true := fun w h => hts0 w (lw_all_tbl h)
  have hown : s.vm.findClass "MigratorLaw" = some m.cls := hown
  have hA : ∀ q : Nat, s.heap.size ≤ q → (fun q : Nat => s.heap.size ≤ q) q := fun _ h => h
  have hbA : ¬ (fun q : Nat => s.heap.size ≤ q) b0 := Nat.not_le.mpr hbl
  obtain ⟨v, u1, u2, m1, m2, hz'⟩ := pr_begin l D hz hB (xs (i + 1)) (xs (i + 2))
  obtain ⟨M, N, regs, shown, pc, shows, bd, bw, ph, rd, th, lm, real, kept, copied, reg, written, want, left, told, pc2, shows2, time, since, -, rfl, rfl⟩ := hz
  obtain ⟨M', N', regs', shown', pc', shows', bd', bw', ph', rd', th', lm', real', kept', copied', reg', written', want', left', told', pc2', shows2', time', since', -, rfl, rfl⟩ := id hz'
  have hP : va_P D mgCl (wMig ct ad a M N regs shown pc shows bd bw ph rd th lm ++ wMod ct b real kept copied reg written want left told pc2 ph rd th lm shows2 time since) H := hP
  have hD : va_D (fun q : Nat => s.heap.size ≤ q) (wMig ct ad a M N regs shown pc shows bd bw ph rd th lm ++ wMod ct b real kept copied reg written want left told pc2 ph rd th lm shows2 time since) := hD
  refine lv_aload_n hx hb dL_law_137 rfl (lv_at hl 1 rfl) ?_
  refine lv_aload_n hx hb dL_law_138 rfl (lv_at hl 0 rfl) ?_
  refine lv_iload_n hx hb dL_law_139 rfl (lv_at hl 3 rfl) ?_
  refine lv_iconst (v := nI 1) hx hb dL_law_140 (by decide) ?_
  refine lv_iadd hx hb dL_law_141 ?_
  refine mg_top (y := nI (i + 1)) (nI_add _ _) ?_
  refine lw_sld hx hb hX hbl hbA hS (by omega) (by omega) dL_law_142 ?_
  refine lv_aload_n hx hb dL_law_143 rfl (lv_at hl 0 rfl) ?_
  refine lv_iload_n hx hb dL_law_144 rfl (lv_at hl 3 rfl) ?_
  refine lv_iconst (v := nI 2) hx hb dL_law_145 (by decide) ?_
  refine lv_iadd hx hb dL_law_146 ?_
  refine mg_top (y := nI (i + 2)) (nI_add _ _) ?_
  refine lw_sld hx hb hX hbl hbA hS (by omega) (by omega) dL_law_147 ?_
  refine mg_afterI (w1 := wMig ct ad a M' N' regs' shown' pc' shows' bd' bw' ph' rd' th' lm') (wr := wMod ct b real kept copied reg written want left told pc2 ph rd th lm shows2 time since) (w2 := wMig ct ad a M' N' regs' shown' pc' shows' bd' bw' ph' rd' th' lm' ++ wMod ct b real kept copied reg written want left told pc2 ph rd th lm shows2 time since) (va_runV (As := [.int (xs (i + 1)), .int (xs (i + 2))]) (rest := []) ⟨hx, hb, hml, hown, hts⟩ (m1 _) (cwV 2 hts (lw_V q121 q122 q123 q2 q124) rfl rfl rfl (by decide +kernel) ⟨Nat.le_of_ble_eq_true rfl, Nat.le_of_ble_eq_true rfl⟩) (mg_preV hC hP hD hS hA (wc := wMig ct ad a M N regs shown pc shows bd bw ph rd th lm) [0, 1, 2, 3, 4, 5, 6, 7, 8, 9, 10, 11, 12, 13, 14, 15, 16, 17, 18, 19, 20, 21, 22, 23, 24, 25, 26, 27, 28] rfl (by decide) (ci := 0) (q0 := 0) rfl rfl [.int (xs (i + 1)), .int (xs (i + 2))]) rfl rfl hl.1 rfl (lv_room (Nat.le_of_ble_eq_true rfl)) dL_law_148 ⟨Nat.le_of_ble_eq_true rfl, Nat.le_of_ble_eq_true rfl⟩) hP hD hS hA [0, 1, 2, 3, 4, 5, 6, 7, 8, 9, 10, 11, 12, 13, 14, 15, 16, 17, 18, 19, 20, 21, 22, 23, 24, 25, 26, 27, 28] [29, 30, 31, 32, 33, 34, 35, 36, 37] [9, 10, 11, 12, 13, 14, 15, 16, 17, 18, 19, 20, 21, 22, 23, 24, 25, 26, 27, 28, 29, 30, 31, 32, 33, 34, 35, 36, 37, 0, 1, 2, 3, 4, 5, 6, 7, 8] rfl rfl (by decide) (by decide) rfl (by decide) (fun H locs hP hD hS => ?_)
  refine lv_aload_n hx hb dL_law_151 rfl (lv_at hl 2 rfl) ?_
  refine lv_aload_n hx hb dL_law_152 rfl (lv_at hl 0 rfl) ?_
  refine lv_iload_n hx hb dL_law_153 rfl (lv_at hl 3 rfl) ?_
  refine lv_iconst (v := nI 1) hx hb dL_law_154 (by decide) ?_
  refine lv_iadd hx hb dL_law_155 ?_
  refine mg_top (y := nI (i + 1)) (nI_add _ _) ?_
  refine lw_sld hx hb hX hbl hbA hS (by omega) (by omega) dL_law_156 ?_
  refine lv_aload_n hx hb dL_law_157 rfl (lv_at hl 0 rfl) ?_
  refine lv_iload_n hx hb dL_law_158 rfl (lv_at hl 3 rfl) ?_
  refine lv_iconst (v := nI 2) hx hb dL_law_159 (by decide) ?_
  refine lv_iadd hx hb dL_law_160 ?_
  refine mg_top (y := nI (i + 2)) (nI_add _ _) ?_
  refine lw_sld hx hb hX hbl hbA hS (by omega) (by omega) dL_law_161 ?_
  refine mg_afterI (w1 := wMod ct b real' kept' copied' reg' written' want' left' told' pc2' ph' rd' th' lm' shows2' time' since') (wr := wMig ct ad a M' N' regs' shown' pc' shows' bd' bw' ph' rd' th' lm') (w2 := wMig ct ad a M' N' regs' shown' pc' shows' bd' bw' ph' rd' th' lm' ++ wMod ct b real' kept' copied' reg' written' want' left' told' pc2' ph' rd' th' lm' shows2' time' since') (va_runV (As := [.int (xs (i + 1)), .int (xs (i + 2))]) (rest := [.int v]) ⟨hx, hb, hml, hown, hts⟩ (m2 _) (cwV 2 hts (lw_V q294 q295 q296 q10 q297) rfl rfl rfl (by decide +kernel) ⟨Nat.le_of_ble_eq_true rfl, Nat.le_of_ble_eq_true rfl⟩) (mg_preV hC hP hD hS hA (wc := wMod ct b real kept copied reg written want left told pc2 ph rd th lm shows2 time since) [29, 30, 31, 32, 33, 34, 35, 36, 37] rfl (by decide) (ci := 5) (q0 := 0) rfl rfl [.int (xs (i + 1)), .int (xs (i + 2))]) rfl rfl hl.1 rfl (lv_room (Nat.le_of_ble_eq_true rfl)) dL_law_162 ⟨Nat.le_of_ble_eq_true rfl, Nat.le_of_ble_eq_true rfl⟩) hP hD hS hA [29, 30, 31, 32, 33, 34, 35, 36, 37] [0, 1, 2, 3, 4, 5, 6, 7, 8, 9, 10, 11, 12, 13, 14, 15, 16, 17, 18, 19, 20, 21, 22, 23, 24, 25, 26, 27, 28] [0, 1, 2, 3, 4, 5, 6, 7, 8, 9, 10, 11, 12, 13, 14, 15, 16, 17, 18, 19, 20, 21, 22, 23, 24, 25, 26, 27, 28, 29, 30, 31, 32, 33, 34, 35, 36, 37] rfl rfl (by decide) (by decide) rfl (by decide) (fun H locs hP hD hS => ?_)
  refine lv_icmp_eq (tgt := 396) hx hb dL_law_165 (by decide) (fun _ => ?_) (fun cq => absurd rfl cq)
  exact kk _ _ H locs hz' hP hD hS
set_option maxHeartbeats 4000000 in
set_option maxRecDepth 100000 in
/-- case 2: run -/
theorem lo_run {p : Program} {l : Launch} {e : Env} {s : State} {m : MethodId} {below : List Frame} {meth : Method} {c : Code} {D : va_G} {ct ad a b : Nat → Nat} {b0 L : Nat} {xs : Nat → Int32} (hL : L ≤ 192) (C0 : lw_At p s m meth c b0 L xs) (hC : mg_C D ct ad (fun q : Nat => s.heap.size ≤ q) s s.heap) {i : Nat} (hi : i + 3 ≤ L) {B : Nat} (hB : B ≤ 1000000) {w1 w2 : va_W} (hz : ZZ ct ad a b B w1 w2) {H : Heap} {locs : List Loc} (hP : va_P D mgCl (w1 ++ w2) H) (hD : va_D (fun q : Nat => s.heap.size ≤ q) (w1 ++ w2)) (hS : va_S (fun q : Nat => s.heap.size ≤ q) s.heap H locs) {ls : Array Slot} (hl : lv_has ls 4 [(0, .ref b0), (1, .ref (a 0)), (2, .ref (b 0)), (3, .int (nI i))])
    (kk : ∀ (w1 w2 : va_W) (H : Heap) (locs : List Loc), ZZ ct ad a b (B + 1000) w1 w2 → va_P D mgCl (w1 ++ w2) H → va_D (fun q : Nat => s.heap.size ≤ q) (w1 ++ w2) → va_S (fun q : Nat => s.heap.size ≤ q) s.heap H locs → W p l e room_1 s m #[Value.ref b0] below meth c H locs 38 434 (lw_Z below #[Value.ref b0] s) (F0 m 396 ls [])) : W p l e room_1 s m #[Value.ref b0] below meth c H locs 38 434 (lw_Z below #[Value.ref b0] s) (F0 m 170 ls []) := by
  obtain ⟨hx, hb, hr, hml, hown, hts0, hX, hbl, hlocks, hgv⟩ := id C0
  have hts : ∀ w ∈ lw_all, w.before #[Value.ref b0] s = true := fun w h => hts0 w (lw_all_tbl h)
  have hown : s.vm.findClass "MigratorLaw" = some m.cls := hown
  have hA : ∀ q : Nat, s.heap.size ≤ q → (fun q : Nat => s.heap.size ≤ q) q := fun _ h => h
  have hbA : ¬ (fun q : Nat => s.heap.size ≤ q) b0 := Nat.not_le.mpr hbl
  obtain ⟨v, u1, u2, m1, m2, hz'⟩ := pr_run l D hz hB (xs (i + 1))
  obtain ⟨M, N, regs, shown, pc, shows, bd, bw, ph, rd, th, lm, real, kept, copied, reg, written, want, left, told, pc2, shows2, time, since, -, rfl, rfl⟩ := hz
  obtain ⟨M', N', regs', shown', pc', shows', bd', bw', ph', rd', th', lm', real', kept', copied', reg', written', want', left', told', pc2', shows2', time', since', -, rfl, rfl⟩ := id hz'
  have hP : va_P D mgCl (wMig ct ad a M N regs shown pc shows bd bw ph rd th lm ++ wMod ct b real kept copied reg written want left told pc2 ph rd th lm shows2 time since) H := hP
  have hD : va_D (fun q : Nat => s.heap.size ≤ q) (wMig ct ad a M N regs shown pc shows bd bw ph rd th lm ++ wMod ct b real kept copied reg written want left told pc2 ph rd th lm shows2 time since) := hD
  refine lv_aload_n hx hb dL_law_170 rfl (lv_at hl 1 rfl) ?_
  refine lv_aload_n hx hb dL_law_171 rfl (lv_at hl 0 rfl) ?_
  refine lv_iload_n hx hb dL_law_172 rfl (lv_at hl 3 rfl) ?_
  refine lv_iconst (v := nI 1) hx hb dL_law_173 (by decide) ?_
  refine lv_iadd hx hb dL_law_174 ?_
  refine mg_top (y := nI (i + 1)) (nI_add _ _) ?_
  refine lw_sld hx hb hX hbl hbA hS (by omega) (by omega) dL_law_175 ?_
  refine mg_afterI (w1 := wMig ct ad a M' N' regs' shown' pc' shows' bd' bw' ph' rd' th' lm') (wr := wMod ct b real kept copied reg written want left told pc2 ph rd th lm shows2 time since) (w2 := wMig ct ad a M' N' regs' shown' pc' shows' bd' bw' ph' rd' th' lm' ++ wMod ct b real kept copied reg written want left told pc2 ph rd th lm shows2 time since) (va_runV (As := [.int (xs (i + 1))]) (rest := []) ⟨hx, hb, hml, hown, hts⟩ (m1 _) (cwV 1 hts (lw_V q131 q132 q133 q2 q134) rfl rfl rfl (by decide +kernel) ⟨Nat.le_of_ble_eq_true rfl, Nat.le_of_ble_eq_true rfl⟩) (mg_preV hC hP hD hS hA (wc := wMig ct ad a M N regs shown pc shows bd bw ph rd th lm) [0, 1, 2, 3, 4, 5, 6, 7, 8, 9, 10, 11, 12, 13, 14, 15, 16, 17, 18, 19, 20, 21, 22, 23, 24, 25, 26, 27, 28] rfl (by decide) (ci := 0) (q0 := 0) rfl rfl [.int (xs (i + 1))]) rfl rfl hl.1 rfl (lv_room (Nat.le_of_ble_eq_true rfl)) dL_law_176 ⟨Nat.le_of_ble_eq_true rfl, Nat.le_of_ble_eq_true rfl⟩) hP hD hS hA [0, 1, 2, 3, 4, 5, 6, 7, 8, 9, 10, 11, 12, 13, 14, 15, 16, 17, 18, 19, 20, 21, 22, 23, 24, 25, 26, 27, 28] [29, 30, 31, 32, 33, 34, 35, 36, 37] [9, 10, 11, 12, 13, 14, 15, 16, 17, 18, 19, 20, 21, 22, 23, 24, 25, 26, 27, 28, 29, 30, 31, 32, 33, 34, 35, 36, 37, 0, 1, 2, 3, 4, 5, 6, 7, 8] rfl rfl (by decide) (by decide) rfl (by decide) (fun H locs hP hD hS => ?_)
  refine lv_aload_n hx hb dL_law_179 rfl (lv_at hl 2 rfl) ?_
  refine lv_aload_n hx hb dL_law_180 rfl (lv_at hl 0 rfl) ?_
  refine lv_iload_n hx hb dL_law_181 rfl (lv_at hl 3 rfl) ?_
  refine lv_iconst (v := nI 1) hx hb dL_law_182 (by decide) ?_
  refine lv_iadd hx hb dL_law_183 ?_
  refine mg_top (y := nI (i + 1)) (nI_add _ _) ?_
  refine lw_sld hx hb hX hbl hbA hS (by omega) (by omega) dL_law_184 ?_
  refine mg_afterI (w1 := wMod ct b real' kept' copied' reg' written' want' left' told' pc2' ph' rd' th' lm' shows2' time' since') (wr := wMig ct ad a M' N' regs' shown' pc' shows' bd' bw' ph' rd' th' lm') (w2 := wMig ct ad a M' N' regs' shown' pc' shows' bd' bw' ph' rd' th' lm' ++ wMod ct b real' kept' copied' reg' written' want' left' told' pc2' ph' rd' th' lm' shows2' time' since') (va_runV (As := [.int (xs (i + 1))]) (rest := [.int v]) ⟨hx, hb, hml, hown, hts⟩ (m2 _) (cwV 1 hts (lw_V q298 q299 q300 q10 q301) rfl rfl rfl (by decide +kernel) ⟨Nat.le_of_ble_eq_true rfl, Nat.le_of_ble_eq_true rfl⟩) (mg_preV hC hP hD hS hA (wc := wMod ct b real kept copied reg written want left told pc2 ph rd th lm shows2 time since) [29, 30, 31, 32, 33, 34, 35, 36, 37] rfl (by decide) (ci := 5) (q0 := 0) rfl rfl [.int (xs (i + 1))]) rfl rfl hl.1 rfl (lv_room (Nat.le_of_ble_eq_true rfl)) dL_law_185 ⟨Nat.le_of_ble_eq_true rfl, Nat.le_of_ble_eq_true rfl⟩) hP hD hS hA [29, 30, 31, 32, 33, 34, 35, 36, 37] [0, 1, 2, 3, 4, 5, 6, 7, 8, 9, 10, 11, 12, 13, 14, 15, 16, 17, 18, 19, 20, 21, 22, 23, 24, 25, 26, 27, 28] [0, 1, 2, 3, 4, 5, 6, 7, 8, 9, 10, 11, 12, 13, 14, 15, 16, 17, 18, 19, 20, 21, 22, 23, 24, 25, 26, 27, 28, 29, 30, 31, 32, 33, 34, 35, 36, 37] rfl rfl (by decide) (by decide) rfl (by decide) (fun H locs hP hD hS => ?_)
  refine lv_icmp_eq (tgt := 396) hx hb dL_law_188 (by decide) (fun _ => ?_) (fun cq => absurd rfl cq)
  exact kk _ _ H locs hz' hP hD hS
set_option maxHeartbeats 4000000 in
set_option maxRecDepth 100000 in
/-- case 3: copy -/
theorem lo_copy {p : Program} {l : Launch} {e : Env} {s : State} {m : MethodId} {below : List Frame} {meth : Method} {c : Code} {D : va_G} {ct ad a b : Nat → Nat} {b0 L : Nat} {xs : Nat → Int32} (hL : L ≤ 192) (C0 : lw_At p s m meth c b0 L xs) (hC : mg_C D ct ad (fun q : Nat => s.heap.size ≤ q) s s.heap) {i : Nat} (hi : i + 3 ≤ L) {B : Nat} (hB : B ≤ 1000000) {w1 w2 : va_W} (hz : ZZ ct ad a b B w1 w2) {H : Heap} {locs : List Loc} (hP : va_P D mgCl (w1 ++ w2) H) (hD : va_D (fun q : Nat => s.heap.size ≤ q) (w1 ++ w2)) (hS : va_S (fun q : Nat => s.heap.size ≤ q) s.heap H locs) {ls : Array Slot} (hl : lv_has ls 4 [(0, .ref b0), (1, .ref (a 0)), (2, .ref (b 0)), (3, .int (nI i))])
    (kk : ∀ (w1 w2 : va_W) (H : Heap) (locs : List Loc), ZZ ct ad a b (B + 1000) w1 w2 → va_P D mgCl (w1 ++ w2) H → va_D (fun q : Nat => s.heap.size ≤ q) (w1 ++ w2) → va_S (fun q : Nat => s.heap.size ≤ q) s.heap H locs → W p l e room_1 s m #[Value.ref b0] below meth c H locs 38 434 (lw_Z below #[Value.ref b0] s) (F0 m 396 ls [])) : W p l e room_1 s m #[Value.ref b0] below meth c H locs 38 434 (lw_Z below #[Value.ref b0] s) (F0 m 193 ls []) := by
  obtain ⟨hx, hb, hr, hml, hown, hts0, hX, hbl, hlocks, hgv⟩ := id C0
  have hts : ∀ w ∈ lw_all, w.before #[Value.ref b0] s = true := fun w h => hts0 w (lw_all_tbl h)
  have hown : s.vm.findClass "MigratorLaw" = some m.cls := hown
  have hA : ∀ q : Nat, s.heap.size ≤ q → (fun q : Nat => s.heap.size ≤ q) q := fun _ h => h
  have hbA : ¬ (fun q : Nat => s.heap.size ≤ q) b0 := Nat.not_le.mpr hbl
  obtain ⟨v, u1, u2, m1, m2, hz'⟩ := pr_copy l D hz hB
  obtain ⟨M, N, regs, shown, pc, shows, bd, bw, ph, rd, th, lm, real, kept, copied, reg, written, want, left, told, pc2, shows2, time, since, -, rfl, rfl⟩ := hz
  obtain ⟨M', N', regs', shown', pc', shows', bd', bw', ph', rd', th', lm', real', kept', copied', reg', written', want', left', told', pc2', shows2', time', since', -, rfl, rfl⟩ := id hz'
  have hP : va_P D mgCl (wMig ct ad a M N regs shown pc shows bd bw ph rd th lm ++ wMod ct b real kept copied reg written want left told pc2 ph rd th lm shows2 time since) H := hP
  have hD : va_D (fun q : Nat => s.heap.size ≤ q) (wMig ct ad a M N regs shown pc shows bd bw ph rd th lm ++ wMod ct b real kept copied reg written want left told pc2 ph rd th lm shows2 time since) := hD
  refine lv_aload_n hx hb dL_law_193 rfl (lv_at hl 1 rfl) ?_
  refine mg_afterI (w1 := wMig ct ad a M' N' regs' shown' pc' shows' bd' bw' ph' rd' th' lm') (wr := wMod ct b real kept copied reg written want left told pc2 ph rd th lm shows2 time since) (w2 := wMig ct ad a M' N' regs' shown' pc' shows' bd' bw' ph' rd' th' lm' ++ wMod ct b real kept copied reg written want left told pc2 ph rd th lm shows2 time since) (va_runV (As := []) (rest := []) ⟨hx, hb, hml, hown, hts⟩ (m1 _) (cwV 0 hts (lw_V q164 q165 q166 q2 q167) rfl rfl rfl (by decide +kernel) ⟨Nat.le_of_ble_eq_true rfl, Nat.le_of_ble_eq_true rfl⟩) (mg_preV hC hP hD hS hA (wc := wMig ct ad a M N regs shown pc shows bd bw ph rd th lm) [0, 1, 2, 3, 4, 5, 6, 7, 8, 9, 10, 11, 12, 13, 14, 15, 16, 17, 18, 19, 20, 21, 22, 23, 24, 25, 26, 27, 28] rfl (by decide) (ci := 0) (q0 := 0) rfl rfl []) rfl rfl hl.1 rfl (lv_room (Nat.le_of_ble_eq_true rfl)) dL_law_194 ⟨Nat.le_of_ble_eq_true rfl, Nat.le_of_ble_eq_true rfl⟩) hP hD hS hA [0, 1, 2, 3, 4, 5, 6, 7, 8, 9, 10, 11, 12, 13, 14, 15, 16, 17, 18, 19, 20, 21, 22, 23, 24, 25, 26, 27, 28] [29, 30, 31, 32, 33, 34, 35, 36, 37] [9, 10, 11, 12, 13, 14, 15, 16, 17, 18, 19, 20, 21, 22, 23, 24, 25, 26, 27, 28, 29, 30, 31, 32, 33, 34, 35, 36, 37, 0, 1, 2, 3, 4, 5, 6, 7, 8] rfl rfl (by decide) (by decide) rfl (by decide) (fun H locs hP hD hS => ?_)
  refine lv_aload_n hx hb dL_law_197 rfl (lv_at hl 2 rfl) ?_
  refine mg_afterI (w1 := wMod ct b real' kept' copied' reg' written' want' left' told' pc2' ph' rd' th' lm' shows2' time' since') (wr := wMig ct ad a M' N' regs' shown' pc' shows' bd' bw' ph' rd' th' lm') (w2 := wMig ct ad a M' N' regs' shown' pc' shows' bd' bw' ph' rd' th' lm' ++ wMod ct b real' kept' copied' reg' written' want' left' told' pc2' ph' rd' th' lm' shows2' time' since') (va_runV (As := []) (rest := [.int v]) ⟨hx, hb, hml, hown, hts⟩ (m2 _) (cwV 0 hts (lw_V q306 q307 q308 q10 q309) rfl rfl rfl (by decide +kernel) ⟨Nat.le_of_ble_eq_true rfl, Nat.le_of_ble_eq_true rfl⟩) (mg_preV hC hP hD hS hA (wc := wMod ct b real kept copied reg written want left told pc2 ph rd th lm shows2 time since) [29, 30, 31, 32, 33, 34, 35, 36, 37] rfl (by decide) (ci := 5) (q0 := 0) rfl rfl []) rfl rfl hl.1 rfl (lv_room (Nat.le_of_ble_eq_true rfl)) dL_law_198 ⟨Nat.le_of_ble_eq_true rfl, Nat.le_of_ble_eq_true rfl⟩) hP hD hS hA [29, 30, 31, 32, 33, 34, 35, 36, 37] [0, 1, 2, 3, 4, 5, 6, 7, 8, 9, 10, 11, 12, 13, 14, 15, 16, 17, 18, 19, 20, 21, 22, 23, 24, 25, 26, 27, 28] [0, 1, 2, 3, 4, 5, 6, 7, 8, 9, 10, 11, 12, 13, 14, 15, 16, 17, 18, 19, 20, 21, 22, 23, 24, 25, 26, 27, 28, 29, 30, 31, 32, 33, 34, 35, 36, 37] rfl rfl (by decide) (by decide) rfl (by decide) (fun H locs hP hD hS => ?_)
  refine lv_icmp_eq (tgt := 396) hx hb dL_law_201 (by decide) (fun _ => ?_) (fun cq => absurd rfl cq)
  exact kk _ _ H locs hz' hP hD hS
set_option maxHeartbeats 4000000 in
set_option maxRecDepth 100000 in
/-- case 4: phase -/
theorem lo_phase {p : Program} {l : Launch} {e : Env} {s : State} {m : MethodId} {below : List Frame} {meth : Method} {c : Code} {D : va_G} {ct ad a b : Nat → Nat} {b0 L : Nat} {xs : Nat → Int32} (hL : L ≤ 192) (C0 : lw_At p s m meth c b0 L xs) (hC : mg_C D ct ad (fun q : Nat => s.heap.size ≤ q) s s.heap) {i : Nat} (hi : i + 3 ≤ L) {B : Nat} (hB : B ≤ 1000000) {w1 w2 : va_W} (hz : ZZ ct ad a b B w1 w2) {H : Heap} {locs : List Loc} (hP : va_P D mgCl (w1 ++ w2) H) (hD : va_D (fun q : Nat => s.heap.size ≤ q) (w1 ++ w2)) (hS : va_S (fun q : Nat => s.heap.size ≤ q) s.heap H locs) {ls : Array Slot} (hl : lv_has ls 4 [(0, .ref b0), (1, .ref (a 0)), (2, .ref (b 0)), (3, .int (nI i))])
    (kk : ∀ (w1 w2 : va_W) (H : Heap) (locs : List Loc), ZZ ct ad a b (B + 1000) w1 w2 → va_P D mgCl (w1 ++ w2) H → va_D (fun q : Nat => s.heap.size ≤ q) (w1 ++ w2) → va_S (fun q : Nat => s.heap.size ≤ q) s.heap H locs → W p l e room_1 s m #[Value.ref b0] below meth c H locs 38 434 (lw_Z below #[Value.ref b0] s) (F0 m 396 ls [])) : W p l e room_1 s m #[Value.ref b0] below meth c H locs 38 434 (lw_Z below #[Value.ref b0] s) (F0 m 206 ls []) := by
  obtain ⟨hx, hb, hr, hml, hown, hts0, hX, hbl, hlocks, hgv⟩ := id C0
  have hts : ∀ w ∈ lw_all, w.before #[Value.ref b0] s = true := fun w h => hts0 w (lw_all_tbl h)
  have hown : s.vm.findClass "MigratorLaw" = some m.cls := hown
  have hA : ∀ q : Nat, s.heap.size ≤ q → (fun q : Nat => s.heap.size ≤ q) q := fun _ h => h
  have hbA : ¬ (fun q : Nat => s.heap.size ≤ q) b0 := Nat.not_le.mpr hbl
  obtain ⟨v, u1, u2, m1, m2, hz'⟩ := pr_phase l D hz hB
  obtain ⟨M, N, regs, shown, pc, shows, bd, bw, ph, rd, th, lm, real, kept, copied, reg, written, want, left, told, pc2, shows2, time, since, -, rfl, rfl⟩ := hz
  obtain ⟨M', N', regs', shown', pc', shows', bd', bw', ph', rd', th', lm', real', kept', copied', reg', written', want', left', told', pc2', shows2', time', since', -, rfl, rfl⟩ := id hz'
  have hP : va_P D mgCl (wMig ct ad a M N regs shown pc shows bd bw ph rd th lm ++ wMod ct b real kept copied reg written want left told pc2 ph rd th lm shows2 time since) H := hP
  have hD : va_D (fun q : Nat => s.heap.size ≤ q) (wMig ct ad a M N regs shown pc shows bd bw ph rd th lm ++ wMod ct b real kept copied reg written want left told pc2 ph rd th lm shows2 time since) := hD
  refine lv_aload_n hx hb dL_law_206 rfl (lv_at hl 1 rfl) ?_
  refine mg_afterI (w1 := wMig ct ad a M' N' regs' shown' pc' shows' bd' bw' ph' rd' th' lm') (wr := wMod ct b real kept copied reg written want left told pc2 ph rd th lm shows2 time since) (w2 := wMig ct ad a M' N' regs' shown' pc' shows' bd' bw' ph' rd' th' lm' ++ wMod ct b real kept copied reg written want left told pc2 ph rd th lm shows2 time since) (va_runV (As := []) (rest := []) ⟨hx, hb, hml, hown, hts⟩ (m1 _) (cwV 0 hts (lw_V q184 q185 q186 q2 q187) rfl rfl rfl (by decide +kernel) ⟨Nat.le_of_ble_eq_true rfl, Nat.le_of_ble_eq_true rfl⟩) (mg_preV hC hP hD hS hA (wc := wMig ct ad a M N regs shown pc shows bd bw ph rd th lm) [0, 1, 2, 3, 4, 5, 6, 7, 8, 9, 10, 11, 12, 13, 14, 15, 16, 17, 18, 19, 20, 21, 22, 23, 24, 25, 26, 27, 28] rfl (by decide) (ci := 0) (q0 := 0) rfl rfl []) rfl rfl hl.1 rfl (lv_room (Nat.le_of_ble_eq_true rfl)) dL_law_207 ⟨Nat.le_of_ble_eq_true rfl, Nat.le_of_ble_eq_true rfl⟩) hP hD hS hA [0, 1, 2, 3, 4, 5, 6, 7, 8, 9, 10, 11, 12, 13, 14, 15, 16, 17, 18, 19, 20, 21, 22, 23, 24, 25, 26, 27, 28] [29, 30, 31, 32, 33, 34, 35, 36, 37] [9, 10, 11, 12, 13, 14, 15, 16, 17, 18, 19, 20, 21, 22, 23, 24, 25, 26, 27, 28, 29, 30, 31, 32, 33, 34, 35, 36, 37, 0, 1, 2, 3, 4, 5, 6, 7, 8] rfl rfl (by decide) (by decide) rfl (by decide) (fun H locs hP hD hS => ?_)
  refine lv_aload_n hx hb dL_law_210 rfl (lv_at hl 2 rfl) ?_
  refine mg_afterI (w1 := wMod ct b real' kept' copied' reg' written' want' left' told' pc2' ph' rd' th' lm' shows2' time' since') (wr := wMig ct ad a M' N' regs' shown' pc' shows' bd' bw' ph' rd' th' lm') (w2 := wMig ct ad a M' N' regs' shown' pc' shows' bd' bw' ph' rd' th' lm' ++ wMod ct b real' kept' copied' reg' written' want' left' told' pc2' ph' rd' th' lm' shows2' time' since') (va_runV (As := []) (rest := [.int v]) ⟨hx, hb, hml, hown, hts⟩ (m2 _) (cwV 0 hts (lw_V q314 q315 q316 q10 q317) rfl rfl rfl (by decide +kernel) ⟨Nat.le_of_ble_eq_true rfl, Nat.le_of_ble_eq_true rfl⟩) (mg_preV hC hP hD hS hA (wc := wMod ct b real kept copied reg written want left told pc2 ph rd th lm shows2 time since) [29, 30, 31, 32, 33, 34, 35, 36, 37] rfl (by decide) (ci := 5) (q0 := 0) rfl rfl []) rfl rfl hl.1 rfl (lv_room (Nat.le_of_ble_eq_true rfl)) dL_law_211 ⟨Nat.le_of_ble_eq_true rfl, Nat.le_of_ble_eq_true rfl⟩) hP hD hS hA [29, 30, 31, 32, 33, 34, 35, 36, 37] [0, 1, 2, 3, 4, 5, 6, 7, 8, 9, 10, 11, 12, 13, 14, 15, 16, 17, 18, 19, 20, 21, 22, 23, 24, 25, 26, 27, 28] [0, 1, 2, 3, 4, 5, 6, 7, 8, 9, 10, 11, 12, 13, 14, 15, 16, 17, 18, 19, 20, 21, 22, 23, 24, 25, 26, 27, 28, 29, 30, 31, 32, 33, 34, 35, 36, 37] rfl rfl (by decide) (by decide) rfl (by decide) (fun H locs hP hD hS => ?_)
  refine lv_icmp_eq (tgt := 396) hx hb dL_law_214 (by decide) (fun _ => ?_) (fun cq => absurd rfl cq)
  exact kk _ _ H locs hz' hP hD hS
set_option maxHeartbeats 4000000 in
set_option maxRecDepth 100000 in
/-- case 5: round -/
theorem lo_round {p : Program} {l : Launch} {e : Env} {s : State} {m : MethodId} {below : List Frame} {meth : Method} {c : Code} {D : va_G} {ct ad a b : Nat → Nat} {b0 L : Nat} {xs : Nat → Int32} (hL : L ≤ 192) (C0 : lw_At p s m meth c b0 L xs) (hC : mg_C D ct ad (fun q : Nat => s.heap.size ≤ q) s s.heap) {i : Nat} (hi : i + 3 ≤ L) {B : Nat} (hB : B ≤ 1000000) {w1 w2 : va_W} (hz : ZZ ct ad a b B w1 w2) {H : Heap} {locs : List Loc} (hP : va_P D mgCl (w1 ++ w2) H) (hD : va_D (fun q : Nat => s.heap.size ≤ q) (w1 ++ w2)) (hS : va_S (fun q : Nat => s.heap.size ≤ q) s.heap H locs) {ls : Array Slot} (hl : lv_has ls 4 [(0, .ref b0), (1, .ref (a 0)), (2, .ref (b 0)), (3, .int (nI i))])
    (kk : ∀ (w1 w2 : va_W) (H : Heap) (locs : List Loc), ZZ ct ad a b (B + 1000) w1 w2 → va_P D mgCl (w1 ++ w2) H → va_D (fun q : Nat => s.heap.size ≤ q) (w1 ++ w2) → va_S (fun q : Nat => s.heap.size ≤ q) s.heap H locs → W p l e room_1 s m #[Value.ref b0] below meth c H locs 38 434 (lw_Z below #[Value.ref b0] s) (F0 m 396 ls [])) : W p l e room_1 s m #[Value.ref b0] below meth c H locs 38 434 (lw_Z below #[Value.ref b0] s) (F0 m 219 ls []) := by
  obtain ⟨hx, hb, hr, hml, hown, hts0, hX, hbl, hlocks, hgv⟩ := id C0
  have hts : ∀ w ∈ lw_all, w.before #[Value.ref b0] s = true := fun w h => hts0 w (lw_all_tbl h)
  have hown : s.vm.findClass "MigratorLaw" = some m.cls := hown
  have hA : ∀ q : Nat, s.heap.size ≤ q → (fun q : Nat => s.heap.size ≤ q) q := fun _ h => h
  have hbA : ¬ (fun q : Nat => s.heap.size ≤ q) b0 := Nat.not_le.mpr hbl
  obtain ⟨v, u1, u2, m1, m2, hz'⟩ := pr_round l D hz hB
  obtain ⟨M, N, regs, shown, pc, shows, bd, bw, ph, rd, th, lm, real, kept, copied, reg, written, want, left, told, pc2, shows2, time, since, -, rfl, rfl⟩ := hz
  obtain ⟨M', N', regs', shown', pc', shows', bd', bw', ph', rd', th', lm', real', kept', copied', reg', written', want', left', told', pc2', shows2', time', since', -, rfl, rfl⟩ := id hz'
  have hP : va_P D mgCl (wMig ct ad a M N regs shown pc shows bd bw ph rd th lm ++ wMod ct b real kept copied reg written want left told pc2 ph rd th lm shows2 time since) H := hP
  have hD : va_D (fun q : Nat => s.heap.size ≤ q) (wMig ct ad a M N regs shown pc shows bd bw ph rd th lm ++ wMod ct b real kept copied reg written want left told pc2 ph rd th lm shows2 time since) := hD
  refine lv_aload_n hx hb dL_law_219 rfl (lv_at hl 1 rfl) ?_
  refine mg_afterI (w1 := wMig ct ad a M' N' regs' shown' pc' shows' bd' bw' ph' rd' th' lm') (wr := wMod ct b real kept copied reg written want left told pc2 ph rd th lm shows2 time since) (w2 := wMig ct ad a M' N' regs' shown' pc' shows' bd' bw' ph' rd' th' lm' ++ wMod ct b real kept copied reg written want left told pc2 ph rd th lm shows2 time since) (va_runV (As := []) (rest := []) ⟨hx, hb, hml, hown, hts⟩ (m1 _) (cwV 0 hts (lw_V q194 q195 q196 q2 q197) rfl rfl rfl (by decide +kernel) ⟨Nat.le_of_ble_eq_true rfl, Nat.le_of_ble_eq_true rfl⟩) (mg_preV hC hP hD hS hA (wc := wMig ct ad a M N regs shown pc shows bd bw ph rd th lm) [0, 1, 2, 3, 4, 5, 6, 7, 8, 9, 10, 11, 12, 13, 14, 15, 16, 17, 18, 19, 20, 21, 22, 23, 24, 25, 26, 27, 28] rfl (by decide) (ci := 0) (q0 := 0) rfl rfl []) rfl rfl hl.1 rfl (lv_room (Nat.le_of_ble_eq_true rfl)) dL_law_220 ⟨Nat.le_of_ble_eq_true rfl, Nat.le_of_ble_eq_true rfl⟩) hP hD hS hA [0, 1, 2, 3, 4, 5, 6, 7, 8, 9, 10, 11, 12, 13, 14, 15, 16, 17, 18, 19, 20, 21, 22, 23, 24, 25, 26, 27, 28] [29, 30, 31, 32, 33, 34, 35, 36, 37] [9, 10, 11, 12, 13, 14, 15, 16, 17, 18, 19, 20, 21, 22, 23, 24, 25, 26, 27, 28, 29, 30, 31, 32, 33, 34, 35, 36, 37, 0, 1, 2, 3, 4, 5, 6, 7, 8] rfl rfl (by decide) (by decide) rfl (by decide) (fun H locs hP hD hS => ?_)
  refine lv_aload_n hx hb dL_law_223 rfl (lv_at hl 2 rfl) ?_
  refine mg_afterI (w1 := wMod ct b real' kept' copied' reg' written' want' left' told' pc2' ph' rd' th' lm' shows2' time' since') (wr := wMig ct ad a M' N' regs' shown' pc' shows' bd' bw' ph' rd' th' lm') (w2 := wMig ct ad a M' N' regs' shown' pc' shows' bd' bw' ph' rd' th' lm' ++ wMod ct b real' kept' copied' reg' written' want' left' told' pc2' ph' rd' th' lm' shows2' time' since') (va_runV (As := []) (rest := [.int v]) ⟨hx, hb, hml, hown, hts⟩ (m2 _) (cwV 0 hts (lw_V q318 q319 q320 q10 q321) rfl rfl rfl (by decide +kernel) ⟨Nat.le_of_ble_eq_true rfl, Nat.le_of_ble_eq_true rfl⟩) (mg_preV hC hP hD hS hA (wc := wMod ct b real kept copied reg written want left told pc2 ph rd th lm shows2 time since) [29, 30, 31, 32, 33, 34, 35, 36, 37] rfl (by decide) (ci := 5) (q0 := 0) rfl rfl []) rfl rfl hl.1 rfl (lv_room (Nat.le_of_ble_eq_true rfl)) dL_law_224 ⟨Nat.le_of_ble_eq_true rfl, Nat.le_of_ble_eq_true rfl⟩) hP hD hS hA [29, 30, 31, 32, 33, 34, 35, 36, 37] [0, 1, 2, 3, 4, 5, 6, 7, 8, 9, 10, 11, 12, 13, 14, 15, 16, 17, 18, 19, 20, 21, 22, 23, 24, 25, 26, 27, 28] [0, 1, 2, 3, 4, 5, 6, 7, 8, 9, 10, 11, 12, 13, 14, 15, 16, 17, 18, 19, 20, 21, 22, 23, 24, 25, 26, 27, 28, 29, 30, 31, 32, 33, 34, 35, 36, 37] rfl rfl (by decide) (by decide) rfl (by decide) (fun H locs hP hD hS => ?_)
  refine lv_icmp_eq (tgt := 396) hx hb dL_law_227 (by decide) (fun _ => ?_) (fun cq => absurd rfl cq)
  exact kk _ _ H locs hz' hP hD hS
set_option maxHeartbeats 4000000 in
set_option maxRecDepth 100000 in
/-- case 6: dirty -/
theorem lo_dirty {p : Program} {l : Launch} {e : Env} {s : State} {m : MethodId} {below : List Frame} {meth : Method} {c : Code} {D : va_G} {ct ad a b : Nat → Nat} {b0 L : Nat} {xs : Nat → Int32} (hL : L ≤ 192) (C0 : lw_At p s m meth c b0 L xs) (hC : mg_C D ct ad (fun q : Nat => s.heap.size ≤ q) s s.heap) {i : Nat} (hi : i + 3 ≤ L) {B : Nat} (hB : B ≤ 1000000) {w1 w2 : va_W} (hz : ZZ ct ad a b B w1 w2) {H : Heap} {locs : List Loc} (hP : va_P D mgCl (w1 ++ w2) H) (hD : va_D (fun q : Nat => s.heap.size ≤ q) (w1 ++ w2)) (hS : va_S (fun q : Nat => s.heap.size ≤ q) s.heap H locs) {ls : Array Slot} (hl : lv_has ls 4 [(0, .ref b0), (1, .ref (a 0)), (2, .ref (b 0)), (3, .int (nI i))])
    (kk : ∀ (w1 w2 : va_W) (H : Heap) (locs : List Loc), ZZ ct ad a b (B + 1000) w1 w2 → va_P D mgCl (w1 ++ w2) H → va_D (fun q : Nat => s.heap.size ≤ q) (w1 ++ w2) → va_S (fun q : Nat => s.heap.size ≤ q) s.heap H locs → W p l e room_1 s m #[Value.ref b0] below meth c H locs 38 434 (lw_Z below #[Value.ref b0] s) (F0 m 396 ls [])) : W p l e room_1 s m #[Value.ref b0] below meth c H locs 38 434 (lw_Z below #[Value.ref b0] s) (F0 m 232 ls []) := by
  obtain ⟨hx, hb, hr, hml, hown, hts0, hX, hbl, hlocks, hgv⟩ := id C0
  have hts : ∀ w ∈ lw_all, w.before #[Value.ref b0] s = true := fun w h => hts0 w (lw_all_tbl h)
  have hown : s.vm.findClass "MigratorLaw" = some m.cls := hown
  have hA : ∀ q : Nat, s.heap.size ≤ q → (fun q : Nat => s.heap.size ≤ q) q := fun _ h => h
  have hbA : ¬ (fun q : Nat => s.heap.size ≤ q) b0 := Nat.not_le.mpr hbl
  obtain ⟨v, u1, u2, m1, m2, hz'⟩ := pr_dirty l D hz hB (xs (i + 1))
  obtain ⟨M, N, regs, shown, pc, shows, bd, bw, ph, rd, th, lm, real, kept, copied, reg, written, want, left, told, pc2, shows2, time, since, -, rfl, rfl⟩ := hz
  obtain ⟨M', N', regs', shown', pc', shows', bd', bw', ph', rd', th', lm', real', kept', copied', reg', written', want', left', told', pc2', shows2', time', since', -, rfl, rfl⟩ := id hz'
  have hP : va_P D mgCl (wMig ct ad a M N regs shown pc shows bd bw ph rd th lm ++ wMod ct b real kept copied reg written want left told pc2 ph rd th lm shows2 time since) H := hP
  have hD : va_D (fun q : Nat => s.heap.size ≤ q) (wMig ct ad a M N regs shown pc shows bd bw ph rd th lm ++ wMod ct b real kept copied reg written want left told pc2 ph rd th lm shows2 time since) := hD
  refine lv_aload_n hx hb dL_law_232 rfl (lv_at hl 1 rfl) ?_
  refine lv_aload_n hx hb dL_law_233 rfl (lv_at hl 0 rfl) ?_
  refine lv_iload_n hx hb dL_law_234 rfl (lv_at hl 3 rfl) ?_
  refine lv_iconst (v := nI 1) hx hb dL_law_235 (by decide) ?_
  refine lv_iadd hx hb dL_law_236 ?_
  refine mg_top (y := nI (i + 1)) (nI_add _ _) ?_
  refine lw_sld hx hb hX hbl hbA hS (by omega) (by omega) dL_law_237 ?_
  refine mg_afterI (w1 := wMig ct ad a M' N' regs' shown' pc' shows' bd' bw' ph' rd' th' lm') (wr := wMod ct b real kept copied reg written want left told pc2 ph rd th lm shows2 time since) (w2 := wMig ct ad a M' N' regs' shown' pc' shows' bd' bw' ph' rd' th' lm' ++ wMod ct b real kept copied reg written want left told pc2 ph rd th lm shows2 time since) (va_runV (As := [.int (xs (i + 1))]) (rest := []) ⟨hx, hb, hml, hown, hts⟩ (m1 _) (cwV 1 hts (lw_V q198 q199 q200 q2 q201) rfl rfl rfl (by decide +kernel) ⟨Nat.le_of_ble_eq_true rfl, Nat.le_of_ble_eq_true rfl⟩) (mg_preV hC hP hD hS hA (wc := wMig ct ad a M N regs shown pc shows bd bw ph rd th lm) [0, 1, 2, 3, 4, 5, 6, 7, 8, 9, 10, 11, 12, 13, 14, 15, 16, 17, 18, 19, 20, 21, 22, 23, 24, 25, 26, 27, 28] rfl (by decide) (ci := 0) (q0 := 0) rfl rfl [.int (xs (i + 1))]) rfl rfl hl.1 rfl (lv_room (Nat.le_of_ble_eq_true rfl)) dL_law_238 ⟨Nat.le_of_ble_eq_true rfl, Nat.le_of_ble_eq_true rfl⟩) hP hD hS hA [0, 1, 2, 3, 4, 5, 6, 7, 8, 9, 10, 11, 12, 13, 14, 15, 16, 17, 18, 19, 20, 21, 22, 23, 24, 25, 26, 27, 28] [29, 30, 31, 32, 33, 34, 35, 36, 37] [9, 10, 11, 12, 13, 14, 15, 16, 17, 18, 19, 20, 21, 22, 23, 24, 25, 26, 27, 28, 29, 30, 31, 32, 33, 34, 35, 36, 37, 0, 1, 2, 3, 4, 5, 6, 7, 8] rfl rfl (by decide) (by decide) rfl (by decide) (fun H locs hP hD hS => ?_)
  refine lv_aload_n hx hb dL_law_241 rfl (lv_at hl 2 rfl) ?_
  refine lv_aload_n hx hb dL_law_242 rfl (lv_at hl 0 rfl) ?_
  refine lv_iload_n hx hb dL_law_243 rfl (lv_at hl 3 rfl) ?_
  refine lv_iconst (v := nI 1) hx hb dL_law_244 (by decide) ?_
  refine lv_iadd hx hb dL_law_245 ?_
  refine mg_top (y := nI (i + 1)) (nI_add _ _) ?_
  refine lw_sld hx hb hX hbl hbA hS (by omega) (by omega) dL_law_246 ?_
  refine mg_afterI (w1 := wMod ct b real' kept' copied' reg' written' want' left' told' pc2' ph' rd' th' lm' shows2' time' since') (wr := wMig ct ad a M' N' regs' shown' pc' shows' bd' bw' ph' rd' th' lm') (w2 := wMig ct ad a M' N' regs' shown' pc' shows' bd' bw' ph' rd' th' lm' ++ wMod ct b real' kept' copied' reg' written' want' left' told' pc2' ph' rd' th' lm' shows2' time' since') (va_runV (As := [.int (xs (i + 1))]) (rest := [.int v]) ⟨hx, hb, hml, hown, hts⟩ (m2 _) (cwV 1 hts (lw_V q322 q311 q312 q10 q313) rfl rfl rfl (by decide +kernel) ⟨Nat.le_of_ble_eq_true rfl, Nat.le_of_ble_eq_true rfl⟩) (mg_preV hC hP hD hS hA (wc := wMod ct b real kept copied reg written want left told pc2 ph rd th lm shows2 time since) [29, 30, 31, 32, 33, 34, 35, 36, 37] rfl (by decide) (ci := 5) (q0 := 0) rfl rfl [.int (xs (i + 1))]) rfl rfl hl.1 rfl (lv_room (Nat.le_of_ble_eq_true rfl)) dL_law_247 ⟨Nat.le_of_ble_eq_true rfl, Nat.le_of_ble_eq_true rfl⟩) hP hD hS hA [29, 30, 31, 32, 33, 34, 35, 36, 37] [0, 1, 2, 3, 4, 5, 6, 7, 8, 9, 10, 11, 12, 13, 14, 15, 16, 17, 18, 19, 20, 21, 22, 23, 24, 25, 26, 27, 28] [0, 1, 2, 3, 4, 5, 6, 7, 8, 9, 10, 11, 12, 13, 14, 15, 16, 17, 18, 19, 20, 21, 22, 23, 24, 25, 26, 27, 28, 29, 30, 31, 32, 33, 34, 35, 36, 37] rfl rfl (by decide) (by decide) rfl (by decide) (fun H locs hP hD hS => ?_)
  refine lv_icmp_eq (tgt := 396) hx hb dL_law_250 (by decide) (fun _ => ?_) (fun cq => absurd rfl cq)
  exact kk _ _ H locs hz' hP hD hS
end
section
/-! THE LAW's CASES (written by gen/gen_law.py) -/
set_option maxRecDepth 100000
set_option maxHeartbeats 4000000 in
set_option maxRecDepth 100000 in
/-- case 7: waits -/
theorem lo_waits {p : Program} {l : Launch} {e : Env} {s : State} {m : MethodId} {below : List Frame} {meth : Method} {c : Code} {D : va_G} {ct ad a b : Nat → Nat} {b0 L : Nat} {xs : Nat → Int32} (hL : L ≤ 192) (C0 : lw_At p s m meth c b0 L xs) (hC : mg_C D ct ad (fun q : Nat => s.heap.size ≤ q) s s.heap) {i : Nat} (hi : i + 3 ≤ L) {B : Nat} (hB : B ≤ 1000000) {w1 w2 : va_W} (hz : ZZ ct ad a b B w1 w2) {H : Heap} {locs : List Loc} (hP : va_P D mgCl (w1 ++ w2) H) (hD : va_D (fun q : Nat => s.heap.size ≤ q) (w1 ++ w2)) (hS : va_S (fun q : Nat => s.heap.size ≤ q) s.heap H locs) {ls : Array Slot} (hl : lv_has ls 4 [(0, .ref b0), (1, .ref (a 0)), (2, .ref (b 0)), (3, .int (nI i))])
    (kk : ∀ (w1 w2 : va_W) (H : Heap) (locs : List Loc), ZZ ct ad a b (B + 1000) w1 w2 → va_P D mgCl (w1 ++ w2) H → va_D (fun q : Nat => s.heap.size ≤ q) (w1 ++ w2) → va_S (fun q : Nat => s.heap.size ≤ q) s.heap H locs → W p l e room_1 s m #[Value.ref b0] below meth c H locs 38 434 (lw_Z below #[Value.ref b0] s) (F0 m 396 ls [])) : W p l e room_1 s m #[Value.ref b0] below meth c H locs 38 434 (lw_Z below #[Value.ref b0] s) (F0 m 255 ls []) := by
  obtain ⟨hx, hb, hr, hml, hown, hts0, hX, hbl, hlocks, hgv⟩ := id C0
  have hts : ∀ w ∈ lw_all, w.before #[Value.ref b0] s = true := fun w h => hts0 w (lw_all_tbl h)
  have hown : s.vm.findClass "MigratorLaw" = some m.cls := hown
  have hA : ∀ q : Nat, s.heap.size ≤ q → (fun q : Nat => s.heap.size ≤ q) q := fun _ h => h
  have hbA : ¬ (fun q : Nat => s.heap.size ≤ q) b0 := Nat.not_le.mpr hbl
  obtain ⟨v, u1, u2, m1, m2, hz'⟩ := pr_waits l D hz hB (xs (i + 1))
  obtain ⟨M, N, regs, shown, pc, shows, bd, bw, ph, rd, th, lm, real, kept, copied, reg, written, want, left, told, pc2, shows2, time, since, -, rfl, rfl⟩ := hz
  obtain ⟨M', N', regs', shown', pc', shows', bd', bw', ph', rd', th', lm', real', kept', copied', reg', written', want', left', told', pc2', shows2', time', since', -, rfl, rfl⟩ := id hz'
  have hP : va_P D mgCl (wMig ct ad a M N regs shown pc shows bd bw ph rd th lm ++ wMod ct b real kept copied reg written want left told pc2 ph rd th lm shows2 time since) H := hP
  have hD : va_D (fun q : Nat => s.heap.size ≤ q) (wMig ct ad a M N regs shown pc shows bd bw ph rd th lm ++ wMod ct b real kept copied reg written want left told pc2 ph rd th lm shows2 time since) := hD
  refine lv_aload_n hx hb dL_law_255 rfl (lv_at hl 1 rfl) ?_
  refine lv_aload_n hx hb dL_law_256 rfl (lv_at hl 0 rfl) ?_
  refine lv_iload_n hx hb dL_law_257 rfl (lv_at hl 3 rfl) ?_
  refine lv_iconst (v := nI 1) hx hb dL_law_258 (by decide) ?_
  refine lv_iadd hx hb dL_law_259 ?_
  refine mg_top (y := nI (i + 1)) (nI_add _ _) ?_
  refine lw_sld hx hb hX hbl hbA hS (by omega) (by omega) dL_law_260 ?_
  refine mg_afterI (w1 := wMig ct ad a M' N' regs' shown' pc' shows' bd' bw' ph' rd' th' lm') (wr := wMod ct b real kept copied reg written want left told pc2 ph rd th lm shows2 time since) (w2 := wMig ct ad a M' N' regs' shown' pc' shows' bd' bw' ph' rd' th' lm' ++ wMod ct b real kept copied reg written want left told pc2 ph rd th lm shows2 time since) (va_runV (As := [.int (xs (i + 1))]) (rest := []) ⟨hx, hb, hml, hown, hts⟩ (m1 _) (cwV 1 hts (lw_V q205 q206 q207 q2 q208) rfl rfl rfl (by decide +kernel) ⟨Nat.le_of_ble_eq_true rfl, Nat.le_of_ble_eq_true rfl⟩) (mg_preV hC hP hD hS hA (wc := wMig ct ad a M N regs shown pc shows bd bw ph rd th lm) [0, 1, 2, 3, 4, 5, 6, 7, 8, 9, 10, 11, 12, 13, 14, 15, 16, 17, 18, 19, 20, 21, 22, 23, 24, 25, 26, 27, 28] rfl (by decide) (ci := 0) (q0 := 0) rfl rfl [.int (xs (i + 1))]) rfl rfl hl.1 rfl (lv_room (Nat.le_of_ble_eq_true rfl)) dL_law_261 ⟨Nat.le_of_ble_eq_true rfl, Nat.le_of_ble_eq_true rfl⟩) hP hD hS hA [0, 1, 2, 3, 4, 5, 6, 7, 8, 9, 10, 11, 12, 13, 14, 15, 16, 17, 18, 19, 20, 21, 22, 23, 24, 25, 26, 27, 28] [29, 30, 31, 32, 33, 34, 35, 36, 37] [9, 10, 11, 12, 13, 14, 15, 16, 17, 18, 19, 20, 21, 22, 23, 24, 25, 26, 27, 28, 29, 30, 31, 32, 33, 34, 35, 36, 37, 0, 1, 2, 3, 4, 5, 6, 7, 8] rfl rfl (by decide) (by decide) rfl (by decide) (fun H locs hP hD hS => ?_)
  refine lv_aload_n hx hb dL_law_264 rfl (lv_at hl 2 rfl) ?_
  refine lv_aload_n hx hb dL_law_265 rfl (lv_at hl 0 rfl) ?_
  refine lv_iload_n hx hb dL_law_266 rfl (lv_at hl 3 rfl) ?_
  refine lv_iconst (v := nI 1) hx hb dL_law_267 (by decide) ?_
  refine lv_iadd hx hb dL_law_268 ?_
  refine mg_top (y := nI (i + 1)) (nI_add _ _) ?_
  refine lw_sld hx hb hX hbl hbA hS (by omega) (by omega) dL_law_269 ?_
  refine mg_afterI (w1 := wMod ct b real' kept' copied' reg' written' want' left' told' pc2' ph' rd' th' lm' shows2' time' since') (wr := wMig ct ad a M' N' regs' shown' pc' shows' bd' bw' ph' rd' th' lm') (w2 := wMig ct ad a M' N' regs' shown' pc' shows' bd' bw' ph' rd' th' lm' ++ wMod ct b real' kept' copied' reg' written' want' left' told' pc2' ph' rd' th' lm' shows2' time' since') (va_runV (As := [.int (xs (i + 1))]) (rest := [.int v]) ⟨hx, hb, hml, hown, hts⟩ (m2 _) (cwV 1 hts (lw_V q323 q324 q325 q10 q326) rfl rfl rfl (by decide +kernel) ⟨Nat.le_of_ble_eq_true rfl, Nat.le_of_ble_eq_true rfl⟩) (mg_preV hC hP hD hS hA (wc := wMod ct b real kept copied reg written want left told pc2 ph rd th lm shows2 time since) [29, 30, 31, 32, 33, 34, 35, 36, 37] rfl (by decide) (ci := 5) (q0 := 0) rfl rfl [.int (xs (i + 1))]) rfl rfl hl.1 rfl (lv_room (Nat.le_of_ble_eq_true rfl)) dL_law_270 ⟨Nat.le_of_ble_eq_true rfl, Nat.le_of_ble_eq_true rfl⟩) hP hD hS hA [29, 30, 31, 32, 33, 34, 35, 36, 37] [0, 1, 2, 3, 4, 5, 6, 7, 8, 9, 10, 11, 12, 13, 14, 15, 16, 17, 18, 19, 20, 21, 22, 23, 24, 25, 26, 27, 28] [0, 1, 2, 3, 4, 5, 6, 7, 8, 9, 10, 11, 12, 13, 14, 15, 16, 17, 18, 19, 20, 21, 22, 23, 24, 25, 26, 27, 28, 29, 30, 31, 32, 33, 34, 35, 36, 37] rfl rfl (by decide) (by decide) rfl (by decide) (fun H locs hP hD hS => ?_)
  refine lv_icmp_eq (tgt := 396) hx hb dL_law_273 (by decide) (fun _ => ?_) (fun cq => absurd rfl cq)
  exact kk _ _ H locs hz' hP hD hS
set_option maxHeartbeats 4000000 in
set_option maxRecDepth 100000 in
/-- case 8: source -/
theorem lo_source {p : Program} {l : Launch} {e : Env} {s : State} {m : MethodId} {below : List Frame} {meth : Method} {c : Code} {D : va_G} {ct ad a b : Nat → Nat} {b0 L : Nat} {xs : Nat → Int32} (hL : L ≤ 192) (C0 : lw_At p s m meth c b0 L xs) (hC : mg_C D ct ad (fun q : Nat => s.heap.size ≤ q) s s.heap) {i : Nat} (hi : i + 3 ≤ L) {B : Nat} (hB : B ≤ 1000000) {w1 w2 : va_W} (hz : ZZ ct ad a b B w1 w2) {H : Heap} {locs : List Loc} (hP : va_P D mgCl (w1 ++ w2) H) (hD : va_D (fun q : Nat => s.heap.size ≤ q) (w1 ++ w2)) (hS : va_S (fun q : Nat => s.heap.size ≤ q) s.heap H locs) {ls : Array Slot} (hl : lv_has ls 4 [(0, .ref b0), (1, .ref (a 0)), (2, .ref (b 0)), (3, .int (nI i))])
    (kk : ∀ (w1 w2 : va_W) (H : Heap) (locs : List Loc), ZZ ct ad a b (B + 1000) w1 w2 → va_P D mgCl (w1 ++ w2) H → va_D (fun q : Nat => s.heap.size ≤ q) (w1 ++ w2) → va_S (fun q : Nat => s.heap.size ≤ q) s.heap H locs → W p l e room_1 s m #[Value.ref b0] below meth c H locs 38 434 (lw_Z below #[Value.ref b0] s) (F0 m 396 ls [])) : W p l e room_1 s m #[Value.ref b0] below meth c H locs 38 434 (lw_Z below #[Value.ref b0] s) (F0 m 278 ls []) := by
  obtain ⟨hx, hb, hr, hml, hown, hts0, hX, hbl, hlocks, hgv⟩ := id C0
  have hts : ∀ w ∈ lw_all, w.before #[Value.ref b0] s = true := fun w h => hts0 w (lw_all_tbl h)
  have hown : s.vm.findClass "MigratorLaw" = some m.cls := hown
  have hA : ∀ q : Nat, s.heap.size ≤ q → (fun q : Nat => s.heap.size ≤ q) q := fun _ h => h
  have hbA : ¬ (fun q : Nat => s.heap.size ≤ q) b0 := Nat.not_le.mpr hbl
  obtain ⟨v, u1, u2, m1, m2, hz'⟩ := pr_source l D hz hB (xs (i + 1))
  obtain ⟨M, N, regs, shown, pc, shows, bd, bw, ph, rd, th, lm, real, kept, copied, reg, written, want, left, told, pc2, shows2, time, since, -, rfl, rfl⟩ := hz
  obtain ⟨M', N', regs', shown', pc', shows', bd', bw', ph', rd', th', lm', real', kept', copied', reg', written', want', left', told', pc2', shows2', time', since', -, rfl, rfl⟩ := id hz'
  have hP : va_P D mgCl (wMig ct ad a M N regs shown pc shows bd bw ph rd th lm ++ wMod ct b real kept copied reg written want left told pc2 ph rd th lm shows2 time since) H := hP
  have hD : va_D (fun q : Nat => s.heap.size ≤ q) (wMig ct ad a M N regs shown pc shows bd bw ph rd th lm ++ wMod ct b real kept copied reg written want left told pc2 ph rd th lm shows2 time since) := hD
  refine lv_aload_n hx hb dL_law_278 rfl (lv_at hl 1 rfl) ?_
  refine lv_aload_n hx hb dL_law_279 rfl (lv_at hl 0 rfl) ?_
  refine lv_iload_n hx hb dL_law_280 rfl (lv_at hl 3 rfl) ?_
  refine lv_iconst (v := nI 1) hx hb dL_law_281 (by decide) ?_
  refine lv_iadd hx hb dL_law_282 ?_
  refine mg_top (y := nI (i + 1)) (nI_add _ _) ?_
  refine lw_sld hx hb hX hbl hbA hS (by omega) (by omega) dL_law_283 ?_
  refine mg_afterI (w1 := wMig ct ad a M' N' regs' shown' pc' shows' bd' bw' ph' rd' th' lm') (wr := wMod ct b real kept copied reg written want left told pc2 ph rd th lm shows2 time since) (w2 := wMig ct ad a M' N' regs' shown' pc' shows' bd' bw' ph' rd' th' lm' ++ wMod ct b real kept copied reg written want left told pc2 ph rd th lm shows2 time since) (va_runV (As := [.int (xs (i + 1))]) (rest := []) ⟨hx, hb, hml, hown, hts⟩ (m1 _) (cwV 1 hts (lw_V q209 q210 q211 q2 q212) rfl rfl rfl (by decide +kernel) ⟨Nat.le_of_ble_eq_true rfl, Nat.le_of_ble_eq_true rfl⟩) (mg_preV hC hP hD hS hA (wc := wMig ct ad a M N regs shown pc shows bd bw ph rd th lm) [0, 1, 2, 3, 4, 5, 6, 7, 8, 9, 10, 11, 12, 13, 14, 15, 16, 17, 18, 19, 20, 21, 22, 23, 24, 25, 26, 27, 28] rfl (by decide) (ci := 0) (q0 := 0) rfl rfl [.int (xs (i + 1))]) rfl rfl hl.1 rfl (lv_room (Nat.le_of_ble_eq_true rfl)) dL_law_284 ⟨Nat.le_of_ble_eq_true rfl, Nat.le_of_ble_eq_true rfl⟩) hP hD hS hA [0, 1, 2, 3, 4, 5, 6, 7, 8, 9, 10, 11, 12, 13, 14, 15, 16, 17, 18, 19, 20, 21, 22, 23, 24, 25, 26, 27, 28] [29, 30, 31, 32, 33, 34, 35, 36, 37] [9, 10, 11, 12, 13, 14, 15, 16, 17, 18, 19, 20, 21, 22, 23, 24, 25, 26, 27, 28, 29, 30, 31, 32, 33, 34, 35, 36, 37, 0, 1, 2, 3, 4, 5, 6, 7, 8] rfl rfl (by decide) (by decide) rfl (by decide) (fun H locs hP hD hS => ?_)
  refine lv_aload_n hx hb dL_law_287 rfl (lv_at hl 2 rfl) ?_
  refine lv_aload_n hx hb dL_law_288 rfl (lv_at hl 0 rfl) ?_
  refine lv_iload_n hx hb dL_law_289 rfl (lv_at hl 3 rfl) ?_
  refine lv_iconst (v := nI 1) hx hb dL_law_290 (by decide) ?_
  refine lv_iadd hx hb dL_law_291 ?_
  refine mg_top (y := nI (i + 1)) (nI_add _ _) ?_
  refine lw_sld hx hb hX hbl hbA hS (by omega) (by omega) dL_law_292 ?_
  refine mg_afterI (w1 := wMod ct b real' kept' copied' reg' written' want' left' told' pc2' ph' rd' th' lm' shows2' time' since') (wr := wMig ct ad a M' N' regs' shown' pc' shows' bd' bw' ph' rd' th' lm') (w2 := wMig ct ad a M' N' regs' shown' pc' shows' bd' bw' ph' rd' th' lm' ++ wMod ct b real' kept' copied' reg' written' want' left' told' pc2' ph' rd' th' lm' shows2' time' since') (va_runV (As := [.int (xs (i + 1))]) (rest := [.int v]) ⟨hx, hb, hml, hown, hts⟩ (m2 _) (cwV 1 hts (lw_V q327 q328 q329 q10 q330) rfl rfl rfl (by decide +kernel) ⟨Nat.le_of_ble_eq_true rfl, Nat.le_of_ble_eq_true rfl⟩) (mg_preV hC hP hD hS hA (wc := wMod ct b real kept copied reg written want left told pc2 ph rd th lm shows2 time since) [29, 30, 31, 32, 33, 34, 35, 36, 37] rfl (by decide) (ci := 5) (q0 := 0) rfl rfl [.int (xs (i + 1))]) rfl rfl hl.1 rfl (lv_room (Nat.le_of_ble_eq_true rfl)) dL_law_293 ⟨Nat.le_of_ble_eq_true rfl, Nat.le_of_ble_eq_true rfl⟩) hP hD hS hA [29, 30, 31, 32, 33, 34, 35, 36, 37] [0, 1, 2, 3, 4, 5, 6, 7, 8, 9, 10, 11, 12, 13, 14, 15, 16, 17, 18, 19, 20, 21, 22, 23, 24, 25, 26, 27, 28] [0, 1, 2, 3, 4, 5, 6, 7, 8, 9, 10, 11, 12, 13, 14, 15, 16, 17, 18, 19, 20, 21, 22, 23, 24, 25, 26, 27, 28, 29, 30, 31, 32, 33, 34, 35, 36, 37] rfl rfl (by decide) (by decide) rfl (by decide) (fun H locs hP hD hS => ?_)
  refine lv_icmp_eq (tgt := 396) hx hb dL_law_296 (by decide) (fun _ => ?_) (fun cq => absurd rfl cq)
  exact kk _ _ H locs hz' hP hD hS
set_option maxHeartbeats 4000000 in
set_option maxRecDepth 100000 in
/-- case 9: destination -/
theorem lo_destination {p : Program} {l : Launch} {e : Env} {s : State} {m : MethodId} {below : List Frame} {meth : Method} {c : Code} {D : va_G} {ct ad a b : Nat → Nat} {b0 L : Nat} {xs : Nat → Int32} (hL : L ≤ 192) (C0 : lw_At p s m meth c b0 L xs) (hC : mg_C D ct ad (fun q : Nat => s.heap.size ≤ q) s s.heap) {i : Nat} (hi : i + 3 ≤ L) {B : Nat} (hB : B ≤ 1000000) {w1 w2 : va_W} (hz : ZZ ct ad a b B w1 w2) {H : Heap} {locs : List Loc} (hP : va_P D mgCl (w1 ++ w2) H) (hD : va_D (fun q : Nat => s.heap.size ≤ q) (w1 ++ w2)) (hS : va_S (fun q : Nat => s.heap.size ≤ q) s.heap H locs) {ls : Array Slot} (hl : lv_has ls 4 [(0, .ref b0), (1, .ref (a 0)), (2, .ref (b 0)), (3, .int (nI i))])
    (kk : ∀ (w1 w2 : va_W) (H : Heap) (locs : List Loc), ZZ ct ad a b (B + 1000) w1 w2 → va_P D mgCl (w1 ++ w2) H → va_D (fun q : Nat => s.heap.size ≤ q) (w1 ++ w2) → va_S (fun q : Nat => s.heap.size ≤ q) s.heap H locs → W p l e room_1 s m #[Value.ref b0] below meth c H locs 38 434 (lw_Z below #[Value.ref b0] s) (F0 m 396 ls [])) : W p l e room_1 s m #[Value.ref b0] below meth c H locs 38 434 (lw_Z below #[Value.ref b0] s) (F0 m 301 ls []) := by
  obtain ⟨hx, hb, hr, hml, hown, hts0, hX, hbl, hlocks, hgv⟩ := id C0
  have hts : ∀ w ∈ lw_all, w.before #[Value.ref b0] s = true := fun w h => hts0 w (lw_all_tbl h)
  have hown : s.vm.findClass "MigratorLaw" = some m.cls := hown
  have hA : ∀ q : Nat, s.heap.size ≤ q → (fun q : Nat => s.heap.size ≤ q) q := fun _ h => h
  have hbA : ¬ (fun q : Nat => s.heap.size ≤ q) b0 := Nat.not_le.mpr hbl
  obtain ⟨v, u1, u2, m1, m2, hz'⟩ := pr_destination l D hz hB (xs (i + 1))
  obtain ⟨M, N, regs, shown, pc, shows, bd, bw, ph, rd, th, lm, real, kept, copied, reg, written, want, left, told, pc2, shows2, time, since, -, rfl, rfl⟩ := hz
  obtain ⟨M', N', regs', shown', pc', shows', bd', bw', ph', rd', th', lm', real', kept', copied', reg', written', want', left', told', pc2', shows2', time', since', -, rfl, rfl⟩ := id hz'
  have hP : va_P D mgCl (wMig ct ad a M N regs shown pc shows bd bw ph rd th lm ++ wMod ct b real kept copied reg written want left told pc2 ph rd th lm shows2 time since) H := hP
  have hD : va_D (fun q : Nat => s.heap.size ≤ q) (wMig ct ad a M N regs shown pc shows bd bw ph rd th lm ++ wMod ct b real kept copied reg written want left told pc2 ph rd th lm shows2 time since) := hD
  refine lv_aload_n hx hb dL_law_301 rfl (lv_at hl 1 rfl) ?_
  refine lv_aload_n hx hb dL_law_302 rfl (lv_at hl 0 rfl) ?_
  refine lv_iload_n hx hb dL_law_303 rfl (lv_at hl 3 rfl) ?_
  refine lv_iconst (v := nI 1) hx hb dL_law_304 (by decide) ?_
  refine lv_iadd hx hb dL_law_305 ?_
  refine mg_top (y := nI (i + 1)) (nI_add _ _) ?_
  refine lw_sld hx hb hX hbl hbA hS (by omega) (by omega) dL_law_306 ?_
  refine mg_afterI (w1 := wMig ct ad a M' N' regs' shown' pc' shows' bd' bw' ph' rd' th' lm') (wr := wMod ct b real kept copied reg written want left told pc2 ph rd th lm shows2 time since) (w2 := wMig ct ad a M' N' regs' shown' pc' shows' bd' bw' ph' rd' th' lm' ++ wMod ct b real kept copied reg written want left told pc2 ph rd th lm shows2 time since) (va_runV (As := [.int (xs (i + 1))]) (rest := []) ⟨hx, hb, hml, hown, hts⟩ (m1 _) (cwV 1 hts (lw_V q214 q215 q216 q2 q217) rfl rfl rfl (by decide +kernel) ⟨Nat.le_of_ble_eq_true rfl, Nat.le_of_ble_eq_true rfl⟩) (mg_preV hC hP hD hS hA (wc := wMig ct ad a M N regs shown pc shows bd bw ph rd th lm) [0, 1, 2, 3, 4, 5, 6, 7, 8, 9, 10, 11, 12, 13, 14, 15, 16, 17, 18, 19, 20, 21, 22, 23, 24, 25, 26, 27, 28] rfl (by decide) (ci := 0) (q0 := 0) rfl rfl [.int (xs (i + 1))]) rfl rfl hl.1 rfl (lv_room (Nat.le_of_ble_eq_true rfl)) dL_law_307 ⟨Nat.le_of_ble_eq_true rfl, Nat.le_of_ble_eq_true rfl⟩) hP hD hS hA [0, 1, 2, 3, 4, 5, 6, 7, 8, 9, 10, 11, 12, 13, 14, 15, 16, 17, 18, 19, 20, 21, 22, 23, 24, 25, 26, 27, 28] [29, 30, 31, 32, 33, 34, 35, 36, 37] [9, 10, 11, 12, 13, 14, 15, 16, 17, 18, 19, 20, 21, 22, 23, 24, 25, 26, 27, 28, 29, 30, 31, 32, 33, 34, 35, 36, 37, 0, 1, 2, 3, 4, 5, 6, 7, 8] rfl rfl (by decide) (by decide) rfl (by decide) (fun H locs hP hD hS => ?_)
  refine lv_aload_n hx hb dL_law_310 rfl (lv_at hl 2 rfl) ?_
  refine lv_aload_n hx hb dL_law_311 rfl (lv_at hl 0 rfl) ?_
  refine lv_iload_n hx hb dL_law_312 rfl (lv_at hl 3 rfl) ?_
  refine lv_iconst (v := nI 1) hx hb dL_law_313 (by decide) ?_
  refine lv_iadd hx hb dL_law_314 ?_
  refine mg_top (y := nI (i + 1)) (nI_add _ _) ?_
  refine lw_sld hx hb hX hbl hbA hS (by omega) (by omega) dL_law_315 ?_
  refine mg_afterI (w1 := wMod ct b real' kept' copied' reg' written' want' left' told' pc2' ph' rd' th' lm' shows2' time' since') (wr := wMig ct ad a M' N' regs' shown' pc' shows' bd' bw' ph' rd' th' lm') (w2 := wMig ct ad a M' N' regs' shown' pc' shows' bd' bw' ph' rd' th' lm' ++ wMod ct b real' kept' copied' reg' written' want' left' told' pc2' ph' rd' th' lm' shows2' time' since') (va_runV (As := [.int (xs (i + 1))]) (rest := [.int v]) ⟨hx, hb, hml, hown, hts⟩ (m2 _) (cwV 1 hts (lw_V q331 q332 q333 q10 q334) rfl rfl rfl (by decide +kernel) ⟨Nat.le_of_ble_eq_true rfl, Nat.le_of_ble_eq_true rfl⟩) (mg_preV hC hP hD hS hA (wc := wMod ct b real kept copied reg written want left told pc2 ph rd th lm shows2 time since) [29, 30, 31, 32, 33, 34, 35, 36, 37] rfl (by decide) (ci := 5) (q0 := 0) rfl rfl [.int (xs (i + 1))]) rfl rfl hl.1 rfl (lv_room (Nat.le_of_ble_eq_true rfl)) dL_law_316 ⟨Nat.le_of_ble_eq_true rfl, Nat.le_of_ble_eq_true rfl⟩) hP hD hS hA [29, 30, 31, 32, 33, 34, 35, 36, 37] [0, 1, 2, 3, 4, 5, 6, 7, 8, 9, 10, 11, 12, 13, 14, 15, 16, 17, 18, 19, 20, 21, 22, 23, 24, 25, 26, 27, 28] [0, 1, 2, 3, 4, 5, 6, 7, 8, 9, 10, 11, 12, 13, 14, 15, 16, 17, 18, 19, 20, 21, 22, 23, 24, 25, 26, 27, 28, 29, 30, 31, 32, 33, 34, 35, 36, 37] rfl rfl (by decide) (by decide) rfl (by decide) (fun H locs hP hD hS => ?_)
  refine lv_icmp_eq (tgt := 396) hx hb dL_law_319 (by decide) (fun _ => ?_) (fun cq => absurd rfl cq)
  exact kk _ _ H locs hz' hP hD hS
set_option maxHeartbeats 4000000 in
set_option maxRecDepth 100000 in
/-- case 10: register -/
theorem lo_register {p : Program} {l : Launch} {e : Env} {s : State} {m : MethodId} {below : List Frame} {meth : Method} {c : Code} {D : va_G} {ct ad a b : Nat → Nat} {b0 L : Nat} {xs : Nat → Int32} (hL : L ≤ 192) (C0 : lw_At p s m meth c b0 L xs) (hC : mg_C D ct ad (fun q : Nat => s.heap.size ≤ q) s s.heap) {i : Nat} (hi : i + 3 ≤ L) {B : Nat} (hB : B ≤ 1000000) {w1 w2 : va_W} (hz : ZZ ct ad a b B w1 w2) {H : Heap} {locs : List Loc} (hP : va_P D mgCl (w1 ++ w2) H) (hD : va_D (fun q : Nat => s.heap.size ≤ q) (w1 ++ w2)) (hS : va_S (fun q : Nat => s.heap.size ≤ q) s.heap H locs) {ls : Array Slot} (hl : lv_has ls 4 [(0, .ref b0), (1, .ref (a 0)), (2, .ref (b 0)), (3, .int (nI i))])
    (kk : ∀ (w1 w2 : va_W) (H : Heap) (locs : List Loc), ZZ ct ad a b (B + 1000) w1 w2 → va_P D mgCl (w1 ++ w2) H → va_D (fun q : Nat => s.heap.size ≤ q) (w1 ++ w2) → va_S (fun q : Nat => s.heap.size ≤ q) s.heap H locs → W p l e room_1 s m #[Value.ref b0] below meth c H locs 38 434 (lw_Z below #[Value.ref b0] s) (F0 m 396 ls [])) : W p l e room_1 s m #[Value.ref b0] below meth c H locs 38 434 (lw_Z below #[Value.ref b0] s) (F0 m 324 ls []) := by
  obtain ⟨hx, hb, hr, hml, hown, hts0, hX, hbl, hlocks, hgv⟩ := id C0
  have hts : ∀ w ∈ lw_all, w.before #[Value.ref b0] s = true := fun w h => hts0 w (lw_all_tbl h)
  have hown : s.vm.findClass "MigratorLaw" = some m.cls := hown
  have hA : ∀ q : Nat, s.heap.size ≤ q → (fun q : Nat => s.heap.size ≤ q) q := fun _ h => h
  have hbA : ¬ (fun q : Nat => s.heap.size ≤ q) b0 := Nat.not_le.mpr hbl
  obtain ⟨v, u1, u2, m1, m2, hz'⟩ := pr_register l D hz hB (xs (i + 1))
  obtain ⟨M, N, regs, shown, pc, shows, bd, bw, ph, rd, th, lm, real, kept, copied, reg, written, want, left, told, pc2, shows2, time, since, -, rfl, rfl⟩ := hz
  obtain ⟨M', N', regs', shown', pc', shows', bd', bw', ph', rd', th', lm', real', kept', copied', reg', written', want', left', told', pc2', shows2', time', since', -, rfl, rfl⟩ := id hz'
  have hP : va_P D mgCl (wMig ct ad a M N regs shown pc shows bd bw ph rd th lm ++ wMod ct b real kept copied reg written want left told pc2 ph rd th lm shows2 time since) H := hP
  have hD : va_D (fun q : Nat => s.heap.size ≤ q) (wMig ct ad a M N regs shown pc shows bd bw ph rd th lm ++ wMod ct b real kept copied reg written want left told pc2 ph rd th lm shows2 time since) := hD
  refine lv_aload_n hx hb dL_law_324 rfl (lv_at hl 1 rfl) ?_
  refine lv_aload_n hx hb dL_law_325 rfl (lv_at hl 0 rfl) ?_
  refine lv_iload_n hx hb dL_law_326 rfl (lv_at hl 3 rfl) ?_
  refine lv_iconst (v := nI 1) hx hb dL_law_327 (by decide) ?_
  refine lv_iadd hx hb dL_law_328 ?_
  refine mg_top (y := nI (i + 1)) (nI_add _ _) ?_
  refine lw_sld hx hb hX hbl hbA hS (by omega) (by omega) dL_law_329 ?_
  refine mg_afterI (w1 := wMig ct ad a M' N' regs' shown' pc' shows' bd' bw' ph' rd' th' lm') (wr := wMod ct b real kept copied reg written want left told pc2 ph rd th lm shows2 time since) (w2 := wMig ct ad a M' N' regs' shown' pc' shows' bd' bw' ph' rd' th' lm' ++ wMod ct b real kept copied reg written want left told pc2 ph rd th lm shows2 time since) (va_runV (As := [.int (xs (i + 1))]) (rest := []) ⟨hx, hb, hml, hown, hts⟩ (m1 _) (cwV 1 hts (lw_V q218 q219 q220 q2 q221) rfl rfl rfl (by decide +kernel) ⟨Nat.le_of_ble_eq_true rfl, Nat.le_of_ble_eq_true rfl⟩) (mg_preV hC hP hD hS hA (wc := wMig ct ad a M N regs shown pc shows bd bw ph rd th lm) [0, 1, 2, 3, 4, 5, 6, 7, 8, 9, 10, 11, 12, 13, 14, 15, 16, 17, 18, 19, 20, 21, 22, 23, 24, 25, 26, 27, 28] rfl (by decide) (ci := 0) (q0 := 0) rfl rfl [.int (xs (i + 1))]) rfl rfl hl.1 rfl (lv_room (Nat.le_of_ble_eq_true rfl)) dL_law_330 ⟨Nat.le_of_ble_eq_true rfl, Nat.le_of_ble_eq_true rfl⟩) hP hD hS hA [0, 1, 2, 3, 4, 5, 6, 7, 8, 9, 10, 11, 12, 13, 14, 15, 16, 17, 18, 19, 20, 21, 22, 23, 24, 25, 26, 27, 28] [29, 30, 31, 32, 33, 34, 35, 36, 37] [9, 10, 11, 12, 13, 14, 15, 16, 17, 18, 19, 20, 21, 22, 23, 24, 25, 26, 27, 28, 29, 30, 31, 32, 33, 34, 35, 36, 37, 0, 1, 2, 3, 4, 5, 6, 7, 8] rfl rfl (by decide) (by decide) rfl (by decide) (fun H locs hP hD hS => ?_)
  refine lv_aload_n hx hb dL_law_333 rfl (lv_at hl 2 rfl) ?_
  refine lv_aload_n hx hb dL_law_334 rfl (lv_at hl 0 rfl) ?_
  refine lv_iload_n hx hb dL_law_335 rfl (lv_at hl 3 rfl) ?_
  refine lv_iconst (v := nI 1) hx hb dL_law_336 (by decide) ?_
  refine lv_iadd hx hb dL_law_337 ?_
  refine mg_top (y := nI (i + 1)) (nI_add _ _) ?_
  refine lw_sld hx hb hX hbl hbA hS (by omega) (by omega) dL_law_338 ?_
  refine mg_afterI (w1 := wMod ct b real' kept' copied' reg' written' want' left' told' pc2' ph' rd' th' lm' shows2' time' since') (wr := wMig ct ad a M' N' regs' shown' pc' shows' bd' bw' ph' rd' th' lm') (w2 := wMig ct ad a M' N' regs' shown' pc' shows' bd' bw' ph' rd' th' lm' ++ wMod ct b real' kept' copied' reg' written' want' left' told' pc2' ph' rd' th' lm' shows2' time' since') (va_runV (As := [.int (xs (i + 1))]) (rest := [.int v]) ⟨hx, hb, hml, hown, hts⟩ (m2 _) (cwV 1 hts (lw_V q335 q336 q337 q10 q338) rfl rfl rfl (by decide +kernel) ⟨Nat.le_of_ble_eq_true rfl, Nat.le_of_ble_eq_true rfl⟩) (mg_preV hC hP hD hS hA (wc := wMod ct b real kept copied reg written want left told pc2 ph rd th lm shows2 time since) [29, 30, 31, 32, 33, 34, 35, 36, 37] rfl (by decide) (ci := 5) (q0 := 0) rfl rfl [.int (xs (i + 1))]) rfl rfl hl.1 rfl (lv_room (Nat.le_of_ble_eq_true rfl)) dL_law_339 ⟨Nat.le_of_ble_eq_true rfl, Nat.le_of_ble_eq_true rfl⟩) hP hD hS hA [29, 30, 31, 32, 33, 34, 35, 36, 37] [0, 1, 2, 3, 4, 5, 6, 7, 8, 9, 10, 11, 12, 13, 14, 15, 16, 17, 18, 19, 20, 21, 22, 23, 24, 25, 26, 27, 28] [0, 1, 2, 3, 4, 5, 6, 7, 8, 9, 10, 11, 12, 13, 14, 15, 16, 17, 18, 19, 20, 21, 22, 23, 24, 25, 26, 27, 28, 29, 30, 31, 32, 33, 34, 35, 36, 37] rfl rfl (by decide) (by decide) rfl (by decide) (fun H locs hP hD hS => ?_)
  refine lv_icmp_eq (tgt := 396) hx hb dL_law_342 (by decide) (fun _ => ?_) (fun cq => absurd rfl cq)
  exact kk _ _ H locs hz' hP hD hS
set_option maxHeartbeats 4000000 in
set_option maxRecDepth 100000 in
/-- case 11: pc -/
theorem lo_pc {p : Program} {l : Launch} {e : Env} {s : State} {m : MethodId} {below : List Frame} {meth : Method} {c : Code} {D : va_G} {ct ad a b : Nat → Nat} {b0 L : Nat} {xs : Nat → Int32} (hL : L ≤ 192) (C0 : lw_At p s m meth c b0 L xs) (hC : mg_C D ct ad (fun q : Nat => s.heap.size ≤ q) s s.heap) {i : Nat} (hi : i + 3 ≤ L) {B : Nat} (hB : B ≤ 1000000) {w1 w2 : va_W} (hz : ZZ ct ad a b B w1 w2) {H : Heap} {locs : List Loc} (hP : va_P D mgCl (w1 ++ w2) H) (hD : va_D (fun q : Nat => s.heap.size ≤ q) (w1 ++ w2)) (hS : va_S (fun q : Nat => s.heap.size ≤ q) s.heap H locs) {ls : Array Slot} (hl : lv_has ls 4 [(0, .ref b0), (1, .ref (a 0)), (2, .ref (b 0)), (3, .int (nI i))])
    (kk : ∀ (w1 w2 : va_W) (H : Heap) (locs : List Loc), ZZ ct ad a b (B + 1000) w1 w2 → va_P D mgCl (w1 ++ w2) H → va_D (fun q : Nat => s.heap.size ≤ q) (w1 ++ w2) → va_S (fun q : Nat => s.heap.size ≤ q) s.heap H locs → W p l e room_1 s m #[Value.ref b0] below meth c H locs 38 434 (lw_Z below #[Value.ref b0] s) (F0 m 396 ls [])) : W p l e room_1 s m #[Value.ref b0] below meth c H locs 38 434 (lw_Z below #[Value.ref b0] s) (F0 m 347 ls []) := by
  obtain ⟨hx, hb, hr, hml, hown, hts0, hX, hbl, hlocks, hgv⟩ := id C0
  have hts : ∀ w ∈ lw_all, w.before #[Value.ref b0] s = true := fun w h => hts0 w (lw_all_tbl h)
  have hown : s.vm.findClass "MigratorLaw" = some m.cls := hown
  have hA : ∀ q : Nat, s.heap.size ≤ q → (fun q : Nat => s.heap.size ≤ q) q := fun _ h => h
  have hbA : ¬ (fun q : Nat => s.heap.size ≤ q) b0 := Nat.not_le.mpr hbl
  obtain ⟨v, u1, u2, m1, m2, hz'⟩ := pr_pc l D hz hB
  obtain ⟨M, N, regs, shown, pc, shows, bd, bw, ph, rd, th, lm, real, kept, copied, reg, written, want, left, told, pc2, shows2, time, since, -, rfl, rfl⟩ := hz
  obtain ⟨M', N', regs', shown', pc', shows', bd', bw', ph', rd', th', lm', real', kept', copied', reg', written', want', left', told', pc2', shows2', time', since', -, rfl, rfl⟩ := id hz'
  have hP : va_P D mgCl (wMig ct ad a M N regs shown pc shows bd bw ph rd th lm ++ wMod ct b real kept copied reg written want left told pc2 ph rd th lm shows2 time since) H := hP
  have hD : va_D (fun q : Nat => s.heap.size ≤ q) (wMig ct ad a M N regs shown pc shows bd bw ph rd th lm ++ wMod ct b real kept copied reg written want left told pc2 ph rd th lm shows2 time since) := hD
  refine lv_aload_n hx hb dL_law_347 rfl (lv_at hl 1 rfl) ?_
  refine mg_afterI (w1 := wMig ct ad a M' N' regs' shown' pc' shows' bd' bw' ph' rd' th' lm') (wr := wMod ct b real kept copied reg written want left told pc2 ph rd th lm shows2 time since) (w2 := wMig ct ad a M' N' regs' shown' pc' shows' bd' bw' ph' rd' th' lm' ++ wMod ct b real kept copied reg written want left told pc2 ph rd th lm shows2 time since) (va_runV (As := []) (rest := []) ⟨hx, hb, hml, hown, hts⟩ (m1 _) (cwV 0 hts (lw_V q222 q223 q224 q2 q225) rfl rfl rfl (by decide +kernel) ⟨Nat.le_of_ble_eq_true rfl, Nat.le_of_ble_eq_true rfl⟩) (mg_preV hC hP hD hS hA (wc := wMig ct ad a M N regs shown pc shows bd bw ph rd th lm) [0, 1, 2, 3, 4, 5, 6, 7, 8, 9, 10, 11, 12, 13, 14, 15, 16, 17, 18, 19, 20, 21, 22, 23, 24, 25, 26, 27, 28] rfl (by decide) (ci := 0) (q0 := 0) rfl rfl []) rfl rfl hl.1 rfl (lv_room (Nat.le_of_ble_eq_true rfl)) dL_law_348 ⟨Nat.le_of_ble_eq_true rfl, Nat.le_of_ble_eq_true rfl⟩) hP hD hS hA [0, 1, 2, 3, 4, 5, 6, 7, 8, 9, 10, 11, 12, 13, 14, 15, 16, 17, 18, 19, 20, 21, 22, 23, 24, 25, 26, 27, 28] [29, 30, 31, 32, 33, 34, 35, 36, 37] [9, 10, 11, 12, 13, 14, 15, 16, 17, 18, 19, 20, 21, 22, 23, 24, 25, 26, 27, 28, 29, 30, 31, 32, 33, 34, 35, 36, 37, 0, 1, 2, 3, 4, 5, 6, 7, 8] rfl rfl (by decide) (by decide) rfl (by decide) (fun H locs hP hD hS => ?_)
  refine lv_aload_n hx hb dL_law_351 rfl (lv_at hl 2 rfl) ?_
  refine mg_afterI (w1 := wMod ct b real' kept' copied' reg' written' want' left' told' pc2' ph' rd' th' lm' shows2' time' since') (wr := wMig ct ad a M' N' regs' shown' pc' shows' bd' bw' ph' rd' th' lm') (w2 := wMig ct ad a M' N' regs' shown' pc' shows' bd' bw' ph' rd' th' lm' ++ wMod ct b real' kept' copied' reg' written' want' left' told' pc2' ph' rd' th' lm' shows2' time' since') (va_runV (As := []) (rest := [.int v]) ⟨hx, hb, hml, hown, hts⟩ (m2 _) (cwV 0 hts (lw_V q339 q340 q341 q10 q342) rfl rfl rfl (by decide +kernel) ⟨Nat.le_of_ble_eq_true rfl, Nat.le_of_ble_eq_true rfl⟩) (mg_preV hC hP hD hS hA (wc := wMod ct b real kept copied reg written want left told pc2 ph rd th lm shows2 time since) [29, 30, 31, 32, 33, 34, 35, 36, 37] rfl (by decide) (ci := 5) (q0 := 0) rfl rfl []) rfl rfl hl.1 rfl (lv_room (Nat.le_of_ble_eq_true rfl)) dL_law_352 ⟨Nat.le_of_ble_eq_true rfl, Nat.le_of_ble_eq_true rfl⟩) hP hD hS hA [29, 30, 31, 32, 33, 34, 35, 36, 37] [0, 1, 2, 3, 4, 5, 6, 7, 8, 9, 10, 11, 12, 13, 14, 15, 16, 17, 18, 19, 20, 21, 22, 23, 24, 25, 26, 27, 28] [0, 1, 2, 3, 4, 5, 6, 7, 8, 9, 10, 11, 12, 13, 14, 15, 16, 17, 18, 19, 20, 21, 22, 23, 24, 25, 26, 27, 28, 29, 30, 31, 32, 33, 34, 35, 36, 37] rfl rfl (by decide) (by decide) rfl (by decide) (fun H locs hP hD hS => ?_)
  refine lv_icmp_eq (tgt := 396) hx hb dL_law_355 (by decide) (fun _ => ?_) (fun cq => absurd rfl cq)
  exact kk _ _ H locs hz' hP hD hS
set_option maxHeartbeats 4000000 in
set_option maxRecDepth 100000 in
/-- case 12: shows -/
theorem lo_shows {p : Program} {l : Launch} {e : Env} {s : State} {m : MethodId} {below : List Frame} {meth : Method} {c : Code} {D : va_G} {ct ad a b : Nat → Nat} {b0 L : Nat} {xs : Nat → Int32} (hL : L ≤ 192) (C0 : lw_At p s m meth c b0 L xs) (hC : mg_C D ct ad (fun q : Nat => s.heap.size ≤ q) s s.heap) {i : Nat} (hi : i + 3 ≤ L) {B : Nat} (hB : B ≤ 1000000) {w1 w2 : va_W} (hz : ZZ ct ad a b B w1 w2) {H : Heap} {locs : List Loc} (hP : va_P D mgCl (w1 ++ w2) H) (hD : va_D (fun q : Nat => s.heap.size ≤ q) (w1 ++ w2)) (hS : va_S (fun q : Nat => s.heap.size ≤ q) s.heap H locs) {ls : Array Slot} (hl : lv_has ls 4 [(0, .ref b0), (1, .ref (a 0)), (2, .ref (b 0)), (3, .int (nI i))])
    (kk : ∀ (w1 w2 : va_W) (H : Heap) (locs : List Loc), ZZ ct ad a b (B + 1000) w1 w2 → va_P D mgCl (w1 ++ w2) H → va_D (fun q : Nat => s.heap.size ≤ q) (w1 ++ w2) → va_S (fun q : Nat => s.heap.size ≤ q) s.heap H locs → W p l e room_1 s m #[Value.ref b0] below meth c H locs 38 434 (lw_Z below #[Value.ref b0] s) (F0 m 396 ls [])) : W p l e room_1 s m #[Value.ref b0] below meth c H locs 38 434 (lw_Z below #[Value.ref b0] s) (F0 m 360 ls []) := by
  obtain ⟨hx, hb, hr, hml, hown, hts0, hX, hbl, hlocks, hgv⟩ := id C0
  have hts : ∀ w ∈ lw_all, w.before #[Value.ref b0] s = true := fun w h => hts0 w (lw_all_tbl h)
  have hown : s.vm.findClass "MigratorLaw" = some m.cls := hown
  have hA : ∀ q : Nat, s.heap.size ≤ q → (fun q : Nat => s.heap.size ≤ q) q := fun _ h => h
  have hbA : ¬ (fun q : Nat => s.heap.size ≤ q) b0 := Nat.not_le.mpr hbl
  obtain ⟨v, u1, u2, m1, m2, hz'⟩ := pr_shows l D hz hB
  obtain ⟨M, N, regs, shown, pc, shows, bd, bw, ph, rd, th, lm, real, kept, copied, reg, written, want, left, told, pc2, shows2, time, since, -, rfl, rfl⟩ := hz
  obtain ⟨M', N', regs', shown', pc', shows', bd', bw', ph', rd', th', lm', real', kept', copied', reg', written', want', left', told', pc2', shows2', time', since', -, rfl, rfl⟩ := id hz'
  have hP : va_P D mgCl (wMig ct ad a M N regs shown pc shows bd bw ph rd th lm ++ wMod ct b real kept copied reg written want left told pc2 ph rd th lm shows2 time since) H := hP
  have hD : va_D (fun q : Nat => s.heap.size ≤ q) (wMig ct ad a M N regs shown pc shows bd bw ph rd th lm ++ wMod ct b real kept copied reg written want left told pc2 ph rd th lm shows2 time since) := hD
  refine lv_aload_n hx hb dL_law_360 rfl (lv_at hl 1 rfl) ?_
  refine mg_afterI (w1 := wMig ct ad a M' N' regs' shown' pc' shows' bd' bw' ph' rd' th' lm') (wr := wMod ct b real kept copied reg written want left told pc2 ph rd th lm shows2 time since) (w2 := wMig ct ad a M' N' regs' shown' pc' shows' bd' bw' ph' rd' th' lm' ++ wMod ct b real kept copied reg written want left told pc2 ph rd th lm shows2 time since) (va_runV (As := []) (rest := []) ⟨hx, hb, hml, hown, hts⟩ (m1 _) (cwV 0 hts (lw_V q226 q227 q228 q2 q229) rfl rfl rfl (by decide +kernel) ⟨Nat.le_of_ble_eq_true rfl, Nat.le_of_ble_eq_true rfl⟩) (mg_preV hC hP hD hS hA (wc := wMig ct ad a M N regs shown pc shows bd bw ph rd th lm) [0, 1, 2, 3, 4, 5, 6, 7, 8, 9, 10, 11, 12, 13, 14, 15, 16, 17, 18, 19, 20, 21, 22, 23, 24, 25, 26, 27, 28] rfl (by decide) (ci := 0) (q0 := 0) rfl rfl []) rfl rfl hl.1 rfl (lv_room (Nat.le_of_ble_eq_true rfl)) dL_law_361 ⟨Nat.le_of_ble_eq_true rfl, Nat.le_of_ble_eq_true rfl⟩) hP hD hS hA [0, 1, 2, 3, 4, 5, 6, 7, 8, 9, 10, 11, 12, 13, 14, 15, 16, 17, 18, 19, 20, 21, 22, 23, 24, 25, 26, 27, 28] [29, 30, 31, 32, 33, 34, 35, 36, 37] [9, 10, 11, 12, 13, 14, 15, 16, 17, 18, 19, 20, 21, 22, 23, 24, 25, 26, 27, 28, 29, 30, 31, 32, 33, 34, 35, 36, 37, 0, 1, 2, 3, 4, 5, 6, 7, 8] rfl rfl (by decide) (by decide) rfl (by decide) (fun H locs hP hD hS => ?_)
  refine lv_aload_n hx hb dL_law_364 rfl (lv_at hl 2 rfl) ?_
  refine mg_afterI (w1 := wMod ct b real' kept' copied' reg' written' want' left' told' pc2' ph' rd' th' lm' shows2' time' since') (wr := wMig ct ad a M' N' regs' shown' pc' shows' bd' bw' ph' rd' th' lm') (w2 := wMig ct ad a M' N' regs' shown' pc' shows' bd' bw' ph' rd' th' lm' ++ wMod ct b real' kept' copied' reg' written' want' left' told' pc2' ph' rd' th' lm' shows2' time' since') (va_runV (As := []) (rest := [.int v]) ⟨hx, hb, hml, hown, hts⟩ (m2 _) (cwV 0 hts (lw_V q343 q344 q345 q10 q346) rfl rfl rfl (by decide +kernel) ⟨Nat.le_of_ble_eq_true rfl, Nat.le_of_ble_eq_true rfl⟩) (mg_preV hC hP hD hS hA (wc := wMod ct b real kept copied reg written want left told pc2 ph rd th lm shows2 time since) [29, 30, 31, 32, 33, 34, 35, 36, 37] rfl (by decide) (ci := 5) (q0 := 0) rfl rfl []) rfl rfl hl.1 rfl (lv_room (Nat.le_of_ble_eq_true rfl)) dL_law_365 ⟨Nat.le_of_ble_eq_true rfl, Nat.le_of_ble_eq_true rfl⟩) hP hD hS hA [29, 30, 31, 32, 33, 34, 35, 36, 37] [0, 1, 2, 3, 4, 5, 6, 7, 8, 9, 10, 11, 12, 13, 14, 15, 16, 17, 18, 19, 20, 21, 22, 23, 24, 25, 26, 27, 28] [0, 1, 2, 3, 4, 5, 6, 7, 8, 9, 10, 11, 12, 13, 14, 15, 16, 17, 18, 19, 20, 21, 22, 23, 24, 25, 26, 27, 28, 29, 30, 31, 32, 33, 34, 35, 36, 37] rfl rfl (by decide) (by decide) rfl (by decide) (fun H locs hP hD hS => ?_)
  refine lv_icmp_eq (tgt := 396) hx hb dL_law_368 (by decide) (fun _ => ?_) (fun cq => absurd rfl cq)
  exact kk _ _ H locs hz' hP hD hS
set_option maxHeartbeats 4000000 in
set_option maxRecDepth 100000 in
/-- case 13: shown -/
theorem lo_shown {p : Program} {l : Launch} {e : Env} {s : State} {m : MethodId} {below : List Frame} {meth : Method} {c : Code} {D : va_G} {ct ad a b : Nat → Nat} {b0 L : Nat} {xs : Nat → Int32} (hL : L ≤ 192) (C0 : lw_At p s m meth c b0 L xs) (hC : mg_C D ct ad (fun q : Nat => s.heap.size ≤ q) s s.heap) {i : Nat} (hi : i + 3 ≤ L) {B : Nat} (hB : B ≤ 1000000) {w1 w2 : va_W} (hz : ZZ ct ad a b B w1 w2) {H : Heap} {locs : List Loc} (hP : va_P D mgCl (w1 ++ w2) H) (hD : va_D (fun q : Nat => s.heap.size ≤ q) (w1 ++ w2)) (hS : va_S (fun q : Nat => s.heap.size ≤ q) s.heap H locs) {ls : Array Slot} (hl : lv_has ls 4 [(0, .ref b0), (1, .ref (a 0)), (2, .ref (b 0)), (3, .int (nI i))])
    (kk : ∀ (w1 w2 : va_W) (H : Heap) (locs : List Loc), ZZ ct ad a b (B + 1000) w1 w2 → va_P D mgCl (w1 ++ w2) H → va_D (fun q : Nat => s.heap.size ≤ q) (w1 ++ w2) → va_S (fun q : Nat => s.heap.size ≤ q) s.heap H locs → W p l e room_1 s m #[Value.ref b0] below meth c H locs 38 434 (lw_Z below #[Value.ref b0] s) (F0 m 396 ls [])) : W p l e room_1 s m #[Value.ref b0] below meth c H locs 38 434 (lw_Z below #[Value.ref b0] s) (F0 m 373 ls []) := by
  obtain ⟨hx, hb, hr, hml, hown, hts0, hX, hbl, hlocks, hgv⟩ := id C0
  have hts : ∀ w ∈ lw_all, w.before #[Value.ref b0] s = true := fun w h => hts0 w (lw_all_tbl h)
  have hown : s.vm.findClass "MigratorLaw" = some m.cls := hown
  have hA : ∀ q : Nat, s.heap.size ≤ q → (fun q : Nat => s.heap.size ≤ q) q := fun _ h => h
  have hbA : ¬ (fun q : Nat => s.heap.size ≤ q) b0 := Nat.not_le.mpr hbl
  obtain ⟨v, u1, u2, m1, m2, hz'⟩ := pr_shown l D hz hB (xs (i + 1))
  obtain ⟨M, N, regs, shown, pc, shows, bd, bw, ph, rd, th, lm, real, kept, copied, reg, written, want, left, told, pc2, shows2, time, since, -, rfl, rfl⟩ := hz
  obtain ⟨M', N', regs', shown', pc', shows', bd', bw', ph', rd', th', lm', real', kept', copied', reg', written', want', left', told', pc2', shows2', time', since', -, rfl, rfl⟩ := id hz'
  have hP : va_P D mgCl (wMig ct ad a M N regs shown pc shows bd bw ph rd th lm ++ wMod ct b real kept copied reg written want left told pc2 ph rd th lm shows2 time since) H := hP
  have hD : va_D (fun q : Nat => s.heap.size ≤ q) (wMig ct ad a M N regs shown pc shows bd bw ph rd th lm ++ wMod ct b real kept copied reg written want left told pc2 ph rd th lm shows2 time since) := hD
  refine lv_aload_n hx hb dL_law_373 rfl (lv_at hl 1 rfl) ?_
  refine lv_aload_n hx hb dL_law_374 rfl (lv_at hl 0 rfl) ?_
  refine lv_iload_n hx hb dL_law_375 rfl (lv_at hl 3 rfl) ?_
  refine lv_iconst (v := nI 1) hx hb dL_law_376 (by decide) ?_
  refine lv_iadd hx hb dL_law_377 ?_
  refine mg_top (y := nI (i + 1)) (nI_add _ _) ?_
  refine lw_sld hx hb hX hbl hbA hS (by omega) (by omega) dL_law_378 ?_
  refine mg_afterI (w1 := wMig ct ad a M' N' regs' shown' pc' shows' bd' bw' ph' rd' th' lm') (wr := wMod ct b real kept copied reg written want left told pc2 ph rd th lm shows2 time since) (w2 := wMig ct ad a M' N' regs' shown' pc' shows' bd' bw' ph' rd' th' lm' ++ wMod ct b real kept copied reg written want left told pc2 ph rd th lm shows2 time since) (va_runV (As := [.int (xs (i + 1))]) (rest := []) ⟨hx, hb, hml, hown, hts⟩ (m1 _) (cwV 1 hts (lw_V q230 q231 q232 q2 q233) rfl rfl rfl (by decide +kernel) ⟨Nat.le_of_ble_eq_true rfl, Nat.le_of_ble_eq_true rfl⟩) (mg_preV hC hP hD hS hA (wc := wMig ct ad a M N regs shown pc shows bd bw ph rd th lm) [0, 1, 2, 3, 4, 5, 6, 7, 8, 9, 10, 11, 12, 13, 14, 15, 16, 17, 18, 19, 20, 21, 22, 23, 24, 25, 26, 27, 28] rfl (by decide) (ci := 0) (q0 := 0) rfl rfl [.int (xs (i + 1))]) rfl rfl hl.1 rfl (lv_room (Nat.le_of_ble_eq_true rfl)) dL_law_379 ⟨Nat.le_of_ble_eq_true rfl, Nat.le_of_ble_eq_true rfl⟩) hP hD hS hA [0, 1, 2, 3, 4, 5, 6, 7, 8, 9, 10, 11, 12, 13, 14, 15, 16, 17, 18, 19, 20, 21, 22, 23, 24, 25, 26, 27, 28] [29, 30, 31, 32, 33, 34, 35, 36, 37] [9, 10, 11, 12, 13, 14, 15, 16, 17, 18, 19, 20, 21, 22, 23, 24, 25, 26, 27, 28, 29, 30, 31, 32, 33, 34, 35, 36, 37, 0, 1, 2, 3, 4, 5, 6, 7, 8] rfl rfl (by decide) (by decide) rfl (by decide) (fun H locs hP hD hS => ?_)
  refine lv_aload_n hx hb dL_law_382 rfl (lv_at hl 2 rfl) ?_
  refine lv_aload_n hx hb dL_law_383 rfl (lv_at hl 0 rfl) ?_
  refine lv_iload_n hx hb dL_law_384 rfl (lv_at hl 3 rfl) ?_
  refine lv_iconst (v := nI 1) hx hb dL_law_385 (by decide) ?_
  refine lv_iadd hx hb dL_law_386 ?_
  refine mg_top (y := nI (i + 1)) (nI_add _ _) ?_
  refine lw_sld hx hb hX hbl hbA hS (by omega) (by omega) dL_law_387 ?_
  refine mg_afterI (w1 := wMod ct b real' kept' copied' reg' written' want' left' told' pc2' ph' rd' th' lm' shows2' time' since') (wr := wMig ct ad a M' N' regs' shown' pc' shows' bd' bw' ph' rd' th' lm') (w2 := wMig ct ad a M' N' regs' shown' pc' shows' bd' bw' ph' rd' th' lm' ++ wMod ct b real' kept' copied' reg' written' want' left' told' pc2' ph' rd' th' lm' shows2' time' since') (va_runV (As := [.int (xs (i + 1))]) (rest := [.int v]) ⟨hx, hb, hml, hown, hts⟩ (m2 _) (cwV 1 hts (lw_V q347 q348 q349 q10 q350) rfl rfl rfl (by decide +kernel) ⟨Nat.le_of_ble_eq_true rfl, Nat.le_of_ble_eq_true rfl⟩) (mg_preV hC hP hD hS hA (wc := wMod ct b real kept copied reg written want left told pc2 ph rd th lm shows2 time since) [29, 30, 31, 32, 33, 34, 35, 36, 37] rfl (by decide) (ci := 5) (q0 := 0) rfl rfl [.int (xs (i + 1))]) rfl rfl hl.1 rfl (lv_room (Nat.le_of_ble_eq_true rfl)) dL_law_388 ⟨Nat.le_of_ble_eq_true rfl, Nat.le_of_ble_eq_true rfl⟩) hP hD hS hA [29, 30, 31, 32, 33, 34, 35, 36, 37] [0, 1, 2, 3, 4, 5, 6, 7, 8, 9, 10, 11, 12, 13, 14, 15, 16, 17, 18, 19, 20, 21, 22, 23, 24, 25, 26, 27, 28] [0, 1, 2, 3, 4, 5, 6, 7, 8, 9, 10, 11, 12, 13, 14, 15, 16, 17, 18, 19, 20, 21, 22, 23, 24, 25, 26, 27, 28, 29, 30, 31, 32, 33, 34, 35, 36, 37] rfl rfl (by decide) (by decide) rfl (by decide) (fun H locs hP hD hS => ?_)
  refine lv_icmp_eq (tgt := 396) hx hb dL_law_391 (by decide) (fun _ => ?_) (fun cq => absurd rfl cq)
  exact kk _ _ H locs hz' hP hD hS
end
section
/-! THE LAW's LOOP, its start, and the claim (begun as rows of kit/laws/SKELETON.whole; written by gen/gen_law.py) -/
set_option maxRecDepth 100000
set_option maxHeartbeats 4000000 in
set_option maxRecDepth 100000 in
theorem law_loop {p : Program} {l : Launch} {e : Env} {s : State} {m : MethodId} {below : List Frame} {meth : Method} {c : Code} {D : va_G} {ct ad a b : Nat → Nat} {b0 L : Nat} {xs : Nat → Int32} (hL : L ≤ 192) (C0 : lw_At p s m meth c b0 L xs) (hC : mg_C D ct ad (fun q : Nat => s.heap.size ≤ q) s s.heap) :
    ∀ (n i : Nat), i ≤ L → L + 1 ≤ i + n → ∀ (w1 w2 : va_W) (H : Heap) (locs : List Loc) (ls : Array Slot), ZZ ct ad a b (1000 * i) w1 w2 → va_P D mgCl (w1 ++ w2) H → va_D (fun q : Nat => s.heap.size ≤ q) (w1 ++ w2) → va_S (fun q : Nat => s.heap.size ≤ q) s.heap H locs → lv_has ls 4 [(0, .ref b0), (1, .ref (a 0)), (2, .ref (b 0)), (3, .int (nI i))] → W p l e room_1 s m #[Value.ref b0] below meth c H locs 38 434 (lw_Z below #[Value.ref b0] s) (F0 m 18 ls []) := by
  obtain ⟨hx, hb, hr, hml, hown, hts0, hX, hbl, hlocks, hgv⟩ := id C0
  have hbA : ¬ (fun q : Nat => s.heap.size ≤ q) b0 := Nat.not_le.mpr hbl
  intro n
  induction n with
  | zero => intro i h1 h2; omega
  | succ n ih =>
    intro i h1 h2 w1 w2 H locs ls hz hP hD hS hl
    refine lv_iload_n hx hb dL_law_18 rfl (lv_at hl 3 rfl) ?_
    refine lv_aload_n hx hb dL_law_19 rfl (lv_at hl 0 rfl) ?_
    refine va_slen hx hb hX hbl hbA hS dL_law_20 ?_
    refine lv_iconst (v := nI 3) hx hb dL_law_21 (by decide) ?_
    refine lv_isub hx hb dL_law_22 ?_
    have hsub : (Int32.ofNat L - nI 3).toInt = (L : Int) - 3 := pk_sub_toInt (a := L) (b := 3) (by omega) (by decide)
    have hii : (nI i).toInt = (i : Int) := nI_toInt (by omega)
    refine lv_icmp_gt (tgt := 402) hx hb dL_law_23 (by decide) (fun _ => ?_) (fun cq => ?_)
    · refine lv_iconst (v := 1) hx hb dL_law_402 (by decide) ?_
      refine va_forget (fun q hq => hS.2.2 q hq) ?_
      refine W.widen (k := 644546) (n := 7168611) (Nat.le_of_ble_eq_true rfl) (Nat.le_of_ble_eq_true rfl) ?_
      exact lw_ret hx hb hr hlocks dL_law_403
    · have hi : i + 3 ≤ L := by
        rw [Int32.lt_iff_toInt_lt, hsub, hii] at cq
        omega
      have kk : ∀ (w1 w2 : va_W) (H : Heap) (locs : List Loc), ZZ ct ad a b (1000 * i + 1000) w1 w2 → va_P D mgCl (w1 ++ w2) H → va_D (fun q : Nat => s.heap.size ≤ q) (w1 ++ w2) → va_S (fun q : Nat => s.heap.size ≤ q) s.heap H locs → W p l e room_1 s m #[Value.ref b0] below meth c H locs 38 434 (lw_Z below #[Value.ref b0] s) (F0 m 396 ls []) := by
        intro w1 w2 H locs hz hP hD hS
        refine lv_iinc (v := nI (i + 3)) (lv' := [(3, .int (nI (i + 3))), (0, .ref b0), (1, .ref (a 0)), (2, .ref (b 0))]) hx hb dL_law_396 hl (k := 3) rfl (by rw [show Int32.ofInt 3 = nI 3 from by decide]; exact nI_add _ _) (by decide) rfl (fun ls hl => ?_)
        refine lv_goto (tgt := 18) hx hb dL_law_399 (by decide) ?_
        exact ih (i + 3) hi (by omega) w1 w2 H locs ls (ZZ_mono hz (by omega)) hP hD hS (lv_sub hl [1, 2, 3, 0] rfl)
      have hB : 1000 * i ≤ 1000000 := by omega
      refine lv_aload_n hx hb dL_law_26 rfl (lv_at hl 0 rfl) ?_
      refine lv_iload_n hx hb dL_law_27 rfl (lv_at hl 3 rfl) ?_
      refine lw_sld hx hb hX hbl hbA hS (by omega) (by omega) dL_law_28 ?_
      refine lv_bipush (v := nI 15) hx hb dL_law_29 (by decide) ?_
      refine lv_iand hx hb dL_law_31 ?_
      obtain ⟨o, ho⟩ : ∃ o, o = (xs i).toBitVec.toNat % 2 ^ 4 := ⟨_, rfl⟩
      have ho2 : o < 16 := by rw [ho]; exact Nat.mod_lt _ (by decide)
      refine mg_top (y := nI o) (by rw [ho]; exact pk_and _ 4 (by decide)) ?_
      clear ho
      rcases (show o = 0 ∨ o = 1 ∨ o = 2 ∨ o = 3 ∨ o = 4 ∨ o = 5 ∨ o = 6 ∨ o = 7 ∨ o = 8 ∨ o = 9 ∨ o = 10 ∨ o = 11 ∨ o = 12 ∨ o = 13 ∨ o = 14 ∨ o = 15 by omega) with rfl | rfl | rfl | rfl | rfl | rfl | rfl | rfl | rfl | rfl | rfl | rfl | rfl | rfl | rfl | rfl
      · refine lv_tableIn (off := 72) (tgt := 104) hx hb dL_law_32 (by decide) (by decide) (by decide) (by decide) ?_
        exact lo_poke hL C0 hC hi hB hz hP hD hS hl kk
      · refine lv_tableIn (off := 105) (tgt := 137) hx hb dL_law_32 (by decide) (by decide) (by decide) (by decide) ?_
        exact lo_begin hL C0 hC hi hB hz hP hD hS hl kk
      · refine lv_tableIn (off := 138) (tgt := 170) hx hb dL_law_32 (by decide) (by decide) (by decide) (by decide) ?_
        exact lo_run hL C0 hC hi hB hz hP hD hS hl kk
      · refine lv_tableIn (off := 161) (tgt := 193) hx hb dL_law_32 (by decide) (by decide) (by decide) (by decide) ?_
        exact lo_copy hL C0 hC hi hB hz hP hD hS hl kk
      · refine lv_tableIn (off := 174) (tgt := 206) hx hb dL_law_32 (by decide) (by decide) (by decide) (by decide) ?_
        exact lo_phase hL C0 hC hi hB hz hP hD hS hl kk
      · refine lv_tableIn (off := 187) (tgt := 219) hx hb dL_law_32 (by decide) (by decide) (by decide) (by decide) ?_
        exact lo_round hL C0 hC hi hB hz hP hD hS hl kk
      · refine lv_tableIn (off := 200) (tgt := 232) hx hb dL_law_32 (by decide) (by decide) (by decide) (by decide) ?_
        exact lo_dirty hL C0 hC hi hB hz hP hD hS hl kk
      · refine lv_tableIn (off := 223) (tgt := 255) hx hb dL_law_32 (by decide) (by decide) (by decide) (by decide) ?_
        exact lo_waits hL C0 hC hi hB hz hP hD hS hl kk
      · refine lv_tableIn (off := 246) (tgt := 278) hx hb dL_law_32 (by decide) (by decide) (by decide) (by decide) ?_
        exact lo_source hL C0 hC hi hB hz hP hD hS hl kk
      · refine lv_tableIn (off := 269) (tgt := 301) hx hb dL_law_32 (by decide) (by decide) (by decide) (by decide) ?_
        exact lo_destination hL C0 hC hi hB hz hP hD hS hl kk
      · refine lv_tableIn (off := 292) (tgt := 324) hx hb dL_law_32 (by decide) (by decide) (by decide) (by decide) ?_
        exact lo_register hL C0 hC hi hB hz hP hD hS hl kk
      · refine lv_tableIn (off := 315) (tgt := 347) hx hb dL_law_32 (by decide) (by decide) (by decide) (by decide) ?_
        exact lo_pc hL C0 hC hi hB hz hP hD hS hl kk
      · refine lv_tableIn (off := 328) (tgt := 360) hx hb dL_law_32 (by decide) (by decide) (by decide) (by decide) ?_
        exact lo_shows hL C0 hC hi hB hz hP hD hS hl kk
      · refine lv_tableIn (off := 341) (tgt := 373) hx hb dL_law_32 (by decide) (by decide) (by decide) (by decide) ?_
        exact lo_shown hL C0 hC hi hB hz hP hD hS hl kk
      · refine lv_tableOut (tgt := 396) hx hb dL_law_32 (by decide) (by decide) ?_
        exact kk w1 w2 H locs (ZZ_mono hz (by omega)) hP hD hS
      · refine lv_tableOut (tgt := 396) hx hb dL_law_32 (by decide) (by decide) ?_
        exact kk w1 w2 H locs (ZZ_mono hz (by omega)) hP hD hS
end
section
/-! THE LAW's START, and the claim (begun as rows of kit/laws/SKELETON.whole; written by gen/gen_law.py) -/
set_option maxRecDepth 100000
set_option maxHeartbeats 4000000 in
set_option maxRecDepth 100000 in
theorem whole_start {p : Program} {e : Env} {s : State} {m : MethodId} {below : List Frame} {meth : Method} {c : Code} (l : Launch) {b L : Nat} {xs : Nat → Int32} (hL : L ≤ 192) (C0 : lw_At p s m meth c b L xs) : W p l e room_1 s m #[Value.ref b] below meth c s.heap [] 0 0 (lw_Z below #[Value.ref b] s) (entryFrame m ([Value.ref b] : List Value).toArray 4) := by
  obtain ⟨hx, hb, hr, hml, hown, hts0, hX, hbl, hlocks, hgv⟩ := id C0
  have hts : ∀ w ∈ lw_all, w.before #[Value.ref b] s = true := fun w h => hts0 w (lw_all_tbl h)
  have hown : s.vm.findClass "MigratorLaw" = some m.cls := hown
  have hA : ∀ q : Nat, s.heap.size ≤ q → (fun q : Nat => s.heap.size ≤ q) q := fun _ h => h
  obtain ⟨D, ct, ad, hC⟩ := mg_ground hts0 hgv
  have hS : va_S (fun q : Nat => s.heap.size ≤ q) s.heap s.heap [] := va_S.rf
  have hP : va_P D mgCl [] s.heap := fun k q h => by simp at h
  have hD : va_D (fun q : Nat => s.heap.size ≤ q) [] := ⟨fun i j p q h => by simp at h, fun k q h => by simp at h⟩
  have hl := lv_entry ([.ref b]) (n := 4) (Nat.le_of_ble_eq_true rfl)
  rw [lg_entry_eq]
  generalize (lg_sl ([.ref b]) ++ List.replicate (4 - (lg_sl ([.ref b])).length) Slot.unset).toArray = ls at hl ⊢
  have hl : lv_has ls 4 [(0, .ref b)] := hl
  refine va_new (ci := 0) (fs := [.null, .null, .null, .null, .null, .null, .null, .int (0), .int (0), .int (0)]) (C := RX0) (T := TX0) (N := 10) hx hb hts in_X0 tyX0 tyX0_ok hown (hts _ q11) (hts _ q12) (hts _ q2) hC.1 hP hD hS hA rfl (fun j hj => by rcases (show j = 0 ∨ j = 1 ∨ j = 2 ∨ j = 3 ∨ j = 4 ∨ j = 5 ∨ j = 6 ∨ j = 7 ∨ j = 8 ∨ j = 9 by omega) with rfl | rfl | rfl | rfl | rfl | rfl | rfl | rfl | rfl | rfl <;> rfl) (Nat.le_of_ble_eq_true rfl) (Nat.le_of_ble_eq_true rfl) dL_law_0 (fun z1 H hP hD hS => ?_)
  refine lv_dup hx hb dL_law_3 rfl ?_
  refine mg_afterC (w' := fun u => wMig ct ad u (fun _ _ => 0) (fun _ _ => 0) (fun _ => 0) (fun _ => 0) 0 0 (fun _ => false) (fun _ => false) 0 0 0 0) (wr := []) (va_runI (As := []) (rest := [.ref z1]) ⟨hx, hb, hml, hown, hts⟩ (c_init l D ct ad z1 _) (cwI 0 hts (lw_meth q15) rfl rfl rfl (hts _ q2) (hts _ q13) (hts _ q14) rfl (by decide +kernel) ⟨Nat.le_of_ble_eq_true rfl, Nat.le_of_ble_eq_true rfl⟩) (mg_preOf hC hP hD hS hA (wc := [(z1, .inr (0, [.null, .null, .null, .null, .null, .null, .null, .int (0), .int (0), .int (0)]))]) [0] rfl (by decide) [.ref z1]) rfl rfl hl.1 rfl (lv_room (Nat.le_of_ble_eq_true rfl)) dL_law_4 ⟨Nat.le_of_ble_eq_true rfl, Nat.le_of_ble_eq_true rfl⟩) hP hD hS hA [0] [] rfl rfl (by decide) (by decide) (fun a Hn locsn hu hPn hDn hSn => ?_)
  clear hP hD hS
  subst hu
  obtain ⟨H, rfl⟩ : ∃ z, z = Hn := ⟨_, rfl⟩
  have hP := hPn
  have hD := hDn
  have hS := hSn
  clear hPn hDn hSn
  have hP : va_P D mgCl (wMig ct ad a (fun _ _ => 0) (fun _ _ => 0) (fun _ => 0) (fun _ => 0) 0 0 (fun _ => false) (fun _ => false) 0 0 0 0) H := hP
  have hD : va_D (fun q : Nat => s.heap.size ≤ q) (wMig ct ad a (fun _ _ => 0) (fun _ _ => 0) (fun _ => 0) (fun _ => 0) 0 0 (fun _ => false) (fun _ => false) 0 0 0 0) := hD
  refine lv_astore_n (lv' := [(1, .ref (a 0)), (0, .ref b)]) hx hb dL_law_7 rfl hl (by decide) rfl (fun ls hl => ?_)
  refine va_new (ci := 5) (fs := [.null, .null, .null, .null, .null, .null, .null, .null, .int (nI (0)), .int (nI (0)), .int (0), .int (0), .int (0), .int (nI (0)), .long (lN (0)), .long (lN (0))]) (C := RX5) (T := TX5) (N := 16) hx hb hts in_X5 tyX5 tyX5_ok hown (hts _ q234) (hts _ q235) (hts _ q10) hC.1 hP hD hS hA rfl (fun j hj => by rcases (show j = 0 ∨ j = 1 ∨ j = 2 ∨ j = 3 ∨ j = 4 ∨ j = 5 ∨ j = 6 ∨ j = 7 ∨ j = 8 ∨ j = 9 ∨ j = 10 ∨ j = 11 ∨ j = 12 ∨ j = 13 ∨ j = 14 ∨ j = 15 by omega) with rfl | rfl | rfl | rfl | rfl | rfl | rfl | rfl | rfl | rfl | rfl | rfl | rfl | rfl | rfl | rfl <;> rfl) (Nat.le_of_ble_eq_true rfl) (Nat.le_of_ble_eq_true rfl) dL_law_8 (fun z2 H hP hD hS => ?_)
  refine lv_dup hx hb dL_law_11 rfl ?_
  refine mg_afterC (w' := fun u => wMod ct u (fun _ => 0) (fun _ => 0) (fun _ => 0) (fun _ => 0) (fun _ => 0) (fun _ => false) (fun _ => false) (fun _ => 0) 0 0 0 0 0 0 0 0) (wr := wMig ct ad a (fun _ _ => 0) (fun _ _ => 0) (fun _ => 0) (fun _ => 0) 0 0 (fun _ => false) (fun _ => false) 0 0 0 0) (va_runI (As := []) (rest := [.ref z2]) ⟨hx, hb, hml, hown, hts⟩ (d_init l D ct ad z2 _) (cwI 0 hts (lw_meth q238) rfl rfl rfl (hts _ q10) (hts _ q236) (hts _ q237) rfl (by decide +kernel) ⟨Nat.le_of_ble_eq_true rfl, Nat.le_of_ble_eq_true rfl⟩) (mg_preOf hC hP hD hS hA (wc := [(z2, .inr (5, [.null, .null, .null, .null, .null, .null, .null, .null, .int (nI (0)), .int (nI (0)), .int (0), .int (0), .int (0), .int (nI (0)), .long (lN (0)), .long (lN (0))]))]) [29] rfl (by decide) [.ref z2]) rfl rfl hl.1 rfl (lv_room (Nat.le_of_ble_eq_true rfl)) dL_law_12 ⟨Nat.le_of_ble_eq_true rfl, Nat.le_of_ble_eq_true rfl⟩) hP hD hS hA [29] [0, 1, 2, 3, 4, 5, 6, 7, 8, 9, 10, 11, 12, 13, 14, 15, 16, 17, 18, 19, 20, 21, 22, 23, 24, 25, 26, 27, 28] rfl rfl (by decide) (by decide) (fun g Hn locsn hu hPn hDn hSn => ?_)
  clear hP hD hS
  subst hu
  obtain ⟨H, rfl⟩ : ∃ z, z = Hn := ⟨_, rfl⟩
  have hP := hPn
  have hD := hDn
  have hS := hSn
  clear hPn hDn hSn
  refine lv_astore_n (lv' := [(2, .ref (g 0)), (1, .ref (a 0)), (0, .ref b)]) hx hb dL_law_15 rfl hl (by decide) rfl (fun ls hl => ?_)
  refine lv_iconst (v := nI 0) hx hb dL_law_16 (by decide) ?_
  refine lv_istore_n (lv' := [(3, .int (nI 0)), (2, .ref (g 0)), (1, .ref (a 0)), (0, .ref b)]) hx hb dL_law_17 rfl hl (by decide) rfl (fun ls hl => ?_)
  refine W.widen (k := 38) (n := 434) (Nat.le_of_ble_eq_true rfl) (Nat.le_of_ble_eq_true rfl) ?_
  have hz : ZZ ct ad a g (1000 * 0) (wMig ct ad a (fun _ _ => 0) (fun _ _ => 0) (fun _ => 0) (fun _ => 0) 0 0 (fun _ => false) (fun _ => false) 0 0 0 0) (wMod ct g (fun _ => 0) (fun _ => 0) (fun _ => 0) (fun _ => 0) (fun _ => 0) (fun _ => false) (fun _ => false) (fun _ => 0) 0 0 0 0 0 0 0 0) := ⟨_, _, _, _, _, _, _, _, _, _, _, _, _, _, _, _, _, _, _, _, _, _, _, _, RR_0, rfl, rfl⟩
  exact law_loop hL C0 hC (L + 1) 0 (Nat.zero_le L) (by omega) _ _ _ _ ls hz hP hD hS (lv_sub hl [3, 2, 1, 0] rfl)
set_option maxHeartbeats 4000000 in
theorem lw_walk (l : Launch) (b : Addr) (xs : List Int32) : MetFree l x (headSpec (Jvm.Cond.code x code maxLocals ret :: tables_1) room_1) (lw_P b xs) (fun _ _ _ _ _ => True) lw_Q := by
  refine MetFree.of_bodyS (code := code) (maxLocals := maxLocals) (ret := ret) (by decide) ?_ ?_
  · intro args s m h hn
    obtain ⟨meth, c, h1, h2, h3, h4, h5, h6, -, -⟩ := Cond.code_spec hn (atoms_spec (ws := Jvm.Cond.code x code maxLocals ret :: tables_1) h _ List.mem_cons_self)
    exact ⟨meth, c, h1, h2, h3, h4, h5, h6⟩
  · intro p e s m args below meth c s₁ B hml0 hP _
    obtain ⟨rfl, hx, hbd, hgv⟩ := hP
    obtain ⟨scr, harrAt, hlist, hof, hsmall⟩ := hx
    obtain ⟨hcb, hkn, -, -⟩ := State.arrayAt?_spec harrAt
    have hown : s.vm.findClass R_law = some m.cls := findClass_of_methodNamed B.named
    have hts0 : ∀ c ∈ (Jvm.Cond.code x code maxLocals ret :: tables_1), c.before #[Value.ref b] s = true := atoms_spec (ws := Jvm.Cond.code x code maxLocals ret :: tables_1) B.pre
    have hts : ∀ w ∈ lw_tbl, w.before #[Value.ref b] s = true := k2_hts_sels lw_privs (fun w hw => hts0 w (List.mem_cons_of_mem _ hw)) lw_privs_ok
    have hml : c.maxLocals = 4 := B.maxLocals_eq (hts0 _ List.mem_cons_self)
    have X₀ : Stand p l e room_1 s m #[Value.ref b] below meth c s₁ [] 0 0 := Stand.of_body B
    have hh0 : s₁.heap = s.heap := by rw [B.state]; rfl
    have hsz : scr.slots.size = xs.length := by rw [← Array.length_toList, hlist, List.length_map]
    have hval : ∀ j : Nat, j < xs.length → scr.slots[j]? = some (.int (xs.getD j 0)) := fun j hj => by
      rw [← Array.getElem?_toList, hlist]
      simp [hj]
    have hbl : b < s.heap.size := (Array.getElem?_eq_some_iff.mp hcb).1
    have hX : va_X b xs.length (fun j => xs.getD j 0) s s.heap := ⟨scr, hcb, hof, hkn, hsz, hval⟩
    have K : W p l e room_1 s m #[Value.ref b] below meth c s₁.heap [] 0 0 (lw_Z below #[Value.ref b] s) (entryFrame m ([Value.ref b] : List Value).toArray 4) := by
      rw [hh0]
      exact whole_start l hbd ⟨B.exec, B.bytes, B.returns, hml, hown, hts, hX, hbl, B.notSynchronized, hgv⟩
    obtain ⟨t, a1, o, b1, b2, b3⟩ := K s₁ rfl X₀
    exact ⟨t, o, a1, b1, b2, b3⟩
theorem lw_pre_spec {args : Array Value} {s : State} (h : (Jvm.Cond.and given_1 narrow_1).before args s = true) (hr : rest_1_c.before args s = true) : ∃ (b : Addr) (xs : List Int32), lw_P b xs args s := by
  have hs := flat_of_before _ h
  have hq := flat_of_before _ hr
  have hc : (Cond.count 1).before args s = true := hs _ (by decide +kernel)
  have harr : (Cond.arrayOf (.arg 0) .int).before args s = true := hs _ (by decide +kernel)
  have hle : (Cond.le (.length (.arg 0)) (.int 192)).before args s = true := hs _ (by decide +kernel)
  have hlen : (Cond.isInt (.length (.arg 0))).before args s = true := hq _ (by decide +kernel)
  have hall : (Cond.all (.arg 0) (.isInt (.elem (.arg 0) (.index 0)))).before args s = true := hq _ (by decide +kernel)
  obtain ⟨b, xs, hb, hx⟩ := State.ints_of_pre rfl harr hlen hall
  have hsm : xs.length < 2 ^ 31 := hx.choose_spec.2.2.2
  have hev : (Term.length (.arg 0)).eval args s none [] s = some (.int xs.length.toInt32) := hx.length_eval hb
  have hv := Cond.le_ints hev (show (Term.int 192).eval args s none [] s = some (.int 192) from rfl)
  have hd : xs.length.toInt32 ≤ 192 := by
    simpa [Cond.before, Cond.holds, hv] using hle
  have hN : xs.length ≤ 192 := (Int32.ofNat_le_ofNat hsm (by decide)).mp (show Int32.ofNat xs.length ≤ Int32.ofNat 192 from hd)
  exact ⟨b, xs, Cond.one_arg hc (show args[0]? = some (.ref b) from hb), hx, hN, h⟩
theorem lw_comes (l : Launch) : Comes l x (Jvm.Cond.code x code maxLocals ret :: tables_1) room_1 (fun tb e args s => Calls_1 tb e args s ∧ rest_1 tb e args s ∧ Pre_1 tb e args s)
    (fun _ _ args s o t => lw_Q args s o t) := by
  intro p e ha hc hk s m args below hf hfit hheap happ hpre
  obtain ⟨b, xs, hP⟩ := lw_pre_spec hpre.2.2 hpre.2.1
  obtain ⟨k, o, h1, h2, h3, hQ⟩ := lw_walk l b xs p e ha hc hk s m args below hf ((Spec.applies_iff_loose hf).mp happ).1 hP trivial
  exact ⟨k, o, h1, h2, h3, hQ⟩
theorem lw_frame {s t : State} {o : Outcome} {args : Array Value} (h : Framed s o t [] 644546 7168611) :
    Framed s o t (fieldLocs frame_1_writes args s ++ arrayLocs frame_1_arrays args s ++ staticLocs frame_1_statics s) 644546 7168611 := h
theorem lw_limb (L : Cond) (hL : ∀ (args : Array Value) (s t : State), L.after args s (.returned (some (.int 1))) t = true) :
    ArmFor flags0 classFile x code maxLocals ret World_1 tables_1 room_1 Calls_1 rest_1 Pre_1
      (fun tb e a s o t => postC L tb e a s o t ∧ Framed s o t (fieldLocs frame_1_writes a s ++ arrayLocs frame_1_arrays a s ++ staticLocs frame_1_statics s) 644546 7168611) := by
  intro l _ _ _ p e ha hc hk s m args below hf hfit hheap happ hpre
  obtain ⟨k, o, h1, h2, h3, rfl, hF⟩ := lw_comes l p e ha hc hk s m args below hf hfit hheap happ hpre
  exact ⟨k, _, h1, h2, h3, hL args s _, lw_frame hF⟩
theorem i_vc : Claimed_1_1 ∧ Claimed_1_2 := ⟨lw_limb limb_1_1 (fun args s t => by simp [limb_1_1, Cond.after, Cond.holds, Cond.value]), lw_limb limb_1_2 (fun args s t => Cond.after_iff.mpr (by
  first | (rw [show limb_1_2 = Cond.eq .result (.int 1) from rfl, Cond.eq_ints (x := 1) (y := 1) rfl rfl]; simp; done) | (simp [limb_1_2, Cond.value, Term.eval]; done)))⟩
end
