section
-- ===== PART A: goes FIRST, ahead of the names: the tables' words, and 'selects' of the private methods out of them =====
/-- a private method of a class that the tables say can be made, by its rows of tables_1 -/
def lw_okq (q : MethodName × Nat) : Prop := (q.1.cls ≠ "java/lang/invoke/MethodHandle" ∧ q.1.cls ≠ "java/lang/invoke/VarHandle") ∧ Cond.instantiable q.1.cls q.2 ∈ tables_1 ∧ Cond.privateMethod q.1 ∈ tables_1 ∧ Cond.instanceMethod q.1 ∈ tables_1
set_option maxRecDepth 100000
theorem lw_t1 {w : Cond} (h : w ∈ tables_1_1) : w ∈ tables_1 := List.mem_append_left _ h
theorem lw_t2 {w : Cond} (h : w ∈ tables_1_2) : w ∈ tables_1 := List.mem_append_right _ h
theorem lw_p0 : lw_okq (⟨"java/lang/Throwable", "fillInStackTrace", "(I)Ljava/lang/Throwable;"⟩, 6) := ⟨⟨by decide +kernel, by decide +kernel⟩, lw_t1 (List.mem_of_getElem? (i := 62) rfl), lw_t1 (List.mem_of_getElem? (i := 60) rfl), lw_t1 (List.mem_of_getElem? (i := 61) rfl)⟩
theorem lw_p1 : lw_okq (⟨"GroupedNumbers", "put", "(I)V"⟩, 6) := ⟨⟨by decide +kernel, by decide +kernel⟩, lw_t1 (List.mem_of_getElem? (i := 12) rfl), lw_t1 (List.mem_of_getElem? (i := 160) rfl), lw_t1 (List.mem_of_getElem? (i := 161) rfl)⟩
theorem lw_p2 : lw_okq (⟨"GroupedNumbersModel", "word", "(I)V"⟩, 5) := ⟨⟨by decide +kernel, by decide +kernel⟩, lw_t2 (List.mem_of_getElem? (i := 7) rfl), lw_t2 (List.mem_of_getElem? (i := 33) rfl), lw_t2 (List.mem_of_getElem? (i := 34) rfl)⟩
def lw_privs_1 : List (MethodName × Nat) := [(⟨"java/lang/Throwable", "fillInStackTrace", "(I)Ljava/lang/Throwable;"⟩, 6), (⟨"GroupedNumbers", "put", "(I)V"⟩, 6), (⟨"GroupedNumbersModel", "word", "(I)V"⟩, 5)]
theorem lw_r1 : ∀ q ∈ lw_privs_1, lw_okq q := List.forall_mem_cons.mpr ⟨lw_p0, List.forall_mem_cons.mpr ⟨lw_p1, List.forall_mem_cons.mpr ⟨lw_p2, fun _ h => absurd h List.not_mem_nil⟩⟩⟩
def lw_privs : List (MethodName × Nat) := lw_privs_1
def lw_tbl : List Cond := k2_sels lw_privs ++ tables_1
theorem lw_privs_ok : ∀ q ∈ lw_privs, lw_okq q := lw_r1
-- ===== ONE list of words for every method: the tables' words that hold all through a run =====
def lw_all : List Cond := lw_tbl.filter goodWord
/-- a word of the tables by its place: claim/WORDS.tsv -/
theorem lw_w {w : Cond} (i : Nat) (h : lw_tbl[i]? = some w) (g : goodWord w = true) : w ∈ lw_all := List.mem_filter.mpr ⟨List.mem_of_getElem? h, g⟩
theorem lw_all_tbl {w : Cond} (h : w ∈ lw_all) : w ∈ lw_tbl := (List.mem_filter.mp h).1
theorem lw_self : GoodIn lw_all lw_all := fun w h => ⟨h, good_of_word (List.mem_filter.mp h).2⟩
/-- a class's field words, by their places -/
theorem lw_in (ws : List Cond) (ps : List Nat) (hp : ws = ps.filterMap (fun i => lw_tbl[i]?)) (hg : ws.all goodWord = true) : ∀ w ∈ ws, w ∈ lw_all := by
  intro w h
  have h1 := List.all_eq_true.mp hg w h
  rw [hp] at h
  obtain ⟨i, -, hi⟩ := List.mem_filterMap.mp h
  exact lw_w i hi h1
/-- the words of a contract for the method y with code b, L locals, answer r -/
abbrev ws_ (y : MethodName) (b : ByteArray) (L : Nat) (r : Option FieldType) : List Cond := Cond.code y b L r :: lw_all
theorem lw_meth {y : MethodName} {b : ByteArray} {L : Nat} {r : Option FieldType} (h : Cond.code y b L r ∈ lw_all) : GoodIn lw_all (ws_ y b L r) := by
  intro w hw
  rcases List.mem_cons.mp hw with e | e
  · rw [e]
    exact lw_self _ h
  · exact lw_self _ e
theorem lw_app {a c : List Cond} (ha : ∀ w ∈ a, w ∈ lw_all) (hc : GoodIn lw_all c) : GoodIn lw_all (a ++ c) := by
  intro w hw
  rcases List.mem_append.mp hw with e | e
  · exact lw_self w (ha w e)
  · exact hc w e
/-- what a call through an object asks: cwV n hts (lw_V ..) -/
theorem lw_V {own : String} {idx : Nat} {C : String} {y : MethodName} {b : ByteArray} {L : Nat} {r : Option FieldType} (h1 : Cond.methodLink own idx y ∈ lw_all) (h2 : Cond.instanceMethod y ∈ lw_all) (h3 : Cond.selects C y y ∈ lw_all) (h4 : Cond.initialized C ∈ lw_all) (h5 : Cond.code y b L r ∈ lw_all) : GoodIn lw_all (wsV own idx C y (ws_ y b L r)) := by
  refine lw_app ?_ (lw_meth h5)
  intro w hw
  simp only [List.mem_cons, List.not_mem_nil, or_false] at hw
  rcases hw with e | e | e | e
  · rw [e]; exact h1
  · rw [e]; exact h2
  · rw [e]; exact h3
  · rw [e]; exact h4
/-- what a static call asks: va_cwS n hts (lw_S ..) -/
theorem lw_S {own : String} {idx : Nat} {y : MethodName} {b : ByteArray} {L : Nat} {r : Option FieldType} (h1 : Cond.methodLink own idx y ∈ lw_all) (h2 : Cond.static y ∈ lw_all) (h3 : Cond.initialized y.cls ∈ lw_all) (h4 : Cond.code y b L r ∈ lw_all) : GoodIn lw_all (va_wsS own idx y (ws_ y b L r)) := by
  refine lw_app ?_ (lw_meth h4)
  intro w hw
  simp only [List.mem_cons, List.not_mem_nil, or_false] at hw
  rcases hw with e | e | e
  · rw [e]; exact h1
  · rw [e]; exact h2
  · rw [e]; exact h3
/-- the words of a contract for a method WITH HANDLERS (hh: its table) -/
abbrev wsW_ (y : MethodName) (b : ByteArray) (L : Nat) (r : Option FieldType) (hh : List (Nat × Nat × Nat × Nat)) : List Cond := Cond.codeWith y b L r hh :: lw_all
theorem lw_methW {y : MethodName} {b : ByteArray} {L : Nat} {r : Option FieldType} {hh : List (Nat × Nat × Nat × Nat)} (h : Cond.codeWith y b L r hh ∈ lw_all) : GoodIn lw_all (wsW_ y b L r hh) := by
  intro w hw
  rcases List.mem_cons.mp hw with e | e
  · rw [e]
    exact lw_self _ h
  · exact lw_self _ e
/-- any list of words by their places (lw_in), good -/
theorem lw_good {ws : List Cond} (h : ∀ w ∈ ws, w ∈ lw_all) : GoodIn lw_all ws := fun w hw => lw_self w (h w hw)
/-- what a call of a method with handlers asks: vx_cwVW n hts (lw_VW ..), vx_cwSW n hts (lw_SW ..) -/
theorem lw_VW {own : String} {idx : Nat} {C : String} {y : MethodName} {b : ByteArray} {L : Nat} {r : Option FieldType} {hh : List (Nat × Nat × Nat × Nat)} (h1 : Cond.methodLink own idx y ∈ lw_all) (h2 : Cond.instanceMethod y ∈ lw_all) (h3 : Cond.selects C y y ∈ lw_all) (h4 : Cond.initialized C ∈ lw_all) (h5 : Cond.codeWith y b L r hh ∈ lw_all) : GoodIn lw_all (wsV own idx C y (wsW_ y b L r hh)) := by
  refine lw_app ?_ (lw_methW h5)
  intro w hw
  simp only [List.mem_cons, List.not_mem_nil, or_false] at hw
  rcases hw with e | e | e | e
  · rw [e]; exact h1
  · rw [e]; exact h2
  · rw [e]; exact h3
  · rw [e]; exact h4
theorem lw_SW {own : String} {idx : Nat} {y : MethodName} {b : ByteArray} {L : Nat} {r : Option FieldType} {hh : List (Nat × Nat × Nat × Nat)} (h1 : Cond.methodLink own idx y ∈ lw_all) (h2 : Cond.static y ∈ lw_all) (h3 : Cond.initialized y.cls ∈ lw_all) (h4 : Cond.codeWith y b L r hh ∈ lw_all) : GoodIn lw_all (va_wsS own idx y (wsW_ y b L r hh)) := by
  refine lw_app ?_ (lw_methW h4)
  intro w hw
  simp only [List.mem_cons, List.not_mem_nil, or_false] at hw
  rcases hw with e | e | e
  · rw [e]; exact h1
  · rw [e]; exact h2
  · rw [e]; exact h3
/-- a word by its place in its run of the tables -/
theorem lw_at {r : List Cond} (hr : ∀ w ∈ r, w ∈ lw_tbl) {w : Cond} (i : Nat) (h : r[i]? = some w) : w ∈ lw_tbl := hr w (List.mem_of_getElem? h)
theorem lw_g {w : Cond} (h : w ∈ lw_tbl) (g : goodWord w = true) : w ∈ lw_all := List.mem_filter.mpr ⟨h, g⟩
theorem lw_ms : ∀ w ∈ k2_sels lw_privs, w ∈ lw_tbl := fun w h => show w ∈ k2_sels lw_privs ++ tables_1 from List.mem_append_left _ h
theorem lw_m1 : ∀ w ∈ tables_1_1, w ∈ lw_tbl := fun w h => show w ∈ k2_sels lw_privs ++ tables_1 from List.mem_append_right (k2_sels lw_privs) (show w ∈ tables_1 from List.mem_append_left _ h)
theorem lw_m2 : ∀ w ∈ tables_1_2, w ∈ lw_tbl := fun w h => show w ∈ k2_sels lw_privs ++ tables_1 from List.mem_append_right (k2_sels lw_privs) (show w ∈ tables_1 from List.mem_append_right _ h)
theorem qs0 : (Cond.selects "java/lang/Throwable" ⟨"java/lang/Throwable", "fillInStackTrace", "(I)Ljava/lang/Throwable;"⟩ ⟨"java/lang/Throwable", "fillInStackTrace", "(I)Ljava/lang/Throwable;"⟩) ∈ lw_all := lw_g (lw_at lw_ms 0 rfl) rfl
theorem qs1 : (Cond.selects "GroupedNumbers" ⟨"GroupedNumbers", "put", "(I)V"⟩ ⟨"GroupedNumbers", "put", "(I)V"⟩) ∈ lw_all := lw_g (lw_at lw_ms 1 rfl) rfl
theorem qs2 : (Cond.selects "GroupedNumbersModel" ⟨"GroupedNumbersModel", "word", "(I)V"⟩ ⟨"GroupedNumbersModel", "word", "(I)V"⟩) ∈ lw_all := lw_g (lw_at lw_ms 2 rfl) rfl
end
section
set_option maxRecDepth 100000
theorem q119 : (Jvm.Cond.arrayClass Jvm.ClassFile.FieldType.byte) ∈ lw_all := lw_g (lw_at lw_m1 116 rfl) rfl
theorem q3 : (Jvm.Cond.initialized "GroupedNumbersLaw") ∈ lw_all := lw_g (lw_at lw_m1 0 rfl) rfl
theorem q14 : (Jvm.Cond.classLink "GroupedNumbersLaw" (7 : Nat) "GroupedNumbers") ∈ lw_all := lw_g (lw_at lw_m1 11 rfl) rfl
theorem q16 : (Jvm.Cond.methodLink "GroupedNumbersLaw" (9 : Nat) ({ cls := "GroupedNumbers", name := "<init>", desc := "()V" } : Jvm.MethodName)) ∈ lw_all := lw_g (lw_at lw_m1 13 rfl) rfl
theorem q158 : (Jvm.Cond.methodLink "GroupedNumbersLaw" (13 : Nat) ({ cls := "GroupedNumbers", name := "feed", desc := "(IIIII)I" } : Jvm.MethodName)) ∈ lw_all := lw_g (lw_at lw_m1 155 rfl) rfl
theorem q166 : (Jvm.Cond.methodLink "GroupedNumbersLaw" (18 : Nat) ({ cls := "GroupedNumbers", name := "end", desc := "(I)I" } : Jvm.MethodName)) ∈ lw_all := lw_g (lw_at lw_m1 163 rfl) rfl
theorem q170 : (Jvm.Cond.methodLink "GroupedNumbersLaw" (23 : Nat) ({ cls := "GroupedNumbers", name := "read", desc := "(II)I" } : Jvm.MethodName)) ∈ lw_all := lw_g (lw_at lw_m1 167 rfl) rfl
theorem q203 : (Jvm.Cond.methodLink "GroupedNumbersLaw" (28 : Nat) ({ cls := "GroupedNumbers", name := "value", desc := "()J" } : Jvm.MethodName)) ∈ lw_all := lw_g (lw_at lw_m1 200 rfl) rfl
theorem q207 : (Jvm.Cond.methodLink "GroupedNumbersLaw" (35 : Nat) ({ cls := "GroupedNumbers", name := "write", desc := "(IJ)I" } : Jvm.MethodName)) ∈ lw_all := lw_g (lw_at lw_m1 204 rfl) rfl
theorem q233 : (Jvm.Cond.methodLink "GroupedNumbersLaw" (40 : Nat) ({ cls := "GroupedNumbers", name := "size", desc := "()I" } : Jvm.MethodName)) ∈ lw_all := lw_g (lw_at lw_m1 230 rfl) rfl
theorem q237 : (Jvm.Cond.methodLink "GroupedNumbersLaw" (45 : Nat) ({ cls := "GroupedNumbers", name := "at", desc := "(I)I" } : Jvm.MethodName)) ∈ lw_all := lw_g (lw_at lw_m1 234 rfl) rfl
theorem q241 : (Jvm.Cond.methodLink "GroupedNumbersLaw" (49 : Nat) ({ cls := "GroupedNumbers", name := "clear", desc := "()V" } : Jvm.MethodName)) ∈ lw_all := lw_g (lw_at lw_m1 238 rfl) rfl
theorem q249 : (Jvm.Cond.classLink "GroupedNumbersLaw" (10 : Nat) "GroupedNumbersModel") ∈ lw_all := lw_g (lw_at lw_m2 6 rfl) rfl
theorem q251 : (Jvm.Cond.methodLink "GroupedNumbersLaw" (12 : Nat) ({ cls := "GroupedNumbersModel", name := "<init>", desc := "()V" } : Jvm.MethodName)) ∈ lw_all := lw_g (lw_at lw_m2 8 rfl) rfl
theorem q271 : (Jvm.Cond.methodLink "GroupedNumbersLaw" (17 : Nat) ({ cls := "GroupedNumbersModel", name := "feed", desc := "(IIIII)I" } : Jvm.MethodName)) ∈ lw_all := lw_g (lw_at lw_m2 28 rfl) rfl
theorem q279 : (Jvm.Cond.methodLink "GroupedNumbersLaw" (22 : Nat) ({ cls := "GroupedNumbersModel", name := "end", desc := "(I)I" } : Jvm.MethodName)) ∈ lw_all := lw_g (lw_at lw_m2 36 rfl) rfl
theorem q283 : (Jvm.Cond.methodLink "GroupedNumbersLaw" (27 : Nat) ({ cls := "GroupedNumbersModel", name := "read", desc := "(II)I" } : Jvm.MethodName)) ∈ lw_all := lw_g (lw_at lw_m2 40 rfl) rfl
theorem q288 : (Jvm.Cond.methodLink "GroupedNumbersLaw" (32 : Nat) ({ cls := "GroupedNumbersModel", name := "value", desc := "()J" } : Jvm.MethodName)) ∈ lw_all := lw_g (lw_at lw_m2 45 rfl) rfl
theorem q292 : (Jvm.Cond.methodLink "GroupedNumbersLaw" (39 : Nat) ({ cls := "GroupedNumbersModel", name := "write", desc := "(IJ)I" } : Jvm.MethodName)) ∈ lw_all := lw_g (lw_at lw_m2 49 rfl) rfl
theorem q303 : (Jvm.Cond.methodLink "GroupedNumbersLaw" (44 : Nat) ({ cls := "GroupedNumbersModel", name := "size", desc := "()I" } : Jvm.MethodName)) ∈ lw_all := lw_g (lw_at lw_m2 60 rfl) rfl
theorem q307 : (Jvm.Cond.methodLink "GroupedNumbersLaw" (48 : Nat) ({ cls := "GroupedNumbersModel", name := "at", desc := "(I)I" } : Jvm.MethodName)) ∈ lw_all := lw_g (lw_at lw_m2 64 rfl) rfl
theorem q311 : (Jvm.Cond.methodLink "GroupedNumbersLaw" (52 : Nat) ({ cls := "GroupedNumbersModel", name := "clear", desc := "()V" } : Jvm.MethodName)) ∈ lw_all := lw_g (lw_at lw_m2 68 rfl) rfl
theorem q315 : (Jvm.Cond.constantLong "GroupedNumbersLaw" (33 : Nat) (4294967295 : Int64)) ∈ lw_all := lw_g (lw_at lw_m2 72 rfl) rfl
/-! java/lang/Throwable -/
def RJ0 : String := "java/lang/Throwable"
def TJ0 : u_T := fun k => match k with
  | 0 => ("java/lang/Throwable", "cause", "Ljava/lang/Throwable;", false)
  | 1 => ("java/lang/Throwable", "stackTrace", "[Ljava/lang/StackTraceElement;", false)
  | 2 => ("java/lang/Throwable", "suppressedExceptions", "Ljava/util/List;", false)
  | 3 => ("java/lang/Throwable", "detailMessage", "Ljava/lang/String;", false)
  | _ => ("java/lang/Throwable", "backtrace", "Ljava/lang/Object;", false)
def tyJ0 : Nat → FieldType := fun k => match k with
  | 0 => .object "java/lang/Throwable"
  | 1 => .array (.object "java/lang/StackTraceElement")
  | 2 => .object "java/util/List"
  | 3 => .object "java/lang/String"
  | _ => .object "java/lang/Object"
abbrev wsJ00 : List Cond := u_ws RJ0 TJ0 5
theorem nmJ0 : ∀ a, a < 5 → ∀ b, b < 5 → a ≠ b → (TJ0 a).2.1 ≠ (TJ0 b).2.1 := by decide +kernel
theorem tyJ0_ok : ∀ k, k < 5 → parseFieldDescriptor (TJ0 k).2.2.1 = some (tyJ0 k) := by decide +kernel
abbrev cJ0_init : ByteArray := prog_11_method_1_code
def yJ0_init : MethodName := ⟨RJ0, "<init>", "()V"⟩
theorem dJ0_init_0 : decode cJ0_init 0 = .ok (.aload_n 0, 1) := by decide +kernel
theorem dJ0_init_1 : decode cJ0_init 1 = .ok (.invokespecial 1, 3) := by decide +kernel
theorem dJ0_init_4 : decode cJ0_init 4 = .ok (.aload_n 0, 1) := by decide +kernel
theorem dJ0_init_5 : decode cJ0_init 5 = .ok (.aload_n 0, 1) := by decide +kernel
theorem dJ0_init_6 : decode cJ0_init 6 = .ok (.putfield 7, 3) := by decide +kernel
theorem dJ0_init_9 : decode cJ0_init 9 = .ok (.aload_n 0, 1) := by decide +kernel
theorem dJ0_init_10 : decode cJ0_init 10 = .ok (.getstatic 13, 3) := by decide +kernel
theorem dJ0_init_13 : decode cJ0_init 13 = .ok (.putfield 17, 3) := by decide +kernel
theorem dJ0_init_16 : decode cJ0_init 16 = .ok (.aload_n 0, 1) := by decide +kernel
theorem dJ0_init_17 : decode cJ0_init 17 = .ok (.getstatic 20, 3) := by decide +kernel
theorem dJ0_init_20 : decode cJ0_init 20 = .ok (.putfield 24, 3) := by decide +kernel
theorem dJ0_init_23 : decode cJ0_init 23 = .ok (.aload_n 0, 1) := by decide +kernel
theorem dJ0_init_24 : decode cJ0_init 24 = .ok (.invokevirtual 27, 3) := by decide +kernel
theorem dJ0_init_27 : decode cJ0_init 27 = .ok (.pop, 1) := by decide +kernel
theorem dJ0_init_28 : decode cJ0_init 28 = .ok (.return_, 1) := by decide +kernel
theorem q6 : (Jvm.Cond.initialized "java/lang/Throwable") ∈ lw_all := lw_g (lw_at lw_m1 3 rfl) rfl
theorem q35 : (Jvm.Cond.declares ({ cls := "java/lang/Throwable", name := "<init>", desc := "()V" } : Jvm.MethodName)) ∈ lw_tbl := lw_at lw_m1 32 rfl
theorem q36 : (Jvm.Cond.declares ({ cls := "java/lang/Throwable", name := "<init>", desc := "(Ljava/lang/String;)V" } : Jvm.MethodName)) ∈ lw_tbl := lw_at lw_m1 33 rfl
theorem q40 : (Jvm.Cond.lays "java/lang/Throwable" "java/lang/Throwable" "cause" "Ljava/lang/Throwable;") ∈ lw_all := lw_g (lw_at lw_m1 37 rfl) rfl
theorem q42 : (Jvm.Cond.lays "java/lang/Throwable" "java/lang/Throwable" "stackTrace" "[Ljava/lang/StackTraceElement;") ∈ lw_all := lw_g (lw_at lw_m1 39 rfl) rfl
theorem q44 : (Jvm.Cond.lays "java/lang/Throwable" "java/lang/Throwable" "suppressedExceptions" "Ljava/util/List;") ∈ lw_all := lw_g (lw_at lw_m1 41 rfl) rfl
theorem q46 : (Jvm.Cond.lays "java/lang/Throwable" "java/lang/Throwable" "detailMessage" "Ljava/lang/String;") ∈ lw_all := lw_g (lw_at lw_m1 43 rfl) rfl
theorem q48 : (Jvm.Cond.lays "java/lang/Throwable" "java/lang/Throwable" "backtrace" "Ljava/lang/Object;") ∈ lw_all := lw_g (lw_at lw_m1 45 rfl) rfl
theorem q49 : (Jvm.Cond.fieldLink "java/lang/Throwable" (198 : Nat) "java/lang/Throwable" "backtrace" "Ljava/lang/Object;") ∈ lw_all := lw_g (lw_at lw_m1 46 rfl) rfl
theorem q50 : (Jvm.Cond.superclass "java/lang/Throwable" "java/lang/Object") ∈ lw_all := lw_g (lw_at lw_m1 47 rfl) rfl
theorem q51 : (Jvm.Cond.instanceMethod ({ cls := "java/lang/Throwable", name := "<init>", desc := "()V" } : Jvm.MethodName)) ∈ lw_all := lw_g (lw_at lw_m1 48 rfl) rfl
theorem q52 : (Jvm.Cond.code ({ cls := "java/lang/Throwable", name := "<init>", desc := "()V" } : Jvm.MethodName) prog_11_method_1_code (1 : Nat) (Option.none : Option Jvm.ClassFile.FieldType)) ∈ lw_all := lw_g (lw_at lw_m1 49 rfl) rfl
theorem q53 : (Jvm.Cond.methodLink "java/lang/Throwable" (1 : Nat) ({ cls := "java/lang/Object", name := "<init>", desc := "()V" } : Jvm.MethodName)) ∈ lw_all := lw_g (lw_at lw_m1 50 rfl) rfl
theorem q54 : (Jvm.Cond.fieldLink "java/lang/Throwable" (13 : Nat) "java/lang/Throwable" "UNASSIGNED_STACK" "[Ljava/lang/StackTraceElement;") ∈ lw_all := lw_g (lw_at lw_m1 51 rfl) rfl
theorem q55 : (Jvm.Cond.laysStatic "java/lang/Throwable" "UNASSIGNED_STACK" "[Ljava/lang/StackTraceElement;") ∈ lw_tbl := lw_at lw_m1 52 rfl
theorem q56 : (Jvm.Cond.fieldLink "java/lang/Throwable" (20 : Nat) "java/lang/Throwable" "SUPPRESSED_SENTINEL" "Ljava/util/List;") ∈ lw_all := lw_g (lw_at lw_m1 53 rfl) rfl
theorem q57 : (Jvm.Cond.laysStatic "java/lang/Throwable" "SUPPRESSED_SENTINEL" "Ljava/util/List;") ∈ lw_tbl := lw_at lw_m1 54 rfl
theorem q58 : (Jvm.Cond.methodLink "java/lang/Throwable" (27 : Nat) ({ cls := "java/lang/Throwable", name := "fillInStackTrace", desc := "()Ljava/lang/Throwable;" } : Jvm.MethodName)) ∈ lw_all := lw_g (lw_at lw_m1 55 rfl) rfl
theorem q59 : (Jvm.Cond.instanceMethod ({ cls := "java/lang/Throwable", name := "fillInStackTrace", desc := "()Ljava/lang/Throwable;" } : Jvm.MethodName)) ∈ lw_all := lw_g (lw_at lw_m1 56 rfl) rfl
theorem q60 : (Jvm.Cond.sameMethod "java/lang/Throwable" "java/lang/Throwable" "fillInStackTrace" "()Ljava/lang/Throwable;") ∈ lw_all := lw_g (lw_at lw_m1 57 rfl) rfl
theorem q61 : (Jvm.Cond.codeSync ({ cls := "java/lang/Throwable", name := "fillInStackTrace", desc := "()Ljava/lang/Throwable;" } : Jvm.MethodName) prog_11_method_18_code (1 : Nat) (Option.some (Jvm.ClassFile.FieldType.object "java/lang/Throwable"))) ∈ lw_all := lw_g (lw_at lw_m1 58 rfl) rfl
theorem q62 : (Jvm.Cond.methodLink "java/lang/Throwable" (202 : Nat) ({ cls := "java/lang/Throwable", name := "fillInStackTrace", desc := "(I)Ljava/lang/Throwable;" } : Jvm.MethodName)) ∈ lw_all := lw_g (lw_at lw_m1 59 rfl) rfl
theorem q63 : (Jvm.Cond.privateMethod ({ cls := "java/lang/Throwable", name := "fillInStackTrace", desc := "(I)Ljava/lang/Throwable;" } : Jvm.MethodName)) ∈ lw_tbl := lw_at lw_m1 60 rfl
theorem q64 : (Jvm.Cond.instanceMethod ({ cls := "java/lang/Throwable", name := "fillInStackTrace", desc := "(I)Ljava/lang/Throwable;" } : Jvm.MethodName)) ∈ lw_all := lw_g (lw_at lw_m1 61 rfl) rfl
theorem q65 : (Jvm.Cond.instantiable "java/lang/Throwable" (6 : Nat)) ∈ lw_all := lw_g (lw_at lw_m1 62 rfl) rfl
theorem q66 : (Jvm.Cond.native ({ cls := "java/lang/Throwable", name := "fillInStackTrace", desc := "(I)Ljava/lang/Throwable;" } : Jvm.MethodName)) ∈ lw_all := lw_g (lw_at lw_m1 63 rfl) rfl
theorem q77 : (Jvm.Cond.fieldLink "java/lang/Throwable" (198 : Nat) "java/lang/Throwable" "backtrace" "Ljava/lang/Object;") ∈ lw_all := lw_g (lw_at lw_m1 74 rfl) rfl
theorem q78 : (Jvm.Cond.fieldLink "java/lang/Throwable" (7 : Nat) "java/lang/Throwable" "cause" "Ljava/lang/Throwable;") ∈ lw_all := lw_g (lw_at lw_m1 75 rfl) rfl
theorem q79 : (Jvm.Cond.fieldLink "java/lang/Throwable" (17 : Nat) "java/lang/Throwable" "stackTrace" "[Ljava/lang/StackTraceElement;") ∈ lw_all := lw_g (lw_at lw_m1 76 rfl) rfl
theorem q80 : (Jvm.Cond.fieldLink "java/lang/Throwable" (24 : Nat) "java/lang/Throwable" "suppressedExceptions" "Ljava/util/List;") ∈ lw_all := lw_g (lw_at lw_m1 77 rfl) rfl
theorem q81 : (Jvm.Cond.soleField "java/lang/Throwable" "backtrace") ∈ lw_all := lw_g (lw_at lw_m1 78 rfl) rfl
theorem q82 : (Jvm.Cond.soleField "java/lang/Throwable" "detailMessage") ∈ lw_all := lw_g (lw_at lw_m1 79 rfl) rfl
theorem q83 : (Jvm.Cond.soleField "java/lang/Throwable" "cause") ∈ lw_all := lw_g (lw_at lw_m1 80 rfl) rfl
theorem q84 : (Jvm.Cond.soleField "java/lang/Throwable" "stackTrace") ∈ lw_all := lw_g (lw_at lw_m1 81 rfl) rfl
theorem q86 : (Jvm.Cond.soleField "java/lang/Throwable" "depth") ∈ lw_all := lw_g (lw_at lw_m1 83 rfl) rfl
theorem q87 : (Jvm.Cond.soleField "java/lang/Throwable" "suppressedExceptions") ∈ lw_all := lw_g (lw_at lw_m1 84 rfl) rfl
theorem q316 : (Jvm.Cond.sameMethod "java/lang/Throwable" "java/lang/Throwable" "fillInStackTrace" "(I)Ljava/lang/Throwable;") ∈ lw_all := lw_g (lw_at lw_m2 73 rfl) rfl
theorem in_J0 : ∀ w ∈ wsJ00, w ∈ lw_all := lw_in wsJ00 [40, 42, 44, 46, 48] (by decide +kernel) (by decide +kernel)
/-! java/lang/Exception -/
def RJ1 : String := "java/lang/Exception"
abbrev cJ1_init : ByteArray := prog_7_method_1_code
def yJ1_init : MethodName := ⟨RJ1, "<init>", "()V"⟩
theorem dJ1_init_0 : decode cJ1_init 0 = .ok (.aload_n 0, 1) := by decide +kernel
theorem dJ1_init_1 : decode cJ1_init 1 = .ok (.invokespecial 1, 3) := by decide +kernel
theorem dJ1_init_4 : decode cJ1_init 4 = .ok (.return_, 1) := by decide +kernel
theorem q7 : (Jvm.Cond.initialized "java/lang/Exception") ∈ lw_all := lw_g (lw_at lw_m1 4 rfl) rfl
theorem q33 : (Jvm.Cond.declares ({ cls := "java/lang/Exception", name := "<init>", desc := "()V" } : Jvm.MethodName)) ∈ lw_tbl := lw_at lw_m1 30 rfl
theorem q34 : (Jvm.Cond.declares ({ cls := "java/lang/Exception", name := "<init>", desc := "(Ljava/lang/String;)V" } : Jvm.MethodName)) ∈ lw_tbl := lw_at lw_m1 31 rfl
theorem q74 : (Jvm.Cond.instanceMethod ({ cls := "java/lang/Exception", name := "<init>", desc := "()V" } : Jvm.MethodName)) ∈ lw_all := lw_g (lw_at lw_m1 71 rfl) rfl
theorem q75 : (Jvm.Cond.code ({ cls := "java/lang/Exception", name := "<init>", desc := "()V" } : Jvm.MethodName) prog_7_method_1_code (1 : Nat) (Option.none : Option Jvm.ClassFile.FieldType)) ∈ lw_all := lw_g (lw_at lw_m1 72 rfl) rfl
theorem q76 : (Jvm.Cond.methodLink "java/lang/Exception" (1 : Nat) ({ cls := "java/lang/Throwable", name := "<init>", desc := "()V" } : Jvm.MethodName)) ∈ lw_all := lw_g (lw_at lw_m1 73 rfl) rfl
/-! java/lang/RuntimeException -/
def RJ2 : String := "java/lang/RuntimeException"
abbrev cJ2_init : ByteArray := prog_10_method_1_code
def yJ2_init : MethodName := ⟨RJ2, "<init>", "()V"⟩
theorem dJ2_init_0 : decode cJ2_init 0 = .ok (.aload_n 0, 1) := by decide +kernel
theorem dJ2_init_1 : decode cJ2_init 1 = .ok (.invokespecial 1, 3) := by decide +kernel
theorem dJ2_init_4 : decode cJ2_init 4 = .ok (.return_, 1) := by decide +kernel
theorem q8 : (Jvm.Cond.initialized "java/lang/RuntimeException") ∈ lw_all := lw_g (lw_at lw_m1 5 rfl) rfl
theorem q31 : (Jvm.Cond.declares ({ cls := "java/lang/RuntimeException", name := "<init>", desc := "()V" } : Jvm.MethodName)) ∈ lw_tbl := lw_at lw_m1 28 rfl
theorem q32 : (Jvm.Cond.declares ({ cls := "java/lang/RuntimeException", name := "<init>", desc := "(Ljava/lang/String;)V" } : Jvm.MethodName)) ∈ lw_tbl := lw_at lw_m1 29 rfl
theorem q71 : (Jvm.Cond.instanceMethod ({ cls := "java/lang/RuntimeException", name := "<init>", desc := "()V" } : Jvm.MethodName)) ∈ lw_all := lw_g (lw_at lw_m1 68 rfl) rfl
theorem q72 : (Jvm.Cond.code ({ cls := "java/lang/RuntimeException", name := "<init>", desc := "()V" } : Jvm.MethodName) prog_10_method_1_code (1 : Nat) (Option.none : Option Jvm.ClassFile.FieldType)) ∈ lw_all := lw_g (lw_at lw_m1 69 rfl) rfl
theorem q73 : (Jvm.Cond.methodLink "java/lang/RuntimeException" (1 : Nat) ({ cls := "java/lang/Exception", name := "<init>", desc := "()V" } : Jvm.MethodName)) ∈ lw_all := lw_g (lw_at lw_m1 70 rfl) rfl
/-! java/lang/IllegalStateException -/
def RJ3 : String := "java/lang/IllegalStateException"
def TJ3 : u_T := fun k => match k with
  | 0 => ("java/lang/Throwable", "cause", "Ljava/lang/Throwable;", false)
  | 1 => ("java/lang/Throwable", "stackTrace", "[Ljava/lang/StackTraceElement;", false)
  | 2 => ("java/lang/Throwable", "suppressedExceptions", "Ljava/util/List;", false)
  | 3 => ("java/lang/Throwable", "detailMessage", "Ljava/lang/String;", false)
  | 4 => ("java/lang/Throwable", "backtrace", "Ljava/lang/Object;", false)
  | _ => ("java/lang/Throwable", "depth", "I", false)
def tyJ3 : Nat → FieldType := fun k => match k with
  | 0 => .object "java/lang/Throwable"
  | 1 => .array (.object "java/lang/StackTraceElement")
  | 2 => .object "java/util/List"
  | 3 => .object "java/lang/String"
  | 4 => .object "java/lang/Object"
  | _ => .int
abbrev wsJ30 : List Cond := u_ws RJ3 TJ3 6
theorem nmJ3 : ∀ a, a < 6 → ∀ b, b < 6 → a ≠ b → (TJ3 a).2.1 ≠ (TJ3 b).2.1 := by decide +kernel
theorem tyJ3_ok : ∀ k, k < 6 → parseFieldDescriptor (TJ3 k).2.2.1 = some (tyJ3 k) := by decide +kernel
abbrev cJ3_init : ByteArray := prog_8_method_1_code
def yJ3_init : MethodName := ⟨RJ3, "<init>", "()V"⟩
theorem dJ3_init_0 : decode cJ3_init 0 = .ok (.aload_n 0, 1) := by decide +kernel
theorem dJ3_init_1 : decode cJ3_init 1 = .ok (.invokespecial 1, 3) := by decide +kernel
theorem dJ3_init_4 : decode cJ3_init 4 = .ok (.return_, 1) := by decide +kernel
theorem q9 : (Jvm.Cond.initialized "java/lang/IllegalStateException") ∈ lw_all := lw_g (lw_at lw_m1 6 rfl) rfl
theorem q29 : (Jvm.Cond.instantiable "java/lang/IllegalStateException" (6 : Nat)) ∈ lw_all := lw_g (lw_at lw_m1 26 rfl) rfl
theorem q30 : (Jvm.Cond.castable "java/lang/IllegalStateException" "java/lang/IllegalStateException") ∈ lw_tbl := lw_at lw_m1 27 rfl
theorem q37 : (Jvm.Cond.selects "java/lang/IllegalStateException" ({ cls := "java/lang/Throwable", name := "fillInStackTrace", desc := "(I)Ljava/lang/Throwable;" } : Jvm.MethodName) ({ cls := "java/lang/Throwable", name := "fillInStackTrace", desc := "(I)Ljava/lang/Throwable;" } : Jvm.MethodName)) ∈ lw_all := lw_g (lw_at lw_m1 34 rfl) rfl
theorem q38 : (Jvm.Cond.selects "java/lang/IllegalStateException" ({ cls := "java/lang/Throwable", name := "fillInStackTrace", desc := "()Ljava/lang/Throwable;" } : Jvm.MethodName) ({ cls := "java/lang/Throwable", name := "fillInStackTrace", desc := "()Ljava/lang/Throwable;" } : Jvm.MethodName)) ∈ lw_all := lw_g (lw_at lw_m1 35 rfl) rfl
theorem q39 : (Jvm.Cond.lays "java/lang/IllegalStateException" "java/lang/Throwable" "cause" "Ljava/lang/Throwable;") ∈ lw_all := lw_g (lw_at lw_m1 36 rfl) rfl
theorem q41 : (Jvm.Cond.lays "java/lang/IllegalStateException" "java/lang/Throwable" "stackTrace" "[Ljava/lang/StackTraceElement;") ∈ lw_all := lw_g (lw_at lw_m1 38 rfl) rfl
theorem q43 : (Jvm.Cond.lays "java/lang/IllegalStateException" "java/lang/Throwable" "suppressedExceptions" "Ljava/util/List;") ∈ lw_all := lw_g (lw_at lw_m1 40 rfl) rfl
theorem q45 : (Jvm.Cond.lays "java/lang/IllegalStateException" "java/lang/Throwable" "detailMessage" "Ljava/lang/String;") ∈ lw_all := lw_g (lw_at lw_m1 42 rfl) rfl
theorem q47 : (Jvm.Cond.lays "java/lang/IllegalStateException" "java/lang/Throwable" "backtrace" "Ljava/lang/Object;") ∈ lw_all := lw_g (lw_at lw_m1 44 rfl) rfl
theorem q68 : (Jvm.Cond.instanceMethod ({ cls := "java/lang/IllegalStateException", name := "<init>", desc := "()V" } : Jvm.MethodName)) ∈ lw_all := lw_g (lw_at lw_m1 65 rfl) rfl
theorem q69 : (Jvm.Cond.code ({ cls := "java/lang/IllegalStateException", name := "<init>", desc := "()V" } : Jvm.MethodName) prog_8_method_1_code (1 : Nat) (Option.none : Option Jvm.ClassFile.FieldType)) ∈ lw_all := lw_g (lw_at lw_m1 66 rfl) rfl
theorem q70 : (Jvm.Cond.methodLink "java/lang/IllegalStateException" (1 : Nat) ({ cls := "java/lang/RuntimeException", name := "<init>", desc := "()V" } : Jvm.MethodName)) ∈ lw_all := lw_g (lw_at lw_m1 67 rfl) rfl
theorem q85 : (Jvm.Cond.lays "java/lang/IllegalStateException" "java/lang/Throwable" "depth" "I") ∈ lw_all := lw_g (lw_at lw_m1 82 rfl) rfl
theorem q88 : (Jvm.Cond.superclass "java/lang/IllegalStateException" "java/lang/RuntimeException") ∈ lw_all := lw_g (lw_at lw_m1 85 rfl) rfl
theorem in_J3 : ∀ w ∈ wsJ30, w ∈ lw_all := lw_in wsJ30 [39, 41, 43, 45, 47, 85] (by decide +kernel) (by decide +kernel)
/-! java/lang/Math -/
def RJ4 : String := "java/lang/Math"
abbrev cJ4_min : ByteArray := prog_9_method_69_code
def yJ4_min : MethodName := ⟨RJ4, "min", "(II)I"⟩
theorem dJ4_min_0 : decode cJ4_min 0 = .ok (.iload_n 0, 1) := by decide +kernel
theorem dJ4_min_1 : decode cJ4_min 1 = .ok (.iload_n 1, 1) := by decide +kernel
theorem dJ4_min_2 : decode cJ4_min 2 = .ok (.if_icmp .gt 7, 3) := by decide +kernel
theorem dJ4_min_5 : decode cJ4_min 5 = .ok (.iload_n 0, 1) := by decide +kernel
theorem dJ4_min_6 : decode cJ4_min 6 = .ok (.goto 4, 3) := by decide +kernel
theorem dJ4_min_9 : decode cJ4_min 9 = .ok (.iload_n 1, 1) := by decide +kernel
theorem dJ4_min_10 : decode cJ4_min 10 = .ok (.ireturn, 1) := by decide +kernel
theorem q13 : (Jvm.Cond.initialized "java/lang/Math") ∈ lw_all := lw_g (lw_at lw_m1 10 rfl) rfl
theorem q301 : (Jvm.Cond.static ({ cls := "java/lang/Math", name := "min", desc := "(II)I" } : Jvm.MethodName)) ∈ lw_all := lw_g (lw_at lw_m2 58 rfl) rfl
theorem q302 : (Jvm.Cond.code ({ cls := "java/lang/Math", name := "min", desc := "(II)I" } : Jvm.MethodName) prog_9_method_69_code (2 : Nat) (Option.some Jvm.ClassFile.FieldType.int)) ∈ lw_all := lw_g (lw_at lw_m2 59 rfl) rfl
/-! java/lang/Object -/
def RJ5 : String := "java/lang/Object"
abbrev cJ5_init : ByteArray := object_method_1_code
def yJ5_init : MethodName := ⟨RJ5, "<init>", "()V"⟩
theorem dJ5_init_0 : decode cJ5_init 0 = .ok (.return_, 1) := by decide +kernel
theorem q20 : (Jvm.Cond.instanceMethod ({ cls := "java/lang/Object", name := "<init>", desc := "()V" } : Jvm.MethodName)) ∈ lw_all := lw_g (lw_at lw_m1 17 rfl) rfl
theorem q21 : (Jvm.Cond.code ({ cls := "java/lang/Object", name := "<init>", desc := "()V" } : Jvm.MethodName) object_method_1_code (1 : Nat) (Option.none : Option Jvm.ClassFile.FieldType)) ∈ lw_all := lw_g (lw_at lw_m1 18 rfl) rfl
/-! GroupedNumbers$Fault -/
def RX1 : String := "GroupedNumbers$Fault"
def TX1 : u_T := fun k => match k with
  | 0 => ("GroupedNumbers$Fault", "stop", "Ljava/lang/IllegalStateException;", true)
  | 1 => ("GroupedNumbers$Fault", "number", "I", false)
  | _ => ("GroupedNumbers$Fault", "place", "I", false)
def tyX1 : Nat → FieldType := fun k => match k with
  | 0 => .object "java/lang/IllegalStateException"
  | 1 => .int
  | _ => .int
abbrev wsX10 : List Cond := u_ws RX1 TX1 3
theorem nmX1 : ∀ a, a < 3 → ∀ b, b < 3 → a ≠ b → (TX1 a).2.1 ≠ (TX1 b).2.1 := by decide +kernel
theorem tyX1_ok : ∀ k, k < 3 → parseFieldDescriptor (TX1 k).2.2.1 = some (tyX1 k) := by decide +kernel
abbrev cX1_init : ByteArray := prog_2_method_1_code
def yX1_init : MethodName := ⟨RX1, "<init>", "()V"⟩
theorem dX1_init_0 : decode cX1_init 0 = .ok (.aload_n 0, 1) := by decide +kernel
theorem dX1_init_1 : decode cX1_init 1 = .ok (.invokespecial 1, 3) := by decide +kernel
theorem dX1_init_4 : decode cX1_init 4 = .ok (.aload_n 0, 1) := by decide +kernel
theorem dX1_init_5 : decode cX1_init 5 = .ok (.new 7, 3) := by decide +kernel
theorem dX1_init_8 : decode cX1_init 8 = .ok (.dup, 1) := by decide +kernel
theorem dX1_init_9 : decode cX1_init 9 = .ok (.invokespecial 9, 3) := by decide +kernel
theorem dX1_init_12 : decode cX1_init 12 = .ok (.putfield 10, 3) := by decide +kernel
theorem dX1_init_15 : decode cX1_init 15 = .ok (.return_, 1) := by decide +kernel
abbrev cX1_begin : ByteArray := prog_2_method_2_code
def yX1_begin : MethodName := ⟨RX1, "begin", "()V"⟩
theorem dX1_begin_0 : decode cX1_begin 0 = .ok (.aload_n 0, 1) := by decide +kernel
theorem dX1_begin_1 : decode cX1_begin 1 = .ok (.iconst 0, 1) := by decide +kernel
theorem dX1_begin_2 : decode cX1_begin 2 = .ok (.putfield 16, 3) := by decide +kernel
theorem dX1_begin_5 : decode cX1_begin 5 = .ok (.aload_n 0, 1) := by decide +kernel
theorem dX1_begin_6 : decode cX1_begin 6 = .ok (.iconst (-1), 1) := by decide +kernel
theorem dX1_begin_7 : decode cX1_begin 7 = .ok (.putfield 20, 3) := by decide +kernel
theorem dX1_begin_10 : decode cX1_begin 10 = .ok (.return_, 1) := by decide +kernel
abbrev cX1_at : ByteArray := prog_2_method_3_code
def yX1_at : MethodName := ⟨RX1, "at", "(II)Ljava/lang/IllegalStateException;"⟩
theorem dX1_at_0 : decode cX1_at 0 = .ok (.aload_n 0, 1) := by decide +kernel
theorem dX1_at_1 : decode cX1_at 1 = .ok (.iload_n 1, 1) := by decide +kernel
theorem dX1_at_2 : decode cX1_at 2 = .ok (.putfield 16, 3) := by decide +kernel
theorem dX1_at_5 : decode cX1_at 5 = .ok (.aload_n 0, 1) := by decide +kernel
theorem dX1_at_6 : decode cX1_at 6 = .ok (.iload_n 2, 1) := by decide +kernel
theorem dX1_at_7 : decode cX1_at 7 = .ok (.putfield 20, 3) := by decide +kernel
theorem dX1_at_10 : decode cX1_at 10 = .ok (.aload_n 0, 1) := by decide +kernel
theorem dX1_at_11 : decode cX1_at 11 = .ok (.getfield 10, 3) := by decide +kernel
theorem dX1_at_14 : decode cX1_at 14 = .ok (.areturn, 1) := by decide +kernel
theorem q5 : (Jvm.Cond.initialized "GroupedNumbers$Fault") ∈ lw_all := lw_g (lw_at lw_m1 2 rfl) rfl
theorem q23 : (Jvm.Cond.instantiable "GroupedNumbers$Fault" (3 : Nat)) ∈ lw_all := lw_g (lw_at lw_m1 20 rfl) rfl
theorem q25 : (Jvm.Cond.instanceMethod ({ cls := "GroupedNumbers$Fault", name := "<init>", desc := "()V" } : Jvm.MethodName)) ∈ lw_all := lw_g (lw_at lw_m1 22 rfl) rfl
theorem q26 : (Jvm.Cond.code ({ cls := "GroupedNumbers$Fault", name := "<init>", desc := "()V" } : Jvm.MethodName) prog_2_method_1_code (1 : Nat) (Option.none : Option Jvm.ClassFile.FieldType)) ∈ lw_all := lw_g (lw_at lw_m1 23 rfl) rfl
theorem q27 : (Jvm.Cond.methodLink "GroupedNumbers$Fault" (1 : Nat) ({ cls := "java/lang/Object", name := "<init>", desc := "()V" } : Jvm.MethodName)) ∈ lw_all := lw_g (lw_at lw_m1 24 rfl) rfl
theorem q28 : (Jvm.Cond.classLink "GroupedNumbers$Fault" (7 : Nat) "java/lang/IllegalStateException") ∈ lw_all := lw_g (lw_at lw_m1 25 rfl) rfl
theorem q67 : (Jvm.Cond.methodLink "GroupedNumbers$Fault" (9 : Nat) ({ cls := "java/lang/IllegalStateException", name := "<init>", desc := "()V" } : Jvm.MethodName)) ∈ lw_all := lw_g (lw_at lw_m1 64 rfl) rfl
theorem q89 : (Jvm.Cond.fieldLink "GroupedNumbers$Fault" (10 : Nat) "GroupedNumbers$Fault" "stop" "Ljava/lang/IllegalStateException;") ∈ lw_all := lw_g (lw_at lw_m1 86 rfl) rfl
theorem q90 : (Jvm.Cond.fieldLink "GroupedNumbers$Fault" (16 : Nat) "GroupedNumbers$Fault" "number" "I") ∈ lw_all := lw_g (lw_at lw_m1 87 rfl) rfl
theorem q91 : (Jvm.Cond.fieldLink "GroupedNumbers$Fault" (20 : Nat) "GroupedNumbers$Fault" "place" "I") ∈ lw_all := lw_g (lw_at lw_m1 88 rfl) rfl
theorem q92 : (Jvm.Cond.laysFinal "GroupedNumbers$Fault" "GroupedNumbers$Fault" "stop" "Ljava/lang/IllegalStateException;") ∈ lw_all := lw_g (lw_at lw_m1 89 rfl) rfl
theorem q93 : (Jvm.Cond.soleField "GroupedNumbers$Fault" "stop") ∈ lw_all := lw_g (lw_at lw_m1 90 rfl) rfl
theorem q94 : (Jvm.Cond.lays "GroupedNumbers$Fault" "GroupedNumbers$Fault" "number" "I") ∈ lw_all := lw_g (lw_at lw_m1 91 rfl) rfl
theorem q95 : (Jvm.Cond.soleField "GroupedNumbers$Fault" "number") ∈ lw_all := lw_g (lw_at lw_m1 92 rfl) rfl
theorem q96 : (Jvm.Cond.lays "GroupedNumbers$Fault" "GroupedNumbers$Fault" "place" "I") ∈ lw_all := lw_g (lw_at lw_m1 93 rfl) rfl
theorem q97 : (Jvm.Cond.soleField "GroupedNumbers$Fault" "place") ∈ lw_all := lw_g (lw_at lw_m1 94 rfl) rfl
theorem q98 : (Jvm.Cond.superclass "GroupedNumbers$Fault" "java/lang/Object") ∈ lw_all := lw_g (lw_at lw_m1 95 rfl) rfl
theorem q136 : (Jvm.Cond.instanceMethod ({ cls := "GroupedNumbers$Fault", name := "begin", desc := "()V" } : Jvm.MethodName)) ∈ lw_all := lw_g (lw_at lw_m1 133 rfl) rfl
theorem q137 : (Jvm.Cond.selects "GroupedNumbers$Fault" ({ cls := "GroupedNumbers$Fault", name := "begin", desc := "()V" } : Jvm.MethodName) ({ cls := "GroupedNumbers$Fault", name := "begin", desc := "()V" } : Jvm.MethodName)) ∈ lw_all := lw_g (lw_at lw_m1 134 rfl) rfl
theorem q138 : (Jvm.Cond.code ({ cls := "GroupedNumbers$Fault", name := "begin", desc := "()V" } : Jvm.MethodName) prog_2_method_2_code (1 : Nat) (Option.none : Option Jvm.ClassFile.FieldType)) ∈ lw_all := lw_g (lw_at lw_m1 135 rfl) rfl
theorem q192 : (Jvm.Cond.instanceMethod ({ cls := "GroupedNumbers$Fault", name := "at", desc := "(II)Ljava/lang/IllegalStateException;" } : Jvm.MethodName)) ∈ lw_all := lw_g (lw_at lw_m1 189 rfl) rfl
theorem q193 : (Jvm.Cond.selects "GroupedNumbers$Fault" ({ cls := "GroupedNumbers$Fault", name := "at", desc := "(II)Ljava/lang/IllegalStateException;" } : Jvm.MethodName) ({ cls := "GroupedNumbers$Fault", name := "at", desc := "(II)Ljava/lang/IllegalStateException;" } : Jvm.MethodName)) ∈ lw_all := lw_g (lw_at lw_m1 190 rfl) rfl
theorem q194 : (Jvm.Cond.code ({ cls := "GroupedNumbers$Fault", name := "at", desc := "(II)Ljava/lang/IllegalStateException;" } : Jvm.MethodName) prog_2_method_3_code (3 : Nat) (Option.some (Jvm.ClassFile.FieldType.object "java/lang/IllegalStateException"))) ∈ lw_all := lw_g (lw_at lw_m1 191 rfl) rfl
theorem in_X1 : ∀ w ∈ wsX10, w ∈ lw_all := lw_in wsX10 [92, 94, 96] (by decide +kernel) (by decide +kernel)
/-! GroupedNumbers$Out -/
def RX3 : String := "GroupedNumbers$Out"
def TX3 : u_T := fun k => match k with
  | 0 => ("GroupedNumbers$Out", "bytes", "[B", false)
  | _ => ("GroupedNumbers$Out", "size", "I", false)
def tyX3 : Nat → FieldType := fun k => match k with
  | 0 => .array .byte
  | _ => .int
abbrev wsX30 : List Cond := u_ws RX3 TX3 2
theorem nmX3 : ∀ a, a < 2 → ∀ b, b < 2 → a ≠ b → (TX3 a).2.1 ≠ (TX3 b).2.1 := by decide +kernel
theorem tyX3_ok : ∀ k, k < 2 → parseFieldDescriptor (TX3 k).2.2.1 = some (tyX3 k) := by decide +kernel
abbrev cX3_init : ByteArray := prog_3_method_1_code
def yX3_init : MethodName := ⟨RX3, "<init>", "()V"⟩
theorem dX3_init_0 : decode cX3_init 0 = .ok (.aload_n 0, 1) := by decide +kernel
theorem dX3_init_1 : decode cX3_init 1 = .ok (.invokespecial 1, 3) := by decide +kernel
theorem dX3_init_4 : decode cX3_init 4 = .ok (.aload_n 0, 1) := by decide +kernel
theorem dX3_init_5 : decode cX3_init 5 = .ok (.sipush 4096, 3) := by decide +kernel
theorem dX3_init_8 : decode cX3_init 8 = .ok (.newarray .byte, 2) := by decide +kernel
theorem dX3_init_10 : decode cX3_init 10 = .ok (.putfield 7, 3) := by decide +kernel
theorem dX3_init_13 : decode cX3_init 13 = .ok (.return_, 1) := by decide +kernel
abbrev cX3_number : ByteArray := prog_3_method_4_code
def yX3_number : MethodName := ⟨RX3, "number", "(J)V"⟩
theorem dX3_number_0 : decode cX3_number 0 = .ok (.lload_n 1, 1) := by decide +kernel
theorem dX3_number_1 : decode cX3_number 1 = .ok (.lstore_n 3, 1) := by decide +kernel
theorem dX3_number_2 : decode cX3_number 2 = .ok (.lload_n 3, 1) := by decide +kernel
theorem dX3_number_3 : decode cX3_number 3 = .ok (.ldc2_w 17, 3) := by decide +kernel
theorem dX3_number_6 : decode cX3_number 6 = .ok (.lcmp, 1) := by decide +kernel
theorem dX3_number_7 : decode cX3_number 7 = .ok (.ifCond .le 25, 3) := by decide +kernel
theorem dX3_number_10 : decode cX3_number 10 = .ok (.aload_n 0, 1) := by decide +kernel
theorem dX3_number_11 : decode cX3_number 11 = .ok (.lload_n 3, 1) := by decide +kernel
theorem dX3_number_12 : decode cX3_number 12 = .ok (.ldc2_w 17, 3) := by decide +kernel
theorem dX3_number_15 : decode cX3_number 15 = .ok (.land, 1) := by decide +kernel
theorem dX3_number_16 : decode cX3_number 16 = .ok (.l2i, 1) := by decide +kernel
theorem dX3_number_17 : decode cX3_number 17 = .ok (.sipush 128, 3) := by decide +kernel
theorem dX3_number_20 : decode cX3_number 20 = .ok (.ior, 1) := by decide +kernel
theorem dX3_number_21 : decode cX3_number 21 = .ok (.invokevirtual 19, 3) := by decide +kernel
theorem dX3_number_24 : decode cX3_number 24 = .ok (.lload_n 3, 1) := by decide +kernel
theorem dX3_number_25 : decode cX3_number 25 = .ok (.bipush 7, 2) := by decide +kernel
theorem dX3_number_27 : decode cX3_number 27 = .ok (.lshr, 1) := by decide +kernel
theorem dX3_number_28 : decode cX3_number 28 = .ok (.lstore_n 3, 1) := by decide +kernel
theorem dX3_number_29 : decode cX3_number 29 = .ok (.goto (-27), 3) := by decide +kernel
theorem dX3_number_32 : decode cX3_number 32 = .ok (.aload_n 0, 1) := by decide +kernel
theorem dX3_number_33 : decode cX3_number 33 = .ok (.lload_n 3, 1) := by decide +kernel
theorem dX3_number_34 : decode cX3_number 34 = .ok (.l2i, 1) := by decide +kernel
theorem dX3_number_35 : decode cX3_number 35 = .ok (.invokevirtual 19, 3) := by decide +kernel
theorem dX3_number_38 : decode cX3_number 38 = .ok (.return_, 1) := by decide +kernel
abbrev cX3_put : ByteArray := prog_3_method_3_code
def yX3_put : MethodName := ⟨RX3, "put", "(I)V"⟩
theorem dX3_put_0 : decode cX3_put 0 = .ok (.aload_n 0, 1) := by decide +kernel
theorem dX3_put_1 : decode cX3_put 1 = .ok (.getfield 13, 3) := by decide +kernel
theorem dX3_put_4 : decode cX3_put 4 = .ok (.aload_n 0, 1) := by decide +kernel
theorem dX3_put_5 : decode cX3_put 5 = .ok (.getfield 7, 3) := by decide +kernel
theorem dX3_put_8 : decode cX3_put 8 = .ok (.arraylength, 1) := by decide +kernel
theorem dX3_put_9 : decode cX3_put 9 = .ok (.if_icmp .ne 42, 3) := by decide +kernel
theorem dX3_put_12 : decode cX3_put 12 = .ok (.iconst 2, 1) := by decide +kernel
theorem dX3_put_13 : decode cX3_put 13 = .ok (.aload_n 0, 1) := by decide +kernel
theorem dX3_put_14 : decode cX3_put 14 = .ok (.getfield 13, 3) := by decide +kernel
theorem dX3_put_17 : decode cX3_put 17 = .ok (.imul, 1) := by decide +kernel
theorem dX3_put_18 : decode cX3_put 18 = .ok (.newarray .byte, 2) := by decide +kernel
theorem dX3_put_20 : decode cX3_put 20 = .ok (.astore_n 2, 1) := by decide +kernel
theorem dX3_put_21 : decode cX3_put 21 = .ok (.iconst 0, 1) := by decide +kernel
theorem dX3_put_22 : decode cX3_put 22 = .ok (.istore_n 3, 1) := by decide +kernel
theorem dX3_put_23 : decode cX3_put 23 = .ok (.iload_n 3, 1) := by decide +kernel
theorem dX3_put_24 : decode cX3_put 24 = .ok (.aload_n 0, 1) := by decide +kernel
theorem dX3_put_25 : decode cX3_put 25 = .ok (.getfield 13, 3) := by decide +kernel
theorem dX3_put_28 : decode cX3_put 28 = .ok (.if_icmp .ge 18, 3) := by decide +kernel
theorem dX3_put_31 : decode cX3_put 31 = .ok (.aload_n 2, 1) := by decide +kernel
theorem dX3_put_32 : decode cX3_put 32 = .ok (.iload_n 3, 1) := by decide +kernel
theorem dX3_put_33 : decode cX3_put 33 = .ok (.aload_n 0, 1) := by decide +kernel
theorem dX3_put_34 : decode cX3_put 34 = .ok (.getfield 7, 3) := by decide +kernel
theorem dX3_put_37 : decode cX3_put 37 = .ok (.iload_n 3, 1) := by decide +kernel
theorem dX3_put_38 : decode cX3_put 38 = .ok (.baload, 1) := by decide +kernel
theorem dX3_put_39 : decode cX3_put 39 = .ok (.bastore, 1) := by decide +kernel
theorem dX3_put_40 : decode cX3_put 40 = .ok (.iinc 3 1, 3) := by decide +kernel
theorem dX3_put_43 : decode cX3_put 43 = .ok (.goto (-20), 3) := by decide +kernel
theorem dX3_put_46 : decode cX3_put 46 = .ok (.aload_n 0, 1) := by decide +kernel
theorem dX3_put_47 : decode cX3_put 47 = .ok (.aload_n 2, 1) := by decide +kernel
theorem dX3_put_48 : decode cX3_put 48 = .ok (.putfield 7, 3) := by decide +kernel
theorem dX3_put_51 : decode cX3_put 51 = .ok (.aload_n 0, 1) := by decide +kernel
theorem dX3_put_52 : decode cX3_put 52 = .ok (.getfield 7, 3) := by decide +kernel
theorem dX3_put_55 : decode cX3_put 55 = .ok (.aload_n 0, 1) := by decide +kernel
theorem dX3_put_56 : decode cX3_put 56 = .ok (.getfield 13, 3) := by decide +kernel
theorem dX3_put_59 : decode cX3_put 59 = .ok (.iload_n 1, 1) := by decide +kernel
theorem dX3_put_60 : decode cX3_put 60 = .ok (.i2b, 1) := by decide +kernel
theorem dX3_put_61 : decode cX3_put 61 = .ok (.bastore, 1) := by decide +kernel
theorem dX3_put_62 : decode cX3_put 62 = .ok (.aload_n 0, 1) := by decide +kernel
theorem dX3_put_63 : decode cX3_put 63 = .ok (.dup, 1) := by decide +kernel
theorem dX3_put_64 : decode cX3_put 64 = .ok (.getfield 13, 3) := by decide +kernel
theorem dX3_put_67 : decode cX3_put 67 = .ok (.iconst 1, 1) := by decide +kernel
theorem dX3_put_68 : decode cX3_put 68 = .ok (.iadd, 1) := by decide +kernel
theorem dX3_put_69 : decode cX3_put 69 = .ok (.putfield 13, 3) := by decide +kernel
theorem dX3_put_72 : decode cX3_put 72 = .ok (.return_, 1) := by decide +kernel
abbrev cX3_signed : ByteArray := prog_3_method_5_code
def yX3_signed : MethodName := ⟨RX3, "signed", "(J)V"⟩
theorem dX3_signed_0 : decode cX3_signed 0 = .ok (.lload_n 1, 1) := by decide +kernel
theorem dX3_signed_1 : decode cX3_signed 1 = .ok (.lstore_n 3, 1) := by decide +kernel
theorem dX3_signed_2 : decode cX3_signed 2 = .ok (.lload_n 3, 1) := by decide +kernel
theorem dX3_signed_3 : decode cX3_signed 3 = .ok (.ldc2_w 23, 3) := by decide +kernel
theorem dX3_signed_6 : decode cX3_signed 6 = .ok (.lcmp, 1) := by decide +kernel
theorem dX3_signed_7 : decode cX3_signed 7 = .ok (.ifCond .lt 11, 3) := by decide +kernel
theorem dX3_signed_10 : decode cX3_signed 10 = .ok (.lload_n 3, 1) := by decide +kernel
theorem dX3_signed_11 : decode cX3_signed 11 = .ok (.ldc2_w 25, 3) := by decide +kernel
theorem dX3_signed_14 : decode cX3_signed 14 = .ok (.lcmp, 1) := by decide +kernel
theorem dX3_signed_15 : decode cX3_signed 15 = .ok (.ifCond .le 25, 3) := by decide +kernel
theorem dX3_signed_18 : decode cX3_signed 18 = .ok (.aload_n 0, 1) := by decide +kernel
theorem dX3_signed_19 : decode cX3_signed 19 = .ok (.lload_n 3, 1) := by decide +kernel
theorem dX3_signed_20 : decode cX3_signed 20 = .ok (.ldc2_w 17, 3) := by decide +kernel
theorem dX3_signed_23 : decode cX3_signed 23 = .ok (.land, 1) := by decide +kernel
theorem dX3_signed_24 : decode cX3_signed 24 = .ok (.l2i, 1) := by decide +kernel
theorem dX3_signed_25 : decode cX3_signed 25 = .ok (.sipush 128, 3) := by decide +kernel
theorem dX3_signed_28 : decode cX3_signed 28 = .ok (.ior, 1) := by decide +kernel
theorem dX3_signed_29 : decode cX3_signed 29 = .ok (.invokevirtual 19, 3) := by decide +kernel
theorem dX3_signed_32 : decode cX3_signed 32 = .ok (.lload_n 3, 1) := by decide +kernel
theorem dX3_signed_33 : decode cX3_signed 33 = .ok (.bipush 7, 2) := by decide +kernel
theorem dX3_signed_35 : decode cX3_signed 35 = .ok (.lshr, 1) := by decide +kernel
theorem dX3_signed_36 : decode cX3_signed 36 = .ok (.lstore_n 3, 1) := by decide +kernel
theorem dX3_signed_37 : decode cX3_signed 37 = .ok (.goto (-35), 3) := by decide +kernel
theorem dX3_signed_40 : decode cX3_signed 40 = .ok (.aload_n 0, 1) := by decide +kernel
theorem dX3_signed_41 : decode cX3_signed 41 = .ok (.lload_n 3, 1) := by decide +kernel
theorem dX3_signed_42 : decode cX3_signed 42 = .ok (.ldc2_w 17, 3) := by decide +kernel
theorem dX3_signed_45 : decode cX3_signed 45 = .ok (.land, 1) := by decide +kernel
theorem dX3_signed_46 : decode cX3_signed 46 = .ok (.l2i, 1) := by decide +kernel
theorem dX3_signed_47 : decode cX3_signed 47 = .ok (.invokevirtual 19, 3) := by decide +kernel
theorem dX3_signed_50 : decode cX3_signed 50 = .ok (.return_, 1) := by decide +kernel
abbrev cX3_clear : ByteArray := prog_3_method_2_code
def yX3_clear : MethodName := ⟨RX3, "clear", "()V"⟩
theorem dX3_clear_0 : decode cX3_clear 0 = .ok (.aload_n 0, 1) := by decide +kernel
theorem dX3_clear_1 : decode cX3_clear 1 = .ok (.iconst 0, 1) := by decide +kernel
theorem dX3_clear_2 : decode cX3_clear 2 = .ok (.putfield 13, 3) := by decide +kernel
theorem dX3_clear_5 : decode cX3_clear 5 = .ok (.return_, 1) := by decide +kernel
theorem q11 : (Jvm.Cond.initialized "GroupedNumbers$Out") ∈ lw_all := lw_g (lw_at lw_m1 8 rfl) rfl
theorem q121 : (Jvm.Cond.instantiable "GroupedNumbers$Out" (2 : Nat)) ∈ lw_all := lw_g (lw_at lw_m1 118 rfl) rfl
theorem q123 : (Jvm.Cond.instanceMethod ({ cls := "GroupedNumbers$Out", name := "<init>", desc := "()V" } : Jvm.MethodName)) ∈ lw_all := lw_g (lw_at lw_m1 120 rfl) rfl
theorem q124 : (Jvm.Cond.code ({ cls := "GroupedNumbers$Out", name := "<init>", desc := "()V" } : Jvm.MethodName) prog_3_method_1_code (1 : Nat) (Option.none : Option Jvm.ClassFile.FieldType)) ∈ lw_all := lw_g (lw_at lw_m1 121 rfl) rfl
theorem q125 : (Jvm.Cond.methodLink "GroupedNumbers$Out" (1 : Nat) ({ cls := "java/lang/Object", name := "<init>", desc := "()V" } : Jvm.MethodName)) ∈ lw_all := lw_g (lw_at lw_m1 122 rfl) rfl
theorem q126 : (Jvm.Cond.fieldLink "GroupedNumbers$Out" (7 : Nat) "GroupedNumbers$Out" "bytes" "[B") ∈ lw_all := lw_g (lw_at lw_m1 123 rfl) rfl
theorem q128 : (Jvm.Cond.fieldLink "GroupedNumbers$Out" (13 : Nat) "GroupedNumbers$Out" "size" "I") ∈ lw_all := lw_g (lw_at lw_m1 125 rfl) rfl
theorem q130 : (Jvm.Cond.lays "GroupedNumbers$Out" "GroupedNumbers$Out" "bytes" "[B") ∈ lw_all := lw_g (lw_at lw_m1 127 rfl) rfl
theorem q131 : (Jvm.Cond.soleField "GroupedNumbers$Out" "bytes") ∈ lw_all := lw_g (lw_at lw_m1 128 rfl) rfl
theorem q132 : (Jvm.Cond.lays "GroupedNumbers$Out" "GroupedNumbers$Out" "size" "I") ∈ lw_all := lw_g (lw_at lw_m1 129 rfl) rfl
theorem q133 : (Jvm.Cond.soleField "GroupedNumbers$Out" "size") ∈ lw_all := lw_g (lw_at lw_m1 130 rfl) rfl
theorem q134 : (Jvm.Cond.superclass "GroupedNumbers$Out" "java/lang/Object") ∈ lw_all := lw_g (lw_at lw_m1 131 rfl) rfl
theorem q219 : (Jvm.Cond.instanceMethod ({ cls := "GroupedNumbers$Out", name := "number", desc := "(J)V" } : Jvm.MethodName)) ∈ lw_all := lw_g (lw_at lw_m1 216 rfl) rfl
theorem q220 : (Jvm.Cond.selects "GroupedNumbers$Out" ({ cls := "GroupedNumbers$Out", name := "number", desc := "(J)V" } : Jvm.MethodName) ({ cls := "GroupedNumbers$Out", name := "number", desc := "(J)V" } : Jvm.MethodName)) ∈ lw_all := lw_g (lw_at lw_m1 217 rfl) rfl
theorem q221 : (Jvm.Cond.code ({ cls := "GroupedNumbers$Out", name := "number", desc := "(J)V" } : Jvm.MethodName) prog_3_method_4_code (5 : Nat) (Option.none : Option Jvm.ClassFile.FieldType)) ∈ lw_all := lw_g (lw_at lw_m1 218 rfl) rfl
theorem q222 : (Jvm.Cond.constantLong "GroupedNumbers$Out" (17 : Nat) (127 : Int64)) ∈ lw_all := lw_g (lw_at lw_m1 219 rfl) rfl
theorem q223 : (Jvm.Cond.methodLink "GroupedNumbers$Out" (19 : Nat) ({ cls := "GroupedNumbers$Out", name := "put", desc := "(I)V" } : Jvm.MethodName)) ∈ lw_all := lw_g (lw_at lw_m1 220 rfl) rfl
theorem q224 : (Jvm.Cond.instanceMethod ({ cls := "GroupedNumbers$Out", name := "put", desc := "(I)V" } : Jvm.MethodName)) ∈ lw_all := lw_g (lw_at lw_m1 221 rfl) rfl
theorem q225 : (Jvm.Cond.selects "GroupedNumbers$Out" ({ cls := "GroupedNumbers$Out", name := "put", desc := "(I)V" } : Jvm.MethodName) ({ cls := "GroupedNumbers$Out", name := "put", desc := "(I)V" } : Jvm.MethodName)) ∈ lw_all := lw_g (lw_at lw_m1 222 rfl) rfl
theorem q226 : (Jvm.Cond.code ({ cls := "GroupedNumbers$Out", name := "put", desc := "(I)V" } : Jvm.MethodName) prog_3_method_3_code (4 : Nat) (Option.none : Option Jvm.ClassFile.FieldType)) ∈ lw_all := lw_g (lw_at lw_m1 223 rfl) rfl
theorem q228 : (Jvm.Cond.instanceMethod ({ cls := "GroupedNumbers$Out", name := "signed", desc := "(J)V" } : Jvm.MethodName)) ∈ lw_all := lw_g (lw_at lw_m1 225 rfl) rfl
theorem q229 : (Jvm.Cond.selects "GroupedNumbers$Out" ({ cls := "GroupedNumbers$Out", name := "signed", desc := "(J)V" } : Jvm.MethodName) ({ cls := "GroupedNumbers$Out", name := "signed", desc := "(J)V" } : Jvm.MethodName)) ∈ lw_all := lw_g (lw_at lw_m1 226 rfl) rfl
theorem q230 : (Jvm.Cond.code ({ cls := "GroupedNumbers$Out", name := "signed", desc := "(J)V" } : Jvm.MethodName) prog_3_method_5_code (5 : Nat) (Option.none : Option Jvm.ClassFile.FieldType)) ∈ lw_all := lw_g (lw_at lw_m1 227 rfl) rfl
theorem q231 : (Jvm.Cond.constantLong "GroupedNumbers$Out" (23 : Nat) (-64 : Int64)) ∈ lw_all := lw_g (lw_at lw_m1 228 rfl) rfl
theorem q232 : (Jvm.Cond.constantLong "GroupedNumbers$Out" (25 : Nat) (63 : Int64)) ∈ lw_all := lw_g (lw_at lw_m1 229 rfl) rfl
theorem q246 : (Jvm.Cond.instanceMethod ({ cls := "GroupedNumbers$Out", name := "clear", desc := "()V" } : Jvm.MethodName)) ∈ lw_all := lw_g (lw_at lw_m2 3 rfl) rfl
theorem q247 : (Jvm.Cond.selects "GroupedNumbers$Out" ({ cls := "GroupedNumbers$Out", name := "clear", desc := "()V" } : Jvm.MethodName) ({ cls := "GroupedNumbers$Out", name := "clear", desc := "()V" } : Jvm.MethodName)) ∈ lw_all := lw_g (lw_at lw_m2 4 rfl) rfl
theorem q248 : (Jvm.Cond.code ({ cls := "GroupedNumbers$Out", name := "clear", desc := "()V" } : Jvm.MethodName) prog_3_method_2_code (1 : Nat) (Option.none : Option Jvm.ClassFile.FieldType)) ∈ lw_all := lw_g (lw_at lw_m2 5 rfl) rfl
theorem in_X3 : ∀ w ∈ wsX30, w ∈ lw_all := lw_in wsX30 [130, 132] (by decide +kernel) (by decide +kernel)
end
section
set_option maxRecDepth 100000
/-! GroupedNumbers$Reader -/
def RX2 : String := "GroupedNumbers$Reader"
def TX2 : u_T := fun k => match k with
  | 0 => ("GroupedNumbers$Reader", "fault", "LGroupedNumbers$Fault;", true)
  | 1 => ("GroupedNumbers$Reader", "bytes", "[B", false)
  | 2 => ("GroupedNumbers$Reader", "at", "I", false)
  | _ => ("GroupedNumbers$Reader", "end", "I", false)
def tyX2 : Nat → FieldType := fun k => match k with
  | 0 => .object "GroupedNumbers$Fault"
  | 1 => .array .byte
  | 2 => .int
  | _ => .int
abbrev wsX20 : List Cond := u_ws RX2 TX2 4
theorem nmX2 : ∀ a, a < 4 → ∀ b, b < 4 → a ≠ b → (TX2 a).2.1 ≠ (TX2 b).2.1 := by decide +kernel
theorem tyX2_ok : ∀ k, k < 4 → parseFieldDescriptor (TX2 k).2.2.1 = some (tyX2 k) := by decide +kernel
abbrev cX2_init : ByteArray := prog_4_method_1_code
def yX2_init : MethodName := ⟨RX2, "<init>", "(LGroupedNumbers$Fault;)V"⟩
theorem dX2_init_0 : decode cX2_init 0 = .ok (.aload_n 0, 1) := by decide +kernel
theorem dX2_init_1 : decode cX2_init 1 = .ok (.invokespecial 3, 3) := by decide +kernel
theorem dX2_init_4 : decode cX2_init 4 = .ok (.aload_n 0, 1) := by decide +kernel
theorem dX2_init_5 : decode cX2_init 5 = .ok (.iconst 0, 1) := by decide +kernel
theorem dX2_init_6 : decode cX2_init 6 = .ok (.newarray .byte, 2) := by decide +kernel
theorem dX2_init_8 : decode cX2_init 8 = .ok (.putfield 9, 3) := by decide +kernel
theorem dX2_init_11 : decode cX2_init 11 = .ok (.aload_n 0, 1) := by decide +kernel
theorem dX2_init_12 : decode cX2_init 12 = .ok (.aload_n 1, 1) := by decide +kernel
theorem dX2_init_13 : decode cX2_init 13 = .ok (.putfield 15, 3) := by decide +kernel
theorem dX2_init_16 : decode cX2_init 16 = .ok (.return_, 1) := by decide +kernel
abbrev cX2_open : ByteArray := prog_4_method_2_code
def yX2_open : MethodName := ⟨RX2, "open", "([BII)V"⟩
theorem dX2_open_0 : decode cX2_open 0 = .ok (.aload_n 0, 1) := by decide +kernel
theorem dX2_open_1 : decode cX2_open 1 = .ok (.aload_n 1, 1) := by decide +kernel
theorem dX2_open_2 : decode cX2_open 2 = .ok (.putfield 9, 3) := by decide +kernel
theorem dX2_open_5 : decode cX2_open 5 = .ok (.aload_n 0, 1) := by decide +kernel
theorem dX2_open_6 : decode cX2_open 6 = .ok (.iload_n 2, 1) := by decide +kernel
theorem dX2_open_7 : decode cX2_open 7 = .ok (.putfield 19, 3) := by decide +kernel
theorem dX2_open_10 : decode cX2_open 10 = .ok (.aload_n 0, 1) := by decide +kernel
theorem dX2_open_11 : decode cX2_open 11 = .ok (.iload_n 3, 1) := by decide +kernel
theorem dX2_open_12 : decode cX2_open 12 = .ok (.putfield 23, 3) := by decide +kernel
theorem dX2_open_15 : decode cX2_open 15 = .ok (.return_, 1) := by decide +kernel
abbrev cX2_number : ByteArray := prog_4_method_5_code
def yX2_number : MethodName := ⟨RX2, "number", "()J"⟩
theorem dX2_number_0 : decode cX2_number 0 = .ok (.aload_n 0, 1) := by decide +kernel
theorem dX2_number_1 : decode cX2_number 1 = .ok (.getfield 19, 3) := by decide +kernel
theorem dX2_number_4 : decode cX2_number 4 = .ok (.istore_n 1, 1) := by decide +kernel
theorem dX2_number_5 : decode cX2_number 5 = .ok (.lconst 0, 1) := by decide +kernel
theorem dX2_number_6 : decode cX2_number 6 = .ok (.lstore_n 2, 1) := by decide +kernel
theorem dX2_number_7 : decode cX2_number 7 = .ok (.iconst 0, 1) := by decide +kernel
theorem dX2_number_8 : decode cX2_number 8 = .ok (.istore 4, 2) := by decide +kernel
theorem dX2_number_10 : decode cX2_number 10 = .ok (.iload 4, 2) := by decide +kernel
theorem dX2_number_12 : decode cX2_number 12 = .ok (.iconst 5, 1) := by decide +kernel
theorem dX2_number_13 : decode cX2_number 13 = .ok (.if_icmp .ge 59, 3) := by decide +kernel
theorem dX2_number_16 : decode cX2_number 16 = .ok (.aload_n 0, 1) := by decide +kernel
theorem dX2_number_17 : decode cX2_number 17 = .ok (.invokevirtual 35, 3) := by decide +kernel
theorem dX2_number_20 : decode cX2_number 20 = .ok (.istore 5, 2) := by decide +kernel
theorem dX2_number_22 : decode cX2_number 22 = .ok (.iload 4, 2) := by decide +kernel
theorem dX2_number_24 : decode cX2_number 24 = .ok (.iconst 4, 1) := by decide +kernel
theorem dX2_number_25 : decode cX2_number 25 = .ok (.if_icmp .ne 16, 3) := by decide +kernel
theorem dX2_number_28 : decode cX2_number 28 = .ok (.iload 5, 2) := by decide +kernel
theorem dX2_number_30 : decode cX2_number 30 = .ok (.bipush 15, 2) := by decide +kernel
theorem dX2_number_32 : decode cX2_number 32 = .ok (.if_icmp .le 9, 3) := by decide +kernel
theorem dX2_number_35 : decode cX2_number 35 = .ok (.aload_n 0, 1) := by decide +kernel
theorem dX2_number_36 : decode cX2_number 36 = .ok (.iload_n 1, 1) := by decide +kernel
theorem dX2_number_37 : decode cX2_number 37 = .ok (.invokevirtual 31, 3) := by decide +kernel
theorem dX2_number_40 : decode cX2_number 40 = .ok (.athrow, 1) := by decide +kernel
theorem dX2_number_41 : decode cX2_number 41 = .ok (.lload_n 2, 1) := by decide +kernel
theorem dX2_number_42 : decode cX2_number 42 = .ok (.iload 5, 2) := by decide +kernel
theorem dX2_number_44 : decode cX2_number 44 = .ok (.bipush 127, 2) := by decide +kernel
theorem dX2_number_46 : decode cX2_number 46 = .ok (.iand, 1) := by decide +kernel
theorem dX2_number_47 : decode cX2_number 47 = .ok (.i2l, 1) := by decide +kernel
theorem dX2_number_48 : decode cX2_number 48 = .ok (.bipush 7, 2) := by decide +kernel
theorem dX2_number_50 : decode cX2_number 50 = .ok (.iload 4, 2) := by decide +kernel
theorem dX2_number_52 : decode cX2_number 52 = .ok (.imul, 1) := by decide +kernel
theorem dX2_number_53 : decode cX2_number 53 = .ok (.lshl, 1) := by decide +kernel
theorem dX2_number_54 : decode cX2_number 54 = .ok (.lor, 1) := by decide +kernel
theorem dX2_number_55 : decode cX2_number 55 = .ok (.lstore_n 2, 1) := by decide +kernel
theorem dX2_number_56 : decode cX2_number 56 = .ok (.iload 5, 2) := by decide +kernel
theorem dX2_number_58 : decode cX2_number 58 = .ok (.sipush 128, 3) := by decide +kernel
theorem dX2_number_61 : decode cX2_number 61 = .ok (.if_icmp .ge 5, 3) := by decide +kernel
theorem dX2_number_64 : decode cX2_number 64 = .ok (.lload_n 2, 1) := by decide +kernel
theorem dX2_number_65 : decode cX2_number 65 = .ok (.lreturn, 1) := by decide +kernel
theorem dX2_number_66 : decode cX2_number 66 = .ok (.iinc 4 1, 3) := by decide +kernel
theorem dX2_number_69 : decode cX2_number 69 = .ok (.goto (-59), 3) := by decide +kernel
theorem dX2_number_72 : decode cX2_number 72 = .ok (.aload_n 0, 1) := by decide +kernel
theorem dX2_number_73 : decode cX2_number 73 = .ok (.iload_n 1, 1) := by decide +kernel
theorem dX2_number_74 : decode cX2_number 74 = .ok (.invokevirtual 31, 3) := by decide +kernel
theorem dX2_number_77 : decode cX2_number 77 = .ok (.athrow, 1) := by decide +kernel
abbrev cX2_one : ByteArray := prog_4_method_4_code
def yX2_one : MethodName := ⟨RX2, "one", "()I"⟩
theorem dX2_one_0 : decode cX2_one 0 = .ok (.aload_n 0, 1) := by decide +kernel
theorem dX2_one_1 : decode cX2_one 1 = .ok (.getfield 19, 3) := by decide +kernel
theorem dX2_one_4 : decode cX2_one 4 = .ok (.aload_n 0, 1) := by decide +kernel
theorem dX2_one_5 : decode cX2_one 5 = .ok (.getfield 23, 3) := by decide +kernel
theorem dX2_one_8 : decode cX2_one 8 = .ok (.if_icmp .lt 12, 3) := by decide +kernel
theorem dX2_one_11 : decode cX2_one 11 = .ok (.aload_n 0, 1) := by decide +kernel
theorem dX2_one_12 : decode cX2_one 12 = .ok (.aload_n 0, 1) := by decide +kernel
theorem dX2_one_13 : decode cX2_one 13 = .ok (.getfield 23, 3) := by decide +kernel
theorem dX2_one_16 : decode cX2_one 16 = .ok (.invokevirtual 31, 3) := by decide +kernel
theorem dX2_one_19 : decode cX2_one 19 = .ok (.athrow, 1) := by decide +kernel
theorem dX2_one_20 : decode cX2_one 20 = .ok (.aload_n 0, 1) := by decide +kernel
theorem dX2_one_21 : decode cX2_one 21 = .ok (.dup, 1) := by decide +kernel
theorem dX2_one_22 : decode cX2_one 22 = .ok (.getfield 19, 3) := by decide +kernel
theorem dX2_one_25 : decode cX2_one 25 = .ok (.iconst 1, 1) := by decide +kernel
theorem dX2_one_26 : decode cX2_one 26 = .ok (.iadd, 1) := by decide +kernel
theorem dX2_one_27 : decode cX2_one 27 = .ok (.putfield 19, 3) := by decide +kernel
theorem dX2_one_30 : decode cX2_one 30 = .ok (.aload_n 0, 1) := by decide +kernel
theorem dX2_one_31 : decode cX2_one 31 = .ok (.getfield 9, 3) := by decide +kernel
theorem dX2_one_34 : decode cX2_one 34 = .ok (.aload_n 0, 1) := by decide +kernel
theorem dX2_one_35 : decode cX2_one 35 = .ok (.getfield 19, 3) := by decide +kernel
theorem dX2_one_38 : decode cX2_one 38 = .ok (.iconst 1, 1) := by decide +kernel
theorem dX2_one_39 : decode cX2_one 39 = .ok (.isub, 1) := by decide +kernel
theorem dX2_one_40 : decode cX2_one 40 = .ok (.baload, 1) := by decide +kernel
theorem dX2_one_41 : decode cX2_one 41 = .ok (.sipush 255, 3) := by decide +kernel
theorem dX2_one_44 : decode cX2_one 44 = .ok (.iand, 1) := by decide +kernel
theorem dX2_one_45 : decode cX2_one 45 = .ok (.ireturn, 1) := by decide +kernel
abbrev cX2_wrong : ByteArray := prog_4_method_3_code
def yX2_wrong : MethodName := ⟨RX2, "wrong", "(I)Ljava/lang/IllegalStateException;"⟩
theorem dX2_wrong_0 : decode cX2_wrong 0 = .ok (.aload_n 0, 1) := by decide +kernel
theorem dX2_wrong_1 : decode cX2_wrong 1 = .ok (.getfield 15, 3) := by decide +kernel
theorem dX2_wrong_4 : decode cX2_wrong 4 = .ok (.iconst 1, 1) := by decide +kernel
theorem dX2_wrong_5 : decode cX2_wrong 5 = .ok (.iload_n 1, 1) := by decide +kernel
theorem dX2_wrong_6 : decode cX2_wrong 6 = .ok (.invokevirtual 26, 3) := by decide +kernel
theorem dX2_wrong_9 : decode cX2_wrong 9 = .ok (.areturn, 1) := by decide +kernel
abbrev cX2_signed : ByteArray := prog_4_method_6_code
def yX2_signed : MethodName := ⟨RX2, "signed", "(I)J"⟩
theorem dX2_signed_0 : decode cX2_signed 0 = .ok (.aload_n 0, 1) := by decide +kernel
theorem dX2_signed_1 : decode cX2_signed 1 = .ok (.getfield 19, 3) := by decide +kernel
theorem dX2_signed_4 : decode cX2_signed 4 = .ok (.istore_n 2, 1) := by decide +kernel
theorem dX2_signed_5 : decode cX2_signed 5 = .ok (.lconst 0, 1) := by decide +kernel
theorem dX2_signed_6 : decode cX2_signed 6 = .ok (.lstore_n 3, 1) := by decide +kernel
theorem dX2_signed_7 : decode cX2_signed 7 = .ok (.iconst 0, 1) := by decide +kernel
theorem dX2_signed_8 : decode cX2_signed 8 = .ok (.istore 5, 2) := by decide +kernel
theorem dX2_signed_10 : decode cX2_signed 10 = .ok (.iload 5, 2) := by decide +kernel
theorem dX2_signed_12 : decode cX2_signed 12 = .ok (.iload_n 1, 1) := by decide +kernel
theorem dX2_signed_13 : decode cX2_signed 13 = .ok (.if_icmp .ge 101, 3) := by decide +kernel
theorem dX2_signed_16 : decode cX2_signed 16 = .ok (.aload_n 0, 1) := by decide +kernel
theorem dX2_signed_17 : decode cX2_signed 17 = .ok (.invokevirtual 35, 3) := by decide +kernel
theorem dX2_signed_20 : decode cX2_signed 20 = .ok (.istore 6, 2) := by decide +kernel
theorem dX2_signed_22 : decode cX2_signed 22 = .ok (.iload 5, 2) := by decide +kernel
theorem dX2_signed_24 : decode cX2_signed 24 = .ok (.iload_n 1, 1) := by decide +kernel
theorem dX2_signed_25 : decode cX2_signed 25 = .ok (.iconst 1, 1) := by decide +kernel
theorem dX2_signed_26 : decode cX2_signed 26 = .ok (.isub, 1) := by decide +kernel
theorem dX2_signed_27 : decode cX2_signed 27 = .ok (.if_icmp .ne 18, 3) := by decide +kernel
theorem dX2_signed_30 : decode cX2_signed 30 = .ok (.iload 6, 2) := by decide +kernel
theorem dX2_signed_32 : decode cX2_signed 32 = .ok (.iload_n 1, 1) := by decide +kernel
theorem dX2_signed_33 : decode cX2_signed 33 = .ok (.invokestatic 39, 3) := by decide +kernel
theorem dX2_signed_36 : decode cX2_signed 36 = .ok (.ifCond .ne 9, 3) := by decide +kernel
theorem dX2_signed_39 : decode cX2_signed 39 = .ok (.aload_n 0, 1) := by decide +kernel
theorem dX2_signed_40 : decode cX2_signed 40 = .ok (.iload_n 2, 1) := by decide +kernel
theorem dX2_signed_41 : decode cX2_signed 41 = .ok (.invokevirtual 31, 3) := by decide +kernel
theorem dX2_signed_44 : decode cX2_signed 44 = .ok (.athrow, 1) := by decide +kernel
theorem dX2_signed_45 : decode cX2_signed 45 = .ok (.lload_n 3, 1) := by decide +kernel
theorem dX2_signed_46 : decode cX2_signed 46 = .ok (.iload 6, 2) := by decide +kernel
theorem dX2_signed_48 : decode cX2_signed 48 = .ok (.bipush 127, 2) := by decide +kernel
theorem dX2_signed_50 : decode cX2_signed 50 = .ok (.iand, 1) := by decide +kernel
theorem dX2_signed_51 : decode cX2_signed 51 = .ok (.i2l, 1) := by decide +kernel
theorem dX2_signed_52 : decode cX2_signed 52 = .ok (.bipush 7, 2) := by decide +kernel
theorem dX2_signed_54 : decode cX2_signed 54 = .ok (.iload 5, 2) := by decide +kernel
theorem dX2_signed_56 : decode cX2_signed 56 = .ok (.imul, 1) := by decide +kernel
theorem dX2_signed_57 : decode cX2_signed 57 = .ok (.lshl, 1) := by decide +kernel
theorem dX2_signed_58 : decode cX2_signed 58 = .ok (.lor, 1) := by decide +kernel
theorem dX2_signed_59 : decode cX2_signed 59 = .ok (.lstore_n 3, 1) := by decide +kernel
theorem dX2_signed_60 : decode cX2_signed 60 = .ok (.iload 6, 2) := by decide +kernel
theorem dX2_signed_62 : decode cX2_signed 62 = .ok (.sipush 128, 3) := by decide +kernel
theorem dX2_signed_65 : decode cX2_signed 65 = .ok (.if_icmp .ge 43, 3) := by decide +kernel
theorem dX2_signed_68 : decode cX2_signed 68 = .ok (.bipush 7, 2) := by decide +kernel
theorem dX2_signed_70 : decode cX2_signed 70 = .ok (.iload 5, 2) := by decide +kernel
theorem dX2_signed_72 : decode cX2_signed 72 = .ok (.imul, 1) := by decide +kernel
theorem dX2_signed_73 : decode cX2_signed 73 = .ok (.bipush 7, 2) := by decide +kernel
theorem dX2_signed_75 : decode cX2_signed 75 = .ok (.iadd, 1) := by decide +kernel
theorem dX2_signed_76 : decode cX2_signed 76 = .ok (.bipush 64, 2) := by decide +kernel
theorem dX2_signed_78 : decode cX2_signed 78 = .ok (.if_icmp .ge 28, 3) := by decide +kernel
theorem dX2_signed_81 : decode cX2_signed 81 = .ok (.iload 6, 2) := by decide +kernel
theorem dX2_signed_83 : decode cX2_signed 83 = .ok (.bipush 64, 2) := by decide +kernel
theorem dX2_signed_85 : decode cX2_signed 85 = .ok (.iand, 1) := by decide +kernel
theorem dX2_signed_86 : decode cX2_signed 86 = .ok (.ifCond .eq 20, 3) := by decide +kernel
theorem dX2_signed_89 : decode cX2_signed 89 = .ok (.lload_n 3, 1) := by decide +kernel
theorem dX2_signed_90 : decode cX2_signed 90 = .ok (.ldc2_w 43, 3) := by decide +kernel
theorem dX2_signed_93 : decode cX2_signed 93 = .ok (.bipush 7, 2) := by decide +kernel
theorem dX2_signed_95 : decode cX2_signed 95 = .ok (.iload 5, 2) := by decide +kernel
theorem dX2_signed_97 : decode cX2_signed 97 = .ok (.imul, 1) := by decide +kernel
theorem dX2_signed_98 : decode cX2_signed 98 = .ok (.bipush 7, 2) := by decide +kernel
theorem dX2_signed_100 : decode cX2_signed 100 = .ok (.iadd, 1) := by decide +kernel
theorem dX2_signed_101 : decode cX2_signed 101 = .ok (.lshl, 1) := by decide +kernel
theorem dX2_signed_102 : decode cX2_signed 102 = .ok (.lor, 1) := by decide +kernel
theorem dX2_signed_103 : decode cX2_signed 103 = .ok (.goto 4, 3) := by decide +kernel
theorem dX2_signed_106 : decode cX2_signed 106 = .ok (.lload_n 3, 1) := by decide +kernel
theorem dX2_signed_107 : decode cX2_signed 107 = .ok (.lreturn, 1) := by decide +kernel
theorem dX2_signed_108 : decode cX2_signed 108 = .ok (.iinc 5 1, 3) := by decide +kernel
theorem dX2_signed_111 : decode cX2_signed 111 = .ok (.goto (-101), 3) := by decide +kernel
theorem dX2_signed_114 : decode cX2_signed 114 = .ok (.aload_n 0, 1) := by decide +kernel
theorem dX2_signed_115 : decode cX2_signed 115 = .ok (.iload_n 2, 1) := by decide +kernel
theorem dX2_signed_116 : decode cX2_signed 116 = .ok (.invokevirtual 31, 3) := by decide +kernel
theorem dX2_signed_119 : decode cX2_signed 119 = .ok (.athrow, 1) := by decide +kernel
abbrev cX2_isLast : ByteArray := prog_4_method_7_code
def yX2_isLast : MethodName := ⟨RX2, "isLast", "(II)Z"⟩
theorem dX2_isLast_0 : decode cX2_isLast 0 = .ok (.iload_n 1, 1) := by decide +kernel
theorem dX2_isLast_1 : decode cX2_isLast 1 = .ok (.iconst 5, 1) := by decide +kernel
theorem dX2_isLast_2 : decode cX2_isLast 2 = .ok (.if_icmp .ne 29, 3) := by decide +kernel
theorem dX2_isLast_5 : decode cX2_isLast 5 = .ok (.iload_n 0, 1) := by decide +kernel
theorem dX2_isLast_6 : decode cX2_isLast 6 = .ok (.bipush 7, 2) := by decide +kernel
theorem dX2_isLast_8 : decode cX2_isLast 8 = .ok (.if_icmp .le 15, 3) := by decide +kernel
theorem dX2_isLast_11 : decode cX2_isLast 11 = .ok (.iload_n 0, 1) := by decide +kernel
theorem dX2_isLast_12 : decode cX2_isLast 12 = .ok (.bipush 120, 2) := by decide +kernel
theorem dX2_isLast_14 : decode cX2_isLast 14 = .ok (.if_icmp .lt 13, 3) := by decide +kernel
theorem dX2_isLast_17 : decode cX2_isLast 17 = .ok (.iload_n 0, 1) := by decide +kernel
theorem dX2_isLast_18 : decode cX2_isLast 18 = .ok (.bipush 127, 2) := by decide +kernel
theorem dX2_isLast_20 : decode cX2_isLast 20 = .ok (.if_icmp .gt 7, 3) := by decide +kernel
theorem dX2_isLast_23 : decode cX2_isLast 23 = .ok (.iconst 1, 1) := by decide +kernel
theorem dX2_isLast_24 : decode cX2_isLast 24 = .ok (.goto 22, 3) := by decide +kernel
theorem dX2_isLast_27 : decode cX2_isLast 27 = .ok (.iconst 0, 1) := by decide +kernel
theorem dX2_isLast_28 : decode cX2_isLast 28 = .ok (.goto 18, 3) := by decide +kernel
theorem dX2_isLast_31 : decode cX2_isLast 31 = .ok (.iload_n 0, 1) := by decide +kernel
theorem dX2_isLast_32 : decode cX2_isLast 32 = .ok (.ifCond .eq 9, 3) := by decide +kernel
theorem dX2_isLast_35 : decode cX2_isLast 35 = .ok (.iload_n 0, 1) := by decide +kernel
theorem dX2_isLast_36 : decode cX2_isLast 36 = .ok (.bipush 127, 2) := by decide +kernel
theorem dX2_isLast_38 : decode cX2_isLast 38 = .ok (.if_icmp .ne 7, 3) := by decide +kernel
theorem dX2_isLast_41 : decode cX2_isLast 41 = .ok (.iconst 1, 1) := by decide +kernel
theorem dX2_isLast_42 : decode cX2_isLast 42 = .ok (.goto 4, 3) := by decide +kernel
theorem dX2_isLast_45 : decode cX2_isLast 45 = .ok (.iconst 0, 1) := by decide +kernel
theorem dX2_isLast_46 : decode cX2_isLast 46 = .ok (.ireturn, 1) := by decide +kernel
theorem q10 : (Jvm.Cond.initialized "GroupedNumbers$Reader") ∈ lw_all := lw_g (lw_at lw_m1 7 rfl) rfl
theorem q100 : (Jvm.Cond.instantiable "GroupedNumbers$Reader" (4 : Nat)) ∈ lw_all := lw_g (lw_at lw_m1 97 rfl) rfl
theorem q102 : (Jvm.Cond.instanceMethod ({ cls := "GroupedNumbers$Reader", name := "<init>", desc := "(LGroupedNumbers$Fault;)V" } : Jvm.MethodName)) ∈ lw_all := lw_g (lw_at lw_m1 99 rfl) rfl
theorem q103 : (Jvm.Cond.code ({ cls := "GroupedNumbers$Reader", name := "<init>", desc := "(LGroupedNumbers$Fault;)V" } : Jvm.MethodName) prog_4_method_1_code (2 : Nat) (Option.none : Option Jvm.ClassFile.FieldType)) ∈ lw_all := lw_g (lw_at lw_m1 100 rfl) rfl
theorem q104 : (Jvm.Cond.methodLink "GroupedNumbers$Reader" (3 : Nat) ({ cls := "java/lang/Object", name := "<init>", desc := "()V" } : Jvm.MethodName)) ∈ lw_all := lw_g (lw_at lw_m1 101 rfl) rfl
theorem q105 : (Jvm.Cond.fieldLink "GroupedNumbers$Reader" (15 : Nat) "GroupedNumbers$Reader" "fault" "LGroupedNumbers$Fault;") ∈ lw_all := lw_g (lw_at lw_m1 102 rfl) rfl
theorem q106 : (Jvm.Cond.fieldLink "GroupedNumbers$Reader" (9 : Nat) "GroupedNumbers$Reader" "bytes" "[B") ∈ lw_all := lw_g (lw_at lw_m1 103 rfl) rfl
theorem q107 : (Jvm.Cond.fieldLink "GroupedNumbers$Reader" (19 : Nat) "GroupedNumbers$Reader" "at" "I") ∈ lw_all := lw_g (lw_at lw_m1 104 rfl) rfl
theorem q109 : (Jvm.Cond.fieldLink "GroupedNumbers$Reader" (23 : Nat) "GroupedNumbers$Reader" "end" "I") ∈ lw_all := lw_g (lw_at lw_m1 106 rfl) rfl
theorem q110 : (Jvm.Cond.laysFinal "GroupedNumbers$Reader" "GroupedNumbers$Reader" "fault" "LGroupedNumbers$Fault;") ∈ lw_all := lw_g (lw_at lw_m1 107 rfl) rfl
theorem q111 : (Jvm.Cond.soleField "GroupedNumbers$Reader" "fault") ∈ lw_all := lw_g (lw_at lw_m1 108 rfl) rfl
theorem q112 : (Jvm.Cond.lays "GroupedNumbers$Reader" "GroupedNumbers$Reader" "bytes" "[B") ∈ lw_all := lw_g (lw_at lw_m1 109 rfl) rfl
theorem q113 : (Jvm.Cond.soleField "GroupedNumbers$Reader" "bytes") ∈ lw_all := lw_g (lw_at lw_m1 110 rfl) rfl
theorem q114 : (Jvm.Cond.lays "GroupedNumbers$Reader" "GroupedNumbers$Reader" "at" "I") ∈ lw_all := lw_g (lw_at lw_m1 111 rfl) rfl
theorem q115 : (Jvm.Cond.soleField "GroupedNumbers$Reader" "at") ∈ lw_all := lw_g (lw_at lw_m1 112 rfl) rfl
theorem q116 : (Jvm.Cond.lays "GroupedNumbers$Reader" "GroupedNumbers$Reader" "end" "I") ∈ lw_all := lw_g (lw_at lw_m1 113 rfl) rfl
theorem q117 : (Jvm.Cond.soleField "GroupedNumbers$Reader" "end") ∈ lw_all := lw_g (lw_at lw_m1 114 rfl) rfl
theorem q118 : (Jvm.Cond.superclass "GroupedNumbers$Reader" "java/lang/Object") ∈ lw_all := lw_g (lw_at lw_m1 115 rfl) rfl
theorem q176 : (Jvm.Cond.instanceMethod ({ cls := "GroupedNumbers$Reader", name := "open", desc := "([BII)V" } : Jvm.MethodName)) ∈ lw_all := lw_g (lw_at lw_m1 173 rfl) rfl
theorem q177 : (Jvm.Cond.selects "GroupedNumbers$Reader" ({ cls := "GroupedNumbers$Reader", name := "open", desc := "([BII)V" } : Jvm.MethodName) ({ cls := "GroupedNumbers$Reader", name := "open", desc := "([BII)V" } : Jvm.MethodName)) ∈ lw_all := lw_g (lw_at lw_m1 174 rfl) rfl
theorem q178 : (Jvm.Cond.code ({ cls := "GroupedNumbers$Reader", name := "open", desc := "([BII)V" } : Jvm.MethodName) prog_4_method_2_code (4 : Nat) (Option.none : Option Jvm.ClassFile.FieldType)) ∈ lw_all := lw_g (lw_at lw_m1 175 rfl) rfl
theorem q180 : (Jvm.Cond.instanceMethod ({ cls := "GroupedNumbers$Reader", name := "number", desc := "()J" } : Jvm.MethodName)) ∈ lw_all := lw_g (lw_at lw_m1 177 rfl) rfl
theorem q181 : (Jvm.Cond.selects "GroupedNumbers$Reader" ({ cls := "GroupedNumbers$Reader", name := "number", desc := "()J" } : Jvm.MethodName) ({ cls := "GroupedNumbers$Reader", name := "number", desc := "()J" } : Jvm.MethodName)) ∈ lw_all := lw_g (lw_at lw_m1 178 rfl) rfl
theorem q182 : (Jvm.Cond.code ({ cls := "GroupedNumbers$Reader", name := "number", desc := "()J" } : Jvm.MethodName) prog_4_method_5_code (6 : Nat) (Option.some Jvm.ClassFile.FieldType.long)) ∈ lw_all := lw_g (lw_at lw_m1 179 rfl) rfl
theorem q183 : (Jvm.Cond.methodLink "GroupedNumbers$Reader" (35 : Nat) ({ cls := "GroupedNumbers$Reader", name := "one", desc := "()I" } : Jvm.MethodName)) ∈ lw_all := lw_g (lw_at lw_m1 180 rfl) rfl
theorem q184 : (Jvm.Cond.instanceMethod ({ cls := "GroupedNumbers$Reader", name := "one", desc := "()I" } : Jvm.MethodName)) ∈ lw_all := lw_g (lw_at lw_m1 181 rfl) rfl
theorem q185 : (Jvm.Cond.selects "GroupedNumbers$Reader" ({ cls := "GroupedNumbers$Reader", name := "one", desc := "()I" } : Jvm.MethodName) ({ cls := "GroupedNumbers$Reader", name := "one", desc := "()I" } : Jvm.MethodName)) ∈ lw_all := lw_g (lw_at lw_m1 182 rfl) rfl
theorem q186 : (Jvm.Cond.code ({ cls := "GroupedNumbers$Reader", name := "one", desc := "()I" } : Jvm.MethodName) prog_4_method_4_code (1 : Nat) (Option.some Jvm.ClassFile.FieldType.int)) ∈ lw_all := lw_g (lw_at lw_m1 183 rfl) rfl
theorem q187 : (Jvm.Cond.methodLink "GroupedNumbers$Reader" (31 : Nat) ({ cls := "GroupedNumbers$Reader", name := "wrong", desc := "(I)Ljava/lang/IllegalStateException;" } : Jvm.MethodName)) ∈ lw_all := lw_g (lw_at lw_m1 184 rfl) rfl
theorem q188 : (Jvm.Cond.instanceMethod ({ cls := "GroupedNumbers$Reader", name := "wrong", desc := "(I)Ljava/lang/IllegalStateException;" } : Jvm.MethodName)) ∈ lw_all := lw_g (lw_at lw_m1 185 rfl) rfl
theorem q189 : (Jvm.Cond.selects "GroupedNumbers$Reader" ({ cls := "GroupedNumbers$Reader", name := "wrong", desc := "(I)Ljava/lang/IllegalStateException;" } : Jvm.MethodName) ({ cls := "GroupedNumbers$Reader", name := "wrong", desc := "(I)Ljava/lang/IllegalStateException;" } : Jvm.MethodName)) ∈ lw_all := lw_g (lw_at lw_m1 186 rfl) rfl
theorem q190 : (Jvm.Cond.code ({ cls := "GroupedNumbers$Reader", name := "wrong", desc := "(I)Ljava/lang/IllegalStateException;" } : Jvm.MethodName) prog_4_method_3_code (2 : Nat) (Option.some (Jvm.ClassFile.FieldType.object "java/lang/IllegalStateException"))) ∈ lw_all := lw_g (lw_at lw_m1 187 rfl) rfl
theorem q191 : (Jvm.Cond.methodLink "GroupedNumbers$Reader" (26 : Nat) ({ cls := "GroupedNumbers$Fault", name := "at", desc := "(II)Ljava/lang/IllegalStateException;" } : Jvm.MethodName)) ∈ lw_all := lw_g (lw_at lw_m1 188 rfl) rfl
theorem q196 : (Jvm.Cond.instanceMethod ({ cls := "GroupedNumbers$Reader", name := "signed", desc := "(I)J" } : Jvm.MethodName)) ∈ lw_all := lw_g (lw_at lw_m1 193 rfl) rfl
theorem q197 : (Jvm.Cond.selects "GroupedNumbers$Reader" ({ cls := "GroupedNumbers$Reader", name := "signed", desc := "(I)J" } : Jvm.MethodName) ({ cls := "GroupedNumbers$Reader", name := "signed", desc := "(I)J" } : Jvm.MethodName)) ∈ lw_all := lw_g (lw_at lw_m1 194 rfl) rfl
theorem q198 : (Jvm.Cond.code ({ cls := "GroupedNumbers$Reader", name := "signed", desc := "(I)J" } : Jvm.MethodName) prog_4_method_6_code (7 : Nat) (Option.some Jvm.ClassFile.FieldType.long)) ∈ lw_all := lw_g (lw_at lw_m1 195 rfl) rfl
theorem q199 : (Jvm.Cond.methodLink "GroupedNumbers$Reader" (39 : Nat) ({ cls := "GroupedNumbers$Reader", name := "isLast", desc := "(II)Z" } : Jvm.MethodName)) ∈ lw_all := lw_g (lw_at lw_m1 196 rfl) rfl
theorem q200 : (Jvm.Cond.static ({ cls := "GroupedNumbers$Reader", name := "isLast", desc := "(II)Z" } : Jvm.MethodName)) ∈ lw_all := lw_g (lw_at lw_m1 197 rfl) rfl
theorem q201 : (Jvm.Cond.code ({ cls := "GroupedNumbers$Reader", name := "isLast", desc := "(II)Z" } : Jvm.MethodName) prog_4_method_7_code (2 : Nat) (Option.some Jvm.ClassFile.FieldType.boolean)) ∈ lw_all := lw_g (lw_at lw_m1 198 rfl) rfl
theorem q202 : (Jvm.Cond.constantLong "GroupedNumbers$Reader" (43 : Nat) (-1 : Int64)) ∈ lw_all := lw_g (lw_at lw_m1 199 rfl) rfl
theorem in_X2 : ∀ w ∈ wsX20, w ∈ lw_all := lw_in wsX20 [110, 112, 114, 116] (by decide +kernel) (by decide +kernel)
end
section
set_option maxRecDepth 100000
/-! GroupedNumbers -/
def RX0 : String := "GroupedNumbers"
def TX0 : u_T := fun k => match k with
  | 0 => ("GroupedNumbers", "fault", "LGroupedNumbers$Fault;", true)
  | 1 => ("GroupedNumbers", "in", "LGroupedNumbers$Reader;", true)
  | 2 => ("GroupedNumbers", "out", "LGroupedNumbers$Out;", true)
  | 3 => ("GroupedNumbers", "row", "[B", true)
  | 4 => ("GroupedNumbers", "size", "I", false)
  | _ => ("GroupedNumbers", "value", "J", false)
def tyX0 : Nat → FieldType := fun k => match k with
  | 0 => .object "GroupedNumbers$Fault"
  | 1 => .object "GroupedNumbers$Reader"
  | 2 => .object "GroupedNumbers$Out"
  | 3 => .array .byte
  | 4 => .int
  | _ => .long
abbrev wsX00 : List Cond := u_ws RX0 TX0 6
theorem nmX0 : ∀ a, a < 6 → ∀ b, b < 6 → a ≠ b → (TX0 a).2.1 ≠ (TX0 b).2.1 := by decide +kernel
theorem tyX0_ok : ∀ k, k < 6 → parseFieldDescriptor (TX0 k).2.2.1 = some (tyX0 k) := by decide +kernel
abbrev cX0_init : ByteArray := prog_1_method_1_code
def yX0_init : MethodName := ⟨RX0, "<init>", "()V"⟩
theorem dX0_init_0 : decode cX0_init 0 = .ok (.aload_n 0, 1) := by decide +kernel
theorem dX0_init_1 : decode cX0_init 1 = .ok (.invokespecial 1, 3) := by decide +kernel
theorem dX0_init_4 : decode cX0_init 4 = .ok (.aload_n 0, 1) := by decide +kernel
theorem dX0_init_5 : decode cX0_init 5 = .ok (.new 7, 3) := by decide +kernel
theorem dX0_init_8 : decode cX0_init 8 = .ok (.dup, 1) := by decide +kernel
theorem dX0_init_9 : decode cX0_init 9 = .ok (.invokespecial 9, 3) := by decide +kernel
theorem dX0_init_12 : decode cX0_init 12 = .ok (.putfield 10, 3) := by decide +kernel
theorem dX0_init_15 : decode cX0_init 15 = .ok (.aload_n 0, 1) := by decide +kernel
theorem dX0_init_16 : decode cX0_init 16 = .ok (.new 16, 3) := by decide +kernel
theorem dX0_init_19 : decode cX0_init 19 = .ok (.dup, 1) := by decide +kernel
theorem dX0_init_20 : decode cX0_init 20 = .ok (.aload_n 0, 1) := by decide +kernel
theorem dX0_init_21 : decode cX0_init 21 = .ok (.getfield 10, 3) := by decide +kernel
theorem dX0_init_24 : decode cX0_init 24 = .ok (.invokespecial 18, 3) := by decide +kernel
theorem dX0_init_27 : decode cX0_init 27 = .ok (.putfield 21, 3) := by decide +kernel
theorem dX0_init_30 : decode cX0_init 30 = .ok (.aload_n 0, 1) := by decide +kernel
theorem dX0_init_31 : decode cX0_init 31 = .ok (.new 25, 3) := by decide +kernel
theorem dX0_init_34 : decode cX0_init 34 = .ok (.dup, 1) := by decide +kernel
theorem dX0_init_35 : decode cX0_init 35 = .ok (.invokespecial 27, 3) := by decide +kernel
theorem dX0_init_38 : decode cX0_init 38 = .ok (.putfield 28, 3) := by decide +kernel
theorem dX0_init_41 : decode cX0_init 41 = .ok (.aload_n 0, 1) := by decide +kernel
theorem dX0_init_42 : decode cX0_init 42 = .ok (.sipush 1000, 3) := by decide +kernel
theorem dX0_init_45 : decode cX0_init 45 = .ok (.newarray .byte, 2) := by decide +kernel
theorem dX0_init_47 : decode cX0_init 47 = .ok (.putfield 32, 3) := by decide +kernel
theorem dX0_init_50 : decode cX0_init 50 = .ok (.aload_n 0, 1) := by decide +kernel
theorem dX0_init_51 : decode cX0_init 51 = .ok (.getfield 10, 3) := by decide +kernel
theorem dX0_init_54 : decode cX0_init 54 = .ok (.invokevirtual 36, 3) := by decide +kernel
theorem dX0_init_57 : decode cX0_init 57 = .ok (.return_, 1) := by decide +kernel
abbrev cX0_feed : ByteArray := prog_1_method_2_code
def yX0_feed : MethodName := ⟨RX0, "feed", "(IIIII)I"⟩
theorem dX0_feed_0 : decode cX0_feed 0 = .ok (.aload_n 0, 1) := by decide +kernel
theorem dX0_feed_1 : decode cX0_feed 1 = .ok (.getfield 39, 3) := by decide +kernel
theorem dX0_feed_4 : decode cX0_feed 4 = .ok (.bipush 20, 2) := by decide +kernel
theorem dX0_feed_6 : decode cX0_feed 6 = .ok (.iadd, 1) := by decide +kernel
theorem dX0_feed_7 : decode cX0_feed 7 = .ok (.sipush 1000, 3) := by decide +kernel
theorem dX0_feed_10 : decode cX0_feed 10 = .ok (.if_icmp .le 5, 3) := by decide +kernel
theorem dX0_feed_13 : decode cX0_feed 13 = .ok (.iconst (-1), 1) := by decide +kernel
theorem dX0_feed_14 : decode cX0_feed 14 = .ok (.ireturn, 1) := by decide +kernel
theorem dX0_feed_15 : decode cX0_feed 15 = .ok (.aload_n 0, 1) := by decide +kernel
theorem dX0_feed_16 : decode cX0_feed 16 = .ok (.iload_n 1, 1) := by decide +kernel
theorem dX0_feed_17 : decode cX0_feed 17 = .ok (.invokevirtual 43, 3) := by decide +kernel
theorem dX0_feed_20 : decode cX0_feed 20 = .ok (.aload_n 0, 1) := by decide +kernel
theorem dX0_feed_21 : decode cX0_feed 21 = .ok (.iload_n 2, 1) := by decide +kernel
theorem dX0_feed_22 : decode cX0_feed 22 = .ok (.invokevirtual 43, 3) := by decide +kernel
theorem dX0_feed_25 : decode cX0_feed 25 = .ok (.aload_n 0, 1) := by decide +kernel
theorem dX0_feed_26 : decode cX0_feed 26 = .ok (.iload_n 3, 1) := by decide +kernel
theorem dX0_feed_27 : decode cX0_feed 27 = .ok (.invokevirtual 43, 3) := by decide +kernel
theorem dX0_feed_30 : decode cX0_feed 30 = .ok (.aload_n 0, 1) := by decide +kernel
theorem dX0_feed_31 : decode cX0_feed 31 = .ok (.iload 4, 2) := by decide +kernel
theorem dX0_feed_33 : decode cX0_feed 33 = .ok (.invokevirtual 43, 3) := by decide +kernel
theorem dX0_feed_36 : decode cX0_feed 36 = .ok (.aload_n 0, 1) := by decide +kernel
theorem dX0_feed_37 : decode cX0_feed 37 = .ok (.iload 5, 2) := by decide +kernel
theorem dX0_feed_39 : decode cX0_feed 39 = .ok (.invokevirtual 43, 3) := by decide +kernel
theorem dX0_feed_42 : decode cX0_feed 42 = .ok (.aload_n 0, 1) := by decide +kernel
theorem dX0_feed_43 : decode cX0_feed 43 = .ok (.getfield 39, 3) := by decide +kernel
theorem dX0_feed_46 : decode cX0_feed 46 = .ok (.ireturn, 1) := by decide +kernel
abbrev cX0_put : ByteArray := prog_1_method_3_code
def yX0_put : MethodName := ⟨RX0, "put", "(I)V"⟩
theorem dX0_put_0 : decode cX0_put 0 = .ok (.bipush 24, 2) := by decide +kernel
theorem dX0_put_2 : decode cX0_put 2 = .ok (.istore_n 2, 1) := by decide +kernel
theorem dX0_put_3 : decode cX0_put 3 = .ok (.iload_n 2, 1) := by decide +kernel
theorem dX0_put_4 : decode cX0_put 4 = .ok (.ifCond .lt 32, 3) := by decide +kernel
theorem dX0_put_7 : decode cX0_put 7 = .ok (.aload_n 0, 1) := by decide +kernel
theorem dX0_put_8 : decode cX0_put 8 = .ok (.getfield 32, 3) := by decide +kernel
theorem dX0_put_11 : decode cX0_put 11 = .ok (.aload_n 0, 1) := by decide +kernel
theorem dX0_put_12 : decode cX0_put 12 = .ok (.getfield 39, 3) := by decide +kernel
theorem dX0_put_15 : decode cX0_put 15 = .ok (.iload_n 1, 1) := by decide +kernel
theorem dX0_put_16 : decode cX0_put 16 = .ok (.iload_n 2, 1) := by decide +kernel
theorem dX0_put_17 : decode cX0_put 17 = .ok (.ishr, 1) := by decide +kernel
theorem dX0_put_18 : decode cX0_put 18 = .ok (.i2b, 1) := by decide +kernel
theorem dX0_put_19 : decode cX0_put 19 = .ok (.bastore, 1) := by decide +kernel
theorem dX0_put_20 : decode cX0_put 20 = .ok (.aload_n 0, 1) := by decide +kernel
theorem dX0_put_21 : decode cX0_put 21 = .ok (.dup, 1) := by decide +kernel
theorem dX0_put_22 : decode cX0_put 22 = .ok (.getfield 39, 3) := by decide +kernel
theorem dX0_put_25 : decode cX0_put 25 = .ok (.iconst 1, 1) := by decide +kernel
theorem dX0_put_26 : decode cX0_put 26 = .ok (.iadd, 1) := by decide +kernel
theorem dX0_put_27 : decode cX0_put 27 = .ok (.putfield 39, 3) := by decide +kernel
theorem dX0_put_30 : decode cX0_put 30 = .ok (.iinc 2 (-8), 3) := by decide +kernel
theorem dX0_put_33 : decode cX0_put 33 = .ok (.goto (-30), 3) := by decide +kernel
theorem dX0_put_36 : decode cX0_put 36 = .ok (.return_, 1) := by decide +kernel
abbrev cX0_end : ByteArray := prog_1_method_4_code
def yX0_end : MethodName := ⟨RX0, "end", "(I)I"⟩
theorem dX0_end_0 : decode cX0_end 0 = .ok (.iload_n 1, 1) := by decide +kernel
theorem dX0_end_1 : decode cX0_end 1 = .ok (.ifCond .lt 11, 3) := by decide +kernel
theorem dX0_end_4 : decode cX0_end 4 = .ok (.iload_n 1, 1) := by decide +kernel
theorem dX0_end_5 : decode cX0_end 5 = .ok (.aload_n 0, 1) := by decide +kernel
theorem dX0_end_6 : decode cX0_end 6 = .ok (.getfield 39, 3) := by decide +kernel
theorem dX0_end_9 : decode cX0_end 9 = .ok (.if_icmp .le 5, 3) := by decide +kernel
theorem dX0_end_12 : decode cX0_end 12 = .ok (.iconst (-1), 1) := by decide +kernel
theorem dX0_end_13 : decode cX0_end 13 = .ok (.ireturn, 1) := by decide +kernel
theorem dX0_end_14 : decode cX0_end 14 = .ok (.aload_n 0, 1) := by decide +kernel
theorem dX0_end_15 : decode cX0_end 15 = .ok (.iload_n 1, 1) := by decide +kernel
theorem dX0_end_16 : decode cX0_end 16 = .ok (.putfield 39, 3) := by decide +kernel
theorem dX0_end_19 : decode cX0_end 19 = .ok (.iload_n 1, 1) := by decide +kernel
theorem dX0_end_20 : decode cX0_end 20 = .ok (.ireturn, 1) := by decide +kernel
abbrev cX0_read : ByteArray := prog_1_method_5_code
def yX0_read : MethodName := ⟨RX0, "read", "(II)I"⟩
theorem dX0_read_0 : decode cX0_read 0 = .ok (.iload_n 1, 1) := by decide +kernel
theorem dX0_read_1 : decode cX0_read 1 = .ok (.ifCond .lt 20, 3) := by decide +kernel
theorem dX0_read_4 : decode cX0_read 4 = .ok (.iload_n 1, 1) := by decide +kernel
theorem dX0_read_5 : decode cX0_read 5 = .ok (.iconst 2, 1) := by decide +kernel
theorem dX0_read_6 : decode cX0_read 6 = .ok (.if_icmp .gt 15, 3) := by decide +kernel
theorem dX0_read_9 : decode cX0_read 9 = .ok (.iload_n 2, 1) := by decide +kernel
theorem dX0_read_10 : decode cX0_read 10 = .ok (.ifCond .lt 11, 3) := by decide +kernel
theorem dX0_read_13 : decode cX0_read 13 = .ok (.iload_n 2, 1) := by decide +kernel
theorem dX0_read_14 : decode cX0_read 14 = .ok (.aload_n 0, 1) := by decide +kernel
theorem dX0_read_15 : decode cX0_read 15 = .ok (.getfield 39, 3) := by decide +kernel
theorem dX0_read_18 : decode cX0_read 18 = .ok (.if_icmp .le 6, 3) := by decide +kernel
theorem dX0_read_21 : decode cX0_read 21 = .ok (.bipush (-2), 2) := by decide +kernel
theorem dX0_read_23 : decode cX0_read 23 = .ok (.ireturn, 1) := by decide +kernel
theorem dX0_read_24 : decode cX0_read 24 = .ok (.aload_n 0, 1) := by decide +kernel
theorem dX0_read_25 : decode cX0_read 25 = .ok (.getfield 21, 3) := by decide +kernel
theorem dX0_read_28 : decode cX0_read 28 = .ok (.aload_n 0, 1) := by decide +kernel
theorem dX0_read_29 : decode cX0_read 29 = .ok (.getfield 32, 3) := by decide +kernel
theorem dX0_read_32 : decode cX0_read 32 = .ok (.iload_n 2, 1) := by decide +kernel
theorem dX0_read_33 : decode cX0_read 33 = .ok (.aload_n 0, 1) := by decide +kernel
theorem dX0_read_34 : decode cX0_read 34 = .ok (.getfield 39, 3) := by decide +kernel
theorem dX0_read_37 : decode cX0_read 37 = .ok (.invokevirtual 47, 3) := by decide +kernel
theorem dX0_read_40 : decode cX0_read 40 = .ok (.iload_n 1, 1) := by decide +kernel
theorem dX0_read_41 : decode cX0_read 41 = .ok (.ifCond .ne 13, 3) := by decide +kernel
theorem dX0_read_44 : decode cX0_read 44 = .ok (.aload_n 0, 1) := by decide +kernel
theorem dX0_read_45 : decode cX0_read 45 = .ok (.getfield 21, 3) := by decide +kernel
theorem dX0_read_48 : decode cX0_read 48 = .ok (.invokevirtual 51, 3) := by decide +kernel
theorem dX0_read_51 : decode cX0_read 51 = .ok (.goto 30, 3) := by decide +kernel
theorem dX0_read_54 : decode cX0_read 54 = .ok (.iload_n 1, 1) := by decide +kernel
theorem dX0_read_55 : decode cX0_read 55 = .ok (.iconst 1, 1) := by decide +kernel
theorem dX0_read_56 : decode cX0_read 56 = .ok (.if_icmp .ne 16, 3) := by decide +kernel
theorem dX0_read_59 : decode cX0_read 59 = .ok (.aload_n 0, 1) := by decide +kernel
theorem dX0_read_60 : decode cX0_read 60 = .ok (.getfield 21, 3) := by decide +kernel
theorem dX0_read_63 : decode cX0_read 63 = .ok (.iconst 5, 1) := by decide +kernel
theorem dX0_read_64 : decode cX0_read 64 = .ok (.invokevirtual 55, 3) := by decide +kernel
theorem dX0_read_67 : decode cX0_read 67 = .ok (.l2i, 1) := by decide +kernel
theorem dX0_read_68 : decode cX0_read 68 = .ok (.i2l, 1) := by decide +kernel
theorem dX0_read_69 : decode cX0_read 69 = .ok (.goto 12, 3) := by decide +kernel
theorem dX0_read_72 : decode cX0_read 72 = .ok (.aload_n 0, 1) := by decide +kernel
theorem dX0_read_73 : decode cX0_read 73 = .ok (.getfield 21, 3) := by decide +kernel
theorem dX0_read_76 : decode cX0_read 76 = .ok (.bipush 10, 2) := by decide +kernel
theorem dX0_read_78 : decode cX0_read 78 = .ok (.invokevirtual 55, 3) := by decide +kernel
theorem dX0_read_81 : decode cX0_read 81 = .ok (.lstore_n 3, 1) := by decide +kernel
theorem dX0_read_82 : decode cX0_read 82 = .ok (.aload_n 0, 1) := by decide +kernel
theorem dX0_read_83 : decode cX0_read 83 = .ok (.lload_n 3, 1) := by decide +kernel
theorem dX0_read_84 : decode cX0_read 84 = .ok (.putfield 59, 3) := by decide +kernel
theorem dX0_read_87 : decode cX0_read 87 = .ok (.goto 6, 3) := by decide +kernel
theorem dX0_read_90 : decode cX0_read 90 = .ok (.astore_n 3, 1) := by decide +kernel
theorem dX0_read_91 : decode cX0_read 91 = .ok (.iconst (-1), 1) := by decide +kernel
theorem dX0_read_92 : decode cX0_read 92 = .ok (.ireturn, 1) := by decide +kernel
theorem dX0_read_93 : decode cX0_read 93 = .ok (.aload_n 0, 1) := by decide +kernel
theorem dX0_read_94 : decode cX0_read 94 = .ok (.getfield 21, 3) := by decide +kernel
theorem dX0_read_97 : decode cX0_read 97 = .ok (.getfield 65, 3) := by decide +kernel
theorem dX0_read_100 : decode cX0_read 100 = .ok (.iload_n 2, 1) := by decide +kernel
theorem dX0_read_101 : decode cX0_read 101 = .ok (.isub, 1) := by decide +kernel
theorem dX0_read_102 : decode cX0_read 102 = .ok (.ireturn, 1) := by decide +kernel
abbrev cX0_value : ByteArray := prog_1_method_6_code
def yX0_value : MethodName := ⟨RX0, "value", "()J"⟩
theorem dX0_value_0 : decode cX0_value 0 = .ok (.aload_n 0, 1) := by decide +kernel
theorem dX0_value_1 : decode cX0_value 1 = .ok (.getfield 59, 3) := by decide +kernel
theorem dX0_value_4 : decode cX0_value 4 = .ok (.lreturn, 1) := by decide +kernel
abbrev cX0_write : ByteArray := prog_1_method_8_code
def yX0_write : MethodName := ⟨RX0, "write", "(IJ)I"⟩
theorem dX0_write_0 : decode cX0_write 0 = .ok (.iload_n 1, 1) := by decide +kernel
theorem dX0_write_1 : decode cX0_write 1 = .ok (.ifCond .lt 8, 3) := by decide +kernel
theorem dX0_write_4 : decode cX0_write 4 = .ok (.iload_n 1, 1) := by decide +kernel
theorem dX0_write_5 : decode cX0_write 5 = .ok (.iconst 2, 1) := by decide +kernel
theorem dX0_write_6 : decode cX0_write 6 = .ok (.if_icmp .le 6, 3) := by decide +kernel
theorem dX0_write_9 : decode cX0_write 9 = .ok (.bipush (-2), 2) := by decide +kernel
theorem dX0_write_11 : decode cX0_write 11 = .ok (.ireturn, 1) := by decide +kernel
theorem dX0_write_12 : decode cX0_write 12 = .ok (.iload_n 1, 1) := by decide +kernel
theorem dX0_write_13 : decode cX0_write 13 = .ok (.ifCond .ne 17, 3) := by decide +kernel
theorem dX0_write_16 : decode cX0_write 16 = .ok (.lload_n 2, 1) := by decide +kernel
theorem dX0_write_17 : decode cX0_write 17 = .ok (.lconst 0, 1) := by decide +kernel
theorem dX0_write_18 : decode cX0_write 18 = .ok (.lcmp, 1) := by decide +kernel
theorem dX0_write_19 : decode cX0_write 19 = .ok (.ifCond .lt 24, 3) := by decide +kernel
theorem dX0_write_22 : decode cX0_write 22 = .ok (.lload_n 2, 1) := by decide +kernel
theorem dX0_write_23 : decode cX0_write 23 = .ok (.ldc2_w 74, 3) := by decide +kernel
theorem dX0_write_26 : decode cX0_write 26 = .ok (.lcmp, 1) := by decide +kernel
theorem dX0_write_27 : decode cX0_write 27 = .ok (.ifCond .gt 16, 3) := by decide +kernel
theorem dX0_write_30 : decode cX0_write 30 = .ok (.iload_n 1, 1) := by decide +kernel
theorem dX0_write_31 : decode cX0_write 31 = .ok (.iconst 1, 1) := by decide +kernel
theorem dX0_write_32 : decode cX0_write 32 = .ok (.if_icmp .ne 13, 3) := by decide +kernel
theorem dX0_write_35 : decode cX0_write 35 = .ok (.lload_n 2, 1) := by decide +kernel
theorem dX0_write_36 : decode cX0_write 36 = .ok (.lload_n 2, 1) := by decide +kernel
theorem dX0_write_37 : decode cX0_write 37 = .ok (.l2i, 1) := by decide +kernel
theorem dX0_write_38 : decode cX0_write 38 = .ok (.i2l, 1) := by decide +kernel
theorem dX0_write_39 : decode cX0_write 39 = .ok (.lcmp, 1) := by decide +kernel
theorem dX0_write_40 : decode cX0_write 40 = .ok (.ifCond .eq 5, 3) := by decide +kernel
theorem dX0_write_43 : decode cX0_write 43 = .ok (.iconst (-1), 1) := by decide +kernel
theorem dX0_write_44 : decode cX0_write 44 = .ok (.ireturn, 1) := by decide +kernel
theorem dX0_write_45 : decode cX0_write 45 = .ok (.iload_n 1, 1) := by decide +kernel
theorem dX0_write_46 : decode cX0_write 46 = .ok (.lload_n 2, 1) := by decide +kernel
theorem dX0_write_47 : decode cX0_write 47 = .ok (.invokestatic 76, 3) := by decide +kernel
theorem dX0_write_50 : decode cX0_write 50 = .ok (.istore 4, 2) := by decide +kernel
theorem dX0_write_52 : decode cX0_write 52 = .ok (.aload_n 0, 1) := by decide +kernel
theorem dX0_write_53 : decode cX0_write 53 = .ok (.getfield 28, 3) := by decide +kernel
theorem dX0_write_56 : decode cX0_write 56 = .ok (.getfield 80, 3) := by decide +kernel
theorem dX0_write_59 : decode cX0_write 59 = .ok (.iload 4, 2) := by decide +kernel
theorem dX0_write_61 : decode cX0_write 61 = .ok (.iadd, 1) := by decide +kernel
theorem dX0_write_62 : decode cX0_write 62 = .ok (.sipush 1000, 3) := by decide +kernel
theorem dX0_write_65 : decode cX0_write 65 = .ok (.if_icmp .le 6, 3) := by decide +kernel
theorem dX0_write_68 : decode cX0_write 68 = .ok (.bipush (-2), 2) := by decide +kernel
theorem dX0_write_70 : decode cX0_write 70 = .ok (.ireturn, 1) := by decide +kernel
theorem dX0_write_71 : decode cX0_write 71 = .ok (.iload_n 1, 1) := by decide +kernel
theorem dX0_write_72 : decode cX0_write 72 = .ok (.ifCond .ne 14, 3) := by decide +kernel
theorem dX0_write_75 : decode cX0_write 75 = .ok (.aload_n 0, 1) := by decide +kernel
theorem dX0_write_76 : decode cX0_write 76 = .ok (.getfield 28, 3) := by decide +kernel
theorem dX0_write_79 : decode cX0_write 79 = .ok (.lload_n 2, 1) := by decide +kernel
theorem dX0_write_80 : decode cX0_write 80 = .ok (.invokevirtual 81, 3) := by decide +kernel
theorem dX0_write_83 : decode cX0_write 83 = .ok (.goto 11, 3) := by decide +kernel
theorem dX0_write_86 : decode cX0_write 86 = .ok (.aload_n 0, 1) := by decide +kernel
theorem dX0_write_87 : decode cX0_write 87 = .ok (.getfield 28, 3) := by decide +kernel
theorem dX0_write_90 : decode cX0_write 90 = .ok (.lload_n 2, 1) := by decide +kernel
theorem dX0_write_91 : decode cX0_write 91 = .ok (.invokevirtual 84, 3) := by decide +kernel
theorem dX0_write_94 : decode cX0_write 94 = .ok (.iload 4, 2) := by decide +kernel
theorem dX0_write_96 : decode cX0_write 96 = .ok (.ireturn, 1) := by decide +kernel
abbrev cX0_needs : ByteArray := prog_1_method_7_code
def yX0_needs : MethodName := ⟨RX0, "needs", "(IJ)I"⟩
theorem dX0_needs_0 : decode cX0_needs 0 = .ok (.iconst 1, 1) := by decide +kernel
theorem dX0_needs_1 : decode cX0_needs 1 = .ok (.istore_n 3, 1) := by decide +kernel
theorem dX0_needs_2 : decode cX0_needs 2 = .ok (.lload_n 1, 1) := by decide +kernel
theorem dX0_needs_3 : decode cX0_needs 3 = .ok (.lstore 4, 2) := by decide +kernel
theorem dX0_needs_5 : decode cX0_needs 5 = .ok (.iload_n 0, 1) := by decide +kernel
theorem dX0_needs_6 : decode cX0_needs 6 = .ok (.ifCond .ne 15, 3) := by decide +kernel
theorem dX0_needs_9 : decode cX0_needs 9 = .ok (.lload 4, 2) := by decide +kernel
theorem dX0_needs_11 : decode cX0_needs 11 = .ok (.ldc2_w 68, 3) := by decide +kernel
theorem dX0_needs_14 : decode cX0_needs 14 = .ok (.lcmp, 1) := by decide +kernel
theorem dX0_needs_15 : decode cX0_needs 15 = .ok (.ifCond .le 37, 3) := by decide +kernel
theorem dX0_needs_18 : decode cX0_needs 18 = .ok (.goto 21, 3) := by decide +kernel
theorem dX0_needs_21 : decode cX0_needs 21 = .ok (.lload 4, 2) := by decide +kernel
theorem dX0_needs_23 : decode cX0_needs 23 = .ok (.ldc2_w 70, 3) := by decide +kernel
theorem dX0_needs_26 : decode cX0_needs 26 = .ok (.lcmp, 1) := by decide +kernel
theorem dX0_needs_27 : decode cX0_needs 27 = .ok (.ifCond .lt 12, 3) := by decide +kernel
theorem dX0_needs_30 : decode cX0_needs 30 = .ok (.lload 4, 2) := by decide +kernel
theorem dX0_needs_32 : decode cX0_needs 32 = .ok (.ldc2_w 72, 3) := by decide +kernel
theorem dX0_needs_35 : decode cX0_needs 35 = .ok (.lcmp, 1) := by decide +kernel
theorem dX0_needs_36 : decode cX0_needs 36 = .ok (.ifCond .le 16, 3) := by decide +kernel
theorem dX0_needs_39 : decode cX0_needs 39 = .ok (.lload 4, 2) := by decide +kernel
theorem dX0_needs_41 : decode cX0_needs 41 = .ok (.bipush 7, 2) := by decide +kernel
theorem dX0_needs_43 : decode cX0_needs 43 = .ok (.lshr, 1) := by decide +kernel
theorem dX0_needs_44 : decode cX0_needs 44 = .ok (.lstore 4, 2) := by decide +kernel
theorem dX0_needs_46 : decode cX0_needs 46 = .ok (.iinc 3 1, 3) := by decide +kernel
theorem dX0_needs_49 : decode cX0_needs 49 = .ok (.goto (-44), 3) := by decide +kernel
theorem dX0_needs_52 : decode cX0_needs 52 = .ok (.iload_n 3, 1) := by decide +kernel
theorem dX0_needs_53 : decode cX0_needs 53 = .ok (.ireturn, 1) := by decide +kernel
abbrev cX0_size : ByteArray := prog_1_method_9_code
def yX0_size : MethodName := ⟨RX0, "size", "()I"⟩
theorem dX0_size_0 : decode cX0_size 0 = .ok (.aload_n 0, 1) := by decide +kernel
theorem dX0_size_1 : decode cX0_size 1 = .ok (.getfield 28, 3) := by decide +kernel
theorem dX0_size_4 : decode cX0_size 4 = .ok (.getfield 80, 3) := by decide +kernel
theorem dX0_size_7 : decode cX0_size 7 = .ok (.ireturn, 1) := by decide +kernel
abbrev cX0_at : ByteArray := prog_1_method_10_code
def yX0_at : MethodName := ⟨RX0, "at", "(I)I"⟩
theorem dX0_at_0 : decode cX0_at 0 = .ok (.iload_n 1, 1) := by decide +kernel
theorem dX0_at_1 : decode cX0_at 1 = .ok (.ifCond .lt 30, 3) := by decide +kernel
theorem dX0_at_4 : decode cX0_at 4 = .ok (.iload_n 1, 1) := by decide +kernel
theorem dX0_at_5 : decode cX0_at 5 = .ok (.aload_n 0, 1) := by decide +kernel
theorem dX0_at_6 : decode cX0_at 6 = .ok (.getfield 28, 3) := by decide +kernel
theorem dX0_at_9 : decode cX0_at 9 = .ok (.getfield 80, 3) := by decide +kernel
theorem dX0_at_12 : decode cX0_at 12 = .ok (.if_icmp .ge 19, 3) := by decide +kernel
theorem dX0_at_15 : decode cX0_at 15 = .ok (.aload_n 0, 1) := by decide +kernel
theorem dX0_at_16 : decode cX0_at 16 = .ok (.getfield 28, 3) := by decide +kernel
theorem dX0_at_19 : decode cX0_at 19 = .ok (.getfield 86, 3) := by decide +kernel
theorem dX0_at_22 : decode cX0_at 22 = .ok (.iload_n 1, 1) := by decide +kernel
theorem dX0_at_23 : decode cX0_at 23 = .ok (.baload, 1) := by decide +kernel
theorem dX0_at_24 : decode cX0_at 24 = .ok (.sipush 255, 3) := by decide +kernel
theorem dX0_at_27 : decode cX0_at 27 = .ok (.iand, 1) := by decide +kernel
theorem dX0_at_28 : decode cX0_at 28 = .ok (.goto 4, 3) := by decide +kernel
theorem dX0_at_31 : decode cX0_at 31 = .ok (.iconst (-1), 1) := by decide +kernel
theorem dX0_at_32 : decode cX0_at 32 = .ok (.ireturn, 1) := by decide +kernel
abbrev cX0_clear : ByteArray := prog_1_method_11_code
def yX0_clear : MethodName := ⟨RX0, "clear", "()V"⟩
theorem dX0_clear_0 : decode cX0_clear 0 = .ok (.aload_n 0, 1) := by decide +kernel
theorem dX0_clear_1 : decode cX0_clear 1 = .ok (.getfield 28, 3) := by decide +kernel
theorem dX0_clear_4 : decode cX0_clear 4 = .ok (.invokevirtual 89, 3) := by decide +kernel
theorem dX0_clear_7 : decode cX0_clear 7 = .ok (.aload_n 0, 1) := by decide +kernel
theorem dX0_clear_8 : decode cX0_clear 8 = .ok (.iconst 0, 1) := by decide +kernel
theorem dX0_clear_9 : decode cX0_clear 9 = .ok (.putfield 39, 3) := by decide +kernel
theorem dX0_clear_12 : decode cX0_clear 12 = .ok (.return_, 1) := by decide +kernel
theorem q4 : (Jvm.Cond.initialized "GroupedNumbers") ∈ lw_all := lw_g (lw_at lw_m1 1 rfl) rfl
theorem q15 : (Jvm.Cond.instantiable "GroupedNumbers" (6 : Nat)) ∈ lw_all := lw_g (lw_at lw_m1 12 rfl) rfl
theorem q17 : (Jvm.Cond.instanceMethod ({ cls := "GroupedNumbers", name := "<init>", desc := "()V" } : Jvm.MethodName)) ∈ lw_all := lw_g (lw_at lw_m1 14 rfl) rfl
theorem q18 : (Jvm.Cond.code ({ cls := "GroupedNumbers", name := "<init>", desc := "()V" } : Jvm.MethodName) prog_1_method_1_code (1 : Nat) (Option.none : Option Jvm.ClassFile.FieldType)) ∈ lw_all := lw_g (lw_at lw_m1 15 rfl) rfl
theorem q19 : (Jvm.Cond.methodLink "GroupedNumbers" (1 : Nat) ({ cls := "java/lang/Object", name := "<init>", desc := "()V" } : Jvm.MethodName)) ∈ lw_all := lw_g (lw_at lw_m1 16 rfl) rfl
theorem q22 : (Jvm.Cond.classLink "GroupedNumbers" (7 : Nat) "GroupedNumbers$Fault") ∈ lw_all := lw_g (lw_at lw_m1 19 rfl) rfl
theorem q24 : (Jvm.Cond.methodLinkNest "GroupedNumbers" (9 : Nat) ({ cls := "GroupedNumbers$Fault", name := "<init>", desc := "()V" } : Jvm.MethodName) "GroupedNumbers") ∈ lw_tbl := lw_at lw_m1 21 rfl
theorem q99 : (Jvm.Cond.classLink "GroupedNumbers" (16 : Nat) "GroupedNumbers$Reader") ∈ lw_all := lw_g (lw_at lw_m1 96 rfl) rfl
theorem q101 : (Jvm.Cond.methodLink "GroupedNumbers" (18 : Nat) ({ cls := "GroupedNumbers$Reader", name := "<init>", desc := "(LGroupedNumbers$Fault;)V" } : Jvm.MethodName)) ∈ lw_all := lw_g (lw_at lw_m1 98 rfl) rfl
theorem q108 : (Jvm.Cond.fieldLink "GroupedNumbers" (65 : Nat) "GroupedNumbers$Reader" "at" "I") ∈ lw_all := lw_g (lw_at lw_m1 105 rfl) rfl
theorem q120 : (Jvm.Cond.classLink "GroupedNumbers" (25 : Nat) "GroupedNumbers$Out") ∈ lw_all := lw_g (lw_at lw_m1 117 rfl) rfl
theorem q122 : (Jvm.Cond.methodLinkNest "GroupedNumbers" (27 : Nat) ({ cls := "GroupedNumbers$Out", name := "<init>", desc := "()V" } : Jvm.MethodName) "GroupedNumbers") ∈ lw_tbl := lw_at lw_m1 119 rfl
theorem q127 : (Jvm.Cond.fieldLink "GroupedNumbers" (86 : Nat) "GroupedNumbers$Out" "bytes" "[B") ∈ lw_all := lw_g (lw_at lw_m1 124 rfl) rfl
theorem q129 : (Jvm.Cond.fieldLink "GroupedNumbers" (80 : Nat) "GroupedNumbers$Out" "size" "I") ∈ lw_all := lw_g (lw_at lw_m1 126 rfl) rfl
theorem q135 : (Jvm.Cond.methodLink "GroupedNumbers" (36 : Nat) ({ cls := "GroupedNumbers$Fault", name := "begin", desc := "()V" } : Jvm.MethodName)) ∈ lw_all := lw_g (lw_at lw_m1 132 rfl) rfl
theorem q139 : (Jvm.Cond.fieldLink "GroupedNumbers" (10 : Nat) "GroupedNumbers" "fault" "LGroupedNumbers$Fault;") ∈ lw_all := lw_g (lw_at lw_m1 136 rfl) rfl
theorem q140 : (Jvm.Cond.fieldLink "GroupedNumbers" (21 : Nat) "GroupedNumbers" "in" "LGroupedNumbers$Reader;") ∈ lw_all := lw_g (lw_at lw_m1 137 rfl) rfl
theorem q141 : (Jvm.Cond.fieldLink "GroupedNumbers" (28 : Nat) "GroupedNumbers" "out" "LGroupedNumbers$Out;") ∈ lw_all := lw_g (lw_at lw_m1 138 rfl) rfl
theorem q142 : (Jvm.Cond.fieldLink "GroupedNumbers" (32 : Nat) "GroupedNumbers" "row" "[B") ∈ lw_all := lw_g (lw_at lw_m1 139 rfl) rfl
theorem q143 : (Jvm.Cond.fieldLink "GroupedNumbers" (39 : Nat) "GroupedNumbers" "size" "I") ∈ lw_all := lw_g (lw_at lw_m1 140 rfl) rfl
theorem q144 : (Jvm.Cond.fieldLink "GroupedNumbers" (59 : Nat) "GroupedNumbers" "value" "J") ∈ lw_all := lw_g (lw_at lw_m1 141 rfl) rfl
theorem q145 : (Jvm.Cond.laysFinal "GroupedNumbers" "GroupedNumbers" "fault" "LGroupedNumbers$Fault;") ∈ lw_all := lw_g (lw_at lw_m1 142 rfl) rfl
theorem q146 : (Jvm.Cond.soleField "GroupedNumbers" "fault") ∈ lw_all := lw_g (lw_at lw_m1 143 rfl) rfl
theorem q147 : (Jvm.Cond.laysFinal "GroupedNumbers" "GroupedNumbers" "in" "LGroupedNumbers$Reader;") ∈ lw_all := lw_g (lw_at lw_m1 144 rfl) rfl
theorem q148 : (Jvm.Cond.soleField "GroupedNumbers" "in") ∈ lw_all := lw_g (lw_at lw_m1 145 rfl) rfl
theorem q149 : (Jvm.Cond.laysFinal "GroupedNumbers" "GroupedNumbers" "out" "LGroupedNumbers$Out;") ∈ lw_all := lw_g (lw_at lw_m1 146 rfl) rfl
theorem q150 : (Jvm.Cond.soleField "GroupedNumbers" "out") ∈ lw_all := lw_g (lw_at lw_m1 147 rfl) rfl
theorem q151 : (Jvm.Cond.laysFinal "GroupedNumbers" "GroupedNumbers" "row" "[B") ∈ lw_all := lw_g (lw_at lw_m1 148 rfl) rfl
theorem q152 : (Jvm.Cond.soleField "GroupedNumbers" "row") ∈ lw_all := lw_g (lw_at lw_m1 149 rfl) rfl
theorem q153 : (Jvm.Cond.lays "GroupedNumbers" "GroupedNumbers" "size" "I") ∈ lw_all := lw_g (lw_at lw_m1 150 rfl) rfl
theorem q154 : (Jvm.Cond.soleField "GroupedNumbers" "size") ∈ lw_all := lw_g (lw_at lw_m1 151 rfl) rfl
theorem q155 : (Jvm.Cond.lays "GroupedNumbers" "GroupedNumbers" "value" "J") ∈ lw_all := lw_g (lw_at lw_m1 152 rfl) rfl
theorem q156 : (Jvm.Cond.soleField "GroupedNumbers" "value") ∈ lw_all := lw_g (lw_at lw_m1 153 rfl) rfl
theorem q157 : (Jvm.Cond.superclass "GroupedNumbers" "java/lang/Object") ∈ lw_all := lw_g (lw_at lw_m1 154 rfl) rfl
theorem q159 : (Jvm.Cond.instanceMethod ({ cls := "GroupedNumbers", name := "feed", desc := "(IIIII)I" } : Jvm.MethodName)) ∈ lw_all := lw_g (lw_at lw_m1 156 rfl) rfl
theorem q160 : (Jvm.Cond.selects "GroupedNumbers" ({ cls := "GroupedNumbers", name := "feed", desc := "(IIIII)I" } : Jvm.MethodName) ({ cls := "GroupedNumbers", name := "feed", desc := "(IIIII)I" } : Jvm.MethodName)) ∈ lw_all := lw_g (lw_at lw_m1 157 rfl) rfl
theorem q161 : (Jvm.Cond.code ({ cls := "GroupedNumbers", name := "feed", desc := "(IIIII)I" } : Jvm.MethodName) prog_1_method_2_code (6 : Nat) (Option.some Jvm.ClassFile.FieldType.int)) ∈ lw_all := lw_g (lw_at lw_m1 158 rfl) rfl
theorem q162 : (Jvm.Cond.methodLink "GroupedNumbers" (43 : Nat) ({ cls := "GroupedNumbers", name := "put", desc := "(I)V" } : Jvm.MethodName)) ∈ lw_all := lw_g (lw_at lw_m1 159 rfl) rfl
theorem q163 : (Jvm.Cond.privateMethod ({ cls := "GroupedNumbers", name := "put", desc := "(I)V" } : Jvm.MethodName)) ∈ lw_tbl := lw_at lw_m1 160 rfl
theorem q164 : (Jvm.Cond.instanceMethod ({ cls := "GroupedNumbers", name := "put", desc := "(I)V" } : Jvm.MethodName)) ∈ lw_all := lw_g (lw_at lw_m1 161 rfl) rfl
theorem q165 : (Jvm.Cond.code ({ cls := "GroupedNumbers", name := "put", desc := "(I)V" } : Jvm.MethodName) prog_1_method_3_code (3 : Nat) (Option.none : Option Jvm.ClassFile.FieldType)) ∈ lw_all := lw_g (lw_at lw_m1 162 rfl) rfl
theorem q167 : (Jvm.Cond.instanceMethod ({ cls := "GroupedNumbers", name := "end", desc := "(I)I" } : Jvm.MethodName)) ∈ lw_all := lw_g (lw_at lw_m1 164 rfl) rfl
theorem q168 : (Jvm.Cond.selects "GroupedNumbers" ({ cls := "GroupedNumbers", name := "end", desc := "(I)I" } : Jvm.MethodName) ({ cls := "GroupedNumbers", name := "end", desc := "(I)I" } : Jvm.MethodName)) ∈ lw_all := lw_g (lw_at lw_m1 165 rfl) rfl
theorem q169 : (Jvm.Cond.code ({ cls := "GroupedNumbers", name := "end", desc := "(I)I" } : Jvm.MethodName) prog_1_method_4_code (2 : Nat) (Option.some Jvm.ClassFile.FieldType.int)) ∈ lw_all := lw_g (lw_at lw_m1 166 rfl) rfl
theorem q171 : (Jvm.Cond.instanceMethod ({ cls := "GroupedNumbers", name := "read", desc := "(II)I" } : Jvm.MethodName)) ∈ lw_all := lw_g (lw_at lw_m1 168 rfl) rfl
theorem q172 : (Jvm.Cond.selects "GroupedNumbers" ({ cls := "GroupedNumbers", name := "read", desc := "(II)I" } : Jvm.MethodName) ({ cls := "GroupedNumbers", name := "read", desc := "(II)I" } : Jvm.MethodName)) ∈ lw_all := lw_g (lw_at lw_m1 169 rfl) rfl
theorem q173 : (Jvm.Cond.codeWith ({ cls := "GroupedNumbers", name := "read", desc := "(II)I" } : Jvm.MethodName) prog_1_method_5_code (5 : Nat) (Option.some Jvm.ClassFile.FieldType.int) [((40 : Nat), (87 : Nat), (90 : Nat), (63 : Nat))]) ∈ lw_all := lw_g (lw_at lw_m1 170 rfl) rfl
theorem q174 : (Jvm.Cond.classLink "GroupedNumbers" (63 : Nat) "java/lang/IllegalStateException") ∈ lw_all := lw_g (lw_at lw_m1 171 rfl) rfl
theorem q175 : (Jvm.Cond.methodLink "GroupedNumbers" (47 : Nat) ({ cls := "GroupedNumbers$Reader", name := "open", desc := "([BII)V" } : Jvm.MethodName)) ∈ lw_all := lw_g (lw_at lw_m1 172 rfl) rfl
theorem q179 : (Jvm.Cond.methodLink "GroupedNumbers" (51 : Nat) ({ cls := "GroupedNumbers$Reader", name := "number", desc := "()J" } : Jvm.MethodName)) ∈ lw_all := lw_g (lw_at lw_m1 176 rfl) rfl
theorem q195 : (Jvm.Cond.methodLink "GroupedNumbers" (55 : Nat) ({ cls := "GroupedNumbers$Reader", name := "signed", desc := "(I)J" } : Jvm.MethodName)) ∈ lw_all := lw_g (lw_at lw_m1 192 rfl) rfl
theorem q204 : (Jvm.Cond.instanceMethod ({ cls := "GroupedNumbers", name := "value", desc := "()J" } : Jvm.MethodName)) ∈ lw_all := lw_g (lw_at lw_m1 201 rfl) rfl
theorem q205 : (Jvm.Cond.selects "GroupedNumbers" ({ cls := "GroupedNumbers", name := "value", desc := "()J" } : Jvm.MethodName) ({ cls := "GroupedNumbers", name := "value", desc := "()J" } : Jvm.MethodName)) ∈ lw_all := lw_g (lw_at lw_m1 202 rfl) rfl
theorem q206 : (Jvm.Cond.code ({ cls := "GroupedNumbers", name := "value", desc := "()J" } : Jvm.MethodName) prog_1_method_6_code (1 : Nat) (Option.some Jvm.ClassFile.FieldType.long)) ∈ lw_all := lw_g (lw_at lw_m1 203 rfl) rfl
theorem q208 : (Jvm.Cond.instanceMethod ({ cls := "GroupedNumbers", name := "write", desc := "(IJ)I" } : Jvm.MethodName)) ∈ lw_all := lw_g (lw_at lw_m1 205 rfl) rfl
theorem q209 : (Jvm.Cond.selects "GroupedNumbers" ({ cls := "GroupedNumbers", name := "write", desc := "(IJ)I" } : Jvm.MethodName) ({ cls := "GroupedNumbers", name := "write", desc := "(IJ)I" } : Jvm.MethodName)) ∈ lw_all := lw_g (lw_at lw_m1 206 rfl) rfl
theorem q210 : (Jvm.Cond.code ({ cls := "GroupedNumbers", name := "write", desc := "(IJ)I" } : Jvm.MethodName) prog_1_method_8_code (5 : Nat) (Option.some Jvm.ClassFile.FieldType.int)) ∈ lw_all := lw_g (lw_at lw_m1 207 rfl) rfl
theorem q211 : (Jvm.Cond.constantLong "GroupedNumbers" (74 : Nat) (4294967295 : Int64)) ∈ lw_all := lw_g (lw_at lw_m1 208 rfl) rfl
theorem q212 : (Jvm.Cond.methodLink "GroupedNumbers" (76 : Nat) ({ cls := "GroupedNumbers", name := "needs", desc := "(IJ)I" } : Jvm.MethodName)) ∈ lw_all := lw_g (lw_at lw_m1 209 rfl) rfl
theorem q213 : (Jvm.Cond.static ({ cls := "GroupedNumbers", name := "needs", desc := "(IJ)I" } : Jvm.MethodName)) ∈ lw_all := lw_g (lw_at lw_m1 210 rfl) rfl
theorem q214 : (Jvm.Cond.code ({ cls := "GroupedNumbers", name := "needs", desc := "(IJ)I" } : Jvm.MethodName) prog_1_method_7_code (6 : Nat) (Option.some Jvm.ClassFile.FieldType.int)) ∈ lw_all := lw_g (lw_at lw_m1 211 rfl) rfl
theorem q215 : (Jvm.Cond.constantLong "GroupedNumbers" (68 : Nat) (127 : Int64)) ∈ lw_all := lw_g (lw_at lw_m1 212 rfl) rfl
theorem q216 : (Jvm.Cond.constantLong "GroupedNumbers" (70 : Nat) (-64 : Int64)) ∈ lw_all := lw_g (lw_at lw_m1 213 rfl) rfl
theorem q217 : (Jvm.Cond.constantLong "GroupedNumbers" (72 : Nat) (63 : Int64)) ∈ lw_all := lw_g (lw_at lw_m1 214 rfl) rfl
theorem q218 : (Jvm.Cond.methodLink "GroupedNumbers" (81 : Nat) ({ cls := "GroupedNumbers$Out", name := "number", desc := "(J)V" } : Jvm.MethodName)) ∈ lw_all := lw_g (lw_at lw_m1 215 rfl) rfl
theorem q227 : (Jvm.Cond.methodLink "GroupedNumbers" (84 : Nat) ({ cls := "GroupedNumbers$Out", name := "signed", desc := "(J)V" } : Jvm.MethodName)) ∈ lw_all := lw_g (lw_at lw_m1 224 rfl) rfl
theorem q234 : (Jvm.Cond.instanceMethod ({ cls := "GroupedNumbers", name := "size", desc := "()I" } : Jvm.MethodName)) ∈ lw_all := lw_g (lw_at lw_m1 231 rfl) rfl
theorem q235 : (Jvm.Cond.selects "GroupedNumbers" ({ cls := "GroupedNumbers", name := "size", desc := "()I" } : Jvm.MethodName) ({ cls := "GroupedNumbers", name := "size", desc := "()I" } : Jvm.MethodName)) ∈ lw_all := lw_g (lw_at lw_m1 232 rfl) rfl
theorem q236 : (Jvm.Cond.code ({ cls := "GroupedNumbers", name := "size", desc := "()I" } : Jvm.MethodName) prog_1_method_9_code (1 : Nat) (Option.some Jvm.ClassFile.FieldType.int)) ∈ lw_all := lw_g (lw_at lw_m1 233 rfl) rfl
theorem q238 : (Jvm.Cond.instanceMethod ({ cls := "GroupedNumbers", name := "at", desc := "(I)I" } : Jvm.MethodName)) ∈ lw_all := lw_g (lw_at lw_m1 235 rfl) rfl
theorem q239 : (Jvm.Cond.selects "GroupedNumbers" ({ cls := "GroupedNumbers", name := "at", desc := "(I)I" } : Jvm.MethodName) ({ cls := "GroupedNumbers", name := "at", desc := "(I)I" } : Jvm.MethodName)) ∈ lw_all := lw_g (lw_at lw_m1 236 rfl) rfl
theorem q240 : (Jvm.Cond.code ({ cls := "GroupedNumbers", name := "at", desc := "(I)I" } : Jvm.MethodName) prog_1_method_10_code (2 : Nat) (Option.some Jvm.ClassFile.FieldType.int)) ∈ lw_all := lw_g (lw_at lw_m1 237 rfl) rfl
theorem q242 : (Jvm.Cond.instanceMethod ({ cls := "GroupedNumbers", name := "clear", desc := "()V" } : Jvm.MethodName)) ∈ lw_all := lw_g (lw_at lw_m1 239 rfl) rfl
theorem q243 : (Jvm.Cond.selects "GroupedNumbers" ({ cls := "GroupedNumbers", name := "clear", desc := "()V" } : Jvm.MethodName) ({ cls := "GroupedNumbers", name := "clear", desc := "()V" } : Jvm.MethodName)) ∈ lw_all := lw_g (lw_at lw_m2 0 rfl) rfl
theorem q244 : (Jvm.Cond.code ({ cls := "GroupedNumbers", name := "clear", desc := "()V" } : Jvm.MethodName) prog_1_method_11_code (1 : Nat) (Option.none : Option Jvm.ClassFile.FieldType)) ∈ lw_all := lw_g (lw_at lw_m2 1 rfl) rfl
theorem q245 : (Jvm.Cond.methodLink "GroupedNumbers" (89 : Nat) ({ cls := "GroupedNumbers$Out", name := "clear", desc := "()V" } : Jvm.MethodName)) ∈ lw_all := lw_g (lw_at lw_m2 2 rfl) rfl
theorem in_X0 : ∀ w ∈ wsX00, w ∈ lw_all := lw_in wsX00 [145, 147, 149, 151, 153, 155] (by decide +kernel) (by decide +kernel)
end
section
set_option maxRecDepth 100000
/-! GroupedNumbersModel -/
def RX4 : String := "GroupedNumbersModel"
def TX4 : u_T := fun k => match k with
  | 0 => ("GroupedNumbersModel", "row", "[B", true)
  | 1 => ("GroupedNumbersModel", "out", "[B", true)
  | 2 => ("GroupedNumbersModel", "rows", "I", false)
  | 3 => ("GroupedNumbersModel", "outs", "I", false)
  | _ => ("GroupedNumbersModel", "value", "J", false)
def tyX4 : Nat → FieldType := fun k => match k with
  | 0 => .array .byte
  | 1 => .array .byte
  | 2 => .int
  | 3 => .int
  | _ => .long
abbrev wsX40 : List Cond := u_ws RX4 TX4 5
theorem nmX4 : ∀ a, a < 5 → ∀ b, b < 5 → a ≠ b → (TX4 a).2.1 ≠ (TX4 b).2.1 := by decide +kernel
theorem tyX4_ok : ∀ k, k < 5 → parseFieldDescriptor (TX4 k).2.2.1 = some (tyX4 k) := by decide +kernel
abbrev cX4_init : ByteArray := prog_6_method_1_code
def yX4_init : MethodName := ⟨RX4, "<init>", "()V"⟩
theorem dX4_init_0 : decode cX4_init 0 = .ok (.aload_n 0, 1) := by decide +kernel
theorem dX4_init_1 : decode cX4_init 1 = .ok (.invokespecial 1, 3) := by decide +kernel
theorem dX4_init_4 : decode cX4_init 4 = .ok (.aload_n 0, 1) := by decide +kernel
theorem dX4_init_5 : decode cX4_init 5 = .ok (.sipush 1000, 3) := by decide +kernel
theorem dX4_init_8 : decode cX4_init 8 = .ok (.newarray .byte, 2) := by decide +kernel
theorem dX4_init_10 : decode cX4_init 10 = .ok (.putfield 9, 3) := by decide +kernel
theorem dX4_init_13 : decode cX4_init 13 = .ok (.aload_n 0, 1) := by decide +kernel
theorem dX4_init_14 : decode cX4_init 14 = .ok (.sipush 1000, 3) := by decide +kernel
theorem dX4_init_17 : decode cX4_init 17 = .ok (.newarray .byte, 2) := by decide +kernel
theorem dX4_init_19 : decode cX4_init 19 = .ok (.putfield 13, 3) := by decide +kernel
theorem dX4_init_22 : decode cX4_init 22 = .ok (.return_, 1) := by decide +kernel
abbrev cX4_feed : ByteArray := prog_6_method_3_code
def yX4_feed : MethodName := ⟨RX4, "feed", "(IIIII)I"⟩
theorem dX4_feed_0 : decode cX4_feed 0 = .ok (.aload_n 0, 1) := by decide +kernel
theorem dX4_feed_1 : decode cX4_feed 1 = .ok (.getfield 16, 3) := by decide +kernel
theorem dX4_feed_4 : decode cX4_feed 4 = .ok (.bipush 20, 2) := by decide +kernel
theorem dX4_feed_6 : decode cX4_feed 6 = .ok (.iadd, 1) := by decide +kernel
theorem dX4_feed_7 : decode cX4_feed 7 = .ok (.sipush 1000, 3) := by decide +kernel
theorem dX4_feed_10 : decode cX4_feed 10 = .ok (.if_icmp .le 5, 3) := by decide +kernel
theorem dX4_feed_13 : decode cX4_feed 13 = .ok (.iconst (-1), 1) := by decide +kernel
theorem dX4_feed_14 : decode cX4_feed 14 = .ok (.ireturn, 1) := by decide +kernel
theorem dX4_feed_15 : decode cX4_feed 15 = .ok (.aload_n 0, 1) := by decide +kernel
theorem dX4_feed_16 : decode cX4_feed 16 = .ok (.iload_n 1, 1) := by decide +kernel
theorem dX4_feed_17 : decode cX4_feed 17 = .ok (.invokevirtual 20, 3) := by decide +kernel
theorem dX4_feed_20 : decode cX4_feed 20 = .ok (.aload_n 0, 1) := by decide +kernel
theorem dX4_feed_21 : decode cX4_feed 21 = .ok (.iload_n 2, 1) := by decide +kernel
theorem dX4_feed_22 : decode cX4_feed 22 = .ok (.invokevirtual 20, 3) := by decide +kernel
theorem dX4_feed_25 : decode cX4_feed 25 = .ok (.aload_n 0, 1) := by decide +kernel
theorem dX4_feed_26 : decode cX4_feed 26 = .ok (.iload_n 3, 1) := by decide +kernel
theorem dX4_feed_27 : decode cX4_feed 27 = .ok (.invokevirtual 20, 3) := by decide +kernel
theorem dX4_feed_30 : decode cX4_feed 30 = .ok (.aload_n 0, 1) := by decide +kernel
theorem dX4_feed_31 : decode cX4_feed 31 = .ok (.iload 4, 2) := by decide +kernel
theorem dX4_feed_33 : decode cX4_feed 33 = .ok (.invokevirtual 20, 3) := by decide +kernel
theorem dX4_feed_36 : decode cX4_feed 36 = .ok (.aload_n 0, 1) := by decide +kernel
theorem dX4_feed_37 : decode cX4_feed 37 = .ok (.iload 5, 2) := by decide +kernel
theorem dX4_feed_39 : decode cX4_feed 39 = .ok (.invokevirtual 20, 3) := by decide +kernel
theorem dX4_feed_42 : decode cX4_feed 42 = .ok (.aload_n 0, 1) := by decide +kernel
theorem dX4_feed_43 : decode cX4_feed 43 = .ok (.getfield 16, 3) := by decide +kernel
theorem dX4_feed_46 : decode cX4_feed 46 = .ok (.ireturn, 1) := by decide +kernel
abbrev cX4_word : ByteArray := prog_6_method_4_code
def yX4_word : MethodName := ⟨RX4, "word", "(I)V"⟩
theorem dX4_word_0 : decode cX4_word 0 = .ok (.iconst 0, 1) := by decide +kernel
theorem dX4_word_1 : decode cX4_word 1 = .ok (.istore_n 2, 1) := by decide +kernel
theorem dX4_word_2 : decode cX4_word 2 = .ok (.iload_n 2, 1) := by decide +kernel
theorem dX4_word_3 : decode cX4_word 3 = .ok (.iconst 4, 1) := by decide +kernel
theorem dX4_word_4 : decode cX4_word 4 = .ok (.if_icmp .ge 38, 3) := by decide +kernel
theorem dX4_word_7 : decode cX4_word 7 = .ok (.aload_n 0, 1) := by decide +kernel
theorem dX4_word_8 : decode cX4_word 8 = .ok (.getfield 9, 3) := by decide +kernel
theorem dX4_word_11 : decode cX4_word 11 = .ok (.aload_n 0, 1) := by decide +kernel
theorem dX4_word_12 : decode cX4_word 12 = .ok (.getfield 16, 3) := by decide +kernel
theorem dX4_word_15 : decode cX4_word 15 = .ok (.iload_n 1, 1) := by decide +kernel
theorem dX4_word_16 : decode cX4_word 16 = .ok (.bipush 24, 2) := by decide +kernel
theorem dX4_word_18 : decode cX4_word 18 = .ok (.bipush 8, 2) := by decide +kernel
theorem dX4_word_20 : decode cX4_word 20 = .ok (.iload_n 2, 1) := by decide +kernel
theorem dX4_word_21 : decode cX4_word 21 = .ok (.imul, 1) := by decide +kernel
theorem dX4_word_22 : decode cX4_word 22 = .ok (.isub, 1) := by decide +kernel
theorem dX4_word_23 : decode cX4_word 23 = .ok (.ishr, 1) := by decide +kernel
theorem dX4_word_24 : decode cX4_word 24 = .ok (.i2b, 1) := by decide +kernel
theorem dX4_word_25 : decode cX4_word 25 = .ok (.bastore, 1) := by decide +kernel
theorem dX4_word_26 : decode cX4_word 26 = .ok (.aload_n 0, 1) := by decide +kernel
theorem dX4_word_27 : decode cX4_word 27 = .ok (.dup, 1) := by decide +kernel
theorem dX4_word_28 : decode cX4_word 28 = .ok (.getfield 16, 3) := by decide +kernel
theorem dX4_word_31 : decode cX4_word 31 = .ok (.iconst 1, 1) := by decide +kernel
theorem dX4_word_32 : decode cX4_word 32 = .ok (.iadd, 1) := by decide +kernel
theorem dX4_word_33 : decode cX4_word 33 = .ok (.putfield 16, 3) := by decide +kernel
theorem dX4_word_36 : decode cX4_word 36 = .ok (.iinc 2 1, 3) := by decide +kernel
theorem dX4_word_39 : decode cX4_word 39 = .ok (.goto (-37), 3) := by decide +kernel
theorem dX4_word_42 : decode cX4_word 42 = .ok (.return_, 1) := by decide +kernel
abbrev cX4_end : ByteArray := prog_6_method_5_code
def yX4_end : MethodName := ⟨RX4, "end", "(I)I"⟩
theorem dX4_end_0 : decode cX4_end 0 = .ok (.iload_n 1, 1) := by decide +kernel
theorem dX4_end_1 : decode cX4_end 1 = .ok (.ifCond .lt 11, 3) := by decide +kernel
theorem dX4_end_4 : decode cX4_end 4 = .ok (.iload_n 1, 1) := by decide +kernel
theorem dX4_end_5 : decode cX4_end 5 = .ok (.aload_n 0, 1) := by decide +kernel
theorem dX4_end_6 : decode cX4_end 6 = .ok (.getfield 16, 3) := by decide +kernel
theorem dX4_end_9 : decode cX4_end 9 = .ok (.if_icmp .le 5, 3) := by decide +kernel
theorem dX4_end_12 : decode cX4_end 12 = .ok (.iconst (-1), 1) := by decide +kernel
theorem dX4_end_13 : decode cX4_end 13 = .ok (.ireturn, 1) := by decide +kernel
theorem dX4_end_14 : decode cX4_end 14 = .ok (.aload_n 0, 1) := by decide +kernel
theorem dX4_end_15 : decode cX4_end 15 = .ok (.iload_n 1, 1) := by decide +kernel
theorem dX4_end_16 : decode cX4_end 16 = .ok (.putfield 16, 3) := by decide +kernel
theorem dX4_end_19 : decode cX4_end 19 = .ok (.iload_n 1, 1) := by decide +kernel
theorem dX4_end_20 : decode cX4_end 20 = .ok (.ireturn, 1) := by decide +kernel
abbrev cX4_read : ByteArray := prog_6_method_6_code
def yX4_read : MethodName := ⟨RX4, "read", "(II)I"⟩
theorem dX4_read_0 : decode cX4_read 0 = .ok (.iload_n 1, 1) := by decide +kernel
theorem dX4_read_1 : decode cX4_read 1 = .ok (.ifCond .lt 20, 3) := by decide +kernel
theorem dX4_read_4 : decode cX4_read 4 = .ok (.iload_n 1, 1) := by decide +kernel
theorem dX4_read_5 : decode cX4_read 5 = .ok (.iconst 2, 1) := by decide +kernel
theorem dX4_read_6 : decode cX4_read 6 = .ok (.if_icmp .gt 15, 3) := by decide +kernel
theorem dX4_read_9 : decode cX4_read 9 = .ok (.iload_n 2, 1) := by decide +kernel
theorem dX4_read_10 : decode cX4_read 10 = .ok (.ifCond .lt 11, 3) := by decide +kernel
theorem dX4_read_13 : decode cX4_read 13 = .ok (.iload_n 2, 1) := by decide +kernel
theorem dX4_read_14 : decode cX4_read 14 = .ok (.aload_n 0, 1) := by decide +kernel
theorem dX4_read_15 : decode cX4_read 15 = .ok (.getfield 16, 3) := by decide +kernel
theorem dX4_read_18 : decode cX4_read 18 = .ok (.if_icmp .le 6, 3) := by decide +kernel
theorem dX4_read_21 : decode cX4_read 21 = .ok (.bipush (-2), 2) := by decide +kernel
theorem dX4_read_23 : decode cX4_read 23 = .ok (.ireturn, 1) := by decide +kernel
theorem dX4_read_24 : decode cX4_read 24 = .ok (.iload_n 1, 1) := by decide +kernel
theorem dX4_read_25 : decode cX4_read 25 = .ok (.iconst 2, 1) := by decide +kernel
theorem dX4_read_26 : decode cX4_read 26 = .ok (.if_icmp .ne 8, 3) := by decide +kernel
theorem dX4_read_29 : decode cX4_read 29 = .ok (.bipush 10, 2) := by decide +kernel
theorem dX4_read_31 : decode cX4_read 31 = .ok (.goto 4, 3) := by decide +kernel
theorem dX4_read_34 : decode cX4_read 34 = .ok (.iconst 5, 1) := by decide +kernel
theorem dX4_read_35 : decode cX4_read 35 = .ok (.istore_n 3, 1) := by decide +kernel
theorem dX4_read_36 : decode cX4_read 36 = .ok (.iconst 0, 1) := by decide +kernel
theorem dX4_read_37 : decode cX4_read 37 = .ok (.istore 4, 2) := by decide +kernel
theorem dX4_read_39 : decode cX4_read 39 = .ok (.iload 4, 2) := by decide +kernel
theorem dX4_read_41 : decode cX4_read 41 = .ok (.iload_n 3, 1) := by decide +kernel
theorem dX4_read_42 : decode cX4_read 42 = .ok (.if_icmp .ge 32, 3) := by decide +kernel
theorem dX4_read_45 : decode cX4_read 45 = .ok (.iload_n 2, 1) := by decide +kernel
theorem dX4_read_46 : decode cX4_read 46 = .ok (.iload 4, 2) := by decide +kernel
theorem dX4_read_48 : decode cX4_read 48 = .ok (.iadd, 1) := by decide +kernel
theorem dX4_read_49 : decode cX4_read 49 = .ok (.aload_n 0, 1) := by decide +kernel
theorem dX4_read_50 : decode cX4_read 50 = .ok (.getfield 16, 3) := by decide +kernel
theorem dX4_read_53 : decode cX4_read 53 = .ok (.if_icmp .ge 21, 3) := by decide +kernel
theorem dX4_read_56 : decode cX4_read 56 = .ok (.aload_n 0, 1) := by decide +kernel
theorem dX4_read_57 : decode cX4_read 57 = .ok (.getfield 9, 3) := by decide +kernel
theorem dX4_read_60 : decode cX4_read 60 = .ok (.iload_n 2, 1) := by decide +kernel
theorem dX4_read_61 : decode cX4_read 61 = .ok (.iload 4, 2) := by decide +kernel
theorem dX4_read_63 : decode cX4_read 63 = .ok (.iadd, 1) := by decide +kernel
theorem dX4_read_64 : decode cX4_read 64 = .ok (.baload, 1) := by decide +kernel
theorem dX4_read_65 : decode cX4_read 65 = .ok (.ifCond .ge 9, 3) := by decide +kernel
theorem dX4_read_68 : decode cX4_read 68 = .ok (.iinc 4 1, 3) := by decide +kernel
theorem dX4_read_71 : decode cX4_read 71 = .ok (.goto (-32), 3) := by decide +kernel
theorem dX4_read_74 : decode cX4_read 74 = .ok (.iload 4, 2) := by decide +kernel
theorem dX4_read_76 : decode cX4_read 76 = .ok (.iload_n 3, 1) := by decide +kernel
theorem dX4_read_77 : decode cX4_read 77 = .ok (.if_icmp .eq 14, 3) := by decide +kernel
theorem dX4_read_80 : decode cX4_read 80 = .ok (.iload_n 2, 1) := by decide +kernel
theorem dX4_read_81 : decode cX4_read 81 = .ok (.iload 4, 2) := by decide +kernel
theorem dX4_read_83 : decode cX4_read 83 = .ok (.iadd, 1) := by decide +kernel
theorem dX4_read_84 : decode cX4_read 84 = .ok (.aload_n 0, 1) := by decide +kernel
theorem dX4_read_85 : decode cX4_read 85 = .ok (.getfield 16, 3) := by decide +kernel
theorem dX4_read_88 : decode cX4_read 88 = .ok (.if_icmp .lt 5, 3) := by decide +kernel
theorem dX4_read_91 : decode cX4_read 91 = .ok (.iconst (-1), 1) := by decide +kernel
theorem dX4_read_92 : decode cX4_read 92 = .ok (.ireturn, 1) := by decide +kernel
theorem dX4_read_93 : decode cX4_read 93 = .ok (.iinc 4 1, 3) := by decide +kernel
theorem dX4_read_96 : decode cX4_read 96 = .ok (.aload_n 0, 1) := by decide +kernel
theorem dX4_read_97 : decode cX4_read 97 = .ok (.getfield 9, 3) := by decide +kernel
theorem dX4_read_100 : decode cX4_read 100 = .ok (.iload_n 2, 1) := by decide +kernel
theorem dX4_read_101 : decode cX4_read 101 = .ok (.iload 4, 2) := by decide +kernel
theorem dX4_read_103 : decode cX4_read 103 = .ok (.iadd, 1) := by decide +kernel
theorem dX4_read_104 : decode cX4_read 104 = .ok (.iconst 1, 1) := by decide +kernel
theorem dX4_read_105 : decode cX4_read 105 = .ok (.isub, 1) := by decide +kernel
theorem dX4_read_106 : decode cX4_read 106 = .ok (.baload, 1) := by decide +kernel
theorem dX4_read_107 : decode cX4_read 107 = .ok (.istore 5, 2) := by decide +kernel
theorem dX4_read_109 : decode cX4_read 109 = .ok (.iload 4, 2) := by decide +kernel
theorem dX4_read_111 : decode cX4_read 111 = .ok (.iload_n 3, 1) := by decide +kernel
theorem dX4_read_112 : decode cX4_read 112 = .ok (.if_icmp .ne 16, 3) := by decide +kernel
theorem dX4_read_115 : decode cX4_read 115 = .ok (.iload_n 1, 1) := by decide +kernel
theorem dX4_read_116 : decode cX4_read 116 = .ok (.ifCond .ne 12, 3) := by decide +kernel
theorem dX4_read_119 : decode cX4_read 119 = .ok (.iload 5, 2) := by decide +kernel
theorem dX4_read_121 : decode cX4_read 121 = .ok (.bipush 15, 2) := by decide +kernel
theorem dX4_read_123 : decode cX4_read 123 = .ok (.if_icmp .le 5, 3) := by decide +kernel
theorem dX4_read_126 : decode cX4_read 126 = .ok (.iconst (-1), 1) := by decide +kernel
theorem dX4_read_127 : decode cX4_read 127 = .ok (.ireturn, 1) := by decide +kernel
theorem dX4_read_128 : decode cX4_read 128 = .ok (.iload 4, 2) := by decide +kernel
theorem dX4_read_130 : decode cX4_read 130 = .ok (.iload_n 3, 1) := by decide +kernel
theorem dX4_read_131 : decode cX4_read 131 = .ok (.if_icmp .ne 24, 3) := by decide +kernel
theorem dX4_read_134 : decode cX4_read 134 = .ok (.iload_n 1, 1) := by decide +kernel
theorem dX4_read_135 : decode cX4_read 135 = .ok (.iconst 1, 1) := by decide +kernel
theorem dX4_read_136 : decode cX4_read 136 = .ok (.if_icmp .ne 19, 3) := by decide +kernel
theorem dX4_read_139 : decode cX4_read 139 = .ok (.iload 5, 2) := by decide +kernel
theorem dX4_read_141 : decode cX4_read 141 = .ok (.bipush 7, 2) := by decide +kernel
theorem dX4_read_143 : decode cX4_read 143 = .ok (.if_icmp .le 12, 3) := by decide +kernel
theorem dX4_read_146 : decode cX4_read 146 = .ok (.iload 5, 2) := by decide +kernel
theorem dX4_read_148 : decode cX4_read 148 = .ok (.bipush 120, 2) := by decide +kernel
theorem dX4_read_150 : decode cX4_read 150 = .ok (.if_icmp .ge 5, 3) := by decide +kernel
theorem dX4_read_153 : decode cX4_read 153 = .ok (.iconst (-1), 1) := by decide +kernel
theorem dX4_read_154 : decode cX4_read 154 = .ok (.ireturn, 1) := by decide +kernel
theorem dX4_read_155 : decode cX4_read 155 = .ok (.iload 4, 2) := by decide +kernel
theorem dX4_read_157 : decode cX4_read 157 = .ok (.iload_n 3, 1) := by decide +kernel
theorem dX4_read_158 : decode cX4_read 158 = .ok (.if_icmp .ne 22, 3) := by decide +kernel
theorem dX4_read_161 : decode cX4_read 161 = .ok (.iload_n 1, 1) := by decide +kernel
theorem dX4_read_162 : decode cX4_read 162 = .ok (.iconst 2, 1) := by decide +kernel
theorem dX4_read_163 : decode cX4_read 163 = .ok (.if_icmp .ne 17, 3) := by decide +kernel
theorem dX4_read_166 : decode cX4_read 166 = .ok (.iload 5, 2) := by decide +kernel
theorem dX4_read_168 : decode cX4_read 168 = .ok (.ifCond .le 12, 3) := by decide +kernel
theorem dX4_read_171 : decode cX4_read 171 = .ok (.iload 5, 2) := by decide +kernel
theorem dX4_read_173 : decode cX4_read 173 = .ok (.bipush 127, 2) := by decide +kernel
theorem dX4_read_175 : decode cX4_read 175 = .ok (.if_icmp .ge 5, 3) := by decide +kernel
theorem dX4_read_178 : decode cX4_read 178 = .ok (.iconst (-1), 1) := by decide +kernel
theorem dX4_read_179 : decode cX4_read 179 = .ok (.ireturn, 1) := by decide +kernel
theorem dX4_read_180 : decode cX4_read 180 = .ok (.iload_n 1, 1) := by decide +kernel
theorem dX4_read_181 : decode cX4_read 181 = .ok (.ifCond .le 16, 3) := by decide +kernel
theorem dX4_read_184 : decode cX4_read 184 = .ok (.iload 5, 2) := by decide +kernel
theorem dX4_read_186 : decode cX4_read 186 = .ok (.bipush 63, 2) := by decide +kernel
theorem dX4_read_188 : decode cX4_read 188 = .ok (.if_icmp .le 9, 3) := by decide +kernel
theorem dX4_read_191 : decode cX4_read 191 = .ok (.ldc2_w 24, 3) := by decide +kernel
theorem dX4_read_194 : decode cX4_read 194 = .ok (.goto 4, 3) := by decide +kernel
theorem dX4_read_197 : decode cX4_read 197 = .ok (.lconst 0, 1) := by decide +kernel
theorem dX4_read_198 : decode cX4_read 198 = .ok (.lstore 6, 2) := by decide +kernel
theorem dX4_read_200 : decode cX4_read 200 = .ok (.iload 4, 2) := by decide +kernel
theorem dX4_read_202 : decode cX4_read 202 = .ok (.iconst 1, 1) := by decide +kernel
theorem dX4_read_203 : decode cX4_read 203 = .ok (.isub, 1) := by decide +kernel
theorem dX4_read_204 : decode cX4_read 204 = .ok (.istore 8, 2) := by decide +kernel
theorem dX4_read_206 : decode cX4_read 206 = .ok (.iload 8, 2) := by decide +kernel
theorem dX4_read_208 : decode cX4_read 208 = .ok (.ifCond .lt 30, 3) := by decide +kernel
theorem dX4_read_211 : decode cX4_read 211 = .ok (.lload 6, 2) := by decide +kernel
theorem dX4_read_213 : decode cX4_read 213 = .ok (.bipush 7, 2) := by decide +kernel
theorem dX4_read_215 : decode cX4_read 215 = .ok (.lshl, 1) := by decide +kernel
theorem dX4_read_216 : decode cX4_read 216 = .ok (.aload_n 0, 1) := by decide +kernel
theorem dX4_read_217 : decode cX4_read 217 = .ok (.getfield 9, 3) := by decide +kernel
theorem dX4_read_220 : decode cX4_read 220 = .ok (.iload_n 2, 1) := by decide +kernel
theorem dX4_read_221 : decode cX4_read 221 = .ok (.iload 8, 2) := by decide +kernel
theorem dX4_read_223 : decode cX4_read 223 = .ok (.iadd, 1) := by decide +kernel
theorem dX4_read_224 : decode cX4_read 224 = .ok (.baload, 1) := by decide +kernel
theorem dX4_read_225 : decode cX4_read 225 = .ok (.bipush 127, 2) := by decide +kernel
theorem dX4_read_227 : decode cX4_read 227 = .ok (.iand, 1) := by decide +kernel
theorem dX4_read_228 : decode cX4_read 228 = .ok (.i2l, 1) := by decide +kernel
theorem dX4_read_229 : decode cX4_read 229 = .ok (.lor, 1) := by decide +kernel
theorem dX4_read_230 : decode cX4_read 230 = .ok (.lstore 6, 2) := by decide +kernel
theorem dX4_read_232 : decode cX4_read 232 = .ok (.iinc 8 (-1), 3) := by decide +kernel
theorem dX4_read_235 : decode cX4_read 235 = .ok (.goto (-29), 3) := by decide +kernel
theorem dX4_read_238 : decode cX4_read 238 = .ok (.aload_n 0, 1) := by decide +kernel
theorem dX4_read_239 : decode cX4_read 239 = .ok (.iload_n 1, 1) := by decide +kernel
theorem dX4_read_240 : decode cX4_read 240 = .ok (.iconst 1, 1) := by decide +kernel
theorem dX4_read_241 : decode cX4_read 241 = .ok (.if_icmp .ne 10, 3) := by decide +kernel
theorem dX4_read_244 : decode cX4_read 244 = .ok (.lload 6, 2) := by decide +kernel
theorem dX4_read_246 : decode cX4_read 246 = .ok (.l2i, 1) := by decide +kernel
theorem dX4_read_247 : decode cX4_read 247 = .ok (.i2l, 1) := by decide +kernel
theorem dX4_read_248 : decode cX4_read 248 = .ok (.goto 5, 3) := by decide +kernel
theorem dX4_read_251 : decode cX4_read 251 = .ok (.lload 6, 2) := by decide +kernel
theorem dX4_read_253 : decode cX4_read 253 = .ok (.putfield 26, 3) := by decide +kernel
theorem dX4_read_256 : decode cX4_read 256 = .ok (.iload 4, 2) := by decide +kernel
theorem dX4_read_258 : decode cX4_read 258 = .ok (.ireturn, 1) := by decide +kernel
abbrev cX4_value : ByteArray := prog_6_method_7_code
def yX4_value : MethodName := ⟨RX4, "value", "()J"⟩
theorem dX4_value_0 : decode cX4_value 0 = .ok (.aload_n 0, 1) := by decide +kernel
theorem dX4_value_1 : decode cX4_value 1 = .ok (.getfield 26, 3) := by decide +kernel
theorem dX4_value_4 : decode cX4_value 4 = .ok (.lreturn, 1) := by decide +kernel
abbrev cX4_write : ByteArray := prog_6_method_9_code
def yX4_write : MethodName := ⟨RX4, "write", "(IJ)I"⟩
theorem dX4_write_0 : decode cX4_write 0 = .ok (.iload_n 1, 1) := by decide +kernel
theorem dX4_write_1 : decode cX4_write 1 = .ok (.ifCond .lt 8, 3) := by decide +kernel
theorem dX4_write_4 : decode cX4_write 4 = .ok (.iload_n 1, 1) := by decide +kernel
theorem dX4_write_5 : decode cX4_write 5 = .ok (.iconst 2, 1) := by decide +kernel
theorem dX4_write_6 : decode cX4_write 6 = .ok (.if_icmp .le 6, 3) := by decide +kernel
theorem dX4_write_9 : decode cX4_write 9 = .ok (.bipush (-2), 2) := by decide +kernel
theorem dX4_write_11 : decode cX4_write 11 = .ok (.ireturn, 1) := by decide +kernel
theorem dX4_write_12 : decode cX4_write 12 = .ok (.iload_n 1, 1) := by decide +kernel
theorem dX4_write_13 : decode cX4_write 13 = .ok (.ifCond .ne 17, 3) := by decide +kernel
theorem dX4_write_16 : decode cX4_write 16 = .ok (.lload_n 2, 1) := by decide +kernel
theorem dX4_write_17 : decode cX4_write 17 = .ok (.lconst 0, 1) := by decide +kernel
theorem dX4_write_18 : decode cX4_write 18 = .ok (.lcmp, 1) := by decide +kernel
theorem dX4_write_19 : decode cX4_write 19 = .ok (.ifCond .lt 24, 3) := by decide +kernel
theorem dX4_write_22 : decode cX4_write 22 = .ok (.lload_n 2, 1) := by decide +kernel
theorem dX4_write_23 : decode cX4_write 23 = .ok (.ldc2_w 30, 3) := by decide +kernel
theorem dX4_write_26 : decode cX4_write 26 = .ok (.lcmp, 1) := by decide +kernel
theorem dX4_write_27 : decode cX4_write 27 = .ok (.ifCond .gt 16, 3) := by decide +kernel
theorem dX4_write_30 : decode cX4_write 30 = .ok (.iload_n 1, 1) := by decide +kernel
theorem dX4_write_31 : decode cX4_write 31 = .ok (.iconst 1, 1) := by decide +kernel
theorem dX4_write_32 : decode cX4_write 32 = .ok (.if_icmp .ne 13, 3) := by decide +kernel
theorem dX4_write_35 : decode cX4_write 35 = .ok (.lload_n 2, 1) := by decide +kernel
theorem dX4_write_36 : decode cX4_write 36 = .ok (.lload_n 2, 1) := by decide +kernel
theorem dX4_write_37 : decode cX4_write 37 = .ok (.l2i, 1) := by decide +kernel
theorem dX4_write_38 : decode cX4_write 38 = .ok (.i2l, 1) := by decide +kernel
theorem dX4_write_39 : decode cX4_write 39 = .ok (.lcmp, 1) := by decide +kernel
theorem dX4_write_40 : decode cX4_write 40 = .ok (.ifCond .eq 5, 3) := by decide +kernel
theorem dX4_write_43 : decode cX4_write 43 = .ok (.iconst (-1), 1) := by decide +kernel
theorem dX4_write_44 : decode cX4_write 44 = .ok (.ireturn, 1) := by decide +kernel
theorem dX4_write_45 : decode cX4_write 45 = .ok (.iconst 1, 1) := by decide +kernel
theorem dX4_write_46 : decode cX4_write 46 = .ok (.istore 4, 2) := by decide +kernel
theorem dX4_write_48 : decode cX4_write 48 = .ok (.iload_n 1, 1) := by decide +kernel
theorem dX4_write_49 : decode cX4_write 49 = .ok (.lload_n 2, 1) := by decide +kernel
theorem dX4_write_50 : decode cX4_write 50 = .ok (.iload 4, 2) := by decide +kernel
theorem dX4_write_52 : decode cX4_write 52 = .ok (.invokestatic 32, 3) := by decide +kernel
theorem dX4_write_55 : decode cX4_write 55 = .ok (.ifCond .ne 9, 3) := by decide +kernel
theorem dX4_write_58 : decode cX4_write 58 = .ok (.iinc 4 1, 3) := by decide +kernel
theorem dX4_write_61 : decode cX4_write 61 = .ok (.goto (-13), 3) := by decide +kernel
theorem dX4_write_64 : decode cX4_write 64 = .ok (.aload_n 0, 1) := by decide +kernel
theorem dX4_write_65 : decode cX4_write 65 = .ok (.getfield 36, 3) := by decide +kernel
theorem dX4_write_68 : decode cX4_write 68 = .ok (.iload 4, 2) := by decide +kernel
theorem dX4_write_70 : decode cX4_write 70 = .ok (.iadd, 1) := by decide +kernel
theorem dX4_write_71 : decode cX4_write 71 = .ok (.sipush 1000, 3) := by decide +kernel
theorem dX4_write_74 : decode cX4_write 74 = .ok (.if_icmp .le 6, 3) := by decide +kernel
theorem dX4_write_77 : decode cX4_write 77 = .ok (.bipush (-2), 2) := by decide +kernel
theorem dX4_write_79 : decode cX4_write 79 = .ok (.ireturn, 1) := by decide +kernel
theorem dX4_write_80 : decode cX4_write 80 = .ok (.iconst 0, 1) := by decide +kernel
theorem dX4_write_81 : decode cX4_write 81 = .ok (.istore 5, 2) := by decide +kernel
theorem dX4_write_83 : decode cX4_write 83 = .ok (.iload 5, 2) := by decide +kernel
theorem dX4_write_85 : decode cX4_write 85 = .ok (.iload 4, 2) := by decide +kernel
theorem dX4_write_87 : decode cX4_write 87 = .ok (.if_icmp .ge 67, 3) := by decide +kernel
theorem dX4_write_90 : decode cX4_write 90 = .ok (.lload_n 2, 1) := by decide +kernel
theorem dX4_write_91 : decode cX4_write 91 = .ok (.bipush 7, 2) := by decide +kernel
theorem dX4_write_93 : decode cX4_write 93 = .ok (.iload 5, 2) := by decide +kernel
theorem dX4_write_95 : decode cX4_write 95 = .ok (.imul, 1) := by decide +kernel
theorem dX4_write_96 : decode cX4_write 96 = .ok (.bipush 63, 2) := by decide +kernel
theorem dX4_write_98 : decode cX4_write 98 = .ok (.invokestatic 39, 3) := by decide +kernel
theorem dX4_write_101 : decode cX4_write 101 = .ok (.lshr, 1) := by decide +kernel
theorem dX4_write_102 : decode cX4_write 102 = .ok (.l2i, 1) := by decide +kernel
theorem dX4_write_103 : decode cX4_write 103 = .ok (.bipush 127, 2) := by decide +kernel
theorem dX4_write_105 : decode cX4_write 105 = .ok (.iand, 1) := by decide +kernel
theorem dX4_write_106 : decode cX4_write 106 = .ok (.istore 6, 2) := by decide +kernel
theorem dX4_write_108 : decode cX4_write 108 = .ok (.aload_n 0, 1) := by decide +kernel
theorem dX4_write_109 : decode cX4_write 109 = .ok (.getfield 13, 3) := by decide +kernel
theorem dX4_write_112 : decode cX4_write 112 = .ok (.aload_n 0, 1) := by decide +kernel
theorem dX4_write_113 : decode cX4_write 113 = .ok (.getfield 36, 3) := by decide +kernel
theorem dX4_write_116 : decode cX4_write 116 = .ok (.iload 5, 2) := by decide +kernel
theorem dX4_write_118 : decode cX4_write 118 = .ok (.iload 4, 2) := by decide +kernel
theorem dX4_write_120 : decode cX4_write 120 = .ok (.iconst 1, 1) := by decide +kernel
theorem dX4_write_121 : decode cX4_write 121 = .ok (.isub, 1) := by decide +kernel
theorem dX4_write_122 : decode cX4_write 122 = .ok (.if_icmp .ge 12, 3) := by decide +kernel
theorem dX4_write_125 : decode cX4_write 125 = .ok (.iload 6, 2) := by decide +kernel
theorem dX4_write_127 : decode cX4_write 127 = .ok (.sipush 128, 3) := by decide +kernel
theorem dX4_write_130 : decode cX4_write 130 = .ok (.ior, 1) := by decide +kernel
theorem dX4_write_131 : decode cX4_write 131 = .ok (.goto 5, 3) := by decide +kernel
theorem dX4_write_134 : decode cX4_write 134 = .ok (.iload 6, 2) := by decide +kernel
theorem dX4_write_136 : decode cX4_write 136 = .ok (.i2b, 1) := by decide +kernel
theorem dX4_write_137 : decode cX4_write 137 = .ok (.bastore, 1) := by decide +kernel
theorem dX4_write_138 : decode cX4_write 138 = .ok (.aload_n 0, 1) := by decide +kernel
theorem dX4_write_139 : decode cX4_write 139 = .ok (.dup, 1) := by decide +kernel
theorem dX4_write_140 : decode cX4_write 140 = .ok (.getfield 36, 3) := by decide +kernel
theorem dX4_write_143 : decode cX4_write 143 = .ok (.iconst 1, 1) := by decide +kernel
theorem dX4_write_144 : decode cX4_write 144 = .ok (.iadd, 1) := by decide +kernel
theorem dX4_write_145 : decode cX4_write 145 = .ok (.putfield 36, 3) := by decide +kernel
theorem dX4_write_148 : decode cX4_write 148 = .ok (.iinc 5 1, 3) := by decide +kernel
theorem dX4_write_151 : decode cX4_write 151 = .ok (.goto (-68), 3) := by decide +kernel
theorem dX4_write_154 : decode cX4_write 154 = .ok (.iload 4, 2) := by decide +kernel
theorem dX4_write_156 : decode cX4_write 156 = .ok (.ireturn, 1) := by decide +kernel
abbrev cX4_isEnough : ByteArray := prog_6_method_8_code
def yX4_isEnough : MethodName := ⟨RX4, "isEnough", "(IJI)Z"⟩
theorem dX4_isEnough_0 : decode cX4_isEnough 0 = .ok (.bipush 7, 2) := by decide +kernel
theorem dX4_isEnough_2 : decode cX4_isEnough 2 = .ok (.iload_n 3, 1) := by decide +kernel
theorem dX4_isEnough_3 : decode cX4_isEnough 3 = .ok (.imul, 1) := by decide +kernel
theorem dX4_isEnough_4 : decode cX4_isEnough 4 = .ok (.istore 4, 2) := by decide +kernel
theorem dX4_isEnough_6 : decode cX4_isEnough 6 = .ok (.iload 4, 2) := by decide +kernel
theorem dX4_isEnough_8 : decode cX4_isEnough 8 = .ok (.bipush 63, 2) := by decide +kernel
theorem dX4_isEnough_10 : decode cX4_isEnough 10 = .ok (.if_icmp .le 5, 3) := by decide +kernel
theorem dX4_isEnough_13 : decode cX4_isEnough 13 = .ok (.iconst 1, 1) := by decide +kernel
theorem dX4_isEnough_14 : decode cX4_isEnough 14 = .ok (.ireturn, 1) := by decide +kernel
theorem dX4_isEnough_15 : decode cX4_isEnough 15 = .ok (.iload_n 0, 1) := by decide +kernel
theorem dX4_isEnough_16 : decode cX4_isEnough 16 = .ok (.ifCond .ne 20, 3) := by decide +kernel
theorem dX4_isEnough_19 : decode cX4_isEnough 19 = .ok (.lload_n 1, 1) := by decide +kernel
theorem dX4_isEnough_20 : decode cX4_isEnough 20 = .ok (.iload 4, 2) := by decide +kernel
theorem dX4_isEnough_22 : decode cX4_isEnough 22 = .ok (.lshr, 1) := by decide +kernel
theorem dX4_isEnough_23 : decode cX4_isEnough 23 = .ok (.lconst 0, 1) := by decide +kernel
theorem dX4_isEnough_24 : decode cX4_isEnough 24 = .ok (.lcmp, 1) := by decide +kernel
theorem dX4_isEnough_25 : decode cX4_isEnough 25 = .ok (.ifCond .ne 7, 3) := by decide +kernel
theorem dX4_isEnough_28 : decode cX4_isEnough 28 = .ok (.iconst 1, 1) := by decide +kernel
theorem dX4_isEnough_29 : decode cX4_isEnough 29 = .ok (.goto 36, 3) := by decide +kernel
theorem dX4_isEnough_32 : decode cX4_isEnough 32 = .ok (.iconst 0, 1) := by decide +kernel
theorem dX4_isEnough_33 : decode cX4_isEnough 33 = .ok (.goto 32, 3) := by decide +kernel
theorem dX4_isEnough_36 : decode cX4_isEnough 36 = .ok (.lload_n 1, 1) := by decide +kernel
theorem dX4_isEnough_37 : decode cX4_isEnough 37 = .ok (.iload 4, 2) := by decide +kernel
theorem dX4_isEnough_39 : decode cX4_isEnough 39 = .ok (.iconst 1, 1) := by decide +kernel
theorem dX4_isEnough_40 : decode cX4_isEnough 40 = .ok (.isub, 1) := by decide +kernel
theorem dX4_isEnough_41 : decode cX4_isEnough 41 = .ok (.lshr, 1) := by decide +kernel
theorem dX4_isEnough_42 : decode cX4_isEnough 42 = .ok (.lconst 0, 1) := by decide +kernel
theorem dX4_isEnough_43 : decode cX4_isEnough 43 = .ok (.lcmp, 1) := by decide +kernel
theorem dX4_isEnough_44 : decode cX4_isEnough 44 = .ok (.ifCond .eq 16, 3) := by decide +kernel
theorem dX4_isEnough_47 : decode cX4_isEnough 47 = .ok (.lload_n 1, 1) := by decide +kernel
theorem dX4_isEnough_48 : decode cX4_isEnough 48 = .ok (.iload 4, 2) := by decide +kernel
theorem dX4_isEnough_50 : decode cX4_isEnough 50 = .ok (.iconst 1, 1) := by decide +kernel
theorem dX4_isEnough_51 : decode cX4_isEnough 51 = .ok (.isub, 1) := by decide +kernel
theorem dX4_isEnough_52 : decode cX4_isEnough 52 = .ok (.lshr, 1) := by decide +kernel
theorem dX4_isEnough_53 : decode cX4_isEnough 53 = .ok (.ldc2_w 24, 3) := by decide +kernel
theorem dX4_isEnough_56 : decode cX4_isEnough 56 = .ok (.lcmp, 1) := by decide +kernel
theorem dX4_isEnough_57 : decode cX4_isEnough 57 = .ok (.ifCond .ne 7, 3) := by decide +kernel
theorem dX4_isEnough_60 : decode cX4_isEnough 60 = .ok (.iconst 1, 1) := by decide +kernel
theorem dX4_isEnough_61 : decode cX4_isEnough 61 = .ok (.goto 4, 3) := by decide +kernel
theorem dX4_isEnough_64 : decode cX4_isEnough 64 = .ok (.iconst 0, 1) := by decide +kernel
theorem dX4_isEnough_65 : decode cX4_isEnough 65 = .ok (.ireturn, 1) := by decide +kernel
abbrev cX4_size : ByteArray := prog_6_method_10_code
def yX4_size : MethodName := ⟨RX4, "size", "()I"⟩
theorem dX4_size_0 : decode cX4_size 0 = .ok (.aload_n 0, 1) := by decide +kernel
theorem dX4_size_1 : decode cX4_size 1 = .ok (.getfield 36, 3) := by decide +kernel
theorem dX4_size_4 : decode cX4_size 4 = .ok (.ireturn, 1) := by decide +kernel
abbrev cX4_at : ByteArray := prog_6_method_11_code
def yX4_at : MethodName := ⟨RX4, "at", "(I)I"⟩
theorem dX4_at_0 : decode cX4_at 0 = .ok (.iload_n 1, 1) := by decide +kernel
theorem dX4_at_1 : decode cX4_at 1 = .ok (.ifCond .lt 24, 3) := by decide +kernel
theorem dX4_at_4 : decode cX4_at 4 = .ok (.iload_n 1, 1) := by decide +kernel
theorem dX4_at_5 : decode cX4_at 5 = .ok (.aload_n 0, 1) := by decide +kernel
theorem dX4_at_6 : decode cX4_at 6 = .ok (.getfield 36, 3) := by decide +kernel
theorem dX4_at_9 : decode cX4_at 9 = .ok (.if_icmp .ge 16, 3) := by decide +kernel
theorem dX4_at_12 : decode cX4_at 12 = .ok (.aload_n 0, 1) := by decide +kernel
theorem dX4_at_13 : decode cX4_at 13 = .ok (.getfield 13, 3) := by decide +kernel
theorem dX4_at_16 : decode cX4_at 16 = .ok (.iload_n 1, 1) := by decide +kernel
theorem dX4_at_17 : decode cX4_at 17 = .ok (.baload, 1) := by decide +kernel
theorem dX4_at_18 : decode cX4_at 18 = .ok (.sipush 255, 3) := by decide +kernel
theorem dX4_at_21 : decode cX4_at 21 = .ok (.iand, 1) := by decide +kernel
theorem dX4_at_22 : decode cX4_at 22 = .ok (.goto 4, 3) := by decide +kernel
theorem dX4_at_25 : decode cX4_at 25 = .ok (.iconst (-1), 1) := by decide +kernel
theorem dX4_at_26 : decode cX4_at 26 = .ok (.ireturn, 1) := by decide +kernel
abbrev cX4_clear : ByteArray := prog_6_method_12_code
def yX4_clear : MethodName := ⟨RX4, "clear", "()V"⟩
theorem dX4_clear_0 : decode cX4_clear 0 = .ok (.aload_n 0, 1) := by decide +kernel
theorem dX4_clear_1 : decode cX4_clear 1 = .ok (.iconst 0, 1) := by decide +kernel
theorem dX4_clear_2 : decode cX4_clear 2 = .ok (.putfield 16, 3) := by decide +kernel
theorem dX4_clear_5 : decode cX4_clear 5 = .ok (.aload_n 0, 1) := by decide +kernel
theorem dX4_clear_6 : decode cX4_clear 6 = .ok (.iconst 0, 1) := by decide +kernel
theorem dX4_clear_7 : decode cX4_clear 7 = .ok (.putfield 36, 3) := by decide +kernel
theorem dX4_clear_10 : decode cX4_clear 10 = .ok (.return_, 1) := by decide +kernel
theorem q12 : (Jvm.Cond.initialized "GroupedNumbersModel") ∈ lw_all := lw_g (lw_at lw_m1 9 rfl) rfl
theorem q250 : (Jvm.Cond.instantiable "GroupedNumbersModel" (5 : Nat)) ∈ lw_all := lw_g (lw_at lw_m2 7 rfl) rfl
theorem q252 : (Jvm.Cond.instanceMethod ({ cls := "GroupedNumbersModel", name := "<init>", desc := "()V" } : Jvm.MethodName)) ∈ lw_all := lw_g (lw_at lw_m2 9 rfl) rfl
theorem q253 : (Jvm.Cond.code ({ cls := "GroupedNumbersModel", name := "<init>", desc := "()V" } : Jvm.MethodName) prog_6_method_1_code (1 : Nat) (Option.none : Option Jvm.ClassFile.FieldType)) ∈ lw_all := lw_g (lw_at lw_m2 10 rfl) rfl
theorem q254 : (Jvm.Cond.methodLink "GroupedNumbersModel" (1 : Nat) ({ cls := "java/lang/Object", name := "<init>", desc := "()V" } : Jvm.MethodName)) ∈ lw_all := lw_g (lw_at lw_m2 11 rfl) rfl
theorem q255 : (Jvm.Cond.fieldLink "GroupedNumbersModel" (9 : Nat) "GroupedNumbersModel" "row" "[B") ∈ lw_all := lw_g (lw_at lw_m2 12 rfl) rfl
theorem q256 : (Jvm.Cond.fieldLink "GroupedNumbersModel" (13 : Nat) "GroupedNumbersModel" "out" "[B") ∈ lw_all := lw_g (lw_at lw_m2 13 rfl) rfl
theorem q257 : (Jvm.Cond.fieldLink "GroupedNumbersModel" (16 : Nat) "GroupedNumbersModel" "rows" "I") ∈ lw_all := lw_g (lw_at lw_m2 14 rfl) rfl
theorem q258 : (Jvm.Cond.fieldLink "GroupedNumbersModel" (36 : Nat) "GroupedNumbersModel" "outs" "I") ∈ lw_all := lw_g (lw_at lw_m2 15 rfl) rfl
theorem q259 : (Jvm.Cond.fieldLink "GroupedNumbersModel" (26 : Nat) "GroupedNumbersModel" "value" "J") ∈ lw_all := lw_g (lw_at lw_m2 16 rfl) rfl
theorem q260 : (Jvm.Cond.laysFinal "GroupedNumbersModel" "GroupedNumbersModel" "row" "[B") ∈ lw_all := lw_g (lw_at lw_m2 17 rfl) rfl
theorem q261 : (Jvm.Cond.soleField "GroupedNumbersModel" "row") ∈ lw_all := lw_g (lw_at lw_m2 18 rfl) rfl
theorem q262 : (Jvm.Cond.laysFinal "GroupedNumbersModel" "GroupedNumbersModel" "out" "[B") ∈ lw_all := lw_g (lw_at lw_m2 19 rfl) rfl
theorem q263 : (Jvm.Cond.soleField "GroupedNumbersModel" "out") ∈ lw_all := lw_g (lw_at lw_m2 20 rfl) rfl
theorem q264 : (Jvm.Cond.lays "GroupedNumbersModel" "GroupedNumbersModel" "rows" "I") ∈ lw_all := lw_g (lw_at lw_m2 21 rfl) rfl
theorem q265 : (Jvm.Cond.soleField "GroupedNumbersModel" "rows") ∈ lw_all := lw_g (lw_at lw_m2 22 rfl) rfl
theorem q266 : (Jvm.Cond.lays "GroupedNumbersModel" "GroupedNumbersModel" "outs" "I") ∈ lw_all := lw_g (lw_at lw_m2 23 rfl) rfl
theorem q267 : (Jvm.Cond.soleField "GroupedNumbersModel" "outs") ∈ lw_all := lw_g (lw_at lw_m2 24 rfl) rfl
theorem q268 : (Jvm.Cond.lays "GroupedNumbersModel" "GroupedNumbersModel" "value" "J") ∈ lw_all := lw_g (lw_at lw_m2 25 rfl) rfl
theorem q269 : (Jvm.Cond.soleField "GroupedNumbersModel" "value") ∈ lw_all := lw_g (lw_at lw_m2 26 rfl) rfl
theorem q270 : (Jvm.Cond.superclass "GroupedNumbersModel" "java/lang/Object") ∈ lw_all := lw_g (lw_at lw_m2 27 rfl) rfl
theorem q272 : (Jvm.Cond.instanceMethod ({ cls := "GroupedNumbersModel", name := "feed", desc := "(IIIII)I" } : Jvm.MethodName)) ∈ lw_all := lw_g (lw_at lw_m2 29 rfl) rfl
theorem q273 : (Jvm.Cond.selects "GroupedNumbersModel" ({ cls := "GroupedNumbersModel", name := "feed", desc := "(IIIII)I" } : Jvm.MethodName) ({ cls := "GroupedNumbersModel", name := "feed", desc := "(IIIII)I" } : Jvm.MethodName)) ∈ lw_all := lw_g (lw_at lw_m2 30 rfl) rfl
theorem q274 : (Jvm.Cond.code ({ cls := "GroupedNumbersModel", name := "feed", desc := "(IIIII)I" } : Jvm.MethodName) prog_6_method_3_code (6 : Nat) (Option.some Jvm.ClassFile.FieldType.int)) ∈ lw_all := lw_g (lw_at lw_m2 31 rfl) rfl
theorem q275 : (Jvm.Cond.methodLink "GroupedNumbersModel" (20 : Nat) ({ cls := "GroupedNumbersModel", name := "word", desc := "(I)V" } : Jvm.MethodName)) ∈ lw_all := lw_g (lw_at lw_m2 32 rfl) rfl
theorem q276 : (Jvm.Cond.privateMethod ({ cls := "GroupedNumbersModel", name := "word", desc := "(I)V" } : Jvm.MethodName)) ∈ lw_tbl := lw_at lw_m2 33 rfl
theorem q277 : (Jvm.Cond.instanceMethod ({ cls := "GroupedNumbersModel", name := "word", desc := "(I)V" } : Jvm.MethodName)) ∈ lw_all := lw_g (lw_at lw_m2 34 rfl) rfl
theorem q278 : (Jvm.Cond.code ({ cls := "GroupedNumbersModel", name := "word", desc := "(I)V" } : Jvm.MethodName) prog_6_method_4_code (3 : Nat) (Option.none : Option Jvm.ClassFile.FieldType)) ∈ lw_all := lw_g (lw_at lw_m2 35 rfl) rfl
theorem q280 : (Jvm.Cond.instanceMethod ({ cls := "GroupedNumbersModel", name := "end", desc := "(I)I" } : Jvm.MethodName)) ∈ lw_all := lw_g (lw_at lw_m2 37 rfl) rfl
theorem q281 : (Jvm.Cond.selects "GroupedNumbersModel" ({ cls := "GroupedNumbersModel", name := "end", desc := "(I)I" } : Jvm.MethodName) ({ cls := "GroupedNumbersModel", name := "end", desc := "(I)I" } : Jvm.MethodName)) ∈ lw_all := lw_g (lw_at lw_m2 38 rfl) rfl
theorem q282 : (Jvm.Cond.code ({ cls := "GroupedNumbersModel", name := "end", desc := "(I)I" } : Jvm.MethodName) prog_6_method_5_code (2 : Nat) (Option.some Jvm.ClassFile.FieldType.int)) ∈ lw_all := lw_g (lw_at lw_m2 39 rfl) rfl
theorem q284 : (Jvm.Cond.instanceMethod ({ cls := "GroupedNumbersModel", name := "read", desc := "(II)I" } : Jvm.MethodName)) ∈ lw_all := lw_g (lw_at lw_m2 41 rfl) rfl
theorem q285 : (Jvm.Cond.selects "GroupedNumbersModel" ({ cls := "GroupedNumbersModel", name := "read", desc := "(II)I" } : Jvm.MethodName) ({ cls := "GroupedNumbersModel", name := "read", desc := "(II)I" } : Jvm.MethodName)) ∈ lw_all := lw_g (lw_at lw_m2 42 rfl) rfl
theorem q286 : (Jvm.Cond.code ({ cls := "GroupedNumbersModel", name := "read", desc := "(II)I" } : Jvm.MethodName) prog_6_method_6_code (9 : Nat) (Option.some Jvm.ClassFile.FieldType.int)) ∈ lw_all := lw_g (lw_at lw_m2 43 rfl) rfl
theorem q287 : (Jvm.Cond.constantLong "GroupedNumbersModel" (24 : Nat) (-1 : Int64)) ∈ lw_all := lw_g (lw_at lw_m2 44 rfl) rfl
theorem q289 : (Jvm.Cond.instanceMethod ({ cls := "GroupedNumbersModel", name := "value", desc := "()J" } : Jvm.MethodName)) ∈ lw_all := lw_g (lw_at lw_m2 46 rfl) rfl
theorem q290 : (Jvm.Cond.selects "GroupedNumbersModel" ({ cls := "GroupedNumbersModel", name := "value", desc := "()J" } : Jvm.MethodName) ({ cls := "GroupedNumbersModel", name := "value", desc := "()J" } : Jvm.MethodName)) ∈ lw_all := lw_g (lw_at lw_m2 47 rfl) rfl
theorem q291 : (Jvm.Cond.code ({ cls := "GroupedNumbersModel", name := "value", desc := "()J" } : Jvm.MethodName) prog_6_method_7_code (1 : Nat) (Option.some Jvm.ClassFile.FieldType.long)) ∈ lw_all := lw_g (lw_at lw_m2 48 rfl) rfl
theorem q293 : (Jvm.Cond.instanceMethod ({ cls := "GroupedNumbersModel", name := "write", desc := "(IJ)I" } : Jvm.MethodName)) ∈ lw_all := lw_g (lw_at lw_m2 50 rfl) rfl
theorem q294 : (Jvm.Cond.selects "GroupedNumbersModel" ({ cls := "GroupedNumbersModel", name := "write", desc := "(IJ)I" } : Jvm.MethodName) ({ cls := "GroupedNumbersModel", name := "write", desc := "(IJ)I" } : Jvm.MethodName)) ∈ lw_all := lw_g (lw_at lw_m2 51 rfl) rfl
theorem q295 : (Jvm.Cond.code ({ cls := "GroupedNumbersModel", name := "write", desc := "(IJ)I" } : Jvm.MethodName) prog_6_method_9_code (7 : Nat) (Option.some Jvm.ClassFile.FieldType.int)) ∈ lw_all := lw_g (lw_at lw_m2 52 rfl) rfl
theorem q296 : (Jvm.Cond.constantLong "GroupedNumbersModel" (30 : Nat) (4294967295 : Int64)) ∈ lw_all := lw_g (lw_at lw_m2 53 rfl) rfl
theorem q297 : (Jvm.Cond.methodLink "GroupedNumbersModel" (32 : Nat) ({ cls := "GroupedNumbersModel", name := "isEnough", desc := "(IJI)Z" } : Jvm.MethodName)) ∈ lw_all := lw_g (lw_at lw_m2 54 rfl) rfl
theorem q298 : (Jvm.Cond.static ({ cls := "GroupedNumbersModel", name := "isEnough", desc := "(IJI)Z" } : Jvm.MethodName)) ∈ lw_all := lw_g (lw_at lw_m2 55 rfl) rfl
theorem q299 : (Jvm.Cond.code ({ cls := "GroupedNumbersModel", name := "isEnough", desc := "(IJI)Z" } : Jvm.MethodName) prog_6_method_8_code (5 : Nat) (Option.some Jvm.ClassFile.FieldType.boolean)) ∈ lw_all := lw_g (lw_at lw_m2 56 rfl) rfl
theorem q300 : (Jvm.Cond.methodLink "GroupedNumbersModel" (39 : Nat) ({ cls := "java/lang/Math", name := "min", desc := "(II)I" } : Jvm.MethodName)) ∈ lw_all := lw_g (lw_at lw_m2 57 rfl) rfl
theorem q304 : (Jvm.Cond.instanceMethod ({ cls := "GroupedNumbersModel", name := "size", desc := "()I" } : Jvm.MethodName)) ∈ lw_all := lw_g (lw_at lw_m2 61 rfl) rfl
theorem q305 : (Jvm.Cond.selects "GroupedNumbersModel" ({ cls := "GroupedNumbersModel", name := "size", desc := "()I" } : Jvm.MethodName) ({ cls := "GroupedNumbersModel", name := "size", desc := "()I" } : Jvm.MethodName)) ∈ lw_all := lw_g (lw_at lw_m2 62 rfl) rfl
theorem q306 : (Jvm.Cond.code ({ cls := "GroupedNumbersModel", name := "size", desc := "()I" } : Jvm.MethodName) prog_6_method_10_code (1 : Nat) (Option.some Jvm.ClassFile.FieldType.int)) ∈ lw_all := lw_g (lw_at lw_m2 63 rfl) rfl
theorem q308 : (Jvm.Cond.instanceMethod ({ cls := "GroupedNumbersModel", name := "at", desc := "(I)I" } : Jvm.MethodName)) ∈ lw_all := lw_g (lw_at lw_m2 65 rfl) rfl
theorem q309 : (Jvm.Cond.selects "GroupedNumbersModel" ({ cls := "GroupedNumbersModel", name := "at", desc := "(I)I" } : Jvm.MethodName) ({ cls := "GroupedNumbersModel", name := "at", desc := "(I)I" } : Jvm.MethodName)) ∈ lw_all := lw_g (lw_at lw_m2 66 rfl) rfl
theorem q310 : (Jvm.Cond.code ({ cls := "GroupedNumbersModel", name := "at", desc := "(I)I" } : Jvm.MethodName) prog_6_method_11_code (2 : Nat) (Option.some Jvm.ClassFile.FieldType.int)) ∈ lw_all := lw_g (lw_at lw_m2 67 rfl) rfl
theorem q312 : (Jvm.Cond.instanceMethod ({ cls := "GroupedNumbersModel", name := "clear", desc := "()V" } : Jvm.MethodName)) ∈ lw_all := lw_g (lw_at lw_m2 69 rfl) rfl
theorem q313 : (Jvm.Cond.selects "GroupedNumbersModel" ({ cls := "GroupedNumbersModel", name := "clear", desc := "()V" } : Jvm.MethodName) ({ cls := "GroupedNumbersModel", name := "clear", desc := "()V" } : Jvm.MethodName)) ∈ lw_all := lw_g (lw_at lw_m2 70 rfl) rfl
theorem q314 : (Jvm.Cond.code ({ cls := "GroupedNumbersModel", name := "clear", desc := "()V" } : Jvm.MethodName) prog_6_method_12_code (1 : Nat) (Option.none : Option Jvm.ClassFile.FieldType)) ∈ lw_all := lw_g (lw_at lw_m2 71 rfl) rfl
theorem in_X4 : ∀ w ∈ wsX40, w ∈ lw_all := lw_in wsX40 [260, 262, 264, 266, 268] (by decide +kernel) (by decide +kernel)
end
section
set_option maxRecDepth 100000
/-! the law's own entry -/
abbrev cL_law : ByteArray := code
theorem dL_law_0 : decode cL_law 0 = .ok (.new 7, 3) := by decide +kernel
theorem dL_law_3 : decode cL_law 3 = .ok (.dup, 1) := by decide +kernel
theorem dL_law_4 : decode cL_law 4 = .ok (.invokespecial 9, 3) := by decide +kernel
theorem dL_law_7 : decode cL_law 7 = .ok (.astore_n 1, 1) := by decide +kernel
theorem dL_law_8 : decode cL_law 8 = .ok (.new 10, 3) := by decide +kernel
theorem dL_law_11 : decode cL_law 11 = .ok (.dup, 1) := by decide +kernel
theorem dL_law_12 : decode cL_law 12 = .ok (.invokespecial 12, 3) := by decide +kernel
theorem dL_law_15 : decode cL_law 15 = .ok (.astore_n 2, 1) := by decide +kernel
theorem dL_law_16 : decode cL_law 16 = .ok (.iconst 0, 1) := by decide +kernel
theorem dL_law_17 : decode cL_law 17 = .ok (.istore_n 3, 1) := by decide +kernel
theorem dL_law_18 : decode cL_law 18 = .ok (.iload_n 3, 1) := by decide +kernel
theorem dL_law_19 : decode cL_law 19 = .ok (.aload_n 0, 1) := by decide +kernel
theorem dL_law_20 : decode cL_law 20 = .ok (.arraylength, 1) := by decide +kernel
theorem dL_law_21 : decode cL_law 21 = .ok (.bipush 6, 2) := by decide +kernel
theorem dL_law_23 : decode cL_law 23 = .ok (.isub, 1) := by decide +kernel
theorem dL_law_24 : decode cL_law 24 = .ok (.if_icmp .gt 305, 3) := by decide +kernel
theorem dL_law_27 : decode cL_law 27 = .ok (.aload_n 0, 1) := by decide +kernel
theorem dL_law_28 : decode cL_law 28 = .ok (.iload_n 3, 1) := by decide +kernel
theorem dL_law_29 : decode cL_law 29 = .ok (.iaload, 1) := by decide +kernel
theorem dL_law_30 : decode cL_law 30 = .ok (.bipush 7, 2) := by decide +kernel
theorem dL_law_32 : decode cL_law 32 = .ok (.iand, 1) := by decide +kernel
theorem dL_law_33 : decode cL_law 33 = .ok (.tableswitch 290 0 7 #[47, 110, 133, 166, 180, 243, 256, 279], 47) := by decide +kernel
theorem dL_law_80 : decode cL_law 80 = .ok (.aload_n 1, 1) := by decide +kernel
theorem dL_law_81 : decode cL_law 81 = .ok (.aload_n 0, 1) := by decide +kernel
theorem dL_law_82 : decode cL_law 82 = .ok (.iload_n 3, 1) := by decide +kernel
theorem dL_law_83 : decode cL_law 83 = .ok (.iconst 1, 1) := by decide +kernel
theorem dL_law_84 : decode cL_law 84 = .ok (.iadd, 1) := by decide +kernel
theorem dL_law_85 : decode cL_law 85 = .ok (.iaload, 1) := by decide +kernel
theorem dL_law_86 : decode cL_law 86 = .ok (.aload_n 0, 1) := by decide +kernel
theorem dL_law_87 : decode cL_law 87 = .ok (.iload_n 3, 1) := by decide +kernel
theorem dL_law_88 : decode cL_law 88 = .ok (.iconst 2, 1) := by decide +kernel
theorem dL_law_89 : decode cL_law 89 = .ok (.iadd, 1) := by decide +kernel
theorem dL_law_90 : decode cL_law 90 = .ok (.iaload, 1) := by decide +kernel
theorem dL_law_91 : decode cL_law 91 = .ok (.aload_n 0, 1) := by decide +kernel
theorem dL_law_92 : decode cL_law 92 = .ok (.iload_n 3, 1) := by decide +kernel
theorem dL_law_93 : decode cL_law 93 = .ok (.iconst 3, 1) := by decide +kernel
theorem dL_law_94 : decode cL_law 94 = .ok (.iadd, 1) := by decide +kernel
theorem dL_law_95 : decode cL_law 95 = .ok (.iaload, 1) := by decide +kernel
theorem dL_law_96 : decode cL_law 96 = .ok (.aload_n 0, 1) := by decide +kernel
theorem dL_law_97 : decode cL_law 97 = .ok (.iload_n 3, 1) := by decide +kernel
theorem dL_law_98 : decode cL_law 98 = .ok (.iconst 4, 1) := by decide +kernel
theorem dL_law_99 : decode cL_law 99 = .ok (.iadd, 1) := by decide +kernel
theorem dL_law_100 : decode cL_law 100 = .ok (.iaload, 1) := by decide +kernel
theorem dL_law_101 : decode cL_law 101 = .ok (.aload_n 0, 1) := by decide +kernel
theorem dL_law_102 : decode cL_law 102 = .ok (.iload_n 3, 1) := by decide +kernel
theorem dL_law_103 : decode cL_law 103 = .ok (.iconst 5, 1) := by decide +kernel
theorem dL_law_104 : decode cL_law 104 = .ok (.iadd, 1) := by decide +kernel
theorem dL_law_105 : decode cL_law 105 = .ok (.iaload, 1) := by decide +kernel
theorem dL_law_106 : decode cL_law 106 = .ok (.invokevirtual 13, 3) := by decide +kernel
theorem dL_law_109 : decode cL_law 109 = .ok (.aload_n 2, 1) := by decide +kernel
theorem dL_law_110 : decode cL_law 110 = .ok (.aload_n 0, 1) := by decide +kernel
theorem dL_law_111 : decode cL_law 111 = .ok (.iload_n 3, 1) := by decide +kernel
theorem dL_law_112 : decode cL_law 112 = .ok (.iconst 1, 1) := by decide +kernel
theorem dL_law_113 : decode cL_law 113 = .ok (.iadd, 1) := by decide +kernel
theorem dL_law_114 : decode cL_law 114 = .ok (.iaload, 1) := by decide +kernel
theorem dL_law_115 : decode cL_law 115 = .ok (.aload_n 0, 1) := by decide +kernel
theorem dL_law_116 : decode cL_law 116 = .ok (.iload_n 3, 1) := by decide +kernel
theorem dL_law_117 : decode cL_law 117 = .ok (.iconst 2, 1) := by decide +kernel
theorem dL_law_118 : decode cL_law 118 = .ok (.iadd, 1) := by decide +kernel
theorem dL_law_119 : decode cL_law 119 = .ok (.iaload, 1) := by decide +kernel
theorem dL_law_120 : decode cL_law 120 = .ok (.aload_n 0, 1) := by decide +kernel
theorem dL_law_121 : decode cL_law 121 = .ok (.iload_n 3, 1) := by decide +kernel
theorem dL_law_122 : decode cL_law 122 = .ok (.iconst 3, 1) := by decide +kernel
theorem dL_law_123 : decode cL_law 123 = .ok (.iadd, 1) := by decide +kernel
theorem dL_law_124 : decode cL_law 124 = .ok (.iaload, 1) := by decide +kernel
theorem dL_law_125 : decode cL_law 125 = .ok (.aload_n 0, 1) := by decide +kernel
theorem dL_law_126 : decode cL_law 126 = .ok (.iload_n 3, 1) := by decide +kernel
theorem dL_law_127 : decode cL_law 127 = .ok (.iconst 4, 1) := by decide +kernel
theorem dL_law_128 : decode cL_law 128 = .ok (.iadd, 1) := by decide +kernel
theorem dL_law_129 : decode cL_law 129 = .ok (.iaload, 1) := by decide +kernel
theorem dL_law_130 : decode cL_law 130 = .ok (.aload_n 0, 1) := by decide +kernel
theorem dL_law_131 : decode cL_law 131 = .ok (.iload_n 3, 1) := by decide +kernel
theorem dL_law_132 : decode cL_law 132 = .ok (.iconst 5, 1) := by decide +kernel
theorem dL_law_133 : decode cL_law 133 = .ok (.iadd, 1) := by decide +kernel
theorem dL_law_134 : decode cL_law 134 = .ok (.iaload, 1) := by decide +kernel
theorem dL_law_135 : decode cL_law 135 = .ok (.invokevirtual 17, 3) := by decide +kernel
theorem dL_law_138 : decode cL_law 138 = .ok (.if_icmp .eq 185, 3) := by decide +kernel
theorem dL_law_141 : decode cL_law 141 = .ok (.iconst 0, 1) := by decide +kernel
theorem dL_law_142 : decode cL_law 142 = .ok (.ireturn, 1) := by decide +kernel
theorem dL_law_143 : decode cL_law 143 = .ok (.aload_n 1, 1) := by decide +kernel
theorem dL_law_144 : decode cL_law 144 = .ok (.aload_n 0, 1) := by decide +kernel
theorem dL_law_145 : decode cL_law 145 = .ok (.iload_n 3, 1) := by decide +kernel
theorem dL_law_146 : decode cL_law 146 = .ok (.iconst 1, 1) := by decide +kernel
theorem dL_law_147 : decode cL_law 147 = .ok (.iadd, 1) := by decide +kernel
theorem dL_law_148 : decode cL_law 148 = .ok (.iaload, 1) := by decide +kernel
theorem dL_law_149 : decode cL_law 149 = .ok (.invokevirtual 18, 3) := by decide +kernel
theorem dL_law_152 : decode cL_law 152 = .ok (.aload_n 2, 1) := by decide +kernel
theorem dL_law_153 : decode cL_law 153 = .ok (.aload_n 0, 1) := by decide +kernel
theorem dL_law_154 : decode cL_law 154 = .ok (.iload_n 3, 1) := by decide +kernel
theorem dL_law_155 : decode cL_law 155 = .ok (.iconst 1, 1) := by decide +kernel
theorem dL_law_156 : decode cL_law 156 = .ok (.iadd, 1) := by decide +kernel
theorem dL_law_157 : decode cL_law 157 = .ok (.iaload, 1) := by decide +kernel
theorem dL_law_158 : decode cL_law 158 = .ok (.invokevirtual 22, 3) := by decide +kernel
theorem dL_law_161 : decode cL_law 161 = .ok (.if_icmp .eq 162, 3) := by decide +kernel
theorem dL_law_164 : decode cL_law 164 = .ok (.iconst 0, 1) := by decide +kernel
theorem dL_law_165 : decode cL_law 165 = .ok (.ireturn, 1) := by decide +kernel
theorem dL_law_166 : decode cL_law 166 = .ok (.aload_n 1, 1) := by decide +kernel
theorem dL_law_167 : decode cL_law 167 = .ok (.aload_n 0, 1) := by decide +kernel
theorem dL_law_168 : decode cL_law 168 = .ok (.iload_n 3, 1) := by decide +kernel
theorem dL_law_169 : decode cL_law 169 = .ok (.iconst 1, 1) := by decide +kernel
theorem dL_law_170 : decode cL_law 170 = .ok (.iadd, 1) := by decide +kernel
theorem dL_law_171 : decode cL_law 171 = .ok (.iaload, 1) := by decide +kernel
theorem dL_law_172 : decode cL_law 172 = .ok (.aload_n 0, 1) := by decide +kernel
theorem dL_law_173 : decode cL_law 173 = .ok (.iload_n 3, 1) := by decide +kernel
theorem dL_law_174 : decode cL_law 174 = .ok (.iconst 2, 1) := by decide +kernel
theorem dL_law_175 : decode cL_law 175 = .ok (.iadd, 1) := by decide +kernel
theorem dL_law_176 : decode cL_law 176 = .ok (.iaload, 1) := by decide +kernel
theorem dL_law_177 : decode cL_law 177 = .ok (.invokevirtual 23, 3) := by decide +kernel
theorem dL_law_180 : decode cL_law 180 = .ok (.aload_n 2, 1) := by decide +kernel
theorem dL_law_181 : decode cL_law 181 = .ok (.aload_n 0, 1) := by decide +kernel
theorem dL_law_182 : decode cL_law 182 = .ok (.iload_n 3, 1) := by decide +kernel
theorem dL_law_183 : decode cL_law 183 = .ok (.iconst 1, 1) := by decide +kernel
theorem dL_law_184 : decode cL_law 184 = .ok (.iadd, 1) := by decide +kernel
theorem dL_law_185 : decode cL_law 185 = .ok (.iaload, 1) := by decide +kernel
theorem dL_law_186 : decode cL_law 186 = .ok (.aload_n 0, 1) := by decide +kernel
theorem dL_law_187 : decode cL_law 187 = .ok (.iload_n 3, 1) := by decide +kernel
theorem dL_law_188 : decode cL_law 188 = .ok (.iconst 2, 1) := by decide +kernel
theorem dL_law_189 : decode cL_law 189 = .ok (.iadd, 1) := by decide +kernel
theorem dL_law_190 : decode cL_law 190 = .ok (.iaload, 1) := by decide +kernel
theorem dL_law_191 : decode cL_law 191 = .ok (.invokevirtual 27, 3) := by decide +kernel
theorem dL_law_194 : decode cL_law 194 = .ok (.if_icmp .eq 129, 3) := by decide +kernel
theorem dL_law_197 : decode cL_law 197 = .ok (.iconst 0, 1) := by decide +kernel
theorem dL_law_198 : decode cL_law 198 = .ok (.ireturn, 1) := by decide +kernel
theorem dL_law_199 : decode cL_law 199 = .ok (.aload_n 1, 1) := by decide +kernel
theorem dL_law_200 : decode cL_law 200 = .ok (.invokevirtual 28, 3) := by decide +kernel
theorem dL_law_203 : decode cL_law 203 = .ok (.aload_n 2, 1) := by decide +kernel
theorem dL_law_204 : decode cL_law 204 = .ok (.invokevirtual 32, 3) := by decide +kernel
theorem dL_law_207 : decode cL_law 207 = .ok (.lcmp, 1) := by decide +kernel
theorem dL_law_208 : decode cL_law 208 = .ok (.ifCond .eq 115, 3) := by decide +kernel
theorem dL_law_211 : decode cL_law 211 = .ok (.iconst 0, 1) := by decide +kernel
theorem dL_law_212 : decode cL_law 212 = .ok (.ireturn, 1) := by decide +kernel
theorem dL_law_213 : decode cL_law 213 = .ok (.aload_n 1, 1) := by decide +kernel
theorem dL_law_214 : decode cL_law 214 = .ok (.aload_n 0, 1) := by decide +kernel
theorem dL_law_215 : decode cL_law 215 = .ok (.iload_n 3, 1) := by decide +kernel
theorem dL_law_216 : decode cL_law 216 = .ok (.iconst 1, 1) := by decide +kernel
theorem dL_law_217 : decode cL_law 217 = .ok (.iadd, 1) := by decide +kernel
theorem dL_law_218 : decode cL_law 218 = .ok (.iaload, 1) := by decide +kernel
theorem dL_law_219 : decode cL_law 219 = .ok (.aload_n 0, 1) := by decide +kernel
theorem dL_law_220 : decode cL_law 220 = .ok (.iload_n 3, 1) := by decide +kernel
theorem dL_law_221 : decode cL_law 221 = .ok (.iconst 2, 1) := by decide +kernel
theorem dL_law_222 : decode cL_law 222 = .ok (.iadd, 1) := by decide +kernel
theorem dL_law_223 : decode cL_law 223 = .ok (.iaload, 1) := by decide +kernel
theorem dL_law_224 : decode cL_law 224 = .ok (.i2l, 1) := by decide +kernel
theorem dL_law_225 : decode cL_law 225 = .ok (.bipush 32, 2) := by decide +kernel
theorem dL_law_227 : decode cL_law 227 = .ok (.lshl, 1) := by decide +kernel
theorem dL_law_228 : decode cL_law 228 = .ok (.aload_n 0, 1) := by decide +kernel
theorem dL_law_229 : decode cL_law 229 = .ok (.iload_n 3, 1) := by decide +kernel
theorem dL_law_230 : decode cL_law 230 = .ok (.iconst 3, 1) := by decide +kernel
theorem dL_law_231 : decode cL_law 231 = .ok (.iadd, 1) := by decide +kernel
theorem dL_law_232 : decode cL_law 232 = .ok (.iaload, 1) := by decide +kernel
theorem dL_law_233 : decode cL_law 233 = .ok (.i2l, 1) := by decide +kernel
theorem dL_law_234 : decode cL_law 234 = .ok (.ldc2_w 33, 3) := by decide +kernel
theorem dL_law_237 : decode cL_law 237 = .ok (.land, 1) := by decide +kernel
theorem dL_law_238 : decode cL_law 238 = .ok (.lor, 1) := by decide +kernel
theorem dL_law_239 : decode cL_law 239 = .ok (.invokevirtual 35, 3) := by decide +kernel
theorem dL_law_242 : decode cL_law 242 = .ok (.aload_n 2, 1) := by decide +kernel
theorem dL_law_243 : decode cL_law 243 = .ok (.aload_n 0, 1) := by decide +kernel
theorem dL_law_244 : decode cL_law 244 = .ok (.iload_n 3, 1) := by decide +kernel
theorem dL_law_245 : decode cL_law 245 = .ok (.iconst 1, 1) := by decide +kernel
theorem dL_law_246 : decode cL_law 246 = .ok (.iadd, 1) := by decide +kernel
theorem dL_law_247 : decode cL_law 247 = .ok (.iaload, 1) := by decide +kernel
theorem dL_law_248 : decode cL_law 248 = .ok (.aload_n 0, 1) := by decide +kernel
theorem dL_law_249 : decode cL_law 249 = .ok (.iload_n 3, 1) := by decide +kernel
theorem dL_law_250 : decode cL_law 250 = .ok (.iconst 2, 1) := by decide +kernel
theorem dL_law_251 : decode cL_law 251 = .ok (.iadd, 1) := by decide +kernel
theorem dL_law_252 : decode cL_law 252 = .ok (.iaload, 1) := by decide +kernel
theorem dL_law_253 : decode cL_law 253 = .ok (.i2l, 1) := by decide +kernel
theorem dL_law_254 : decode cL_law 254 = .ok (.bipush 32, 2) := by decide +kernel
theorem dL_law_256 : decode cL_law 256 = .ok (.lshl, 1) := by decide +kernel
theorem dL_law_257 : decode cL_law 257 = .ok (.aload_n 0, 1) := by decide +kernel
theorem dL_law_258 : decode cL_law 258 = .ok (.iload_n 3, 1) := by decide +kernel
theorem dL_law_259 : decode cL_law 259 = .ok (.iconst 3, 1) := by decide +kernel
theorem dL_law_260 : decode cL_law 260 = .ok (.iadd, 1) := by decide +kernel
theorem dL_law_261 : decode cL_law 261 = .ok (.iaload, 1) := by decide +kernel
theorem dL_law_262 : decode cL_law 262 = .ok (.i2l, 1) := by decide +kernel
theorem dL_law_263 : decode cL_law 263 = .ok (.ldc2_w 33, 3) := by decide +kernel
theorem dL_law_266 : decode cL_law 266 = .ok (.land, 1) := by decide +kernel
theorem dL_law_267 : decode cL_law 267 = .ok (.lor, 1) := by decide +kernel
theorem dL_law_268 : decode cL_law 268 = .ok (.invokevirtual 39, 3) := by decide +kernel
theorem dL_law_271 : decode cL_law 271 = .ok (.if_icmp .eq 52, 3) := by decide +kernel
theorem dL_law_274 : decode cL_law 274 = .ok (.iconst 0, 1) := by decide +kernel
theorem dL_law_275 : decode cL_law 275 = .ok (.ireturn, 1) := by decide +kernel
theorem dL_law_276 : decode cL_law 276 = .ok (.aload_n 1, 1) := by decide +kernel
theorem dL_law_277 : decode cL_law 277 = .ok (.invokevirtual 40, 3) := by decide +kernel
theorem dL_law_280 : decode cL_law 280 = .ok (.aload_n 2, 1) := by decide +kernel
theorem dL_law_281 : decode cL_law 281 = .ok (.invokevirtual 44, 3) := by decide +kernel
theorem dL_law_284 : decode cL_law 284 = .ok (.if_icmp .eq 39, 3) := by decide +kernel
theorem dL_law_287 : decode cL_law 287 = .ok (.iconst 0, 1) := by decide +kernel
theorem dL_law_288 : decode cL_law 288 = .ok (.ireturn, 1) := by decide +kernel
theorem dL_law_289 : decode cL_law 289 = .ok (.aload_n 1, 1) := by decide +kernel
theorem dL_law_290 : decode cL_law 290 = .ok (.aload_n 0, 1) := by decide +kernel
theorem dL_law_291 : decode cL_law 291 = .ok (.iload_n 3, 1) := by decide +kernel
theorem dL_law_292 : decode cL_law 292 = .ok (.iconst 1, 1) := by decide +kernel
theorem dL_law_293 : decode cL_law 293 = .ok (.iadd, 1) := by decide +kernel
theorem dL_law_294 : decode cL_law 294 = .ok (.iaload, 1) := by decide +kernel
theorem dL_law_295 : decode cL_law 295 = .ok (.invokevirtual 45, 3) := by decide +kernel
theorem dL_law_298 : decode cL_law 298 = .ok (.aload_n 2, 1) := by decide +kernel
theorem dL_law_299 : decode cL_law 299 = .ok (.aload_n 0, 1) := by decide +kernel
theorem dL_law_300 : decode cL_law 300 = .ok (.iload_n 3, 1) := by decide +kernel
theorem dL_law_301 : decode cL_law 301 = .ok (.iconst 1, 1) := by decide +kernel
theorem dL_law_302 : decode cL_law 302 = .ok (.iadd, 1) := by decide +kernel
theorem dL_law_303 : decode cL_law 303 = .ok (.iaload, 1) := by decide +kernel
theorem dL_law_304 : decode cL_law 304 = .ok (.invokevirtual 48, 3) := by decide +kernel
theorem dL_law_307 : decode cL_law 307 = .ok (.if_icmp .eq 16, 3) := by decide +kernel
theorem dL_law_310 : decode cL_law 310 = .ok (.iconst 0, 1) := by decide +kernel
theorem dL_law_311 : decode cL_law 311 = .ok (.ireturn, 1) := by decide +kernel
theorem dL_law_312 : decode cL_law 312 = .ok (.aload_n 1, 1) := by decide +kernel
theorem dL_law_313 : decode cL_law 313 = .ok (.invokevirtual 49, 3) := by decide +kernel
theorem dL_law_316 : decode cL_law 316 = .ok (.aload_n 2, 1) := by decide +kernel
theorem dL_law_317 : decode cL_law 317 = .ok (.invokevirtual 52, 3) := by decide +kernel
theorem dL_law_320 : decode cL_law 320 = .ok (.goto 3, 3) := by decide +kernel
theorem dL_law_323 : decode cL_law 323 = .ok (.iinc 3 6, 3) := by decide +kernel
theorem dL_law_326 : decode cL_law 326 = .ok (.goto (-308), 3) := by decide +kernel
theorem dL_law_329 : decode cL_law 329 = .ok (.iconst 1, 1) := by decide +kernel
theorem dL_law_330 : decode cL_law 330 = .ok (.ireturn, 1) := by decide +kernel
end
section
/-! THROWING AND CATCHING: contracts that may end in 'threw', the note over the frame, a handler whose class entry may be cold -/
set_option maxRecDepth 100000
section VT
variable {p : Program} {l : Launch} {e : Env} {R : Room} {s : State} {m : MethodId} {args : Array Value} {below : List Frame} {meth : Method} {c : Code} {H : Heap} {locs : List Loc} {cells slots : Nat} {Q : State → Prop}
/-- the frame of an end of any kind -/
def vt_FE (first t : State) (L : List Loc) (k n : Nat) : Prop := first.WarmedH t.vm ∧ first.sameButNew ({ t with vm := first.vm } : State) L k n
/-- a contract whose end may be a throw -/
def vt_Met (l : Launch) (y : MethodName) (ws : List Cond) (rm : Room) (Pc : Array Value → State → Prop) (Qc : Array Value → State → Outcome → State → Prop) (mc ms : Nat) (free : Addr → Prop) : Prop :=
  MetFree l y (headSpec ws rm) Pc (fun _ _ _ _ _ => True) (fun a st o t => Qc a st o t ∧ ∃ L, vt_FE st t L mc ms ∧ ∀ q ∈ L, free q.base)
def vt_MQ (below : List Frame) (Qc : Array Value → State → Outcome → State → Prop) (a : Array Value) (s : State) (mc ms : Nat) (free : Addr → Prop) : State → Prop := fun t =>
  ∃ o, t.status = .running ∧ Ended t below o ∧ Qc a s o t ∧ ∃ L, vt_FE s t L mc ms ∧ ∀ q ∈ L, free q.base
theorem vt_MQ.of {Qc : Array Value → State → Outcome → State → Prop} {mc ms : Nat} {free : Addr → Prop} {t : State} (h : MQ below Qc args s mc ms free t) : vt_MQ below Qc args s mc ms free t := by
  obtain ⟨o, h1, h2, h3, L, hF, hL⟩ := h
  exact ⟨o, h1, h2, h3, L, ⟨hF.2.1, hF.2.2⟩, hL⟩
/-- a walk to a return is a walk to an end of either kind -/
theorem vt_ret {Qc : Array Value → State → Outcome → State → Prop} {mc ms : Nat} {free : Addr → Prop} {g : JFrame} (k : W p l e R s m args below meth c H locs cells slots (MQ below Qc args s mc ms free) g) : W p l e R s m args below meth c H locs cells slots (vt_MQ below Qc args s mc ms free) g := by
  intro T hT X
  obtain ⟨t, a, b⟩ := k T hT X
  exact ⟨t, a, vt_MQ.of b⟩
theorem vt_ofW {y : MethodName} {ws ws' : List Cond} {rm : Room} {Pc : Array Value → State → Prop} {Qc : Array Value → State → Outcome → State → Prop} {mc ms : Nat} {free : Addr → Prop} {cc : ByteArray} {maxL : Nat} {ret : Option FieldType}
    (hy : plainName y.cls = true) (hw : ws = Cond.code y cc maxL ret :: ws')
    (body : ∀ p e s m args below meth c s₁, BodyLoose p l y (headSpec ws rm) cc maxL ret e s m args below meth c s₁ → c.maxLocals = maxL → c.exceptionTable.isEmpty = true → Pc args s →
      W p l e (headSpec ws rm).room s m args below meth c s.heap [] 0 0 (vt_MQ below Qc args s mc ms free) (entryFrame m args maxL)) : vt_Met l y ws rm Pc Qc mc ms free := by
  refine MetFree.of_bodyS (code := cc) (maxLocals := maxL) (ret := ret) hy ?_ ?_
  · intro args s m h hn
    obtain ⟨meth, c, h1, h2, h3, h4, h5, h6, -, -⟩ := Cond.code_spec hn (atoms_spec (ws := ws) h _ (by rw [hw]; exact List.mem_cons_self))
    exact ⟨meth, c, h1, h2, h3, h4, h5, h6⟩
  · intro p e s m args below meth c s₁ B hml hP _
    have hh0 : s₁.heap = s.heap := by rw [B.state]; rfl
    have hcode : (Cond.code y cc maxL ret).before args s = true := atoms_spec (ws := ws) B.pre _ (by rw [hw]; exact List.mem_cons_self)
    obtain ⟨t, a1, o, b1, b2, b3⟩ := body p e s m args below meth c s₁ B hml (B.noHandlers hcode) hP s₁ hh0 (Stand.of_body B)
    exact ⟨t, o, a1, b1, b2, ⟨b3.1, b3.2⟩⟩
/-- the machine with the note 'x is being thrown' over the frame g comes to a state with Q -/
def vt_WT (p : Program) (l : Launch) (e : Env) (R : Room) (s : State) (m : MethodId) (args : Array Value) (below : List Frame) (meth : Method) (c : Code) (H : Heap) (locs : List Loc) (cells slots : Nat) (Q : State → Prop) (g : JFrame) (x : Addr) : Prop :=
  ∀ T : State, T.heap = H → Stand p l e R s m args below meth c T locs cells slots → ∃ t, Steps p.tables e below ((T.setTop g).pushFrame (.throwing x)) t ∧ Q t
theorem vt_WT.widen {g : JFrame} {x : Addr} {k n : Nat} (h1 : cells ≤ k) (h2 : slots ≤ n) (kk : vt_WT p l e R s m args below meth c H locs k n Q g x) : vt_WT p l e R s m args below meth c H locs cells slots Q g x := fun T hT X => kk T hT (stand_widen X h1 h2)
/-- a method without handlers: the throw leaves it -/
theorem vt_leave {Qc : Array Value → State → Outcome → State → Prop} {free : Addr → Prop} (hempty : c.exceptionTable.isEmpty = true) (hlocks : meth.locks = false) {pc : Nat} {ls : Array Slot} {st : List Value} {x : Addr}
    (hq : ∀ t : State, t.heap = H → s.WarmedH t.vm → Qc args s (.threw x) t) (hf : ∀ q ∈ locs, free q.base) : vt_WT p l e R s m args below meth c H locs cells slots (vt_MQ below Qc args s cells slots free) (F0 m pc ls st) x := by
  intro T hT X
  have h0 : c.exceptionTable.size = 0 := by simpa [Array.isEmpty] using hempty
  have h1 : c.exceptionTable.toList = [] := List.eq_nil_of_length_eq_zero (by simpa using h0)
  have hout : ∀ y ∈ c.exceptionTable.toList, covers y (F0 m pc ls st).pc = false := by
    intro y hy
    rw [h1] at hy
    cases hy
  obtain ⟨hst, hrun, hend, hW, hsame⟩ := X.leaveThrown x (g := F0 m pc ls st) rfl rfl rfl hout hlocks
  exact ⟨_, hst, .threw x, hrun, hend, hq _ hT hW, locs, ⟨hW, hsame⟩, hf⟩
theorem vt_athrow {cc : ByteArray} (hexec : p.tables.exec = Jvm.exec) (hb : c.code = cc) {pc : Nat} {ls : Array Slot} {rest : List Value} {x : Addr} (hdg : decode cc pc = .ok (.athrow, 1))
    (k : vt_WT p l e R s m args below meth c H locs cells slots Q (F0 m pc ls rest) x) : W p l e R s m args below meth c H locs cells slots Q (F0 m pc ls (.ref x :: rest)) := by
  intro T hT X
  obtain ⟨t, a, b⟩ := k T hT X
  refine ⟨t, ?_, b⟩
  jvm_step X.here [X.here.top, hexec, hb, hdg, athrow.wp_sem]
  exact a
/-- a call of such a method, from the point where it is linked -/
theorem vt_free {y : MethodName} {ws : List Cond} {rm : Room} {Pc : Array Value → State → Prop} {Qc : Array Value → State → Outcome → State → Prop} {mc ms : Nat} {free : Addr → Prop} {bytes : ByteArray} {maxL : Nat} {ret : Option FieldType}
    (hM : vt_Met l y ws rm Pc Qc mc ms free) (hbl : FrameBlind Pc) (hrc : rm.cells = mc) (hrs : rm.slots = ms) (hfr : rm.frames + 1 ≤ R.frames) (hlo : 8 + (maxL + 11) + rm.locals ≤ R.locals)
    (hws : ∀ w ∈ ws, ∀ (a' : Array Value) (U : State), s.WarmedH U.vm → w.before a' U = true) (hcw : Cond.code y bytes maxL ret ∈ ws) (hini : (Cond.initialized y.cls).before args s = true)
    {T : State} (X : Stand p l e R s m args below meth c T locs cells slots) {g : JFrame} (hg : g.method = m) (hsize : g.locals.size = c.maxLocals) {ig : Instr} {len : Nat} (hdg : decode c.code g.pc = .ok (ig, len))
    (hW : 2 * g.monitorRoom + (g.stack.map fun v => v.category).sum ≤ 8) {mk : MethodId} (hn : T.methodNamed? y = some mk) {a : Array Value} (hf : cells + mc ≤ R.cells ∧ slots + ms ≤ R.slots) (hP : Pc a T) :
    ∃ (o : Outcome) (st₀ t T' : State) (L : List Loc), st₀.heap = T.heap ∧ Stand p l e R s m args below meth c T' (locs ++ L) (cells + mc) (slots + ms) ∧ (∀ q ∈ L, free q.base) ∧ T'.heap = t.heap ∧ T'.vm = t.vm ∧ Qc a st₀ o t ∧
      (∀ v, o = .returned v → Steps p.tables e below (doInvoke e (T.setTop g) [] mk a).1 (T'.setTop { g with pc := g.pc + len, stack := v.toList ++ g.stack })) ∧
      (∀ x, o = .threw x → Steps p.tables e below (doInvoke e (T.setTop g) [] mk a).1 ((T'.setTop g).pushFrame (.throwing x))) := by
  have h1 : (headSpec ws rm).pre.before a T = true := atoms_intro fun w hw => hws w hw _ _ X.warmed
  have h2 := hws _ hcw a T X.warmed
  have h3 : (Cond.initialized y.cls).before a T = true := word_at X.warmed (Or.inl (by first | rfl | simp [Cond.onTables, Cond.keeps, Cond.steady])) hini
  obtain ⟨methY, cY, hmY, hcY, -, hlY, -, -, -, -⟩ := Cond.code_spec hn h2
  obtain ⟨kY, hkY, -⟩ := className_of_methodNamed hn
  have hinitY : kY.init = .initialized := Cond.initialized_spec (findClass_of_methodNamed hn) hkY h3
  have h : At T g.method c below := by rw [hg]; exact X.here
  have happ : (headSpec ws rm).appliesLoose y e.platform (T.calling g mk a) = true :=
    Spec.appliesLoose_calling (g := g) h hdg hn hkY hinitY
      (X.room_calling (g := g) (R' := (headSpec ws rm).room) hsize hmY hcY hfr (by rw [hlY]; show _ + (maxL + 11) + rm.locals ≤ R.locals; omega) (by show cells + rm.cells ≤ R.cells; rw [hrc]; exact hf.1) (by show slots + rm.slots ≤ R.slots; rw [hrs]; exact hf.2)) h1
  obtain ⟨mid, hmid⟩ := h.above
  have hfr' : (T.setTop g).frames = (.java g :: mid) ++ below := by rw [State.frames_setTop' g h.top, hmid]; rfl
  obtain ⟨o, s₂, hsteps, -, hend, hq⟩ := Steps.callFree hM p X.admits X.cas X.clock (acts := []) hfr' happ (hbl _ _ _ _ hP) trivial
  have hq' : Qc a (T.calling g mk a) o s₂ ∧ ∃ L, vt_FE (T.calling g mk a) s₂ L mc ms ∧ ∀ q ∈ L, free q.base := hq
  rw [State.frames_setTop' g h.top, X.tail] at hend
  obtain ⟨hQ, L, ⟨hW₂, hsame⟩, hL⟩ := hq'
  cases o with
  | returned v =>
    obtain ⟨T', X', -, -, ht⟩ := X.outOf (g := g) hg hdg (mk := mk) (a := a) (t := s₂) (v := v) hend hW₂ hsame
    refine ⟨_, T.calling g mk a, s₂, T', L, ?_, X', hL, ?_, ?_, hQ, ?_, ?_⟩
    · simp [State.calling, State.pushFrame, State.setFrames, State.setTop, State.modifyTopJava]
    · rw [ht]; simp [State.setFrames, State.setTop, State.modifyTopJava]
    · rw [ht]; simp [State.setFrames, State.setTop, State.modifyTopJava]
    · intro v' hv
      cases hv
      rw [← ht]
      exact hsteps
    · intro x hx
      cases hx
  | threw x =>
    obtain ⟨T', X', -, -, ht⟩ := X.outOfThrown (g := g) hg (mk := mk) (a := a) (t := s₂) (x := x) hend hW₂ hsame
    refine ⟨_, T.calling g mk a, s₂, T', L, ?_, X', hL, ?_, ?_, hQ, ?_, ?_⟩
    · simp [State.calling, State.pushFrame, State.setFrames, State.setTop, State.modifyTopJava]
    · rw [ht]; exact (Stand.throwing_heap T' g x).symm
    · rw [ht]; exact (Stand.throwing_vm T' g x).symm
    · intro v hv
      cases hv
    · intro x' hx
      cases hx
      rw [← ht]
      exact hsteps
/-- a call of such a method: either it comes back, or the note lies over the caller's frame -/
def vt_Run (p : Program) (l : Launch) (e : Env) (R : Room) (s : State) (m : MethodId) (args : Array Value) (below : List Frame) (meth : Method) (c : Code) (H : Heap) (locs : List Loc) (cells slots mc ms : Nat) (g : JFrame) (rest : List Value) (Qa : State → Outcome → State → Prop) (free : Addr → Prop) : Prop :=
  ∀ T : State, T.heap = H → Stand p l e R s m args below meth c T locs cells slots → ∃ (o : Outcome) (st₀ t T' : State) (L : List Loc), st₀.heap = H ∧ Stand p l e R s m args below meth c T' (locs ++ L) (cells + mc) (slots + ms) ∧ (∀ q ∈ L, free q.base) ∧ T'.heap = t.heap ∧ T'.vm = t.vm ∧ Qa st₀ o t ∧
    (∀ v, o = .returned v → ∀ tg, Steps p.tables e below (T'.setTop { g with pc := g.pc + 3, stack := v.toList ++ rest }) tg → Steps p.tables e below (T.setTop g) tg) ∧
    (∀ x, o = .threw x → ∀ tg, Steps p.tables e below ((T'.setTop { g with stack := rest }).pushFrame (.throwing x)) tg → Steps p.tables e below (T.setTop g) tg)
theorem vt_runV {y : MethodName} {bytes cc : ByteArray} {maxL nL mc ms n index : Nat} {ret : Option FieldType} {ws : List Cond} {rm : Room} {Pc : Array Value → State → Prop} {Qc : Array Value → State → Outcome → State → Prop} {free : Addr → Prop} {Ts : List Cond} {own C : String} {b : Addr} {As rest : List Value} {g : JFrame}
    (S : CallFix p m c cc nL s args Ts own) (hM : vt_Met l y ws rm Pc Qc mc ms free) (cw : CallW R s args own C index y bytes maxL ret ws rm mc ms n) (hp : PreV s H C b Pc As)
    (hg : g.method = m) (hn : As.length = n) (hsize : g.locals.size = nL) (hstack : g.stack = As.reverse ++ .ref b :: rest) (hW : 2 * g.monitorRoom + (rest.map fun v => v.category).sum ≤ 8) (hdg : decode cc g.pc = .ok (.invokevirtual index, 3)) (hf : cells + mc ≤ R.cells ∧ slots + ms ≤ R.slots) :
    vt_Run p l e R s m args below meth c H locs cells slots mc ms g rest (Qc (Value.ref b :: As).toArray) free := by
  obtain ⟨⟨hrc, hrs, hfr, hlo, hws, hcw, hcode, hini, hy, hlen, hl⟩, hin, hse⟩ := cw
  obtain ⟨hx, hb, hml, ho, -⟩ := S
  obtain ⟨hbl, ⟨cellB, hcB, hoB, hclB⟩, hPc⟩ := hp
  intro T hT X
  obtain ⟨mk, methM, hnamed, hmethM, hstM, habM⟩ := Cond.instanceMethod_spec hin
  obtain ⟨methM', cM, hmethM', -, -, -, -, -, -, hsigM⟩ := Cond.code_spec hnamed hcode
  cases hmethM.symm.trans hmethM'
  obtain ⟨c2, r2, m2, q1, q2, q3, q4, kP, hkP, hkPi⟩ := Cond.selects_spec hse
  cases hclB.symm.trans q1
  cases (State.methodFound?_of_named hnamed hy).symm.trans q2
  cases hnamed.symm.trans q3
  have hselP : selectMethod e.platform s.vm cellB.cls mk = .method mk := by rw [Launch.admits_selectMethod X.admits]; exact q4
  obtain ⟨vm₁, X₁, hstep₁⟩ := X.invokevirtual hx ho hl hnamed hmethM hstM hkP hkPi hy (a := b) (cell := cellB) (by rw [hT]; exact hcB)
    (fun z h => by rw [h] at hoB; cases hoB) hselP hmethM habM hkP hkPi (g := g) hg (argsL := As) (rest := rest) (hn.trans (hlen _ hsigM)) hstack (by rw [hb]; exact hdg)
  obtain ⟨o, st₀, t, T', L, h0, X', hL, e1, e2, hq, hr, ht⟩ := vt_free (bytes := bytes) (maxL := maxL) (ret := ret) hM hbl hrc hrs hfr hlo hws hcw hini X₁ (g := { g with stack := rest }) hg (hsize.trans hml.symm) (ig := .invokevirtual index) (len := 3) (by rw [hb]; exact hdg) hW (X₁.named hnamed) hf (hPc (T.setVm vm₁) hT X₁.warmed)
  refine ⟨o, st₀, t, T', L, h0.trans hT, X', hL, e1, e2, hq, fun v hv tg htg => ?_, fun x hv tg htg => ?_⟩
  · exact hstep₁ _ fun acts => by rw [doInvoke_state]; exact (hr v hv).trans htg
  · exact hstep₁ _ fun acts => by rw [doInvoke_state]; exact (ht x hv).trans htg
/-- an end: an answer, or the cell E thrown; and the world behind it -/
def vt_Q {S : Type} (post : Option Value → S → Prop) (postT : S → Prop) (B : S → State → Prop) (E : Nat) (A : Nat → Prop) : Array Value → State → Outcome → State → Prop := fun _ st oc t =>
  ∃ u : S, ((∃ r, oc = .returned r ∧ post r u) ∨ (oc = .threw E ∧ postT u)) ∧ B u t ∧ va_F A st t
theorem vt_call {S : Type} {post : Option Value → S → Prop} {postT : S → Prop} {B : S → State → Prop} {E : Nat} {pc : Nat} {ls : Array Slot} {rest st0 : List Value} {a : Array Value} {A0 A1 : Nat → Prop} {H0 : Heap} {mc ms : Nat} {free : Addr → Prop}
    (hr : vt_Run p l e R s m args below meth c H locs cells slots mc ms (F0 m pc ls st0) rest (vt_Q post postT B E A1 a) free) (hS : va_S A0 H0 H locs) (hA : ∀ q, q < H.size → A1 q → A0 q) (hf : ∀ q, free q → A0 q)
    (kk : ∀ (r : Option Value) (u : S) (t : State) (H1 : Heap) (locs1 : List Loc), t.heap = H1 → s.vm.Alike t.vm → post r u → B u t → H.size ≤ H1.size → (∀ q : Nat, q < H.size → ¬ A1 q → H1[q]? = H[q]?) → va_S A0 H0 H1 locs1 → W p l e R s m args below meth c H1 locs1 (cells + mc) (slots + ms) Q (F0 m (pc + 3) ls (r.toList ++ rest)))
    (kt : ∀ (u : S) (t : State) (H1 : Heap) (locs1 : List Loc), t.heap = H1 → s.vm.Alike t.vm → postT u → B u t → H.size ≤ H1.size → (∀ q : Nat, q < H.size → ¬ A1 q → H1[q]? = H[q]?) → va_S A0 H0 H1 locs1 → vt_WT p l e R s m args below meth c H1 locs1 (cells + mc) (slots + ms) Q (F0 m pc ls rest) E) : W p l e R s m args below meth c H locs cells slots Q (F0 m pc ls st0) := by
  intro T hT X
  obtain ⟨o, st₀, t, T', L, h0, X', hL, e1, e2, ⟨u, hc, hb, hz, hk⟩, st1, st2⟩ := hr T hT X
  rw [h0] at hz hk
  have hS1 : va_S A0 H0 T'.heap (locs ++ L) := ⟨Nat.le_trans hS.1 (by rw [e1]; exact hz), fun q h1 h2 => by rw [e1, hk q (Nat.lt_of_lt_of_le h1 hS.1) (fun z => h2 (hA q (Nat.lt_of_lt_of_le h1 hS.1) z))]; exact hS.2.1 q h1 h2, fun q hq => by
      rcases List.mem_append.mp hq with h | h
      · exact hS.2.2 q h
      · exact hf _ (hL q h)⟩
  have hal : s.vm.Alike t.vm := by rw [← e2]; exact X'.warmed.alike
  rcases hc with ⟨r, hv, hp⟩ | ⟨hv, hp⟩
  · obtain ⟨t2, a1, b1⟩ := kk r u t T'.heap (locs ++ L) e1.symm hal hp hb (by rw [e1]; exact hz) (fun q h1 h2 => by rw [e1]; exact hk q h1 h2) hS1 T' rfl X'
    exact ⟨t2, st1 r hv t2 a1, b1⟩
  · obtain ⟨t2, a1, b1⟩ := kt u t T'.heap (locs ++ L) e1.symm hal hp hb (by rw [e1]; exact hz) (fun q h1 h2 => by rw [e1]; exact hk q h1 h2) hS1 T' rfl X'
    exact ⟨t2, st2 E hv t2 a1, b1⟩
end VT
section VTC
/-- what the search gives in the state s, and the state that it leaves (a class entry may have been resolved) -/
def vt_Finds (e : Env) (s : State) (f : JFrame) (a : Addr) (h : Handler) (s' : State) : Prop :=
  ∀ (Q : Handler → Pre) (E : CtlPost) (d : Bool) (acts : List Action), wp (findHandler f a) Q E e d acts s ↔ Q h d acts s'
theorem vt_go {Q : Handler → Pre} {E : CtlPost} {e : Env} {d : Bool} {acts : List Action} {u : State} {f : JFrame} {a : Addr} {x : ExceptionTableEntry} {cT : ClassId} {vm' : Vm} {cell : Cell} (hx : covers x f.pc = true) (h0 : x.catchType ≠ 0)
    (hg : (Jvm.resolveClass f.method.cls x.catchType).Gives e.toSetting u.vm (.ok cT) vm') (hsz : vm'.classes.size ≤ u.vm.classes.size) (hcell : u.heap[a]? = some cell) (hobj : ∀ k, cell.vm ≠ .statics k)
    (hk : ∃ k, vm'.classes[cell.cls]? = some k) (hc : ∃ k, vm'.classes[cT]? = some k) (hfit : vm'.assignable cell.cls cT = true) :
    wp (findHandler.go f a [x]) Q E e d acts u ↔ Q (.found x.handlerPc) d acts (u.setVm vm') := by
  simp only [covers] at hx
  obtain ⟨ha, ht⟩ := hg.op (op := VmOp.resolveClass f.method.cls x.catchType) rfl
  simp [findHandler.go, hx, h0, ha, ht, hsz, hcell, hobj, hk, hc, hfit, VmOp.dirties, VmOp.acts]
theorem vt_stepCatch {e : Env} {s s' : State} {a : Addr} {f : JFrame} {r : List Frame} {pc : Nat} (hfind : vt_Finds e s f a (.found pc) s') :
    (stepThrowing e s a (.java f :: r)).Is (s'.setFrames (.java { f with pc := pc, stack := [.ref a] } :: r)) [] := by
  simp only [stepThrowing, searchFrame, vmDo]
  generalize hr : Sem.go _ e false [] s = res
  obtain ⟨as, rfl, ha⟩ := Sem.eq_ok_of hr (a := Handler.found pc) (s' := s') (acts' := []) (by simp [hfind _ _ _ _])
  exact ⟨rfl, ha⟩
theorem vt_caught {tb : Tables} {e : Env} {T target : State} {g : JFrame} {c : Code} {below : List Frame} {a : Addr} {vm' : Vm} (h : At T g.method c below) {pc : Nat}
    (hfind : vt_Finds e ((T.setTop g).pushFrame (.throwing a)) g a (.found pc) (((T.setTop g).pushFrame (.throwing a)).setVm vm'))
    (hrest : Steps tb e below ((T.setVm vm').setTop { g with pc := pc, stack := [.ref a] }) target) :
    Steps tb e below ((T.setTop g).pushFrame (.throwing a)) target := by
  obtain ⟨hgo, hw⟩ := h.throwing a
  refine Steps.head hgo hw ?_
  rw [stepThread_throwing (frames_entered h.top _), (vt_stepCatch hfind).1]
  obtain ⟨g₀, hg⟩ := Option.isSome_iff_exists.mp h.top
  obtain ⟨r, hr⟩ := State.topJava?_eq_some.mp hg
  have hr' : (T.setVm vm').frames = .java g₀ :: r := hr
  have c1 : ∀ fs, (T.setFrames fs).setVm vm' = (T.setVm vm').setFrames fs := fun fs => rfl
  rw [State.setTop_of_frames _ hr'] at hrest
  rw [State.pushFrame, State.setTop_of_frames _ hr, State.setFrames_setFrames, c1, State.setFrames_setFrames, hr]
  exact hrest
variable {p : Program} {l : Launch} {e : Env} {R : Room} {s : State} {m : MethodId} {args : Array Value} {below : List Frame} {meth : Method} {c : Code} {H : Heap} {locs : List Loc} {cells slots : Nat} {Q : State → Prop}
/-- the one handler of the method takes the object: the walk goes on at the handler -/
theorem vt_catch {own nm : String} {index hpc lo hi : Nat} (hown : s.vm.findClass own = some m.cls) (hlink : (Cond.classLink own index nm).before args s = true) {cC : ClassId} (hc : ClassAt s nm cC)
    (hh : c.exceptionTable.toList.map (fun h => (h.startPc, h.endPc, h.handlerPc, h.catchType)) = [(lo, hi, hpc, index)]) (h0 : index ≠ 0) {pc : Nat} {ls : Array Slot} {st : List Value} {x : Addr} (hcov : lo ≤ pc ∧ pc < hi)
    (hr : ∃ cell : Cell, H[x]? = some cell ∧ cell.vm.isStatics = false ∧ s.vm.findClass nm = some cell.cls)
    (k : W p l e R s m args below meth c H locs cells slots Q (F0 m hpc ls [.ref x])) : vt_WT p l e R s m args below meth c H locs cells slots Q (F0 m pc ls st) x := by
  obtain ⟨cell, h1, h2, h3⟩ := hr
  have e1 : cC = cell.cls := Option.some.inj (hc.1.symm.trans h3)
  have hx : c.exceptionTable.toList = [⟨lo, hi, hpc, index⟩] := by
    cases hl : c.exceptionTable.toList with
    | nil => rw [hl] at hh; cases hh
    | cons y t =>
      rw [hl] at hh
      simp only [List.map_cons, List.cons.injEq, List.map_eq_nil_iff, Prod.mk.injEq] at hh
      obtain ⟨⟨q1, q2, q3, q4⟩, q5⟩ := hh
      rw [q5, ← q1, ← q2, ← q3, ← q4]
  intro T hT X
  have hpl : e.platform.magicAccessors = ({} : Platform).magicAccessors := by rw [X.admits.platform]
  obtain ⟨c', hc', hcl⟩ := Cond.classLink_spec hown hlink e.platform hpl
  cases hc.1.symm.trans hc'
  obtain ⟨dk, _, _, kt, hd, _, _, _, _, hkt, _, hopen⟩ := hcl.here
  have hcl₀ := X.warmed.classLinks hcl
  have hW' : s.WarmedH (T.vm.noted m.cls index (.cls cC)) := X.warmed.noted hd hopen (State.rightAt_cls hcl)
  obtain ⟨kt', hkt', -⟩ := hW'.alike.2.2 _ _ hkt
  obtain ⟨t, a1, b1⟩ := k (T.setVm (T.vm.noted m.cls index (.cls cC))) hT (X.noted hW')
  refine ⟨t, ?_, b1⟩
  have hvm := Stand.throwing_vm T (F0 m pc ls st) x
  have hheap := Stand.throwing_heap T (F0 m pc ls st) x
  refine vt_caught (g := F0 m pc ls st) (pc := hpc) (vm' := T.vm.noted m.cls index (.cls cC)) X.here ?_ a1
  intro Q' E' d acts
  rw [_root_.Jvm.W.findHandler_eq (meth := meth) (code := c) (by rw [hvm]; exact X.method') X.code, hx]
  exact vt_go (x := ⟨lo, hi, hpc, index⟩) (cT := cC) (cell := cell) (by simp [covers, hcov.1, hcov.2]) h0 (by rw [hvm]; exact resolveClass_links e.toSetting hcl₀) (by rw [hvm]; no_record) (by rw [hheap, hT]; exact h1)
    (fun z hz => by rw [hz] at h2; cases h2) ⟨kt', by rw [← e1]; exact hkt'⟩ ⟨kt', hkt'⟩ (by rw [hW'.alike.assignable, ← e1]; exact va_assign hc)
end VTC
end
section
/-! 'new X()' OF AN EXCEPTION CLASS OF THE JDK, under a launch without stack traces: new, dup, invokespecial X.<init>() in one row -/
set_option maxRecDepth 100000
section VI
variable {p : Program} {l : Launch} {e : Env} {R : Room} {s : State} {m : MethodId} {args : Array Value} {below : List Frame} {meth : Method} {c : Code} {H : Heap} {locs : List Loc} {cells slots : Nat} {Q : State → Prop}
set_option maxHeartbeats 4000000 in
/-- the constructor comes back: her cell is of the same class and size, nothing else is written -/
theorem vi_ctor0 {W0 : State} (X : Stand p l e R s m args below meth c W0 [] cells slots) (hexec : p.tables.exec = Jvm.exec) (htr : e.platform.stackTraces = false) {own cls : String} {names : List String} {ic : Nat}
    (hown : s.vm.findClass own = some m.cls) (hcls : Bundle.fit cls = true) (hnames : ∀ n ∈ names, Bundle.fit n = true)
    (h : ∀ a ∈ Bundle.ownAtoms0 own ic cls names, a.before args s = true)
    {a : Addr} {cX : ClassId} {kX : Class} (hfoundX : s.vm.findClass cls = some cX) (hkX : s.vm.classes[cX]? = some kX) (hcell : W0.heap[a]? = some (freshCell cX kX)) (hnew : s.heap.size ≤ a)
    {g : JFrame} (hg : g.method = m) (hsize : g.locals.size = c.maxLocals) {rest : List Value} (hstack : g.stack = .ref a :: rest)
    (hd6 : decode c.code g.pc = .ok (.invokespecial ic, 3))
    (hRframes : names.length + 3 < R.frames) (hRlocals : 2 * g.monitorRoom + (rest.map fun v => v.category).sum + (13 * (names.length + 1) + 41) ≤ R.locals) :
    ∃ (vm' : Vm) (cell' : Cell) (L : List Loc), Stand p l e R s m args below meth c ((W0.setVm vm').setCell a cell') L cells slots ∧ (∀ q ∈ L, q.base = a) ∧ cell'.cls = cX ∧ cell'.vm = .none ∧ cell'.slots.size = kX.instanceTypes.size ∧
      ∀ target, Steps p.tables e below (((W0.setVm vm').setCell a cell').setTop { g with pc := g.pc + 3, stack := rest }) target → Steps p.tables e below (W0.setTop g) target := by
  have howns : e.platform.frameOwnsMonitors = true := by rw [X.admits.platform]
  have hfin : e.platform.finalization = false := by rw [X.admits.platform]
  have hpl : e.platform.magicAccessors = ({} : Platform).magicAccessors := by rw [X.admits.platform]
  have a' : ∀ x, x ∈ Bundle.ownAtoms0 own ic cls names → x.holds args s none s [] = true := fun x hx => h x hx
  obtain ⟨T, Z, L, LZ, Y⟩ := ThrowableC.of_atoms (args := args) howns hfin hpl (fun x hx => h x (by simp [Bundle.ownAtoms0, hx]))
  obtain ⟨P1, Ps, hlen, L1, hL, hP1m, hlink1, hlink⟩ := Bundle.chain0 (args := args) hpl Y.init0 names cls hcls hnames (fun x hx => h x (by simp [Bundle.ownAtoms0, hx]))
  have hfound : s.vm.findClass cls = some P1.m.cls := findClass_of_methodNamed hP1m
  cases Option.some.inj (hfoundX.symm.trans hfound)
  obtain ⟨c1, kX', hc1, hk, hord, -, -, hn6⟩ := Cond.instantiable_spec (a' (.instantiable cls 6) (by simp [Bundle.ownAtoms0]))
  cases Option.some.inj (hc1.symm.trans hfound)
  cases Option.some.inj (hkX.symm.trans hk)
  have hsel0 : selectMethod e.platform s.vm P1.m.cls T.fill0 = .method T.fill0 := by
    obtain ⟨c2, r2, m2, q1, q2, q3, q4, -⟩ := Cond.selects_spec (a' (.selects cls Bundle.tFill0 Bundle.tFill0) (by simp [Bundle.ownAtoms0]))
    cases Option.some.inj (q1.symm.trans hfound)
    cases Option.some.inj (q2.symm.trans (State.methodFound?_of_named Y.fill0 (by decide)))
    cases Option.some.inj (q3.symm.trans Y.fill0)
    rw [Launch.admits_selectMethod X.admits]; exact q4
  have hselF : selectMethod e.platform s.vm P1.m.cls T.fill = .method T.fill := by
    obtain ⟨c2, r2, m2, q1, q2, q3, q4, -⟩ := Cond.selects_spec (a' (.selects cls Bundle.tFill Bundle.tFill) (by simp [Bundle.ownAtoms0]))
    cases Option.some.inj (q1.symm.trans hfound)
    cases Option.some.inj (q2.symm.trans (State.methodFound?_of_named Y.fill (by decide)))
    cases Option.some.inj (q3.symm.trans Y.fill)
    rw [Launch.admits_selectMethod X.admits]; exact q4
  obtain ⟨cellS0, hcS0, hiss⟩ := Y.statics
  obtain ⟨u0, hu0⟩ := Cond.staticRefV Y.unassigned L.unassignedStatic L.statics hcS0 hiss (a' (.isRef (.static Bundle.tN "UNASSIGNED_STACK" Bundle.steD)) (by simp [Bundle.ownAtoms0]))
  obtain ⟨sen, hsen⟩ := Cond.staticRefV Y.sentinel L.sentinelStatic L.statics hcS0 hiss (a' (.isRef (.static Bundle.tN "SUPPRESSED_SENTINEL" Bundle.listD)) (by simp [Bundle.ownAtoms0]))
  obtain ⟨ci198, i198, fB, hk198, hg198, ha198, hsB, -, hnB, htB, hffB⟩ := Cond.ownField (t := .object "java/lang/Object") Y.found L.cls (by decide +kernel) (a' (.fieldLink Bundle.tN 198 Bundle.tN "backtrace" "Ljava/lang/Object;") (by simp [Bundle.ownAtoms0])) (a' (.lays Bundle.tN Bundle.tN "backtrace" "Ljava/lang/Object;") (by simp [Bundle.ownAtoms0])) e.platform hpl
  obtain ⟨cellS, hcS', heS, -, hkeep⟩ := X.same.2.2.2.2.2 T.aS cellS0 hcS0
  have hcellS : W0.heap[T.aS]? = some cellS := hcS'
  have hout' : ∀ i, (⟨T.aS, i⟩ : Loc) ∉ ([] : List Loc) := fun i hmem => by cases hmem
  have hknownS : cellS.vm ≠ .unknown := by
    rw [heS]; intro hu
    rw [show cellS0.vm = .unknown from hu] at hiss
    cases hiss
  have hneS : T.aS ≠ a := Nat.ne_of_lt (Nat.lt_of_lt_of_le (Array.getElem?_eq_some_iff.mp hcS0).1 hnew)
  obtain ⟨tyC, dC, hdC, hdnC⟩ := Cond.laysAt hfound hk Y.cause (a' (.lays cls Bundle.tN "cause" "Ljava/lang/Throwable;") (by simp [Bundle.ownAtoms0]))
  obtain ⟨tyS, dS, hdS, hdnS⟩ := Cond.laysAt hfound hk Y.stack (a' (.lays cls Bundle.tN "stackTrace" Bundle.steD) (by simp [Bundle.ownAtoms0]))
  obtain ⟨tyP, dP, hdP, hdnP⟩ := Cond.laysAt hfound hk Y.supp (a' (.lays cls Bundle.tN "suppressedExceptions" Bundle.listD) (by simp [Bundle.ownAtoms0]))
  obtain ⟨tyB, dB, hdB, hdnB⟩ := Cond.laysAt hfound hk hffB (a' (.lays cls Bundle.tN "backtrace" "Ljava/lang/Object;") (by simp [Bundle.ownAtoms0]))
  have bC := Cond.laysApart hdB hdC hdnB hdnC (by rw [hnB, Y.causeName]; decide)
  have bS := Cond.laysApart hdB hdS hdnB hdnS (by rw [hnB, Y.stackName]; decide)
  have bP := Cond.laysApart hdB hdP hdnB hdnP (by rw [hnB, Y.suppName]; decide)
  have hskip : SkipFacts T e.platform s (fun u => u) u0 ((preparedCellV T.toThrowableT (freshCell P1.m.cls kX) a u0 sen).withEntry W0.cur) :=
    ⟨{ ci198 := ci198, i198 := i198, fBack := fB }, ⟨hk198, hg198, ha198, hsB⟩, by
      have := fresh_default (c := P1.m.cls) tyB
      rw [htB] at this
      simpa [preparedCellV, Cell.setSlot, Cell.withEntry, Array.getElem?_setIfInBounds, bC, bS, bP, bC.symm, bS.symm, bP.symm, defaultValue] using this, fun _ _ => rfl⟩
  obtain ⟨tm, methC, cdC, kC, vm₁, hnC, -, -, -, -, -, -, -, hW₁, st1⟩ := Steps.initCold (tb := p.tables) (e := e) (below := below) (s := s) (U := W0) X.here hexec X.warmed hpl hown (t := Bundle.init0 cls) rfl rfl (Bundle.fit_spec hcls).2
    (a' (.methodLink own ic (Bundle.init0 cls)) (by simp [Bundle.ownAtoms0])) (h (.instanceMethod (Bundle.init0 cls)) (by cases names <;> simp [Bundle.ownAtoms0, Bundle.chain0Atoms, Bundle.passAtoms])) (bytes := Bundle.five) (maxL := 1) (h (.code (Bundle.init0 cls) Bundle.five 1 none) (by cases names <;> simp [Bundle.ownAtoms0, Bundle.chain0Atoms, Bundle.passAtoms]))
    (f := g) hg (a := a) (rest := rest) hstack hd6
  cases Option.some.inj (hnC.symm.trans hP1m)
  have X₁ := X.noted hW₁
  obtain ⟨vm₂, X₂, st2⟩ := X₁.ctorPlainOffV hexec (g := { g with stack := rest }) hg hsize T L Z LZ (P1 :: Ps)
    (fun P hP => by rcases List.mem_cons.mp hP with rfl | hP; exact L1; exact hL P hP) ⟨hlink1, hlink⟩ (u0 := u0) (sen := sen) (self := a) (cell := freshCell P1.m.cls kX) (cellS := cellS)
    hcell (fun _ => by simp) (by simp) rfl rfl hsel0 hselF hcellS hneS hknownS (by rw [hkeep _ (hout' _)]; exact hu0) (by rw [hkeep _ (hout' _)]; exact hsen)
    (Takes.of_laid hk hord tyC (by rw [Y.causeType]; rfl)) (Takes.of_laid hk hord tyS (by rw [Y.stackType]; exact fits_refV_array _ u0)) (Takes.of_laid hk hord tyP (by rw [Y.suppType]; exact fits_refV_object _ sen)) Y.objLocals hskip htr [] hd6
    (by simp only [List.length_cons, hlen]; omega) (by simp only [List.length_cons, hlen]; exact hRlocals)
  refine ⟨vm₂, (preparedCellV T.toThrowableT (freshCell P1.m.cls kX) a u0 sen).setSlot T.fStack.slot u0.v, _, X₂, ?_, rfl, rfl, ?_, fun target ht => ?_⟩
  · intro q hq
    simp only [List.nil_append, List.mem_cons, List.not_mem_nil, or_false] at hq
    rcases hq with rfl | rfl | rfl | rfl <;> rfl
  · simp [preparedCellV, Cell.setSlot]
  · exact st1 _ (fun acts => by
      rw [doInvoke_state]
      exact st2 _ ht)
variable {cc : ByteArray} {pc : Nat} {ls : Array Slot} {rest : List Value} {D : va_G} {cl : List vw_C} {A : Nat → Prop} {tys : List (ClassId × FieldType)} {ws : va_W}
set_option maxHeartbeats 4000000 in
/-- new X; dup; invokespecial X.<init>(): the world has one object more -/
theorem vi_newE (hexec : p.tables.exec = Jvm.exec) (hb : c.code = cc) (htr : e.platform.stackTraces = false) {own cls : String} {names : List String} {ix ic N ci : Nat} {T : u_T} {Ts : List Cond} (hml : c.maxLocals = ls.size) (hown : s.vm.findClass own = some m.cls) (hcls : Bundle.fit cls = true) (hnames : ∀ n ∈ names, Bundle.fit n = true)
    (hat : ∀ a ∈ Bundle.ownAtoms0 own ic cls names, a.before args s = true) (hcl : (Cond.classLink own ix cls).before args s = true) (hini : (Cond.initialized cls).before args s = true) (hinst : (Cond.instantiable cls N).before args s = true) (hts : ∀ w ∈ Ts, w.before args s = true) (hin : ∀ w ∈ u_ws cls T N, w ∈ Ts)
    (hK : va_K D cl tys s) (hP : va_P D cl ws H) (hD : va_D A ws) (hS : va_S A s.heap H []) (hA : ∀ q, s.heap.size ≤ q → A q) (hc : cl[ci]? = some (cls, T, N)) (hcells : cells + 1 ≤ R.cells) (hslots : slots + N ≤ R.slots)
    (hd0 : decode cc pc = .ok (.new ix, 3)) (hd3 : decode cc (pc + 3) = .ok (.dup, 1)) (hd4 : decode cc (pc + 4) = .ok (.invokespecial ic, 3)) (hRframes : names.length + 3 < R.frames) (hRlocals : (rest.map fun v => v.category).sum + (13 * (names.length + 1) + 42) ≤ R.locals)
    (kk : ∀ (q : Nat) (fs : List Value) (H1 : Heap) (locs1 : List Loc), va_P D cl (ws ++ [(q, .inr (ci, fs))]) H1 → va_D A (ws ++ [(q, .inr (ci, fs))]) → va_S A s.heap H1 locs1 →
      W p l e R s m args below meth c H1 locs1 (cells + 1) (slots + N) Q (F0 m (pc + 7) ls (.ref q :: rest))) : W p l e R s m args below meth c H [] cells slots Q (F0 m pc ls rest) := by
  have hKn := hK.1 ci _ hc
  refine W.newcK hexec hb hown hcl hinst hini rfl hd0 hcells hslots hKn.2.1 rfl fun H1 kC hkC e1 z1 o1 => ?_
  refine lv_dup hexec hb hd3 rfl ?_
  intro T0 hT0 X
  obtain ⟨vm', cell', L, X', hL, hcl', hvm', hsz', st⟩ := vi_ctor0 X hexec htr hown hcls hnames hat hKn.2.1 hkC (a := H.size) (by rw [hT0]; exact e1) hS.1 (g := F0 m (pc + 4) ls (.ref H.size :: .ref H.size :: rest)) rfl hml.symm (rest := .ref H.size :: rest) rfl (by rw [hb]; exact hd4) hRframes
    (by show 2 * 0 + ((Value.ref H.size :: rest).map fun v => v.category).sum + _ ≤ _
        rw [List.map_cons, List.sum_cons]
        show 2 * 0 + (1 + _) + _ ≤ _
        omega)
  have hlt : H.size < H1.size := by rw [z1]; exact Nat.lt_succ_self _
  have hheap : ((T0.setVm vm').setCell H.size cell').heap = H1.setIfInBounds H.size cell' := by rw [← hT0]; rfl
  have oq : ∀ q : Nat, q ≠ H.size → (H1.setIfInBounds H.size cell')[q]? = H1[q]? := fun q hq => by simp [Array.getElem?_setIfInBounds, Ne.symm hq]
  have hk : ∀ (k : Nat) (x : Nat × va_E), ws[k]? = some x → (H1.setIfInBounds H.size cell')[x.1]? = H[x.1]? := fun k x hx => by
    have h1 := (hP k x hx).lt
    rw [oq _ (Nat.ne_of_lt h1), o1 _ h1]
  have hfs : ∀ k, k < N → cell'.slots[D.2 ci k]? = some (vp_V ((List.range N).map (fun j => (cell'.slots[D.2 ci j]?).getD .null)) k) := fun k hkN => by
    obtain ⟨cf, kf, fi, fd, hi, he⟩ := hKn.1 k hkN
    have h3 := (u_facts hKn.2.1 hkC (u_lays hts hin hkN) hi).2.2
    have h4 : D.2 ci k < cell'.slots.size := by rw [hsz', ← he]; exact (Array.getElem?_eq_some_iff.mp h3).1
    simp [vp_V, hkN, Array.getElem?_eq_getElem h4]
  obtain ⟨t, a1, b1⟩ := kk H.size ((List.range N).map (fun j => (cell'.slots[D.2 ci j]?).getD .null)) (H1.setIfInBounds H.size cell') L
    ((hP.kept hk).app (fun k x hx => by
      have hz : k < 1 := (List.getElem?_eq_some_iff.mp hx).1
      rw [show k = 0 by omega] at hx
      cases hx
      exact ⟨_, hc, cell', by simp [Array.getElem?_setIfInBounds, hlt], hcl', hvm', hfs⟩))
    (hD.push hP rfl (hA _ hS.1))
    ⟨Nat.le_trans hS.1 (by simp; omega), fun x h1 h2 => by
      have h3 : x < H.size := Nat.lt_of_lt_of_le h1 hS.1
      rw [oq _ (Nat.ne_of_lt h3), o1 _ h3]
      exact hS.2.1 x h1 h2, fun q hq => by rw [hL q hq]; exact hA _ hS.1⟩ _ hheap X'
  exact ⟨t, st t a1, b1⟩
end VI
end
section
/-! THE PLAIN LAW: groups of seven bits, read and written, with no program in sight -/
set_option maxRecDepth 100000
theorem gp_and7 : ((7 : Int32).toInt64 &&& 63).toBitVec.smod 64 = 7#64 := by decide +kernel
/-- a shift count 7 k, as the machine takes it -/
theorem gp_cnt7 : ∀ k, k < 10 → (((7 * nI k : Int32).toInt64 &&& 63).toBitVec.smod 64).toNat = 7 * k := by decide +kernel
theorem gp_cnt7' : ∀ k, k < 9 → (((7 * nI k + 7 : Int32).toInt64 &&& 63).toBitVec.smod 64).toNat = 7 * (k + 1) := by decide +kernel
theorem gp_shl (a s : Int64) (k : Nat) (hs : (s.toBitVec.smod 64).toNat = k) : (a <<< s).toBitVec = a.toBitVec <<< k := by
  show a.toBitVec <<< (s.toBitVec.smod 64).toNat = _
  rw [hs]
theorem gp_shr (a s : Int64) (k : Nat) (hs : (s.toBitVec.smod 64).toNat = k) : (a >>> s).toInt = a.toInt >>> k := by
  show (a.toBitVec.sshiftRight (s.toBitVec.smod 64).toNat).toInt = _
  rw [hs, BitVec.toInt_sshiftRight]
  rfl
/-! ### bytes -/
def gp_By (f : Nat → Int32) : Prop := ∀ j, -128 ≤ (f j).toInt ∧ (f j).toInt ≤ 127
theorem gp_By0 : gp_By (fun _ => 0) := fun _ => (by decide : -128 ≤ (0 : Int32).toInt ∧ (0 : Int32).toInt ≤ 127)
theorem gp_By_upd {f : Nat → Int32} {k : Nat} {x : Int32} (h : gp_By f) : gp_By (upd f k x.toInt8.toInt32) := fun j => by
  by_cases e : j = k
  · subst e
    rw [pk_us]
    have := lg_i2b_range x
    omega
  · rw [pk_un e]
    exact h j
def gp_b (w k : Int32) : Int32 := (w >>> (k &&& 31)).toInt8.toInt32
def gp_put (f : Nat → Int32) (n : Nat) (w : Int32) : Nat → Int32 := upd (upd (upd (upd f n (gp_b w 24)) (n + 1) (gp_b w 16)) (n + 2) (gp_b w 8)) (n + 3) (gp_b w 0)
theorem gp_By_put {f : Nat → Int32} {n : Nat} {w : Int32} (h : gp_By f) : gp_By (gp_put f n w) := gp_By_upd (gp_By_upd (gp_By_upd (gp_By_upd h)))
def gp_feed (f : Nat → Int32) (n : Nat) (a b c d e : Int32) : Nat → Int32 := gp_put (gp_put (gp_put (gp_put (gp_put f n a) (n + 4) b) (n + 8) c) (n + 12) d) (n + 16) e
theorem gp_By_feed {f : Nat → Int32} {n : Nat} {a b c d e : Int32} (h : gp_By f) : gp_By (gp_feed f n a b c d e) := gp_By_put (gp_By_put (gp_By_put (gp_By_put (gp_By_put h))))
/-- a byte below 0 -/
theorem gp_neg {x : Int32} (h : -128 ≤ x.toInt ∧ x.toInt ≤ 127) (hn : x < 0) : ∃ k : Nat, k < 128 ∧ x = nI k - 128 := by
  have h0 : x.toInt < 0 := by simpa using Int32.lt_iff_toInt_lt.mp hn
  refine ⟨(x.toInt + 128).toNat, by omega, Int32.toInt_inj.mp ?_⟩
  have e1 : ((128 : Nat) : Int) = 128 := rfl
  rw [show (128 : Int32) = nI 128 from rfl, pk_sub_toInt (by omega) (by omega)]
  omega
theorem gp_pos {x : Int32} (h : -128 ≤ x.toInt ∧ x.toInt ≤ 127) (hn : ¬ x < 0) : ∃ k : Nat, k < 128 ∧ x = nI k := by
  obtain ⟨k, hk, e⟩ := nI_of hn
  refine ⟨k, ?_, e⟩
  rw [e, nI_toInt hk] at h
  omega
theorem gp_tneg : ∀ k, k < 128 → ¬ ((nI k - 128) &&& 255) ≤ 15 ∧ ¬ ((nI k - 128) &&& 255) < 128 ∧ 128 ≤ ((nI k - 128) &&& 255) ∧ ¬ ((nI k - 128) &&& 255) ≤ 7 ∧ ¬ ((nI k - 128) &&& 255) ≤ 127 ∧ ¬ ((nI k - 128) &&& 255) = 0 ∧ ¬ ((nI k - 128) &&& 255) = 127 := by decide +kernel
theorem gp_tpos : ∀ k, k < 128 → (nI k &&& 255) = nI k ∧ ¬ 128 ≤ nI k ∧ nI k ≤ 127 ∧ ((nI k &&& 64 = 0) ↔ ¬ 63 < nI k) ∧ 0 ≤ nI k := by decide +kernel
theorem gp_127 (x : Int32) : (x &&& 255) &&& 127 = x &&& 127 := by
  rw [Int32.and_assoc, show (255 : Int32) &&& 127 = 127 from by decide]
/-! ### reading -/
/-- c groups of at most 'most' go on -/
def gp_Is (f : Nat → Int32) (a n most c : Nat) : Prop := c ≤ most ∧ (∀ j, j < c → a + j < n ∧ f (a + j) < 0) ∧ (c < most → n ≤ a + c ∨ ¬ f (a + c) < 0)
theorem gp_ex (f : Nat → Int32) (a n : Nat) : ∀ most, ∃ c, gp_Is f a n most c := by
  intro most
  induction most with
  | zero => exact ⟨0, Nat.le_refl _, fun j h => absurd h (Nat.not_lt_zero j), fun h => absurd h (Nat.lt_irrefl _)⟩
  | succ k ih =>
    obtain ⟨c, h1, h2, h3⟩ := ih
    by_cases e : c = k
    · subst e
      by_cases h : a + c < n ∧ f (a + c) < 0
      · refine ⟨c + 1, Nat.le_refl _, fun j hj => ?_, fun hj => absurd hj (Nat.lt_irrefl _)⟩
        by_cases ej : j = c
        · subst ej; exact h
        · exact h2 j (by omega)
      · refine ⟨c, Nat.le_succ _, h2, fun _ => ?_⟩
        by_cases hn : n ≤ a + c
        · exact Or.inl hn
        · exact Or.inr fun q => h ⟨by omega, q⟩
    · exact ⟨c, by omega, h2, fun _ => h3 (by omega)⟩
def gp_bad (how : Nat) (last : Int32) : Prop := (how = 0 ∧ 15 < last) ∨ (how = 1 ∧ 7 < last ∧ last < 120) ∨ (how = 2 ∧ 0 < last ∧ last < 127)
def gp_ok (how most n a c : Nat) (f : Nat → Int32) : Prop := c < most ∧ a + c < n ∧ ¬ (c + 1 = most ∧ gp_bad how (f (a + c)))
/-- from the lowest group on -/
def gp_acc (f : Nat → Int32) (a : Nat) : Nat → Int64
  | 0 => 0
  | k + 1 => gp_acc f a k ||| (((f (a + k) &&& 255) &&& 127).toInt64 <<< ((7 * nI k : Int32).toInt64 &&& 63))
/-- from the highest group on -/
def gp_hor (f : Nat → Int32) (a : Nat) : Nat → Int64 → Int64
  | 0, v => v
  | k + 1, v => gp_hor f a k ((v <<< ((7 : Int32).toInt64 &&& 63)) ||| (f (a + k) &&& 127).toInt64)
theorem gp_hor_acc (f : Nat → Int32) (a : Nat) : ∀ k, k ≤ 10 → ∀ v : Int64, (gp_hor f a k v).toBitVec = (v.toBitVec <<< (7 * k)) ||| (gp_acc f a k).toBitVec := by
  intro k
  induction k with
  | zero =>
    intro _ v
    show v.toBitVec = (v.toBitVec <<< 0) ||| (0#64)
    simp
  | succ k ih =>
    intro hk v
    show (gp_hor f a k _).toBitVec = _
    rw [ih (by omega)]
    show ((v <<< ((7 : Int32).toInt64 &&& 63)).toBitVec ||| ((f (a + k) &&& 127).toInt64).toBitVec) <<< (7 * k) ||| (gp_acc f a k).toBitVec = v.toBitVec <<< (7 * (k + 1)) ||| ((gp_acc f a k).toBitVec ||| ((((f (a + k) &&& 255) &&& 127).toInt64 <<< ((7 * nI k : Int32).toInt64 &&& 63))).toBitVec)
    rw [gp_shl _ _ 7 (by rw [gp_and7]; decide), gp_shl _ _ (7 * k) (gp_cnt7 k (by omega)), gp_127, BitVec.shiftLeft_or_distrib, ← BitVec.shiftLeft_add, show 7 + 7 * k = 7 * (k + 1) by omega, BitVec.or_assoc, BitVec.or_comm (gp_acc f a k).toBitVec]
/-- what is read, before the cast to int -/
def gp_raw (how : Nat) (f : Nat → Int32) (a c : Nat) : Int64 := gp_hor f a (c + 1) (if 0 < how ∧ 63 < f (a + c) then -1 else 0)
def gp_val (how : Nat) (f : Nat → Int32) (a c : Nat) : Int64 := if how = 1 then (gp_raw how f a c).toInt32.toInt64 else gp_raw how f a c
theorem gp_raw0 {f : Nat → Int32} {a c : Nat} (hc : c < 10) : gp_acc f a (c + 1) = gp_raw 0 f a c := by
  apply Int64.toBitVec_inj.mp
  unfold gp_raw
  rw [if_neg (by omega), gp_hor_acc f a (c + 1) (by omega)]
  simp
/-- the sign's bits, where there is room for them -/
theorem gp_rawS {how : Nat} {f : Nat → Int32} {a c : Nat} (hh : 0 < how) (hc : c < 9) (h : 63 < f (a + c)) : gp_acc f a (c + 1) ||| ((-1 : Int64) <<< ((7 * nI c + 7 : Int32).toInt64 &&& 63)) = gp_raw how f a c := by
  apply Int64.toBitVec_inj.mp
  unfold gp_raw
  rw [if_pos ⟨hh, h⟩, gp_hor_acc f a (c + 1) (by omega)]
  show (gp_acc f a (c + 1)).toBitVec ||| ((-1 : Int64) <<< ((7 * nI c + 7 : Int32).toInt64 &&& 63)).toBitVec = _
  rw [gp_shl _ _ (7 * (c + 1)) (gp_cnt7' c hc), BitVec.or_comm]
theorem gp_rawP {how : Nat} {f : Nat → Int32} {a c : Nat} (hc : c < 10) (h : ¬ 63 < f (a + c) ∨ c = 9) : gp_acc f a (c + 1) = gp_raw how f a c := by
  apply Int64.toBitVec_inj.mp
  unfold gp_raw
  rw [gp_hor_acc f a (c + 1) (by omega)]
  rcases h with h | h
  · rw [if_neg (fun q => h q.2)]
    simp
  · subst h
    split
    · show _ = (-1 : Int64).toBitVec <<< (7 * 10) ||| _
      rw [show (-1 : Int64).toBitVec <<< (7 * 10) = 0#64 from by decide]
      simp
    · simp
theorem gp_c7 : ∀ k, k < 9 → ¬ (64 : Int32) ≤ 7 * nI k + 7 := by decide +kernel
theorem gp_c79 : (64 : Int32) ≤ 7 * nI 9 + 7 := by decide +kernel
/-! ### writing -/
def gp_left (v : Int64) : Nat → Int64
  | 0 => v
  | j + 1 => gp_left v j >>> ((7 : Int32).toInt64 &&& 63)
theorem gp_left_toInt (v : Int64) : ∀ j, (gp_left v j).toInt = v.toInt >>> (7 * j) := by
  intro j
  induction j with
  | zero => show v.toInt = v.toInt >>> 0; simp
  | succ j ih =>
    show (gp_left v j >>> ((7 : Int32).toInt64 &&& 63)).toInt = _
    rw [gp_shr _ _ 7 (by rw [gp_and7]; decide), ih, ← Int.shiftRight_add]
    rfl
def gp_more (how : Nat) (x : Int64) : Prop := (how = 0 ∧ 127 < x) ∨ (how ≠ 0 ∧ (x < -64 ∨ 63 < x))
def gp_Len (how : Nat) (v : Int64) (n : Nat) : Prop := 1 ≤ n ∧ n ≤ 10 ∧ (∀ j, j + 1 < n → gp_more how (gp_left v j)) ∧ ¬ gp_more how (gp_left v (n - 1))
theorem gp_bd (v : Int64) : -2 ^ 63 ≤ v.toInt ∧ v.toInt < 2 ^ 63 := ⟨v.le_toInt, v.toInt_lt⟩
theorem gp_left9 (v : Int64) : -1 ≤ (gp_left v 9).toInt ∧ (gp_left v 9).toInt ≤ 0 := by
  rw [gp_left_toInt, Int.shiftRight_eq_div_pow]
  have := gp_bd v
  show -1 ≤ v.toInt / ((2 ^ 63 : Nat) : Int) ∧ v.toInt / ((2 ^ 63 : Nat) : Int) ≤ 0
  omega
theorem gp_moreT (how : Nat) (x : Int64) : gp_more how x ↔ (how = 0 ∧ 127 < x.toInt) ∨ (how ≠ 0 ∧ (x.toInt < -64 ∨ 63 < x.toInt)) := by
  unfold gp_more
  rw [Int64.lt_iff_toInt_lt, Int64.lt_iff_toInt_lt, Int64.lt_iff_toInt_lt, show (127 : Int64).toInt = 127 from by decide, show (-64 : Int64).toInt = -64 from by decide, show (63 : Int64).toInt = 63 from by decide]
theorem gp_len_ex (how : Nat) (v : Int64) : ∃ n, gp_Len how v n := by
  have h9 : ¬ gp_more how (gp_left v 9) := by
    rw [gp_moreT]
    have := gp_left9 v
    omega
  obtain ⟨k, h1, h2⟩ := pk_least (fun k => ¬ gp_more how (gp_left v k)) ⟨9, h9⟩
  have hk : k ≤ 9 := by
    rcases Nat.lt_or_ge 9 k with q | q
    · exact absurd h9 (h2 9 q)
    · exact q
  exact ⟨k + 1, by omega, by omega, fun j hj => Classical.byContradiction (h2 j (by omega)), h1⟩
/-- the byte j of n -/
def gp_byte (v : Int64) (n j : Nat) : Int32 := (if j + 1 < n then ((gp_left v j) &&& 127).toInt32 ||| 128 else ((gp_left v j) &&& 127).toInt32).toInt8.toInt32
def gp_emit (v : Int64) (n : Nat) (g : Nat → Int32) (k : Nat) : Nat → (Nat → Int32)
  | 0 => g
  | j + 1 => upd (gp_emit v n g k j) (k + j) (gp_byte v n j)
/-- the last group of a number without sign is small already -/
theorem gp_small {x : Int64} (h0 : 0 ≤ x.toInt) (h : x.toInt ≤ 127) : x &&& 127 = x := by
  apply Int64.toBitVec_inj.mp
  apply BitVec.eq_of_toNat_eq
  have e1 : x.toInt = x.toBitVec.toInt := rfl
  have h2 : x.toBitVec.toNat < 128 := by
    have h3 := BitVec.toInt_eq_toNat_cond x.toBitVec
    rw [← e1] at h3
    have h4 := x.toBitVec.isLt
    split at h3 <;> omega
  show (x.toBitVec &&& 127#64).toNat = _
  rw [BitVec.toNat_and, show (127#64).toNat = 2 ^ 7 - 1 from by decide, Nat.and_two_pow_sub_one_eq_mod, Nat.mod_eq_of_lt (by omega)]
theorem gp_left_pos {v : Int64} (h : 0 ≤ v.toInt) (j : Nat) : 0 ≤ (gp_left v j).toInt := by
  rw [gp_left_toInt, Int.shiftRight_eq_div_pow]
  exact Int.ediv_nonneg h (by exact Int.natCast_nonneg _)
/-! ### the reference's question -/
theorem gp_enough0 {v : Int64} (hv : 0 ≤ v.toInt) {n : Nat} (h1 : 1 ≤ n) (h9 : n ≤ 9) : (v >>> ((7 * nI n : Int32).toInt64 &&& 63) = 0) ↔ ¬ gp_more 0 (gp_left v (n - 1)) := by
  rw [gp_moreT, ← Int64.toInt_inj, gp_shr _ _ (7 * n) (gp_cnt7 n (by omega)), gp_left_toInt, show (0 : Int64).toInt = 0 from by decide, show 7 * n = 7 * (n - 1) + 7 by omega, Int.shiftRight_add]
  have h2 : 0 ≤ v.toInt >>> (7 * (n - 1)) := by rw [Int.shiftRight_eq_div_pow]; exact Int.ediv_nonneg hv (Int.natCast_nonneg _)
  generalize v.toInt >>> (7 * (n - 1)) = y at h2
  rw [Int.shiftRight_eq_div_pow]
  show y / 128 = 0 ↔ _
  omega
theorem gp_cnt6 : ∀ n, n < 10 → 1 ≤ n → (((7 * nI n - 1 : Int32).toInt64 &&& 63).toBitVec.smod 64).toNat = 7 * (n - 1) + 6 := by decide +kernel
theorem gp_enoughS {how : Nat} (hh : how ≠ 0) (v : Int64) {n : Nat} (h1 : 1 ≤ n) (h9 : n ≤ 9) : ((v >>> ((7 * nI n - 1 : Int32).toInt64 &&& 63) = 0) ∨ (v >>> ((7 * nI n - 1 : Int32).toInt64 &&& 63) = -1)) ↔ ¬ gp_more how (gp_left v (n - 1)) := by
  rw [gp_moreT, ← Int64.toInt_inj, ← Int64.toInt_inj, gp_shr _ _ (7 * (n - 1) + 6) (gp_cnt6 n (by omega) h1), gp_left_toInt, show (0 : Int64).toInt = 0 from by decide, show (-1 : Int64).toInt = -1 from by decide, Int.shiftRight_add]
  generalize v.toInt >>> (7 * (n - 1)) = y
  rw [Int.shiftRight_eq_div_pow]
  show (y / 64 = 0 ∨ y / 64 = -1) ↔ _
  omega
theorem gp_le63 : ∀ n, n < 10 → (7 * nI n : Int32) ≤ 63 := by decide +kernel
theorem gp_gt63 : ¬ (7 * nI 10 : Int32) ≤ 63 := by decide +kernel
theorem gp_enough10 {how : Nat} (v : Int64) : ¬ gp_more how (gp_left v 9) := by
  rw [gp_moreT]
  have := gp_left9 v
  omega
/-- the reference's shift by min(7 k, 63) -/
theorem gp_sh7 (v : Int64) {k : Nat} (hk : k < 10) : v >>> ((7 * nI k : Int32).toInt64 &&& 63) = gp_left v k := by
  apply Int64.toInt_inj.mp
  rw [gp_shr _ _ (7 * k) (gp_cnt7 k hk), gp_left_toInt]
theorem gp_byteR (x : Int64) : x.toInt32 &&& 127 = (x &&& 127).toInt32 := by
  rw [Int64.toInt32_and]
  rfl
end
section
/-! THE WORLDS' CLASSES, AND WHAT EVERY CONTRACT'S START AND END SAY -/
set_option maxRecDepth 100000
abbrev vwCl : List vw_C := [(RX0, TX0, 6), (RX1, TX1, 3), (RX2, TX2, 4), (RX3, TX3, 2), (RX4, TX4, 5), (RJ3, TJ3, 6)]
/-- a contract's start: the arguments, the size, the cells, the tables -/
abbrev gC (dC : Nat → ClassId) (dI : Nat → Nat → Nat) (av : List Value) (ws : va_W) (tys : List (ClassId × FieldType)) (sz : Nat) : Array Value → State → Prop :=
  va_Pc av (fun U => U.heap.size = sz ∧ va_P (dC, dI) vwCl ws U.heap ∧ va_K (dC, dI) vwCl tys U ∧ va_D (fun _ => True) ws)
/-- the world behind it -/
abbrev gB (dC : Nat → ClassId) (dI : Nat → Nat → Nat) (A : Nat → Prop) (ws : va_W) (t : State) : Prop := va_P (dC, dI) vwCl ws t.heap ∧ va_D A ws
theorem gC_bl {dC : Nat → ClassId} {dI : Nat → Nat → Nat} {av : List Value} {ws : va_W} {tys : List (ClassId × FieldType)} {sz : Nat} : FrameBlind (gC dC dI av ws tys sz) := by
  intro a U g mk q
  obtain ⟨q0, q1, qP, qK, qD⟩ := q
  exact ⟨q0, q1, qP, va_K.moved (u := U) (U := U.calling g mk a) (Vm.Alike.refl U.vm) qK, qD⟩
theorem gC_of {s : State} {H : Heap} {A : Nat → Prop} {dC : Nat → ClassId} {dI : Nat → Nat → Nat} {av : List Value} {ws : va_W} {tys : List (ClassId × FieldType)} (hP : va_P (dC, dI) vwCl ws H) (hK : va_K (dC, dI) vwCl tys s) (hD : va_D A ws) : ∀ U : State, U.heap = H → s.WarmedH U.vm → gC dC dI av ws tys H.size av.toArray U :=
  fun U hU hW => ⟨rfl, by rw [hU], by rw [hU]; exact hP, va_K.moved hW.alike hK, hD.weaken (fun _ _ _ _ => trivial)⟩
/-- one class of byte arrays -/
theorem gK_one {D : va_G} {cl : List vw_C} {a b : ClassId} {s : State} (h : va_K D cl [(a, .byte), (b, .byte)] s) : b = a := by
  have h0 : s.vm.findClass ("[" ++ FieldType.byte.toString) = some a := (h.2 0 _ rfl).2
  have h1 : s.vm.findClass ("[" ++ FieldType.byte.toString) = some b := (h.2 1 _ rfl).2
  exact Option.some.inj (h1.symm.trans h0)
end
section
/-! THE PLAIN LAW, AS THE WALKS ASK IT -/
set_option maxRecDepth 100000
theorem gp_cle {x y : Int64} (c : ¬ lg_cmp x y ≤ 0) : y < x := Int64.not_le.mp (mt (lg_cmp_le x y).mpr c)
theorem gp_cle' {x y : Int64} (c : lg_cmp x y ≤ 0) : ¬ y < x := Int64.not_lt.mpr ((lg_cmp_le x y).mp c)
theorem gp_clt {x y : Int64} (c : lg_cmp x y < 0) : x < y := (lg_cmp_lt x y).mp c
theorem gp_clt' {x y : Int64} (c : ¬ lg_cmp x y < 0) : ¬ x < y := mt (lg_cmp_lt x y).mpr c
theorem gp_hi {x : Int32} (h : -128 ≤ x.toInt ∧ x.toInt ≤ 127) : 128 ≤ x &&& 255 ↔ x < 0 := by
  by_cases hn : x < 0
  · obtain ⟨k, hk, rfl⟩ := gp_neg h hn
    exact ⟨fun _ => hn, fun _ => (gp_tneg k hk).2.2.1⟩
  · obtain ⟨k, hk, rfl⟩ := gp_pos h hn
    refine ⟨fun q => ?_, fun q => absurd q hn⟩
    rw [(gp_tpos k hk).1] at q
    exact absurd q (gp_tpos k hk).2.1
def gp_lastI (b g : Int32) : Prop := (g = 5 ∧ (b ≤ 7 ∨ (¬ b < 120 ∧ ¬ 127 < b))) ∨ (¬ g = 5 ∧ (b = 0 ∨ b = 127))
def gp_hq (how q : Nat) : Prop := (how = 1 ∧ q = 4) ∨ (how = 2 ∧ q = 9)
theorem gp_go {f : Nat → Int32} {a n q c k : Nat} (hI : gp_Is f a n (q + 1) c) (hB : gp_By f) (hk : k ≤ c) (hkq : k ≤ q) (han : a + k < n) (h : 128 ≤ f (a + k) &&& 255) : k < c := by
  have hn := (gp_hi (hB (a + k))).mp h
  rcases Nat.lt_or_ge k c with q1 | q1
  · exact q1
  · have e : k = c := by omega
    subst e
    rcases hI.2.2 (by omega) with r | r
    · omega
    · exact absurd hn r
theorem gp_end {f : Nat → Int32} {a n q c k : Nat} (hI : gp_Is f a n (q + 1) c) (hB : gp_By f) (hk : k ≤ c) (h : ¬ 128 ≤ f (a + k) &&& 255) : k = c := by
  rcases Nat.lt_or_ge k c with q1 | q1
  · exact absurd ((gp_hi (hB (a + k))).mpr (hI.2.1 k q1).2) h
  · omega
theorem gp_out {f : Nat → Int32} {a n q c k how : Nat} (hI : gp_Is f a n (q + 1) c) (hk : k ≤ c) (han : n ≤ a + k) : ¬ gp_ok how (q + 1) n a c f := by
  intro ⟨h1, h2, h3⟩
  rcases Nat.lt_or_ge k c with q1 | q1
  · have := (hI.2.1 k q1).1
    omega
  · omega
theorem gp_stop {f : Nat → Int32} {a n q c how : Nat} (hh : gp_hq how q) (hI : gp_Is f a n (q + 1) c) (hB : gp_By f) (hk : q ≤ c) (han : a + q < n) (hb : ¬ gp_lastI (f (a + q) &&& 255) (nI (q + 1))) : ¬ gp_ok how (q + 1) n a c f := by
  intro ⟨h1, h2, h3⟩
  have e : c = q := by omega
  subst e
  by_cases hn : f (a + c) < 0
  · rcases hI.2.2 h1 with r | r
    · omega
    · exact r hn
  · obtain ⟨j, hj, ej⟩ := gp_pos (hB (a + c)) hn
    obtain ⟨t1, t2, t3, t4, t5⟩ := gp_tpos j hj
    apply h3
    refine ⟨rfl, ?_⟩
    rw [ej, t1] at hb
    rw [ej]
    rcases hh with ⟨rfl, rfl⟩ | ⟨rfl, rfl⟩
    · refine Or.inr (Or.inl ⟨rfl, ?_, ?_⟩)
      · exact Int32.not_le.mp fun z => hb (Or.inl ⟨rfl, Or.inl z⟩)
      · exact Classical.byContradiction fun z => hb (Or.inl ⟨rfl, Or.inr ⟨z, Int32.not_lt.mpr t3⟩⟩)
    · have h5 : ¬ nI (9 + 1) = 5 := by decide
      refine Or.inr (Or.inr ⟨rfl, ?_, ?_⟩)
      · rcases Int32.lt_or_eq_of_le t5 with z | z
        · exact z
        · exact absurd (Or.inr ⟨h5, Or.inl z.symm⟩) hb
      · rcases Int32.lt_or_eq_of_le t3 with z | z
        · exact z
        · exact absurd (Or.inr ⟨h5, Or.inr z⟩) hb
theorem gp_fin {f : Nat → Int32} {a n q c how : Nat} (hh : gp_hq how q) (hB : gp_By f) (hkq : c ≤ q) (han : a + c < n) (hn : ¬ 128 ≤ f (a + c) &&& 255) (hl : c = q → gp_lastI (f (a + c) &&& 255) (nI (q + 1))) : gp_ok how (q + 1) n a c f := by
  refine ⟨by omega, han, fun ⟨e, hb⟩ => ?_⟩
  have e : c = q := by omega
  subst e
  obtain ⟨j, hj, ej⟩ := gp_pos (hB (a + c)) (fun z => hn ((gp_hi (hB (a + c))).mpr z))
  obtain ⟨t1, t2, t3, t4, t5⟩ := gp_tpos j hj
  have hl := hl rfl
  rw [ej, t1] at hl
  rw [ej] at hb
  rcases hh with ⟨rfl, rfl⟩ | ⟨rfl, rfl⟩
  · rcases hb with z | z | z
    · exact absurd z.1 (by decide)
    · rcases hl with y | y
      · rcases y.2 with x | x
        · exact absurd z.2.1 (Int32.not_lt.mpr x)
        · exact x.1 z.2.2
      · exact y.1 rfl
    · exact absurd z.1 (by decide)
  · rcases hb with z | z | z
    · exact absurd z.1 (by decide)
    · exact absurd z.1 (by decide)
    · rcases hl with y | y
      · exact absurd y.1 (by decide)
      · rcases y.2 with x | x
        · rw [x] at z; exact absurd z.2.1 (by decide)
        · rw [x] at z; exact absurd z.2.2 (by decide)
theorem gp_stop0 {f : Nat → Int32} {a n c : Nat} (hI : gp_Is f a n (4 + 1) c) (hB : gp_By f) (hk : 4 ≤ c) (han : a + 4 < n) (hb : ¬ f (a + 4) &&& 255 ≤ 15) : ¬ gp_ok 0 (4 + 1) n a c f := by
  intro ⟨h1, h2, h3⟩
  have e : 4 = c := by omega
  subst e
  by_cases hn : f (a + 4) < 0
  · rcases hI.2.2 h1 with r | r
    · omega
    · exact r hn
  · obtain ⟨j, hj, ej⟩ := gp_pos (hB (a + 4)) hn
    obtain ⟨t1, t2, t3, t4, t5⟩ := gp_tpos j hj
    rw [ej, t1] at hb
    exact h3 ⟨rfl, Or.inl ⟨rfl, by rw [ej]; exact Int32.not_le.mp hb⟩⟩
theorem gp_fin0 {f : Nat → Int32} {a n c : Nat} (hB : gp_By f) (hkq : c ≤ 4) (han : a + c < n) (hn : ¬ 128 ≤ f (a + c) &&& 255) (hl : c = 4 → f (a + c) &&& 255 ≤ 15) : gp_ok 0 (4 + 1) n a c f := by
  refine ⟨by omega, han, fun ⟨e, hb⟩ => ?_⟩
  have e : 4 = c := by omega
  subst e
  obtain ⟨j, hj, ej⟩ := gp_pos (hB (a + 4)) (fun z => hn ((gp_hi (hB (a + 4))).mpr z))
  obtain ⟨t1, t2, t3, t4, t5⟩ := gp_tpos j hj
  have hl := hl rfl
  rw [ej, t1] at hl
  rw [ej] at hb
  rcases hb with z | z | z
  · exact absurd z.2 (Int32.not_lt.mpr hl)
  · exact absurd z.1 (by decide)
  · exact absurd z.1 (by decide)
/-- the sign's bit of the last byte -/
theorem gp_sgn {x : Int32} (h : -128 ≤ x.toInt ∧ x.toInt ≤ 127) (hn : ¬ 128 ≤ x &&& 255) : ((x &&& 255) &&& 64 = 0) ↔ ¬ 63 < x := by
  obtain ⟨j, hj, ej⟩ := gp_pos h (fun z => hn ((gp_hi h).mpr z))
  obtain ⟨t1, t2, t3, t4, t5⟩ := gp_tpos j hj
  rw [ej, t1]
  exact t4
theorem gp_9of : ∀ c, c < 10 → (64 : Int32) ≤ 7 * nI c + 7 → c = 9 := by decide +kernel
theorem gp_l9of : ∀ c, c < 10 → ¬ (64 : Int32) ≤ 7 * nI c + 7 → c < 9 := by decide +kernel
theorem gp_le15 {x : Int32} (h : x ≤ 15) (h2 : 128 ≤ x) : False := by
  rw [Int32.le_iff_toInt_le] at h h2
  rw [show (15 : Int32).toInt = 15 from by decide] at h
  rw [show (128 : Int32).toInt = 128 from by decide] at h2
  omega
theorem gp_an {f : Nat → Int32} {a n q c : Nat} (hI : gp_Is f a n (q + 1) c) (h0 : a ≤ n) : ∀ k, k ≤ c → a + k ≤ n := by
  intro k hk
  cases k with
  | zero => exact h0
  | succ k => have := (hI.2.1 k (by omega)).1; omega
theorem gp_last_lt {b g : Int32} (h : gp_lastI b g) (h2 : 128 ≤ b) : False := by
  have h3 : (128 : Int) ≤ b.toInt := by
    have := Int32.le_iff_toInt_le.mp h2
    rwa [show (128 : Int32).toInt = 128 from by decide] at this
  rcases h with ⟨-, h | h⟩ | ⟨-, h | h⟩
  · have := Int32.le_iff_toInt_le.mp h
    rw [show (7 : Int32).toInt = 7 from by decide] at this
    omega
  · have := Int32.le_iff_toInt_le.mp (Int32.not_lt.mp h.2)
    rw [show (127 : Int32).toInt = 127 from by decide] at this
    omega
  · rw [h] at h3; exact absurd h3 (by decide)
  · rw [h] at h3; exact absurd h3 (by decide)
/-- numbers that can't be written in the way asked -/
def gp_rng (hw : Nat) (v : Int64) : Prop := (hw = 0 ∧ (v < 0 ∨ 4294967295 < v)) ∨ (hw = 1 ∧ ¬ v = v.toInt32.toInt64)
theorem gp_rng0 {v : Int64} (h : ¬ gp_rng 0 v) : 0 ≤ v.toInt := by
  have h1 : ¬ v < 0 := fun z => h (Or.inl ⟨rfl, Or.inl z⟩)
  have h2 := Int64.le_iff_toInt_le.mp (Int64.not_lt.mp h1)
  simpa using h2
theorem gp_le {a b : Nat} (ha : a < 2 ^ 31) (hb : b < 2 ^ 31) (h : nI a ≤ nI b) : a ≤ b := (nI_leI ha hb).mp h
theorem gp_nle {a b : Nat} (ha : a < 2 ^ 31) (hb : b < 2 ^ 31) (h : ¬ nI a ≤ nI b) : b < a := Nat.not_le.mp fun z => h ((nI_leI ha hb).mpr z)
/-- an int is below 0, beyond n, or one of 0 .. n -/
theorem gp_ix (x : Int32) {n : Nat} (hn : n < 2 ^ 30) : (x < 0 ∨ nI n < x) ∨ ∃ j : Nat, j ≤ n ∧ x = nI j := by
  by_cases h : x < 0
  · exact Or.inl (Or.inl h)
  · obtain ⟨j, hj, rfl⟩ := nI_of h
    rcases Nat.lt_or_ge n j with q | q
    · exact Or.inl (Or.inr (nI_lt q hj))
    · exact Or.inr ⟨j, q, rfl⟩
theorem gp_min : ∀ j, j < 10 → (if (63 : Int32) < 7 * nI j then 63 else 7 * nI j) = 7 * nI j := by decide +kernel
def gp_sg (hw : Nat) (f : Nat → Int32) (a c : Nat) : Int64 := if 0 < hw ∧ 63 < f (a + c) then -1 else 0
theorem gp_sg0 {f : Nat → Int32} {a c : Nat} : gp_sg 0 f a c = 0 := if_neg (by omega)
theorem gp_sgP {hw : Nat} {f : Nat → Int32} {a c : Nat} (h : f (a + c) ≤ 63) : gp_sg hw f a c = 0 := if_neg (fun z => Int32.not_lt.mpr h z.2)
theorem gp_sgN {hw : Nat} {f : Nat → Int32} {a c : Nat} (h0 : 0 < hw) (h : ¬ f (a + c) ≤ 63) : gp_sg hw f a c = -1 := if_pos ⟨h0, Int32.not_le.mp h⟩
end
section
set_option maxRecDepth 100000
set_option maxHeartbeats 4000000 in
/-- Fault.begin(): number 0, place -1 -/
theorem m_F_begin (l : Launch) (dC : Nat → ClassId) (dI : Nat → Nat → Nat) (cB : ClassId) (aF aE : Nat) (nb pl : Int32) (sz : Nat)  : Met l yX1_begin (ws_ yX1_begin cX1_begin 1 none) ({ frames := 0, cells := 0, slots := 0, locals := 0 }) (gC dC dI [.ref aF] [(aF, .inr (1, [.ref aE, .int nb, .int pl]))] [(cB, .byte)] sz) (va_Qv (fun _ : Unit => True) (fun _ t => gB dC dI (va_A [(aF, .inr (1, [.ref aE, .int nb, .int pl]))] sz) [(aF, .inr (1, [.ref aE, .int 0, .int (-1)]))] t) (va_A [(aF, .inr (1, [.ref aE, .int nb, .int pl]))] sz)) 0 0 (va_A [(aF, .inr (1, [.ref aE, .int nb, .int pl]))] sz) := by
  refine Met.ofW (cc := cX1_begin) (maxL := 1) (ret := none) (by decide) rfl ?_
  intro p e s m args below meth c s₁ B hml hv
  obtain ⟨rfl, hsz, hP, hK, hD0⟩ := hv
  have hx := B.exec
  have hb := B.bytes
  have hr := B.returns
  have hts0 := atoms_spec (ws := (ws_ yX1_begin cX1_begin 1 none)) B.pre
  have hts : ∀ w ∈ lw_all, w.before _ s = true := fun w h => hts0 w (List.mem_cons_of_mem _ h)
  have hown : s.vm.findClass RX1 = some m.cls := findClass_of_methodNamed B.named
  have hlocks := B.notSynchronized
  subst hsz
  have hD := hD0.self (sz := s.heap.size)
  generalize hAe : va_A [(aF, .inr (1, [.ref aE, .int nb, .int pl]))] s.heap.size = A at hD ⊢
  have hA : ∀ q : Nat, s.heap.size ≤ q → A q := fun q h => by rw [← hAe]; exact Or.inr h
  have hS : va_S A s.heap s.heap [] := va_S.rf
  have hP : va_P (dC, dI) vwCl [(aF, .inr (1, [.ref aE, .int nb, .int pl]))] s.heap := hP
  have hl := lv_entry ([.ref aF]) (n := 1) (Nat.le_of_ble_eq_true rfl)
  rw [lg_entry_eq]
  generalize (lg_sl ([.ref aF]) ++ List.replicate (1 - (lg_sl ([.ref aF])).length) Slot.unset).toArray = ls at hl ⊢
  have hl : lv_has ls 1 [(0, .ref aF)] := hl
  refine lv_aload_n hx hb dX1_begin_0 rfl (lv_at hl 0 rfl) ?_
  refine lv_iconst (v := 0) hx hb dX1_begin_1 (by decide) ?_
  refine va_put (D := (dC, dI)) (ci := 1) (v := .int 0) (ty := .int) (C := RX1) (T := TX1) (N := 3) hx hb hts in_X1 tyX1 tyX1_ok nmX1 hown hK hP hD hS 0 rfl rfl 1 (by decide) (hts _ q90) (fun _ h9 => h9) rfl (by decide +kernel) rfl rfl (Nat.le_of_ble_eq_true rfl) dX1_begin_2 (fun H locs hP hD hS => ?_)
  have hP : va_P (dC, dI) vwCl [(aF, .inr (1, [.ref aE, .int 0, .int pl]))] H := hP
  have hD : va_D A [(aF, .inr (1, [.ref aE, .int 0, .int pl]))] := hD
  refine lv_aload_n hx hb dX1_begin_5 rfl (lv_at hl 0 rfl) ?_
  refine lv_iconst (v := (-1)) hx hb dX1_begin_6 (by decide) ?_
  refine va_put (D := (dC, dI)) (ci := 1) (v := .int (-1)) (ty := .int) (C := RX1) (T := TX1) (N := 3) hx hb hts in_X1 tyX1 tyX1_ok nmX1 hown hK hP hD hS 0 rfl rfl 2 (by decide) (hts _ q91) (fun _ h9 => h9) rfl (by decide +kernel) rfl rfl (Nat.le_of_ble_eq_true rfl) dX1_begin_7 (fun H locs hP hD hS => ?_)
  have hP : va_P (dC, dI) vwCl [(aF, .inr (1, [.ref aE, .int 0, .int (-1)]))] H := hP
  have hD : va_D A [(aF, .inr (1, [.ref aE, .int 0, .int (-1)]))] := hD
  exact W.vret hx hb hr (fun t ht hW => ⟨⟨(), rfl, trivial, by rw [ht]; exact hP, hD⟩, hS.F ht⟩) hS.2.2 dX1_begin_10
set_option maxHeartbeats 4000000 in
/-- Fault.at(n, p): both are noted; the answer is the stop -/
theorem m_F_at (l : Launch) (dC : Nat → ClassId) (dI : Nat → Nat → Nat) (cB : ClassId) (aF aE : Nat) (nb pl n p0 : Int32) (sz : Nat)  : Met l yX1_at (ws_ yX1_at cX1_at 3 (some (.object "java/lang/IllegalStateException"))) ({ frames := 0, cells := 0, slots := 0, locals := 0 }) (gC dC dI [.ref aF, .int n, .int p0] [(aF, .inr (1, [.ref aE, .int nb, .int pl]))] [(cB, .byte)] sz) (va_Qr (fun _ : Unit => True) (fun (_ : Unit) a t => a = aE ∧ gB dC dI (va_A [(aF, .inr (1, [.ref aE, .int nb, .int pl]))] sz) [(aF, .inr (1, [.ref aE, .int n, .int p0]))] t) (va_A [(aF, .inr (1, [.ref aE, .int nb, .int pl]))] sz)) 0 0 (va_A [(aF, .inr (1, [.ref aE, .int nb, .int pl]))] sz) := by
  refine Met.ofW (cc := cX1_at) (maxL := 3) (ret := (some (.object "java/lang/IllegalStateException"))) (by decide) rfl ?_
  intro p e s m args below meth c s₁ B hml hv
  obtain ⟨rfl, hsz, hP, hK, hD0⟩ := hv
  have hx := B.exec
  have hb := B.bytes
  have hr := B.returns
  have hts0 := atoms_spec (ws := (ws_ yX1_at cX1_at 3 (some (.object "java/lang/IllegalStateException")))) B.pre
  have hts : ∀ w ∈ lw_all, w.before _ s = true := fun w h => hts0 w (List.mem_cons_of_mem _ h)
  have hown : s.vm.findClass RX1 = some m.cls := findClass_of_methodNamed B.named
  have hlocks := B.notSynchronized
  subst hsz
  have hD := hD0.self (sz := s.heap.size)
  generalize hAe : va_A [(aF, .inr (1, [.ref aE, .int nb, .int pl]))] s.heap.size = A at hD ⊢
  have hA : ∀ q : Nat, s.heap.size ≤ q → A q := fun q h => by rw [← hAe]; exact Or.inr h
  have hS : va_S A s.heap s.heap [] := va_S.rf
  have hP : va_P (dC, dI) vwCl [(aF, .inr (1, [.ref aE, .int nb, .int pl]))] s.heap := hP
  have hl := lv_entry ([.ref aF, .int n, .int p0]) (n := 3) (Nat.le_of_ble_eq_true rfl)
  rw [lg_entry_eq]
  generalize (lg_sl ([.ref aF, .int n, .int p0]) ++ List.replicate (3 - (lg_sl ([.ref aF, .int n, .int p0])).length) Slot.unset).toArray = ls at hl ⊢
  have hl : lv_has ls 3 [(0, .ref aF), (1, .int n), (2, .int p0)] := hl
  refine lv_aload_n hx hb dX1_at_0 rfl (lv_at hl 0 rfl) ?_
  refine lv_iload_n hx hb dX1_at_1 rfl (lv_at hl 1 rfl) ?_
  refine va_put (D := (dC, dI)) (ci := 1) (v := .int n) (ty := .int) (C := RX1) (T := TX1) (N := 3) hx hb hts in_X1 tyX1 tyX1_ok nmX1 hown hK hP hD hS 0 rfl rfl 1 (by decide) (hts _ q90) (fun _ h9 => h9) rfl (by decide +kernel) rfl rfl (Nat.le_of_ble_eq_true rfl) dX1_at_2 (fun H locs hP hD hS => ?_)
  have hP : va_P (dC, dI) vwCl [(aF, .inr (1, [.ref aE, .int n, .int pl]))] H := hP
  have hD : va_D A [(aF, .inr (1, [.ref aE, .int n, .int pl]))] := hD
  refine lv_aload_n hx hb dX1_at_5 rfl (lv_at hl 0 rfl) ?_
  refine lv_iload_n hx hb dX1_at_6 rfl (lv_at hl 2 rfl) ?_
  refine va_put (D := (dC, dI)) (ci := 1) (v := .int p0) (ty := .int) (C := RX1) (T := TX1) (N := 3) hx hb hts in_X1 tyX1 tyX1_ok nmX1 hown hK hP hD hS 0 rfl rfl 2 (by decide) (hts _ q91) (fun _ h9 => h9) rfl (by decide +kernel) rfl rfl (Nat.le_of_ble_eq_true rfl) dX1_at_7 (fun H locs hP hD hS => ?_)
  have hP : va_P (dC, dI) vwCl [(aF, .inr (1, [.ref aE, .int n, .int p0]))] H := hP
  have hD : va_D A [(aF, .inr (1, [.ref aE, .int n, .int p0]))] := hD
  refine lv_aload_n hx hb dX1_at_10 rfl (lv_at hl 0 rfl) ?_
  refine va_get (D := (dC, dI)) (ci := 1) (v := .ref aE) (C := RX1) (T := TX1) (N := 3) hx hb hts in_X1 hown hK hP 0 rfl rfl 0 (by decide) (hts _ q89) (fun _ h9 => h9) rfl dX1_at_11 ?_
  exact W.aret (v := .ref aE) hx hb hr (Or.inl ⟨_, rfl⟩) (Or.inr ⟨_, rfl⟩) (fun t ht hW => ⟨⟨(), aE, rfl, trivial, rfl, by rw [ht]; exact hP, hD⟩, hS.F ht⟩) hS.2.2 dX1_at_14
set_option maxHeartbeats 4000000 in
/-- Out.clear() -/
theorem m_O_clear (l : Launch) (dC : Nat → ClassId) (dI : Nat → Nat → Nat) (cB : ClassId) (aO aB : Nat) (k : Nat) (sz : Nat)  : Met l yX3_clear (ws_ yX3_clear cX3_clear 1 none) ({ frames := 0, cells := 0, slots := 0, locals := 0 }) (gC dC dI [.ref aO] [(aO, .inr (3, [.ref aB, .int (nI k)]))] [(cB, .byte)] sz) (va_Qv (fun _ : Unit => True) (fun _ t => gB dC dI (va_A [(aO, .inr (3, [.ref aB, .int (nI k)]))] sz) [(aO, .inr (3, [.ref aB, .int (nI 0)]))] t) (va_A [(aO, .inr (3, [.ref aB, .int (nI k)]))] sz)) 0 0 (va_A [(aO, .inr (3, [.ref aB, .int (nI k)]))] sz) := by
  refine Met.ofW (cc := cX3_clear) (maxL := 1) (ret := none) (by decide) rfl ?_
  intro p e s m args below meth c s₁ B hml hv
  obtain ⟨rfl, hsz, hP, hK, hD0⟩ := hv
  have hx := B.exec
  have hb := B.bytes
  have hr := B.returns
  have hts0 := atoms_spec (ws := (ws_ yX3_clear cX3_clear 1 none)) B.pre
  have hts : ∀ w ∈ lw_all, w.before _ s = true := fun w h => hts0 w (List.mem_cons_of_mem _ h)
  have hown : s.vm.findClass RX3 = some m.cls := findClass_of_methodNamed B.named
  have hlocks := B.notSynchronized
  subst hsz
  have hD := hD0.self (sz := s.heap.size)
  generalize hAe : va_A [(aO, .inr (3, [.ref aB, .int (nI k)]))] s.heap.size = A at hD ⊢
  have hA : ∀ q : Nat, s.heap.size ≤ q → A q := fun q h => by rw [← hAe]; exact Or.inr h
  have hS : va_S A s.heap s.heap [] := va_S.rf
  have hP : va_P (dC, dI) vwCl [(aO, .inr (3, [.ref aB, .int (nI k)]))] s.heap := hP
  have hl := lv_entry ([.ref aO]) (n := 1) (Nat.le_of_ble_eq_true rfl)
  rw [lg_entry_eq]
  generalize (lg_sl ([.ref aO]) ++ List.replicate (1 - (lg_sl ([.ref aO])).length) Slot.unset).toArray = ls at hl ⊢
  have hl : lv_has ls 1 [(0, .ref aO)] := hl
  refine lv_aload_n hx hb dX3_clear_0 rfl (lv_at hl 0 rfl) ?_
  refine lv_iconst (v := 0) hx hb dX3_clear_1 (by decide) ?_
  refine lv_topi (fun z_1 ez_1 => ?_)
  rw [show z_1 = nI 0 from by rw [ez_1]; rfl]
  refine va_put (D := (dC, dI)) (ci := 3) (v := .int (nI 0)) (ty := .int) (C := RX3) (T := TX3) (N := 2) hx hb hts in_X3 tyX3 tyX3_ok nmX3 hown hK hP hD hS 0 rfl rfl 1 (by decide) (hts _ q128) (fun _ h9 => h9) rfl (by decide +kernel) rfl rfl (Nat.le_of_ble_eq_true rfl) dX3_clear_2 (fun H locs hP hD hS => ?_)
  have hP : va_P (dC, dI) vwCl [(aO, .inr (3, [.ref aB, .int (nI 0)]))] H := hP
  have hD : va_D A [(aO, .inr (3, [.ref aB, .int (nI 0)]))] := hD
  exact W.vret hx hb hr (fun t ht hW => ⟨⟨(), rfl, trivial, by rw [ht]; exact hP, hD⟩, hS.F ht⟩) hS.2.2 dX3_clear_5
set_option maxHeartbeats 4000000 in
/-- Out.put(b): one byte more -/
theorem m_O_put (l : Launch) (dC : Nat → ClassId) (dI : Nat → Nat → Nat) (cB : ClassId) (aO aB : Nat) (k : Nat) (f : Nat → Int32) (b : Int32) (sz : Nat) (hk : k < 1000) : Met l yX3_put (ws_ yX3_put cX3_put 4 none) ({ frames := 0, cells := 0, slots := 0, locals := 0 }) (gC dC dI [.ref aO, .int b] [(aO, .inr (3, [.ref aB, .int (nI k)])), (aB, .inl (cB, 4096, .inl f))] [(cB, .byte)] sz) (va_Qv (fun _ : Unit => True) (fun _ t => gB dC dI (va_A [(aO, .inr (3, [.ref aB, .int (nI k)])), (aB, .inl (cB, 4096, .inl f))] sz) [(aO, .inr (3, [.ref aB, .int (nI (k + 1))])), (aB, .inl (cB, 4096, .inl (upd f k b.toInt8.toInt32)))] t) (va_A [(aO, .inr (3, [.ref aB, .int (nI k)])), (aB, .inl (cB, 4096, .inl f))] sz)) 0 0 (va_A [(aO, .inr (3, [.ref aB, .int (nI k)])), (aB, .inl (cB, 4096, .inl f))] sz) := by
  refine Met.ofW (cc := cX3_put) (maxL := 4) (ret := none) (by decide) rfl ?_
  intro p e s m args below meth c s₁ B hml hv
  obtain ⟨rfl, hsz, hP, hK, hD0⟩ := hv
  have hx := B.exec
  have hb := B.bytes
  have hr := B.returns
  have hts0 := atoms_spec (ws := (ws_ yX3_put cX3_put 4 none)) B.pre
  have hts : ∀ w ∈ lw_all, w.before _ s = true := fun w h => hts0 w (List.mem_cons_of_mem _ h)
  have hown : s.vm.findClass RX3 = some m.cls := findClass_of_methodNamed B.named
  have hlocks := B.notSynchronized
  subst hsz
  have hD := hD0.self (sz := s.heap.size)
  generalize hAe : va_A [(aO, .inr (3, [.ref aB, .int (nI k)])), (aB, .inl (cB, 4096, .inl f))] s.heap.size = A at hD ⊢
  have hA : ∀ q : Nat, s.heap.size ≤ q → A q := fun q h => by rw [← hAe]; exact Or.inr h
  have hS : va_S A s.heap s.heap [] := va_S.rf
  have hP : va_P (dC, dI) vwCl [(aO, .inr (3, [.ref aB, .int (nI k)])), (aB, .inl (cB, 4096, .inl f))] s.heap := hP
  have hl := lv_entry ([.ref aO, .int b]) (n := 4) (Nat.le_of_ble_eq_true rfl)
  rw [lg_entry_eq]
  generalize (lg_sl ([.ref aO, .int b]) ++ List.replicate (4 - (lg_sl ([.ref aO, .int b])).length) Slot.unset).toArray = ls at hl ⊢
  have hl : lv_has ls 4 [(0, .ref aO), (1, .int b)] := hl
  refine lv_aload_n hx hb dX3_put_0 rfl (lv_at hl 0 rfl) ?_
  refine va_get (D := (dC, dI)) (ci := 3) (v := .int (nI k)) (C := RX3) (T := TX3) (N := 2) hx hb hts in_X3 hown hK hP 0 rfl rfl 1 (by decide) (hts _ q128) (fun _ h9 => h9) rfl dX3_put_1 ?_
  refine lv_aload_n hx hb dX3_put_4 rfl (lv_at hl 0 rfl) ?_
  refine va_get (D := (dC, dI)) (ci := 3) (v := .ref aB) (C := RX3) (T := TX3) (N := 2) hx hb hts in_X3 hown hK hP 0 rfl rfl 0 (by decide) (hts _ q126) (fun _ h9 => h9) rfl dX3_put_5 ?_
  refine va_alen (v := nI 4096) hx hb hK hP 1 0 rfl rfl rfl dX3_put_8 ?_
  refine lv_icmp_ne (tgt := 51) hx hb dX3_put_9 (by decide) (fun c_1 => ?_) (fun c_1 => ?_)
  · refine lv_aload_n hx hb dX3_put_51 rfl (lv_at hl 0 rfl) ?_
    refine va_get (D := (dC, dI)) (ci := 3) (v := .ref aB) (C := RX3) (T := TX3) (N := 2) hx hb hts in_X3 hown hK hP 0 rfl rfl 0 (by decide) (hts _ q126) (fun _ h9 => h9) rfl dX3_put_52 ?_
    refine lv_aload_n hx hb dX3_put_55 rfl (lv_at hl 0 rfl) ?_
    refine va_get (D := (dC, dI)) (ci := 3) (v := .int (nI k)) (C := RX3) (T := TX3) (N := 2) hx hb hts in_X3 hown hK hP 0 rfl rfl 1 (by decide) (hts _ q128) (fun _ h9 => h9) rfl dX3_put_56 ?_
    refine lv_iload_n hx hb dX3_put_59 rfl (lv_at hl 1 rfl) ?_
    refine lv_i2b (v := (b).toInt8.toInt32) hx hb dX3_put_60 rfl ?_
    refine va_bast hx hb hK hP hD hS 1 0 rfl rfl (vp_in_nI (by omega) (by omega)) dX3_put_61 (fun H locs hP hD hS => ?_)
    have hP : va_P (dC, dI) vwCl [(aO, .inr (3, [.ref aB, .int (nI k)])), (aB, .inl (cB, 4096, .inl (upd f ((nI k)).toNatClampNeg (vp_nar .byte (((b).toInt8.toInt32))))))] H := hP
    have hD : va_D A [(aO, .inr (3, [.ref aB, .int (nI k)])), (aB, .inl (cB, 4096, .inl (upd f ((nI k)).toNatClampNeg (vp_nar .byte (((b).toInt8.toInt32))))))] := hD
    have ef : upd f ((nI k)).toNatClampNeg (vp_nar .byte (((b).toInt8.toInt32))) = upd f k b.toInt8.toInt32 := by rw [nI_clamp (by omega), pk_vb]
    rw [ef] at hP hD
    clear ef
    have hP : va_P (dC, dI) vwCl [(aO, .inr (3, [.ref aB, .int (nI k)])), (aB, .inl (cB, 4096, .inl (upd f k b.toInt8.toInt32)))] H := hP
    have hD : va_D A [(aO, .inr (3, [.ref aB, .int (nI k)])), (aB, .inl (cB, 4096, .inl (upd f k b.toInt8.toInt32)))] := hD
    refine lv_aload_n hx hb dX3_put_62 rfl (lv_at hl 0 rfl) ?_
    refine lv_dup hx hb dX3_put_63 rfl ?_
    refine va_get (D := (dC, dI)) (ci := 3) (v := .int (nI k)) (C := RX3) (T := TX3) (N := 2) hx hb hts in_X3 hown hK hP 0 rfl rfl 1 (by decide) (hts _ q128) (fun _ h9 => h9) rfl dX3_put_64 ?_
    refine lv_iconst (v := 1) hx hb dX3_put_67 (by decide) ?_
    refine lv_iadd hx hb dX3_put_68 ?_
    refine lv_topi (fun z_2 ez_2 => ?_)
    rw [show z_2 = nI (k + 1) from by rw [ez_2]; exact nI_1 k]
    refine va_put (D := (dC, dI)) (ci := 3) (v := .int (nI (k + 1))) (ty := .int) (C := RX3) (T := TX3) (N := 2) hx hb hts in_X3 tyX3 tyX3_ok nmX3 hown hK hP hD hS 0 rfl rfl 1 (by decide) (hts _ q128) (fun _ h9 => h9) rfl (by decide +kernel) rfl rfl (Nat.le_of_ble_eq_true rfl) dX3_put_69 (fun H locs hP hD hS => ?_)
    have hP : va_P (dC, dI) vwCl [(aO, .inr (3, [.ref aB, .int (nI (k + 1))])), (aB, .inl (cB, 4096, .inl (upd f k b.toInt8.toInt32)))] H := hP
    have hD : va_D A [(aO, .inr (3, [.ref aB, .int (nI (k + 1))])), (aB, .inl (cB, 4096, .inl (upd f k b.toInt8.toInt32)))] := hD
    exact W.vret hx hb hr (fun t ht hW => ⟨⟨(), rfl, trivial, by rw [ht]; exact hP, hD⟩, hS.F ht⟩) hS.2.2 dX3_put_72
  · exact absurd ((nI_eq (by omega) (by omega)).mp c_1) (by omega)
set_option maxHeartbeats 4000000 in
/-- Reader.open(row, from, to) -/
theorem m_R_open (l : Launch) (dC : Nat → ClassId) (dI : Nat → Nat → Nat) (cB : ClassId) (aR aF rb aA : Nat) (ra re p1 p2 : Int32) (sz : Nat)  : Met l yX2_open (ws_ yX2_open cX2_open 4 none) ({ frames := 0, cells := 0, slots := 0, locals := 0 }) (gC dC dI [.ref aR, .ref aA, .int p1, .int p2] [(aR, .inr (2, [.ref aF, .ref rb, .int ra, .int re]))] [(cB, .byte)] sz) (va_Qv (fun _ : Unit => True) (fun _ t => gB dC dI (va_A [(aR, .inr (2, [.ref aF, .ref rb, .int ra, .int re]))] sz) [(aR, .inr (2, [.ref aF, .ref aA, .int p1, .int p2]))] t) (va_A [(aR, .inr (2, [.ref aF, .ref rb, .int ra, .int re]))] sz)) 0 0 (va_A [(aR, .inr (2, [.ref aF, .ref rb, .int ra, .int re]))] sz) := by
  refine Met.ofW (cc := cX2_open) (maxL := 4) (ret := none) (by decide) rfl ?_
  intro p e s m args below meth c s₁ B hml hv
  obtain ⟨rfl, hsz, hP, hK, hD0⟩ := hv
  have hx := B.exec
  have hb := B.bytes
  have hr := B.returns
  have hts0 := atoms_spec (ws := (ws_ yX2_open cX2_open 4 none)) B.pre
  have hts : ∀ w ∈ lw_all, w.before _ s = true := fun w h => hts0 w (List.mem_cons_of_mem _ h)
  have hown : s.vm.findClass RX2 = some m.cls := findClass_of_methodNamed B.named
  have hlocks := B.notSynchronized
  subst hsz
  have hD := hD0.self (sz := s.heap.size)
  generalize hAe : va_A [(aR, .inr (2, [.ref aF, .ref rb, .int ra, .int re]))] s.heap.size = A at hD ⊢
  have hA : ∀ q : Nat, s.heap.size ≤ q → A q := fun q h => by rw [← hAe]; exact Or.inr h
  have hS : va_S A s.heap s.heap [] := va_S.rf
  have hP : va_P (dC, dI) vwCl [(aR, .inr (2, [.ref aF, .ref rb, .int ra, .int re]))] s.heap := hP
  have hl := lv_entry ([.ref aR, .ref aA, .int p1, .int p2]) (n := 4) (Nat.le_of_ble_eq_true rfl)
  rw [lg_entry_eq]
  generalize (lg_sl ([.ref aR, .ref aA, .int p1, .int p2]) ++ List.replicate (4 - (lg_sl ([.ref aR, .ref aA, .int p1, .int p2])).length) Slot.unset).toArray = ls at hl ⊢
  have hl : lv_has ls 4 [(0, .ref aR), (1, .ref aA), (2, .int p1), (3, .int p2)] := hl
  refine lv_aload_n hx hb dX2_open_0 rfl (lv_at hl 0 rfl) ?_
  refine lv_aload_n hx hb dX2_open_1 rfl (lv_at hl 1 rfl) ?_
  refine va_put (D := (dC, dI)) (ci := 2) (v := .ref aA) (ty := .array .byte) (C := RX2) (T := TX2) (N := 4) hx hb hts in_X2 tyX2 tyX2_ok nmX2 hown hK hP hD hS 0 rfl rfl 1 (by decide) (hts _ q106) (fun _ h9 => h9) rfl (by decide +kernel) rfl rfl (Nat.le_of_ble_eq_true rfl) dX2_open_2 (fun H locs hP hD hS => ?_)
  have hP : va_P (dC, dI) vwCl [(aR, .inr (2, [.ref aF, .ref aA, .int ra, .int re]))] H := hP
  have hD : va_D A [(aR, .inr (2, [.ref aF, .ref aA, .int ra, .int re]))] := hD
  refine lv_aload_n hx hb dX2_open_5 rfl (lv_at hl 0 rfl) ?_
  refine lv_iload_n hx hb dX2_open_6 rfl (lv_at hl 2 rfl) ?_
  refine va_put (D := (dC, dI)) (ci := 2) (v := .int p1) (ty := .int) (C := RX2) (T := TX2) (N := 4) hx hb hts in_X2 tyX2 tyX2_ok nmX2 hown hK hP hD hS 0 rfl rfl 2 (by decide) (hts _ q107) (fun _ h9 => h9) rfl (by decide +kernel) rfl rfl (Nat.le_of_ble_eq_true rfl) dX2_open_7 (fun H locs hP hD hS => ?_)
  have hP : va_P (dC, dI) vwCl [(aR, .inr (2, [.ref aF, .ref aA, .int p1, .int re]))] H := hP
  have hD : va_D A [(aR, .inr (2, [.ref aF, .ref aA, .int p1, .int re]))] := hD
  refine lv_aload_n hx hb dX2_open_10 rfl (lv_at hl 0 rfl) ?_
  refine lv_iload_n hx hb dX2_open_11 rfl (lv_at hl 3 rfl) ?_
  refine va_put (D := (dC, dI)) (ci := 2) (v := .int p2) (ty := .int) (C := RX2) (T := TX2) (N := 4) hx hb hts in_X2 tyX2 tyX2_ok nmX2 hown hK hP hD hS 0 rfl rfl 3 (by decide) (hts _ q109) (fun _ h9 => h9) rfl (by decide +kernel) rfl rfl (Nat.le_of_ble_eq_true rfl) dX2_open_12 (fun H locs hP hD hS => ?_)
  have hP : va_P (dC, dI) vwCl [(aR, .inr (2, [.ref aF, .ref aA, .int p1, .int p2]))] H := hP
  have hD : va_D A [(aR, .inr (2, [.ref aF, .ref aA, .int p1, .int p2]))] := hD
  exact W.vret hx hb hr (fun t ht hW => ⟨⟨(), rfl, trivial, by rw [ht]; exact hP, hD⟩, hS.F ht⟩) hS.2.2 dX2_open_15
set_option maxHeartbeats 4000000 in
/-- Reader.wrong(place): noted; the answer is the stop -/
theorem m_R_wrong (l : Launch) (dC : Nat → ClassId) (dI : Nat → Nat → Nat) (cB : ClassId) (aR aF aE aA : Nat) (ra re nb pl p0 : Int32) (sz : Nat)  : Met l yX2_wrong (ws_ yX2_wrong cX2_wrong 2 (some (.object "java/lang/IllegalStateException"))) ({ frames := 1, cells := 0, slots := 0, locals := 22 }) (gC dC dI [.ref aR, .int p0] [(aR, .inr (2, [.ref aF, .ref aA, .int ra, .int re])), (aF, .inr (1, [.ref aE, .int nb, .int pl]))] [(cB, .byte)] sz) (va_Qr (fun _ : Unit => True) (fun (_ : Unit) a t => a = aE ∧ gB dC dI (va_A [(aR, .inr (2, [.ref aF, .ref aA, .int ra, .int re])), (aF, .inr (1, [.ref aE, .int nb, .int pl]))] sz) [(aR, .inr (2, [.ref aF, .ref aA, .int ra, .int re])), (aF, .inr (1, [.ref aE, .int 1, .int p0]))] t) (va_A [(aR, .inr (2, [.ref aF, .ref aA, .int ra, .int re])), (aF, .inr (1, [.ref aE, .int nb, .int pl]))] sz)) 0 0 (va_A [(aR, .inr (2, [.ref aF, .ref aA, .int ra, .int re])), (aF, .inr (1, [.ref aE, .int nb, .int pl]))] sz) := by
  refine Met.ofW (cc := cX2_wrong) (maxL := 2) (ret := (some (.object "java/lang/IllegalStateException"))) (by decide) rfl ?_
  intro p e s m args below meth c s₁ B hml hv
  obtain ⟨rfl, hsz, hP, hK, hD0⟩ := hv
  have hx := B.exec
  have hb := B.bytes
  have hr := B.returns
  have hts0 := atoms_spec (ws := (ws_ yX2_wrong cX2_wrong 2 (some (.object "java/lang/IllegalStateException")))) B.pre
  have hts : ∀ w ∈ lw_all, w.before _ s = true := fun w h => hts0 w (List.mem_cons_of_mem _ h)
  have hown : s.vm.findClass RX2 = some m.cls := findClass_of_methodNamed B.named
  have hlocks := B.notSynchronized
  subst hsz
  have hD := hD0.self (sz := s.heap.size)
  generalize hAe : va_A [(aR, .inr (2, [.ref aF, .ref aA, .int ra, .int re])), (aF, .inr (1, [.ref aE, .int nb, .int pl]))] s.heap.size = A at hD ⊢
  have hA : ∀ q : Nat, s.heap.size ≤ q → A q := fun q h => by rw [← hAe]; exact Or.inr h
  have hS : va_S A s.heap s.heap [] := va_S.rf
  have hP : va_P (dC, dI) vwCl [(aR, .inr (2, [.ref aF, .ref aA, .int ra, .int re])), (aF, .inr (1, [.ref aE, .int nb, .int pl]))] s.heap := hP
  have hl := lv_entry ([.ref aR, .int p0]) (n := 2) (Nat.le_of_ble_eq_true rfl)
  rw [lg_entry_eq]
  generalize (lg_sl ([.ref aR, .int p0]) ++ List.replicate (2 - (lg_sl ([.ref aR, .int p0])).length) Slot.unset).toArray = ls at hl ⊢
  have hl : lv_has ls 2 [(0, .ref aR), (1, .int p0)] := hl
  refine lv_aload_n hx hb dX2_wrong_0 rfl (lv_at hl 0 rfl) ?_
  refine va_get (D := (dC, dI)) (ci := 2) (v := .ref aF) (C := RX2) (T := TX2) (N := 4) hx hb hts in_X2 hown hK hP 0 rfl rfl 0 (by decide) (hts _ q105) (fun _ h9 => h9) rfl dX2_wrong_1 ?_
  refine lv_iconst (v := 1) hx hb dX2_wrong_4 (by decide) ?_
  refine lv_iload_n hx hb dX2_wrong_5 rfl (lv_at hl 1 rfl) ?_
  have hPc := hP.sub (ws' := [(aF, .inr (1, [.ref aE, .int nb, .int pl]))]) [1] rfl
  have hDc := hD.sub (ws' := [(aF, .inr (1, [.ref aE, .int nb, .int pl]))]) [1] (by decide) rfl
  have hFc := va_free (wc := [(aF, .inr (1, [.ref aE, .int nb, .int pl]))]) hD hS hA [1] rfl
  refine va_callr (va_runV (As := [.int 1, .int p0]) (rest := []) ⟨hx, hb, hml, hown, hts⟩ (m_F_at l dC dI cB aF aE nb pl 1 p0 _) (cwV 2 hts (lw_V q191 q192 q193 q5 q194) rfl rfl rfl (by decide +kernel) ⟨Nat.le_of_ble_eq_true rfl, Nat.le_of_ble_eq_true rfl⟩) ⟨gC_bl, va_recv hK hPc (ci := 1) (q0 := 0) rfl rfl, gC_of hPc hK hDc⟩ rfl rfl hl.1 rfl (lv_room (Nat.le_of_ble_eq_true rfl)) dX2_wrong_6 ⟨Nat.le_of_ble_eq_true rfl, Nat.le_of_ble_eq_true rfl⟩) hS (fun q _ h => hFc q h) hFc (fun u rr t H1 locs ht hvm hw hB hz1 hk1 hS => ?_)
  obtain ⟨hre, hP1, hD1⟩ := hB
  have hre := hre.symm
  subst hre
  rw [ht] at hP1
  obtain ⟨hP, hD⟩ := va_join (wr := [(aR, .inr (2, [.ref aF, .ref aA, .int ra, .int re]))]) (w1 := [(aF, .inr (1, [.ref aE, .int 1, .int p0]))]) hP hD [1] [0] rfl rfl (by decide) (by decide) hk1 hFc hP1 hD1
  have hP := hP.sub (ws' := [(aR, .inr (2, [.ref aF, .ref aA, .int ra, .int re])), (aF, .inr (1, [.ref aE, .int 1, .int p0]))]) [0, 1] rfl
  have hD := hD.sub (ws' := [(aR, .inr (2, [.ref aF, .ref aA, .int ra, .int re])), (aF, .inr (1, [.ref aE, .int 1, .int p0]))]) [0, 1] (by decide) rfl
  generalize H1 = H at hP hS ⊢
  exact W.aret (v := .ref aE) hx hb hr (Or.inl ⟨_, rfl⟩) (Or.inr ⟨_, rfl⟩) (fun t ht hW => ⟨⟨(), _, rfl, trivial, rfl, by rw [ht]; exact hP, hD⟩, hS.F ht⟩) hS.2.2 dX2_wrong_9
end
section
set_option maxRecDepth 100000
set_option maxHeartbeats 4000000 in
/-- the loop of Out.number: j groups are out -/
theorem lo_O_number {p : Program} {l : Launch} {e : Env} {R : Room} {s : State} {m : MethodId} {args : Array Value} {below : List Frame} {meth : Method} {c : Code} {Q : State → Prop} {dC : Nat → ClassId} {dI : Nat → Nat → Nat} {cB : ClassId} {A : Nat → Prop} {cells slots : Nat} (hx : p.tables.exec = Jvm.exec) (hb : c.code = cX3_number) (hml : c.maxLocals = 5) (hown : s.vm.findClass RX3 = some m.cls) (hts : ∀ w ∈ lw_all, w.before args s = true) (hA : ∀ q : Nat, s.heap.size ≤ q → A q) (hK : va_K (dC, dI) vwCl [(cB, .byte)] s) (hRf : 1 ≤ R.frames) (hRl : 23 ≤ R.locals) (hRc : cells ≤ R.cells) (hRs : slots ≤ R.slots) (aO aB : Nat) (v : Int64) (n k : Nat) (f : Nat → Int32) (hn : gp_Len 0 v (n + 1)) (hk : k + n + 1 ≤ 1000)
    (kx : ∀ (H : Heap) (locs : List Loc) (ls : Array Slot), va_P (dC, dI) vwCl [(aO, .inr (3, [.ref aB, .int (nI (k + n))])), (aB, .inl (cB, 4096, .inl (gp_emit v (n + 1) f k n)))] H → va_D A [(aO, .inr (3, [.ref aB, .int (nI (k + n))])), (aB, .inl (cB, 4096, .inl (gp_emit v (n + 1) f k n)))] → va_S A s.heap H locs → lv_has ls 5 [(3, .long (gp_left v n)), (0, .ref aO), (1, .long v)] → W p l e R s m args below meth c H locs cells slots Q (F0 m 32 ls [])) :
    ∀ (i j : Nat), j + i = n → ∀ (H : Heap) (locs : List Loc) (ls : Array Slot), va_P (dC, dI) vwCl [(aO, .inr (3, [.ref aB, .int (nI (k + j))])), (aB, .inl (cB, 4096, .inl (gp_emit v (n + 1) f k j)))] H → va_D A [(aO, .inr (3, [.ref aB, .int (nI (k + j))])), (aB, .inl (cB, 4096, .inl (gp_emit v (n + 1) f k j)))] → va_S A s.heap H locs → lv_has ls 5 [(3, .long (gp_left v j)), (0, .ref aO), (1, .long v)] → W p l e R s m args below meth c H locs cells slots Q (F0 m 2 ls []) := by
  intro i
  induction i with
  | zero =>
    intro j hj H locs ls hP hD hS hl
    obtain rfl : n = j := by omega
    refine lv_lload_n hx hb dX3_number_2 rfl (lv_at hl 0 rfl) ?_
    refine lv_ldc2 (v := 127) hx hb hown (hts _ q222) dX3_number_3 ?_
    refine W.lcmp hx hb dX3_number_6 ?_
    refine lv_if_le (tgt := 32) hx hb dX3_number_7 (by decide) (fun c_1 => ?_) (fun c_1 => ?_)
    · exact kx H locs ls hP hD hS hl
    · exact absurd (Or.inl ⟨rfl, gp_cle c_1⟩) hn.2.2.2
  | succ i ih =>
    intro j hj H locs ls hP hD hS hl
    refine lv_lload_n hx hb dX3_number_2 rfl (lv_at hl 0 rfl) ?_
    refine lv_ldc2 (v := 127) hx hb hown (hts _ q222) dX3_number_3 ?_
    refine W.lcmp hx hb dX3_number_6 ?_
    refine lv_if_le (tgt := 32) hx hb dX3_number_7 (by decide) (fun c_1 => ?_) (fun c_1 => ?_)
    · exact absurd ((hn.2.2.1 j (by omega)).resolve_right (fun q => q.1 rfl)).2 (gp_cle' c_1)
    · refine lv_aload_n hx hb dX3_number_10 rfl (lv_at hl 1 rfl) ?_
      refine lv_lload_n hx hb dX3_number_11 rfl (lv_at hl 0 rfl) ?_
      refine lv_ldc2 (v := 127) hx hb hown (hts _ q222) dX3_number_12 ?_
      refine lv_land hx hb dX3_number_15 ?_
      refine lv_l2i (v := (((gp_left v j) &&& 127)).toInt32) hx hb dX3_number_16 rfl ?_
      refine lv_sipush (v := 128) hx hb dX3_number_17 (by decide) ?_
      refine lv_ior hx hb dX3_number_20 ?_
      have hPc := hP.sub (ws' := [(aO, .inr (3, [.ref aB, .int (nI (k + j))])), (aB, .inl (cB, 4096, .inl (gp_emit v (n + 1) f k j)))]) [0, 1] rfl
      have hDc := hD.sub (ws' := [(aO, .inr (3, [.ref aB, .int (nI (k + j))])), (aB, .inl (cB, 4096, .inl (gp_emit v (n + 1) f k j)))]) [0, 1] (by decide) rfl
      have hFc := va_free (wc := [(aO, .inr (3, [.ref aB, .int (nI (k + j))])), (aB, .inl (cB, 4096, .inl (gp_emit v (n + 1) f k j)))]) hD hS hA [0, 1] rfl
      refine va_callv (va_runV (As := [.int (((((gp_left v j) &&& 127)).toInt32) ||| 128)]) (rest := []) ⟨hx, hb, hml, hown, hts⟩ (m_O_put l dC dI cB aO aB (k + j) (gp_emit v (n + 1) f k j) ((gp_left v j &&& 127).toInt32 ||| 128) _ (by omega)) (cwV 1 hts (lw_V q223 q224 q225 q11 q226) rfl rfl rfl (by decide +kernel) ⟨Nat.le_trans (Nat.le_of_ble_eq_true rfl) hRf, Nat.le_trans (Nat.le_of_ble_eq_true rfl) hRl⟩) ⟨gC_bl, va_recv hK hPc (ci := 3) (q0 := 0) rfl rfl, gC_of hPc hK hDc⟩ rfl rfl hl.1 rfl (lv_room (Nat.le_of_ble_eq_true rfl)) dX3_number_21 ⟨hRc, hRs⟩) hS (fun q _ h => hFc q h) hFc (fun u t H1 locs ht hvm hw hB hz1 hk1 hS => ?_)
      obtain ⟨hP1, hD1⟩ := hB
      rw [ht] at hP1
      obtain ⟨hP, hD⟩ := va_join (wr := []) (w1 := [(aO, .inr (3, [.ref aB, .int (nI (k + j + 1))])), (aB, .inl (cB, 4096, .inl (upd (gp_emit v (n + 1) f k j) (k + j) (((gp_left v j &&& 127).toInt32 ||| 128)).toInt8.toInt32)))]) hP hD [0, 1] [] rfl rfl (by decide) (by decide) hk1 hFc hP1 hD1
      have hP := hP.sub (ws' := [(aO, .inr (3, [.ref aB, .int (nI (k + j + 1))])), (aB, .inl (cB, 4096, .inl (upd (gp_emit v (n + 1) f k j) (k + j) (((gp_left v j &&& 127).toInt32 ||| 128)).toInt8.toInt32)))]) [0, 1] rfl
      have hD := hD.sub (ws' := [(aO, .inr (3, [.ref aB, .int (nI (k + j + 1))])), (aB, .inl (cB, 4096, .inl (upd (gp_emit v (n + 1) f k j) (k + j) (((gp_left v j &&& 127).toInt32 ||| 128)).toInt8.toInt32)))]) [0, 1] (by decide) rfl
      generalize H1 = H at hP hS ⊢
      have ef : upd (gp_emit v (n + 1) f k j) (k + j) (((gp_left v j &&& 127).toInt32 ||| 128)).toInt8.toInt32 = gp_emit v (n + 1) f k (j + 1) := by show _ = upd _ _ (gp_byte v (n + 1) j); rw [gp_byte, if_pos (by omega)]
      rw [ef] at hP hD
      clear ef
      have hP : va_P (dC, dI) vwCl [(aO, .inr (3, [.ref aB, .int (nI (k + j + 1))])), (aB, .inl (cB, 4096, .inl (gp_emit v (n + 1) f k (j + 1))))] H := hP
      have hD : va_D A [(aO, .inr (3, [.ref aB, .int (nI (k + j + 1))])), (aB, .inl (cB, 4096, .inl (gp_emit v (n + 1) f k (j + 1))))] := hD
      refine lv_lload_n hx hb dX3_number_24 rfl (lv_at hl 0 rfl) ?_
      refine lv_bipush (v := 7) hx hb dX3_number_25 (by decide) ?_
      refine lv_lshr (v := ((gp_left v j) >>> (((7 : Int32)).toInt64 &&& 63))) hx hb dX3_number_27 rfl ?_
      refine lv_topl (fun z_3 ez_3 => ?_)
      rw [show z_3 = gp_left v (j + 1) from by rw [ez_3]; rfl]
      refine lv_lstore_n (lv' := [(3, .long (gp_left v (j + 1))), (0, .ref aO), (1, .long v)]) hx hb dX3_number_28 rfl hl (by decide) rfl (fun ls hl => ?_)
      refine lv_goto (tgt := 2) hx hb dX3_number_29 (by decide) ?_
      exact ih (j + 1) (by omega) H locs ls hP hD hS hl
set_option maxHeartbeats 4000000 in
/-- Out.number(v): n + 1 bytes more -/
theorem m_O_number (l : Launch) (dC : Nat → ClassId) (dI : Nat → Nat → Nat) (cB : ClassId) (aO aB : Nat) (v : Int64) (n k : Nat) (f : Nat → Int32) (sz : Nat) (hv : 0 ≤ v.toInt) (hn : gp_Len 0 v (n + 1)) (hk : k + n + 1 ≤ 1000) : Met l yX3_number (ws_ yX3_number cX3_number 5 none) ({ frames := 1, cells := 0, slots := 0, locals := 23 }) (gC dC dI [.ref aO, .long v] [(aO, .inr (3, [.ref aB, .int (nI k)])), (aB, .inl (cB, 4096, .inl f))] [(cB, .byte)] sz) (va_Qv (fun _ : Unit => True) (fun _ t => gB dC dI (va_A [(aO, .inr (3, [.ref aB, .int (nI k)])), (aB, .inl (cB, 4096, .inl f))] sz) [(aO, .inr (3, [.ref aB, .int (nI (k + n + 1))])), (aB, .inl (cB, 4096, .inl (gp_emit v (n + 1) f k (n + 1))))] t) (va_A [(aO, .inr (3, [.ref aB, .int (nI k)])), (aB, .inl (cB, 4096, .inl f))] sz)) 0 0 (va_A [(aO, .inr (3, [.ref aB, .int (nI k)])), (aB, .inl (cB, 4096, .inl f))] sz) := by
  refine Met.ofW (cc := cX3_number) (maxL := 5) (ret := none) (by decide) rfl ?_
  intro p e s m args below meth c s₁ B hml hv
  obtain ⟨rfl, hsz, hP, hK, hD0⟩ := hv
  have hx := B.exec
  have hb := B.bytes
  have hr := B.returns
  have hts0 := atoms_spec (ws := (ws_ yX3_number cX3_number 5 none)) B.pre
  have hts : ∀ w ∈ lw_all, w.before _ s = true := fun w h => hts0 w (List.mem_cons_of_mem _ h)
  have hown : s.vm.findClass RX3 = some m.cls := findClass_of_methodNamed B.named
  have hlocks := B.notSynchronized
  subst hsz
  have hD := hD0.self (sz := s.heap.size)
  generalize hAe : va_A [(aO, .inr (3, [.ref aB, .int (nI k)])), (aB, .inl (cB, 4096, .inl f))] s.heap.size = A at hD ⊢
  have hA : ∀ q : Nat, s.heap.size ≤ q → A q := fun q h => by rw [← hAe]; exact Or.inr h
  have hS : va_S A s.heap s.heap [] := va_S.rf
  have hP : va_P (dC, dI) vwCl [(aO, .inr (3, [.ref aB, .int (nI k)])), (aB, .inl (cB, 4096, .inl f))] s.heap := hP
  have hl := lv_entry ([.ref aO, .long v]) (n := 5) (Nat.le_of_ble_eq_true rfl)
  rw [lg_entry_eq]
  generalize (lg_sl ([.ref aO, .long v]) ++ List.replicate (5 - (lg_sl ([.ref aO, .long v])).length) Slot.unset).toArray = ls at hl ⊢
  have hl : lv_has ls 5 [(0, .ref aO), (1, .long v)] := hl
  refine lv_lload_n hx hb dX3_number_0 rfl (lv_at hl 1 rfl) ?_
  refine lv_lstore_n (lv' := [(3, .long v), (0, .ref aO), (1, .long v)]) hx hb dX3_number_1 rfl hl (by decide) rfl (fun ls hl => ?_)
  refine lo_O_number hx hb hml hown hts hA hK (Nat.le_of_ble_eq_true rfl) (Nat.le_of_ble_eq_true rfl) (Nat.zero_le _) (Nat.zero_le _) aO aB v n k f hn hk (fun H locs ls hP hD hS hl => ?_) n 0 (by omega) s.heap [] ls hP hD hS hl
  refine lv_aload_n hx hb dX3_number_32 rfl (lv_at hl 1 rfl) ?_
  refine lv_lload_n hx hb dX3_number_33 rfl (lv_at hl 0 rfl) ?_
  refine lv_l2i (v := ((gp_left v n)).toInt32) hx hb dX3_number_34 rfl ?_
  have hPc := hP.sub (ws' := [(aO, .inr (3, [.ref aB, .int (nI (k + n))])), (aB, .inl (cB, 4096, .inl (gp_emit v (n + 1) f k n)))]) [0, 1] rfl
  have hDc := hD.sub (ws' := [(aO, .inr (3, [.ref aB, .int (nI (k + n))])), (aB, .inl (cB, 4096, .inl (gp_emit v (n + 1) f k n)))]) [0, 1] (by decide) rfl
  have hFc := va_free (wc := [(aO, .inr (3, [.ref aB, .int (nI (k + n))])), (aB, .inl (cB, 4096, .inl (gp_emit v (n + 1) f k n)))]) hD hS hA [0, 1] rfl
  refine va_callv (va_runV (As := [.int (((gp_left v n)).toInt32)]) (rest := []) ⟨hx, hb, hml, hown, hts⟩ (m_O_put l dC dI cB aO aB (k + n) (gp_emit v (n + 1) f k n) (gp_left v n).toInt32 _ (by omega)) (cwV 1 hts (lw_V q223 q224 q225 q11 q226) rfl rfl rfl (by decide +kernel) ⟨Nat.le_of_ble_eq_true rfl, Nat.le_of_ble_eq_true rfl⟩) ⟨gC_bl, va_recv hK hPc (ci := 3) (q0 := 0) rfl rfl, gC_of hPc hK hDc⟩ rfl rfl hl.1 rfl (lv_room (Nat.le_of_ble_eq_true rfl)) dX3_number_35 ⟨Nat.le_of_ble_eq_true rfl, Nat.le_of_ble_eq_true rfl⟩) hS (fun q _ h => hFc q h) hFc (fun u t H1 locs ht hvm hw hB hz1 hk1 hS => ?_)
  obtain ⟨hP1, hD1⟩ := hB
  rw [ht] at hP1
  obtain ⟨hP, hD⟩ := va_join (wr := []) (w1 := [(aO, .inr (3, [.ref aB, .int (nI (k + n + 1))])), (aB, .inl (cB, 4096, .inl (upd (gp_emit v (n + 1) f k n) (k + n) ((gp_left v n).toInt32).toInt8.toInt32)))]) hP hD [0, 1] [] rfl rfl (by decide) (by decide) hk1 hFc hP1 hD1
  have hP := hP.sub (ws' := [(aO, .inr (3, [.ref aB, .int (nI (k + n + 1))])), (aB, .inl (cB, 4096, .inl (upd (gp_emit v (n + 1) f k n) (k + n) ((gp_left v n).toInt32).toInt8.toInt32)))]) [0, 1] rfl
  have hD := hD.sub (ws' := [(aO, .inr (3, [.ref aB, .int (nI (k + n + 1))])), (aB, .inl (cB, 4096, .inl (upd (gp_emit v (n + 1) f k n) (k + n) ((gp_left v n).toInt32).toInt8.toInt32)))]) [0, 1] (by decide) rfl
  generalize H1 = H at hP hS ⊢
  have hm : ¬ gp_more 0 (gp_left v n) := hn.2.2.2
  rw [gp_moreT] at hm
  have ef : upd (gp_emit v (n + 1) f k n) (k + n) ((gp_left v n).toInt32).toInt8.toInt32 = gp_emit v (n + 1) f k (n + 1) := by show _ = upd _ _ (gp_byte v (n + 1) n); rw [gp_byte, if_neg (by omega), gp_small (gp_left_pos hv n) (by omega)]
  rw [ef] at hP hD
  clear ef
  have hP : va_P (dC, dI) vwCl [(aO, .inr (3, [.ref aB, .int (nI (k + n + 1))])), (aB, .inl (cB, 4096, .inl (gp_emit v (n + 1) f k (n + 1))))] H := hP
  have hD : va_D A [(aO, .inr (3, [.ref aB, .int (nI (k + n + 1))])), (aB, .inl (cB, 4096, .inl (gp_emit v (n + 1) f k (n + 1))))] := hD
  exact W.vret hx hb hr (fun t ht hW => ⟨⟨(), rfl, trivial, by rw [ht]; exact hP, hD⟩, hS.F ht⟩) hS.2.2 dX3_number_38
set_option maxHeartbeats 4000000 in
/-- the loop of Out.signed: j groups are out -/
theorem lo_O_signed {p : Program} {l : Launch} {e : Env} {R : Room} {s : State} {m : MethodId} {args : Array Value} {below : List Frame} {meth : Method} {c : Code} {Q : State → Prop} {dC : Nat → ClassId} {dI : Nat → Nat → Nat} {cB : ClassId} {A : Nat → Prop} {cells slots : Nat} (hx : p.tables.exec = Jvm.exec) (hb : c.code = cX3_signed) (hml : c.maxLocals = 5) (hown : s.vm.findClass RX3 = some m.cls) (hts : ∀ w ∈ lw_all, w.before args s = true) (hA : ∀ q : Nat, s.heap.size ≤ q → A q) (hK : va_K (dC, dI) vwCl [(cB, .byte)] s) (hRf : 1 ≤ R.frames) (hRl : 23 ≤ R.locals) (hRc : cells ≤ R.cells) (hRs : slots ≤ R.slots) (aO aB : Nat) (v : Int64) (n k : Nat) (f : Nat → Int32) (how : Nat) (hh : how ≠ 0) (hn : gp_Len how v (n + 1)) (hk : k + n + 1 ≤ 1000)
    (kx : ∀ (H : Heap) (locs : List Loc) (ls : Array Slot), va_P (dC, dI) vwCl [(aO, .inr (3, [.ref aB, .int (nI (k + n))])), (aB, .inl (cB, 4096, .inl (gp_emit v (n + 1) f k n)))] H → va_D A [(aO, .inr (3, [.ref aB, .int (nI (k + n))])), (aB, .inl (cB, 4096, .inl (gp_emit v (n + 1) f k n)))] → va_S A s.heap H locs → lv_has ls 5 [(3, .long (gp_left v n)), (0, .ref aO), (1, .long v)] → W p l e R s m args below meth c H locs cells slots Q (F0 m 40 ls [])) :
    ∀ (i j : Nat), j + i = n → ∀ (H : Heap) (locs : List Loc) (ls : Array Slot), va_P (dC, dI) vwCl [(aO, .inr (3, [.ref aB, .int (nI (k + j))])), (aB, .inl (cB, 4096, .inl (gp_emit v (n + 1) f k j)))] H → va_D A [(aO, .inr (3, [.ref aB, .int (nI (k + j))])), (aB, .inl (cB, 4096, .inl (gp_emit v (n + 1) f k j)))] → va_S A s.heap H locs → lv_has ls 5 [(3, .long (gp_left v j)), (0, .ref aO), (1, .long v)] → W p l e R s m args below meth c H locs cells slots Q (F0 m 2 ls []) := by
  intro i
  induction i with
  | zero =>
    intro j hj H locs ls hP hD hS hl
    obtain rfl : n = j := by omega
    refine lv_lload_n hx hb dX3_signed_2 rfl (lv_at hl 0 rfl) ?_
    refine lv_ldc2 (v := (-64)) hx hb hown (hts _ q231) dX3_signed_3 ?_
    refine W.lcmp hx hb dX3_signed_6 ?_
    refine lv_if_lt (tgt := 18) hx hb dX3_signed_7 (by decide) (fun c_1 => ?_) (fun c_1 => ?_)
    · exact absurd (Or.inr ⟨hh, Or.inl (gp_clt c_1)⟩) hn.2.2.2
    · refine lv_lload_n hx hb dX3_signed_10 rfl (lv_at hl 0 rfl) ?_
      refine lv_ldc2 (v := 63) hx hb hown (hts _ q232) dX3_signed_11 ?_
      refine W.lcmp hx hb dX3_signed_14 ?_
      refine lv_if_le (tgt := 40) hx hb dX3_signed_15 (by decide) (fun c_2 => ?_) (fun c_2 => ?_)
      · exact kx H locs ls hP hD hS hl
      · exact absurd (Or.inr ⟨hh, Or.inr (gp_cle c_2)⟩) hn.2.2.2
  | succ i ih =>
    intro j hj H locs ls hP hD hS hl
    have tl : W p l e R s m args below meth c H locs cells slots Q (F0 m 18 ls []) := by
      refine lv_aload_n hx hb dX3_signed_18 rfl (lv_at hl 1 rfl) ?_
      refine lv_lload_n hx hb dX3_signed_19 rfl (lv_at hl 0 rfl) ?_
      refine lv_ldc2 (v := 127) hx hb hown (hts _ q222) dX3_signed_20 ?_
      refine lv_land hx hb dX3_signed_23 ?_
      refine lv_l2i (v := (((gp_left v j) &&& 127)).toInt32) hx hb dX3_signed_24 rfl ?_
      refine lv_sipush (v := 128) hx hb dX3_signed_25 (by decide) ?_
      refine lv_ior hx hb dX3_signed_28 ?_
      have hPc := hP.sub (ws' := [(aO, .inr (3, [.ref aB, .int (nI (k + j))])), (aB, .inl (cB, 4096, .inl (gp_emit v (n + 1) f k j)))]) [0, 1] rfl
      have hDc := hD.sub (ws' := [(aO, .inr (3, [.ref aB, .int (nI (k + j))])), (aB, .inl (cB, 4096, .inl (gp_emit v (n + 1) f k j)))]) [0, 1] (by decide) rfl
      have hFc := va_free (wc := [(aO, .inr (3, [.ref aB, .int (nI (k + j))])), (aB, .inl (cB, 4096, .inl (gp_emit v (n + 1) f k j)))]) hD hS hA [0, 1] rfl
      refine va_callv (va_runV (As := [.int (((((gp_left v j) &&& 127)).toInt32) ||| 128)]) (rest := []) ⟨hx, hb, hml, hown, hts⟩ (m_O_put l dC dI cB aO aB (k + j) (gp_emit v (n + 1) f k j) ((gp_left v j &&& 127).toInt32 ||| 128) _ (by omega)) (cwV 1 hts (lw_V q223 q224 q225 q11 q226) rfl rfl rfl (by decide +kernel) ⟨Nat.le_trans (Nat.le_of_ble_eq_true rfl) hRf, Nat.le_trans (Nat.le_of_ble_eq_true rfl) hRl⟩) ⟨gC_bl, va_recv hK hPc (ci := 3) (q0 := 0) rfl rfl, gC_of hPc hK hDc⟩ rfl rfl hl.1 rfl (lv_room (Nat.le_of_ble_eq_true rfl)) dX3_signed_29 ⟨hRc, hRs⟩) hS (fun q _ h => hFc q h) hFc (fun u t H1 locs ht hvm hw hB hz1 hk1 hS => ?_)
      obtain ⟨hP1, hD1⟩ := hB
      rw [ht] at hP1
      obtain ⟨hP, hD⟩ := va_join (wr := []) (w1 := [(aO, .inr (3, [.ref aB, .int (nI (k + j + 1))])), (aB, .inl (cB, 4096, .inl (upd (gp_emit v (n + 1) f k j) (k + j) (((gp_left v j &&& 127).toInt32 ||| 128)).toInt8.toInt32)))]) hP hD [0, 1] [] rfl rfl (by decide) (by decide) hk1 hFc hP1 hD1
      have hP := hP.sub (ws' := [(aO, .inr (3, [.ref aB, .int (nI (k + j + 1))])), (aB, .inl (cB, 4096, .inl (upd (gp_emit v (n + 1) f k j) (k + j) (((gp_left v j &&& 127).toInt32 ||| 128)).toInt8.toInt32)))]) [0, 1] rfl
      have hD := hD.sub (ws' := [(aO, .inr (3, [.ref aB, .int (nI (k + j + 1))])), (aB, .inl (cB, 4096, .inl (upd (gp_emit v (n + 1) f k j) (k + j) (((gp_left v j &&& 127).toInt32 ||| 128)).toInt8.toInt32)))]) [0, 1] (by decide) rfl
      generalize H1 = H at hP hS ⊢
      have ef : upd (gp_emit v (n + 1) f k j) (k + j) (((gp_left v j &&& 127).toInt32 ||| 128)).toInt8.toInt32 = gp_emit v (n + 1) f k (j + 1) := by show _ = upd _ _ (gp_byte v (n + 1) j); rw [gp_byte, if_pos (by omega)]
      rw [ef] at hP hD
      clear ef
      have hP : va_P (dC, dI) vwCl [(aO, .inr (3, [.ref aB, .int (nI (k + j + 1))])), (aB, .inl (cB, 4096, .inl (gp_emit v (n + 1) f k (j + 1))))] H := hP
      have hD : va_D A [(aO, .inr (3, [.ref aB, .int (nI (k + j + 1))])), (aB, .inl (cB, 4096, .inl (gp_emit v (n + 1) f k (j + 1))))] := hD
      refine lv_lload_n hx hb dX3_signed_32 rfl (lv_at hl 0 rfl) ?_
      refine lv_bipush (v := 7) hx hb dX3_signed_33 (by decide) ?_
      refine lv_lshr (v := ((gp_left v j) >>> (((7 : Int32)).toInt64 &&& 63))) hx hb dX3_signed_35 rfl ?_
      refine lv_topl (fun z_2 ez_2 => ?_)
      rw [show z_2 = gp_left v (j + 1) from by rw [ez_2]; rfl]
      refine lv_lstore_n (lv' := [(3, .long (gp_left v (j + 1))), (0, .ref aO), (1, .long v)]) hx hb dX3_signed_36 rfl hl (by decide) rfl (fun ls hl => ?_)
      refine lv_goto (tgt := 2) hx hb dX3_signed_37 (by decide) ?_
      exact ih (j + 1) (by omega) H locs ls hP hD hS hl
    refine lv_lload_n hx hb dX3_signed_2 rfl (lv_at hl 0 rfl) ?_
    refine lv_ldc2 (v := (-64)) hx hb hown (hts _ q231) dX3_signed_3 ?_
    refine W.lcmp hx hb dX3_signed_6 ?_
    refine lv_if_lt (tgt := 18) hx hb dX3_signed_7 (by decide) (fun c_1 => ?_) (fun c_1 => ?_)
    · exact tl
    · refine lv_lload_n hx hb dX3_signed_10 rfl (lv_at hl 0 rfl) ?_
      refine lv_ldc2 (v := 63) hx hb hown (hts _ q232) dX3_signed_11 ?_
      refine W.lcmp hx hb dX3_signed_14 ?_
      refine lv_if_le (tgt := 40) hx hb dX3_signed_15 (by decide) (fun c_2 => ?_) (fun c_2 => ?_)
      · exact absurd ((hn.2.2.1 j (by omega)).resolve_left (fun q => hh q.1)).2 (fun q => q.elim (gp_clt' c_1) (gp_cle' c_2))
      · exact tl
set_option maxHeartbeats 4000000 in
/-- Out.signed(v): n + 1 bytes more -/
theorem m_O_signed (l : Launch) (dC : Nat → ClassId) (dI : Nat → Nat → Nat) (cB : ClassId) (aO aB : Nat) (v : Int64) (how n k : Nat) (f : Nat → Int32) (sz : Nat) (hh : how ≠ 0) (hn : gp_Len how v (n + 1)) (hk : k + n + 1 ≤ 1000) : Met l yX3_signed (ws_ yX3_signed cX3_signed 5 none) ({ frames := 1, cells := 0, slots := 0, locals := 23 }) (gC dC dI [.ref aO, .long v] [(aO, .inr (3, [.ref aB, .int (nI k)])), (aB, .inl (cB, 4096, .inl f))] [(cB, .byte)] sz) (va_Qv (fun _ : Unit => True) (fun _ t => gB dC dI (va_A [(aO, .inr (3, [.ref aB, .int (nI k)])), (aB, .inl (cB, 4096, .inl f))] sz) [(aO, .inr (3, [.ref aB, .int (nI (k + n + 1))])), (aB, .inl (cB, 4096, .inl (gp_emit v (n + 1) f k (n + 1))))] t) (va_A [(aO, .inr (3, [.ref aB, .int (nI k)])), (aB, .inl (cB, 4096, .inl f))] sz)) 0 0 (va_A [(aO, .inr (3, [.ref aB, .int (nI k)])), (aB, .inl (cB, 4096, .inl f))] sz) := by
  refine Met.ofW (cc := cX3_signed) (maxL := 5) (ret := none) (by decide) rfl ?_
  intro p e s m args below meth c s₁ B hml hv
  obtain ⟨rfl, hsz, hP, hK, hD0⟩ := hv
  have hx := B.exec
  have hb := B.bytes
  have hr := B.returns
  have hts0 := atoms_spec (ws := (ws_ yX3_signed cX3_signed 5 none)) B.pre
  have hts : ∀ w ∈ lw_all, w.before _ s = true := fun w h => hts0 w (List.mem_cons_of_mem _ h)
  have hown : s.vm.findClass RX3 = some m.cls := findClass_of_methodNamed B.named
  have hlocks := B.notSynchronized
  subst hsz
  have hD := hD0.self (sz := s.heap.size)
  generalize hAe : va_A [(aO, .inr (3, [.ref aB, .int (nI k)])), (aB, .inl (cB, 4096, .inl f))] s.heap.size = A at hD ⊢
  have hA : ∀ q : Nat, s.heap.size ≤ q → A q := fun q h => by rw [← hAe]; exact Or.inr h
  have hS : va_S A s.heap s.heap [] := va_S.rf
  have hP : va_P (dC, dI) vwCl [(aO, .inr (3, [.ref aB, .int (nI k)])), (aB, .inl (cB, 4096, .inl f))] s.heap := hP
  have hl := lv_entry ([.ref aO, .long v]) (n := 5) (Nat.le_of_ble_eq_true rfl)
  rw [lg_entry_eq]
  generalize (lg_sl ([.ref aO, .long v]) ++ List.replicate (5 - (lg_sl ([.ref aO, .long v])).length) Slot.unset).toArray = ls at hl ⊢
  have hl : lv_has ls 5 [(0, .ref aO), (1, .long v)] := hl
  refine lv_lload_n hx hb dX3_signed_0 rfl (lv_at hl 1 rfl) ?_
  refine lv_lstore_n (lv' := [(3, .long v), (0, .ref aO), (1, .long v)]) hx hb dX3_signed_1 rfl hl (by decide) rfl (fun ls hl => ?_)
  refine lo_O_signed hx hb hml hown hts hA hK (Nat.le_of_ble_eq_true rfl) (Nat.le_of_ble_eq_true rfl) (Nat.zero_le _) (Nat.zero_le _) aO aB v n k f how hh hn hk (fun H locs ls hP hD hS hl => ?_) n 0 (by omega) s.heap [] ls hP hD hS hl
  refine lv_aload_n hx hb dX3_signed_40 rfl (lv_at hl 1 rfl) ?_
  refine lv_lload_n hx hb dX3_signed_41 rfl (lv_at hl 0 rfl) ?_
  refine lv_ldc2 (v := 127) hx hb hown (hts _ q222) dX3_signed_42 ?_
  refine lv_land hx hb dX3_signed_45 ?_
  refine lv_l2i (v := (((gp_left v n) &&& 127)).toInt32) hx hb dX3_signed_46 rfl ?_
  have hPc := hP.sub (ws' := [(aO, .inr (3, [.ref aB, .int (nI (k + n))])), (aB, .inl (cB, 4096, .inl (gp_emit v (n + 1) f k n)))]) [0, 1] rfl
  have hDc := hD.sub (ws' := [(aO, .inr (3, [.ref aB, .int (nI (k + n))])), (aB, .inl (cB, 4096, .inl (gp_emit v (n + 1) f k n)))]) [0, 1] (by decide) rfl
  have hFc := va_free (wc := [(aO, .inr (3, [.ref aB, .int (nI (k + n))])), (aB, .inl (cB, 4096, .inl (gp_emit v (n + 1) f k n)))]) hD hS hA [0, 1] rfl
  refine va_callv (va_runV (As := [.int ((((gp_left v n) &&& 127)).toInt32)]) (rest := []) ⟨hx, hb, hml, hown, hts⟩ (m_O_put l dC dI cB aO aB (k + n) (gp_emit v (n + 1) f k n) ((gp_left v n &&& 127).toInt32) _ (by omega)) (cwV 1 hts (lw_V q223 q224 q225 q11 q226) rfl rfl rfl (by decide +kernel) ⟨Nat.le_of_ble_eq_true rfl, Nat.le_of_ble_eq_true rfl⟩) ⟨gC_bl, va_recv hK hPc (ci := 3) (q0 := 0) rfl rfl, gC_of hPc hK hDc⟩ rfl rfl hl.1 rfl (lv_room (Nat.le_of_ble_eq_true rfl)) dX3_signed_47 ⟨Nat.le_of_ble_eq_true rfl, Nat.le_of_ble_eq_true rfl⟩) hS (fun q _ h => hFc q h) hFc (fun u t H1 locs ht hvm hw hB hz1 hk1 hS => ?_)
  obtain ⟨hP1, hD1⟩ := hB
  rw [ht] at hP1
  obtain ⟨hP, hD⟩ := va_join (wr := []) (w1 := [(aO, .inr (3, [.ref aB, .int (nI (k + n + 1))])), (aB, .inl (cB, 4096, .inl (upd (gp_emit v (n + 1) f k n) (k + n) ((gp_left v n &&& 127).toInt32).toInt8.toInt32)))]) hP hD [0, 1] [] rfl rfl (by decide) (by decide) hk1 hFc hP1 hD1
  have hP := hP.sub (ws' := [(aO, .inr (3, [.ref aB, .int (nI (k + n + 1))])), (aB, .inl (cB, 4096, .inl (upd (gp_emit v (n + 1) f k n) (k + n) ((gp_left v n &&& 127).toInt32).toInt8.toInt32)))]) [0, 1] rfl
  have hD := hD.sub (ws' := [(aO, .inr (3, [.ref aB, .int (nI (k + n + 1))])), (aB, .inl (cB, 4096, .inl (upd (gp_emit v (n + 1) f k n) (k + n) ((gp_left v n &&& 127).toInt32).toInt8.toInt32)))]) [0, 1] (by decide) rfl
  generalize H1 = H at hP hS ⊢
  have ef : upd (gp_emit v (n + 1) f k n) (k + n) ((gp_left v n &&& 127).toInt32).toInt8.toInt32 = gp_emit v (n + 1) f k (n + 1) := by show _ = upd _ _ (gp_byte v (n + 1) n); rw [gp_byte, if_neg (by omega)]
  rw [ef] at hP hD
  clear ef
  have hP : va_P (dC, dI) vwCl [(aO, .inr (3, [.ref aB, .int (nI (k + n + 1))])), (aB, .inl (cB, 4096, .inl (gp_emit v (n + 1) f k (n + 1))))] H := hP
  have hD : va_D A [(aO, .inr (3, [.ref aB, .int (nI (k + n + 1))])), (aB, .inl (cB, 4096, .inl (gp_emit v (n + 1) f k (n + 1))))] := hD
  exact W.vret hx hb hr (fun t ht hW => ⟨⟨(), rfl, trivial, by rw [ht]; exact hP, hD⟩, hS.F ht⟩) hS.2.2 dX3_signed_50
end
section
set_option maxRecDepth 100000
set_option maxHeartbeats 4000000 in
/-- Reader.one(): the next byte, or the stop is thrown -/
theorem m_R_one (l : Launch) (dC : Nat → ClassId) (dI : Nat → Nat → Nat) (cB : ClassId) (aR aF aE aA : Nat) (a n : Nat) (nb pl : Int32) (f : Nat → Int32) (sz : Nat) (ha : a ≤ n) (hn : n ≤ 1000) : vt_Met l yX2_one (ws_ yX2_one cX2_one 1 (some .int)) ({ frames := 2, cells := 0, slots := 0, locals := 43 }) (gC dC dI [.ref aR] [(aR, .inr (2, [.ref aF, .ref aA, .int (nI a), .int (nI n)])), (aF, .inr (1, [.ref aE, .int nb, .int pl])), (aA, .inl (cB, 1000, .inl f))] [(cB, .byte)] sz) (vt_Q (fun (r : Option Value) (u : Nat × Int32 × Int32) => a < n ∧ r = some (.int (f a &&& 255)) ∧ u = (a + 1, nb, pl)) (fun _ => n ≤ a) (fun (u : Nat × Int32 × Int32) t => gB dC dI (va_A [(aR, .inr (2, [.ref aF, .ref aA, .int (nI a), .int (nI n)])), (aF, .inr (1, [.ref aE, .int nb, .int pl])), (aA, .inl (cB, 1000, .inl f))] sz) [(aR, .inr (2, [.ref aF, .ref aA, .int (nI u.1), .int (nI n)])), (aF, .inr (1, [.ref aE, .int u.2.1, .int u.2.2])), (aA, .inl (cB, 1000, .inl f))] t) aE (va_A [(aR, .inr (2, [.ref aF, .ref aA, .int (nI a), .int (nI n)])), (aF, .inr (1, [.ref aE, .int nb, .int pl])), (aA, .inl (cB, 1000, .inl f))] sz)) 0 0 (va_A [(aR, .inr (2, [.ref aF, .ref aA, .int (nI a), .int (nI n)])), (aF, .inr (1, [.ref aE, .int nb, .int pl])), (aA, .inl (cB, 1000, .inl f))] sz) := by
  refine vt_ofW (cc := cX2_one) (maxL := 1) (ret := (some .int)) (by decide) rfl ?_
  intro p e s m args below meth c s₁ B hml hempty hv
  obtain ⟨rfl, hsz, hP, hK, hD0⟩ := hv
  have hx := B.exec
  have hb := B.bytes
  have hr := B.returns
  have hts0 := atoms_spec (ws := (ws_ yX2_one cX2_one 1 (some .int))) B.pre
  have hts : ∀ w ∈ lw_all, w.before _ s = true := fun w h => hts0 w (List.mem_cons_of_mem _ h)
  have hown : s.vm.findClass RX2 = some m.cls := findClass_of_methodNamed B.named
  have hlocks := B.notSynchronized
  subst hsz
  have hD := hD0.self (sz := s.heap.size)
  generalize hAe : va_A [(aR, .inr (2, [.ref aF, .ref aA, .int (nI a), .int (nI n)])), (aF, .inr (1, [.ref aE, .int nb, .int pl])), (aA, .inl (cB, 1000, .inl f))] s.heap.size = A at hD ⊢
  have hA : ∀ q : Nat, s.heap.size ≤ q → A q := fun q h => by rw [← hAe]; exact Or.inr h
  have hS : va_S A s.heap s.heap [] := va_S.rf
  have hP : va_P (dC, dI) vwCl [(aR, .inr (2, [.ref aF, .ref aA, .int (nI a), .int (nI n)])), (aF, .inr (1, [.ref aE, .int nb, .int pl])), (aA, .inl (cB, 1000, .inl f))] s.heap := hP
  have hl := lv_entry ([.ref aR]) (n := 1) (Nat.le_of_ble_eq_true rfl)
  rw [lg_entry_eq]
  generalize (lg_sl ([.ref aR]) ++ List.replicate (1 - (lg_sl ([.ref aR])).length) Slot.unset).toArray = ls at hl ⊢
  have hl : lv_has ls 1 [(0, .ref aR)] := hl
  refine lv_aload_n hx hb dX2_one_0 rfl (lv_at hl 0 rfl) ?_
  refine va_get (D := (dC, dI)) (ci := 2) (v := .int (nI a)) (C := RX2) (T := TX2) (N := 4) hx hb hts in_X2 hown hK hP 0 rfl rfl 2 (by decide) (hts _ q107) (fun _ h9 => h9) rfl dX2_one_1 ?_
  refine lv_aload_n hx hb dX2_one_4 rfl (lv_at hl 0 rfl) ?_
  refine va_get (D := (dC, dI)) (ci := 2) (v := .int (nI n)) (C := RX2) (T := TX2) (N := 4) hx hb hts in_X2 hown hK hP 0 rfl rfl 3 (by decide) (hts _ q109) (fun _ h9 => h9) rfl dX2_one_5 ?_
  refine lv_icmp_lt (tgt := 20) hx hb dX2_one_8 (by decide) (fun c_1 => ?_) (fun c_1 => ?_)
  · have hlt : a < n := (nI_ltI (by omega) (by omega)).mp c_1
    refine lv_aload_n hx hb dX2_one_20 rfl (lv_at hl 0 rfl) ?_
    refine lv_dup hx hb dX2_one_21 rfl ?_
    refine va_get (D := (dC, dI)) (ci := 2) (v := .int (nI a)) (C := RX2) (T := TX2) (N := 4) hx hb hts in_X2 hown hK hP 0 rfl rfl 2 (by decide) (hts _ q107) (fun _ h9 => h9) rfl dX2_one_22 ?_
    refine lv_iconst (v := 1) hx hb dX2_one_25 (by decide) ?_
    refine lv_iadd hx hb dX2_one_26 ?_
    refine lv_topi (fun z_2 ez_2 => ?_)
    rw [show z_2 = nI (a + 1) from by rw [ez_2]; exact nI_1 a]
    refine va_put (D := (dC, dI)) (ci := 2) (v := .int (nI (a + 1))) (ty := .int) (C := RX2) (T := TX2) (N := 4) hx hb hts in_X2 tyX2 tyX2_ok nmX2 hown hK hP hD hS 0 rfl rfl 2 (by decide) (hts _ q107) (fun _ h9 => h9) rfl (by decide +kernel) rfl rfl (Nat.le_of_ble_eq_true rfl) dX2_one_27 (fun H locs hP hD hS => ?_)
    have hP : va_P (dC, dI) vwCl [(aR, .inr (2, [.ref aF, .ref aA, .int (nI (a + 1)), .int (nI n)])), (aF, .inr (1, [.ref aE, .int nb, .int pl])), (aA, .inl (cB, 1000, .inl f))] H := hP
    have hD : va_D A [(aR, .inr (2, [.ref aF, .ref aA, .int (nI (a + 1)), .int (nI n)])), (aF, .inr (1, [.ref aE, .int nb, .int pl])), (aA, .inl (cB, 1000, .inl f))] := hD
    refine lv_aload_n hx hb dX2_one_30 rfl (lv_at hl 0 rfl) ?_
    refine va_get (D := (dC, dI)) (ci := 2) (v := .ref aA) (C := RX2) (T := TX2) (N := 4) hx hb hts in_X2 hown hK hP 0 rfl rfl 1 (by decide) (hts _ q106) (fun _ h9 => h9) rfl dX2_one_31 ?_
    refine lv_aload_n hx hb dX2_one_34 rfl (lv_at hl 0 rfl) ?_
    refine va_get (D := (dC, dI)) (ci := 2) (v := .int (nI (a + 1))) (C := RX2) (T := TX2) (N := 4) hx hb hts in_X2 hown hK hP 0 rfl rfl 2 (by decide) (hts _ q107) (fun _ h9 => h9) rfl dX2_one_35 ?_
    refine lv_iconst (v := 1) hx hb dX2_one_38 (by decide) ?_
    refine lv_isub hx hb dX2_one_39 ?_
    refine lv_topi (fun z_3 ez_3 => ?_)
    rw [show z_3 = nI a from by rw [ez_3]; exact nI_pred a]
    refine va_bald hx hb hK hP 2 0 rfl rfl (vp_in_nI (by omega) (by omega)) dX2_one_40 ?_
    refine lv_topi (fun z_4 ez_4 => ?_)
    rw [show z_4 = f a from by rw [ez_4]; rw [nI_clamp (by omega)]]
    refine lv_sipush (v := 255) hx hb dX2_one_41 (by decide) ?_
    refine lv_iand hx hb dX2_one_44 ?_
    exact vt_ret (W.iret (v := f a &&& 255) hx hb hr (fun t ht hW => ⟨(a + 1, nb, pl), Or.inl ⟨_, rfl, hlt, rfl, rfl⟩, ⟨by rw [ht]; exact hP, hD⟩, hS.F ht⟩) hS.2.2 dX2_one_45)
  · have hge : n ≤ a := Nat.not_lt.mp fun q => c_1 ((nI_ltI (by omega) (by omega)).mpr q)
    refine lv_aload_n hx hb dX2_one_11 rfl (lv_at hl 0 rfl) ?_
    refine lv_aload_n hx hb dX2_one_12 rfl (lv_at hl 0 rfl) ?_
    refine va_get (D := (dC, dI)) (ci := 2) (v := .int (nI n)) (C := RX2) (T := TX2) (N := 4) hx hb hts in_X2 hown hK hP 0 rfl rfl 3 (by decide) (hts _ q109) (fun _ h9 => h9) rfl dX2_one_13 ?_
    have hPc := hP.sub (ws' := [(aR, .inr (2, [.ref aF, .ref aA, .int (nI a), .int (nI n)])), (aF, .inr (1, [.ref aE, .int nb, .int pl]))]) [0, 1] rfl
    have hDc := hD.sub (ws' := [(aR, .inr (2, [.ref aF, .ref aA, .int (nI a), .int (nI n)])), (aF, .inr (1, [.ref aE, .int nb, .int pl]))]) [0, 1] (by decide) rfl
    have hFc := va_free (wc := [(aR, .inr (2, [.ref aF, .ref aA, .int (nI a), .int (nI n)])), (aF, .inr (1, [.ref aE, .int nb, .int pl]))]) hD hS hA [0, 1] rfl
    refine va_callr (va_runV (As := [.int (nI n)]) (rest := []) ⟨hx, hb, hml, hown, hts⟩ (m_R_wrong l dC dI cB aR aF aE aA (nI a) (nI n) nb pl (nI n) _) (cwV 1 hts (lw_V q187 q188 q189 q10 q190) rfl rfl rfl (by decide +kernel) ⟨Nat.le_of_ble_eq_true rfl, Nat.le_of_ble_eq_true rfl⟩) ⟨gC_bl, va_recv hK hPc (ci := 2) (q0 := 0) rfl rfl, gC_of hPc hK hDc⟩ rfl rfl hl.1 rfl (lv_room (Nat.le_of_ble_eq_true rfl)) dX2_one_16 ⟨Nat.le_of_ble_eq_true rfl, Nat.le_of_ble_eq_true rfl⟩) hS (fun q _ h => hFc q h) hFc (fun u rr t H1 locs ht hvm hw hB hz1 hk1 hS => ?_)
    obtain ⟨hre, hP1, hD1⟩ := hB
    have hre := hre.symm
    subst hre
    rw [ht] at hP1
    obtain ⟨hP, hD⟩ := va_join (wr := [(aA, .inl (cB, 1000, .inl f))]) (w1 := [(aR, .inr (2, [.ref aF, .ref aA, .int (nI a), .int (nI n)])), (aF, .inr (1, [.ref aE, .int 1, .int (nI n)]))]) hP hD [0, 1] [2] rfl rfl (by decide) (by decide) hk1 hFc hP1 hD1
    have hP := hP.sub (ws' := [(aR, .inr (2, [.ref aF, .ref aA, .int (nI a), .int (nI n)])), (aF, .inr (1, [.ref aE, .int 1, .int (nI n)])), (aA, .inl (cB, 1000, .inl f))]) [1, 2, 0] rfl
    have hD := hD.sub (ws' := [(aR, .inr (2, [.ref aF, .ref aA, .int (nI a), .int (nI n)])), (aF, .inr (1, [.ref aE, .int 1, .int (nI n)])), (aA, .inl (cB, 1000, .inl f))]) [1, 2, 0] (by decide) rfl
    generalize H1 = H at hP hS ⊢
    refine vt_athrow hx hb dX2_one_19 ?_
    exact vt_leave hempty hlocks (fun t ht hW => ⟨(a, 1, nI n), Or.inr ⟨rfl, hge⟩, ⟨by rw [ht]; exact hP, hD⟩, hS.F ht⟩) hS.2.2
set_option maxHeartbeats 4000000 in
/-- Reader.isLast(b, groups) -/
theorem m_R_isLast (l : Launch) (dC : Nat → ClassId) (dI : Nat → Nat → Nat) (cB : ClassId) (b g : Int32) (sz : Nat)  : Met l yX2_isLast (ws_ yX2_isLast cX2_isLast 2 (some .boolean)) ({ frames := 0, cells := 0, slots := 0, locals := 0 }) (gC dC dI [.int b, .int g] [] [(cB, .byte)] sz) (va_Qi (fun (r : Int32) (_ : Unit) => (r = 1 ∧ gp_lastI b g) ∨ (r = 0 ∧ ¬ gp_lastI b g)) (fun (_ : Unit) t => gB dC dI (va_A [] sz) [] t) (va_A [] sz)) 0 0 (va_A [] sz) := by
  refine Met.ofW (cc := cX2_isLast) (maxL := 2) (ret := (some .boolean)) (by decide) rfl ?_
  intro p e s m args below meth c s₁ B hml hv
  obtain ⟨rfl, hsz, hP, hK, hD0⟩ := hv
  have hx := B.exec
  have hb := B.bytes
  have hr := B.returns
  have hts0 := atoms_spec (ws := (ws_ yX2_isLast cX2_isLast 2 (some .boolean))) B.pre
  have hts : ∀ w ∈ lw_all, w.before _ s = true := fun w h => hts0 w (List.mem_cons_of_mem _ h)
  have hown : s.vm.findClass RX2 = some m.cls := findClass_of_methodNamed B.named
  have hlocks := B.notSynchronized
  subst hsz
  have hD := hD0.self (sz := s.heap.size)
  generalize hAe : va_A [] s.heap.size = A at hD ⊢
  have hA : ∀ q : Nat, s.heap.size ≤ q → A q := fun q h => by rw [← hAe]; exact Or.inr h
  have hS : va_S A s.heap s.heap [] := va_S.rf
  have hP : va_P (dC, dI) vwCl [] s.heap := hP
  have hl := lv_entry ([.int b, .int g]) (n := 2) (Nat.le_of_ble_eq_true rfl)
  rw [lg_entry_eq]
  generalize (lg_sl ([.int b, .int g]) ++ List.replicate (2 - (lg_sl ([.int b, .int g])).length) Slot.unset).toArray = ls at hl ⊢
  have hl : lv_has ls 2 [(0, .int b), (1, .int g)] := hl
  refine lv_iload_n hx hb dX2_isLast_0 rfl (lv_at hl 1 rfl) ?_
  refine lv_iconst (v := 5) hx hb dX2_isLast_1 (by decide) ?_
  refine lv_icmp_ne (tgt := 31) hx hb dX2_isLast_2 (by decide) (fun c_1 => ?_) (fun c_1 => ?_)
  · refine lv_iload_n hx hb dX2_isLast_31 rfl (lv_at hl 0 rfl) ?_
    refine lv_if_eq (tgt := 41) hx hb dX2_isLast_32 (by decide) (fun c_2 => ?_) (fun c_2 => ?_)
    · refine lv_iconst (v := 1) hx hb dX2_isLast_41 (by decide) ?_
      refine lv_goto (tgt := 46) hx hb dX2_isLast_42 (by decide) ?_
      exact W.zret (v := 1) hx hb hr rfl (fun t ht hW => ⟨⟨1, (), rfl, Or.inl ⟨rfl, by unfold gp_lastI; simp_all⟩, by rw [ht]; exact hP, hD⟩, hS.F ht⟩) hS.2.2 dX2_isLast_46
    · refine lv_iload_n hx hb dX2_isLast_35 rfl (lv_at hl 0 rfl) ?_
      refine lv_bipush (v := 127) hx hb dX2_isLast_36 (by decide) ?_
      refine lv_icmp_ne (tgt := 45) hx hb dX2_isLast_38 (by decide) (fun c_3 => ?_) (fun c_3 => ?_)
      · refine lv_iconst (v := 0) hx hb dX2_isLast_45 (by decide) ?_
        exact W.zret (v := 0) hx hb hr rfl (fun t ht hW => ⟨⟨0, (), rfl, Or.inr ⟨rfl, by unfold gp_lastI; simp_all⟩, by rw [ht]; exact hP, hD⟩, hS.F ht⟩) hS.2.2 dX2_isLast_46
      · refine lv_iconst (v := 1) hx hb dX2_isLast_41 (by decide) ?_
        refine lv_goto (tgt := 46) hx hb dX2_isLast_42 (by decide) ?_
        exact W.zret (v := 1) hx hb hr rfl (fun t ht hW => ⟨⟨1, (), rfl, Or.inl ⟨rfl, by unfold gp_lastI; simp_all⟩, by rw [ht]; exact hP, hD⟩, hS.F ht⟩) hS.2.2 dX2_isLast_46
  · refine lv_iload_n hx hb dX2_isLast_5 rfl (lv_at hl 0 rfl) ?_
    refine lv_bipush (v := 7) hx hb dX2_isLast_6 (by decide) ?_
    refine lv_icmp_le (tgt := 23) hx hb dX2_isLast_8 (by decide) (fun c_2 => ?_) (fun c_2 => ?_)
    · refine lv_iconst (v := 1) hx hb dX2_isLast_23 (by decide) ?_
      refine lv_goto (tgt := 46) hx hb dX2_isLast_24 (by decide) ?_
      exact W.zret (v := 1) hx hb hr rfl (fun t ht hW => ⟨⟨1, (), rfl, Or.inl ⟨rfl, by unfold gp_lastI; simp_all⟩, by rw [ht]; exact hP, hD⟩, hS.F ht⟩) hS.2.2 dX2_isLast_46
    · refine lv_iload_n hx hb dX2_isLast_11 rfl (lv_at hl 0 rfl) ?_
      refine lv_bipush (v := 120) hx hb dX2_isLast_12 (by decide) ?_
      refine lv_icmp_lt (tgt := 27) hx hb dX2_isLast_14 (by decide) (fun c_3 => ?_) (fun c_3 => ?_)
      · refine lv_iconst (v := 0) hx hb dX2_isLast_27 (by decide) ?_
        refine lv_goto (tgt := 46) hx hb dX2_isLast_28 (by decide) ?_
        exact W.zret (v := 0) hx hb hr rfl (fun t ht hW => ⟨⟨0, (), rfl, Or.inr ⟨rfl, by unfold gp_lastI; simp_all⟩, by rw [ht]; exact hP, hD⟩, hS.F ht⟩) hS.2.2 dX2_isLast_46
      · refine lv_iload_n hx hb dX2_isLast_17 rfl (lv_at hl 0 rfl) ?_
        refine lv_bipush (v := 127) hx hb dX2_isLast_18 (by decide) ?_
        refine lv_icmp_gt (tgt := 27) hx hb dX2_isLast_20 (by decide) (fun c_4 => ?_) (fun c_4 => ?_)
        · refine lv_iconst (v := 0) hx hb dX2_isLast_27 (by decide) ?_
          refine lv_goto (tgt := 46) hx hb dX2_isLast_28 (by decide) ?_
          exact W.zret (v := 0) hx hb hr rfl (fun t ht hW => ⟨⟨0, (), rfl, Or.inr ⟨rfl, by unfold gp_lastI; simp_all⟩, by rw [ht]; exact hP, hD⟩, hS.F ht⟩) hS.2.2 dX2_isLast_46
        · refine lv_iconst (v := 1) hx hb dX2_isLast_23 (by decide) ?_
          refine lv_goto (tgt := 46) hx hb dX2_isLast_24 (by decide) ?_
          exact W.zret (v := 1) hx hb hr rfl (fun t ht hW => ⟨⟨1, (), rfl, Or.inl ⟨rfl, by unfold gp_lastI; simp_all⟩, by rw [ht]; exact hP, hD⟩, hS.F ht⟩) hS.2.2 dX2_isLast_46
set_option maxHeartbeats 4000000 in
/-- the loop of Reader.number: k groups are read -/
theorem lo_R_number {p : Program} {l : Launch} {e : Env} {R : Room} {s : State} {m : MethodId} {args : Array Value} {below : List Frame} {meth : Method} {c : Code} {Q : State → Prop} {dC : Nat → ClassId} {dI : Nat → Nat → Nat} {cB : ClassId} {A : Nat → Prop} {cells slots : Nat} (hx : p.tables.exec = Jvm.exec) (hb : c.code = cX2_number) (hml : c.maxLocals = 6) (hown : s.vm.findClass RX2 = some m.cls) (hts : ∀ w ∈ lw_all, w.before args s = true) (hA : ∀ q : Nat, s.heap.size ≤ q → A q) (hK : va_K (dC, dI) vwCl [(cB, .byte)] s) (hRf : 3 ≤ R.frames) (hRl : 63 ≤ R.locals) (hRc : cells ≤ R.cells) (hRs : slots ≤ R.slots) (aR aF aE aA : Nat) (a n c_ : Nat) (f : Nat → Int32) (hn : n ≤ 1000) (hB : gp_By f) (hI : gp_Is f a n (4 + 1) c_) (hI0 : a ≤ n)
    (kr : ∀ (H : Heap) (locs : List Loc) (ls : Array Slot) (nb pl : Int32), gp_ok 0 (4 + 1) n a c_ f → va_P (dC, dI) vwCl [(aR, .inr (2, [.ref aF, .ref aA, .int (nI (a + c_ + 1)), .int (nI n)])), (aF, .inr (1, [.ref aE, .int nb, .int pl])), (aA, .inl (cB, 1000, .inl f))] H → va_D A [(aR, .inr (2, [.ref aF, .ref aA, .int (nI (a + c_ + 1)), .int (nI n)])), (aF, .inr (1, [.ref aE, .int nb, .int pl])), (aA, .inl (cB, 1000, .inl f))] → va_S A s.heap H locs → lv_has ls 6 [(2, .long (gp_acc f a (c_ + 1)))] → W p l e R s m args below meth c H locs cells slots Q (F0 m 64 ls []))
    (kt : ∀ (H : Heap) (locs : List Loc) (pc : Nat) (ls : Array Slot) (st : List Value) (a2 : Nat) (nb pl : Int32), ¬ gp_ok 0 (4 + 1) n a c_ f → va_P (dC, dI) vwCl [(aR, .inr (2, [.ref aF, .ref aA, .int (nI a2), .int (nI n)])), (aF, .inr (1, [.ref aE, .int nb, .int pl])), (aA, .inl (cB, 1000, .inl f))] H → va_D A [(aR, .inr (2, [.ref aF, .ref aA, .int (nI a2), .int (nI n)])), (aF, .inr (1, [.ref aE, .int nb, .int pl])), (aA, .inl (cB, 1000, .inl f))] → va_S A s.heap H locs → vt_WT p l e R s m args below meth c H locs cells slots Q (F0 m pc ls st) aE) :
    ∀ (i k : Nat), k + i = 4 → k ≤ c_ → ∀ (nb pl : Int32) (H : Heap) (locs : List Loc) (ls : Array Slot), va_P (dC, dI) vwCl [(aR, .inr (2, [.ref aF, .ref aA, .int (nI (a + k)), .int (nI n)])), (aF, .inr (1, [.ref aE, .int nb, .int pl])), (aA, .inl (cB, 1000, .inl f))] H → va_D A [(aR, .inr (2, [.ref aF, .ref aA, .int (nI (a + k)), .int (nI n)])), (aF, .inr (1, [.ref aE, .int nb, .int pl])), (aA, .inl (cB, 1000, .inl f))] → va_S A s.heap H locs → lv_has ls 6 [(4, .int (nI k)), (2, .long (gp_acc f a k)), (1, .int (nI a)), (0, .ref aR)] → W p l e R s m args below meth c H locs cells slots Q (F0 m 10 ls []) := by
  intro i
  induction i with
  | zero =>
    intro k hki hk nb pl H locs ls hP hD hS hl
    have hle := gp_an hI hI0
    refine lv_iload hx hb dX2_number_10 (lv_at hl 0 rfl) ?_
    refine lv_iconst (v := 5) hx hb dX2_number_12 (by decide) ?_
    refine lv_icmp_ge (tgt := 72) hx hb dX2_number_13 (by decide) (fun c_1 => ?_) (fun c_1 => ?_)
    · exact absurd c_1 (nI_ge (a := k) (b := 5) (by omega) (by omega))
    · refine lv_aload_n hx hb dX2_number_16 rfl (lv_at hl 3 rfl) ?_
      have hPc := hP.sub (ws' := [(aR, .inr (2, [.ref aF, .ref aA, .int (nI (a + k)), .int (nI n)])), (aF, .inr (1, [.ref aE, .int nb, .int pl])), (aA, .inl (cB, 1000, .inl f))]) [0, 1, 2] rfl
      have hDc := hD.sub (ws' := [(aR, .inr (2, [.ref aF, .ref aA, .int (nI (a + k)), .int (nI n)])), (aF, .inr (1, [.ref aE, .int nb, .int pl])), (aA, .inl (cB, 1000, .inl f))]) [0, 1, 2] (by decide) rfl
      have hFc := va_free (wc := [(aR, .inr (2, [.ref aF, .ref aA, .int (nI (a + k)), .int (nI n)])), (aF, .inr (1, [.ref aE, .int nb, .int pl])), (aA, .inl (cB, 1000, .inl f))]) hD hS hA [0, 1, 2] rfl
      refine vt_call (vt_runV (As := []) (rest := []) ⟨hx, hb, hml, hown, hts⟩ (m_R_one l dC dI cB aR aF aE aA (a + k) n nb pl f _ (hle k hk) hn) (cwV 0 hts (lw_V q183 q184 q185 q10 q186) rfl rfl rfl (by decide +kernel) ⟨Nat.le_trans (Nat.le_of_ble_eq_true rfl) hRf, Nat.le_trans (Nat.le_of_ble_eq_true rfl) hRl⟩) ⟨gC_bl, va_recv hK hPc (ci := 2) (q0 := 0) rfl rfl, gC_of hPc hK hDc⟩ rfl rfl hl.1 rfl (lv_room (Nat.le_of_ble_eq_true rfl)) dX2_number_17 ⟨hRc, hRs⟩) hS (fun q _ h => hFc q h) hFc (fun r u t H1 locs ht hvm hw hB hz1 hk1 hS => ?_) (fun u t H1 locs ht hvm hw hB hz1 hk1 hS => ?_)
      · obtain ⟨han, rfl, rfl⟩ := hw
        obtain ⟨hP1, hD1⟩ := hB
        rw [ht] at hP1
        obtain ⟨hP, hD⟩ := va_join (wr := []) (w1 := [(aR, .inr (2, [.ref aF, .ref aA, .int (nI (a + k + 1)), .int (nI n)])), (aF, .inr (1, [.ref aE, .int nb, .int pl])), (aA, .inl (cB, 1000, .inl f))]) hP hD [0, 1, 2] [] rfl rfl (by decide) (by decide) hk1 hFc hP1 hD1
        have hP := hP.sub (ws' := [(aR, .inr (2, [.ref aF, .ref aA, .int (nI (a + k + 1)), .int (nI n)])), (aF, .inr (1, [.ref aE, .int nb, .int pl])), (aA, .inl (cB, 1000, .inl f))]) [0, 1, 2] rfl
        have hD := hD.sub (ws' := [(aR, .inr (2, [.ref aF, .ref aA, .int (nI (a + k + 1)), .int (nI n)])), (aF, .inr (1, [.ref aE, .int nb, .int pl])), (aA, .inl (cB, 1000, .inl f))]) [0, 1, 2] (by decide) rfl
        generalize H1 = H at hP hS ⊢
        refine lv_istore (lv' := [(5, .int (f (a + k) &&& 255)), (4, .int (nI k)), (2, .long (gp_acc f a k)), (1, .int (nI a)), (0, .ref aR)]) hx hb dX2_number_20 hl (by decide) rfl (fun ls hl => ?_)
        refine lv_iload hx hb dX2_number_22 (lv_at hl 1 rfl) ?_
        refine lv_iconst (v := 4) hx hb dX2_number_24 (by decide) ?_
        have tl : (k = 4 → f (a + k) &&& 255 ≤ 15) → W p l e R s m args below meth c H locs cells slots Q (F0 m 41 ls []) := by
          intro h4
          refine lv_lload_n hx hb dX2_number_41 rfl (lv_at hl 2 rfl) ?_
          refine lv_iload hx hb dX2_number_42 (lv_at hl 0 rfl) ?_
          refine lv_bipush (v := 127) hx hb dX2_number_44 (by decide) ?_
          refine lv_iand hx hb dX2_number_46 ?_
          refine lv_i2l (v := (((f (a + k) &&& 255) &&& 127)).toInt64) hx hb dX2_number_47 rfl ?_
          refine lv_bipush (v := 7) hx hb dX2_number_48 (by decide) ?_
          refine lv_iload hx hb dX2_number_50 (lv_at hl 1 rfl) ?_
          refine lv_imul hx hb dX2_number_52 ?_
          refine lv_lshl (v := (((((f (a + k) &&& 255) &&& 127)).toInt64) <<< (((7 * (nI k))).toInt64 &&& 63))) hx hb dX2_number_53 rfl ?_
          refine lv_lor hx hb dX2_number_54 ?_
          refine lv_topl (fun z_3 ez_3 => ?_)
          rw [show z_3 = gp_acc f a (k + 1) from by rw [ez_3]; rfl]
          refine lv_lstore_n (lv' := [(2, .long (gp_acc f a (k + 1))), (5, .int (f (a + k) &&& 255)), (4, .int (nI k)), (1, .int (nI a)), (0, .ref aR)]) hx hb dX2_number_55 rfl hl (by decide) rfl (fun ls hl => ?_)
          refine lv_iload hx hb dX2_number_56 (lv_at hl 1 rfl) ?_
          refine lv_sipush (v := 128) hx hb dX2_number_58 (by decide) ?_
          refine lv_icmp_ge (tgt := 66) hx hb dX2_number_61 (by decide) (fun c_4 => ?_) (fun c_4 => ?_)
          · have hlt := gp_go hI hB hk (by omega) han c_4
            exact absurd (gp_le15 (h4 (by omega)) c_4) id
          · have ek := gp_end hI hB hk c_4
            subst ek
            exact kr H locs ls nb pl (gp_fin0 hB (by omega) han c_4 h4) hP hD hS (lv_sub hl [0] rfl)
        refine lv_icmp_ne (tgt := 41) hx hb dX2_number_25 (by decide) (fun c_3 => ?_) (fun c_3 => ?_)
        · exact tl (fun q => absurd (by rw [q]; rfl) c_3)
        · have e4 : k = 4 := (nI_eq (b := 4) (by omega) (by omega)).mp c_3
          refine lv_iload hx hb dX2_number_28 (lv_at hl 0 rfl) ?_
          refine lv_bipush (v := 15) hx hb dX2_number_30 (by decide) ?_
          refine lv_icmp_le (tgt := 41) hx hb dX2_number_32 (by decide) (fun c_4 => ?_) (fun c_4 => ?_)
          · exact tl (fun _ => c_4)
          · refine lv_aload_n hx hb dX2_number_35 rfl (lv_at hl 4 rfl) ?_
            refine lv_iload_n hx hb dX2_number_36 rfl (lv_at hl 3 rfl) ?_
            have hPc := hP.sub (ws' := [(aR, .inr (2, [.ref aF, .ref aA, .int (nI (a + k + 1)), .int (nI n)])), (aF, .inr (1, [.ref aE, .int nb, .int pl]))]) [0, 1] rfl
            have hDc := hD.sub (ws' := [(aR, .inr (2, [.ref aF, .ref aA, .int (nI (a + k + 1)), .int (nI n)])), (aF, .inr (1, [.ref aE, .int nb, .int pl]))]) [0, 1] (by decide) rfl
            have hFc := va_free (wc := [(aR, .inr (2, [.ref aF, .ref aA, .int (nI (a + k + 1)), .int (nI n)])), (aF, .inr (1, [.ref aE, .int nb, .int pl]))]) hD hS hA [0, 1] rfl
            refine va_callr (va_runV (As := [.int (nI a)]) (rest := []) ⟨hx, hb, hml, hown, hts⟩ (m_R_wrong l dC dI cB aR aF aE aA (nI (a + k + 1)) (nI n) nb pl (nI a) _) (cwV 1 hts (lw_V q187 q188 q189 q10 q190) rfl rfl rfl (by decide +kernel) ⟨Nat.le_trans (Nat.le_of_ble_eq_true rfl) hRf, Nat.le_trans (Nat.le_of_ble_eq_true rfl) hRl⟩) ⟨gC_bl, va_recv hK hPc (ci := 2) (q0 := 0) rfl rfl, gC_of hPc hK hDc⟩ rfl rfl hl.1 rfl (lv_room (Nat.le_of_ble_eq_true rfl)) dX2_number_37 ⟨hRc, hRs⟩) hS (fun q _ h => hFc q h) hFc (fun u rr t H1 locs ht hvm hw hB hz1 hk1 hS => ?_)
            obtain ⟨hre, hP1, hD1⟩ := hB
            have hre := hre.symm
            subst hre
            rw [ht] at hP1
            obtain ⟨hP, hD⟩ := va_join (wr := [(aA, .inl (cB, 1000, .inl f))]) (w1 := [(aR, .inr (2, [.ref aF, .ref aA, .int (nI (a + k + 1)), .int (nI n)])), (aF, .inr (1, [.ref aE, .int 1, .int (nI a)]))]) hP hD [0, 1] [2] rfl rfl (by decide) (by decide) hk1 hFc hP1 hD1
            have hP := hP.sub (ws' := [(aR, .inr (2, [.ref aF, .ref aA, .int (nI (a + k + 1)), .int (nI n)])), (aF, .inr (1, [.ref aE, .int 1, .int (nI a)])), (aA, .inl (cB, 1000, .inl f))]) [1, 2, 0] rfl
            have hD := hD.sub (ws' := [(aR, .inr (2, [.ref aF, .ref aA, .int (nI (a + k + 1)), .int (nI n)])), (aF, .inr (1, [.ref aE, .int 1, .int (nI a)])), (aA, .inl (cB, 1000, .inl f))]) [1, 2, 0] (by decide) rfl
            generalize H1 = H at hP hS ⊢
            refine vt_athrow hx hb dX2_number_40 ?_
            subst e4
            exact kt H locs _ ls _ (a + 4 + 1) 1 (nI a) (gp_stop0 hI hB hk han c_4) hP hD hS
      · obtain ⟨hP1, hD1⟩ := hB
        rw [ht] at hP1
        obtain ⟨hP, hD⟩ := va_join (wr := []) (w1 := [(aR, .inr (2, [.ref aF, .ref aA, .int (nI u.1), .int (nI n)])), (aF, .inr (1, [.ref aE, .int u.2.1, .int u.2.2])), (aA, .inl (cB, 1000, .inl f))]) hP hD [0, 1, 2] [] rfl rfl (by decide) (by decide) hk1 hFc hP1 hD1
        have hP := hP.sub (ws' := [(aR, .inr (2, [.ref aF, .ref aA, .int (nI u.1), .int (nI n)])), (aF, .inr (1, [.ref aE, .int u.2.1, .int u.2.2])), (aA, .inl (cB, 1000, .inl f))]) [0, 1, 2] rfl
        have hD := hD.sub (ws' := [(aR, .inr (2, [.ref aF, .ref aA, .int (nI u.1), .int (nI n)])), (aF, .inr (1, [.ref aE, .int u.2.1, .int u.2.2])), (aA, .inl (cB, 1000, .inl f))]) [0, 1, 2] (by decide) rfl
        generalize H1 = H at hP hS ⊢
        exact kt H locs _ ls _ u.1 u.2.1 u.2.2 (gp_out hI hk hw) hP hD hS
  | succ i ih =>
    intro k hki hk nb pl H locs ls hP hD hS hl
    have hle := gp_an hI hI0
    refine lv_iload hx hb dX2_number_10 (lv_at hl 0 rfl) ?_
    refine lv_iconst (v := 5) hx hb dX2_number_12 (by decide) ?_
    refine lv_icmp_ge (tgt := 72) hx hb dX2_number_13 (by decide) (fun c_1 => ?_) (fun c_1 => ?_)
    · exact absurd c_1 (nI_ge (a := k) (b := 5) (by omega) (by omega))
    · refine lv_aload_n hx hb dX2_number_16 rfl (lv_at hl 3 rfl) ?_
      have hPc := hP.sub (ws' := [(aR, .inr (2, [.ref aF, .ref aA, .int (nI (a + k)), .int (nI n)])), (aF, .inr (1, [.ref aE, .int nb, .int pl])), (aA, .inl (cB, 1000, .inl f))]) [0, 1, 2] rfl
      have hDc := hD.sub (ws' := [(aR, .inr (2, [.ref aF, .ref aA, .int (nI (a + k)), .int (nI n)])), (aF, .inr (1, [.ref aE, .int nb, .int pl])), (aA, .inl (cB, 1000, .inl f))]) [0, 1, 2] (by decide) rfl
      have hFc := va_free (wc := [(aR, .inr (2, [.ref aF, .ref aA, .int (nI (a + k)), .int (nI n)])), (aF, .inr (1, [.ref aE, .int nb, .int pl])), (aA, .inl (cB, 1000, .inl f))]) hD hS hA [0, 1, 2] rfl
      refine vt_call (vt_runV (As := []) (rest := []) ⟨hx, hb, hml, hown, hts⟩ (m_R_one l dC dI cB aR aF aE aA (a + k) n nb pl f _ (hle k hk) hn) (cwV 0 hts (lw_V q183 q184 q185 q10 q186) rfl rfl rfl (by decide +kernel) ⟨Nat.le_trans (Nat.le_of_ble_eq_true rfl) hRf, Nat.le_trans (Nat.le_of_ble_eq_true rfl) hRl⟩) ⟨gC_bl, va_recv hK hPc (ci := 2) (q0 := 0) rfl rfl, gC_of hPc hK hDc⟩ rfl rfl hl.1 rfl (lv_room (Nat.le_of_ble_eq_true rfl)) dX2_number_17 ⟨hRc, hRs⟩) hS (fun q _ h => hFc q h) hFc (fun r u t H1 locs ht hvm hw hB hz1 hk1 hS => ?_) (fun u t H1 locs ht hvm hw hB hz1 hk1 hS => ?_)
      · obtain ⟨han, rfl, rfl⟩ := hw
        obtain ⟨hP1, hD1⟩ := hB
        rw [ht] at hP1
        obtain ⟨hP, hD⟩ := va_join (wr := []) (w1 := [(aR, .inr (2, [.ref aF, .ref aA, .int (nI (a + k + 1)), .int (nI n)])), (aF, .inr (1, [.ref aE, .int nb, .int pl])), (aA, .inl (cB, 1000, .inl f))]) hP hD [0, 1, 2] [] rfl rfl (by decide) (by decide) hk1 hFc hP1 hD1
        have hP := hP.sub (ws' := [(aR, .inr (2, [.ref aF, .ref aA, .int (nI (a + k + 1)), .int (nI n)])), (aF, .inr (1, [.ref aE, .int nb, .int pl])), (aA, .inl (cB, 1000, .inl f))]) [0, 1, 2] rfl
        have hD := hD.sub (ws' := [(aR, .inr (2, [.ref aF, .ref aA, .int (nI (a + k + 1)), .int (nI n)])), (aF, .inr (1, [.ref aE, .int nb, .int pl])), (aA, .inl (cB, 1000, .inl f))]) [0, 1, 2] (by decide) rfl
        generalize H1 = H at hP hS ⊢
        refine lv_istore (lv' := [(5, .int (f (a + k) &&& 255)), (4, .int (nI k)), (2, .long (gp_acc f a k)), (1, .int (nI a)), (0, .ref aR)]) hx hb dX2_number_20 hl (by decide) rfl (fun ls hl => ?_)
        refine lv_iload hx hb dX2_number_22 (lv_at hl 1 rfl) ?_
        refine lv_iconst (v := 4) hx hb dX2_number_24 (by decide) ?_
        have tl : (k = 4 → f (a + k) &&& 255 ≤ 15) → W p l e R s m args below meth c H locs cells slots Q (F0 m 41 ls []) := by
          intro h4
          refine lv_lload_n hx hb dX2_number_41 rfl (lv_at hl 2 rfl) ?_
          refine lv_iload hx hb dX2_number_42 (lv_at hl 0 rfl) ?_
          refine lv_bipush (v := 127) hx hb dX2_number_44 (by decide) ?_
          refine lv_iand hx hb dX2_number_46 ?_
          refine lv_i2l (v := (((f (a + k) &&& 255) &&& 127)).toInt64) hx hb dX2_number_47 rfl ?_
          refine lv_bipush (v := 7) hx hb dX2_number_48 (by decide) ?_
          refine lv_iload hx hb dX2_number_50 (lv_at hl 1 rfl) ?_
          refine lv_imul hx hb dX2_number_52 ?_
          refine lv_lshl (v := (((((f (a + k) &&& 255) &&& 127)).toInt64) <<< (((7 * (nI k))).toInt64 &&& 63))) hx hb dX2_number_53 rfl ?_
          refine lv_lor hx hb dX2_number_54 ?_
          refine lv_topl (fun z_3 ez_3 => ?_)
          rw [show z_3 = gp_acc f a (k + 1) from by rw [ez_3]; rfl]
          refine lv_lstore_n (lv' := [(2, .long (gp_acc f a (k + 1))), (5, .int (f (a + k) &&& 255)), (4, .int (nI k)), (1, .int (nI a)), (0, .ref aR)]) hx hb dX2_number_55 rfl hl (by decide) rfl (fun ls hl => ?_)
          refine lv_iload hx hb dX2_number_56 (lv_at hl 1 rfl) ?_
          refine lv_sipush (v := 128) hx hb dX2_number_58 (by decide) ?_
          refine lv_icmp_ge (tgt := 66) hx hb dX2_number_61 (by decide) (fun c_4 => ?_) (fun c_4 => ?_)
          · have hlt := gp_go hI hB hk (by omega) han c_4
            refine lv_iinc (v := nI (k + 1)) (lv' := [(4, .int (nI (k + 1))), (2, .long (gp_acc f a (k + 1))), (5, .int (f (a + k) &&& 255)), (1, .int (nI a)), (0, .ref aR)]) hx hb dX2_number_66 hl (k := 2) rfl (nI_1 k) (by decide) rfl (fun ls hl => ?_)
            refine lv_goto (tgt := 10) hx hb dX2_number_69 (by decide) ?_
            exact ih (k + 1) (by omega) hlt nb pl H locs ls hP hD hS (lv_sub hl [0, 1, 3, 4] rfl)
          · have ek := gp_end hI hB hk c_4
            subst ek
            exact kr H locs ls nb pl (gp_fin0 hB (by omega) han c_4 h4) hP hD hS (lv_sub hl [0] rfl)
        refine lv_icmp_ne (tgt := 41) hx hb dX2_number_25 (by decide) (fun c_3 => ?_) (fun c_3 => ?_)
        · exact tl (fun q => absurd (by rw [q]; rfl) c_3)
        · have e4 : k = 4 := (nI_eq (b := 4) (by omega) (by omega)).mp c_3
          refine lv_iload hx hb dX2_number_28 (lv_at hl 0 rfl) ?_
          refine lv_bipush (v := 15) hx hb dX2_number_30 (by decide) ?_
          refine lv_icmp_le (tgt := 41) hx hb dX2_number_32 (by decide) (fun c_4 => ?_) (fun c_4 => ?_)
          · exact tl (fun _ => c_4)
          · refine lv_aload_n hx hb dX2_number_35 rfl (lv_at hl 4 rfl) ?_
            refine lv_iload_n hx hb dX2_number_36 rfl (lv_at hl 3 rfl) ?_
            have hPc := hP.sub (ws' := [(aR, .inr (2, [.ref aF, .ref aA, .int (nI (a + k + 1)), .int (nI n)])), (aF, .inr (1, [.ref aE, .int nb, .int pl]))]) [0, 1] rfl
            have hDc := hD.sub (ws' := [(aR, .inr (2, [.ref aF, .ref aA, .int (nI (a + k + 1)), .int (nI n)])), (aF, .inr (1, [.ref aE, .int nb, .int pl]))]) [0, 1] (by decide) rfl
            have hFc := va_free (wc := [(aR, .inr (2, [.ref aF, .ref aA, .int (nI (a + k + 1)), .int (nI n)])), (aF, .inr (1, [.ref aE, .int nb, .int pl]))]) hD hS hA [0, 1] rfl
            refine va_callr (va_runV (As := [.int (nI a)]) (rest := []) ⟨hx, hb, hml, hown, hts⟩ (m_R_wrong l dC dI cB aR aF aE aA (nI (a + k + 1)) (nI n) nb pl (nI a) _) (cwV 1 hts (lw_V q187 q188 q189 q10 q190) rfl rfl rfl (by decide +kernel) ⟨Nat.le_trans (Nat.le_of_ble_eq_true rfl) hRf, Nat.le_trans (Nat.le_of_ble_eq_true rfl) hRl⟩) ⟨gC_bl, va_recv hK hPc (ci := 2) (q0 := 0) rfl rfl, gC_of hPc hK hDc⟩ rfl rfl hl.1 rfl (lv_room (Nat.le_of_ble_eq_true rfl)) dX2_number_37 ⟨hRc, hRs⟩) hS (fun q _ h => hFc q h) hFc (fun u rr t H1 locs ht hvm hw hB hz1 hk1 hS => ?_)
            obtain ⟨hre, hP1, hD1⟩ := hB
            have hre := hre.symm
            subst hre
            rw [ht] at hP1
            obtain ⟨hP, hD⟩ := va_join (wr := [(aA, .inl (cB, 1000, .inl f))]) (w1 := [(aR, .inr (2, [.ref aF, .ref aA, .int (nI (a + k + 1)), .int (nI n)])), (aF, .inr (1, [.ref aE, .int 1, .int (nI a)]))]) hP hD [0, 1] [2] rfl rfl (by decide) (by decide) hk1 hFc hP1 hD1
            have hP := hP.sub (ws' := [(aR, .inr (2, [.ref aF, .ref aA, .int (nI (a + k + 1)), .int (nI n)])), (aF, .inr (1, [.ref aE, .int 1, .int (nI a)])), (aA, .inl (cB, 1000, .inl f))]) [1, 2, 0] rfl
            have hD := hD.sub (ws' := [(aR, .inr (2, [.ref aF, .ref aA, .int (nI (a + k + 1)), .int (nI n)])), (aF, .inr (1, [.ref aE, .int 1, .int (nI a)])), (aA, .inl (cB, 1000, .inl f))]) [1, 2, 0] (by decide) rfl
            generalize H1 = H at hP hS ⊢
            refine vt_athrow hx hb dX2_number_40 ?_
            subst e4
            exact kt H locs _ ls _ (a + 4 + 1) 1 (nI a) (gp_stop0 hI hB hk han c_4) hP hD hS
      · obtain ⟨hP1, hD1⟩ := hB
        rw [ht] at hP1
        obtain ⟨hP, hD⟩ := va_join (wr := []) (w1 := [(aR, .inr (2, [.ref aF, .ref aA, .int (nI u.1), .int (nI n)])), (aF, .inr (1, [.ref aE, .int u.2.1, .int u.2.2])), (aA, .inl (cB, 1000, .inl f))]) hP hD [0, 1, 2] [] rfl rfl (by decide) (by decide) hk1 hFc hP1 hD1
        have hP := hP.sub (ws' := [(aR, .inr (2, [.ref aF, .ref aA, .int (nI u.1), .int (nI n)])), (aF, .inr (1, [.ref aE, .int u.2.1, .int u.2.2])), (aA, .inl (cB, 1000, .inl f))]) [0, 1, 2] rfl
        have hD := hD.sub (ws' := [(aR, .inr (2, [.ref aF, .ref aA, .int (nI u.1), .int (nI n)])), (aF, .inr (1, [.ref aE, .int u.2.1, .int u.2.2])), (aA, .inl (cB, 1000, .inl f))]) [0, 1, 2] (by decide) rfl
        generalize H1 = H at hP hS ⊢
        exact kt H locs _ ls _ u.1 u.2.1 u.2.2 (gp_out hI hk hw) hP hD hS
set_option maxHeartbeats 4000000 in
/-- Reader.number(): a number of groups, or the stop is thrown -/
theorem m_R_number (l : Launch) (dC : Nat → ClassId) (dI : Nat → Nat → Nat) (cB : ClassId) (aR aF aE aA : Nat) (a n c_ : Nat) (nb pl : Int32) (f : Nat → Int32) (sz : Nat) (hI0 : a ≤ n) (hn : n ≤ 1000) (hB : gp_By f) (hI : gp_Is f a n (4 + 1) c_) : vt_Met l yX2_number (ws_ yX2_number cX2_number 6 (some .long)) ({ frames := 3, cells := 0, slots := 0, locals := 63 }) (gC dC dI [.ref aR] [(aR, .inr (2, [.ref aF, .ref aA, .int (nI a), .int (nI n)])), (aF, .inr (1, [.ref aE, .int nb, .int pl])), (aA, .inl (cB, 1000, .inl f))] [(cB, .byte)] sz) (vt_Q (fun (r : Option Value) (u : Nat × Int32 × Int32) => gp_ok 0 (4 + 1) n a c_ f ∧ r = some (.long (gp_raw 0 f a c_)) ∧ u.1 = a + c_ + 1) (fun _ => ¬ gp_ok 0 (4 + 1) n a c_ f) (fun (u : Nat × Int32 × Int32) t => gB dC dI (va_A [(aR, .inr (2, [.ref aF, .ref aA, .int (nI a), .int (nI n)])), (aF, .inr (1, [.ref aE, .int nb, .int pl])), (aA, .inl (cB, 1000, .inl f))] sz) [(aR, .inr (2, [.ref aF, .ref aA, .int (nI u.1), .int (nI n)])), (aF, .inr (1, [.ref aE, .int u.2.1, .int u.2.2])), (aA, .inl (cB, 1000, .inl f))] t) aE (va_A [(aR, .inr (2, [.ref aF, .ref aA, .int (nI a), .int (nI n)])), (aF, .inr (1, [.ref aE, .int nb, .int pl])), (aA, .inl (cB, 1000, .inl f))] sz)) 0 0 (va_A [(aR, .inr (2, [.ref aF, .ref aA, .int (nI a), .int (nI n)])), (aF, .inr (1, [.ref aE, .int nb, .int pl])), (aA, .inl (cB, 1000, .inl f))] sz) := by
  refine vt_ofW (cc := cX2_number) (maxL := 6) (ret := (some .long)) (by decide) rfl ?_
  intro p e s m args below meth c s₁ B hml hempty hv
  obtain ⟨rfl, hsz, hP, hK, hD0⟩ := hv
  have hx := B.exec
  have hb := B.bytes
  have hr := B.returns
  have hts0 := atoms_spec (ws := (ws_ yX2_number cX2_number 6 (some .long))) B.pre
  have hts : ∀ w ∈ lw_all, w.before _ s = true := fun w h => hts0 w (List.mem_cons_of_mem _ h)
  have hown : s.vm.findClass RX2 = some m.cls := findClass_of_methodNamed B.named
  have hlocks := B.notSynchronized
  subst hsz
  have hD := hD0.self (sz := s.heap.size)
  generalize hAe : va_A [(aR, .inr (2, [.ref aF, .ref aA, .int (nI a), .int (nI n)])), (aF, .inr (1, [.ref aE, .int nb, .int pl])), (aA, .inl (cB, 1000, .inl f))] s.heap.size = A at hD ⊢
  have hA : ∀ q : Nat, s.heap.size ≤ q → A q := fun q h => by rw [← hAe]; exact Or.inr h
  have hS : va_S A s.heap s.heap [] := va_S.rf
  have hP : va_P (dC, dI) vwCl [(aR, .inr (2, [.ref aF, .ref aA, .int (nI a), .int (nI n)])), (aF, .inr (1, [.ref aE, .int nb, .int pl])), (aA, .inl (cB, 1000, .inl f))] s.heap := hP
  have hl := lv_entry ([.ref aR]) (n := 6) (Nat.le_of_ble_eq_true rfl)
  rw [lg_entry_eq]
  generalize (lg_sl ([.ref aR]) ++ List.replicate (6 - (lg_sl ([.ref aR])).length) Slot.unset).toArray = ls at hl ⊢
  have hl : lv_has ls 6 [(0, .ref aR)] := hl
  refine lv_aload_n hx hb dX2_number_0 rfl (lv_at hl 0 rfl) ?_
  refine va_get (D := (dC, dI)) (ci := 2) (v := .int (nI a)) (C := RX2) (T := TX2) (N := 4) hx hb hts in_X2 hown hK hP 0 rfl rfl 2 (by decide) (hts _ q107) (fun _ h9 => h9) rfl dX2_number_1 ?_
  refine lv_istore_n (lv' := [(1, .int (nI a)), (0, .ref aR)]) hx hb dX2_number_4 rfl hl (by decide) rfl (fun ls hl => ?_)
  refine lv_lconst (v := 0) hx hb dX2_number_5 rfl ?_
  refine lv_topl (fun z_1 ez_1 => ?_)
  rw [show z_1 = gp_acc f a 0 from by rw [ez_1]; rfl]
  refine lv_lstore_n (lv' := [(2, .long (gp_acc f a 0)), (1, .int (nI a)), (0, .ref aR)]) hx hb dX2_number_6 rfl hl (by decide) rfl (fun ls hl => ?_)
  refine lv_iconst (v := 0) hx hb dX2_number_7 (by decide) ?_
  refine lv_topi (fun z_2 ez_2 => ?_)
  rw [show z_2 = nI 0 from by rw [ez_2]; rfl]
  refine lv_istore (lv' := [(4, .int (nI 0)), (2, .long (gp_acc f a 0)), (1, .int (nI a)), (0, .ref aR)]) hx hb dX2_number_8 hl (by decide) rfl (fun ls hl => ?_)
  refine lo_R_number hx hb hml hown hts hA hK (Nat.le_of_ble_eq_true rfl) (Nat.le_of_ble_eq_true rfl) (Nat.zero_le _) (Nat.zero_le _) aR aF aE aA a n c_ f hn hB hI hI0 (fun H locs ls nb pl hok hP hD hS hl => ?_) (fun H locs pc ls st a2 nb pl hno hP hD hS => vt_leave hempty hlocks (fun t ht hW => ⟨(a2, nb, pl), Or.inr ⟨rfl, hno⟩, ⟨by rw [ht]; exact hP, hD⟩, hS.F ht⟩) hS.2.2) 4 0 (by omega) (Nat.zero_le _) nb pl s.heap [] ls hP hD hS (lv_sub hl [0, 1, 2, 3] rfl)
  refine lv_lload_n hx hb dX2_number_64 rfl (lv_at hl 0 rfl) ?_
  refine lv_topl (fun z_3 ez_3 => ?_)
  rw [show z_3 = gp_raw 0 f a c_ from by rw [ez_3]; exact gp_raw0 (by have := hok.1; omega)]
  exact vt_ret (W.lret (v := gp_raw 0 f a c_) hx hb hr (fun t ht hW => ⟨(a + c_ + 1, nb, pl), Or.inl ⟨_, rfl, hok, rfl, rfl⟩, ⟨by rw [ht]; exact hP, hD⟩, hS.F ht⟩) hS.2.2 dX2_number_65)
end
section
set_option maxRecDepth 100000
set_option maxHeartbeats 4000000 in
/-- the loop of Reader.signed: k groups are read -/
theorem lo_R_signed {p : Program} {l : Launch} {e : Env} {R : Room} {s : State} {m : MethodId} {args : Array Value} {below : List Frame} {meth : Method} {c : Code} {Q : State → Prop} {dC : Nat → ClassId} {dI : Nat → Nat → Nat} {cB : ClassId} {A : Nat → Prop} {cells slots : Nat} (hx : p.tables.exec = Jvm.exec) (hb : c.code = cX2_signed) (hml : c.maxLocals = 7) (hown : s.vm.findClass RX2 = some m.cls) (hts : ∀ w ∈ lw_all, w.before args s = true) (hA : ∀ q : Nat, s.heap.size ≤ q → A q) (hK : va_K (dC, dI) vwCl [(cB, .byte)] s) (hRf : 3 ≤ R.frames) (hRl : 63 ≤ R.locals) (hRc : cells ≤ R.cells) (hRs : slots ≤ R.slots) (aR aF aE aA : Nat) (a n c_ how q : Nat) (f : Nat → Int32) (hn : n ≤ 1000) (hB : gp_By f) (hh : gp_hq how q) (hI : gp_Is f a n (q + 1) c_) (hI0 : a ≤ n)
    (kr : ∀ (H : Heap) (locs : List Loc) (ls : Array Slot) (nb pl : Int32), gp_ok how (q + 1) n a c_ f → va_P (dC, dI) vwCl [(aR, .inr (2, [.ref aF, .ref aA, .int (nI (a + c_ + 1)), .int (nI n)])), (aF, .inr (1, [.ref aE, .int nb, .int pl])), (aA, .inl (cB, 1000, .inl f))] H → va_D A [(aR, .inr (2, [.ref aF, .ref aA, .int (nI (a + c_ + 1)), .int (nI n)])), (aF, .inr (1, [.ref aE, .int nb, .int pl])), (aA, .inl (cB, 1000, .inl f))] → va_S A s.heap H locs → W p l e R s m args below meth c H locs cells slots Q (F0 m 107 ls [.long (gp_raw how f a c_)]))
    (kt : ∀ (H : Heap) (locs : List Loc) (pc : Nat) (ls : Array Slot) (st : List Value) (a2 : Nat) (nb pl : Int32), ¬ gp_ok how (q + 1) n a c_ f → va_P (dC, dI) vwCl [(aR, .inr (2, [.ref aF, .ref aA, .int (nI a2), .int (nI n)])), (aF, .inr (1, [.ref aE, .int nb, .int pl])), (aA, .inl (cB, 1000, .inl f))] H → va_D A [(aR, .inr (2, [.ref aF, .ref aA, .int (nI a2), .int (nI n)])), (aF, .inr (1, [.ref aE, .int nb, .int pl])), (aA, .inl (cB, 1000, .inl f))] → va_S A s.heap H locs → vt_WT p l e R s m args below meth c H locs cells slots Q (F0 m pc ls st) aE) :
    ∀ (i k : Nat), k + i = q → k ≤ c_ → ∀ (nb pl : Int32) (H : Heap) (locs : List Loc) (ls : Array Slot), va_P (dC, dI) vwCl [(aR, .inr (2, [.ref aF, .ref aA, .int (nI (a + k)), .int (nI n)])), (aF, .inr (1, [.ref aE, .int nb, .int pl])), (aA, .inl (cB, 1000, .inl f))] H → va_D A [(aR, .inr (2, [.ref aF, .ref aA, .int (nI (a + k)), .int (nI n)])), (aF, .inr (1, [.ref aE, .int nb, .int pl])), (aA, .inl (cB, 1000, .inl f))] → va_S A s.heap H locs → lv_has ls 7 [(5, .int (nI k)), (3, .long (gp_acc f a k)), (2, .int (nI a)), (0, .ref aR), (1, .int (nI (q + 1)))] → W p l e R s m args below meth c H locs cells slots Q (F0 m 10 ls []) := by
  have hq9 : q ≤ 9 := by rcases hh with ⟨-, rfl⟩ | ⟨-, rfl⟩ <;> decide
  have hh0 : 0 < how := by rcases hh with ⟨rfl, -⟩ | ⟨rfl, -⟩ <;> decide
  have hle := gp_an hI hI0
  intro i
  induction i with
  | zero =>
    intro k hki hk nb pl H locs ls hP hD hS hl
    refine lv_iload hx hb dX2_signed_10 (lv_at hl 0 rfl) ?_
    refine lv_iload_n hx hb dX2_signed_12 rfl (lv_at hl 4 rfl) ?_
    refine lv_icmp_ge (tgt := 114) hx hb dX2_signed_13 (by decide) (fun c_1 => ?_) (fun c_1 => ?_)
    · exact absurd c_1 (nI_ge (a := k) (b := q + 1) (by omega) (by omega))
    · refine lv_aload_n hx hb dX2_signed_16 rfl (lv_at hl 3 rfl) ?_
      have hPc := hP.sub (ws' := [(aR, .inr (2, [.ref aF, .ref aA, .int (nI (a + k)), .int (nI n)])), (aF, .inr (1, [.ref aE, .int nb, .int pl])), (aA, .inl (cB, 1000, .inl f))]) [0, 1, 2] rfl
      have hDc := hD.sub (ws' := [(aR, .inr (2, [.ref aF, .ref aA, .int (nI (a + k)), .int (nI n)])), (aF, .inr (1, [.ref aE, .int nb, .int pl])), (aA, .inl (cB, 1000, .inl f))]) [0, 1, 2] (by decide) rfl
      have hFc := va_free (wc := [(aR, .inr (2, [.ref aF, .ref aA, .int (nI (a + k)), .int (nI n)])), (aF, .inr (1, [.ref aE, .int nb, .int pl])), (aA, .inl (cB, 1000, .inl f))]) hD hS hA [0, 1, 2] rfl
      refine vt_call (vt_runV (As := []) (rest := []) ⟨hx, hb, hml, hown, hts⟩ (m_R_one l dC dI cB aR aF aE aA (a + k) n nb pl f _ (hle k hk) hn) (cwV 0 hts (lw_V q183 q184 q185 q10 q186) rfl rfl rfl (by decide +kernel) ⟨Nat.le_trans (Nat.le_of_ble_eq_true rfl) hRf, Nat.le_trans (Nat.le_of_ble_eq_true rfl) hRl⟩) ⟨gC_bl, va_recv hK hPc (ci := 2) (q0 := 0) rfl rfl, gC_of hPc hK hDc⟩ rfl rfl hl.1 rfl (lv_room (Nat.le_of_ble_eq_true rfl)) dX2_signed_17 ⟨hRc, hRs⟩) hS (fun q _ h => hFc q h) hFc (fun r u t H1 locs ht hvm hw hB hz1 hk1 hS => ?_) (fun u t H1 locs ht hvm hw hB hz1 hk1 hS => ?_)
      · obtain ⟨han, rfl, rfl⟩ := hw
        obtain ⟨hP1, hD1⟩ := hB
        rw [ht] at hP1
        obtain ⟨hP, hD⟩ := va_join (wr := []) (w1 := [(aR, .inr (2, [.ref aF, .ref aA, .int (nI (a + k + 1)), .int (nI n)])), (aF, .inr (1, [.ref aE, .int nb, .int pl])), (aA, .inl (cB, 1000, .inl f))]) hP hD [0, 1, 2] [] rfl rfl (by decide) (by decide) hk1 hFc hP1 hD1
        have hP := hP.sub (ws' := [(aR, .inr (2, [.ref aF, .ref aA, .int (nI (a + k + 1)), .int (nI n)])), (aF, .inr (1, [.ref aE, .int nb, .int pl])), (aA, .inl (cB, 1000, .inl f))]) [0, 1, 2] rfl
        have hD := hD.sub (ws' := [(aR, .inr (2, [.ref aF, .ref aA, .int (nI (a + k + 1)), .int (nI n)])), (aF, .inr (1, [.ref aE, .int nb, .int pl])), (aA, .inl (cB, 1000, .inl f))]) [0, 1, 2] (by decide) rfl
        generalize H1 = H at hP hS ⊢
        refine lv_istore (lv' := [(6, .int (f (a + k) &&& 255)), (5, .int (nI k)), (3, .long (gp_acc f a k)), (2, .int (nI a)), (0, .ref aR), (1, .int (nI (q + 1)))]) hx hb dX2_signed_20 hl (by decide) rfl (fun ls hl => ?_)
        have tl : ∀ (H : Heap) (locs : List Loc), va_P (dC, dI) vwCl [(aR, .inr (2, [.ref aF, .ref aA, .int (nI (a + k + 1)), .int (nI n)])), (aF, .inr (1, [.ref aE, .int nb, .int pl])), (aA, .inl (cB, 1000, .inl f))] H → va_D A [(aR, .inr (2, [.ref aF, .ref aA, .int (nI (a + k + 1)), .int (nI n)])), (aF, .inr (1, [.ref aE, .int nb, .int pl])), (aA, .inl (cB, 1000, .inl f))] → va_S A s.heap H locs → (k = q → gp_lastI (f (a + k) &&& 255) (nI (q + 1))) → W p l e R s m args below meth c H locs cells slots Q (F0 m 45 ls []) := by
          intro H locs hP hD hS h4
          refine lv_lload_n hx hb dX2_signed_45 rfl (lv_at hl 2 rfl) ?_
          refine lv_iload hx hb dX2_signed_46 (lv_at hl 0 rfl) ?_
          refine lv_bipush (v := 127) hx hb dX2_signed_48 (by decide) ?_
          refine lv_iand hx hb dX2_signed_50 ?_
          refine lv_i2l (v := (((f (a + k) &&& 255) &&& 127)).toInt64) hx hb dX2_signed_51 rfl ?_
          refine lv_bipush (v := 7) hx hb dX2_signed_52 (by decide) ?_
          refine lv_iload hx hb dX2_signed_54 (lv_at hl 1 rfl) ?_
          refine lv_imul hx hb dX2_signed_56 ?_
          refine lv_lshl (v := (((((f (a + k) &&& 255) &&& 127)).toInt64) <<< (((7 * (nI k))).toInt64 &&& 63))) hx hb dX2_signed_57 rfl ?_
          refine lv_lor hx hb dX2_signed_58 ?_
          refine lv_topl (fun z_3 ez_3 => ?_)
          rw [show z_3 = gp_acc f a (k + 1) from by rw [ez_3]; rfl]
          refine lv_lstore_n (lv' := [(3, .long (gp_acc f a (k + 1))), (6, .int (f (a + k) &&& 255)), (5, .int (nI k)), (2, .int (nI a)), (0, .ref aR), (1, .int (nI (q + 1)))]) hx hb dX2_signed_59 rfl hl (by decide) rfl (fun ls hl => ?_)
          refine lv_iload hx hb dX2_signed_60 (lv_at hl 1 rfl) ?_
          refine lv_sipush (v := 128) hx hb dX2_signed_62 (by decide) ?_
          refine lv_icmp_ge (tgt := 108) hx hb dX2_signed_65 (by decide) (fun c_4 => ?_) (fun c_4 => ?_)
          · have hlt := gp_go hI hB hk (by omega) han c_4
            exact absurd (gp_last_lt (h4 (by omega)) c_4) id
          · have ek := gp_end hI hB hk c_4
            subst ek
            have hok := gp_fin hh hB (by omega) han c_4 h4
            refine lv_bipush (v := 7) hx hb dX2_signed_68 (by decide) ?_
            refine lv_iload hx hb dX2_signed_70 (lv_at hl 2 rfl) ?_
            refine lv_imul hx hb dX2_signed_72 ?_
            refine lv_bipush (v := 7) hx hb dX2_signed_73 (by decide) ?_
            refine lv_iadd hx hb dX2_signed_75 ?_
            refine lv_bipush (v := 64) hx hb dX2_signed_76 (by decide) ?_
            refine lv_icmp_ge (tgt := 106) hx hb dX2_signed_78 (by decide) (fun c_5 => ?_) (fun c_5 => ?_)
            · refine lv_lload_n hx hb dX2_signed_106 rfl (lv_at hl 0 rfl) ?_
              refine lv_topl (fun z_6 ez_6 => ?_)
              rw [show z_6 = gp_raw how f a k from by rw [ez_6]; exact gp_rawP (by omega) (Or.inr (gp_9of k (by omega) c_5))]
              exact kr H locs ls nb pl hok hP hD hS
            · refine lv_iload hx hb dX2_signed_81 (lv_at hl 1 rfl) ?_
              refine lv_bipush (v := 64) hx hb dX2_signed_83 (by decide) ?_
              refine lv_iand hx hb dX2_signed_85 ?_
              refine lv_if_eq (tgt := 106) hx hb dX2_signed_86 (by decide) (fun c_6 => ?_) (fun c_6 => ?_)
              · refine lv_lload_n hx hb dX2_signed_106 rfl (lv_at hl 0 rfl) ?_
                refine lv_topl (fun z_7 ez_7 => ?_)
                rw [show z_7 = gp_raw how f a k from by rw [ez_7]; exact gp_rawP (by omega) (Or.inl ((gp_sgn (hB (a + k)) c_4).mp c_6))]
                exact kr H locs ls nb pl hok hP hD hS
              · refine lv_lload_n hx hb dX2_signed_89 rfl (lv_at hl 0 rfl) ?_
                refine lv_ldc2 (v := (-1)) hx hb hown (hts _ q202) dX2_signed_90 ?_
                refine lv_bipush (v := 7) hx hb dX2_signed_93 (by decide) ?_
                refine lv_iload hx hb dX2_signed_95 (lv_at hl 2 rfl) ?_
                refine lv_imul hx hb dX2_signed_97 ?_
                refine lv_bipush (v := 7) hx hb dX2_signed_98 (by decide) ?_
                refine lv_iadd hx hb dX2_signed_100 ?_
                refine lv_lshl (v := (((-1) : Int64) <<< ((((7 * (nI k)) + 7)).toInt64 &&& 63))) hx hb dX2_signed_101 rfl ?_
                refine lv_lor hx hb dX2_signed_102 ?_
                refine lv_topl (fun z_7 ez_7 => ?_)
                rw [show z_7 = gp_raw how f a k from by rw [ez_7]; exact gp_rawS hh0 (gp_l9of k (by omega) c_5) (Classical.byContradiction fun z => c_6 ((gp_sgn (hB (a + k)) c_4).mpr z))]
                refine lv_goto (tgt := 107) hx hb dX2_signed_103 (by decide) ?_
                exact kr H locs ls nb pl hok hP hD hS
        refine lv_iload hx hb dX2_signed_22 (lv_at hl 1 rfl) ?_
        refine lv_iload_n hx hb dX2_signed_24 rfl (lv_at hl 5 rfl) ?_
        refine lv_iconst (v := 1) hx hb dX2_signed_25 (by decide) ?_
        refine lv_isub hx hb dX2_signed_26 ?_
        refine lv_topi (fun z_3 ez_3 => ?_)
        rw [show z_3 = nI q from by rw [ez_3]; exact nI_pred q]
        refine lv_icmp_ne (tgt := 45) hx hb dX2_signed_27 (by decide) (fun c_4 => ?_) (fun c_4 => ?_)
        · exact tl H locs hP hD hS (fun z => absurd (by rw [z]) c_4)
        · have e4 : q = k := ((nI_eq (by omega) (by omega)).mp c_4).symm
          refine lv_iload hx hb dX2_signed_30 (lv_at hl 0 rfl) ?_
          refine lv_iload_n hx hb dX2_signed_32 rfl (lv_at hl 5 rfl) ?_
          have hPc := hP.sub (ws' := []) [] rfl
          have hDc := hD.sub (ws' := []) [] (by decide) rfl
          have hFc := va_free (wc := []) hD hS hA [] rfl
          refine va_calli (va_runS (As := [.int (f (a + k) &&& 255), .int (nI (q + 1))]) (rest := []) ⟨hx, hb, hml, hown, hts⟩ (m_R_isLast l dC dI cB (f (a + k) &&& 255) (nI (q + 1)) _) (va_cwS 2 hts (lw_S q199 q200 q10 q201) rfl rfl rfl (by decide +kernel) ⟨Nat.le_trans (Nat.le_of_ble_eq_true rfl) hRf, Nat.le_trans (Nat.le_of_ble_eq_true rfl) hRl⟩) ⟨gC_bl, gC_of hPc hK hDc⟩ rfl rfl hl.1 rfl (lv_room (Nat.le_of_ble_eq_true rfl)) dX2_signed_33 ⟨hRc, hRs⟩) hS (fun q _ h => hFc q h) hFc (fun r_5 u t H1 locs ht hvm hw hB hz1 hk1 hS => ?_)
          obtain ⟨hP1, hD1⟩ := hB
          rw [ht] at hP1
          obtain ⟨hP, hD⟩ := va_join (wr := [(aR, .inr (2, [.ref aF, .ref aA, .int (nI (a + k + 1)), .int (nI n)])), (aF, .inr (1, [.ref aE, .int nb, .int pl])), (aA, .inl (cB, 1000, .inl f))]) (w1 := []) hP hD [] [0, 1, 2] rfl rfl (by decide) (by decide) hk1 hFc hP1 hD1
          have hP := hP.sub (ws' := [(aR, .inr (2, [.ref aF, .ref aA, .int (nI (a + k + 1)), .int (nI n)])), (aF, .inr (1, [.ref aE, .int nb, .int pl])), (aA, .inl (cB, 1000, .inl f))]) [0, 1, 2] rfl
          have hD := hD.sub (ws' := [(aR, .inr (2, [.ref aF, .ref aA, .int (nI (a + k + 1)), .int (nI n)])), (aF, .inr (1, [.ref aE, .int nb, .int pl])), (aA, .inl (cB, 1000, .inl f))]) [0, 1, 2] (by decide) rfl
          generalize H1 = H at hP hS ⊢
          refine lv_if_ne (tgt := 45) hx hb dX2_signed_36 (by decide) (fun c_6 => ?_) (fun c_6 => ?_)
          · exact tl H locs hP hD hS (fun _ => (hw.resolve_right (fun z => c_6 z.1)).2)
          · have hnl := (hw.resolve_left (fun z => absurd (z.1.symm.trans c_6) (by decide))).2
            refine lv_aload_n hx hb dX2_signed_39 rfl (lv_at hl 4 rfl) ?_
            refine lv_iload_n hx hb dX2_signed_40 rfl (lv_at hl 3 rfl) ?_
            have hPc := hP.sub (ws' := [(aR, .inr (2, [.ref aF, .ref aA, .int (nI (a + k + 1)), .int (nI n)])), (aF, .inr (1, [.ref aE, .int nb, .int pl]))]) [0, 1] rfl
            have hDc := hD.sub (ws' := [(aR, .inr (2, [.ref aF, .ref aA, .int (nI (a + k + 1)), .int (nI n)])), (aF, .inr (1, [.ref aE, .int nb, .int pl]))]) [0, 1] (by decide) rfl
            have hFc := va_free (wc := [(aR, .inr (2, [.ref aF, .ref aA, .int (nI (a + k + 1)), .int (nI n)])), (aF, .inr (1, [.ref aE, .int nb, .int pl]))]) hD hS hA [0, 1] rfl
            refine va_callr (va_runV (As := [.int (nI a)]) (rest := []) ⟨hx, hb, hml, hown, hts⟩ (m_R_wrong l dC dI cB aR aF aE aA (nI (a + k + 1)) (nI n) nb pl (nI a) _) (cwV 1 hts (lw_V q187 q188 q189 q10 q190) rfl rfl rfl (by decide +kernel) ⟨Nat.le_trans (Nat.le_of_ble_eq_true rfl) hRf, Nat.le_trans (Nat.le_of_ble_eq_true rfl) hRl⟩) ⟨gC_bl, va_recv hK hPc (ci := 2) (q0 := 0) rfl rfl, gC_of hPc hK hDc⟩ rfl rfl hl.1 rfl (lv_room (Nat.le_of_ble_eq_true rfl)) dX2_signed_41 ⟨hRc, hRs⟩) hS (fun q _ h => hFc q h) hFc (fun u rr t H1 locs ht hvm hw hB hz1 hk1 hS => ?_)
            obtain ⟨hre, hP1, hD1⟩ := hB
            have hre := hre.symm
            subst hre
            rw [ht] at hP1
            obtain ⟨hP, hD⟩ := va_join (wr := [(aA, .inl (cB, 1000, .inl f))]) (w1 := [(aR, .inr (2, [.ref aF, .ref aA, .int (nI (a + k + 1)), .int (nI n)])), (aF, .inr (1, [.ref aE, .int 1, .int (nI a)]))]) hP hD [0, 1] [2] rfl rfl (by decide) (by decide) hk1 hFc hP1 hD1
            have hP := hP.sub (ws' := [(aR, .inr (2, [.ref aF, .ref aA, .int (nI (a + k + 1)), .int (nI n)])), (aF, .inr (1, [.ref aE, .int 1, .int (nI a)])), (aA, .inl (cB, 1000, .inl f))]) [1, 2, 0] rfl
            have hD := hD.sub (ws' := [(aR, .inr (2, [.ref aF, .ref aA, .int (nI (a + k + 1)), .int (nI n)])), (aF, .inr (1, [.ref aE, .int 1, .int (nI a)])), (aA, .inl (cB, 1000, .inl f))]) [1, 2, 0] (by decide) rfl
            generalize H1 = H at hP hS ⊢
            refine vt_athrow hx hb dX2_signed_44 ?_
            subst e4
            exact kt H locs _ ls _ (a + q + 1) 1 (nI a) (gp_stop hh hI hB hk han hnl) hP hD hS
      · obtain ⟨hP1, hD1⟩ := hB
        rw [ht] at hP1
        obtain ⟨hP, hD⟩ := va_join (wr := []) (w1 := [(aR, .inr (2, [.ref aF, .ref aA, .int (nI u.1), .int (nI n)])), (aF, .inr (1, [.ref aE, .int u.2.1, .int u.2.2])), (aA, .inl (cB, 1000, .inl f))]) hP hD [0, 1, 2] [] rfl rfl (by decide) (by decide) hk1 hFc hP1 hD1
        have hP := hP.sub (ws' := [(aR, .inr (2, [.ref aF, .ref aA, .int (nI u.1), .int (nI n)])), (aF, .inr (1, [.ref aE, .int u.2.1, .int u.2.2])), (aA, .inl (cB, 1000, .inl f))]) [0, 1, 2] rfl
        have hD := hD.sub (ws' := [(aR, .inr (2, [.ref aF, .ref aA, .int (nI u.1), .int (nI n)])), (aF, .inr (1, [.ref aE, .int u.2.1, .int u.2.2])), (aA, .inl (cB, 1000, .inl f))]) [0, 1, 2] (by decide) rfl
        generalize H1 = H at hP hS ⊢
        exact kt H locs _ ls _ u.1 u.2.1 u.2.2 (gp_out hI hk hw) hP hD hS
  | succ i ih =>
    intro k hki hk nb pl H locs ls hP hD hS hl
    refine lv_iload hx hb dX2_signed_10 (lv_at hl 0 rfl) ?_
    refine lv_iload_n hx hb dX2_signed_12 rfl (lv_at hl 4 rfl) ?_
    refine lv_icmp_ge (tgt := 114) hx hb dX2_signed_13 (by decide) (fun c_1 => ?_) (fun c_1 => ?_)
    · exact absurd c_1 (nI_ge (a := k) (b := q + 1) (by omega) (by omega))
    · refine lv_aload_n hx hb dX2_signed_16 rfl (lv_at hl 3 rfl) ?_
      have hPc := hP.sub (ws' := [(aR, .inr (2, [.ref aF, .ref aA, .int (nI (a + k)), .int (nI n)])), (aF, .inr (1, [.ref aE, .int nb, .int pl])), (aA, .inl (cB, 1000, .inl f))]) [0, 1, 2] rfl
      have hDc := hD.sub (ws' := [(aR, .inr (2, [.ref aF, .ref aA, .int (nI (a + k)), .int (nI n)])), (aF, .inr (1, [.ref aE, .int nb, .int pl])), (aA, .inl (cB, 1000, .inl f))]) [0, 1, 2] (by decide) rfl
      have hFc := va_free (wc := [(aR, .inr (2, [.ref aF, .ref aA, .int (nI (a + k)), .int (nI n)])), (aF, .inr (1, [.ref aE, .int nb, .int pl])), (aA, .inl (cB, 1000, .inl f))]) hD hS hA [0, 1, 2] rfl
      refine vt_call (vt_runV (As := []) (rest := []) ⟨hx, hb, hml, hown, hts⟩ (m_R_one l dC dI cB aR aF aE aA (a + k) n nb pl f _ (hle k hk) hn) (cwV 0 hts (lw_V q183 q184 q185 q10 q186) rfl rfl rfl (by decide +kernel) ⟨Nat.le_trans (Nat.le_of_ble_eq_true rfl) hRf, Nat.le_trans (Nat.le_of_ble_eq_true rfl) hRl⟩) ⟨gC_bl, va_recv hK hPc (ci := 2) (q0 := 0) rfl rfl, gC_of hPc hK hDc⟩ rfl rfl hl.1 rfl (lv_room (Nat.le_of_ble_eq_true rfl)) dX2_signed_17 ⟨hRc, hRs⟩) hS (fun q _ h => hFc q h) hFc (fun r u t H1 locs ht hvm hw hB hz1 hk1 hS => ?_) (fun u t H1 locs ht hvm hw hB hz1 hk1 hS => ?_)
      · obtain ⟨han, rfl, rfl⟩ := hw
        obtain ⟨hP1, hD1⟩ := hB
        rw [ht] at hP1
        obtain ⟨hP, hD⟩ := va_join (wr := []) (w1 := [(aR, .inr (2, [.ref aF, .ref aA, .int (nI (a + k + 1)), .int (nI n)])), (aF, .inr (1, [.ref aE, .int nb, .int pl])), (aA, .inl (cB, 1000, .inl f))]) hP hD [0, 1, 2] [] rfl rfl (by decide) (by decide) hk1 hFc hP1 hD1
        have hP := hP.sub (ws' := [(aR, .inr (2, [.ref aF, .ref aA, .int (nI (a + k + 1)), .int (nI n)])), (aF, .inr (1, [.ref aE, .int nb, .int pl])), (aA, .inl (cB, 1000, .inl f))]) [0, 1, 2] rfl
        have hD := hD.sub (ws' := [(aR, .inr (2, [.ref aF, .ref aA, .int (nI (a + k + 1)), .int (nI n)])), (aF, .inr (1, [.ref aE, .int nb, .int pl])), (aA, .inl (cB, 1000, .inl f))]) [0, 1, 2] (by decide) rfl
        generalize H1 = H at hP hS ⊢
        refine lv_istore (lv' := [(6, .int (f (a + k) &&& 255)), (5, .int (nI k)), (3, .long (gp_acc f a k)), (2, .int (nI a)), (0, .ref aR), (1, .int (nI (q + 1)))]) hx hb dX2_signed_20 hl (by decide) rfl (fun ls hl => ?_)
        have tl : ∀ (H : Heap) (locs : List Loc), va_P (dC, dI) vwCl [(aR, .inr (2, [.ref aF, .ref aA, .int (nI (a + k + 1)), .int (nI n)])), (aF, .inr (1, [.ref aE, .int nb, .int pl])), (aA, .inl (cB, 1000, .inl f))] H → va_D A [(aR, .inr (2, [.ref aF, .ref aA, .int (nI (a + k + 1)), .int (nI n)])), (aF, .inr (1, [.ref aE, .int nb, .int pl])), (aA, .inl (cB, 1000, .inl f))] → va_S A s.heap H locs → (k = q → gp_lastI (f (a + k) &&& 255) (nI (q + 1))) → W p l e R s m args below meth c H locs cells slots Q (F0 m 45 ls []) := by
          intro H locs hP hD hS h4
          refine lv_lload_n hx hb dX2_signed_45 rfl (lv_at hl 2 rfl) ?_
          refine lv_iload hx hb dX2_signed_46 (lv_at hl 0 rfl) ?_
          refine lv_bipush (v := 127) hx hb dX2_signed_48 (by decide) ?_
          refine lv_iand hx hb dX2_signed_50 ?_
          refine lv_i2l (v := (((f (a + k) &&& 255) &&& 127)).toInt64) hx hb dX2_signed_51 rfl ?_
          refine lv_bipush (v := 7) hx hb dX2_signed_52 (by decide) ?_
          refine lv_iload hx hb dX2_signed_54 (lv_at hl 1 rfl) ?_
          refine lv_imul hx hb dX2_signed_56 ?_
          refine lv_lshl (v := (((((f (a + k) &&& 255) &&& 127)).toInt64) <<< (((7 * (nI k))).toInt64 &&& 63))) hx hb dX2_signed_57 rfl ?_
          refine lv_lor hx hb dX2_signed_58 ?_
          refine lv_topl (fun z_3 ez_3 => ?_)
          rw [show z_3 = gp_acc f a (k + 1) from by rw [ez_3]; rfl]
          refine lv_lstore_n (lv' := [(3, .long (gp_acc f a (k + 1))), (6, .int (f (a + k) &&& 255)), (5, .int (nI k)), (2, .int (nI a)), (0, .ref aR), (1, .int (nI (q + 1)))]) hx hb dX2_signed_59 rfl hl (by decide) rfl (fun ls hl => ?_)
          refine lv_iload hx hb dX2_signed_60 (lv_at hl 1 rfl) ?_
          refine lv_sipush (v := 128) hx hb dX2_signed_62 (by decide) ?_
          refine lv_icmp_ge (tgt := 108) hx hb dX2_signed_65 (by decide) (fun c_4 => ?_) (fun c_4 => ?_)
          · have hlt := gp_go hI hB hk (by omega) han c_4
            refine lv_iinc (v := nI (k + 1)) (lv' := [(5, .int (nI (k + 1))), (3, .long (gp_acc f a (k + 1))), (6, .int (f (a + k) &&& 255)), (2, .int (nI a)), (0, .ref aR), (1, .int (nI (q + 1)))]) hx hb dX2_signed_108 hl (k := 2) rfl (nI_1 k) (by decide) rfl (fun ls hl => ?_)
            refine lv_goto (tgt := 10) hx hb dX2_signed_111 (by decide) ?_
            exact ih (k + 1) (by omega) hlt nb pl H locs ls hP hD hS (lv_sub hl [0, 1, 3, 4, 5] rfl)
          · have ek := gp_end hI hB hk c_4
            subst ek
            have hok := gp_fin hh hB (by omega) han c_4 h4
            refine lv_bipush (v := 7) hx hb dX2_signed_68 (by decide) ?_
            refine lv_iload hx hb dX2_signed_70 (lv_at hl 2 rfl) ?_
            refine lv_imul hx hb dX2_signed_72 ?_
            refine lv_bipush (v := 7) hx hb dX2_signed_73 (by decide) ?_
            refine lv_iadd hx hb dX2_signed_75 ?_
            refine lv_bipush (v := 64) hx hb dX2_signed_76 (by decide) ?_
            refine lv_icmp_ge (tgt := 106) hx hb dX2_signed_78 (by decide) (fun c_5 => ?_) (fun c_5 => ?_)
            · refine lv_lload_n hx hb dX2_signed_106 rfl (lv_at hl 0 rfl) ?_
              refine lv_topl (fun z_6 ez_6 => ?_)
              rw [show z_6 = gp_raw how f a k from by rw [ez_6]; exact gp_rawP (by omega) (Or.inr (gp_9of k (by omega) c_5))]
              exact kr H locs ls nb pl hok hP hD hS
            · refine lv_iload hx hb dX2_signed_81 (lv_at hl 1 rfl) ?_
              refine lv_bipush (v := 64) hx hb dX2_signed_83 (by decide) ?_
              refine lv_iand hx hb dX2_signed_85 ?_
              refine lv_if_eq (tgt := 106) hx hb dX2_signed_86 (by decide) (fun c_6 => ?_) (fun c_6 => ?_)
              · refine lv_lload_n hx hb dX2_signed_106 rfl (lv_at hl 0 rfl) ?_
                refine lv_topl (fun z_7 ez_7 => ?_)
                rw [show z_7 = gp_raw how f a k from by rw [ez_7]; exact gp_rawP (by omega) (Or.inl ((gp_sgn (hB (a + k)) c_4).mp c_6))]
                exact kr H locs ls nb pl hok hP hD hS
              · refine lv_lload_n hx hb dX2_signed_89 rfl (lv_at hl 0 rfl) ?_
                refine lv_ldc2 (v := (-1)) hx hb hown (hts _ q202) dX2_signed_90 ?_
                refine lv_bipush (v := 7) hx hb dX2_signed_93 (by decide) ?_
                refine lv_iload hx hb dX2_signed_95 (lv_at hl 2 rfl) ?_
                refine lv_imul hx hb dX2_signed_97 ?_
                refine lv_bipush (v := 7) hx hb dX2_signed_98 (by decide) ?_
                refine lv_iadd hx hb dX2_signed_100 ?_
                refine lv_lshl (v := (((-1) : Int64) <<< ((((7 * (nI k)) + 7)).toInt64 &&& 63))) hx hb dX2_signed_101 rfl ?_
                refine lv_lor hx hb dX2_signed_102 ?_
                refine lv_topl (fun z_7 ez_7 => ?_)
                rw [show z_7 = gp_raw how f a k from by rw [ez_7]; exact gp_rawS hh0 (gp_l9of k (by omega) c_5) (Classical.byContradiction fun z => c_6 ((gp_sgn (hB (a + k)) c_4).mpr z))]
                refine lv_goto (tgt := 107) hx hb dX2_signed_103 (by decide) ?_
                exact kr H locs ls nb pl hok hP hD hS
        refine lv_iload hx hb dX2_signed_22 (lv_at hl 1 rfl) ?_
        refine lv_iload_n hx hb dX2_signed_24 rfl (lv_at hl 5 rfl) ?_
        refine lv_iconst (v := 1) hx hb dX2_signed_25 (by decide) ?_
        refine lv_isub hx hb dX2_signed_26 ?_
        refine lv_topi (fun z_3 ez_3 => ?_)
        rw [show z_3 = nI q from by rw [ez_3]; exact nI_pred q]
        refine lv_icmp_ne (tgt := 45) hx hb dX2_signed_27 (by decide) (fun c_4 => ?_) (fun c_4 => ?_)
        · exact tl H locs hP hD hS (fun z => absurd (by rw [z]) c_4)
        · have e4 : q = k := ((nI_eq (by omega) (by omega)).mp c_4).symm
          refine lv_iload hx hb dX2_signed_30 (lv_at hl 0 rfl) ?_
          refine lv_iload_n hx hb dX2_signed_32 rfl (lv_at hl 5 rfl) ?_
          have hPc := hP.sub (ws' := []) [] rfl
          have hDc := hD.sub (ws' := []) [] (by decide) rfl
          have hFc := va_free (wc := []) hD hS hA [] rfl
          refine va_calli (va_runS (As := [.int (f (a + k) &&& 255), .int (nI (q + 1))]) (rest := []) ⟨hx, hb, hml, hown, hts⟩ (m_R_isLast l dC dI cB (f (a + k) &&& 255) (nI (q + 1)) _) (va_cwS 2 hts (lw_S q199 q200 q10 q201) rfl rfl rfl (by decide +kernel) ⟨Nat.le_trans (Nat.le_of_ble_eq_true rfl) hRf, Nat.le_trans (Nat.le_of_ble_eq_true rfl) hRl⟩) ⟨gC_bl, gC_of hPc hK hDc⟩ rfl rfl hl.1 rfl (lv_room (Nat.le_of_ble_eq_true rfl)) dX2_signed_33 ⟨hRc, hRs⟩) hS (fun q _ h => hFc q h) hFc (fun r_5 u t H1 locs ht hvm hw hB hz1 hk1 hS => ?_)
          obtain ⟨hP1, hD1⟩ := hB
          rw [ht] at hP1
          obtain ⟨hP, hD⟩ := va_join (wr := [(aR, .inr (2, [.ref aF, .ref aA, .int (nI (a + k + 1)), .int (nI n)])), (aF, .inr (1, [.ref aE, .int nb, .int pl])), (aA, .inl (cB, 1000, .inl f))]) (w1 := []) hP hD [] [0, 1, 2] rfl rfl (by decide) (by decide) hk1 hFc hP1 hD1
          have hP := hP.sub (ws' := [(aR, .inr (2, [.ref aF, .ref aA, .int (nI (a + k + 1)), .int (nI n)])), (aF, .inr (1, [.ref aE, .int nb, .int pl])), (aA, .inl (cB, 1000, .inl f))]) [0, 1, 2] rfl
          have hD := hD.sub (ws' := [(aR, .inr (2, [.ref aF, .ref aA, .int (nI (a + k + 1)), .int (nI n)])), (aF, .inr (1, [.ref aE, .int nb, .int pl])), (aA, .inl (cB, 1000, .inl f))]) [0, 1, 2] (by decide) rfl
          generalize H1 = H at hP hS ⊢
          refine lv_if_ne (tgt := 45) hx hb dX2_signed_36 (by decide) (fun c_6 => ?_) (fun c_6 => ?_)
          · exact tl H locs hP hD hS (fun _ => (hw.resolve_right (fun z => c_6 z.1)).2)
          · have hnl := (hw.resolve_left (fun z => absurd (z.1.symm.trans c_6) (by decide))).2
            refine lv_aload_n hx hb dX2_signed_39 rfl (lv_at hl 4 rfl) ?_
            refine lv_iload_n hx hb dX2_signed_40 rfl (lv_at hl 3 rfl) ?_
            have hPc := hP.sub (ws' := [(aR, .inr (2, [.ref aF, .ref aA, .int (nI (a + k + 1)), .int (nI n)])), (aF, .inr (1, [.ref aE, .int nb, .int pl]))]) [0, 1] rfl
            have hDc := hD.sub (ws' := [(aR, .inr (2, [.ref aF, .ref aA, .int (nI (a + k + 1)), .int (nI n)])), (aF, .inr (1, [.ref aE, .int nb, .int pl]))]) [0, 1] (by decide) rfl
            have hFc := va_free (wc := [(aR, .inr (2, [.ref aF, .ref aA, .int (nI (a + k + 1)), .int (nI n)])), (aF, .inr (1, [.ref aE, .int nb, .int pl]))]) hD hS hA [0, 1] rfl
            refine va_callr (va_runV (As := [.int (nI a)]) (rest := []) ⟨hx, hb, hml, hown, hts⟩ (m_R_wrong l dC dI cB aR aF aE aA (nI (a + k + 1)) (nI n) nb pl (nI a) _) (cwV 1 hts (lw_V q187 q188 q189 q10 q190) rfl rfl rfl (by decide +kernel) ⟨Nat.le_trans (Nat.le_of_ble_eq_true rfl) hRf, Nat.le_trans (Nat.le_of_ble_eq_true rfl) hRl⟩) ⟨gC_bl, va_recv hK hPc (ci := 2) (q0 := 0) rfl rfl, gC_of hPc hK hDc⟩ rfl rfl hl.1 rfl (lv_room (Nat.le_of_ble_eq_true rfl)) dX2_signed_41 ⟨hRc, hRs⟩) hS (fun q _ h => hFc q h) hFc (fun u rr t H1 locs ht hvm hw hB hz1 hk1 hS => ?_)
            obtain ⟨hre, hP1, hD1⟩ := hB
            have hre := hre.symm
            subst hre
            rw [ht] at hP1
            obtain ⟨hP, hD⟩ := va_join (wr := [(aA, .inl (cB, 1000, .inl f))]) (w1 := [(aR, .inr (2, [.ref aF, .ref aA, .int (nI (a + k + 1)), .int (nI n)])), (aF, .inr (1, [.ref aE, .int 1, .int (nI a)]))]) hP hD [0, 1] [2] rfl rfl (by decide) (by decide) hk1 hFc hP1 hD1
            have hP := hP.sub (ws' := [(aR, .inr (2, [.ref aF, .ref aA, .int (nI (a + k + 1)), .int (nI n)])), (aF, .inr (1, [.ref aE, .int 1, .int (nI a)])), (aA, .inl (cB, 1000, .inl f))]) [1, 2, 0] rfl
            have hD := hD.sub (ws' := [(aR, .inr (2, [.ref aF, .ref aA, .int (nI (a + k + 1)), .int (nI n)])), (aF, .inr (1, [.ref aE, .int 1, .int (nI a)])), (aA, .inl (cB, 1000, .inl f))]) [1, 2, 0] (by decide) rfl
            generalize H1 = H at hP hS ⊢
            refine vt_athrow hx hb dX2_signed_44 ?_
            subst e4
            exact kt H locs _ ls _ (a + q + 1) 1 (nI a) (gp_stop hh hI hB hk han hnl) hP hD hS
      · obtain ⟨hP1, hD1⟩ := hB
        rw [ht] at hP1
        obtain ⟨hP, hD⟩ := va_join (wr := []) (w1 := [(aR, .inr (2, [.ref aF, .ref aA, .int (nI u.1), .int (nI n)])), (aF, .inr (1, [.ref aE, .int u.2.1, .int u.2.2])), (aA, .inl (cB, 1000, .inl f))]) hP hD [0, 1, 2] [] rfl rfl (by decide) (by decide) hk1 hFc hP1 hD1
        have hP := hP.sub (ws' := [(aR, .inr (2, [.ref aF, .ref aA, .int (nI u.1), .int (nI n)])), (aF, .inr (1, [.ref aE, .int u.2.1, .int u.2.2])), (aA, .inl (cB, 1000, .inl f))]) [0, 1, 2] rfl
        have hD := hD.sub (ws' := [(aR, .inr (2, [.ref aF, .ref aA, .int (nI u.1), .int (nI n)])), (aF, .inr (1, [.ref aE, .int u.2.1, .int u.2.2])), (aA, .inl (cB, 1000, .inl f))]) [0, 1, 2] (by decide) rfl
        generalize H1 = H at hP hS ⊢
        exact kt H locs _ ls _ u.1 u.2.1 u.2.2 (gp_out hI hk hw) hP hD hS
set_option maxHeartbeats 4000000 in
/-- Reader.signed(groups): a number with its sign, or the stop is thrown -/
theorem m_R_signed (l : Launch) (dC : Nat → ClassId) (dI : Nat → Nat → Nat) (cB : ClassId) (aR aF aE aA : Nat) (a n c_ how q : Nat) (nb pl : Int32) (f : Nat → Int32) (sz : Nat) (hI0 : a ≤ n) (hn : n ≤ 1000) (hB : gp_By f) (hh : gp_hq how q) (hI : gp_Is f a n (q + 1) c_) : vt_Met l yX2_signed (ws_ yX2_signed cX2_signed 7 (some .long)) ({ frames := 3, cells := 0, slots := 0, locals := 63 }) (gC dC dI [.ref aR, .int (nI (q + 1))] [(aR, .inr (2, [.ref aF, .ref aA, .int (nI a), .int (nI n)])), (aF, .inr (1, [.ref aE, .int nb, .int pl])), (aA, .inl (cB, 1000, .inl f))] [(cB, .byte)] sz) (vt_Q (fun (r : Option Value) (u : Nat × Int32 × Int32) => gp_ok how (q + 1) n a c_ f ∧ r = some (.long (gp_raw how f a c_)) ∧ u.1 = a + c_ + 1) (fun _ => ¬ gp_ok how (q + 1) n a c_ f) (fun (u : Nat × Int32 × Int32) t => gB dC dI (va_A [(aR, .inr (2, [.ref aF, .ref aA, .int (nI a), .int (nI n)])), (aF, .inr (1, [.ref aE, .int nb, .int pl])), (aA, .inl (cB, 1000, .inl f))] sz) [(aR, .inr (2, [.ref aF, .ref aA, .int (nI u.1), .int (nI n)])), (aF, .inr (1, [.ref aE, .int u.2.1, .int u.2.2])), (aA, .inl (cB, 1000, .inl f))] t) aE (va_A [(aR, .inr (2, [.ref aF, .ref aA, .int (nI a), .int (nI n)])), (aF, .inr (1, [.ref aE, .int nb, .int pl])), (aA, .inl (cB, 1000, .inl f))] sz)) 0 0 (va_A [(aR, .inr (2, [.ref aF, .ref aA, .int (nI a), .int (nI n)])), (aF, .inr (1, [.ref aE, .int nb, .int pl])), (aA, .inl (cB, 1000, .inl f))] sz) := by
  refine vt_ofW (cc := cX2_signed) (maxL := 7) (ret := (some .long)) (by decide) rfl ?_
  intro p e s m args below meth c s₁ B hml hempty hv
  obtain ⟨rfl, hsz, hP, hK, hD0⟩ := hv
  have hx := B.exec
  have hb := B.bytes
  have hr := B.returns
  have hts0 := atoms_spec (ws := (ws_ yX2_signed cX2_signed 7 (some .long))) B.pre
  have hts : ∀ w ∈ lw_all, w.before _ s = true := fun w h => hts0 w (List.mem_cons_of_mem _ h)
  have hown : s.vm.findClass RX2 = some m.cls := findClass_of_methodNamed B.named
  have hlocks := B.notSynchronized
  subst hsz
  have hD := hD0.self (sz := s.heap.size)
  generalize hAe : va_A [(aR, .inr (2, [.ref aF, .ref aA, .int (nI a), .int (nI n)])), (aF, .inr (1, [.ref aE, .int nb, .int pl])), (aA, .inl (cB, 1000, .inl f))] s.heap.size = A at hD ⊢
  have hA : ∀ q : Nat, s.heap.size ≤ q → A q := fun q h => by rw [← hAe]; exact Or.inr h
  have hS : va_S A s.heap s.heap [] := va_S.rf
  have hP : va_P (dC, dI) vwCl [(aR, .inr (2, [.ref aF, .ref aA, .int (nI a), .int (nI n)])), (aF, .inr (1, [.ref aE, .int nb, .int pl])), (aA, .inl (cB, 1000, .inl f))] s.heap := hP
  have hl := lv_entry ([.ref aR, .int (nI (q + 1))]) (n := 7) (Nat.le_of_ble_eq_true rfl)
  rw [lg_entry_eq]
  generalize (lg_sl ([.ref aR, .int (nI (q + 1))]) ++ List.replicate (7 - (lg_sl ([.ref aR, .int (nI (q + 1))])).length) Slot.unset).toArray = ls at hl ⊢
  have hl : lv_has ls 7 [(0, .ref aR), (1, .int (nI (q + 1)))] := hl
  refine lv_aload_n hx hb dX2_signed_0 rfl (lv_at hl 0 rfl) ?_
  refine va_get (D := (dC, dI)) (ci := 2) (v := .int (nI a)) (C := RX2) (T := TX2) (N := 4) hx hb hts in_X2 hown hK hP 0 rfl rfl 2 (by decide) (hts _ q107) (fun _ h9 => h9) rfl dX2_signed_1 ?_
  refine lv_istore_n (lv' := [(2, .int (nI a)), (0, .ref aR), (1, .int (nI (q + 1)))]) hx hb dX2_signed_4 rfl hl (by decide) rfl (fun ls hl => ?_)
  refine lv_lconst (v := 0) hx hb dX2_signed_5 rfl ?_
  refine lv_topl (fun z_1 ez_1 => ?_)
  rw [show z_1 = gp_acc f a 0 from by rw [ez_1]; rfl]
  refine lv_lstore_n (lv' := [(3, .long (gp_acc f a 0)), (2, .int (nI a)), (0, .ref aR), (1, .int (nI (q + 1)))]) hx hb dX2_signed_6 rfl hl (by decide) rfl (fun ls hl => ?_)
  refine lv_iconst (v := 0) hx hb dX2_signed_7 (by decide) ?_
  refine lv_topi (fun z_2 ez_2 => ?_)
  rw [show z_2 = nI 0 from by rw [ez_2]; rfl]
  refine lv_istore (lv' := [(5, .int (nI 0)), (3, .long (gp_acc f a 0)), (2, .int (nI a)), (0, .ref aR), (1, .int (nI (q + 1)))]) hx hb dX2_signed_8 hl (by decide) rfl (fun ls hl => ?_)
  refine lo_R_signed hx hb hml hown hts hA hK (Nat.le_of_ble_eq_true rfl) (Nat.le_of_ble_eq_true rfl) (Nat.zero_le _) (Nat.zero_le _) aR aF aE aA a n c_ how q f hn hB hh hI hI0 (fun H locs ls nb pl hok hP hD hS => ?_) (fun H locs pc ls st a2 nb pl hno hP hD hS => vt_leave hempty hlocks (fun t ht hW => ⟨(a2, nb, pl), Or.inr ⟨rfl, hno⟩, ⟨by rw [ht]; exact hP, hD⟩, hS.F ht⟩) hS.2.2) q 0 (by omega) (Nat.zero_le _) nb pl s.heap [] ls hP hD hS (lv_sub hl [0, 1, 2, 3, 4] rfl)
  exact vt_ret (W.lret (v := gp_raw how f a c_) hx hb hr (fun t ht hW => ⟨(a + c_ + 1, nb, pl), Or.inl ⟨_, rfl, hok, rfl, rfl⟩, ⟨by rw [ht]; exact hP, hD⟩, hS.F ht⟩) hS.2.2 dX2_signed_107)
end
section
set_option maxRecDepth 100000
set_option maxHeartbeats 4000000 in
/-- GroupedNumbers.put(w): four bytes more -/
theorem m_G_put (l : Launch) (dC : Nat → ClassId) (dI : Nat → Nat → Nat) (cB : ClassId) (aX aF aR aO aA : Nat) (n : Nat) (v : Int64) (f : Nat → Int32) (w : Int32) (sz : Nat) (hn : n + 4 ≤ 1000) : Met l yX0_put (ws_ yX0_put cX0_put 3 none) ({ frames := 0, cells := 0, slots := 0, locals := 0 }) (gC dC dI [.ref aX, .int w] [(aX, .inr (0, [.ref aF, .ref aR, .ref aO, .ref aA, .int (nI n), .long v])), (aA, .inl (cB, 1000, .inl f))] [(cB, .byte)] sz) (va_Qv (fun _ : Unit => True) (fun _ t => gB dC dI (va_A [(aX, .inr (0, [.ref aF, .ref aR, .ref aO, .ref aA, .int (nI n), .long v])), (aA, .inl (cB, 1000, .inl f))] sz) [(aX, .inr (0, [.ref aF, .ref aR, .ref aO, .ref aA, .int (nI (n + 4)), .long v])), (aA, .inl (cB, 1000, .inl (gp_put f n w)))] t) (va_A [(aX, .inr (0, [.ref aF, .ref aR, .ref aO, .ref aA, .int (nI n), .long v])), (aA, .inl (cB, 1000, .inl f))] sz)) 0 0 (va_A [(aX, .inr (0, [.ref aF, .ref aR, .ref aO, .ref aA, .int (nI n), .long v])), (aA, .inl (cB, 1000, .inl f))] sz) := by
  refine Met.ofW (cc := cX0_put) (maxL := 3) (ret := none) (by decide) rfl ?_
  intro p e s m args below meth c s₁ B hml hv
  obtain ⟨rfl, hsz, hP, hK, hD0⟩ := hv
  have hx := B.exec
  have hb := B.bytes
  have hr := B.returns
  have hts0 := atoms_spec (ws := (ws_ yX0_put cX0_put 3 none)) B.pre
  have hts : ∀ w ∈ lw_all, w.before _ s = true := fun w h => hts0 w (List.mem_cons_of_mem _ h)
  have hown : s.vm.findClass RX0 = some m.cls := findClass_of_methodNamed B.named
  have hlocks := B.notSynchronized
  subst hsz
  have hD := hD0.self (sz := s.heap.size)
  generalize hAe : va_A [(aX, .inr (0, [.ref aF, .ref aR, .ref aO, .ref aA, .int (nI n), .long v])), (aA, .inl (cB, 1000, .inl f))] s.heap.size = A at hD ⊢
  have hA : ∀ q : Nat, s.heap.size ≤ q → A q := fun q h => by rw [← hAe]; exact Or.inr h
  have hS : va_S A s.heap s.heap [] := va_S.rf
  have hP : va_P (dC, dI) vwCl [(aX, .inr (0, [.ref aF, .ref aR, .ref aO, .ref aA, .int (nI n), .long v])), (aA, .inl (cB, 1000, .inl f))] s.heap := hP
  have hl := lv_entry ([.ref aX, .int w]) (n := 3) (Nat.le_of_ble_eq_true rfl)
  rw [lg_entry_eq]
  generalize (lg_sl ([.ref aX, .int w]) ++ List.replicate (3 - (lg_sl ([.ref aX, .int w])).length) Slot.unset).toArray = ls at hl ⊢
  have hl : lv_has ls 3 [(0, .ref aX), (1, .int w)] := hl
  refine lv_bipush (v := 24) hx hb dX0_put_0 (by decide) ?_
  refine lv_istore_n (lv' := [(2, .int 24), (0, .ref aX), (1, .int w)]) hx hb dX0_put_2 rfl hl (by decide) rfl (fun ls hl => ?_)
  refine lv_iload_n hx hb dX0_put_3 rfl (lv_at hl 0 rfl) ?_
  refine lv_if_lt (tgt := 36) hx hb dX0_put_4 (by decide) (fun c_1 => ?_) (fun c_1 => ?_)
  · exact absurd c_1 (by decide)
  · refine lv_aload_n hx hb dX0_put_7 rfl (lv_at hl 1 rfl) ?_
    refine va_get (D := (dC, dI)) (ci := 0) (v := .ref aA) (C := RX0) (T := TX0) (N := 6) hx hb hts in_X0 hown hK hP 0 rfl rfl 3 (by decide) (hts _ q142) (fun _ h9 => h9) rfl dX0_put_8 ?_
    refine lv_aload_n hx hb dX0_put_11 rfl (lv_at hl 1 rfl) ?_
    refine va_get (D := (dC, dI)) (ci := 0) (v := .int (nI n)) (C := RX0) (T := TX0) (N := 6) hx hb hts in_X0 hown hK hP 0 rfl rfl 4 (by decide) (hts _ q143) (fun _ h9 => h9) rfl dX0_put_12 ?_
    refine lv_iload_n hx hb dX0_put_15 rfl (lv_at hl 2 rfl) ?_
    refine lv_iload_n hx hb dX0_put_16 rfl (lv_at hl 0 rfl) ?_
    refine lv_ishr hx hb dX0_put_17 ?_
    refine lv_i2b (v := ((w >>> (24 &&& 31))).toInt8.toInt32) hx hb dX0_put_18 rfl ?_
    refine va_bast hx hb hK hP hD hS 1 0 rfl rfl (vp_in_nI (by omega) (by omega)) dX0_put_19 (fun H locs hP hD hS => ?_)
    have hP : va_P (dC, dI) vwCl [(aX, .inr (0, [.ref aF, .ref aR, .ref aO, .ref aA, .int (nI n), .long v])), (aA, .inl (cB, 1000, .inl (upd f ((nI n)).toNatClampNeg (vp_nar .byte ((((w >>> (24 &&& 31))).toInt8.toInt32))))))] H := hP
    have hD : va_D A [(aX, .inr (0, [.ref aF, .ref aR, .ref aO, .ref aA, .int (nI n), .long v])), (aA, .inl (cB, 1000, .inl (upd f ((nI n)).toNatClampNeg (vp_nar .byte ((((w >>> (24 &&& 31))).toInt8.toInt32))))))] := hD
    have ef : upd f ((nI n)).toNatClampNeg (vp_nar .byte ((((w >>> (24 &&& 31))).toInt8.toInt32))) = upd f n (gp_b w 24) := by rw [nI_clamp (by omega), pk_vb]; rfl
    rw [ef] at hP hD
    clear ef
    have hP : va_P (dC, dI) vwCl [(aX, .inr (0, [.ref aF, .ref aR, .ref aO, .ref aA, .int (nI n), .long v])), (aA, .inl (cB, 1000, .inl (upd f n (gp_b w 24))))] H := hP
    have hD : va_D A [(aX, .inr (0, [.ref aF, .ref aR, .ref aO, .ref aA, .int (nI n), .long v])), (aA, .inl (cB, 1000, .inl (upd f n (gp_b w 24))))] := hD
    refine lv_aload_n hx hb dX0_put_20 rfl (lv_at hl 1 rfl) ?_
    refine lv_dup hx hb dX0_put_21 rfl ?_
    refine va_get (D := (dC, dI)) (ci := 0) (v := .int (nI n)) (C := RX0) (T := TX0) (N := 6) hx hb hts in_X0 hown hK hP 0 rfl rfl 4 (by decide) (hts _ q143) (fun _ h9 => h9) rfl dX0_put_22 ?_
    refine lv_iconst (v := 1) hx hb dX0_put_25 (by decide) ?_
    refine lv_iadd hx hb dX0_put_26 ?_
    refine lv_topi (fun z_2 ez_2 => ?_)
    rw [show z_2 = nI (n + 1) from by rw [ez_2]; exact nI_1 _]
    refine va_put (D := (dC, dI)) (ci := 0) (v := .int (nI (n + 1))) (ty := .int) (C := RX0) (T := TX0) (N := 6) hx hb hts in_X0 tyX0 tyX0_ok nmX0 hown hK hP hD hS 0 rfl rfl 4 (by decide) (hts _ q143) (fun _ h9 => h9) rfl (by decide +kernel) rfl rfl (Nat.le_of_ble_eq_true rfl) dX0_put_27 (fun H locs hP hD hS => ?_)
    have hP : va_P (dC, dI) vwCl [(aX, .inr (0, [.ref aF, .ref aR, .ref aO, .ref aA, .int (nI (n + 1)), .long v])), (aA, .inl (cB, 1000, .inl (upd f n (gp_b w 24))))] H := hP
    have hD : va_D A [(aX, .inr (0, [.ref aF, .ref aR, .ref aO, .ref aA, .int (nI (n + 1)), .long v])), (aA, .inl (cB, 1000, .inl (upd f n (gp_b w 24))))] := hD
    refine lv_iinc (v := 16) (lv' := [(2, .int (16)), (0, .ref aX), (1, .int w)]) hx hb dX0_put_30 hl (k := 0) rfl (by decide) (by decide) rfl (fun ls hl => ?_)
    refine lv_goto (tgt := 3) hx hb dX0_put_33 (by decide) ?_
    refine lv_iload_n hx hb dX0_put_3 rfl (lv_at hl 0 rfl) ?_
    refine lv_if_lt (tgt := 36) hx hb dX0_put_4 (by decide) (fun c_3 => ?_) (fun c_3 => ?_)
    · exact absurd c_3 (by decide)
    · refine lv_aload_n hx hb dX0_put_7 rfl (lv_at hl 1 rfl) ?_
      refine va_get (D := (dC, dI)) (ci := 0) (v := .ref aA) (C := RX0) (T := TX0) (N := 6) hx hb hts in_X0 hown hK hP 0 rfl rfl 3 (by decide) (hts _ q142) (fun _ h9 => h9) rfl dX0_put_8 ?_
      refine lv_aload_n hx hb dX0_put_11 rfl (lv_at hl 1 rfl) ?_
      refine va_get (D := (dC, dI)) (ci := 0) (v := .int (nI (n + 1))) (C := RX0) (T := TX0) (N := 6) hx hb hts in_X0 hown hK hP 0 rfl rfl 4 (by decide) (hts _ q143) (fun _ h9 => h9) rfl dX0_put_12 ?_
      refine lv_iload_n hx hb dX0_put_15 rfl (lv_at hl 2 rfl) ?_
      refine lv_iload_n hx hb dX0_put_16 rfl (lv_at hl 0 rfl) ?_
      refine lv_ishr hx hb dX0_put_17 ?_
      refine lv_i2b (v := ((w >>> ((16) &&& 31))).toInt8.toInt32) hx hb dX0_put_18 rfl ?_
      refine va_bast hx hb hK hP hD hS 1 0 rfl rfl (vp_in_nI (by omega) (by omega)) dX0_put_19 (fun H locs hP hD hS => ?_)
      have hP : va_P (dC, dI) vwCl [(aX, .inr (0, [.ref aF, .ref aR, .ref aO, .ref aA, .int (nI (n + 1)), .long v])), (aA, .inl (cB, 1000, .inl (upd (upd f n (gp_b w 24)) ((nI (n + 1))).toNatClampNeg (vp_nar .byte ((((w >>> ((16) &&& 31))).toInt8.toInt32))))))] H := hP
      have hD : va_D A [(aX, .inr (0, [.ref aF, .ref aR, .ref aO, .ref aA, .int (nI (n + 1)), .long v])), (aA, .inl (cB, 1000, .inl (upd (upd f n (gp_b w 24)) ((nI (n + 1))).toNatClampNeg (vp_nar .byte ((((w >>> ((16) &&& 31))).toInt8.toInt32))))))] := hD
      have ef : upd (upd f n (gp_b w 24)) ((nI (n + 1))).toNatClampNeg (vp_nar .byte ((((w >>> ((16) &&& 31))).toInt8.toInt32))) = upd (upd f n (gp_b w 24)) (n + 1) (gp_b w 16) := by rw [nI_clamp (by omega), pk_vb]; rfl
      rw [ef] at hP hD
      clear ef
      have hP : va_P (dC, dI) vwCl [(aX, .inr (0, [.ref aF, .ref aR, .ref aO, .ref aA, .int (nI (n + 1)), .long v])), (aA, .inl (cB, 1000, .inl (upd (upd f n (gp_b w 24)) (n + 1) (gp_b w 16))))] H := hP
      have hD : va_D A [(aX, .inr (0, [.ref aF, .ref aR, .ref aO, .ref aA, .int (nI (n + 1)), .long v])), (aA, .inl (cB, 1000, .inl (upd (upd f n (gp_b w 24)) (n + 1) (gp_b w 16))))] := hD
      refine lv_aload_n hx hb dX0_put_20 rfl (lv_at hl 1 rfl) ?_
      refine lv_dup hx hb dX0_put_21 rfl ?_
      refine va_get (D := (dC, dI)) (ci := 0) (v := .int (nI (n + 1))) (C := RX0) (T := TX0) (N := 6) hx hb hts in_X0 hown hK hP 0 rfl rfl 4 (by decide) (hts _ q143) (fun _ h9 => h9) rfl dX0_put_22 ?_
      refine lv_iconst (v := 1) hx hb dX0_put_25 (by decide) ?_
      refine lv_iadd hx hb dX0_put_26 ?_
      refine lv_topi (fun z_4 ez_4 => ?_)
      rw [show z_4 = nI (n + 2) from by rw [ez_4]; exact nI_1 _]
      refine va_put (D := (dC, dI)) (ci := 0) (v := .int (nI (n + 2))) (ty := .int) (C := RX0) (T := TX0) (N := 6) hx hb hts in_X0 tyX0 tyX0_ok nmX0 hown hK hP hD hS 0 rfl rfl 4 (by decide) (hts _ q143) (fun _ h9 => h9) rfl (by decide +kernel) rfl rfl (Nat.le_of_ble_eq_true rfl) dX0_put_27 (fun H locs hP hD hS => ?_)
      have hP : va_P (dC, dI) vwCl [(aX, .inr (0, [.ref aF, .ref aR, .ref aO, .ref aA, .int (nI (n + 2)), .long v])), (aA, .inl (cB, 1000, .inl (upd (upd f n (gp_b w 24)) (n + 1) (gp_b w 16))))] H := hP
      have hD : va_D A [(aX, .inr (0, [.ref aF, .ref aR, .ref aO, .ref aA, .int (nI (n + 2)), .long v])), (aA, .inl (cB, 1000, .inl (upd (upd f n (gp_b w 24)) (n + 1) (gp_b w 16))))] := hD
      refine lv_iinc (v := 8) (lv' := [(2, .int (8)), (0, .ref aX), (1, .int w)]) hx hb dX0_put_30 hl (k := 0) rfl (by decide) (by decide) rfl (fun ls hl => ?_)
      refine lv_goto (tgt := 3) hx hb dX0_put_33 (by decide) ?_
      refine lv_iload_n hx hb dX0_put_3 rfl (lv_at hl 0 rfl) ?_
      refine lv_if_lt (tgt := 36) hx hb dX0_put_4 (by decide) (fun c_5 => ?_) (fun c_5 => ?_)
      · exact absurd c_5 (by decide)
      · refine lv_aload_n hx hb dX0_put_7 rfl (lv_at hl 1 rfl) ?_
        refine va_get (D := (dC, dI)) (ci := 0) (v := .ref aA) (C := RX0) (T := TX0) (N := 6) hx hb hts in_X0 hown hK hP 0 rfl rfl 3 (by decide) (hts _ q142) (fun _ h9 => h9) rfl dX0_put_8 ?_
        refine lv_aload_n hx hb dX0_put_11 rfl (lv_at hl 1 rfl) ?_
        refine va_get (D := (dC, dI)) (ci := 0) (v := .int (nI (n + 2))) (C := RX0) (T := TX0) (N := 6) hx hb hts in_X0 hown hK hP 0 rfl rfl 4 (by decide) (hts _ q143) (fun _ h9 => h9) rfl dX0_put_12 ?_
        refine lv_iload_n hx hb dX0_put_15 rfl (lv_at hl 2 rfl) ?_
        refine lv_iload_n hx hb dX0_put_16 rfl (lv_at hl 0 rfl) ?_
        refine lv_ishr hx hb dX0_put_17 ?_
        refine lv_i2b (v := ((w >>> ((8) &&& 31))).toInt8.toInt32) hx hb dX0_put_18 rfl ?_
        refine va_bast hx hb hK hP hD hS 1 0 rfl rfl (vp_in_nI (by omega) (by omega)) dX0_put_19 (fun H locs hP hD hS => ?_)
        have hP : va_P (dC, dI) vwCl [(aX, .inr (0, [.ref aF, .ref aR, .ref aO, .ref aA, .int (nI (n + 2)), .long v])), (aA, .inl (cB, 1000, .inl (upd (upd (upd f n (gp_b w 24)) (n + 1) (gp_b w 16)) ((nI (n + 2))).toNatClampNeg (vp_nar .byte ((((w >>> ((8) &&& 31))).toInt8.toInt32))))))] H := hP
        have hD : va_D A [(aX, .inr (0, [.ref aF, .ref aR, .ref aO, .ref aA, .int (nI (n + 2)), .long v])), (aA, .inl (cB, 1000, .inl (upd (upd (upd f n (gp_b w 24)) (n + 1) (gp_b w 16)) ((nI (n + 2))).toNatClampNeg (vp_nar .byte ((((w >>> ((8) &&& 31))).toInt8.toInt32))))))] := hD
        have ef : upd (upd (upd f n (gp_b w 24)) (n + 1) (gp_b w 16)) ((nI (n + 2))).toNatClampNeg (vp_nar .byte ((((w >>> ((8) &&& 31))).toInt8.toInt32))) = upd (upd (upd f n (gp_b w 24)) (n + 1) (gp_b w 16)) (n + 2) (gp_b w 8) := by rw [nI_clamp (by omega), pk_vb]; rfl
        rw [ef] at hP hD
        clear ef
        have hP : va_P (dC, dI) vwCl [(aX, .inr (0, [.ref aF, .ref aR, .ref aO, .ref aA, .int (nI (n + 2)), .long v])), (aA, .inl (cB, 1000, .inl (upd (upd (upd f n (gp_b w 24)) (n + 1) (gp_b w 16)) (n + 2) (gp_b w 8))))] H := hP
        have hD : va_D A [(aX, .inr (0, [.ref aF, .ref aR, .ref aO, .ref aA, .int (nI (n + 2)), .long v])), (aA, .inl (cB, 1000, .inl (upd (upd (upd f n (gp_b w 24)) (n + 1) (gp_b w 16)) (n + 2) (gp_b w 8))))] := hD
        refine lv_aload_n hx hb dX0_put_20 rfl (lv_at hl 1 rfl) ?_
        refine lv_dup hx hb dX0_put_21 rfl ?_
        refine va_get (D := (dC, dI)) (ci := 0) (v := .int (nI (n + 2))) (C := RX0) (T := TX0) (N := 6) hx hb hts in_X0 hown hK hP 0 rfl rfl 4 (by decide) (hts _ q143) (fun _ h9 => h9) rfl dX0_put_22 ?_
        refine lv_iconst (v := 1) hx hb dX0_put_25 (by decide) ?_
        refine lv_iadd hx hb dX0_put_26 ?_
        refine lv_topi (fun z_6 ez_6 => ?_)
        rw [show z_6 = nI (n + 3) from by rw [ez_6]; exact nI_1 _]
        refine va_put (D := (dC, dI)) (ci := 0) (v := .int (nI (n + 3))) (ty := .int) (C := RX0) (T := TX0) (N := 6) hx hb hts in_X0 tyX0 tyX0_ok nmX0 hown hK hP hD hS 0 rfl rfl 4 (by decide) (hts _ q143) (fun _ h9 => h9) rfl (by decide +kernel) rfl rfl (Nat.le_of_ble_eq_true rfl) dX0_put_27 (fun H locs hP hD hS => ?_)
        have hP : va_P (dC, dI) vwCl [(aX, .inr (0, [.ref aF, .ref aR, .ref aO, .ref aA, .int (nI (n + 3)), .long v])), (aA, .inl (cB, 1000, .inl (upd (upd (upd f n (gp_b w 24)) (n + 1) (gp_b w 16)) (n + 2) (gp_b w 8))))] H := hP
        have hD : va_D A [(aX, .inr (0, [.ref aF, .ref aR, .ref aO, .ref aA, .int (nI (n + 3)), .long v])), (aA, .inl (cB, 1000, .inl (upd (upd (upd f n (gp_b w 24)) (n + 1) (gp_b w 16)) (n + 2) (gp_b w 8))))] := hD
        refine lv_iinc (v := 0) (lv' := [(2, .int (0)), (0, .ref aX), (1, .int w)]) hx hb dX0_put_30 hl (k := 0) rfl (by decide) (by decide) rfl (fun ls hl => ?_)
        refine lv_goto (tgt := 3) hx hb dX0_put_33 (by decide) ?_
        refine lv_iload_n hx hb dX0_put_3 rfl (lv_at hl 0 rfl) ?_
        refine lv_if_lt (tgt := 36) hx hb dX0_put_4 (by decide) (fun c_7 => ?_) (fun c_7 => ?_)
        · exact absurd c_7 (by decide)
        · refine lv_aload_n hx hb dX0_put_7 rfl (lv_at hl 1 rfl) ?_
          refine va_get (D := (dC, dI)) (ci := 0) (v := .ref aA) (C := RX0) (T := TX0) (N := 6) hx hb hts in_X0 hown hK hP 0 rfl rfl 3 (by decide) (hts _ q142) (fun _ h9 => h9) rfl dX0_put_8 ?_
          refine lv_aload_n hx hb dX0_put_11 rfl (lv_at hl 1 rfl) ?_
          refine va_get (D := (dC, dI)) (ci := 0) (v := .int (nI (n + 3))) (C := RX0) (T := TX0) (N := 6) hx hb hts in_X0 hown hK hP 0 rfl rfl 4 (by decide) (hts _ q143) (fun _ h9 => h9) rfl dX0_put_12 ?_
          refine lv_iload_n hx hb dX0_put_15 rfl (lv_at hl 2 rfl) ?_
          refine lv_iload_n hx hb dX0_put_16 rfl (lv_at hl 0 rfl) ?_
          refine lv_ishr hx hb dX0_put_17 ?_
          refine lv_i2b (v := ((w >>> ((0) &&& 31))).toInt8.toInt32) hx hb dX0_put_18 rfl ?_
          refine va_bast hx hb hK hP hD hS 1 0 rfl rfl (vp_in_nI (by omega) (by omega)) dX0_put_19 (fun H locs hP hD hS => ?_)
          have hP : va_P (dC, dI) vwCl [(aX, .inr (0, [.ref aF, .ref aR, .ref aO, .ref aA, .int (nI (n + 3)), .long v])), (aA, .inl (cB, 1000, .inl (upd (upd (upd (upd f n (gp_b w 24)) (n + 1) (gp_b w 16)) (n + 2) (gp_b w 8)) ((nI (n + 3))).toNatClampNeg (vp_nar .byte ((((w >>> ((0) &&& 31))).toInt8.toInt32))))))] H := hP
          have hD : va_D A [(aX, .inr (0, [.ref aF, .ref aR, .ref aO, .ref aA, .int (nI (n + 3)), .long v])), (aA, .inl (cB, 1000, .inl (upd (upd (upd (upd f n (gp_b w 24)) (n + 1) (gp_b w 16)) (n + 2) (gp_b w 8)) ((nI (n + 3))).toNatClampNeg (vp_nar .byte ((((w >>> ((0) &&& 31))).toInt8.toInt32))))))] := hD
          have ef : upd (upd (upd (upd f n (gp_b w 24)) (n + 1) (gp_b w 16)) (n + 2) (gp_b w 8)) ((nI (n + 3))).toNatClampNeg (vp_nar .byte ((((w >>> ((0) &&& 31))).toInt8.toInt32))) = upd (upd (upd (upd f n (gp_b w 24)) (n + 1) (gp_b w 16)) (n + 2) (gp_b w 8)) (n + 3) (gp_b w 0) := by rw [nI_clamp (by omega), pk_vb]; rfl
          rw [ef] at hP hD
          clear ef
          have hP : va_P (dC, dI) vwCl [(aX, .inr (0, [.ref aF, .ref aR, .ref aO, .ref aA, .int (nI (n + 3)), .long v])), (aA, .inl (cB, 1000, .inl (upd (upd (upd (upd f n (gp_b w 24)) (n + 1) (gp_b w 16)) (n + 2) (gp_b w 8)) (n + 3) (gp_b w 0))))] H := hP
          have hD : va_D A [(aX, .inr (0, [.ref aF, .ref aR, .ref aO, .ref aA, .int (nI (n + 3)), .long v])), (aA, .inl (cB, 1000, .inl (upd (upd (upd (upd f n (gp_b w 24)) (n + 1) (gp_b w 16)) (n + 2) (gp_b w 8)) (n + 3) (gp_b w 0))))] := hD
          refine lv_aload_n hx hb dX0_put_20 rfl (lv_at hl 1 rfl) ?_
          refine lv_dup hx hb dX0_put_21 rfl ?_
          refine va_get (D := (dC, dI)) (ci := 0) (v := .int (nI (n + 3))) (C := RX0) (T := TX0) (N := 6) hx hb hts in_X0 hown hK hP 0 rfl rfl 4 (by decide) (hts _ q143) (fun _ h9 => h9) rfl dX0_put_22 ?_
          refine lv_iconst (v := 1) hx hb dX0_put_25 (by decide) ?_
          refine lv_iadd hx hb dX0_put_26 ?_
          refine lv_topi (fun z_8 ez_8 => ?_)
          rw [show z_8 = nI (n + 4) from by rw [ez_8]; exact nI_1 _]
          refine va_put (D := (dC, dI)) (ci := 0) (v := .int (nI (n + 4))) (ty := .int) (C := RX0) (T := TX0) (N := 6) hx hb hts in_X0 tyX0 tyX0_ok nmX0 hown hK hP hD hS 0 rfl rfl 4 (by decide) (hts _ q143) (fun _ h9 => h9) rfl (by decide +kernel) rfl rfl (Nat.le_of_ble_eq_true rfl) dX0_put_27 (fun H locs hP hD hS => ?_)
          have hP : va_P (dC, dI) vwCl [(aX, .inr (0, [.ref aF, .ref aR, .ref aO, .ref aA, .int (nI (n + 4)), .long v])), (aA, .inl (cB, 1000, .inl (upd (upd (upd (upd f n (gp_b w 24)) (n + 1) (gp_b w 16)) (n + 2) (gp_b w 8)) (n + 3) (gp_b w 0))))] H := hP
          have hD : va_D A [(aX, .inr (0, [.ref aF, .ref aR, .ref aO, .ref aA, .int (nI (n + 4)), .long v])), (aA, .inl (cB, 1000, .inl (upd (upd (upd (upd f n (gp_b w 24)) (n + 1) (gp_b w 16)) (n + 2) (gp_b w 8)) (n + 3) (gp_b w 0))))] := hD
          refine lv_iinc (v := (-8)) (lv' := [(2, .int ((-8))), (0, .ref aX), (1, .int w)]) hx hb dX0_put_30 hl (k := 0) rfl (by decide) (by decide) rfl (fun ls hl => ?_)
          refine lv_goto (tgt := 3) hx hb dX0_put_33 (by decide) ?_
          refine lv_iload_n hx hb dX0_put_3 rfl (lv_at hl 0 rfl) ?_
          refine lv_if_lt (tgt := 36) hx hb dX0_put_4 (by decide) (fun c_9 => ?_) (fun c_9 => ?_)
          · have hP : va_P (dC, dI) vwCl [(aX, .inr (0, [.ref aF, .ref aR, .ref aO, .ref aA, .int (nI (n + 4)), .long v])), (aA, .inl (cB, 1000, .inl (gp_put f n w)))] H := hP
            have hD : va_D A [(aX, .inr (0, [.ref aF, .ref aR, .ref aO, .ref aA, .int (nI (n + 4)), .long v])), (aA, .inl (cB, 1000, .inl (gp_put f n w)))] := hD
            exact W.vret hx hb hr (fun t ht hW => ⟨⟨(), rfl, trivial, by rw [ht]; exact hP, hD⟩, hS.F ht⟩) hS.2.2 dX0_put_36
          · exact absurd c_9 (by decide)
set_option maxHeartbeats 4000000 in
/-- GroupedNumbers.feed: twenty bytes more -/
theorem m_G_feed (l : Launch) (dC : Nat → ClassId) (dI : Nat → Nat → Nat) (cB : ClassId) (aX aF aR aO aA : Nat) (n : Nat) (v : Int64) (f : Nat → Int32) (w1 w2 w3 w4 w5 : Int32) (sz : Nat) (hn : n + 20 ≤ 1000) : Met l yX0_feed (ws_ yX0_feed cX0_feed 6 (some .int)) ({ frames := 1, cells := 0, slots := 0, locals := 22 }) (gC dC dI [.ref aX, .int w1, .int w2, .int w3, .int w4, .int w5] [(aX, .inr (0, [.ref aF, .ref aR, .ref aO, .ref aA, .int (nI n), .long v])), (aA, .inl (cB, 1000, .inl f))] [(cB, .byte)] sz) (va_Qi (fun (r : Int32) (_ : Unit) => r = nI (n + 20)) (fun (_ : Unit) t => gB dC dI (va_A [(aX, .inr (0, [.ref aF, .ref aR, .ref aO, .ref aA, .int (nI n), .long v])), (aA, .inl (cB, 1000, .inl f))] sz) [(aX, .inr (0, [.ref aF, .ref aR, .ref aO, .ref aA, .int (nI (n + 20)), .long v])), (aA, .inl (cB, 1000, .inl (gp_feed f n w1 w2 w3 w4 w5)))] t) (va_A [(aX, .inr (0, [.ref aF, .ref aR, .ref aO, .ref aA, .int (nI n), .long v])), (aA, .inl (cB, 1000, .inl f))] sz)) 0 0 (va_A [(aX, .inr (0, [.ref aF, .ref aR, .ref aO, .ref aA, .int (nI n), .long v])), (aA, .inl (cB, 1000, .inl f))] sz) := by
  refine Met.ofW (cc := cX0_feed) (maxL := 6) (ret := (some .int)) (by decide) rfl ?_
  intro p e s m args below meth c s₁ B hml hv
  obtain ⟨rfl, hsz, hP, hK, hD0⟩ := hv
  have hx := B.exec
  have hb := B.bytes
  have hr := B.returns
  have hts0 := atoms_spec (ws := (ws_ yX0_feed cX0_feed 6 (some .int))) B.pre
  have hts : ∀ w ∈ lw_all, w.before _ s = true := fun w h => hts0 w (List.mem_cons_of_mem _ h)
  have hown : s.vm.findClass RX0 = some m.cls := findClass_of_methodNamed B.named
  have hlocks := B.notSynchronized
  subst hsz
  have hD := hD0.self (sz := s.heap.size)
  generalize hAe : va_A [(aX, .inr (0, [.ref aF, .ref aR, .ref aO, .ref aA, .int (nI n), .long v])), (aA, .inl (cB, 1000, .inl f))] s.heap.size = A at hD ⊢
  have hA : ∀ q : Nat, s.heap.size ≤ q → A q := fun q h => by rw [← hAe]; exact Or.inr h
  have hS : va_S A s.heap s.heap [] := va_S.rf
  have hP : va_P (dC, dI) vwCl [(aX, .inr (0, [.ref aF, .ref aR, .ref aO, .ref aA, .int (nI n), .long v])), (aA, .inl (cB, 1000, .inl f))] s.heap := hP
  have hl := lv_entry ([.ref aX, .int w1, .int w2, .int w3, .int w4, .int w5]) (n := 6) (Nat.le_of_ble_eq_true rfl)
  rw [lg_entry_eq]
  generalize (lg_sl ([.ref aX, .int w1, .int w2, .int w3, .int w4, .int w5]) ++ List.replicate (6 - (lg_sl ([.ref aX, .int w1, .int w2, .int w3, .int w4, .int w5])).length) Slot.unset).toArray = ls at hl ⊢
  have hl : lv_has ls 6 [(0, .ref aX), (1, .int w1), (2, .int w2), (3, .int w3), (4, .int w4), (5, .int w5)] := hl
  refine lv_aload_n hx hb dX0_feed_0 rfl (lv_at hl 0 rfl) ?_
  refine va_get (D := (dC, dI)) (ci := 0) (v := .int (nI n)) (C := RX0) (T := TX0) (N := 6) hx hb hts in_X0 hown hK hP 0 rfl rfl 4 (by decide) (hts _ q143) (fun _ h9 => h9) rfl dX0_feed_1 ?_
  refine lv_bipush (v := 20) hx hb dX0_feed_4 (by decide) ?_
  refine lv_iadd hx hb dX0_feed_6 ?_
  refine lv_topi (fun z_1 ez_1 => ?_)
  rw [show z_1 = nI (n + 20) from by rw [ez_1]; exact nI_add n 20]
  refine lv_sipush (v := 1000) hx hb dX0_feed_7 (by decide) ?_
  refine lv_icmp_le (tgt := 15) hx hb dX0_feed_10 (by decide) (fun c_2 => ?_) (fun c_2 => ?_)
  · refine lv_aload_n hx hb dX0_feed_15 rfl (lv_at hl 0 rfl) ?_
    refine lv_iload_n hx hb dX0_feed_16 rfl (lv_at hl 1 rfl) ?_
    have hPc := hP.sub (ws' := [(aX, .inr (0, [.ref aF, .ref aR, .ref aO, .ref aA, .int (nI n), .long v])), (aA, .inl (cB, 1000, .inl f))]) [0, 1] rfl
    have hDc := hD.sub (ws' := [(aX, .inr (0, [.ref aF, .ref aR, .ref aO, .ref aA, .int (nI n), .long v])), (aA, .inl (cB, 1000, .inl f))]) [0, 1] (by decide) rfl
    have hFc := va_free (wc := [(aX, .inr (0, [.ref aF, .ref aR, .ref aO, .ref aA, .int (nI n), .long v])), (aA, .inl (cB, 1000, .inl f))]) hD hS hA [0, 1] rfl
    refine va_callv (va_runV (As := [.int w1]) (rest := []) ⟨hx, hb, hml, hown, hts⟩ (m_G_put l dC dI cB aX aF aR aO aA n v f w1 _ (by omega)) (cwV 1 hts (lw_V q162 q164 qs1 q4 q165) rfl rfl rfl (by decide +kernel) ⟨Nat.le_of_ble_eq_true rfl, Nat.le_of_ble_eq_true rfl⟩) ⟨gC_bl, va_recv hK hPc (ci := 0) (q0 := 0) rfl rfl, gC_of hPc hK hDc⟩ rfl rfl hl.1 rfl (lv_room (Nat.le_of_ble_eq_true rfl)) dX0_feed_17 ⟨Nat.le_of_ble_eq_true rfl, Nat.le_of_ble_eq_true rfl⟩) hS (fun q _ h => hFc q h) hFc (fun u t H1 locs ht hvm hw hB hz1 hk1 hS => ?_)
    obtain ⟨hP1, hD1⟩ := hB
    rw [ht] at hP1
    obtain ⟨hP, hD⟩ := va_join (wr := []) (w1 := [(aX, .inr (0, [.ref aF, .ref aR, .ref aO, .ref aA, .int (nI (n + 4)), .long v])), (aA, .inl (cB, 1000, .inl (gp_put f n w1)))]) hP hD [0, 1] [] rfl rfl (by decide) (by decide) hk1 hFc hP1 hD1
    have hP := hP.sub (ws' := [(aX, .inr (0, [.ref aF, .ref aR, .ref aO, .ref aA, .int (nI (n + 4)), .long v])), (aA, .inl (cB, 1000, .inl (gp_put f n w1)))]) [0, 1] rfl
    have hD := hD.sub (ws' := [(aX, .inr (0, [.ref aF, .ref aR, .ref aO, .ref aA, .int (nI (n + 4)), .long v])), (aA, .inl (cB, 1000, .inl (gp_put f n w1)))]) [0, 1] (by decide) rfl
    generalize H1 = H at hP hS ⊢
    refine lv_aload_n hx hb dX0_feed_20 rfl (lv_at hl 0 rfl) ?_
    refine lv_iload_n hx hb dX0_feed_21 rfl (lv_at hl 2 rfl) ?_
    have hPc := hP.sub (ws' := [(aX, .inr (0, [.ref aF, .ref aR, .ref aO, .ref aA, .int (nI (n + 4)), .long v])), (aA, .inl (cB, 1000, .inl (gp_put f n w1)))]) [0, 1] rfl
    have hDc := hD.sub (ws' := [(aX, .inr (0, [.ref aF, .ref aR, .ref aO, .ref aA, .int (nI (n + 4)), .long v])), (aA, .inl (cB, 1000, .inl (gp_put f n w1)))]) [0, 1] (by decide) rfl
    have hFc := va_free (wc := [(aX, .inr (0, [.ref aF, .ref aR, .ref aO, .ref aA, .int (nI (n + 4)), .long v])), (aA, .inl (cB, 1000, .inl (gp_put f n w1)))]) hD hS hA [0, 1] rfl
    refine va_callv (va_runV (As := [.int w2]) (rest := []) ⟨hx, hb, hml, hown, hts⟩ (m_G_put l dC dI cB aX aF aR aO aA (n + 4) v (gp_put f n w1) w2 _ (by omega)) (cwV 1 hts (lw_V q162 q164 qs1 q4 q165) rfl rfl rfl (by decide +kernel) ⟨Nat.le_of_ble_eq_true rfl, Nat.le_of_ble_eq_true rfl⟩) ⟨gC_bl, va_recv hK hPc (ci := 0) (q0 := 0) rfl rfl, gC_of hPc hK hDc⟩ rfl rfl hl.1 rfl (lv_room (Nat.le_of_ble_eq_true rfl)) dX0_feed_22 ⟨Nat.le_of_ble_eq_true rfl, Nat.le_of_ble_eq_true rfl⟩) hS (fun q _ h => hFc q h) hFc (fun u t H1 locs ht hvm hw hB hz1 hk1 hS => ?_)
    obtain ⟨hP1, hD1⟩ := hB
    rw [ht] at hP1
    obtain ⟨hP, hD⟩ := va_join (wr := []) (w1 := [(aX, .inr (0, [.ref aF, .ref aR, .ref aO, .ref aA, .int (nI (n + 8)), .long v])), (aA, .inl (cB, 1000, .inl (gp_put (gp_put f n w1) (n + 4) w2)))]) hP hD [0, 1] [] rfl rfl (by decide) (by decide) hk1 hFc hP1 hD1
    have hP := hP.sub (ws' := [(aX, .inr (0, [.ref aF, .ref aR, .ref aO, .ref aA, .int (nI (n + 8)), .long v])), (aA, .inl (cB, 1000, .inl (gp_put (gp_put f n w1) (n + 4) w2)))]) [0, 1] rfl
    have hD := hD.sub (ws' := [(aX, .inr (0, [.ref aF, .ref aR, .ref aO, .ref aA, .int (nI (n + 8)), .long v])), (aA, .inl (cB, 1000, .inl (gp_put (gp_put f n w1) (n + 4) w2)))]) [0, 1] (by decide) rfl
    generalize H1 = H at hP hS ⊢
    refine lv_aload_n hx hb dX0_feed_25 rfl (lv_at hl 0 rfl) ?_
    refine lv_iload_n hx hb dX0_feed_26 rfl (lv_at hl 3 rfl) ?_
    have hPc := hP.sub (ws' := [(aX, .inr (0, [.ref aF, .ref aR, .ref aO, .ref aA, .int (nI (n + 8)), .long v])), (aA, .inl (cB, 1000, .inl (gp_put (gp_put f n w1) (n + 4) w2)))]) [0, 1] rfl
    have hDc := hD.sub (ws' := [(aX, .inr (0, [.ref aF, .ref aR, .ref aO, .ref aA, .int (nI (n + 8)), .long v])), (aA, .inl (cB, 1000, .inl (gp_put (gp_put f n w1) (n + 4) w2)))]) [0, 1] (by decide) rfl
    have hFc := va_free (wc := [(aX, .inr (0, [.ref aF, .ref aR, .ref aO, .ref aA, .int (nI (n + 8)), .long v])), (aA, .inl (cB, 1000, .inl (gp_put (gp_put f n w1) (n + 4) w2)))]) hD hS hA [0, 1] rfl
    refine va_callv (va_runV (As := [.int w3]) (rest := []) ⟨hx, hb, hml, hown, hts⟩ (m_G_put l dC dI cB aX aF aR aO aA (n + 8) v (gp_put (gp_put f n w1) (n + 4) w2) w3 _ (by omega)) (cwV 1 hts (lw_V q162 q164 qs1 q4 q165) rfl rfl rfl (by decide +kernel) ⟨Nat.le_of_ble_eq_true rfl, Nat.le_of_ble_eq_true rfl⟩) ⟨gC_bl, va_recv hK hPc (ci := 0) (q0 := 0) rfl rfl, gC_of hPc hK hDc⟩ rfl rfl hl.1 rfl (lv_room (Nat.le_of_ble_eq_true rfl)) dX0_feed_27 ⟨Nat.le_of_ble_eq_true rfl, Nat.le_of_ble_eq_true rfl⟩) hS (fun q _ h => hFc q h) hFc (fun u t H1 locs ht hvm hw hB hz1 hk1 hS => ?_)
    obtain ⟨hP1, hD1⟩ := hB
    rw [ht] at hP1
    obtain ⟨hP, hD⟩ := va_join (wr := []) (w1 := [(aX, .inr (0, [.ref aF, .ref aR, .ref aO, .ref aA, .int (nI (n + 12)), .long v])), (aA, .inl (cB, 1000, .inl (gp_put (gp_put (gp_put f n w1) (n + 4) w2) (n + 8) w3)))]) hP hD [0, 1] [] rfl rfl (by decide) (by decide) hk1 hFc hP1 hD1
    have hP := hP.sub (ws' := [(aX, .inr (0, [.ref aF, .ref aR, .ref aO, .ref aA, .int (nI (n + 12)), .long v])), (aA, .inl (cB, 1000, .inl (gp_put (gp_put (gp_put f n w1) (n + 4) w2) (n + 8) w3)))]) [0, 1] rfl
    have hD := hD.sub (ws' := [(aX, .inr (0, [.ref aF, .ref aR, .ref aO, .ref aA, .int (nI (n + 12)), .long v])), (aA, .inl (cB, 1000, .inl (gp_put (gp_put (gp_put f n w1) (n + 4) w2) (n + 8) w3)))]) [0, 1] (by decide) rfl
    generalize H1 = H at hP hS ⊢
    refine lv_aload_n hx hb dX0_feed_30 rfl (lv_at hl 0 rfl) ?_
    refine lv_iload hx hb dX0_feed_31 (lv_at hl 4 rfl) ?_
    have hPc := hP.sub (ws' := [(aX, .inr (0, [.ref aF, .ref aR, .ref aO, .ref aA, .int (nI (n + 12)), .long v])), (aA, .inl (cB, 1000, .inl (gp_put (gp_put (gp_put f n w1) (n + 4) w2) (n + 8) w3)))]) [0, 1] rfl
    have hDc := hD.sub (ws' := [(aX, .inr (0, [.ref aF, .ref aR, .ref aO, .ref aA, .int (nI (n + 12)), .long v])), (aA, .inl (cB, 1000, .inl (gp_put (gp_put (gp_put f n w1) (n + 4) w2) (n + 8) w3)))]) [0, 1] (by decide) rfl
    have hFc := va_free (wc := [(aX, .inr (0, [.ref aF, .ref aR, .ref aO, .ref aA, .int (nI (n + 12)), .long v])), (aA, .inl (cB, 1000, .inl (gp_put (gp_put (gp_put f n w1) (n + 4) w2) (n + 8) w3)))]) hD hS hA [0, 1] rfl
    refine va_callv (va_runV (As := [.int w4]) (rest := []) ⟨hx, hb, hml, hown, hts⟩ (m_G_put l dC dI cB aX aF aR aO aA (n + 12) v (gp_put (gp_put (gp_put f n w1) (n + 4) w2) (n + 8) w3) w4 _ (by omega)) (cwV 1 hts (lw_V q162 q164 qs1 q4 q165) rfl rfl rfl (by decide +kernel) ⟨Nat.le_of_ble_eq_true rfl, Nat.le_of_ble_eq_true rfl⟩) ⟨gC_bl, va_recv hK hPc (ci := 0) (q0 := 0) rfl rfl, gC_of hPc hK hDc⟩ rfl rfl hl.1 rfl (lv_room (Nat.le_of_ble_eq_true rfl)) dX0_feed_33 ⟨Nat.le_of_ble_eq_true rfl, Nat.le_of_ble_eq_true rfl⟩) hS (fun q _ h => hFc q h) hFc (fun u t H1 locs ht hvm hw hB hz1 hk1 hS => ?_)
    obtain ⟨hP1, hD1⟩ := hB
    rw [ht] at hP1
    obtain ⟨hP, hD⟩ := va_join (wr := []) (w1 := [(aX, .inr (0, [.ref aF, .ref aR, .ref aO, .ref aA, .int (nI (n + 16)), .long v])), (aA, .inl (cB, 1000, .inl (gp_put (gp_put (gp_put (gp_put f n w1) (n + 4) w2) (n + 8) w3) (n + 12) w4)))]) hP hD [0, 1] [] rfl rfl (by decide) (by decide) hk1 hFc hP1 hD1
    have hP := hP.sub (ws' := [(aX, .inr (0, [.ref aF, .ref aR, .ref aO, .ref aA, .int (nI (n + 16)), .long v])), (aA, .inl (cB, 1000, .inl (gp_put (gp_put (gp_put (gp_put f n w1) (n + 4) w2) (n + 8) w3) (n + 12) w4)))]) [0, 1] rfl
    have hD := hD.sub (ws' := [(aX, .inr (0, [.ref aF, .ref aR, .ref aO, .ref aA, .int (nI (n + 16)), .long v])), (aA, .inl (cB, 1000, .inl (gp_put (gp_put (gp_put (gp_put f n w1) (n + 4) w2) (n + 8) w3) (n + 12) w4)))]) [0, 1] (by decide) rfl
    generalize H1 = H at hP hS ⊢
    refine lv_aload_n hx hb dX0_feed_36 rfl (lv_at hl 0 rfl) ?_
    refine lv_iload hx hb dX0_feed_37 (lv_at hl 5 rfl) ?_
    have hPc := hP.sub (ws' := [(aX, .inr (0, [.ref aF, .ref aR, .ref aO, .ref aA, .int (nI (n + 16)), .long v])), (aA, .inl (cB, 1000, .inl (gp_put (gp_put (gp_put (gp_put f n w1) (n + 4) w2) (n + 8) w3) (n + 12) w4)))]) [0, 1] rfl
    have hDc := hD.sub (ws' := [(aX, .inr (0, [.ref aF, .ref aR, .ref aO, .ref aA, .int (nI (n + 16)), .long v])), (aA, .inl (cB, 1000, .inl (gp_put (gp_put (gp_put (gp_put f n w1) (n + 4) w2) (n + 8) w3) (n + 12) w4)))]) [0, 1] (by decide) rfl
    have hFc := va_free (wc := [(aX, .inr (0, [.ref aF, .ref aR, .ref aO, .ref aA, .int (nI (n + 16)), .long v])), (aA, .inl (cB, 1000, .inl (gp_put (gp_put (gp_put (gp_put f n w1) (n + 4) w2) (n + 8) w3) (n + 12) w4)))]) hD hS hA [0, 1] rfl
    refine va_callv (va_runV (As := [.int w5]) (rest := []) ⟨hx, hb, hml, hown, hts⟩ (m_G_put l dC dI cB aX aF aR aO aA (n + 16) v (gp_put (gp_put (gp_put (gp_put f n w1) (n + 4) w2) (n + 8) w3) (n + 12) w4) w5 _ (by omega)) (cwV 1 hts (lw_V q162 q164 qs1 q4 q165) rfl rfl rfl (by decide +kernel) ⟨Nat.le_of_ble_eq_true rfl, Nat.le_of_ble_eq_true rfl⟩) ⟨gC_bl, va_recv hK hPc (ci := 0) (q0 := 0) rfl rfl, gC_of hPc hK hDc⟩ rfl rfl hl.1 rfl (lv_room (Nat.le_of_ble_eq_true rfl)) dX0_feed_39 ⟨Nat.le_of_ble_eq_true rfl, Nat.le_of_ble_eq_true rfl⟩) hS (fun q _ h => hFc q h) hFc (fun u t H1 locs ht hvm hw hB hz1 hk1 hS => ?_)
    obtain ⟨hP1, hD1⟩ := hB
    rw [ht] at hP1
    obtain ⟨hP, hD⟩ := va_join (wr := []) (w1 := [(aX, .inr (0, [.ref aF, .ref aR, .ref aO, .ref aA, .int (nI (n + 20)), .long v])), (aA, .inl (cB, 1000, .inl (gp_put (gp_put (gp_put (gp_put (gp_put f n w1) (n + 4) w2) (n + 8) w3) (n + 12) w4) (n + 16) w5)))]) hP hD [0, 1] [] rfl rfl (by decide) (by decide) hk1 hFc hP1 hD1
    have hP := hP.sub (ws' := [(aX, .inr (0, [.ref aF, .ref aR, .ref aO, .ref aA, .int (nI (n + 20)), .long v])), (aA, .inl (cB, 1000, .inl (gp_put (gp_put (gp_put (gp_put (gp_put f n w1) (n + 4) w2) (n + 8) w3) (n + 12) w4) (n + 16) w5)))]) [0, 1] rfl
    have hD := hD.sub (ws' := [(aX, .inr (0, [.ref aF, .ref aR, .ref aO, .ref aA, .int (nI (n + 20)), .long v])), (aA, .inl (cB, 1000, .inl (gp_put (gp_put (gp_put (gp_put (gp_put f n w1) (n + 4) w2) (n + 8) w3) (n + 12) w4) (n + 16) w5)))]) [0, 1] (by decide) rfl
    generalize H1 = H at hP hS ⊢
    refine lv_aload_n hx hb dX0_feed_42 rfl (lv_at hl 0 rfl) ?_
    refine va_get (D := (dC, dI)) (ci := 0) (v := .int (nI (n + 20))) (C := RX0) (T := TX0) (N := 6) hx hb hts in_X0 hown hK hP 0 rfl rfl 4 (by decide) (hts _ q143) (fun _ h9 => h9) rfl dX0_feed_43 ?_
    have hP : va_P (dC, dI) vwCl [(aX, .inr (0, [.ref aF, .ref aR, .ref aO, .ref aA, .int (nI (n + 20)), .long v])), (aA, .inl (cB, 1000, .inl (gp_feed f n w1 w2 w3 w4 w5)))] H := hP
    have hD : va_D A [(aX, .inr (0, [.ref aF, .ref aR, .ref aO, .ref aA, .int (nI (n + 20)), .long v])), (aA, .inl (cB, 1000, .inl (gp_feed f n w1 w2 w3 w4 w5)))] := hD
    exact W.iret (v := nI (n + 20)) hx hb hr (fun t ht hW => ⟨⟨nI (n + 20), (), rfl, rfl, by rw [ht]; exact hP, hD⟩, hS.F ht⟩) hS.2.2 dX0_feed_46
  · exact absurd (nI_le (a := n + 20) (b := 1000) hn (by omega)) c_2
set_option maxHeartbeats 4000000 in
/-- GroupedNumbers.feed, no room -/
theorem m_G_feedN (l : Launch) (dC : Nat → ClassId) (dI : Nat → Nat → Nat) (cB : ClassId) (aX aF aR aO aA : Nat) (n : Nat) (v : Int64) (f : Nat → Int32) (w1 w2 w3 w4 w5 : Int32) (sz : Nat) (hn : ¬ n + 20 ≤ 1000) (hn2 : n ≤ 1000) : Met l yX0_feed (ws_ yX0_feed cX0_feed 6 (some .int)) ({ frames := 1, cells := 0, slots := 0, locals := 22 }) (gC dC dI [.ref aX, .int w1, .int w2, .int w3, .int w4, .int w5] [(aX, .inr (0, [.ref aF, .ref aR, .ref aO, .ref aA, .int (nI n), .long v])), (aA, .inl (cB, 1000, .inl f))] [(cB, .byte)] sz) (va_Qi (fun (r : Int32) (_ : Unit) => r = -1) (fun (_ : Unit) t => gB dC dI (va_A [(aX, .inr (0, [.ref aF, .ref aR, .ref aO, .ref aA, .int (nI n), .long v])), (aA, .inl (cB, 1000, .inl f))] sz) [(aX, .inr (0, [.ref aF, .ref aR, .ref aO, .ref aA, .int (nI n), .long v])), (aA, .inl (cB, 1000, .inl f))] t) (va_A [(aX, .inr (0, [.ref aF, .ref aR, .ref aO, .ref aA, .int (nI n), .long v])), (aA, .inl (cB, 1000, .inl f))] sz)) 0 0 (va_A [(aX, .inr (0, [.ref aF, .ref aR, .ref aO, .ref aA, .int (nI n), .long v])), (aA, .inl (cB, 1000, .inl f))] sz) := by
  refine Met.ofW (cc := cX0_feed) (maxL := 6) (ret := (some .int)) (by decide) rfl ?_
  intro p e s m args below meth c s₁ B hml hv
  obtain ⟨rfl, hsz, hP, hK, hD0⟩ := hv
  have hx := B.exec
  have hb := B.bytes
  have hr := B.returns
  have hts0 := atoms_spec (ws := (ws_ yX0_feed cX0_feed 6 (some .int))) B.pre
  have hts : ∀ w ∈ lw_all, w.before _ s = true := fun w h => hts0 w (List.mem_cons_of_mem _ h)
  have hown : s.vm.findClass RX0 = some m.cls := findClass_of_methodNamed B.named
  have hlocks := B.notSynchronized
  subst hsz
  have hD := hD0.self (sz := s.heap.size)
  generalize hAe : va_A [(aX, .inr (0, [.ref aF, .ref aR, .ref aO, .ref aA, .int (nI n), .long v])), (aA, .inl (cB, 1000, .inl f))] s.heap.size = A at hD ⊢
  have hA : ∀ q : Nat, s.heap.size ≤ q → A q := fun q h => by rw [← hAe]; exact Or.inr h
  have hS : va_S A s.heap s.heap [] := va_S.rf
  have hP : va_P (dC, dI) vwCl [(aX, .inr (0, [.ref aF, .ref aR, .ref aO, .ref aA, .int (nI n), .long v])), (aA, .inl (cB, 1000, .inl f))] s.heap := hP
  have hl := lv_entry ([.ref aX, .int w1, .int w2, .int w3, .int w4, .int w5]) (n := 6) (Nat.le_of_ble_eq_true rfl)
  rw [lg_entry_eq]
  generalize (lg_sl ([.ref aX, .int w1, .int w2, .int w3, .int w4, .int w5]) ++ List.replicate (6 - (lg_sl ([.ref aX, .int w1, .int w2, .int w3, .int w4, .int w5])).length) Slot.unset).toArray = ls at hl ⊢
  have hl : lv_has ls 6 [(0, .ref aX), (1, .int w1), (2, .int w2), (3, .int w3), (4, .int w4), (5, .int w5)] := hl
  refine lv_aload_n hx hb dX0_feed_0 rfl (lv_at hl 0 rfl) ?_
  refine va_get (D := (dC, dI)) (ci := 0) (v := .int (nI n)) (C := RX0) (T := TX0) (N := 6) hx hb hts in_X0 hown hK hP 0 rfl rfl 4 (by decide) (hts _ q143) (fun _ h9 => h9) rfl dX0_feed_1 ?_
  refine lv_bipush (v := 20) hx hb dX0_feed_4 (by decide) ?_
  refine lv_iadd hx hb dX0_feed_6 ?_
  refine lv_topi (fun z_1 ez_1 => ?_)
  rw [show z_1 = nI (n + 20) from by rw [ez_1]; exact nI_add n 20]
  refine lv_sipush (v := 1000) hx hb dX0_feed_7 (by decide) ?_
  refine lv_icmp_le (tgt := 15) hx hb dX0_feed_10 (by decide) (fun c_2 => ?_) (fun c_2 => ?_)
  · exact absurd (gp_le (b := 1000) (by omega) (by omega) c_2) hn
  · refine lv_iconst (v := (-1)) hx hb dX0_feed_13 (by decide) ?_
    exact W.iret (v := (-1)) hx hb hr (fun t ht hW => ⟨⟨(-1), (), rfl, rfl, by rw [ht]; exact hP, hD⟩, hS.F ht⟩) hS.2.2 dX0_feed_14
set_option maxHeartbeats 4000000 in
/-- GroupedNumbers.end(j) -/
theorem m_G_end (l : Launch) (dC : Nat → ClassId) (dI : Nat → Nat → Nat) (cB : ClassId) (aX aF aR aO aA : Nat) (n j : Nat) (v : Int64) (sz : Nat) (hj : j ≤ n) (hn : n ≤ 1000) : Met l yX0_end (ws_ yX0_end cX0_end 2 (some .int)) ({ frames := 0, cells := 0, slots := 0, locals := 0 }) (gC dC dI [.ref aX, .int (nI j)] [(aX, .inr (0, [.ref aF, .ref aR, .ref aO, .ref aA, .int (nI n), .long v]))] [(cB, .byte)] sz) (va_Qi (fun (r : Int32) (_ : Unit) => r = nI j) (fun (_ : Unit) t => gB dC dI (va_A [(aX, .inr (0, [.ref aF, .ref aR, .ref aO, .ref aA, .int (nI n), .long v]))] sz) [(aX, .inr (0, [.ref aF, .ref aR, .ref aO, .ref aA, .int (nI j), .long v]))] t) (va_A [(aX, .inr (0, [.ref aF, .ref aR, .ref aO, .ref aA, .int (nI n), .long v]))] sz)) 0 0 (va_A [(aX, .inr (0, [.ref aF, .ref aR, .ref aO, .ref aA, .int (nI n), .long v]))] sz) := by
  refine Met.ofW (cc := cX0_end) (maxL := 2) (ret := (some .int)) (by decide) rfl ?_
  intro p e s m args below meth c s₁ B hml hv
  obtain ⟨rfl, hsz, hP, hK, hD0⟩ := hv
  have hx := B.exec
  have hb := B.bytes
  have hr := B.returns
  have hts0 := atoms_spec (ws := (ws_ yX0_end cX0_end 2 (some .int))) B.pre
  have hts : ∀ w ∈ lw_all, w.before _ s = true := fun w h => hts0 w (List.mem_cons_of_mem _ h)
  have hown : s.vm.findClass RX0 = some m.cls := findClass_of_methodNamed B.named
  have hlocks := B.notSynchronized
  subst hsz
  have hD := hD0.self (sz := s.heap.size)
  generalize hAe : va_A [(aX, .inr (0, [.ref aF, .ref aR, .ref aO, .ref aA, .int (nI n), .long v]))] s.heap.size = A at hD ⊢
  have hA : ∀ q : Nat, s.heap.size ≤ q → A q := fun q h => by rw [← hAe]; exact Or.inr h
  have hS : va_S A s.heap s.heap [] := va_S.rf
  have hP : va_P (dC, dI) vwCl [(aX, .inr (0, [.ref aF, .ref aR, .ref aO, .ref aA, .int (nI n), .long v]))] s.heap := hP
  have hl := lv_entry ([.ref aX, .int (nI j)]) (n := 2) (Nat.le_of_ble_eq_true rfl)
  rw [lg_entry_eq]
  generalize (lg_sl ([.ref aX, .int (nI j)]) ++ List.replicate (2 - (lg_sl ([.ref aX, .int (nI j)])).length) Slot.unset).toArray = ls at hl ⊢
  have hl : lv_has ls 2 [(0, .ref aX), (1, .int (nI j))] := hl
  refine lv_iload_n hx hb dX0_end_0 rfl (lv_at hl 1 rfl) ?_
  refine lv_if_lt (tgt := 12) hx hb dX0_end_1 (by decide) (fun c_1 => ?_) (fun c_1 => ?_)
  · exact absurd c_1 (nI_pos (by omega))
  · refine lv_iload_n hx hb dX0_end_4 rfl (lv_at hl 1 rfl) ?_
    refine lv_aload_n hx hb dX0_end_5 rfl (lv_at hl 0 rfl) ?_
    refine va_get (D := (dC, dI)) (ci := 0) (v := .int (nI n)) (C := RX0) (T := TX0) (N := 6) hx hb hts in_X0 hown hK hP 0 rfl rfl 4 (by decide) (hts _ q143) (fun _ h9 => h9) rfl dX0_end_6 ?_
    refine lv_icmp_le (tgt := 14) hx hb dX0_end_9 (by decide) (fun c_2 => ?_) (fun c_2 => ?_)
    · refine lv_aload_n hx hb dX0_end_14 rfl (lv_at hl 0 rfl) ?_
      refine lv_iload_n hx hb dX0_end_15 rfl (lv_at hl 1 rfl) ?_
      refine va_put (D := (dC, dI)) (ci := 0) (v := .int (nI j)) (ty := .int) (C := RX0) (T := TX0) (N := 6) hx hb hts in_X0 tyX0 tyX0_ok nmX0 hown hK hP hD hS 0 rfl rfl 4 (by decide) (hts _ q143) (fun _ h9 => h9) rfl (by decide +kernel) rfl rfl (Nat.le_of_ble_eq_true rfl) dX0_end_16 (fun H locs hP hD hS => ?_)
      have hP : va_P (dC, dI) vwCl [(aX, .inr (0, [.ref aF, .ref aR, .ref aO, .ref aA, .int (nI j), .long v]))] H := hP
      have hD : va_D A [(aX, .inr (0, [.ref aF, .ref aR, .ref aO, .ref aA, .int (nI j), .long v]))] := hD
      refine lv_iload_n hx hb dX0_end_19 rfl (lv_at hl 1 rfl) ?_
      exact W.iret (v := nI j) hx hb hr (fun t ht hW => ⟨⟨nI j, (), rfl, rfl, by rw [ht]; exact hP, hD⟩, hS.F ht⟩) hS.2.2 dX0_end_20
    · exact absurd (nI_le hj (by omega)) c_2
set_option maxHeartbeats 4000000 in
/-- GroupedNumbers.end, refused -/
theorem m_G_endN (l : Launch) (dC : Nat → ClassId) (dI : Nat → Nat → Nat) (cB : ClassId) (aX aF aR aO aA : Nat) (n : Nat) (v : Int64) (x : Int32) (sz : Nat) (hx0 : x < 0 ∨ nI n < x) : Met l yX0_end (ws_ yX0_end cX0_end 2 (some .int)) ({ frames := 0, cells := 0, slots := 0, locals := 0 }) (gC dC dI [.ref aX, .int x] [(aX, .inr (0, [.ref aF, .ref aR, .ref aO, .ref aA, .int (nI n), .long v]))] [(cB, .byte)] sz) (va_Qi (fun (r : Int32) (_ : Unit) => r = -1) (fun (_ : Unit) t => gB dC dI (va_A [(aX, .inr (0, [.ref aF, .ref aR, .ref aO, .ref aA, .int (nI n), .long v]))] sz) [(aX, .inr (0, [.ref aF, .ref aR, .ref aO, .ref aA, .int (nI n), .long v]))] t) (va_A [(aX, .inr (0, [.ref aF, .ref aR, .ref aO, .ref aA, .int (nI n), .long v]))] sz)) 0 0 (va_A [(aX, .inr (0, [.ref aF, .ref aR, .ref aO, .ref aA, .int (nI n), .long v]))] sz) := by
  refine Met.ofW (cc := cX0_end) (maxL := 2) (ret := (some .int)) (by decide) rfl ?_
  intro p e s m args below meth c s₁ B hml hv
  obtain ⟨rfl, hsz, hP, hK, hD0⟩ := hv
  have hx := B.exec
  have hb := B.bytes
  have hr := B.returns
  have hts0 := atoms_spec (ws := (ws_ yX0_end cX0_end 2 (some .int))) B.pre
  have hts : ∀ w ∈ lw_all, w.before _ s = true := fun w h => hts0 w (List.mem_cons_of_mem _ h)
  have hown : s.vm.findClass RX0 = some m.cls := findClass_of_methodNamed B.named
  have hlocks := B.notSynchronized
  subst hsz
  have hD := hD0.self (sz := s.heap.size)
  generalize hAe : va_A [(aX, .inr (0, [.ref aF, .ref aR, .ref aO, .ref aA, .int (nI n), .long v]))] s.heap.size = A at hD ⊢
  have hA : ∀ q : Nat, s.heap.size ≤ q → A q := fun q h => by rw [← hAe]; exact Or.inr h
  have hS : va_S A s.heap s.heap [] := va_S.rf
  have hP : va_P (dC, dI) vwCl [(aX, .inr (0, [.ref aF, .ref aR, .ref aO, .ref aA, .int (nI n), .long v]))] s.heap := hP
  have hl := lv_entry ([.ref aX, .int x]) (n := 2) (Nat.le_of_ble_eq_true rfl)
  rw [lg_entry_eq]
  generalize (lg_sl ([.ref aX, .int x]) ++ List.replicate (2 - (lg_sl ([.ref aX, .int x])).length) Slot.unset).toArray = ls at hl ⊢
  have hl : lv_has ls 2 [(0, .ref aX), (1, .int x)] := hl
  refine lv_iload_n hx hb dX0_end_0 rfl (lv_at hl 1 rfl) ?_
  refine lv_if_lt (tgt := 12) hx hb dX0_end_1 (by decide) (fun c_1 => ?_) (fun c_1 => ?_)
  · refine lv_iconst (v := (-1)) hx hb dX0_end_12 (by decide) ?_
    exact W.iret (v := (-1)) hx hb hr (fun t ht hW => ⟨⟨(-1), (), rfl, rfl, by rw [ht]; exact hP, hD⟩, hS.F ht⟩) hS.2.2 dX0_end_13
  · refine lv_iload_n hx hb dX0_end_4 rfl (lv_at hl 1 rfl) ?_
    refine lv_aload_n hx hb dX0_end_5 rfl (lv_at hl 0 rfl) ?_
    refine va_get (D := (dC, dI)) (ci := 0) (v := .int (nI n)) (C := RX0) (T := TX0) (N := 6) hx hb hts in_X0 hown hK hP 0 rfl rfl 4 (by decide) (hts _ q143) (fun _ h9 => h9) rfl dX0_end_6 ?_
    refine lv_icmp_le (tgt := 14) hx hb dX0_end_9 (by decide) (fun c_2 => ?_) (fun c_2 => ?_)
    · exact absurd hx0 (fun z => z.elim c_1 (Int32.not_lt.mpr c_2))
    · refine lv_iconst (v := (-1)) hx hb dX0_end_12 (by decide) ?_
      exact W.iret (v := (-1)) hx hb hr (fun t ht hW => ⟨⟨(-1), (), rfl, rfl, by rw [ht]; exact hP, hD⟩, hS.F ht⟩) hS.2.2 dX0_end_13
set_option maxHeartbeats 4000000 in
/-- GroupedNumbers.value() -/
theorem m_G_value (l : Launch) (dC : Nat → ClassId) (dI : Nat → Nat → Nat) (cB : ClassId) (aX aF aR aO aA : Nat) (n : Nat) (v : Int64) (sz : Nat)  : Met l yX0_value (ws_ yX0_value cX0_value 1 (some .long)) ({ frames := 0, cells := 0, slots := 0, locals := 0 }) (gC dC dI [.ref aX] [(aX, .inr (0, [.ref aF, .ref aR, .ref aO, .ref aA, .int (nI n), .long v]))] [(cB, .byte)] sz) (va_Ql (fun (r : Int64) (_ : Unit) => r = v) (fun (_ : Unit) t => gB dC dI (va_A [(aX, .inr (0, [.ref aF, .ref aR, .ref aO, .ref aA, .int (nI n), .long v]))] sz) [(aX, .inr (0, [.ref aF, .ref aR, .ref aO, .ref aA, .int (nI n), .long v]))] t) (va_A [(aX, .inr (0, [.ref aF, .ref aR, .ref aO, .ref aA, .int (nI n), .long v]))] sz)) 0 0 (va_A [(aX, .inr (0, [.ref aF, .ref aR, .ref aO, .ref aA, .int (nI n), .long v]))] sz) := by
  refine Met.ofW (cc := cX0_value) (maxL := 1) (ret := (some .long)) (by decide) rfl ?_
  intro p e s m args below meth c s₁ B hml hv
  obtain ⟨rfl, hsz, hP, hK, hD0⟩ := hv
  have hx := B.exec
  have hb := B.bytes
  have hr := B.returns
  have hts0 := atoms_spec (ws := (ws_ yX0_value cX0_value 1 (some .long))) B.pre
  have hts : ∀ w ∈ lw_all, w.before _ s = true := fun w h => hts0 w (List.mem_cons_of_mem _ h)
  have hown : s.vm.findClass RX0 = some m.cls := findClass_of_methodNamed B.named
  have hlocks := B.notSynchronized
  subst hsz
  have hD := hD0.self (sz := s.heap.size)
  generalize hAe : va_A [(aX, .inr (0, [.ref aF, .ref aR, .ref aO, .ref aA, .int (nI n), .long v]))] s.heap.size = A at hD ⊢
  have hA : ∀ q : Nat, s.heap.size ≤ q → A q := fun q h => by rw [← hAe]; exact Or.inr h
  have hS : va_S A s.heap s.heap [] := va_S.rf
  have hP : va_P (dC, dI) vwCl [(aX, .inr (0, [.ref aF, .ref aR, .ref aO, .ref aA, .int (nI n), .long v]))] s.heap := hP
  have hl := lv_entry ([.ref aX]) (n := 1) (Nat.le_of_ble_eq_true rfl)
  rw [lg_entry_eq]
  generalize (lg_sl ([.ref aX]) ++ List.replicate (1 - (lg_sl ([.ref aX])).length) Slot.unset).toArray = ls at hl ⊢
  have hl : lv_has ls 1 [(0, .ref aX)] := hl
  refine lv_aload_n hx hb dX0_value_0 rfl (lv_at hl 0 rfl) ?_
  refine va_get (D := (dC, dI)) (ci := 0) (v := .long v) (C := RX0) (T := TX0) (N := 6) hx hb hts in_X0 hown hK hP 0 rfl rfl 5 (by decide) (hts _ q144) (fun _ h9 => h9) rfl dX0_value_1 ?_
  exact W.lret (v := v) hx hb hr (fun t ht hW => ⟨⟨v, (), rfl, rfl, by rw [ht]; exact hP, hD⟩, hS.F ht⟩) hS.2.2 dX0_value_4
set_option maxHeartbeats 4000000 in
/-- GroupedNumbers.size() -/
theorem m_G_size (l : Launch) (dC : Nat → ClassId) (dI : Nat → Nat → Nat) (cB : ClassId) (aX aF aR aO aA : Nat) (aB : Nat) (n k : Nat) (v : Int64) (sz : Nat)  : Met l yX0_size (ws_ yX0_size cX0_size 1 (some .int)) ({ frames := 0, cells := 0, slots := 0, locals := 0 }) (gC dC dI [.ref aX] [(aX, .inr (0, [.ref aF, .ref aR, .ref aO, .ref aA, .int (nI n), .long v])), (aO, .inr (3, [.ref aB, .int (nI k)]))] [(cB, .byte)] sz) (va_Qi (fun (r : Int32) (_ : Unit) => r = nI k) (fun (_ : Unit) t => gB dC dI (va_A [(aX, .inr (0, [.ref aF, .ref aR, .ref aO, .ref aA, .int (nI n), .long v])), (aO, .inr (3, [.ref aB, .int (nI k)]))] sz) [(aX, .inr (0, [.ref aF, .ref aR, .ref aO, .ref aA, .int (nI n), .long v])), (aO, .inr (3, [.ref aB, .int (nI k)]))] t) (va_A [(aX, .inr (0, [.ref aF, .ref aR, .ref aO, .ref aA, .int (nI n), .long v])), (aO, .inr (3, [.ref aB, .int (nI k)]))] sz)) 0 0 (va_A [(aX, .inr (0, [.ref aF, .ref aR, .ref aO, .ref aA, .int (nI n), .long v])), (aO, .inr (3, [.ref aB, .int (nI k)]))] sz) := by
  refine Met.ofW (cc := cX0_size) (maxL := 1) (ret := (some .int)) (by decide) rfl ?_
  intro p e s m args below meth c s₁ B hml hv
  obtain ⟨rfl, hsz, hP, hK, hD0⟩ := hv
  have hx := B.exec
  have hb := B.bytes
  have hr := B.returns
  have hts0 := atoms_spec (ws := (ws_ yX0_size cX0_size 1 (some .int))) B.pre
  have hts : ∀ w ∈ lw_all, w.before _ s = true := fun w h => hts0 w (List.mem_cons_of_mem _ h)
  have hown : s.vm.findClass RX0 = some m.cls := findClass_of_methodNamed B.named
  have hlocks := B.notSynchronized
  subst hsz
  have hD := hD0.self (sz := s.heap.size)
  generalize hAe : va_A [(aX, .inr (0, [.ref aF, .ref aR, .ref aO, .ref aA, .int (nI n), .long v])), (aO, .inr (3, [.ref aB, .int (nI k)]))] s.heap.size = A at hD ⊢
  have hA : ∀ q : Nat, s.heap.size ≤ q → A q := fun q h => by rw [← hAe]; exact Or.inr h
  have hS : va_S A s.heap s.heap [] := va_S.rf
  have hP : va_P (dC, dI) vwCl [(aX, .inr (0, [.ref aF, .ref aR, .ref aO, .ref aA, .int (nI n), .long v])), (aO, .inr (3, [.ref aB, .int (nI k)]))] s.heap := hP
  have hl := lv_entry ([.ref aX]) (n := 1) (Nat.le_of_ble_eq_true rfl)
  rw [lg_entry_eq]
  generalize (lg_sl ([.ref aX]) ++ List.replicate (1 - (lg_sl ([.ref aX])).length) Slot.unset).toArray = ls at hl ⊢
  have hl : lv_has ls 1 [(0, .ref aX)] := hl
  refine lv_aload_n hx hb dX0_size_0 rfl (lv_at hl 0 rfl) ?_
  refine va_get (D := (dC, dI)) (ci := 0) (v := .ref aO) (C := RX0) (T := TX0) (N := 6) hx hb hts in_X0 hown hK hP 0 rfl rfl 2 (by decide) (hts _ q141) (fun _ h9 => h9) rfl dX0_size_1 ?_
  refine va_get (D := (dC, dI)) (ci := 3) (v := .int (nI k)) (C := RX3) (T := TX3) (N := 2) hx hb hts in_X3 hown hK hP 1 rfl rfl 1 (by decide) (hts _ q129) (fun _ h9 => h9) rfl dX0_size_4 ?_
  exact W.iret (v := nI k) hx hb hr (fun t ht hW => ⟨⟨nI k, (), rfl, rfl, by rw [ht]; exact hP, hD⟩, hS.F ht⟩) hS.2.2 dX0_size_7
set_option maxHeartbeats 4000000 in
/-- GroupedNumbers.at(j) -/
theorem m_G_at (l : Launch) (dC : Nat → ClassId) (dI : Nat → Nat → Nat) (cB : ClassId) (aX aF aR aO aA : Nat) (aB : Nat) (n k j : Nat) (v : Int64) (f : Nat → Int32) (sz : Nat) (hj : j < k) (hk : k ≤ 1000) : Met l yX0_at (ws_ yX0_at cX0_at 2 (some .int)) ({ frames := 0, cells := 0, slots := 0, locals := 0 }) (gC dC dI [.ref aX, .int (nI j)] [(aX, .inr (0, [.ref aF, .ref aR, .ref aO, .ref aA, .int (nI n), .long v])), (aO, .inr (3, [.ref aB, .int (nI k)])), (aB, .inl (cB, 4096, .inl f))] [(cB, .byte)] sz) (va_Qi (fun (r : Int32) (_ : Unit) => r = f j &&& 255) (fun (_ : Unit) t => gB dC dI (va_A [(aX, .inr (0, [.ref aF, .ref aR, .ref aO, .ref aA, .int (nI n), .long v])), (aO, .inr (3, [.ref aB, .int (nI k)])), (aB, .inl (cB, 4096, .inl f))] sz) [(aX, .inr (0, [.ref aF, .ref aR, .ref aO, .ref aA, .int (nI n), .long v])), (aO, .inr (3, [.ref aB, .int (nI k)])), (aB, .inl (cB, 4096, .inl f))] t) (va_A [(aX, .inr (0, [.ref aF, .ref aR, .ref aO, .ref aA, .int (nI n), .long v])), (aO, .inr (3, [.ref aB, .int (nI k)])), (aB, .inl (cB, 4096, .inl f))] sz)) 0 0 (va_A [(aX, .inr (0, [.ref aF, .ref aR, .ref aO, .ref aA, .int (nI n), .long v])), (aO, .inr (3, [.ref aB, .int (nI k)])), (aB, .inl (cB, 4096, .inl f))] sz) := by
  refine Met.ofW (cc := cX0_at) (maxL := 2) (ret := (some .int)) (by decide) rfl ?_
  intro p e s m args below meth c s₁ B hml hv
  obtain ⟨rfl, hsz, hP, hK, hD0⟩ := hv
  have hx := B.exec
  have hb := B.bytes
  have hr := B.returns
  have hts0 := atoms_spec (ws := (ws_ yX0_at cX0_at 2 (some .int))) B.pre
  have hts : ∀ w ∈ lw_all, w.before _ s = true := fun w h => hts0 w (List.mem_cons_of_mem _ h)
  have hown : s.vm.findClass RX0 = some m.cls := findClass_of_methodNamed B.named
  have hlocks := B.notSynchronized
  subst hsz
  have hD := hD0.self (sz := s.heap.size)
  generalize hAe : va_A [(aX, .inr (0, [.ref aF, .ref aR, .ref aO, .ref aA, .int (nI n), .long v])), (aO, .inr (3, [.ref aB, .int (nI k)])), (aB, .inl (cB, 4096, .inl f))] s.heap.size = A at hD ⊢
  have hA : ∀ q : Nat, s.heap.size ≤ q → A q := fun q h => by rw [← hAe]; exact Or.inr h
  have hS : va_S A s.heap s.heap [] := va_S.rf
  have hP : va_P (dC, dI) vwCl [(aX, .inr (0, [.ref aF, .ref aR, .ref aO, .ref aA, .int (nI n), .long v])), (aO, .inr (3, [.ref aB, .int (nI k)])), (aB, .inl (cB, 4096, .inl f))] s.heap := hP
  have hl := lv_entry ([.ref aX, .int (nI j)]) (n := 2) (Nat.le_of_ble_eq_true rfl)
  rw [lg_entry_eq]
  generalize (lg_sl ([.ref aX, .int (nI j)]) ++ List.replicate (2 - (lg_sl ([.ref aX, .int (nI j)])).length) Slot.unset).toArray = ls at hl ⊢
  have hl : lv_has ls 2 [(0, .ref aX), (1, .int (nI j))] := hl
  refine lv_iload_n hx hb dX0_at_0 rfl (lv_at hl 1 rfl) ?_
  refine lv_if_lt (tgt := 31) hx hb dX0_at_1 (by decide) (fun c_1 => ?_) (fun c_1 => ?_)
  · exact absurd c_1 (nI_pos (by omega))
  · refine lv_iload_n hx hb dX0_at_4 rfl (lv_at hl 1 rfl) ?_
    refine lv_aload_n hx hb dX0_at_5 rfl (lv_at hl 0 rfl) ?_
    refine va_get (D := (dC, dI)) (ci := 0) (v := .ref aO) (C := RX0) (T := TX0) (N := 6) hx hb hts in_X0 hown hK hP 0 rfl rfl 2 (by decide) (hts _ q141) (fun _ h9 => h9) rfl dX0_at_6 ?_
    refine va_get (D := (dC, dI)) (ci := 3) (v := .int (nI k)) (C := RX3) (T := TX3) (N := 2) hx hb hts in_X3 hown hK hP 1 rfl rfl 1 (by decide) (hts _ q129) (fun _ h9 => h9) rfl dX0_at_9 ?_
    refine lv_icmp_ge (tgt := 31) hx hb dX0_at_12 (by decide) (fun c_2 => ?_) (fun c_2 => ?_)
    · exact absurd c_2 (nI_ge hj (by omega))
    · refine lv_aload_n hx hb dX0_at_15 rfl (lv_at hl 0 rfl) ?_
      refine va_get (D := (dC, dI)) (ci := 0) (v := .ref aO) (C := RX0) (T := TX0) (N := 6) hx hb hts in_X0 hown hK hP 0 rfl rfl 2 (by decide) (hts _ q141) (fun _ h9 => h9) rfl dX0_at_16 ?_
      refine va_get (D := (dC, dI)) (ci := 3) (v := .ref aB) (C := RX3) (T := TX3) (N := 2) hx hb hts in_X3 hown hK hP 1 rfl rfl 0 (by decide) (hts _ q127) (fun _ h9 => h9) rfl dX0_at_19 ?_
      refine lv_iload_n hx hb dX0_at_22 rfl (lv_at hl 1 rfl) ?_
      refine va_bald hx hb hK hP 2 0 rfl rfl (vp_in_nI (by omega) (by omega)) dX0_at_23 ?_
      refine lv_topi (fun z_3 ez_3 => ?_)
      rw [show z_3 = f j from by rw [ez_3]; rw [nI_clamp (by omega)]]
      refine lv_sipush (v := 255) hx hb dX0_at_24 (by decide) ?_
      refine lv_iand hx hb dX0_at_27 ?_
      refine lv_goto (tgt := 32) hx hb dX0_at_28 (by decide) ?_
      exact W.iret (v := f j &&& 255) hx hb hr (fun t ht hW => ⟨⟨f j &&& 255, (), rfl, rfl, by rw [ht]; exact hP, hD⟩, hS.F ht⟩) hS.2.2 dX0_at_32
set_option maxHeartbeats 4000000 in
/-- GroupedNumbers.at, none there -/
theorem m_G_atN (l : Launch) (dC : Nat → ClassId) (dI : Nat → Nat → Nat) (cB : ClassId) (aX aF aR aO aA : Nat) (aB : Nat) (n k : Nat) (v : Int64) (f : Nat → Int32) (x : Int32) (sz : Nat) (hx0 : x < 0 ∨ nI k ≤ x) : Met l yX0_at (ws_ yX0_at cX0_at 2 (some .int)) ({ frames := 0, cells := 0, slots := 0, locals := 0 }) (gC dC dI [.ref aX, .int x] [(aX, .inr (0, [.ref aF, .ref aR, .ref aO, .ref aA, .int (nI n), .long v])), (aO, .inr (3, [.ref aB, .int (nI k)])), (aB, .inl (cB, 4096, .inl f))] [(cB, .byte)] sz) (va_Qi (fun (r : Int32) (_ : Unit) => r = -1) (fun (_ : Unit) t => gB dC dI (va_A [(aX, .inr (0, [.ref aF, .ref aR, .ref aO, .ref aA, .int (nI n), .long v])), (aO, .inr (3, [.ref aB, .int (nI k)])), (aB, .inl (cB, 4096, .inl f))] sz) [(aX, .inr (0, [.ref aF, .ref aR, .ref aO, .ref aA, .int (nI n), .long v])), (aO, .inr (3, [.ref aB, .int (nI k)])), (aB, .inl (cB, 4096, .inl f))] t) (va_A [(aX, .inr (0, [.ref aF, .ref aR, .ref aO, .ref aA, .int (nI n), .long v])), (aO, .inr (3, [.ref aB, .int (nI k)])), (aB, .inl (cB, 4096, .inl f))] sz)) 0 0 (va_A [(aX, .inr (0, [.ref aF, .ref aR, .ref aO, .ref aA, .int (nI n), .long v])), (aO, .inr (3, [.ref aB, .int (nI k)])), (aB, .inl (cB, 4096, .inl f))] sz) := by
  refine Met.ofW (cc := cX0_at) (maxL := 2) (ret := (some .int)) (by decide) rfl ?_
  intro p e s m args below meth c s₁ B hml hv
  obtain ⟨rfl, hsz, hP, hK, hD0⟩ := hv
  have hx := B.exec
  have hb := B.bytes
  have hr := B.returns
  have hts0 := atoms_spec (ws := (ws_ yX0_at cX0_at 2 (some .int))) B.pre
  have hts : ∀ w ∈ lw_all, w.before _ s = true := fun w h => hts0 w (List.mem_cons_of_mem _ h)
  have hown : s.vm.findClass RX0 = some m.cls := findClass_of_methodNamed B.named
  have hlocks := B.notSynchronized
  subst hsz
  have hD := hD0.self (sz := s.heap.size)
  generalize hAe : va_A [(aX, .inr (0, [.ref aF, .ref aR, .ref aO, .ref aA, .int (nI n), .long v])), (aO, .inr (3, [.ref aB, .int (nI k)])), (aB, .inl (cB, 4096, .inl f))] s.heap.size = A at hD ⊢
  have hA : ∀ q : Nat, s.heap.size ≤ q → A q := fun q h => by rw [← hAe]; exact Or.inr h
  have hS : va_S A s.heap s.heap [] := va_S.rf
  have hP : va_P (dC, dI) vwCl [(aX, .inr (0, [.ref aF, .ref aR, .ref aO, .ref aA, .int (nI n), .long v])), (aO, .inr (3, [.ref aB, .int (nI k)])), (aB, .inl (cB, 4096, .inl f))] s.heap := hP
  have hl := lv_entry ([.ref aX, .int x]) (n := 2) (Nat.le_of_ble_eq_true rfl)
  rw [lg_entry_eq]
  generalize (lg_sl ([.ref aX, .int x]) ++ List.replicate (2 - (lg_sl ([.ref aX, .int x])).length) Slot.unset).toArray = ls at hl ⊢
  have hl : lv_has ls 2 [(0, .ref aX), (1, .int x)] := hl
  refine lv_iload_n hx hb dX0_at_0 rfl (lv_at hl 1 rfl) ?_
  refine lv_if_lt (tgt := 31) hx hb dX0_at_1 (by decide) (fun c_1 => ?_) (fun c_1 => ?_)
  · refine lv_iconst (v := (-1)) hx hb dX0_at_31 (by decide) ?_
    exact W.iret (v := (-1)) hx hb hr (fun t ht hW => ⟨⟨(-1), (), rfl, rfl, by rw [ht]; exact hP, hD⟩, hS.F ht⟩) hS.2.2 dX0_at_32
  · refine lv_iload_n hx hb dX0_at_4 rfl (lv_at hl 1 rfl) ?_
    refine lv_aload_n hx hb dX0_at_5 rfl (lv_at hl 0 rfl) ?_
    refine va_get (D := (dC, dI)) (ci := 0) (v := .ref aO) (C := RX0) (T := TX0) (N := 6) hx hb hts in_X0 hown hK hP 0 rfl rfl 2 (by decide) (hts _ q141) (fun _ h9 => h9) rfl dX0_at_6 ?_
    refine va_get (D := (dC, dI)) (ci := 3) (v := .int (nI k)) (C := RX3) (T := TX3) (N := 2) hx hb hts in_X3 hown hK hP 1 rfl rfl 1 (by decide) (hts _ q129) (fun _ h9 => h9) rfl dX0_at_9 ?_
    refine lv_icmp_ge (tgt := 31) hx hb dX0_at_12 (by decide) (fun c_2 => ?_) (fun c_2 => ?_)
    · refine lv_iconst (v := (-1)) hx hb dX0_at_31 (by decide) ?_
      exact W.iret (v := (-1)) hx hb hr (fun t ht hW => ⟨⟨(-1), (), rfl, rfl, by rw [ht]; exact hP, hD⟩, hS.F ht⟩) hS.2.2 dX0_at_32
    · exact absurd hx0 (fun z => z.elim c_1 c_2)
set_option maxHeartbeats 4000000 in
/-- GroupedNumbers.clear() -/
theorem m_G_clear (l : Launch) (dC : Nat → ClassId) (dI : Nat → Nat → Nat) (cB : ClassId) (aX aF aR aO aA : Nat) (aB : Nat) (n k : Nat) (v : Int64) (sz : Nat)  : Met l yX0_clear (ws_ yX0_clear cX0_clear 1 none) ({ frames := 1, cells := 0, slots := 0, locals := 20 }) (gC dC dI [.ref aX] [(aX, .inr (0, [.ref aF, .ref aR, .ref aO, .ref aA, .int (nI n), .long v])), (aO, .inr (3, [.ref aB, .int (nI k)]))] [(cB, .byte)] sz) (va_Qv (fun _ : Unit => True) (fun _ t => gB dC dI (va_A [(aX, .inr (0, [.ref aF, .ref aR, .ref aO, .ref aA, .int (nI n), .long v])), (aO, .inr (3, [.ref aB, .int (nI k)]))] sz) [(aX, .inr (0, [.ref aF, .ref aR, .ref aO, .ref aA, .int (nI 0), .long v])), (aO, .inr (3, [.ref aB, .int (nI 0)]))] t) (va_A [(aX, .inr (0, [.ref aF, .ref aR, .ref aO, .ref aA, .int (nI n), .long v])), (aO, .inr (3, [.ref aB, .int (nI k)]))] sz)) 0 0 (va_A [(aX, .inr (0, [.ref aF, .ref aR, .ref aO, .ref aA, .int (nI n), .long v])), (aO, .inr (3, [.ref aB, .int (nI k)]))] sz) := by
  refine Met.ofW (cc := cX0_clear) (maxL := 1) (ret := none) (by decide) rfl ?_
  intro p e s m args below meth c s₁ B hml hv
  obtain ⟨rfl, hsz, hP, hK, hD0⟩ := hv
  have hx := B.exec
  have hb := B.bytes
  have hr := B.returns
  have hts0 := atoms_spec (ws := (ws_ yX0_clear cX0_clear 1 none)) B.pre
  have hts : ∀ w ∈ lw_all, w.before _ s = true := fun w h => hts0 w (List.mem_cons_of_mem _ h)
  have hown : s.vm.findClass RX0 = some m.cls := findClass_of_methodNamed B.named
  have hlocks := B.notSynchronized
  subst hsz
  have hD := hD0.self (sz := s.heap.size)
  generalize hAe : va_A [(aX, .inr (0, [.ref aF, .ref aR, .ref aO, .ref aA, .int (nI n), .long v])), (aO, .inr (3, [.ref aB, .int (nI k)]))] s.heap.size = A at hD ⊢
  have hA : ∀ q : Nat, s.heap.size ≤ q → A q := fun q h => by rw [← hAe]; exact Or.inr h
  have hS : va_S A s.heap s.heap [] := va_S.rf
  have hP : va_P (dC, dI) vwCl [(aX, .inr (0, [.ref aF, .ref aR, .ref aO, .ref aA, .int (nI n), .long v])), (aO, .inr (3, [.ref aB, .int (nI k)]))] s.heap := hP
  have hl := lv_entry ([.ref aX]) (n := 1) (Nat.le_of_ble_eq_true rfl)
  rw [lg_entry_eq]
  generalize (lg_sl ([.ref aX]) ++ List.replicate (1 - (lg_sl ([.ref aX])).length) Slot.unset).toArray = ls at hl ⊢
  have hl : lv_has ls 1 [(0, .ref aX)] := hl
  refine lv_aload_n hx hb dX0_clear_0 rfl (lv_at hl 0 rfl) ?_
  refine va_get (D := (dC, dI)) (ci := 0) (v := .ref aO) (C := RX0) (T := TX0) (N := 6) hx hb hts in_X0 hown hK hP 0 rfl rfl 2 (by decide) (hts _ q141) (fun _ h9 => h9) rfl dX0_clear_1 ?_
  have hPc := hP.sub (ws' := [(aO, .inr (3, [.ref aB, .int (nI k)]))]) [1] rfl
  have hDc := hD.sub (ws' := [(aO, .inr (3, [.ref aB, .int (nI k)]))]) [1] (by decide) rfl
  have hFc := va_free (wc := [(aO, .inr (3, [.ref aB, .int (nI k)]))]) hD hS hA [1] rfl
  refine va_callv (va_runV (As := []) (rest := []) ⟨hx, hb, hml, hown, hts⟩ (m_O_clear l dC dI cB aO aB k _) (cwV 0 hts (lw_V q245 q246 q247 q11 q248) rfl rfl rfl (by decide +kernel) ⟨Nat.le_of_ble_eq_true rfl, Nat.le_of_ble_eq_true rfl⟩) ⟨gC_bl, va_recv hK hPc (ci := 3) (q0 := 0) rfl rfl, gC_of hPc hK hDc⟩ rfl rfl hl.1 rfl (lv_room (Nat.le_of_ble_eq_true rfl)) dX0_clear_4 ⟨Nat.le_of_ble_eq_true rfl, Nat.le_of_ble_eq_true rfl⟩) hS (fun q _ h => hFc q h) hFc (fun u t H1 locs ht hvm hw hB hz1 hk1 hS => ?_)
  obtain ⟨hP1, hD1⟩ := hB
  rw [ht] at hP1
  obtain ⟨hP, hD⟩ := va_join (wr := [(aX, .inr (0, [.ref aF, .ref aR, .ref aO, .ref aA, .int (nI n), .long v]))]) (w1 := [(aO, .inr (3, [.ref aB, .int (nI 0)]))]) hP hD [1] [0] rfl rfl (by decide) (by decide) hk1 hFc hP1 hD1
  have hP := hP.sub (ws' := [(aX, .inr (0, [.ref aF, .ref aR, .ref aO, .ref aA, .int (nI n), .long v])), (aO, .inr (3, [.ref aB, .int (nI 0)]))]) [0, 1] rfl
  have hD := hD.sub (ws' := [(aX, .inr (0, [.ref aF, .ref aR, .ref aO, .ref aA, .int (nI n), .long v])), (aO, .inr (3, [.ref aB, .int (nI 0)]))]) [0, 1] (by decide) rfl
  generalize H1 = H at hP hS ⊢
  refine lv_aload_n hx hb dX0_clear_7 rfl (lv_at hl 0 rfl) ?_
  refine lv_iconst (v := 0) hx hb dX0_clear_8 (by decide) ?_
  refine lv_topi (fun z_2 ez_2 => ?_)
  rw [show z_2 = nI 0 from by rw [ez_2]; rfl]
  refine va_put (D := (dC, dI)) (ci := 0) (v := .int (nI 0)) (ty := .int) (C := RX0) (T := TX0) (N := 6) hx hb hts in_X0 tyX0 tyX0_ok nmX0 hown hK hP hD hS 0 rfl rfl 4 (by decide) (hts _ q143) (fun _ h9 => h9) rfl (by decide +kernel) rfl rfl (Nat.le_of_ble_eq_true rfl) dX0_clear_9 (fun H locs hP hD hS => ?_)
  have hP : va_P (dC, dI) vwCl [(aX, .inr (0, [.ref aF, .ref aR, .ref aO, .ref aA, .int (nI 0), .long v])), (aO, .inr (3, [.ref aB, .int (nI 0)]))] H := hP
  have hD : va_D A [(aX, .inr (0, [.ref aF, .ref aR, .ref aO, .ref aA, .int (nI 0), .long v])), (aO, .inr (3, [.ref aB, .int (nI 0)]))] := hD
  exact W.vret hx hb hr (fun t ht hW => ⟨⟨(), rfl, trivial, by rw [ht]; exact hP, hD⟩, hS.F ht⟩) hS.2.2 dX0_clear_12
end
section
set_option maxRecDepth 100000
set_option maxHeartbeats 4000000 in
/-- the loop of GroupedNumbers.needs -/
theorem lo_G_needs {p : Program} {l : Launch} {e : Env} {R : Room} {s : State} {m : MethodId} {args : Array Value} {below : List Frame} {meth : Method} {c : Code} {Q : State → Prop} {dC : Nat → ClassId} {dI : Nat → Nat → Nat} {cB : ClassId} {A : Nat → Prop} {cells slots : Nat} (hx : p.tables.exec = Jvm.exec) (hb : c.code = cX0_needs) (hml : c.maxLocals = 6) (hown : s.vm.findClass RX0 = some m.cls) (hts : ∀ w ∈ lw_all, w.before args s = true) (hA : ∀ q : Nat, s.heap.size ≤ q → A q) (hK : va_K (dC, dI) vwCl [(cB, .byte)] s) (v : Int64) (hw n : Nat) (hw2 : hw ≤ 2) (hn : gp_Len hw v (n + 1)) (H : Heap) (locs : List Loc)
    (kx : ∀ (ls : Array Slot), lv_has ls 6 [(3, .int (nI (n + 1))), (4, .long (gp_left v n)), (0, .int (nI hw)), (1, .long v)] → W p l e R s m args below meth c H locs cells slots Q (F0 m 52 ls [])) :
    ∀ (i j : Nat), j + i = n → ∀ (ls : Array Slot), lv_has ls 6 [(3, .int (nI (j + 1))), (4, .long (gp_left v j)), (0, .int (nI hw)), (1, .long v)] → W p l e R s m args below meth c H locs cells slots Q (F0 m 5 ls []) := by
  have hn9 : n + 1 ≤ 10 := hn.2.1
  intro i
  induction i with
  | zero =>
    intro j hj ls hl
    obtain rfl : n = j := by omega
    have hm : ¬ gp_more hw (gp_left v n) := hn.2.2.2
    refine lv_iload_n hx hb dX0_needs_5 rfl (lv_at hl 2 rfl) ?_
    refine lv_if_ne (tgt := 21) hx hb dX0_needs_6 (by decide) (fun c_1 => ?_) (fun c_1 => ?_)
    · have h0 : hw ≠ 0 := fun z => c_1 (by rw [z]; rfl)
      refine lv_lload hx hb dX0_needs_21 (lv_at hl 1 rfl) ?_
      refine lv_ldc2 (v := (-64)) hx hb hown (hts _ q216) dX0_needs_23 ?_
      refine W.lcmp hx hb dX0_needs_26 ?_
      refine lv_if_lt (tgt := 39) hx hb dX0_needs_27 (by decide) (fun c_2 => ?_) (fun c_2 => ?_)
      · exact absurd (Or.inr ⟨h0, Or.inl (gp_clt c_2)⟩) hm
      · refine lv_lload hx hb dX0_needs_30 (lv_at hl 1 rfl) ?_
        refine lv_ldc2 (v := 63) hx hb hown (hts _ q217) dX0_needs_32 ?_
        refine W.lcmp hx hb dX0_needs_35 ?_
        refine lv_if_le (tgt := 52) hx hb dX0_needs_36 (by decide) (fun c_3 => ?_) (fun c_3 => ?_)
        · exact kx ls hl
        · exact absurd (Or.inr ⟨h0, Or.inr (gp_cle c_3)⟩) hm
    · have h0 : hw = 0 := (nI_eq (b := 0) (by omega) (by omega)).mp c_1
      refine lv_lload hx hb dX0_needs_9 (lv_at hl 1 rfl) ?_
      refine lv_ldc2 (v := 127) hx hb hown (hts _ q215) dX0_needs_11 ?_
      refine W.lcmp hx hb dX0_needs_14 ?_
      refine lv_if_le (tgt := 52) hx hb dX0_needs_15 (by decide) (fun c_2 => ?_) (fun c_2 => ?_)
      · exact kx ls hl
      · exact absurd (Or.inl ⟨h0, gp_cle c_2⟩) hm
  | succ i ih =>
    intro j hj ls hl
    have hm := hn.2.2.1 j (by omega)
    have tl : W p l e R s m args below meth c H locs cells slots Q (F0 m 39 ls []) := by
      refine lv_lload hx hb dX0_needs_39 (lv_at hl 1 rfl) ?_
      refine lv_bipush (v := 7) hx hb dX0_needs_41 (by decide) ?_
      refine lv_lshr (v := ((gp_left v j) >>> (((7 : Int32)).toInt64 &&& 63))) hx hb dX0_needs_43 rfl ?_
      refine lv_topl (fun z_1 ez_1 => ?_)
      rw [show z_1 = gp_left v (j + 1) from by rw [ez_1]; rfl]
      refine lv_lstore (lv' := [(4, .long (gp_left v (j + 1))), (3, .int (nI (j + 1))), (0, .int (nI hw)), (1, .long v)]) hx hb dX0_needs_44 hl (by decide) rfl (fun ls hl => ?_)
      refine lv_iinc (v := nI (j + 1 + 1)) (lv' := [(3, .int (nI (j + 1 + 1))), (4, .long (gp_left v (j + 1))), (0, .int (nI hw)), (1, .long v)]) hx hb dX0_needs_46 hl (k := 1) rfl (nI_1 _) (by decide) rfl (fun ls hl => ?_)
      refine lv_goto (tgt := 5) hx hb dX0_needs_49 (by decide) ?_
      exact ih (j + 1) (by omega) ls (lv_sub hl [0, 1, 2, 3] rfl)
    refine lv_iload_n hx hb dX0_needs_5 rfl (lv_at hl 2 rfl) ?_
    refine lv_if_ne (tgt := 21) hx hb dX0_needs_6 (by decide) (fun c_1 => ?_) (fun c_1 => ?_)
    · have h0 : hw ≠ 0 := fun z => c_1 (by rw [z]; rfl)
      refine lv_lload hx hb dX0_needs_21 (lv_at hl 1 rfl) ?_
      refine lv_ldc2 (v := (-64)) hx hb hown (hts _ q216) dX0_needs_23 ?_
      refine W.lcmp hx hb dX0_needs_26 ?_
      refine lv_if_lt (tgt := 39) hx hb dX0_needs_27 (by decide) (fun c_2 => ?_) (fun c_2 => ?_)
      · exact tl
      · refine lv_lload hx hb dX0_needs_30 (lv_at hl 1 rfl) ?_
        refine lv_ldc2 (v := 63) hx hb hown (hts _ q217) dX0_needs_32 ?_
        refine W.lcmp hx hb dX0_needs_35 ?_
        refine lv_if_le (tgt := 52) hx hb dX0_needs_36 (by decide) (fun c_3 => ?_) (fun c_3 => ?_)
        · exact absurd (hm.resolve_left (fun q => h0 q.1)).2 (fun q => q.elim (gp_clt' c_2) (gp_cle' c_3))
        · exact tl
    · have h0 : hw = 0 := (nI_eq (b := 0) (by omega) (by omega)).mp c_1
      refine lv_lload hx hb dX0_needs_9 (lv_at hl 1 rfl) ?_
      refine lv_ldc2 (v := 127) hx hb hown (hts _ q215) dX0_needs_11 ?_
      refine W.lcmp hx hb dX0_needs_14 ?_
      refine lv_if_le (tgt := 52) hx hb dX0_needs_15 (by decide) (fun c_2 => ?_) (fun c_2 => ?_)
      · exact absurd (hm.resolve_right (fun q => q.1 h0)).2 (gp_cle' c_2)
      · refine lv_goto (tgt := 39) hx hb dX0_needs_18 (by decide) ?_
        exact tl
set_option maxHeartbeats 4000000 in
/-- GroupedNumbers.needs(how, v) -/
theorem m_G_needs (l : Launch) (dC : Nat → ClassId) (dI : Nat → Nat → Nat) (cB : ClassId) (hw n : Nat) (v : Int64) (sz : Nat) (hw2 : hw ≤ 2) (hn : gp_Len hw v (n + 1)) : Met l yX0_needs (ws_ yX0_needs cX0_needs 6 (some .int)) ({ frames := 0, cells := 0, slots := 0, locals := 0 }) (gC dC dI [.int (nI hw), .long v] [] [(cB, .byte)] sz) (va_Qi (fun (r : Int32) (_ : Unit) => r = nI (n + 1)) (fun (_ : Unit) t => gB dC dI (va_A [] sz) [] t) (va_A [] sz)) 0 0 (va_A [] sz) := by
  refine Met.ofW (cc := cX0_needs) (maxL := 6) (ret := (some .int)) (by decide) rfl ?_
  intro p e s m args below meth c s₁ B hml hv
  obtain ⟨rfl, hsz, hP, hK, hD0⟩ := hv
  have hx := B.exec
  have hb := B.bytes
  have hr := B.returns
  have hts0 := atoms_spec (ws := (ws_ yX0_needs cX0_needs 6 (some .int))) B.pre
  have hts : ∀ w ∈ lw_all, w.before _ s = true := fun w h => hts0 w (List.mem_cons_of_mem _ h)
  have hown : s.vm.findClass RX0 = some m.cls := findClass_of_methodNamed B.named
  have hlocks := B.notSynchronized
  subst hsz
  have hD := hD0.self (sz := s.heap.size)
  generalize hAe : va_A [] s.heap.size = A at hD ⊢
  have hA : ∀ q : Nat, s.heap.size ≤ q → A q := fun q h => by rw [← hAe]; exact Or.inr h
  have hS : va_S A s.heap s.heap [] := va_S.rf
  have hP : va_P (dC, dI) vwCl [] s.heap := hP
  have hl := lv_entry ([.int (nI hw), .long v]) (n := 6) (Nat.le_of_ble_eq_true rfl)
  rw [lg_entry_eq]
  generalize (lg_sl ([.int (nI hw), .long v]) ++ List.replicate (6 - (lg_sl ([.int (nI hw), .long v])).length) Slot.unset).toArray = ls at hl ⊢
  have hl : lv_has ls 6 [(0, .int (nI hw)), (1, .long v)] := hl
  refine lv_iconst (v := 1) hx hb dX0_needs_0 (by decide) ?_
  refine lv_topi (fun z_1 ez_1 => ?_)
  rw [show z_1 = nI (0 + 1) from by rw [ez_1]; rfl]
  refine lv_istore_n (lv' := [(3, .int (nI (0 + 1))), (0, .int (nI hw)), (1, .long v)]) hx hb dX0_needs_1 rfl hl (by decide) rfl (fun ls hl => ?_)
  refine lv_lload_n hx hb dX0_needs_2 rfl (lv_at hl 2 rfl) ?_
  refine lv_topl (fun z_2 ez_2 => ?_)
  rw [show z_2 = gp_left v 0 from by rw [ez_2]; rfl]
  refine lv_lstore (lv' := [(4, .long (gp_left v 0)), (3, .int (nI (0 + 1))), (0, .int (nI hw)), (1, .long v)]) hx hb dX0_needs_3 hl (by decide) rfl (fun ls hl => ?_)
  refine lo_G_needs (cB := cB) (A := A) hx hb hml hown hts hA hK v hw n hw2 hn _ _ (fun ls hl => ?_) n 0 (by omega) ls (lv_sub hl [1, 0, 2, 3] rfl)
  refine lv_iload_n hx hb dX0_needs_52 rfl (lv_at hl 0 rfl) ?_
  exact W.iret (v := nI (n + 1)) hx hb hr (fun t ht hW => ⟨⟨nI (n + 1), (), rfl, rfl, by rw [ht]; exact hP, hD⟩, hS.F ht⟩) hS.2.2 dX0_needs_53
set_option maxHeartbeats 4000000 in
/-- GroupedNumbers.write, no such way -/
theorem m_G_writeN (l : Launch) (dC : Nat → ClassId) (dI : Nat → Nat → Nat) (cB : ClassId) (aX aF aR aO aA : Nat) (aB : Nat) (n k : Nat) (v p0 : Int64) (f : Nat → Int32) (x : Int32) (sz : Nat) (hx0 : x < 0 ∨ 2 < x) : Met l yX0_write (ws_ yX0_write cX0_write 5 (some .int)) ({ frames := 2, cells := 0, slots := 0, locals := 47 }) (gC dC dI [.ref aX, .int x, .long p0] [(aX, .inr (0, [.ref aF, .ref aR, .ref aO, .ref aA, .int (nI n), .long v])), (aO, .inr (3, [.ref aB, .int (nI k)])), (aB, .inl (cB, 4096, .inl f))] [(cB, .byte)] sz) (va_Qi (fun (r : Int32) (_ : Unit) => r = -2) (fun (_ : Unit) t => gB dC dI (va_A [(aX, .inr (0, [.ref aF, .ref aR, .ref aO, .ref aA, .int (nI n), .long v])), (aO, .inr (3, [.ref aB, .int (nI k)])), (aB, .inl (cB, 4096, .inl f))] sz) [(aX, .inr (0, [.ref aF, .ref aR, .ref aO, .ref aA, .int (nI n), .long v])), (aO, .inr (3, [.ref aB, .int (nI k)])), (aB, .inl (cB, 4096, .inl f))] t) (va_A [(aX, .inr (0, [.ref aF, .ref aR, .ref aO, .ref aA, .int (nI n), .long v])), (aO, .inr (3, [.ref aB, .int (nI k)])), (aB, .inl (cB, 4096, .inl f))] sz)) 0 0 (va_A [(aX, .inr (0, [.ref aF, .ref aR, .ref aO, .ref aA, .int (nI n), .long v])), (aO, .inr (3, [.ref aB, .int (nI k)])), (aB, .inl (cB, 4096, .inl f))] sz) := by
  refine Met.ofW (cc := cX0_write) (maxL := 5) (ret := (some .int)) (by decide) rfl ?_
  intro p e s m args below meth c s₁ B hml hv
  obtain ⟨rfl, hsz, hP, hK, hD0⟩ := hv
  have hx := B.exec
  have hb := B.bytes
  have hr := B.returns
  have hts0 := atoms_spec (ws := (ws_ yX0_write cX0_write 5 (some .int))) B.pre
  have hts : ∀ w ∈ lw_all, w.before _ s = true := fun w h => hts0 w (List.mem_cons_of_mem _ h)
  have hown : s.vm.findClass RX0 = some m.cls := findClass_of_methodNamed B.named
  have hlocks := B.notSynchronized
  subst hsz
  have hD := hD0.self (sz := s.heap.size)
  generalize hAe : va_A [(aX, .inr (0, [.ref aF, .ref aR, .ref aO, .ref aA, .int (nI n), .long v])), (aO, .inr (3, [.ref aB, .int (nI k)])), (aB, .inl (cB, 4096, .inl f))] s.heap.size = A at hD ⊢
  have hA : ∀ q : Nat, s.heap.size ≤ q → A q := fun q h => by rw [← hAe]; exact Or.inr h
  have hS : va_S A s.heap s.heap [] := va_S.rf
  have hP : va_P (dC, dI) vwCl [(aX, .inr (0, [.ref aF, .ref aR, .ref aO, .ref aA, .int (nI n), .long v])), (aO, .inr (3, [.ref aB, .int (nI k)])), (aB, .inl (cB, 4096, .inl f))] s.heap := hP
  have hl := lv_entry ([.ref aX, .int x, .long p0]) (n := 5) (Nat.le_of_ble_eq_true rfl)
  rw [lg_entry_eq]
  generalize (lg_sl ([.ref aX, .int x, .long p0]) ++ List.replicate (5 - (lg_sl ([.ref aX, .int x, .long p0])).length) Slot.unset).toArray = ls at hl ⊢
  have hl : lv_has ls 5 [(0, .ref aX), (1, .int x), (2, .long p0)] := hl
  refine lv_iload_n hx hb dX0_write_0 rfl (lv_at hl 1 rfl) ?_
  refine lv_if_lt (tgt := 9) hx hb dX0_write_1 (by decide) (fun c_1 => ?_) (fun c_1 => ?_)
  · refine lv_bipush (v := (-2)) hx hb dX0_write_9 (by decide) ?_
    exact W.iret (v := (-2)) hx hb hr (fun t ht hW => ⟨⟨(-2), (), rfl, rfl, by rw [ht]; exact hP, hD⟩, hS.F ht⟩) hS.2.2 dX0_write_11
  · refine lv_iload_n hx hb dX0_write_4 rfl (lv_at hl 1 rfl) ?_
    refine lv_iconst (v := 2) hx hb dX0_write_5 (by decide) ?_
    refine lv_icmp_le (tgt := 12) hx hb dX0_write_6 (by decide) (fun c_2 => ?_) (fun c_2 => ?_)
    · exact absurd hx0 (fun z => z.elim c_1 (Int32.not_lt.mpr c_2))
    · refine lv_bipush (v := (-2)) hx hb dX0_write_9 (by decide) ?_
      exact W.iret (v := (-2)) hx hb hr (fun t ht hW => ⟨⟨(-2), (), rfl, rfl, by rw [ht]; exact hP, hD⟩, hS.F ht⟩) hS.2.2 dX0_write_11
set_option maxHeartbeats 4000000 in
/-- GroupedNumbers.write, out of range -/
theorem m_G_writeR (l : Launch) (dC : Nat → ClassId) (dI : Nat → Nat → Nat) (cB : ClassId) (aX aF aR aO aA : Nat) (aB : Nat) (n k : Nat) (v p0 : Int64) (f : Nat → Int32) (hw : Nat) (sz : Nat) (hw2 : hw ≤ 2) (hr0 : gp_rng hw p0) : Met l yX0_write (ws_ yX0_write cX0_write 5 (some .int)) ({ frames := 2, cells := 0, slots := 0, locals := 47 }) (gC dC dI [.ref aX, .int (nI hw), .long p0] [(aX, .inr (0, [.ref aF, .ref aR, .ref aO, .ref aA, .int (nI n), .long v])), (aO, .inr (3, [.ref aB, .int (nI k)])), (aB, .inl (cB, 4096, .inl f))] [(cB, .byte)] sz) (va_Qi (fun (r : Int32) (_ : Unit) => r = -1) (fun (_ : Unit) t => gB dC dI (va_A [(aX, .inr (0, [.ref aF, .ref aR, .ref aO, .ref aA, .int (nI n), .long v])), (aO, .inr (3, [.ref aB, .int (nI k)])), (aB, .inl (cB, 4096, .inl f))] sz) [(aX, .inr (0, [.ref aF, .ref aR, .ref aO, .ref aA, .int (nI n), .long v])), (aO, .inr (3, [.ref aB, .int (nI k)])), (aB, .inl (cB, 4096, .inl f))] t) (va_A [(aX, .inr (0, [.ref aF, .ref aR, .ref aO, .ref aA, .int (nI n), .long v])), (aO, .inr (3, [.ref aB, .int (nI k)])), (aB, .inl (cB, 4096, .inl f))] sz)) 0 0 (va_A [(aX, .inr (0, [.ref aF, .ref aR, .ref aO, .ref aA, .int (nI n), .long v])), (aO, .inr (3, [.ref aB, .int (nI k)])), (aB, .inl (cB, 4096, .inl f))] sz) := by
  refine Met.ofW (cc := cX0_write) (maxL := 5) (ret := (some .int)) (by decide) rfl ?_
  intro p e s m args below meth c s₁ B hml hv
  obtain ⟨rfl, hsz, hP, hK, hD0⟩ := hv
  have hx := B.exec
  have hb := B.bytes
  have hr := B.returns
  have hts0 := atoms_spec (ws := (ws_ yX0_write cX0_write 5 (some .int))) B.pre
  have hts : ∀ w ∈ lw_all, w.before _ s = true := fun w h => hts0 w (List.mem_cons_of_mem _ h)
  have hown : s.vm.findClass RX0 = some m.cls := findClass_of_methodNamed B.named
  have hlocks := B.notSynchronized
  subst hsz
  have hD := hD0.self (sz := s.heap.size)
  generalize hAe : va_A [(aX, .inr (0, [.ref aF, .ref aR, .ref aO, .ref aA, .int (nI n), .long v])), (aO, .inr (3, [.ref aB, .int (nI k)])), (aB, .inl (cB, 4096, .inl f))] s.heap.size = A at hD ⊢
  have hA : ∀ q : Nat, s.heap.size ≤ q → A q := fun q h => by rw [← hAe]; exact Or.inr h
  have hS : va_S A s.heap s.heap [] := va_S.rf
  have hP : va_P (dC, dI) vwCl [(aX, .inr (0, [.ref aF, .ref aR, .ref aO, .ref aA, .int (nI n), .long v])), (aO, .inr (3, [.ref aB, .int (nI k)])), (aB, .inl (cB, 4096, .inl f))] s.heap := hP
  have hl := lv_entry ([.ref aX, .int (nI hw), .long p0]) (n := 5) (Nat.le_of_ble_eq_true rfl)
  rw [lg_entry_eq]
  generalize (lg_sl ([.ref aX, .int (nI hw), .long p0]) ++ List.replicate (5 - (lg_sl ([.ref aX, .int (nI hw), .long p0])).length) Slot.unset).toArray = ls at hl ⊢
  have hl : lv_has ls 5 [(0, .ref aX), (1, .int (nI hw)), (2, .long p0)] := hl
  rcases (show hw = 0 ∨ hw = 1 ∨ hw = 2 by omega) with rfl | rfl | rfl
  · refine lv_iload_n hx hb dX0_write_0 rfl (lv_at hl 1 rfl) ?_
    refine lv_if_lt (tgt := 9) hx hb dX0_write_1 (by decide) (fun c_1 => ?_) (fun c_1 => ?_)
    · exact absurd c_1 (by decide)
    · refine lv_iload_n hx hb dX0_write_4 rfl (lv_at hl 1 rfl) ?_
      refine lv_iconst (v := 2) hx hb dX0_write_5 (by decide) ?_
      refine lv_icmp_le (tgt := 12) hx hb dX0_write_6 (by decide) (fun c_2 => ?_) (fun c_2 => ?_)
      · refine lv_iload_n hx hb dX0_write_12 rfl (lv_at hl 1 rfl) ?_
        refine lv_if_ne (tgt := 30) hx hb dX0_write_13 (by decide) (fun c_3 => ?_) (fun c_3 => ?_)
        · exact absurd rfl c_3
        · refine lv_lload_n hx hb dX0_write_16 rfl (lv_at hl 2 rfl) ?_
          refine lv_lconst (v := 0) hx hb dX0_write_17 rfl ?_
          refine W.lcmp hx hb dX0_write_18 ?_
          refine lv_if_lt (tgt := 43) hx hb dX0_write_19 (by decide) (fun c_4 => ?_) (fun c_4 => ?_)
          · refine lv_iconst (v := (-1)) hx hb dX0_write_43 (by decide) ?_
            exact W.iret (v := (-1)) hx hb hr (fun t ht hW => ⟨⟨(-1), (), rfl, rfl, by rw [ht]; exact hP, hD⟩, hS.F ht⟩) hS.2.2 dX0_write_44
          · refine lv_lload_n hx hb dX0_write_22 rfl (lv_at hl 2 rfl) ?_
            refine lv_ldc2 (v := 4294967295) hx hb hown (hts _ q211) dX0_write_23 ?_
            refine W.lcmp hx hb dX0_write_26 ?_
            refine lv_if_gt (tgt := 43) hx hb dX0_write_27 (by decide) (fun c_5 => ?_) (fun c_5 => ?_)
            · refine lv_iconst (v := (-1)) hx hb dX0_write_43 (by decide) ?_
              exact W.iret (v := (-1)) hx hb hr (fun t ht hW => ⟨⟨(-1), (), rfl, rfl, by rw [ht]; exact hP, hD⟩, hS.F ht⟩) hS.2.2 dX0_write_44
            · exact absurd hr0 (fun z => z.elim (fun z => z.2.elim (gp_clt' c_4) (mt (lg_cmp_gt _ _).mpr c_5)) (fun z => absurd z.1 (by decide)))
      · exact absurd (by decide) c_2
  · refine lv_iload_n hx hb dX0_write_0 rfl (lv_at hl 1 rfl) ?_
    refine lv_if_lt (tgt := 9) hx hb dX0_write_1 (by decide) (fun c_1 => ?_) (fun c_1 => ?_)
    · exact absurd c_1 (by decide)
    · refine lv_iload_n hx hb dX0_write_4 rfl (lv_at hl 1 rfl) ?_
      refine lv_iconst (v := 2) hx hb dX0_write_5 (by decide) ?_
      refine lv_icmp_le (tgt := 12) hx hb dX0_write_6 (by decide) (fun c_2 => ?_) (fun c_2 => ?_)
      · refine lv_iload_n hx hb dX0_write_12 rfl (lv_at hl 1 rfl) ?_
        refine lv_if_ne (tgt := 30) hx hb dX0_write_13 (by decide) (fun c_3 => ?_) (fun c_3 => ?_)
        · refine lv_iload_n hx hb dX0_write_30 rfl (lv_at hl 1 rfl) ?_
          refine lv_iconst (v := 1) hx hb dX0_write_31 (by decide) ?_
          refine lv_icmp_ne (tgt := 45) hx hb dX0_write_32 (by decide) (fun c_4 => ?_) (fun c_4 => ?_)
          · exact absurd rfl c_4
          · refine lv_lload_n hx hb dX0_write_35 rfl (lv_at hl 2 rfl) ?_
            refine lv_lload_n hx hb dX0_write_36 rfl (lv_at hl 2 rfl) ?_
            refine lv_l2i (v := (p0).toInt32) hx hb dX0_write_37 rfl ?_
            refine lv_i2l (v := (((p0).toInt32)).toInt64) hx hb dX0_write_38 rfl ?_
            refine W.lcmp hx hb dX0_write_39 ?_
            refine lv_if_eq (tgt := 45) hx hb dX0_write_40 (by decide) (fun c_5 => ?_) (fun c_5 => ?_)
            · exact absurd hr0 (fun z => z.elim (fun z => absurd z.1 (by decide)) (fun z => z.2 ((lg_cmp_eq _ _).mp c_5)))
            · refine lv_iconst (v := (-1)) hx hb dX0_write_43 (by decide) ?_
              exact W.iret (v := (-1)) hx hb hr (fun t ht hW => ⟨⟨(-1), (), rfl, rfl, by rw [ht]; exact hP, hD⟩, hS.F ht⟩) hS.2.2 dX0_write_44
        · exact absurd c_3 (by decide)
      · exact absurd (by decide) c_2
  · refine lv_iload_n hx hb dX0_write_0 rfl (lv_at hl 1 rfl) ?_
    refine lv_if_lt (tgt := 9) hx hb dX0_write_1 (by decide) (fun c_1 => ?_) (fun c_1 => ?_)
    · exact absurd c_1 (by decide)
    · refine lv_iload_n hx hb dX0_write_4 rfl (lv_at hl 1 rfl) ?_
      refine lv_iconst (v := 2) hx hb dX0_write_5 (by decide) ?_
      refine lv_icmp_le (tgt := 12) hx hb dX0_write_6 (by decide) (fun c_2 => ?_) (fun c_2 => ?_)
      · refine lv_iload_n hx hb dX0_write_12 rfl (lv_at hl 1 rfl) ?_
        refine lv_if_ne (tgt := 30) hx hb dX0_write_13 (by decide) (fun c_3 => ?_) (fun c_3 => ?_)
        · refine lv_iload_n hx hb dX0_write_30 rfl (lv_at hl 1 rfl) ?_
          refine lv_iconst (v := 1) hx hb dX0_write_31 (by decide) ?_
          refine lv_icmp_ne (tgt := 45) hx hb dX0_write_32 (by decide) (fun c_4 => ?_) (fun c_4 => ?_)
          · exact absurd hr0 (fun z => z.elim (fun z => absurd z.1 (by decide)) (fun z => absurd z.1 (by decide)))
          · exact absurd c_4 (by decide)
        · exact absurd c_3 (by decide)
      · exact absurd (by decide) c_2
set_option maxHeartbeats 4000000 in
/-- GroupedNumbers.write, no room -/
theorem m_G_writeF (l : Launch) (dC : Nat → ClassId) (dI : Nat → Nat → Nat) (cB : ClassId) (aX aF aR aO aA : Nat) (aB : Nat) (n k : Nat) (v p0 : Int64) (f : Nat → Int32) (hw : Nat) (n2 : Nat) (sz : Nat) (hw2 : hw ≤ 2) (hr0 : ¬ gp_rng hw p0) (hl0 : gp_Len hw p0 (n2 + 1)) (hk0 : k ≤ 1000) (hk : 1000 < k + n2 + 1) : Met l yX0_write (ws_ yX0_write cX0_write 5 (some .int)) ({ frames := 2, cells := 0, slots := 0, locals := 47 }) (gC dC dI [.ref aX, .int (nI hw), .long p0] [(aX, .inr (0, [.ref aF, .ref aR, .ref aO, .ref aA, .int (nI n), .long v])), (aO, .inr (3, [.ref aB, .int (nI k)])), (aB, .inl (cB, 4096, .inl f))] [(cB, .byte)] sz) (va_Qi (fun (r : Int32) (_ : Unit) => r = -2) (fun (_ : Unit) t => gB dC dI (va_A [(aX, .inr (0, [.ref aF, .ref aR, .ref aO, .ref aA, .int (nI n), .long v])), (aO, .inr (3, [.ref aB, .int (nI k)])), (aB, .inl (cB, 4096, .inl f))] sz) [(aX, .inr (0, [.ref aF, .ref aR, .ref aO, .ref aA, .int (nI n), .long v])), (aO, .inr (3, [.ref aB, .int (nI k)])), (aB, .inl (cB, 4096, .inl f))] t) (va_A [(aX, .inr (0, [.ref aF, .ref aR, .ref aO, .ref aA, .int (nI n), .long v])), (aO, .inr (3, [.ref aB, .int (nI k)])), (aB, .inl (cB, 4096, .inl f))] sz)) 0 0 (va_A [(aX, .inr (0, [.ref aF, .ref aR, .ref aO, .ref aA, .int (nI n), .long v])), (aO, .inr (3, [.ref aB, .int (nI k)])), (aB, .inl (cB, 4096, .inl f))] sz) := by
  refine Met.ofW (cc := cX0_write) (maxL := 5) (ret := (some .int)) (by decide) rfl ?_
  intro p e s m args below meth c s₁ B hml hv
  obtain ⟨rfl, hsz, hP, hK, hD0⟩ := hv
  have hx := B.exec
  have hb := B.bytes
  have hr := B.returns
  have hts0 := atoms_spec (ws := (ws_ yX0_write cX0_write 5 (some .int))) B.pre
  have hts : ∀ w ∈ lw_all, w.before _ s = true := fun w h => hts0 w (List.mem_cons_of_mem _ h)
  have hown : s.vm.findClass RX0 = some m.cls := findClass_of_methodNamed B.named
  have hlocks := B.notSynchronized
  subst hsz
  have hD := hD0.self (sz := s.heap.size)
  generalize hAe : va_A [(aX, .inr (0, [.ref aF, .ref aR, .ref aO, .ref aA, .int (nI n), .long v])), (aO, .inr (3, [.ref aB, .int (nI k)])), (aB, .inl (cB, 4096, .inl f))] s.heap.size = A at hD ⊢
  have hA : ∀ q : Nat, s.heap.size ≤ q → A q := fun q h => by rw [← hAe]; exact Or.inr h
  have hS : va_S A s.heap s.heap [] := va_S.rf
  have hP : va_P (dC, dI) vwCl [(aX, .inr (0, [.ref aF, .ref aR, .ref aO, .ref aA, .int (nI n), .long v])), (aO, .inr (3, [.ref aB, .int (nI k)])), (aB, .inl (cB, 4096, .inl f))] s.heap := hP
  have hl := lv_entry ([.ref aX, .int (nI hw), .long p0]) (n := 5) (Nat.le_of_ble_eq_true rfl)
  rw [lg_entry_eq]
  generalize (lg_sl ([.ref aX, .int (nI hw), .long p0]) ++ List.replicate (5 - (lg_sl ([.ref aX, .int (nI hw), .long p0])).length) Slot.unset).toArray = ls at hl ⊢
  have hl : lv_has ls 5 [(0, .ref aX), (1, .int (nI hw)), (2, .long p0)] := hl
  have hn9 : n2 + 1 ≤ 10 := hl0.2.1
  rcases (show hw = 0 ∨ hw = 1 ∨ hw = 2 by omega) with rfl | rfl | rfl
  · refine lv_iload_n hx hb dX0_write_0 rfl (lv_at hl 1 rfl) ?_
    refine lv_if_lt (tgt := 9) hx hb dX0_write_1 (by decide) (fun c_1 => ?_) (fun c_1 => ?_)
    · exact absurd c_1 (by decide)
    · refine lv_iload_n hx hb dX0_write_4 rfl (lv_at hl 1 rfl) ?_
      refine lv_iconst (v := 2) hx hb dX0_write_5 (by decide) ?_
      refine lv_icmp_le (tgt := 12) hx hb dX0_write_6 (by decide) (fun c_2 => ?_) (fun c_2 => ?_)
      · refine lv_iload_n hx hb dX0_write_12 rfl (lv_at hl 1 rfl) ?_
        refine lv_if_ne (tgt := 30) hx hb dX0_write_13 (by decide) (fun c_3 => ?_) (fun c_3 => ?_)
        · exact absurd rfl c_3
        · refine lv_lload_n hx hb dX0_write_16 rfl (lv_at hl 2 rfl) ?_
          refine lv_lconst (v := 0) hx hb dX0_write_17 rfl ?_
          refine W.lcmp hx hb dX0_write_18 ?_
          refine lv_if_lt (tgt := 43) hx hb dX0_write_19 (by decide) (fun c_4 => ?_) (fun c_4 => ?_)
          · exact absurd (Or.inl ⟨rfl, Or.inl (gp_clt c_4)⟩) hr0
          · refine lv_lload_n hx hb dX0_write_22 rfl (lv_at hl 2 rfl) ?_
            refine lv_ldc2 (v := 4294967295) hx hb hown (hts _ q211) dX0_write_23 ?_
            refine W.lcmp hx hb dX0_write_26 ?_
            refine lv_if_gt (tgt := 43) hx hb dX0_write_27 (by decide) (fun c_5 => ?_) (fun c_5 => ?_)
            · exact absurd (Or.inl ⟨rfl, Or.inr ((lg_cmp_gt _ _).mp c_5)⟩) hr0
            · refine lv_iload_n hx hb dX0_write_30 rfl (lv_at hl 1 rfl) ?_
              refine lv_iconst (v := 1) hx hb dX0_write_31 (by decide) ?_
              refine lv_icmp_ne (tgt := 45) hx hb dX0_write_32 (by decide) (fun c_6 => ?_) (fun c_6 => ?_)
              · refine lv_iload_n hx hb dX0_write_45 rfl (lv_at hl 1 rfl) ?_
                refine lv_lload_n hx hb dX0_write_46 rfl (lv_at hl 2 rfl) ?_
                have hPc := hP.sub (ws' := []) [] rfl
                have hDc := hD.sub (ws' := []) [] (by decide) rfl
                have hFc := va_free (wc := []) hD hS hA [] rfl
                refine va_calli (va_runS (As := [.int (nI 0), .long p0]) (rest := []) ⟨hx, hb, hml, hown, hts⟩ (m_G_needs l dC dI cB 0 n2 p0 _ (by decide) hl0) (va_cwS 2 hts (lw_S q212 q213 q4 q214) rfl rfl rfl (by decide +kernel) ⟨Nat.le_of_ble_eq_true rfl, Nat.le_of_ble_eq_true rfl⟩) ⟨gC_bl, gC_of hPc hK hDc⟩ rfl rfl hl.1 rfl (lv_room (Nat.le_of_ble_eq_true rfl)) dX0_write_47 ⟨Nat.le_of_ble_eq_true rfl, Nat.le_of_ble_eq_true rfl⟩) hS (fun q _ h => hFc q h) hFc (fun r_7 u t H1 locs ht hvm hw hB hz1 hk1 hS => ?_)
                obtain ⟨hP1, hD1⟩ := hB
                rw [ht] at hP1
                obtain ⟨hP, hD⟩ := va_join (wr := [(aX, .inr (0, [.ref aF, .ref aR, .ref aO, .ref aA, .int (nI n), .long v])), (aO, .inr (3, [.ref aB, .int (nI k)])), (aB, .inl (cB, 4096, .inl f))]) (w1 := []) hP hD [] [0, 1, 2] rfl rfl (by decide) (by decide) hk1 hFc hP1 hD1
                have hP := hP.sub (ws' := [(aX, .inr (0, [.ref aF, .ref aR, .ref aO, .ref aA, .int (nI n), .long v])), (aO, .inr (3, [.ref aB, .int (nI k)])), (aB, .inl (cB, 4096, .inl f))]) [0, 1, 2] rfl
                have hD := hD.sub (ws' := [(aX, .inr (0, [.ref aF, .ref aR, .ref aO, .ref aA, .int (nI n), .long v])), (aO, .inr (3, [.ref aB, .int (nI k)])), (aB, .inl (cB, 4096, .inl f))]) [0, 1, 2] (by decide) rfl
                generalize H1 = H at hP hS ⊢
                subst hw
                refine lv_istore (lv' := [(4, .int (nI (n2 + 1))), (0, .ref aX), (1, .int (nI 0)), (2, .long p0)]) hx hb dX0_write_50 hl (by decide) rfl (fun ls hl => ?_)
                refine lv_aload_n hx hb dX0_write_52 rfl (lv_at hl 1 rfl) ?_
                refine va_get (D := (dC, dI)) (ci := 0) (v := .ref aO) (C := RX0) (T := TX0) (N := 6) hx hb hts in_X0 hown hK hP 0 rfl rfl 2 (by decide) (hts _ q141) (fun _ h9 => h9) rfl dX0_write_53 ?_
                refine va_get (D := (dC, dI)) (ci := 3) (v := .int (nI k)) (C := RX3) (T := TX3) (N := 2) hx hb hts in_X3 hown hK hP 1 rfl rfl 1 (by decide) (hts _ q129) (fun _ h9 => h9) rfl dX0_write_56 ?_
                refine lv_iload hx hb dX0_write_59 (lv_at hl 0 rfl) ?_
                refine lv_iadd hx hb dX0_write_61 ?_
                refine lv_topi (fun z_8 ez_8 => ?_)
                rw [show z_8 = nI (k + (n2 + 1)) from by rw [ez_8]; exact nI_add k (n2 + 1)]
                refine lv_sipush (v := 1000) hx hb dX0_write_62 (by decide) ?_
                refine lv_icmp_le (tgt := 71) hx hb dX0_write_65 (by decide) (fun c_9 => ?_) (fun c_9 => ?_)
                · exact absurd (gp_le (b := 1000) (by omega) (by omega) c_9) (by omega)
                · refine lv_bipush (v := (-2)) hx hb dX0_write_68 (by decide) ?_
                  exact W.iret (v := (-2)) hx hb hr (fun t ht hW => ⟨⟨(-2), (), rfl, rfl, by rw [ht]; exact hP, hD⟩, hS.F ht⟩) hS.2.2 dX0_write_70
              · exact absurd c_6 (by decide)
      · exact absurd (by decide) c_2
  · refine lv_iload_n hx hb dX0_write_0 rfl (lv_at hl 1 rfl) ?_
    refine lv_if_lt (tgt := 9) hx hb dX0_write_1 (by decide) (fun c_1 => ?_) (fun c_1 => ?_)
    · exact absurd c_1 (by decide)
    · refine lv_iload_n hx hb dX0_write_4 rfl (lv_at hl 1 rfl) ?_
      refine lv_iconst (v := 2) hx hb dX0_write_5 (by decide) ?_
      refine lv_icmp_le (tgt := 12) hx hb dX0_write_6 (by decide) (fun c_2 => ?_) (fun c_2 => ?_)
      · refine lv_iload_n hx hb dX0_write_12 rfl (lv_at hl 1 rfl) ?_
        refine lv_if_ne (tgt := 30) hx hb dX0_write_13 (by decide) (fun c_3 => ?_) (fun c_3 => ?_)
        · refine lv_iload_n hx hb dX0_write_30 rfl (lv_at hl 1 rfl) ?_
          refine lv_iconst (v := 1) hx hb dX0_write_31 (by decide) ?_
          refine lv_icmp_ne (tgt := 45) hx hb dX0_write_32 (by decide) (fun c_4 => ?_) (fun c_4 => ?_)
          · exact absurd rfl c_4
          · refine lv_lload_n hx hb dX0_write_35 rfl (lv_at hl 2 rfl) ?_
            refine lv_lload_n hx hb dX0_write_36 rfl (lv_at hl 2 rfl) ?_
            refine lv_l2i (v := (p0).toInt32) hx hb dX0_write_37 rfl ?_
            refine lv_i2l (v := (((p0).toInt32)).toInt64) hx hb dX0_write_38 rfl ?_
            refine W.lcmp hx hb dX0_write_39 ?_
            refine lv_if_eq (tgt := 45) hx hb dX0_write_40 (by decide) (fun c_5 => ?_) (fun c_5 => ?_)
            · refine lv_iload_n hx hb dX0_write_45 rfl (lv_at hl 1 rfl) ?_
              refine lv_lload_n hx hb dX0_write_46 rfl (lv_at hl 2 rfl) ?_
              have hPc := hP.sub (ws' := []) [] rfl
              have hDc := hD.sub (ws' := []) [] (by decide) rfl
              have hFc := va_free (wc := []) hD hS hA [] rfl
              refine va_calli (va_runS (As := [.int (nI 1), .long p0]) (rest := []) ⟨hx, hb, hml, hown, hts⟩ (m_G_needs l dC dI cB 1 n2 p0 _ (by decide) hl0) (va_cwS 2 hts (lw_S q212 q213 q4 q214) rfl rfl rfl (by decide +kernel) ⟨Nat.le_of_ble_eq_true rfl, Nat.le_of_ble_eq_true rfl⟩) ⟨gC_bl, gC_of hPc hK hDc⟩ rfl rfl hl.1 rfl (lv_room (Nat.le_of_ble_eq_true rfl)) dX0_write_47 ⟨Nat.le_of_ble_eq_true rfl, Nat.le_of_ble_eq_true rfl⟩) hS (fun q _ h => hFc q h) hFc (fun r_6 u t H1 locs ht hvm hw hB hz1 hk1 hS => ?_)
              obtain ⟨hP1, hD1⟩ := hB
              rw [ht] at hP1
              obtain ⟨hP, hD⟩ := va_join (wr := [(aX, .inr (0, [.ref aF, .ref aR, .ref aO, .ref aA, .int (nI n), .long v])), (aO, .inr (3, [.ref aB, .int (nI k)])), (aB, .inl (cB, 4096, .inl f))]) (w1 := []) hP hD [] [0, 1, 2] rfl rfl (by decide) (by decide) hk1 hFc hP1 hD1
              have hP := hP.sub (ws' := [(aX, .inr (0, [.ref aF, .ref aR, .ref aO, .ref aA, .int (nI n), .long v])), (aO, .inr (3, [.ref aB, .int (nI k)])), (aB, .inl (cB, 4096, .inl f))]) [0, 1, 2] rfl
              have hD := hD.sub (ws' := [(aX, .inr (0, [.ref aF, .ref aR, .ref aO, .ref aA, .int (nI n), .long v])), (aO, .inr (3, [.ref aB, .int (nI k)])), (aB, .inl (cB, 4096, .inl f))]) [0, 1, 2] (by decide) rfl
              generalize H1 = H at hP hS ⊢
              subst hw
              refine lv_istore (lv' := [(4, .int (nI (n2 + 1))), (0, .ref aX), (1, .int (nI 1)), (2, .long p0)]) hx hb dX0_write_50 hl (by decide) rfl (fun ls hl => ?_)
              refine lv_aload_n hx hb dX0_write_52 rfl (lv_at hl 1 rfl) ?_
              refine va_get (D := (dC, dI)) (ci := 0) (v := .ref aO) (C := RX0) (T := TX0) (N := 6) hx hb hts in_X0 hown hK hP 0 rfl rfl 2 (by decide) (hts _ q141) (fun _ h9 => h9) rfl dX0_write_53 ?_
              refine va_get (D := (dC, dI)) (ci := 3) (v := .int (nI k)) (C := RX3) (T := TX3) (N := 2) hx hb hts in_X3 hown hK hP 1 rfl rfl 1 (by decide) (hts _ q129) (fun _ h9 => h9) rfl dX0_write_56 ?_
              refine lv_iload hx hb dX0_write_59 (lv_at hl 0 rfl) ?_
              refine lv_iadd hx hb dX0_write_61 ?_
              refine lv_topi (fun z_7 ez_7 => ?_)
              rw [show z_7 = nI (k + (n2 + 1)) from by rw [ez_7]; exact nI_add k (n2 + 1)]
              refine lv_sipush (v := 1000) hx hb dX0_write_62 (by decide) ?_
              refine lv_icmp_le (tgt := 71) hx hb dX0_write_65 (by decide) (fun c_8 => ?_) (fun c_8 => ?_)
              · exact absurd (gp_le (b := 1000) (by omega) (by omega) c_8) (by omega)
              · refine lv_bipush (v := (-2)) hx hb dX0_write_68 (by decide) ?_
                exact W.iret (v := (-2)) hx hb hr (fun t ht hW => ⟨⟨(-2), (), rfl, rfl, by rw [ht]; exact hP, hD⟩, hS.F ht⟩) hS.2.2 dX0_write_70
            · exact absurd (Or.inr ⟨rfl, mt (lg_cmp_eq _ _).mpr c_5⟩) hr0
        · exact absurd c_3 (by decide)
      · exact absurd (by decide) c_2
  · refine lv_iload_n hx hb dX0_write_0 rfl (lv_at hl 1 rfl) ?_
    refine lv_if_lt (tgt := 9) hx hb dX0_write_1 (by decide) (fun c_1 => ?_) (fun c_1 => ?_)
    · exact absurd c_1 (by decide)
    · refine lv_iload_n hx hb dX0_write_4 rfl (lv_at hl 1 rfl) ?_
      refine lv_iconst (v := 2) hx hb dX0_write_5 (by decide) ?_
      refine lv_icmp_le (tgt := 12) hx hb dX0_write_6 (by decide) (fun c_2 => ?_) (fun c_2 => ?_)
      · refine lv_iload_n hx hb dX0_write_12 rfl (lv_at hl 1 rfl) ?_
        refine lv_if_ne (tgt := 30) hx hb dX0_write_13 (by decide) (fun c_3 => ?_) (fun c_3 => ?_)
        · refine lv_iload_n hx hb dX0_write_30 rfl (lv_at hl 1 rfl) ?_
          refine lv_iconst (v := 1) hx hb dX0_write_31 (by decide) ?_
          refine lv_icmp_ne (tgt := 45) hx hb dX0_write_32 (by decide) (fun c_4 => ?_) (fun c_4 => ?_)
          · refine lv_iload_n hx hb dX0_write_45 rfl (lv_at hl 1 rfl) ?_
            refine lv_lload_n hx hb dX0_write_46 rfl (lv_at hl 2 rfl) ?_
            have hPc := hP.sub (ws' := []) [] rfl
            have hDc := hD.sub (ws' := []) [] (by decide) rfl
            have hFc := va_free (wc := []) hD hS hA [] rfl
            refine va_calli (va_runS (As := [.int (nI 2), .long p0]) (rest := []) ⟨hx, hb, hml, hown, hts⟩ (m_G_needs l dC dI cB 2 n2 p0 _ (by decide) hl0) (va_cwS 2 hts (lw_S q212 q213 q4 q214) rfl rfl rfl (by decide +kernel) ⟨Nat.le_of_ble_eq_true rfl, Nat.le_of_ble_eq_true rfl⟩) ⟨gC_bl, gC_of hPc hK hDc⟩ rfl rfl hl.1 rfl (lv_room (Nat.le_of_ble_eq_true rfl)) dX0_write_47 ⟨Nat.le_of_ble_eq_true rfl, Nat.le_of_ble_eq_true rfl⟩) hS (fun q _ h => hFc q h) hFc (fun r_5 u t H1 locs ht hvm hw hB hz1 hk1 hS => ?_)
            obtain ⟨hP1, hD1⟩ := hB
            rw [ht] at hP1
            obtain ⟨hP, hD⟩ := va_join (wr := [(aX, .inr (0, [.ref aF, .ref aR, .ref aO, .ref aA, .int (nI n), .long v])), (aO, .inr (3, [.ref aB, .int (nI k)])), (aB, .inl (cB, 4096, .inl f))]) (w1 := []) hP hD [] [0, 1, 2] rfl rfl (by decide) (by decide) hk1 hFc hP1 hD1
            have hP := hP.sub (ws' := [(aX, .inr (0, [.ref aF, .ref aR, .ref aO, .ref aA, .int (nI n), .long v])), (aO, .inr (3, [.ref aB, .int (nI k)])), (aB, .inl (cB, 4096, .inl f))]) [0, 1, 2] rfl
            have hD := hD.sub (ws' := [(aX, .inr (0, [.ref aF, .ref aR, .ref aO, .ref aA, .int (nI n), .long v])), (aO, .inr (3, [.ref aB, .int (nI k)])), (aB, .inl (cB, 4096, .inl f))]) [0, 1, 2] (by decide) rfl
            generalize H1 = H at hP hS ⊢
            subst hw
            refine lv_istore (lv' := [(4, .int (nI (n2 + 1))), (0, .ref aX), (1, .int (nI 2)), (2, .long p0)]) hx hb dX0_write_50 hl (by decide) rfl (fun ls hl => ?_)
            refine lv_aload_n hx hb dX0_write_52 rfl (lv_at hl 1 rfl) ?_
            refine va_get (D := (dC, dI)) (ci := 0) (v := .ref aO) (C := RX0) (T := TX0) (N := 6) hx hb hts in_X0 hown hK hP 0 rfl rfl 2 (by decide) (hts _ q141) (fun _ h9 => h9) rfl dX0_write_53 ?_
            refine va_get (D := (dC, dI)) (ci := 3) (v := .int (nI k)) (C := RX3) (T := TX3) (N := 2) hx hb hts in_X3 hown hK hP 1 rfl rfl 1 (by decide) (hts _ q129) (fun _ h9 => h9) rfl dX0_write_56 ?_
            refine lv_iload hx hb dX0_write_59 (lv_at hl 0 rfl) ?_
            refine lv_iadd hx hb dX0_write_61 ?_
            refine lv_topi (fun z_6 ez_6 => ?_)
            rw [show z_6 = nI (k + (n2 + 1)) from by rw [ez_6]; exact nI_add k (n2 + 1)]
            refine lv_sipush (v := 1000) hx hb dX0_write_62 (by decide) ?_
            refine lv_icmp_le (tgt := 71) hx hb dX0_write_65 (by decide) (fun c_7 => ?_) (fun c_7 => ?_)
            · exact absurd (gp_le (b := 1000) (by omega) (by omega) c_7) (by omega)
            · refine lv_bipush (v := (-2)) hx hb dX0_write_68 (by decide) ?_
              exact W.iret (v := (-2)) hx hb hr (fun t ht hW => ⟨⟨(-2), (), rfl, rfl, by rw [ht]; exact hP, hD⟩, hS.F ht⟩) hS.2.2 dX0_write_70
          · exact absurd c_4 (by decide)
        · exact absurd c_3 (by decide)
      · exact absurd (by decide) c_2
set_option maxHeartbeats 4000000 in
/-- GroupedNumbers.write: n2 + 1 bytes more -/
theorem m_G_write (l : Launch) (dC : Nat → ClassId) (dI : Nat → Nat → Nat) (cB : ClassId) (aX aF aR aO aA : Nat) (aB : Nat) (n k : Nat) (v p0 : Int64) (f : Nat → Int32) (hw : Nat) (n2 : Nat) (sz : Nat) (hw2 : hw ≤ 2) (hr0 : ¬ gp_rng hw p0) (hl0 : gp_Len hw p0 (n2 + 1)) (hk : k + n2 + 1 ≤ 1000) : Met l yX0_write (ws_ yX0_write cX0_write 5 (some .int)) ({ frames := 2, cells := 0, slots := 0, locals := 47 }) (gC dC dI [.ref aX, .int (nI hw), .long p0] [(aX, .inr (0, [.ref aF, .ref aR, .ref aO, .ref aA, .int (nI n), .long v])), (aO, .inr (3, [.ref aB, .int (nI k)])), (aB, .inl (cB, 4096, .inl f))] [(cB, .byte)] sz) (va_Qi (fun (r : Int32) (_ : Unit) => r = nI (n2 + 1)) (fun (_ : Unit) t => gB dC dI (va_A [(aX, .inr (0, [.ref aF, .ref aR, .ref aO, .ref aA, .int (nI n), .long v])), (aO, .inr (3, [.ref aB, .int (nI k)])), (aB, .inl (cB, 4096, .inl f))] sz) [(aX, .inr (0, [.ref aF, .ref aR, .ref aO, .ref aA, .int (nI n), .long v])), (aO, .inr (3, [.ref aB, .int (nI (k + n2 + 1))])), (aB, .inl (cB, 4096, .inl (gp_emit p0 (n2 + 1) f k (n2 + 1))))] t) (va_A [(aX, .inr (0, [.ref aF, .ref aR, .ref aO, .ref aA, .int (nI n), .long v])), (aO, .inr (3, [.ref aB, .int (nI k)])), (aB, .inl (cB, 4096, .inl f))] sz)) 0 0 (va_A [(aX, .inr (0, [.ref aF, .ref aR, .ref aO, .ref aA, .int (nI n), .long v])), (aO, .inr (3, [.ref aB, .int (nI k)])), (aB, .inl (cB, 4096, .inl f))] sz) := by
  refine Met.ofW (cc := cX0_write) (maxL := 5) (ret := (some .int)) (by decide) rfl ?_
  intro p e s m args below meth c s₁ B hml hv
  obtain ⟨rfl, hsz, hP, hK, hD0⟩ := hv
  have hx := B.exec
  have hb := B.bytes
  have hr := B.returns
  have hts0 := atoms_spec (ws := (ws_ yX0_write cX0_write 5 (some .int))) B.pre
  have hts : ∀ w ∈ lw_all, w.before _ s = true := fun w h => hts0 w (List.mem_cons_of_mem _ h)
  have hown : s.vm.findClass RX0 = some m.cls := findClass_of_methodNamed B.named
  have hlocks := B.notSynchronized
  subst hsz
  have hD := hD0.self (sz := s.heap.size)
  generalize hAe : va_A [(aX, .inr (0, [.ref aF, .ref aR, .ref aO, .ref aA, .int (nI n), .long v])), (aO, .inr (3, [.ref aB, .int (nI k)])), (aB, .inl (cB, 4096, .inl f))] s.heap.size = A at hD ⊢
  have hA : ∀ q : Nat, s.heap.size ≤ q → A q := fun q h => by rw [← hAe]; exact Or.inr h
  have hS : va_S A s.heap s.heap [] := va_S.rf
  have hP : va_P (dC, dI) vwCl [(aX, .inr (0, [.ref aF, .ref aR, .ref aO, .ref aA, .int (nI n), .long v])), (aO, .inr (3, [.ref aB, .int (nI k)])), (aB, .inl (cB, 4096, .inl f))] s.heap := hP
  have hl := lv_entry ([.ref aX, .int (nI hw), .long p0]) (n := 5) (Nat.le_of_ble_eq_true rfl)
  rw [lg_entry_eq]
  generalize (lg_sl ([.ref aX, .int (nI hw), .long p0]) ++ List.replicate (5 - (lg_sl ([.ref aX, .int (nI hw), .long p0])).length) Slot.unset).toArray = ls at hl ⊢
  have hl : lv_has ls 5 [(0, .ref aX), (1, .int (nI hw)), (2, .long p0)] := hl
  rcases (show hw = 0 ∨ hw = 1 ∨ hw = 2 by omega) with rfl | rfl | rfl
  · refine lv_iload_n hx hb dX0_write_0 rfl (lv_at hl 1 rfl) ?_
    refine lv_if_lt (tgt := 9) hx hb dX0_write_1 (by decide) (fun c_1 => ?_) (fun c_1 => ?_)
    · exact absurd c_1 (by decide)
    · refine lv_iload_n hx hb dX0_write_4 rfl (lv_at hl 1 rfl) ?_
      refine lv_iconst (v := 2) hx hb dX0_write_5 (by decide) ?_
      refine lv_icmp_le (tgt := 12) hx hb dX0_write_6 (by decide) (fun c_2 => ?_) (fun c_2 => ?_)
      · refine lv_iload_n hx hb dX0_write_12 rfl (lv_at hl 1 rfl) ?_
        refine lv_if_ne (tgt := 30) hx hb dX0_write_13 (by decide) (fun c_3 => ?_) (fun c_3 => ?_)
        · exact absurd rfl c_3
        · refine lv_lload_n hx hb dX0_write_16 rfl (lv_at hl 2 rfl) ?_
          refine lv_lconst (v := 0) hx hb dX0_write_17 rfl ?_
          refine W.lcmp hx hb dX0_write_18 ?_
          refine lv_if_lt (tgt := 43) hx hb dX0_write_19 (by decide) (fun c_4 => ?_) (fun c_4 => ?_)
          · exact absurd (Or.inl ⟨rfl, Or.inl (gp_clt c_4)⟩) hr0
          · refine lv_lload_n hx hb dX0_write_22 rfl (lv_at hl 2 rfl) ?_
            refine lv_ldc2 (v := 4294967295) hx hb hown (hts _ q211) dX0_write_23 ?_
            refine W.lcmp hx hb dX0_write_26 ?_
            refine lv_if_gt (tgt := 43) hx hb dX0_write_27 (by decide) (fun c_5 => ?_) (fun c_5 => ?_)
            · exact absurd (Or.inl ⟨rfl, Or.inr ((lg_cmp_gt _ _).mp c_5)⟩) hr0
            · refine lv_iload_n hx hb dX0_write_30 rfl (lv_at hl 1 rfl) ?_
              refine lv_iconst (v := 1) hx hb dX0_write_31 (by decide) ?_
              refine lv_icmp_ne (tgt := 45) hx hb dX0_write_32 (by decide) (fun c_6 => ?_) (fun c_6 => ?_)
              · refine lv_iload_n hx hb dX0_write_45 rfl (lv_at hl 1 rfl) ?_
                refine lv_lload_n hx hb dX0_write_46 rfl (lv_at hl 2 rfl) ?_
                have hPc := hP.sub (ws' := []) [] rfl
                have hDc := hD.sub (ws' := []) [] (by decide) rfl
                have hFc := va_free (wc := []) hD hS hA [] rfl
                refine va_calli (va_runS (As := [.int (nI 0), .long p0]) (rest := []) ⟨hx, hb, hml, hown, hts⟩ (m_G_needs l dC dI cB 0 n2 p0 _ (by decide) hl0) (va_cwS 2 hts (lw_S q212 q213 q4 q214) rfl rfl rfl (by decide +kernel) ⟨Nat.le_of_ble_eq_true rfl, Nat.le_of_ble_eq_true rfl⟩) ⟨gC_bl, gC_of hPc hK hDc⟩ rfl rfl hl.1 rfl (lv_room (Nat.le_of_ble_eq_true rfl)) dX0_write_47 ⟨Nat.le_of_ble_eq_true rfl, Nat.le_of_ble_eq_true rfl⟩) hS (fun q _ h => hFc q h) hFc (fun r_7 u t H1 locs ht hvm hw hB hz1 hk1 hS => ?_)
                obtain ⟨hP1, hD1⟩ := hB
                rw [ht] at hP1
                obtain ⟨hP, hD⟩ := va_join (wr := [(aX, .inr (0, [.ref aF, .ref aR, .ref aO, .ref aA, .int (nI n), .long v])), (aO, .inr (3, [.ref aB, .int (nI k)])), (aB, .inl (cB, 4096, .inl f))]) (w1 := []) hP hD [] [0, 1, 2] rfl rfl (by decide) (by decide) hk1 hFc hP1 hD1
                have hP := hP.sub (ws' := [(aX, .inr (0, [.ref aF, .ref aR, .ref aO, .ref aA, .int (nI n), .long v])), (aO, .inr (3, [.ref aB, .int (nI k)])), (aB, .inl (cB, 4096, .inl f))]) [0, 1, 2] rfl
                have hD := hD.sub (ws' := [(aX, .inr (0, [.ref aF, .ref aR, .ref aO, .ref aA, .int (nI n), .long v])), (aO, .inr (3, [.ref aB, .int (nI k)])), (aB, .inl (cB, 4096, .inl f))]) [0, 1, 2] (by decide) rfl
                generalize H1 = H at hP hS ⊢
                subst hw
                refine lv_istore (lv' := [(4, .int (nI (n2 + 1))), (0, .ref aX), (1, .int (nI 0)), (2, .long p0)]) hx hb dX0_write_50 hl (by decide) rfl (fun ls hl => ?_)
                refine lv_aload_n hx hb dX0_write_52 rfl (lv_at hl 1 rfl) ?_
                refine va_get (D := (dC, dI)) (ci := 0) (v := .ref aO) (C := RX0) (T := TX0) (N := 6) hx hb hts in_X0 hown hK hP 0 rfl rfl 2 (by decide) (hts _ q141) (fun _ h9 => h9) rfl dX0_write_53 ?_
                refine va_get (D := (dC, dI)) (ci := 3) (v := .int (nI k)) (C := RX3) (T := TX3) (N := 2) hx hb hts in_X3 hown hK hP 1 rfl rfl 1 (by decide) (hts _ q129) (fun _ h9 => h9) rfl dX0_write_56 ?_
                refine lv_iload hx hb dX0_write_59 (lv_at hl 0 rfl) ?_
                refine lv_iadd hx hb dX0_write_61 ?_
                refine lv_topi (fun z_8 ez_8 => ?_)
                rw [show z_8 = nI (k + (n2 + 1)) from by rw [ez_8]; exact nI_add k (n2 + 1)]
                refine lv_sipush (v := 1000) hx hb dX0_write_62 (by decide) ?_
                refine lv_icmp_le (tgt := 71) hx hb dX0_write_65 (by decide) (fun c_9 => ?_) (fun c_9 => ?_)
                · refine lv_iload_n hx hb dX0_write_71 rfl (lv_at hl 2 rfl) ?_
                  refine lv_if_ne (tgt := 86) hx hb dX0_write_72 (by decide) (fun c_10 => ?_) (fun c_10 => ?_)
                  · exact absurd rfl c_10
                  · refine lv_aload_n hx hb dX0_write_75 rfl (lv_at hl 1 rfl) ?_
                    refine va_get (D := (dC, dI)) (ci := 0) (v := .ref aO) (C := RX0) (T := TX0) (N := 6) hx hb hts in_X0 hown hK hP 0 rfl rfl 2 (by decide) (hts _ q141) (fun _ h9 => h9) rfl dX0_write_76 ?_
                    refine lv_lload_n hx hb dX0_write_79 rfl (lv_at hl 3 rfl) ?_
                    have hPc := hP.sub (ws' := [(aO, .inr (3, [.ref aB, .int (nI k)])), (aB, .inl (cB, 4096, .inl f))]) [1, 2] rfl
                    have hDc := hD.sub (ws' := [(aO, .inr (3, [.ref aB, .int (nI k)])), (aB, .inl (cB, 4096, .inl f))]) [1, 2] (by decide) rfl
                    have hFc := va_free (wc := [(aO, .inr (3, [.ref aB, .int (nI k)])), (aB, .inl (cB, 4096, .inl f))]) hD hS hA [1, 2] rfl
                    refine va_callv (va_runV (As := [.long p0]) (rest := []) ⟨hx, hb, hml, hown, hts⟩ (m_O_number l dC dI cB aO aB p0 n2 k f _ (gp_rng0 hr0) hl0 (by omega)) (cwV 1 hts (lw_V q218 q219 q220 q11 q221) rfl rfl rfl (by decide +kernel) ⟨Nat.le_of_ble_eq_true rfl, Nat.le_of_ble_eq_true rfl⟩) ⟨gC_bl, va_recv hK hPc (ci := 3) (q0 := 0) rfl rfl, gC_of hPc hK hDc⟩ rfl rfl hl.1 rfl (lv_room (Nat.le_of_ble_eq_true rfl)) dX0_write_80 ⟨Nat.le_of_ble_eq_true rfl, Nat.le_of_ble_eq_true rfl⟩) hS (fun q _ h => hFc q h) hFc (fun u t H1 locs ht hvm hw hB hz1 hk1 hS => ?_)
                    obtain ⟨hP1, hD1⟩ := hB
                    rw [ht] at hP1
                    obtain ⟨hP, hD⟩ := va_join (wr := [(aX, .inr (0, [.ref aF, .ref aR, .ref aO, .ref aA, .int (nI n), .long v]))]) (w1 := [(aO, .inr (3, [.ref aB, .int (nI (k + n2 + 1))])), (aB, .inl (cB, 4096, .inl (gp_emit p0 (n2 + 1) f k (n2 + 1))))]) hP hD [1, 2] [0] rfl rfl (by decide) (by decide) hk1 hFc hP1 hD1
                    have hP := hP.sub (ws' := [(aX, .inr (0, [.ref aF, .ref aR, .ref aO, .ref aA, .int (nI n), .long v])), (aO, .inr (3, [.ref aB, .int (nI (k + n2 + 1))])), (aB, .inl (cB, 4096, .inl (gp_emit p0 (n2 + 1) f k (n2 + 1))))]) [0, 1, 2] rfl
                    have hD := hD.sub (ws' := [(aX, .inr (0, [.ref aF, .ref aR, .ref aO, .ref aA, .int (nI n), .long v])), (aO, .inr (3, [.ref aB, .int (nI (k + n2 + 1))])), (aB, .inl (cB, 4096, .inl (gp_emit p0 (n2 + 1) f k (n2 + 1))))]) [0, 1, 2] (by decide) rfl
                    generalize H1 = H at hP hS ⊢
                    refine lv_goto (tgt := 94) hx hb dX0_write_83 (by decide) ?_
                    refine lv_iload hx hb dX0_write_94 (lv_at hl 0 rfl) ?_
                    exact W.iret (v := nI (n2 + 1)) hx hb hr (fun t ht hW => ⟨⟨nI (n2 + 1), (), rfl, rfl, by rw [ht]; exact hP, hD⟩, hS.F ht⟩) hS.2.2 dX0_write_96
                · exact absurd (nI_le (a := k + (n2 + 1)) (b := 1000) (by omega) (by omega)) c_9
              · exact absurd c_6 (by decide)
      · exact absurd (by decide) c_2
  · refine lv_iload_n hx hb dX0_write_0 rfl (lv_at hl 1 rfl) ?_
    refine lv_if_lt (tgt := 9) hx hb dX0_write_1 (by decide) (fun c_1 => ?_) (fun c_1 => ?_)
    · exact absurd c_1 (by decide)
    · refine lv_iload_n hx hb dX0_write_4 rfl (lv_at hl 1 rfl) ?_
      refine lv_iconst (v := 2) hx hb dX0_write_5 (by decide) ?_
      refine lv_icmp_le (tgt := 12) hx hb dX0_write_6 (by decide) (fun c_2 => ?_) (fun c_2 => ?_)
      · refine lv_iload_n hx hb dX0_write_12 rfl (lv_at hl 1 rfl) ?_
        refine lv_if_ne (tgt := 30) hx hb dX0_write_13 (by decide) (fun c_3 => ?_) (fun c_3 => ?_)
        · refine lv_iload_n hx hb dX0_write_30 rfl (lv_at hl 1 rfl) ?_
          refine lv_iconst (v := 1) hx hb dX0_write_31 (by decide) ?_
          refine lv_icmp_ne (tgt := 45) hx hb dX0_write_32 (by decide) (fun c_4 => ?_) (fun c_4 => ?_)
          · exact absurd rfl c_4
          · refine lv_lload_n hx hb dX0_write_35 rfl (lv_at hl 2 rfl) ?_
            refine lv_lload_n hx hb dX0_write_36 rfl (lv_at hl 2 rfl) ?_
            refine lv_l2i (v := (p0).toInt32) hx hb dX0_write_37 rfl ?_
            refine lv_i2l (v := (((p0).toInt32)).toInt64) hx hb dX0_write_38 rfl ?_
            refine W.lcmp hx hb dX0_write_39 ?_
            refine lv_if_eq (tgt := 45) hx hb dX0_write_40 (by decide) (fun c_5 => ?_) (fun c_5 => ?_)
            · refine lv_iload_n hx hb dX0_write_45 rfl (lv_at hl 1 rfl) ?_
              refine lv_lload_n hx hb dX0_write_46 rfl (lv_at hl 2 rfl) ?_
              have hPc := hP.sub (ws' := []) [] rfl
              have hDc := hD.sub (ws' := []) [] (by decide) rfl
              have hFc := va_free (wc := []) hD hS hA [] rfl
              refine va_calli (va_runS (As := [.int (nI 1), .long p0]) (rest := []) ⟨hx, hb, hml, hown, hts⟩ (m_G_needs l dC dI cB 1 n2 p0 _ (by decide) hl0) (va_cwS 2 hts (lw_S q212 q213 q4 q214) rfl rfl rfl (by decide +kernel) ⟨Nat.le_of_ble_eq_true rfl, Nat.le_of_ble_eq_true rfl⟩) ⟨gC_bl, gC_of hPc hK hDc⟩ rfl rfl hl.1 rfl (lv_room (Nat.le_of_ble_eq_true rfl)) dX0_write_47 ⟨Nat.le_of_ble_eq_true rfl, Nat.le_of_ble_eq_true rfl⟩) hS (fun q _ h => hFc q h) hFc (fun r_6 u t H1 locs ht hvm hw hB hz1 hk1 hS => ?_)
              obtain ⟨hP1, hD1⟩ := hB
              rw [ht] at hP1
              obtain ⟨hP, hD⟩ := va_join (wr := [(aX, .inr (0, [.ref aF, .ref aR, .ref aO, .ref aA, .int (nI n), .long v])), (aO, .inr (3, [.ref aB, .int (nI k)])), (aB, .inl (cB, 4096, .inl f))]) (w1 := []) hP hD [] [0, 1, 2] rfl rfl (by decide) (by decide) hk1 hFc hP1 hD1
              have hP := hP.sub (ws' := [(aX, .inr (0, [.ref aF, .ref aR, .ref aO, .ref aA, .int (nI n), .long v])), (aO, .inr (3, [.ref aB, .int (nI k)])), (aB, .inl (cB, 4096, .inl f))]) [0, 1, 2] rfl
              have hD := hD.sub (ws' := [(aX, .inr (0, [.ref aF, .ref aR, .ref aO, .ref aA, .int (nI n), .long v])), (aO, .inr (3, [.ref aB, .int (nI k)])), (aB, .inl (cB, 4096, .inl f))]) [0, 1, 2] (by decide) rfl
              generalize H1 = H at hP hS ⊢
              subst hw
              refine lv_istore (lv' := [(4, .int (nI (n2 + 1))), (0, .ref aX), (1, .int (nI 1)), (2, .long p0)]) hx hb dX0_write_50 hl (by decide) rfl (fun ls hl => ?_)
              refine lv_aload_n hx hb dX0_write_52 rfl (lv_at hl 1 rfl) ?_
              refine va_get (D := (dC, dI)) (ci := 0) (v := .ref aO) (C := RX0) (T := TX0) (N := 6) hx hb hts in_X0 hown hK hP 0 rfl rfl 2 (by decide) (hts _ q141) (fun _ h9 => h9) rfl dX0_write_53 ?_
              refine va_get (D := (dC, dI)) (ci := 3) (v := .int (nI k)) (C := RX3) (T := TX3) (N := 2) hx hb hts in_X3 hown hK hP 1 rfl rfl 1 (by decide) (hts _ q129) (fun _ h9 => h9) rfl dX0_write_56 ?_
              refine lv_iload hx hb dX0_write_59 (lv_at hl 0 rfl) ?_
              refine lv_iadd hx hb dX0_write_61 ?_
              refine lv_topi (fun z_7 ez_7 => ?_)
              rw [show z_7 = nI (k + (n2 + 1)) from by rw [ez_7]; exact nI_add k (n2 + 1)]
              refine lv_sipush (v := 1000) hx hb dX0_write_62 (by decide) ?_
              refine lv_icmp_le (tgt := 71) hx hb dX0_write_65 (by decide) (fun c_8 => ?_) (fun c_8 => ?_)
              · refine lv_iload_n hx hb dX0_write_71 rfl (lv_at hl 2 rfl) ?_
                refine lv_if_ne (tgt := 86) hx hb dX0_write_72 (by decide) (fun c_9 => ?_) (fun c_9 => ?_)
                · refine lv_aload_n hx hb dX0_write_86 rfl (lv_at hl 1 rfl) ?_
                  refine va_get (D := (dC, dI)) (ci := 0) (v := .ref aO) (C := RX0) (T := TX0) (N := 6) hx hb hts in_X0 hown hK hP 0 rfl rfl 2 (by decide) (hts _ q141) (fun _ h9 => h9) rfl dX0_write_87 ?_
                  refine lv_lload_n hx hb dX0_write_90 rfl (lv_at hl 3 rfl) ?_
                  have hPc := hP.sub (ws' := [(aO, .inr (3, [.ref aB, .int (nI k)])), (aB, .inl (cB, 4096, .inl f))]) [1, 2] rfl
                  have hDc := hD.sub (ws' := [(aO, .inr (3, [.ref aB, .int (nI k)])), (aB, .inl (cB, 4096, .inl f))]) [1, 2] (by decide) rfl
                  have hFc := va_free (wc := [(aO, .inr (3, [.ref aB, .int (nI k)])), (aB, .inl (cB, 4096, .inl f))]) hD hS hA [1, 2] rfl
                  refine va_callv (va_runV (As := [.long p0]) (rest := []) ⟨hx, hb, hml, hown, hts⟩ (m_O_signed l dC dI cB aO aB p0 1 n2 k f _ (by decide) hl0 (by omega)) (cwV 1 hts (lw_V q227 q228 q229 q11 q230) rfl rfl rfl (by decide +kernel) ⟨Nat.le_of_ble_eq_true rfl, Nat.le_of_ble_eq_true rfl⟩) ⟨gC_bl, va_recv hK hPc (ci := 3) (q0 := 0) rfl rfl, gC_of hPc hK hDc⟩ rfl rfl hl.1 rfl (lv_room (Nat.le_of_ble_eq_true rfl)) dX0_write_91 ⟨Nat.le_of_ble_eq_true rfl, Nat.le_of_ble_eq_true rfl⟩) hS (fun q _ h => hFc q h) hFc (fun u t H1 locs ht hvm hw hB hz1 hk1 hS => ?_)
                  obtain ⟨hP1, hD1⟩ := hB
                  rw [ht] at hP1
                  obtain ⟨hP, hD⟩ := va_join (wr := [(aX, .inr (0, [.ref aF, .ref aR, .ref aO, .ref aA, .int (nI n), .long v]))]) (w1 := [(aO, .inr (3, [.ref aB, .int (nI (k + n2 + 1))])), (aB, .inl (cB, 4096, .inl (gp_emit p0 (n2 + 1) f k (n2 + 1))))]) hP hD [1, 2] [0] rfl rfl (by decide) (by decide) hk1 hFc hP1 hD1
                  have hP := hP.sub (ws' := [(aX, .inr (0, [.ref aF, .ref aR, .ref aO, .ref aA, .int (nI n), .long v])), (aO, .inr (3, [.ref aB, .int (nI (k + n2 + 1))])), (aB, .inl (cB, 4096, .inl (gp_emit p0 (n2 + 1) f k (n2 + 1))))]) [0, 1, 2] rfl
                  have hD := hD.sub (ws' := [(aX, .inr (0, [.ref aF, .ref aR, .ref aO, .ref aA, .int (nI n), .long v])), (aO, .inr (3, [.ref aB, .int (nI (k + n2 + 1))])), (aB, .inl (cB, 4096, .inl (gp_emit p0 (n2 + 1) f k (n2 + 1))))]) [0, 1, 2] (by decide) rfl
                  generalize H1 = H at hP hS ⊢
                  refine lv_iload hx hb dX0_write_94 (lv_at hl 0 rfl) ?_
                  exact W.iret (v := nI (n2 + 1)) hx hb hr (fun t ht hW => ⟨⟨nI (n2 + 1), (), rfl, rfl, by rw [ht]; exact hP, hD⟩, hS.F ht⟩) hS.2.2 dX0_write_96
                · exact absurd c_9 (by decide)
              · exact absurd (nI_le (a := k + (n2 + 1)) (b := 1000) (by omega) (by omega)) c_8
            · exact absurd (Or.inr ⟨rfl, mt (lg_cmp_eq _ _).mpr c_5⟩) hr0
        · exact absurd c_3 (by decide)
      · exact absurd (by decide) c_2
  · refine lv_iload_n hx hb dX0_write_0 rfl (lv_at hl 1 rfl) ?_
    refine lv_if_lt (tgt := 9) hx hb dX0_write_1 (by decide) (fun c_1 => ?_) (fun c_1 => ?_)
    · exact absurd c_1 (by decide)
    · refine lv_iload_n hx hb dX0_write_4 rfl (lv_at hl 1 rfl) ?_
      refine lv_iconst (v := 2) hx hb dX0_write_5 (by decide) ?_
      refine lv_icmp_le (tgt := 12) hx hb dX0_write_6 (by decide) (fun c_2 => ?_) (fun c_2 => ?_)
      · refine lv_iload_n hx hb dX0_write_12 rfl (lv_at hl 1 rfl) ?_
        refine lv_if_ne (tgt := 30) hx hb dX0_write_13 (by decide) (fun c_3 => ?_) (fun c_3 => ?_)
        · refine lv_iload_n hx hb dX0_write_30 rfl (lv_at hl 1 rfl) ?_
          refine lv_iconst (v := 1) hx hb dX0_write_31 (by decide) ?_
          refine lv_icmp_ne (tgt := 45) hx hb dX0_write_32 (by decide) (fun c_4 => ?_) (fun c_4 => ?_)
          · refine lv_iload_n hx hb dX0_write_45 rfl (lv_at hl 1 rfl) ?_
            refine lv_lload_n hx hb dX0_write_46 rfl (lv_at hl 2 rfl) ?_
            have hPc := hP.sub (ws' := []) [] rfl
            have hDc := hD.sub (ws' := []) [] (by decide) rfl
            have hFc := va_free (wc := []) hD hS hA [] rfl
            refine va_calli (va_runS (As := [.int (nI 2), .long p0]) (rest := []) ⟨hx, hb, hml, hown, hts⟩ (m_G_needs l dC dI cB 2 n2 p0 _ (by decide) hl0) (va_cwS 2 hts (lw_S q212 q213 q4 q214) rfl rfl rfl (by decide +kernel) ⟨Nat.le_of_ble_eq_true rfl, Nat.le_of_ble_eq_true rfl⟩) ⟨gC_bl, gC_of hPc hK hDc⟩ rfl rfl hl.1 rfl (lv_room (Nat.le_of_ble_eq_true rfl)) dX0_write_47 ⟨Nat.le_of_ble_eq_true rfl, Nat.le_of_ble_eq_true rfl⟩) hS (fun q _ h => hFc q h) hFc (fun r_5 u t H1 locs ht hvm hw hB hz1 hk1 hS => ?_)
            obtain ⟨hP1, hD1⟩ := hB
            rw [ht] at hP1
            obtain ⟨hP, hD⟩ := va_join (wr := [(aX, .inr (0, [.ref aF, .ref aR, .ref aO, .ref aA, .int (nI n), .long v])), (aO, .inr (3, [.ref aB, .int (nI k)])), (aB, .inl (cB, 4096, .inl f))]) (w1 := []) hP hD [] [0, 1, 2] rfl rfl (by decide) (by decide) hk1 hFc hP1 hD1
            have hP := hP.sub (ws' := [(aX, .inr (0, [.ref aF, .ref aR, .ref aO, .ref aA, .int (nI n), .long v])), (aO, .inr (3, [.ref aB, .int (nI k)])), (aB, .inl (cB, 4096, .inl f))]) [0, 1, 2] rfl
            have hD := hD.sub (ws' := [(aX, .inr (0, [.ref aF, .ref aR, .ref aO, .ref aA, .int (nI n), .long v])), (aO, .inr (3, [.ref aB, .int (nI k)])), (aB, .inl (cB, 4096, .inl f))]) [0, 1, 2] (by decide) rfl
            generalize H1 = H at hP hS ⊢
            subst hw
            refine lv_istore (lv' := [(4, .int (nI (n2 + 1))), (0, .ref aX), (1, .int (nI 2)), (2, .long p0)]) hx hb dX0_write_50 hl (by decide) rfl (fun ls hl => ?_)
            refine lv_aload_n hx hb dX0_write_52 rfl (lv_at hl 1 rfl) ?_
            refine va_get (D := (dC, dI)) (ci := 0) (v := .ref aO) (C := RX0) (T := TX0) (N := 6) hx hb hts in_X0 hown hK hP 0 rfl rfl 2 (by decide) (hts _ q141) (fun _ h9 => h9) rfl dX0_write_53 ?_
            refine va_get (D := (dC, dI)) (ci := 3) (v := .int (nI k)) (C := RX3) (T := TX3) (N := 2) hx hb hts in_X3 hown hK hP 1 rfl rfl 1 (by decide) (hts _ q129) (fun _ h9 => h9) rfl dX0_write_56 ?_
            refine lv_iload hx hb dX0_write_59 (lv_at hl 0 rfl) ?_
            refine lv_iadd hx hb dX0_write_61 ?_
            refine lv_topi (fun z_6 ez_6 => ?_)
            rw [show z_6 = nI (k + (n2 + 1)) from by rw [ez_6]; exact nI_add k (n2 + 1)]
            refine lv_sipush (v := 1000) hx hb dX0_write_62 (by decide) ?_
            refine lv_icmp_le (tgt := 71) hx hb dX0_write_65 (by decide) (fun c_7 => ?_) (fun c_7 => ?_)
            · refine lv_iload_n hx hb dX0_write_71 rfl (lv_at hl 2 rfl) ?_
              refine lv_if_ne (tgt := 86) hx hb dX0_write_72 (by decide) (fun c_8 => ?_) (fun c_8 => ?_)
              · refine lv_aload_n hx hb dX0_write_86 rfl (lv_at hl 1 rfl) ?_
                refine va_get (D := (dC, dI)) (ci := 0) (v := .ref aO) (C := RX0) (T := TX0) (N := 6) hx hb hts in_X0 hown hK hP 0 rfl rfl 2 (by decide) (hts _ q141) (fun _ h9 => h9) rfl dX0_write_87 ?_
                refine lv_lload_n hx hb dX0_write_90 rfl (lv_at hl 3 rfl) ?_
                have hPc := hP.sub (ws' := [(aO, .inr (3, [.ref aB, .int (nI k)])), (aB, .inl (cB, 4096, .inl f))]) [1, 2] rfl
                have hDc := hD.sub (ws' := [(aO, .inr (3, [.ref aB, .int (nI k)])), (aB, .inl (cB, 4096, .inl f))]) [1, 2] (by decide) rfl
                have hFc := va_free (wc := [(aO, .inr (3, [.ref aB, .int (nI k)])), (aB, .inl (cB, 4096, .inl f))]) hD hS hA [1, 2] rfl
                refine va_callv (va_runV (As := [.long p0]) (rest := []) ⟨hx, hb, hml, hown, hts⟩ (m_O_signed l dC dI cB aO aB p0 2 n2 k f _ (by decide) hl0 (by omega)) (cwV 1 hts (lw_V q227 q228 q229 q11 q230) rfl rfl rfl (by decide +kernel) ⟨Nat.le_of_ble_eq_true rfl, Nat.le_of_ble_eq_true rfl⟩) ⟨gC_bl, va_recv hK hPc (ci := 3) (q0 := 0) rfl rfl, gC_of hPc hK hDc⟩ rfl rfl hl.1 rfl (lv_room (Nat.le_of_ble_eq_true rfl)) dX0_write_91 ⟨Nat.le_of_ble_eq_true rfl, Nat.le_of_ble_eq_true rfl⟩) hS (fun q _ h => hFc q h) hFc (fun u t H1 locs ht hvm hw hB hz1 hk1 hS => ?_)
                obtain ⟨hP1, hD1⟩ := hB
                rw [ht] at hP1
                obtain ⟨hP, hD⟩ := va_join (wr := [(aX, .inr (0, [.ref aF, .ref aR, .ref aO, .ref aA, .int (nI n), .long v]))]) (w1 := [(aO, .inr (3, [.ref aB, .int (nI (k + n2 + 1))])), (aB, .inl (cB, 4096, .inl (gp_emit p0 (n2 + 1) f k (n2 + 1))))]) hP hD [1, 2] [0] rfl rfl (by decide) (by decide) hk1 hFc hP1 hD1
                have hP := hP.sub (ws' := [(aX, .inr (0, [.ref aF, .ref aR, .ref aO, .ref aA, .int (nI n), .long v])), (aO, .inr (3, [.ref aB, .int (nI (k + n2 + 1))])), (aB, .inl (cB, 4096, .inl (gp_emit p0 (n2 + 1) f k (n2 + 1))))]) [0, 1, 2] rfl
                have hD := hD.sub (ws' := [(aX, .inr (0, [.ref aF, .ref aR, .ref aO, .ref aA, .int (nI n), .long v])), (aO, .inr (3, [.ref aB, .int (nI (k + n2 + 1))])), (aB, .inl (cB, 4096, .inl (gp_emit p0 (n2 + 1) f k (n2 + 1))))]) [0, 1, 2] (by decide) rfl
                generalize H1 = H at hP hS ⊢
                refine lv_iload hx hb dX0_write_94 (lv_at hl 0 rfl) ?_
                exact W.iret (v := nI (n2 + 1)) hx hb hr (fun t ht hW => ⟨⟨nI (n2 + 1), (), rfl, rfl, by rw [ht]; exact hP, hD⟩, hS.F ht⟩) hS.2.2 dX0_write_96
              · exact absurd c_8 (by decide)
            · exact absurd (nI_le (a := k + (n2 + 1)) (b := 1000) (by omega) (by omega)) c_7
          · exact absurd c_4 (by decide)
        · exact absurd c_3 (by decide)
      · exact absurd (by decide) c_2
end
section
set_option maxRecDepth 100000
set_option maxHeartbeats 4000000 in
/-- GroupedNumbers.read, refused -/
theorem m_G_readN (l : Launch) (dC : Nat → ClassId) (dI : Nat → Nat → Nat) (cB : ClassId) (aX aF aR aO aA : Nat) (aE rb : Nat) (n : Nat) (v : Int64) (f : Nat → Int32) (es : List Value) (nb pl ra re : Int32) (x y : Int32) (sz : Nat) (hx0 : (x < 0 ∨ 2 < x) ∨ (y < 0 ∨ nI n < y)) : Met l yX0_read (wsW_ yX0_read cX0_read 5 (some .int) [(40, 87, 90, 63)]) ({ frames := 4, cells := 0, slots := 0, locals := 89 }) (gC dC dI [.ref aX, .int x, .int y] [(aX, .inr (0, [.ref aF, .ref aR, .ref aO, .ref aA, .int (nI n), .long v])), (aF, .inr (1, [.ref aE, .int nb, .int pl])), (aE, .inr (5, es)), (aR, .inr (2, [.ref aF, .ref rb, .int ra, .int re])), (aA, .inl (cB, 1000, .inl f))] [(cB, .byte)] sz) (va_Qi (fun (r : Int32) (_ : Unit) => r = -2) (fun (_ : Unit) t => gB dC dI (va_A [(aX, .inr (0, [.ref aF, .ref aR, .ref aO, .ref aA, .int (nI n), .long v])), (aF, .inr (1, [.ref aE, .int nb, .int pl])), (aE, .inr (5, es)), (aR, .inr (2, [.ref aF, .ref rb, .int ra, .int re])), (aA, .inl (cB, 1000, .inl f))] sz) [(aX, .inr (0, [.ref aF, .ref aR, .ref aO, .ref aA, .int (nI n), .long v])), (aF, .inr (1, [.ref aE, .int nb, .int pl])), (aE, .inr (5, es)), (aR, .inr (2, [.ref aF, .ref rb, .int ra, .int re])), (aA, .inl (cB, 1000, .inl f))] t) (va_A [(aX, .inr (0, [.ref aF, .ref aR, .ref aO, .ref aA, .int (nI n), .long v])), (aF, .inr (1, [.ref aE, .int nb, .int pl])), (aE, .inr (5, es)), (aR, .inr (2, [.ref aF, .ref rb, .int ra, .int re])), (aA, .inl (cB, 1000, .inl f))] sz)) 0 0 (va_A [(aX, .inr (0, [.ref aF, .ref aR, .ref aO, .ref aA, .int (nI n), .long v])), (aF, .inr (1, [.ref aE, .int nb, .int pl])), (aE, .inr (5, es)), (aR, .inr (2, [.ref aF, .ref rb, .int ra, .int re])), (aA, .inl (cB, 1000, .inl f))] sz) := by
  refine va_MetW (cc := cX0_read) (maxL := 5) (ret := (some .int)) (hh := [(40, 87, 90, 63)]) (by decide) rfl ?_
  intro p e s m args below meth c s₁ B hml hv
  obtain ⟨rfl, hsz, hP, hK, hD0⟩ := hv
  have hx := B.exec
  have hb := B.bytes
  have hr := B.returns
  have hts0 := atoms_spec (ws := (wsW_ yX0_read cX0_read 5 (some .int) [(40, 87, 90, 63)])) B.pre
  have hts : ∀ w ∈ lw_all, w.before _ s = true := fun w h => hts0 w (List.mem_cons_of_mem _ h)
  have hown : s.vm.findClass RX0 = some m.cls := findClass_of_methodNamed B.named
  have hlocks := B.notSynchronized
  subst hsz
  have hD := hD0.self (sz := s.heap.size)
  generalize hAe : va_A [(aX, .inr (0, [.ref aF, .ref aR, .ref aO, .ref aA, .int (nI n), .long v])), (aF, .inr (1, [.ref aE, .int nb, .int pl])), (aE, .inr (5, es)), (aR, .inr (2, [.ref aF, .ref rb, .int ra, .int re])), (aA, .inl (cB, 1000, .inl f))] s.heap.size = A at hD ⊢
  have hA : ∀ q : Nat, s.heap.size ≤ q → A q := fun q h => by rw [← hAe]; exact Or.inr h
  have hS : va_S A s.heap s.heap [] := va_S.rf
  have hP : va_P (dC, dI) vwCl [(aX, .inr (0, [.ref aF, .ref aR, .ref aO, .ref aA, .int (nI n), .long v])), (aF, .inr (1, [.ref aE, .int nb, .int pl])), (aE, .inr (5, es)), (aR, .inr (2, [.ref aF, .ref rb, .int ra, .int re])), (aA, .inl (cB, 1000, .inl f))] s.heap := hP
  have hl := lv_entry ([.ref aX, .int x, .int y]) (n := 5) (Nat.le_of_ble_eq_true rfl)
  rw [lg_entry_eq]
  generalize (lg_sl ([.ref aX, .int x, .int y]) ++ List.replicate (5 - (lg_sl ([.ref aX, .int x, .int y])).length) Slot.unset).toArray = ls at hl ⊢
  have hl : lv_has ls 5 [(0, .ref aX), (1, .int x), (2, .int y)] := hl
  refine lv_iload_n hx hb dX0_read_0 rfl (lv_at hl 1 rfl) ?_
  refine lv_if_lt (tgt := 21) hx hb dX0_read_1 (by decide) (fun c_1 => ?_) (fun c_1 => ?_)
  · refine lv_bipush (v := (-2)) hx hb dX0_read_21 (by decide) ?_
    exact W.iret (v := (-2)) hx hb hr (fun t ht hW => ⟨⟨(-2), (), rfl, rfl, by rw [ht]; exact hP, hD⟩, hS.F ht⟩) hS.2.2 dX0_read_23
  · refine lv_iload_n hx hb dX0_read_4 rfl (lv_at hl 1 rfl) ?_
    refine lv_iconst (v := 2) hx hb dX0_read_5 (by decide) ?_
    refine lv_icmp_gt (tgt := 21) hx hb dX0_read_6 (by decide) (fun c_2 => ?_) (fun c_2 => ?_)
    · refine lv_bipush (v := (-2)) hx hb dX0_read_21 (by decide) ?_
      exact W.iret (v := (-2)) hx hb hr (fun t ht hW => ⟨⟨(-2), (), rfl, rfl, by rw [ht]; exact hP, hD⟩, hS.F ht⟩) hS.2.2 dX0_read_23
    · refine lv_iload_n hx hb dX0_read_9 rfl (lv_at hl 2 rfl) ?_
      refine lv_if_lt (tgt := 21) hx hb dX0_read_10 (by decide) (fun c_3 => ?_) (fun c_3 => ?_)
      · refine lv_bipush (v := (-2)) hx hb dX0_read_21 (by decide) ?_
        exact W.iret (v := (-2)) hx hb hr (fun t ht hW => ⟨⟨(-2), (), rfl, rfl, by rw [ht]; exact hP, hD⟩, hS.F ht⟩) hS.2.2 dX0_read_23
      · refine lv_iload_n hx hb dX0_read_13 rfl (lv_at hl 2 rfl) ?_
        refine lv_aload_n hx hb dX0_read_14 rfl (lv_at hl 0 rfl) ?_
        refine va_get (D := (dC, dI)) (ci := 0) (v := .int (nI n)) (C := RX0) (T := TX0) (N := 6) hx hb hts in_X0 hown hK hP 0 rfl rfl 4 (by decide) (hts _ q143) (fun _ h9 => h9) rfl dX0_read_15 ?_
        refine lv_icmp_le (tgt := 24) hx hb dX0_read_18 (by decide) (fun c_4 => ?_) (fun c_4 => ?_)
        · exact absurd hx0 (fun z => z.elim (fun z => z.elim c_1 c_2) (fun z => z.elim c_3 (Int32.not_lt.mpr c_4)))
        · refine lv_bipush (v := (-2)) hx hb dX0_read_21 (by decide) ?_
          exact W.iret (v := (-2)) hx hb hr (fun t ht hW => ⟨⟨(-2), (), rfl, rfl, by rw [ht]; exact hP, hD⟩, hS.F ht⟩) hS.2.2 dX0_read_23
set_option maxHeartbeats 4000000 in
/-- GroupedNumbers.read(how, a) -/
theorem m_G_read (l : Launch) (dC : Nat → ClassId) (dI : Nat → Nat → Nat) (cB : ClassId) (aX aF aR aO aA : Nat) (aE rb : Nat) (n : Nat) (v : Int64) (f : Nat → Int32) (es : List Value) (nb pl ra re : Int32) (hw a c_ most : Nat) (sz : Nat) (hw2 : hw ≤ 2) (ha : a ≤ n) (hn : n ≤ 1000) (hB : gp_By f) (hm : most = if hw = 2 then 9 + 1 else 4 + 1) (hI : gp_Is f a n most c_) : Met l yX0_read (wsW_ yX0_read cX0_read 5 (some .int) [(40, 87, 90, 63)]) ({ frames := 4, cells := 0, slots := 0, locals := 89 }) (gC dC dI [.ref aX, .int (nI hw), .int (nI a)] [(aX, .inr (0, [.ref aF, .ref aR, .ref aO, .ref aA, .int (nI n), .long v])), (aF, .inr (1, [.ref aE, .int nb, .int pl])), (aE, .inr (5, es)), (aR, .inr (2, [.ref aF, .ref rb, .int ra, .int re])), (aA, .inl (cB, 1000, .inl f))] [(cB, .byte)] sz) (va_Qi (fun (r : Int32) (u : Int64 × Int32 × Int32 × Int32 × Int32) => (gp_ok hw most n a c_ f → r = nI (c_ + 1) ∧ u.1 = gp_val hw f a c_) ∧ (¬ gp_ok hw most n a c_ f → r = -1 ∧ u.1 = v)) (fun (u : Int64 × Int32 × Int32 × Int32 × Int32) t => gB dC dI (va_A [(aX, .inr (0, [.ref aF, .ref aR, .ref aO, .ref aA, .int (nI n), .long v])), (aF, .inr (1, [.ref aE, .int nb, .int pl])), (aE, .inr (5, es)), (aR, .inr (2, [.ref aF, .ref rb, .int ra, .int re])), (aA, .inl (cB, 1000, .inl f))] sz) [(aX, .inr (0, [.ref aF, .ref aR, .ref aO, .ref aA, .int (nI n), .long u.1])), (aF, .inr (1, [.ref aE, .int u.2.2.2.1, .int u.2.2.2.2])), (aE, .inr (5, es)), (aR, .inr (2, [.ref aF, .ref aA, .int u.2.1, .int u.2.2.1])), (aA, .inl (cB, 1000, .inl f))] t) (va_A [(aX, .inr (0, [.ref aF, .ref aR, .ref aO, .ref aA, .int (nI n), .long v])), (aF, .inr (1, [.ref aE, .int nb, .int pl])), (aE, .inr (5, es)), (aR, .inr (2, [.ref aF, .ref rb, .int ra, .int re])), (aA, .inl (cB, 1000, .inl f))] sz)) 0 0 (va_A [(aX, .inr (0, [.ref aF, .ref aR, .ref aO, .ref aA, .int (nI n), .long v])), (aF, .inr (1, [.ref aE, .int nb, .int pl])), (aE, .inr (5, es)), (aR, .inr (2, [.ref aF, .ref rb, .int ra, .int re])), (aA, .inl (cB, 1000, .inl f))] sz) := by
  refine va_MetW (cc := cX0_read) (maxL := 5) (ret := (some .int)) (hh := [(40, 87, 90, 63)]) (by decide) rfl ?_
  intro p e s m args below meth c s₁ B hml hv
  obtain ⟨rfl, hsz, hP, hK, hD0⟩ := hv
  have hx := B.exec
  have hb := B.bytes
  have hr := B.returns
  have hts0 := atoms_spec (ws := (wsW_ yX0_read cX0_read 5 (some .int) [(40, 87, 90, 63)])) B.pre
  have hts : ∀ w ∈ lw_all, w.before _ s = true := fun w h => hts0 w (List.mem_cons_of_mem _ h)
  have hown : s.vm.findClass RX0 = some m.cls := findClass_of_methodNamed B.named
  have hlocks := B.notSynchronized
  subst hsz
  have hD := hD0.self (sz := s.heap.size)
  generalize hAe : va_A [(aX, .inr (0, [.ref aF, .ref aR, .ref aO, .ref aA, .int (nI n), .long v])), (aF, .inr (1, [.ref aE, .int nb, .int pl])), (aE, .inr (5, es)), (aR, .inr (2, [.ref aF, .ref rb, .int ra, .int re])), (aA, .inl (cB, 1000, .inl f))] s.heap.size = A at hD ⊢
  have hA : ∀ q : Nat, s.heap.size ≤ q → A q := fun q h => by rw [← hAe]; exact Or.inr h
  have hS : va_S A s.heap s.heap [] := va_S.rf
  have hP : va_P (dC, dI) vwCl [(aX, .inr (0, [.ref aF, .ref aR, .ref aO, .ref aA, .int (nI n), .long v])), (aF, .inr (1, [.ref aE, .int nb, .int pl])), (aE, .inr (5, es)), (aR, .inr (2, [.ref aF, .ref rb, .int ra, .int re])), (aA, .inl (cB, 1000, .inl f))] s.heap := hP
  have hl := lv_entry ([.ref aX, .int (nI hw), .int (nI a)]) (n := 5) (Nat.le_of_ble_eq_true rfl)
  rw [lg_entry_eq]
  generalize (lg_sl ([.ref aX, .int (nI hw), .int (nI a)]) ++ List.replicate (5 - (lg_sl ([.ref aX, .int (nI hw), .int (nI a)])).length) Slot.unset).toArray = ls at hl ⊢
  have hl : lv_has ls 5 [(0, .ref aX), (1, .int (nI hw)), (2, .int (nI a))] := hl
  obtain ⟨m9, meth9, c9, hn9, hm9, hc9, -, -, hh, -, -, -⟩ := Cond.codeWith_spec (hts0 _ List.mem_cons_self)
  cases B.named.symm.trans hn9
  cases B.method.symm.trans hm9
  cases (Stand.of_body B).code.symm.trans hc9
  rcases (show hw = 0 ∨ hw = 1 ∨ hw = 2 by omega) with rfl | rfl | rfl
  · have hm : most = 4 + 1 := hm
    subst hm
    refine lv_iload_n hx hb dX0_read_0 rfl (lv_at hl 1 rfl) ?_
    refine lv_if_lt (tgt := 21) hx hb dX0_read_1 (by decide) (fun c_1 => ?_) (fun c_1 => ?_)
    · exact absurd c_1 (by decide)
    · refine lv_iload_n hx hb dX0_read_4 rfl (lv_at hl 1 rfl) ?_
      refine lv_iconst (v := 2) hx hb dX0_read_5 (by decide) ?_
      refine lv_icmp_gt (tgt := 21) hx hb dX0_read_6 (by decide) (fun c_2 => ?_) (fun c_2 => ?_)
      · exact absurd c_2 (by decide)
      · refine lv_iload_n hx hb dX0_read_9 rfl (lv_at hl 2 rfl) ?_
        refine lv_if_lt (tgt := 21) hx hb dX0_read_10 (by decide) (fun c_3 => ?_) (fun c_3 => ?_)
        · exact absurd c_3 (nI_pos (by omega))
        · refine lv_iload_n hx hb dX0_read_13 rfl (lv_at hl 2 rfl) ?_
          refine lv_aload_n hx hb dX0_read_14 rfl (lv_at hl 0 rfl) ?_
          refine va_get (D := (dC, dI)) (ci := 0) (v := .int (nI n)) (C := RX0) (T := TX0) (N := 6) hx hb hts in_X0 hown hK hP 0 rfl rfl 4 (by decide) (hts _ q143) (fun _ h9 => h9) rfl dX0_read_15 ?_
          refine lv_icmp_le (tgt := 24) hx hb dX0_read_18 (by decide) (fun c_4 => ?_) (fun c_4 => ?_)
          · refine lv_aload_n hx hb dX0_read_24 rfl (lv_at hl 0 rfl) ?_
            refine va_get (D := (dC, dI)) (ci := 0) (v := .ref aR) (C := RX0) (T := TX0) (N := 6) hx hb hts in_X0 hown hK hP 0 rfl rfl 1 (by decide) (hts _ q140) (fun _ h9 => h9) rfl dX0_read_25 ?_
            refine lv_aload_n hx hb dX0_read_28 rfl (lv_at hl 0 rfl) ?_
            refine va_get (D := (dC, dI)) (ci := 0) (v := .ref aA) (C := RX0) (T := TX0) (N := 6) hx hb hts in_X0 hown hK hP 0 rfl rfl 3 (by decide) (hts _ q142) (fun _ h9 => h9) rfl dX0_read_29 ?_
            refine lv_iload_n hx hb dX0_read_32 rfl (lv_at hl 2 rfl) ?_
            refine lv_aload_n hx hb dX0_read_33 rfl (lv_at hl 0 rfl) ?_
            refine va_get (D := (dC, dI)) (ci := 0) (v := .int (nI n)) (C := RX0) (T := TX0) (N := 6) hx hb hts in_X0 hown hK hP 0 rfl rfl 4 (by decide) (hts _ q143) (fun _ h9 => h9) rfl dX0_read_34 ?_
            have hPc := hP.sub (ws' := [(aR, .inr (2, [.ref aF, .ref rb, .int ra, .int re]))]) [3] rfl
            have hDc := hD.sub (ws' := [(aR, .inr (2, [.ref aF, .ref rb, .int ra, .int re]))]) [3] (by decide) rfl
            have hFc := va_free (wc := [(aR, .inr (2, [.ref aF, .ref rb, .int ra, .int re]))]) hD hS hA [3] rfl
            refine va_callv (va_runV (As := [.ref aA, .int (nI a), .int (nI n)]) (rest := []) ⟨hx, hb, hml, hown, hts⟩ (m_R_open l dC dI cB aR aF rb aA ra re (nI a) (nI n) _) (cwV 3 hts (lw_V q175 q176 q177 q10 q178) rfl rfl rfl (by decide +kernel) ⟨Nat.le_of_ble_eq_true rfl, Nat.le_of_ble_eq_true rfl⟩) ⟨gC_bl, va_recv hK hPc (ci := 2) (q0 := 0) rfl rfl, gC_of hPc hK hDc⟩ rfl rfl hl.1 rfl (lv_room (Nat.le_of_ble_eq_true rfl)) dX0_read_37 ⟨Nat.le_of_ble_eq_true rfl, Nat.le_of_ble_eq_true rfl⟩) hS (fun q _ h => hFc q h) hFc (fun u t H1 locs ht hvm hw hB hz1 hk1 hS => ?_)
            obtain ⟨hP1, hD1⟩ := hB
            rw [ht] at hP1
            obtain ⟨hP, hD⟩ := va_join (wr := [(aX, .inr (0, [.ref aF, .ref aR, .ref aO, .ref aA, .int (nI n), .long v])), (aF, .inr (1, [.ref aE, .int nb, .int pl])), (aE, .inr (5, es)), (aA, .inl (cB, 1000, .inl f))]) (w1 := [(aR, .inr (2, [.ref aF, .ref aA, .int (nI a), .int (nI n)]))]) hP hD [3] [0, 1, 2, 4] rfl rfl (by decide) (by decide) hk1 hFc hP1 hD1
            have hP := hP.sub (ws' := [(aX, .inr (0, [.ref aF, .ref aR, .ref aO, .ref aA, .int (nI n), .long v])), (aF, .inr (1, [.ref aE, .int nb, .int pl])), (aE, .inr (5, es)), (aR, .inr (2, [.ref aF, .ref aA, .int (nI a), .int (nI n)])), (aA, .inl (cB, 1000, .inl f))]) [0, 1, 2, 4, 3] rfl
            have hD := hD.sub (ws' := [(aX, .inr (0, [.ref aF, .ref aR, .ref aO, .ref aA, .int (nI n), .long v])), (aF, .inr (1, [.ref aE, .int nb, .int pl])), (aE, .inr (5, es)), (aR, .inr (2, [.ref aF, .ref aA, .int (nI a), .int (nI n)])), (aA, .inl (cB, 1000, .inl f))]) [0, 1, 2, 4, 3] (by decide) rfl
            generalize H1 = H at hP hS ⊢
            refine lv_iload_n hx hb dX0_read_40 rfl (lv_at hl 1 rfl) ?_
            refine lv_if_ne (tgt := 54) hx hb dX0_read_41 (by decide) (fun c_6 => ?_) (fun c_6 => ?_)
            · exact absurd rfl c_6
            · refine lv_aload_n hx hb dX0_read_44 rfl (lv_at hl 0 rfl) ?_
              refine va_get (D := (dC, dI)) (ci := 0) (v := .ref aR) (C := RX0) (T := TX0) (N := 6) hx hb hts in_X0 hown hK hP 0 rfl rfl 1 (by decide) (hts _ q140) (fun _ h9 => h9) rfl dX0_read_45 ?_
              have hPc := hP.sub (ws' := [(aR, .inr (2, [.ref aF, .ref aA, .int (nI a), .int (nI n)])), (aF, .inr (1, [.ref aE, .int nb, .int pl])), (aA, .inl (cB, 1000, .inl f))]) [3, 1, 4] rfl
              have hDc := hD.sub (ws' := [(aR, .inr (2, [.ref aF, .ref aA, .int (nI a), .int (nI n)])), (aF, .inr (1, [.ref aE, .int nb, .int pl])), (aA, .inl (cB, 1000, .inl f))]) [3, 1, 4] (by decide) rfl
              have hFc := va_free (wc := [(aR, .inr (2, [.ref aF, .ref aA, .int (nI a), .int (nI n)])), (aF, .inr (1, [.ref aE, .int nb, .int pl])), (aA, .inl (cB, 1000, .inl f))]) hD hS hA [3, 1, 4] rfl
              refine vt_call (vt_runV (As := []) (rest := []) ⟨hx, hb, hml, hown, hts⟩ (m_R_number l dC dI cB aR aF aE aA a n c_ nb pl f _ ha hn hB hI) (cwV 0 hts (lw_V q179 q180 q181 q10 q182) rfl rfl rfl (by decide +kernel) ⟨Nat.le_of_ble_eq_true rfl, Nat.le_of_ble_eq_true rfl⟩) ⟨gC_bl, va_recv hK hPc (ci := 2) (q0 := 0) rfl rfl, gC_of hPc hK hDc⟩ rfl rfl hl.1 rfl (lv_room (Nat.le_of_ble_eq_true rfl)) dX0_read_48 ⟨Nat.le_of_ble_eq_true rfl, Nat.le_of_ble_eq_true rfl⟩) hS (fun q _ h => hFc q h) hFc (fun r u t H1 locs ht hvm hw hB hz1 hk1 hS => ?_) (fun u t H1 locs ht hvm hw hB hz1 hk1 hS => ?_)
              · obtain ⟨hok, rfl, hu1⟩ := hw
                obtain ⟨hP1, hD1⟩ := hB
                rw [ht] at hP1
                obtain ⟨hP, hD⟩ := va_join (wr := [(aX, .inr (0, [.ref aF, .ref aR, .ref aO, .ref aA, .int (nI n), .long v])), (aE, .inr (5, es))]) (w1 := [(aR, .inr (2, [.ref aF, .ref aA, .int (nI u.1), .int (nI n)])), (aF, .inr (1, [.ref aE, .int u.2.1, .int u.2.2])), (aA, .inl (cB, 1000, .inl f))]) hP hD [3, 1, 4] [0, 2] rfl rfl (by decide) (by decide) hk1 hFc hP1 hD1
                have hP := hP.sub (ws' := [(aX, .inr (0, [.ref aF, .ref aR, .ref aO, .ref aA, .int (nI n), .long v])), (aF, .inr (1, [.ref aE, .int u.2.1, .int u.2.2])), (aE, .inr (5, es)), (aR, .inr (2, [.ref aF, .ref aA, .int (nI u.1), .int (nI n)])), (aA, .inl (cB, 1000, .inl f))]) [0, 3, 1, 2, 4] rfl
                have hD := hD.sub (ws' := [(aX, .inr (0, [.ref aF, .ref aR, .ref aO, .ref aA, .int (nI n), .long v])), (aF, .inr (1, [.ref aE, .int u.2.1, .int u.2.2])), (aE, .inr (5, es)), (aR, .inr (2, [.ref aF, .ref aA, .int (nI u.1), .int (nI n)])), (aA, .inl (cB, 1000, .inl f))]) [0, 3, 1, 2, 4] (by decide) rfl
                generalize H1 = H at hP hS ⊢
                refine lv_goto (tgt := 81) hx hb dX0_read_51 (by decide) ?_
                refine lv_topl (fun z_8 ez_8 => ?_)
                rw [show z_8 = gp_val 0 f a c_ from by rw [ez_8]; rfl]
                refine lv_lstore_n (lv' := [(3, .long (gp_val 0 f a c_)), (0, .ref aX), (1, .int (nI 0)), (2, .int (nI a))]) hx hb dX0_read_81 rfl hl (by decide) rfl (fun ls hl => ?_)
                refine lv_aload_n hx hb dX0_read_82 rfl (lv_at hl 1 rfl) ?_
                refine lv_lload_n hx hb dX0_read_83 rfl (lv_at hl 0 rfl) ?_
                refine va_put (D := (dC, dI)) (ci := 0) (v := .long (gp_val 0 f a c_)) (ty := .long) (C := RX0) (T := TX0) (N := 6) hx hb hts in_X0 tyX0 tyX0_ok nmX0 hown hK hP hD hS 0 rfl rfl 5 (by decide) (hts _ q144) (fun _ h9 => h9) rfl (by decide +kernel) rfl rfl (Nat.le_of_ble_eq_true rfl) dX0_read_84 (fun H locs hP hD hS => ?_)
                have hP : va_P (dC, dI) vwCl [(aX, .inr (0, [.ref aF, .ref aR, .ref aO, .ref aA, .int (nI n), .long (gp_val 0 f a c_)])), (aF, .inr (1, [.ref aE, .int u.2.1, .int u.2.2])), (aE, .inr (5, es)), (aR, .inr (2, [.ref aF, .ref aA, .int (nI u.1), .int (nI n)])), (aA, .inl (cB, 1000, .inl f))] H := hP
                have hD : va_D A [(aX, .inr (0, [.ref aF, .ref aR, .ref aO, .ref aA, .int (nI n), .long (gp_val 0 f a c_)])), (aF, .inr (1, [.ref aE, .int u.2.1, .int u.2.2])), (aE, .inr (5, es)), (aR, .inr (2, [.ref aF, .ref aA, .int (nI u.1), .int (nI n)])), (aA, .inl (cB, 1000, .inl f))] := hD
                refine lv_goto (tgt := 93) hx hb dX0_read_87 (by decide) ?_
                refine lv_aload_n hx hb dX0_read_93 rfl (lv_at hl 1 rfl) ?_
                refine va_get (D := (dC, dI)) (ci := 0) (v := .ref aR) (C := RX0) (T := TX0) (N := 6) hx hb hts in_X0 hown hK hP 0 rfl rfl 1 (by decide) (hts _ q140) (fun _ h9 => h9) rfl dX0_read_94 ?_
                refine va_get (D := (dC, dI)) (ci := 2) (v := .int (nI u.1)) (C := RX2) (T := TX2) (N := 4) hx hb hts in_X2 hown hK hP 3 rfl rfl 2 (by decide) (hts _ q108) (fun _ h9 => h9) rfl dX0_read_97 ?_
                refine lv_iload_n hx hb dX0_read_100 rfl (lv_at hl 3 rfl) ?_
                refine lv_isub hx hb dX0_read_101 ?_
                refine lv_topi (fun z_9 ez_9 => ?_)
                rw [show z_9 = nI (c_ + 1) from by rw [ez_9]; rw [hu1, pk_sub (by omega), show a + c_ + 1 - a = c_ + 1 by omega]]
                exact W.iret (v := nI (c_ + 1)) hx hb hr (fun t ht hW => ⟨⟨nI (c_ + 1), (gp_val 0 f a c_, nI u.1, nI n, u.2.1, u.2.2), rfl, ⟨fun _ => ⟨rfl, rfl⟩, fun z => absurd hok z⟩, by rw [ht]; exact hP, hD⟩, hS.F ht⟩) hS.2.2 dX0_read_102
              · obtain ⟨hP1, hD1⟩ := hB
                rw [ht] at hP1
                obtain ⟨hP, hD⟩ := va_join (wr := [(aX, .inr (0, [.ref aF, .ref aR, .ref aO, .ref aA, .int (nI n), .long v])), (aE, .inr (5, es))]) (w1 := [(aR, .inr (2, [.ref aF, .ref aA, .int (nI u.1), .int (nI n)])), (aF, .inr (1, [.ref aE, .int u.2.1, .int u.2.2])), (aA, .inl (cB, 1000, .inl f))]) hP hD [3, 1, 4] [0, 2] rfl rfl (by decide) (by decide) hk1 hFc hP1 hD1
                have hP := hP.sub (ws' := [(aX, .inr (0, [.ref aF, .ref aR, .ref aO, .ref aA, .int (nI n), .long v])), (aF, .inr (1, [.ref aE, .int u.2.1, .int u.2.2])), (aE, .inr (5, es)), (aR, .inr (2, [.ref aF, .ref aA, .int (nI u.1), .int (nI n)])), (aA, .inl (cB, 1000, .inl f))]) [0, 3, 1, 2, 4] rfl
                have hD := hD.sub (ws' := [(aX, .inr (0, [.ref aF, .ref aR, .ref aO, .ref aA, .int (nI n), .long v])), (aF, .inr (1, [.ref aE, .int u.2.1, .int u.2.2])), (aE, .inr (5, es)), (aR, .inr (2, [.ref aF, .ref aA, .int (nI u.1), .int (nI n)])), (aA, .inl (cB, 1000, .inl f))]) [0, 3, 1, 2, 4] (by decide) rfl
                generalize H1 = H at hP hS ⊢
                refine vt_catch (own := RX0) (nm := RJ3) (index := 63) (hpc := 90) (lo := 40) (hi := 87) hown (hts _ q174) (hK.1 5 _ rfl).2 hh (by decide) ⟨by decide, by decide⟩ (va_recv hK hP (ci := 5) (q0 := 2) rfl rfl) ?_
                refine lv_astore_n (lv' := [(3, .ref aE), (0, .ref aX), (1, .int (nI 0)), (2, .int (nI a))]) hx hb dX0_read_90 rfl hl (by decide) rfl (fun ls hl => ?_)
                refine lv_iconst (v := (-1)) hx hb dX0_read_91 (by decide) ?_
                exact W.iret (v := (-1)) hx hb hr (fun t ht hW => ⟨⟨(-1), (v, nI u.1, nI n, u.2.1, u.2.2), rfl, ⟨fun z => absurd z hw, fun _ => ⟨rfl, rfl⟩⟩, by rw [ht]; exact hP, hD⟩, hS.F ht⟩) hS.2.2 dX0_read_92
          · exact absurd (nI_le ha (by omega)) c_4
  · have hm : most = 4 + 1 := hm
    subst hm
    refine lv_iload_n hx hb dX0_read_0 rfl (lv_at hl 1 rfl) ?_
    refine lv_if_lt (tgt := 21) hx hb dX0_read_1 (by decide) (fun c_1 => ?_) (fun c_1 => ?_)
    · exact absurd c_1 (by decide)
    · refine lv_iload_n hx hb dX0_read_4 rfl (lv_at hl 1 rfl) ?_
      refine lv_iconst (v := 2) hx hb dX0_read_5 (by decide) ?_
      refine lv_icmp_gt (tgt := 21) hx hb dX0_read_6 (by decide) (fun c_2 => ?_) (fun c_2 => ?_)
      · exact absurd c_2 (by decide)
      · refine lv_iload_n hx hb dX0_read_9 rfl (lv_at hl 2 rfl) ?_
        refine lv_if_lt (tgt := 21) hx hb dX0_read_10 (by decide) (fun c_3 => ?_) (fun c_3 => ?_)
        · exact absurd c_3 (nI_pos (by omega))
        · refine lv_iload_n hx hb dX0_read_13 rfl (lv_at hl 2 rfl) ?_
          refine lv_aload_n hx hb dX0_read_14 rfl (lv_at hl 0 rfl) ?_
          refine va_get (D := (dC, dI)) (ci := 0) (v := .int (nI n)) (C := RX0) (T := TX0) (N := 6) hx hb hts in_X0 hown hK hP 0 rfl rfl 4 (by decide) (hts _ q143) (fun _ h9 => h9) rfl dX0_read_15 ?_
          refine lv_icmp_le (tgt := 24) hx hb dX0_read_18 (by decide) (fun c_4 => ?_) (fun c_4 => ?_)
          · refine lv_aload_n hx hb dX0_read_24 rfl (lv_at hl 0 rfl) ?_
            refine va_get (D := (dC, dI)) (ci := 0) (v := .ref aR) (C := RX0) (T := TX0) (N := 6) hx hb hts in_X0 hown hK hP 0 rfl rfl 1 (by decide) (hts _ q140) (fun _ h9 => h9) rfl dX0_read_25 ?_
            refine lv_aload_n hx hb dX0_read_28 rfl (lv_at hl 0 rfl) ?_
            refine va_get (D := (dC, dI)) (ci := 0) (v := .ref aA) (C := RX0) (T := TX0) (N := 6) hx hb hts in_X0 hown hK hP 0 rfl rfl 3 (by decide) (hts _ q142) (fun _ h9 => h9) rfl dX0_read_29 ?_
            refine lv_iload_n hx hb dX0_read_32 rfl (lv_at hl 2 rfl) ?_
            refine lv_aload_n hx hb dX0_read_33 rfl (lv_at hl 0 rfl) ?_
            refine va_get (D := (dC, dI)) (ci := 0) (v := .int (nI n)) (C := RX0) (T := TX0) (N := 6) hx hb hts in_X0 hown hK hP 0 rfl rfl 4 (by decide) (hts _ q143) (fun _ h9 => h9) rfl dX0_read_34 ?_
            have hPc := hP.sub (ws' := [(aR, .inr (2, [.ref aF, .ref rb, .int ra, .int re]))]) [3] rfl
            have hDc := hD.sub (ws' := [(aR, .inr (2, [.ref aF, .ref rb, .int ra, .int re]))]) [3] (by decide) rfl
            have hFc := va_free (wc := [(aR, .inr (2, [.ref aF, .ref rb, .int ra, .int re]))]) hD hS hA [3] rfl
            refine va_callv (va_runV (As := [.ref aA, .int (nI a), .int (nI n)]) (rest := []) ⟨hx, hb, hml, hown, hts⟩ (m_R_open l dC dI cB aR aF rb aA ra re (nI a) (nI n) _) (cwV 3 hts (lw_V q175 q176 q177 q10 q178) rfl rfl rfl (by decide +kernel) ⟨Nat.le_of_ble_eq_true rfl, Nat.le_of_ble_eq_true rfl⟩) ⟨gC_bl, va_recv hK hPc (ci := 2) (q0 := 0) rfl rfl, gC_of hPc hK hDc⟩ rfl rfl hl.1 rfl (lv_room (Nat.le_of_ble_eq_true rfl)) dX0_read_37 ⟨Nat.le_of_ble_eq_true rfl, Nat.le_of_ble_eq_true rfl⟩) hS (fun q _ h => hFc q h) hFc (fun u t H1 locs ht hvm hw hB hz1 hk1 hS => ?_)
            obtain ⟨hP1, hD1⟩ := hB
            rw [ht] at hP1
            obtain ⟨hP, hD⟩ := va_join (wr := [(aX, .inr (0, [.ref aF, .ref aR, .ref aO, .ref aA, .int (nI n), .long v])), (aF, .inr (1, [.ref aE, .int nb, .int pl])), (aE, .inr (5, es)), (aA, .inl (cB, 1000, .inl f))]) (w1 := [(aR, .inr (2, [.ref aF, .ref aA, .int (nI a), .int (nI n)]))]) hP hD [3] [0, 1, 2, 4] rfl rfl (by decide) (by decide) hk1 hFc hP1 hD1
            have hP := hP.sub (ws' := [(aX, .inr (0, [.ref aF, .ref aR, .ref aO, .ref aA, .int (nI n), .long v])), (aF, .inr (1, [.ref aE, .int nb, .int pl])), (aE, .inr (5, es)), (aR, .inr (2, [.ref aF, .ref aA, .int (nI a), .int (nI n)])), (aA, .inl (cB, 1000, .inl f))]) [0, 1, 2, 4, 3] rfl
            have hD := hD.sub (ws' := [(aX, .inr (0, [.ref aF, .ref aR, .ref aO, .ref aA, .int (nI n), .long v])), (aF, .inr (1, [.ref aE, .int nb, .int pl])), (aE, .inr (5, es)), (aR, .inr (2, [.ref aF, .ref aA, .int (nI a), .int (nI n)])), (aA, .inl (cB, 1000, .inl f))]) [0, 1, 2, 4, 3] (by decide) rfl
            generalize H1 = H at hP hS ⊢
            refine lv_iload_n hx hb dX0_read_40 rfl (lv_at hl 1 rfl) ?_
            refine lv_if_ne (tgt := 54) hx hb dX0_read_41 (by decide) (fun c_6 => ?_) (fun c_6 => ?_)
            · refine lv_iload_n hx hb dX0_read_54 rfl (lv_at hl 1 rfl) ?_
              refine lv_iconst (v := 1) hx hb dX0_read_55 (by decide) ?_
              refine lv_icmp_ne (tgt := 72) hx hb dX0_read_56 (by decide) (fun c_7 => ?_) (fun c_7 => ?_)
              · exact absurd rfl c_7
              · refine lv_aload_n hx hb dX0_read_59 rfl (lv_at hl 0 rfl) ?_
                refine va_get (D := (dC, dI)) (ci := 0) (v := .ref aR) (C := RX0) (T := TX0) (N := 6) hx hb hts in_X0 hown hK hP 0 rfl rfl 1 (by decide) (hts _ q140) (fun _ h9 => h9) rfl dX0_read_60 ?_
                refine lv_iconst (v := 5) hx hb dX0_read_63 (by decide) ?_
                refine lv_topi (fun z_8 ez_8 => ?_)
                rw [show z_8 = nI (4 + 1) from by rw [ez_8]; rfl]
                have hPc := hP.sub (ws' := [(aR, .inr (2, [.ref aF, .ref aA, .int (nI a), .int (nI n)])), (aF, .inr (1, [.ref aE, .int nb, .int pl])), (aA, .inl (cB, 1000, .inl f))]) [3, 1, 4] rfl
                have hDc := hD.sub (ws' := [(aR, .inr (2, [.ref aF, .ref aA, .int (nI a), .int (nI n)])), (aF, .inr (1, [.ref aE, .int nb, .int pl])), (aA, .inl (cB, 1000, .inl f))]) [3, 1, 4] (by decide) rfl
                have hFc := va_free (wc := [(aR, .inr (2, [.ref aF, .ref aA, .int (nI a), .int (nI n)])), (aF, .inr (1, [.ref aE, .int nb, .int pl])), (aA, .inl (cB, 1000, .inl f))]) hD hS hA [3, 1, 4] rfl
                refine vt_call (vt_runV (As := [.int (nI (4 + 1))]) (rest := []) ⟨hx, hb, hml, hown, hts⟩ (m_R_signed l dC dI cB aR aF aE aA a n c_ 1 4 nb pl f _ ha hn hB (by unfold gp_hq; omega) hI) (cwV 1 hts (lw_V q195 q196 q197 q10 q198) rfl rfl rfl (by decide +kernel) ⟨Nat.le_of_ble_eq_true rfl, Nat.le_of_ble_eq_true rfl⟩) ⟨gC_bl, va_recv hK hPc (ci := 2) (q0 := 0) rfl rfl, gC_of hPc hK hDc⟩ rfl rfl hl.1 rfl (lv_room (Nat.le_of_ble_eq_true rfl)) dX0_read_64 ⟨Nat.le_of_ble_eq_true rfl, Nat.le_of_ble_eq_true rfl⟩) hS (fun q _ h => hFc q h) hFc (fun r u t H1 locs ht hvm hw hB hz1 hk1 hS => ?_) (fun u t H1 locs ht hvm hw hB hz1 hk1 hS => ?_)
                · obtain ⟨hok, rfl, hu1⟩ := hw
                  obtain ⟨hP1, hD1⟩ := hB
                  rw [ht] at hP1
                  obtain ⟨hP, hD⟩ := va_join (wr := [(aX, .inr (0, [.ref aF, .ref aR, .ref aO, .ref aA, .int (nI n), .long v])), (aE, .inr (5, es))]) (w1 := [(aR, .inr (2, [.ref aF, .ref aA, .int (nI u.1), .int (nI n)])), (aF, .inr (1, [.ref aE, .int u.2.1, .int u.2.2])), (aA, .inl (cB, 1000, .inl f))]) hP hD [3, 1, 4] [0, 2] rfl rfl (by decide) (by decide) hk1 hFc hP1 hD1
                  have hP := hP.sub (ws' := [(aX, .inr (0, [.ref aF, .ref aR, .ref aO, .ref aA, .int (nI n), .long v])), (aF, .inr (1, [.ref aE, .int u.2.1, .int u.2.2])), (aE, .inr (5, es)), (aR, .inr (2, [.ref aF, .ref aA, .int (nI u.1), .int (nI n)])), (aA, .inl (cB, 1000, .inl f))]) [0, 3, 1, 2, 4] rfl
                  have hD := hD.sub (ws' := [(aX, .inr (0, [.ref aF, .ref aR, .ref aO, .ref aA, .int (nI n), .long v])), (aF, .inr (1, [.ref aE, .int u.2.1, .int u.2.2])), (aE, .inr (5, es)), (aR, .inr (2, [.ref aF, .ref aA, .int (nI u.1), .int (nI n)])), (aA, .inl (cB, 1000, .inl f))]) [0, 3, 1, 2, 4] (by decide) rfl
                  generalize H1 = H at hP hS ⊢
                  refine lv_l2i (v := ((gp_raw 1 f a c_)).toInt32) hx hb dX0_read_67 rfl ?_
                  refine lv_i2l (v := ((((gp_raw 1 f a c_)).toInt32)).toInt64) hx hb dX0_read_68 rfl ?_
                  refine lv_goto (tgt := 81) hx hb dX0_read_69 (by decide) ?_
                  refine lv_topl (fun z_10 ez_10 => ?_)
                  rw [show z_10 = gp_val 1 f a c_ from by rw [ez_10]; rfl]
                  refine lv_lstore_n (lv' := [(3, .long (gp_val 1 f a c_)), (0, .ref aX), (1, .int (nI 1)), (2, .int (nI a))]) hx hb dX0_read_81 rfl hl (by decide) rfl (fun ls hl => ?_)
                  refine lv_aload_n hx hb dX0_read_82 rfl (lv_at hl 1 rfl) ?_
                  refine lv_lload_n hx hb dX0_read_83 rfl (lv_at hl 0 rfl) ?_
                  refine va_put (D := (dC, dI)) (ci := 0) (v := .long (gp_val 1 f a c_)) (ty := .long) (C := RX0) (T := TX0) (N := 6) hx hb hts in_X0 tyX0 tyX0_ok nmX0 hown hK hP hD hS 0 rfl rfl 5 (by decide) (hts _ q144) (fun _ h9 => h9) rfl (by decide +kernel) rfl rfl (Nat.le_of_ble_eq_true rfl) dX0_read_84 (fun H locs hP hD hS => ?_)
                  have hP : va_P (dC, dI) vwCl [(aX, .inr (0, [.ref aF, .ref aR, .ref aO, .ref aA, .int (nI n), .long (gp_val 1 f a c_)])), (aF, .inr (1, [.ref aE, .int u.2.1, .int u.2.2])), (aE, .inr (5, es)), (aR, .inr (2, [.ref aF, .ref aA, .int (nI u.1), .int (nI n)])), (aA, .inl (cB, 1000, .inl f))] H := hP
                  have hD : va_D A [(aX, .inr (0, [.ref aF, .ref aR, .ref aO, .ref aA, .int (nI n), .long (gp_val 1 f a c_)])), (aF, .inr (1, [.ref aE, .int u.2.1, .int u.2.2])), (aE, .inr (5, es)), (aR, .inr (2, [.ref aF, .ref aA, .int (nI u.1), .int (nI n)])), (aA, .inl (cB, 1000, .inl f))] := hD
                  refine lv_goto (tgt := 93) hx hb dX0_read_87 (by decide) ?_
                  refine lv_aload_n hx hb dX0_read_93 rfl (lv_at hl 1 rfl) ?_
                  refine va_get (D := (dC, dI)) (ci := 0) (v := .ref aR) (C := RX0) (T := TX0) (N := 6) hx hb hts in_X0 hown hK hP 0 rfl rfl 1 (by decide) (hts _ q140) (fun _ h9 => h9) rfl dX0_read_94 ?_
                  refine va_get (D := (dC, dI)) (ci := 2) (v := .int (nI u.1)) (C := RX2) (T := TX2) (N := 4) hx hb hts in_X2 hown hK hP 3 rfl rfl 2 (by decide) (hts _ q108) (fun _ h9 => h9) rfl dX0_read_97 ?_
                  refine lv_iload_n hx hb dX0_read_100 rfl (lv_at hl 3 rfl) ?_
                  refine lv_isub hx hb dX0_read_101 ?_
                  refine lv_topi (fun z_11 ez_11 => ?_)
                  rw [show z_11 = nI (c_ + 1) from by rw [ez_11]; rw [hu1, pk_sub (by omega), show a + c_ + 1 - a = c_ + 1 by omega]]
                  exact W.iret (v := nI (c_ + 1)) hx hb hr (fun t ht hW => ⟨⟨nI (c_ + 1), (gp_val 1 f a c_, nI u.1, nI n, u.2.1, u.2.2), rfl, ⟨fun _ => ⟨rfl, rfl⟩, fun z => absurd hok z⟩, by rw [ht]; exact hP, hD⟩, hS.F ht⟩) hS.2.2 dX0_read_102
                · obtain ⟨hP1, hD1⟩ := hB
                  rw [ht] at hP1
                  obtain ⟨hP, hD⟩ := va_join (wr := [(aX, .inr (0, [.ref aF, .ref aR, .ref aO, .ref aA, .int (nI n), .long v])), (aE, .inr (5, es))]) (w1 := [(aR, .inr (2, [.ref aF, .ref aA, .int (nI u.1), .int (nI n)])), (aF, .inr (1, [.ref aE, .int u.2.1, .int u.2.2])), (aA, .inl (cB, 1000, .inl f))]) hP hD [3, 1, 4] [0, 2] rfl rfl (by decide) (by decide) hk1 hFc hP1 hD1
                  have hP := hP.sub (ws' := [(aX, .inr (0, [.ref aF, .ref aR, .ref aO, .ref aA, .int (nI n), .long v])), (aF, .inr (1, [.ref aE, .int u.2.1, .int u.2.2])), (aE, .inr (5, es)), (aR, .inr (2, [.ref aF, .ref aA, .int (nI u.1), .int (nI n)])), (aA, .inl (cB, 1000, .inl f))]) [0, 3, 1, 2, 4] rfl
                  have hD := hD.sub (ws' := [(aX, .inr (0, [.ref aF, .ref aR, .ref aO, .ref aA, .int (nI n), .long v])), (aF, .inr (1, [.ref aE, .int u.2.1, .int u.2.2])), (aE, .inr (5, es)), (aR, .inr (2, [.ref aF, .ref aA, .int (nI u.1), .int (nI n)])), (aA, .inl (cB, 1000, .inl f))]) [0, 3, 1, 2, 4] (by decide) rfl
                  generalize H1 = H at hP hS ⊢
                  refine vt_catch (own := RX0) (nm := RJ3) (index := 63) (hpc := 90) (lo := 40) (hi := 87) hown (hts _ q174) (hK.1 5 _ rfl).2 hh (by decide) ⟨by decide, by decide⟩ (va_recv hK hP (ci := 5) (q0 := 2) rfl rfl) ?_
                  refine lv_astore_n (lv' := [(3, .ref aE), (0, .ref aX), (1, .int (nI 1)), (2, .int (nI a))]) hx hb dX0_read_90 rfl hl (by decide) rfl (fun ls hl => ?_)
                  refine lv_iconst (v := (-1)) hx hb dX0_read_91 (by decide) ?_
                  exact W.iret (v := (-1)) hx hb hr (fun t ht hW => ⟨⟨(-1), (v, nI u.1, nI n, u.2.1, u.2.2), rfl, ⟨fun z => absurd z hw, fun _ => ⟨rfl, rfl⟩⟩, by rw [ht]; exact hP, hD⟩, hS.F ht⟩) hS.2.2 dX0_read_92
            · exact absurd c_6 (by decide)
          · exact absurd (nI_le ha (by omega)) c_4
  · have hm : most = 9 + 1 := hm
    subst hm
    refine lv_iload_n hx hb dX0_read_0 rfl (lv_at hl 1 rfl) ?_
    refine lv_if_lt (tgt := 21) hx hb dX0_read_1 (by decide) (fun c_1 => ?_) (fun c_1 => ?_)
    · exact absurd c_1 (by decide)
    · refine lv_iload_n hx hb dX0_read_4 rfl (lv_at hl 1 rfl) ?_
      refine lv_iconst (v := 2) hx hb dX0_read_5 (by decide) ?_
      refine lv_icmp_gt (tgt := 21) hx hb dX0_read_6 (by decide) (fun c_2 => ?_) (fun c_2 => ?_)
      · exact absurd c_2 (by decide)
      · refine lv_iload_n hx hb dX0_read_9 rfl (lv_at hl 2 rfl) ?_
        refine lv_if_lt (tgt := 21) hx hb dX0_read_10 (by decide) (fun c_3 => ?_) (fun c_3 => ?_)
        · exact absurd c_3 (nI_pos (by omega))
        · refine lv_iload_n hx hb dX0_read_13 rfl (lv_at hl 2 rfl) ?_
          refine lv_aload_n hx hb dX0_read_14 rfl (lv_at hl 0 rfl) ?_
          refine va_get (D := (dC, dI)) (ci := 0) (v := .int (nI n)) (C := RX0) (T := TX0) (N := 6) hx hb hts in_X0 hown hK hP 0 rfl rfl 4 (by decide) (hts _ q143) (fun _ h9 => h9) rfl dX0_read_15 ?_
          refine lv_icmp_le (tgt := 24) hx hb dX0_read_18 (by decide) (fun c_4 => ?_) (fun c_4 => ?_)
          · refine lv_aload_n hx hb dX0_read_24 rfl (lv_at hl 0 rfl) ?_
            refine va_get (D := (dC, dI)) (ci := 0) (v := .ref aR) (C := RX0) (T := TX0) (N := 6) hx hb hts in_X0 hown hK hP 0 rfl rfl 1 (by decide) (hts _ q140) (fun _ h9 => h9) rfl dX0_read_25 ?_
            refine lv_aload_n hx hb dX0_read_28 rfl (lv_at hl 0 rfl) ?_
            refine va_get (D := (dC, dI)) (ci := 0) (v := .ref aA) (C := RX0) (T := TX0) (N := 6) hx hb hts in_X0 hown hK hP 0 rfl rfl 3 (by decide) (hts _ q142) (fun _ h9 => h9) rfl dX0_read_29 ?_
            refine lv_iload_n hx hb dX0_read_32 rfl (lv_at hl 2 rfl) ?_
            refine lv_aload_n hx hb dX0_read_33 rfl (lv_at hl 0 rfl) ?_
            refine va_get (D := (dC, dI)) (ci := 0) (v := .int (nI n)) (C := RX0) (T := TX0) (N := 6) hx hb hts in_X0 hown hK hP 0 rfl rfl 4 (by decide) (hts _ q143) (fun _ h9 => h9) rfl dX0_read_34 ?_
            have hPc := hP.sub (ws' := [(aR, .inr (2, [.ref aF, .ref rb, .int ra, .int re]))]) [3] rfl
            have hDc := hD.sub (ws' := [(aR, .inr (2, [.ref aF, .ref rb, .int ra, .int re]))]) [3] (by decide) rfl
            have hFc := va_free (wc := [(aR, .inr (2, [.ref aF, .ref rb, .int ra, .int re]))]) hD hS hA [3] rfl
            refine va_callv (va_runV (As := [.ref aA, .int (nI a), .int (nI n)]) (rest := []) ⟨hx, hb, hml, hown, hts⟩ (m_R_open l dC dI cB aR aF rb aA ra re (nI a) (nI n) _) (cwV 3 hts (lw_V q175 q176 q177 q10 q178) rfl rfl rfl (by decide +kernel) ⟨Nat.le_of_ble_eq_true rfl, Nat.le_of_ble_eq_true rfl⟩) ⟨gC_bl, va_recv hK hPc (ci := 2) (q0 := 0) rfl rfl, gC_of hPc hK hDc⟩ rfl rfl hl.1 rfl (lv_room (Nat.le_of_ble_eq_true rfl)) dX0_read_37 ⟨Nat.le_of_ble_eq_true rfl, Nat.le_of_ble_eq_true rfl⟩) hS (fun q _ h => hFc q h) hFc (fun u t H1 locs ht hvm hw hB hz1 hk1 hS => ?_)
            obtain ⟨hP1, hD1⟩ := hB
            rw [ht] at hP1
            obtain ⟨hP, hD⟩ := va_join (wr := [(aX, .inr (0, [.ref aF, .ref aR, .ref aO, .ref aA, .int (nI n), .long v])), (aF, .inr (1, [.ref aE, .int nb, .int pl])), (aE, .inr (5, es)), (aA, .inl (cB, 1000, .inl f))]) (w1 := [(aR, .inr (2, [.ref aF, .ref aA, .int (nI a), .int (nI n)]))]) hP hD [3] [0, 1, 2, 4] rfl rfl (by decide) (by decide) hk1 hFc hP1 hD1
            have hP := hP.sub (ws' := [(aX, .inr (0, [.ref aF, .ref aR, .ref aO, .ref aA, .int (nI n), .long v])), (aF, .inr (1, [.ref aE, .int nb, .int pl])), (aE, .inr (5, es)), (aR, .inr (2, [.ref aF, .ref aA, .int (nI a), .int (nI n)])), (aA, .inl (cB, 1000, .inl f))]) [0, 1, 2, 4, 3] rfl
            have hD := hD.sub (ws' := [(aX, .inr (0, [.ref aF, .ref aR, .ref aO, .ref aA, .int (nI n), .long v])), (aF, .inr (1, [.ref aE, .int nb, .int pl])), (aE, .inr (5, es)), (aR, .inr (2, [.ref aF, .ref aA, .int (nI a), .int (nI n)])), (aA, .inl (cB, 1000, .inl f))]) [0, 1, 2, 4, 3] (by decide) rfl
            generalize H1 = H at hP hS ⊢
            refine lv_iload_n hx hb dX0_read_40 rfl (lv_at hl 1 rfl) ?_
            refine lv_if_ne (tgt := 54) hx hb dX0_read_41 (by decide) (fun c_6 => ?_) (fun c_6 => ?_)
            · refine lv_iload_n hx hb dX0_read_54 rfl (lv_at hl 1 rfl) ?_
              refine lv_iconst (v := 1) hx hb dX0_read_55 (by decide) ?_
              refine lv_icmp_ne (tgt := 72) hx hb dX0_read_56 (by decide) (fun c_7 => ?_) (fun c_7 => ?_)
              · refine lv_aload_n hx hb dX0_read_72 rfl (lv_at hl 0 rfl) ?_
                refine va_get (D := (dC, dI)) (ci := 0) (v := .ref aR) (C := RX0) (T := TX0) (N := 6) hx hb hts in_X0 hown hK hP 0 rfl rfl 1 (by decide) (hts _ q140) (fun _ h9 => h9) rfl dX0_read_73 ?_
                refine lv_bipush (v := 10) hx hb dX0_read_76 (by decide) ?_
                refine lv_topi (fun z_8 ez_8 => ?_)
                rw [show z_8 = nI (9 + 1) from by rw [ez_8]; rfl]
                have hPc := hP.sub (ws' := [(aR, .inr (2, [.ref aF, .ref aA, .int (nI a), .int (nI n)])), (aF, .inr (1, [.ref aE, .int nb, .int pl])), (aA, .inl (cB, 1000, .inl f))]) [3, 1, 4] rfl
                have hDc := hD.sub (ws' := [(aR, .inr (2, [.ref aF, .ref aA, .int (nI a), .int (nI n)])), (aF, .inr (1, [.ref aE, .int nb, .int pl])), (aA, .inl (cB, 1000, .inl f))]) [3, 1, 4] (by decide) rfl
                have hFc := va_free (wc := [(aR, .inr (2, [.ref aF, .ref aA, .int (nI a), .int (nI n)])), (aF, .inr (1, [.ref aE, .int nb, .int pl])), (aA, .inl (cB, 1000, .inl f))]) hD hS hA [3, 1, 4] rfl
                refine vt_call (vt_runV (As := [.int (nI (9 + 1))]) (rest := []) ⟨hx, hb, hml, hown, hts⟩ (m_R_signed l dC dI cB aR aF aE aA a n c_ 2 9 nb pl f _ ha hn hB (by unfold gp_hq; omega) hI) (cwV 1 hts (lw_V q195 q196 q197 q10 q198) rfl rfl rfl (by decide +kernel) ⟨Nat.le_of_ble_eq_true rfl, Nat.le_of_ble_eq_true rfl⟩) ⟨gC_bl, va_recv hK hPc (ci := 2) (q0 := 0) rfl rfl, gC_of hPc hK hDc⟩ rfl rfl hl.1 rfl (lv_room (Nat.le_of_ble_eq_true rfl)) dX0_read_78 ⟨Nat.le_of_ble_eq_true rfl, Nat.le_of_ble_eq_true rfl⟩) hS (fun q _ h => hFc q h) hFc (fun r u t H1 locs ht hvm hw hB hz1 hk1 hS => ?_) (fun u t H1 locs ht hvm hw hB hz1 hk1 hS => ?_)
                · obtain ⟨hok, rfl, hu1⟩ := hw
                  obtain ⟨hP1, hD1⟩ := hB
                  rw [ht] at hP1
                  obtain ⟨hP, hD⟩ := va_join (wr := [(aX, .inr (0, [.ref aF, .ref aR, .ref aO, .ref aA, .int (nI n), .long v])), (aE, .inr (5, es))]) (w1 := [(aR, .inr (2, [.ref aF, .ref aA, .int (nI u.1), .int (nI n)])), (aF, .inr (1, [.ref aE, .int u.2.1, .int u.2.2])), (aA, .inl (cB, 1000, .inl f))]) hP hD [3, 1, 4] [0, 2] rfl rfl (by decide) (by decide) hk1 hFc hP1 hD1
                  have hP := hP.sub (ws' := [(aX, .inr (0, [.ref aF, .ref aR, .ref aO, .ref aA, .int (nI n), .long v])), (aF, .inr (1, [.ref aE, .int u.2.1, .int u.2.2])), (aE, .inr (5, es)), (aR, .inr (2, [.ref aF, .ref aA, .int (nI u.1), .int (nI n)])), (aA, .inl (cB, 1000, .inl f))]) [0, 3, 1, 2, 4] rfl
                  have hD := hD.sub (ws' := [(aX, .inr (0, [.ref aF, .ref aR, .ref aO, .ref aA, .int (nI n), .long v])), (aF, .inr (1, [.ref aE, .int u.2.1, .int u.2.2])), (aE, .inr (5, es)), (aR, .inr (2, [.ref aF, .ref aA, .int (nI u.1), .int (nI n)])), (aA, .inl (cB, 1000, .inl f))]) [0, 3, 1, 2, 4] (by decide) rfl
                  generalize H1 = H at hP hS ⊢
                  refine lv_topl (fun z_10 ez_10 => ?_)
                  rw [show z_10 = gp_val 2 f a c_ from by rw [ez_10]; rfl]
                  refine lv_lstore_n (lv' := [(3, .long (gp_val 2 f a c_)), (0, .ref aX), (1, .int (nI 2)), (2, .int (nI a))]) hx hb dX0_read_81 rfl hl (by decide) rfl (fun ls hl => ?_)
                  refine lv_aload_n hx hb dX0_read_82 rfl (lv_at hl 1 rfl) ?_
                  refine lv_lload_n hx hb dX0_read_83 rfl (lv_at hl 0 rfl) ?_
                  refine va_put (D := (dC, dI)) (ci := 0) (v := .long (gp_val 2 f a c_)) (ty := .long) (C := RX0) (T := TX0) (N := 6) hx hb hts in_X0 tyX0 tyX0_ok nmX0 hown hK hP hD hS 0 rfl rfl 5 (by decide) (hts _ q144) (fun _ h9 => h9) rfl (by decide +kernel) rfl rfl (Nat.le_of_ble_eq_true rfl) dX0_read_84 (fun H locs hP hD hS => ?_)
                  have hP : va_P (dC, dI) vwCl [(aX, .inr (0, [.ref aF, .ref aR, .ref aO, .ref aA, .int (nI n), .long (gp_val 2 f a c_)])), (aF, .inr (1, [.ref aE, .int u.2.1, .int u.2.2])), (aE, .inr (5, es)), (aR, .inr (2, [.ref aF, .ref aA, .int (nI u.1), .int (nI n)])), (aA, .inl (cB, 1000, .inl f))] H := hP
                  have hD : va_D A [(aX, .inr (0, [.ref aF, .ref aR, .ref aO, .ref aA, .int (nI n), .long (gp_val 2 f a c_)])), (aF, .inr (1, [.ref aE, .int u.2.1, .int u.2.2])), (aE, .inr (5, es)), (aR, .inr (2, [.ref aF, .ref aA, .int (nI u.1), .int (nI n)])), (aA, .inl (cB, 1000, .inl f))] := hD
                  refine lv_goto (tgt := 93) hx hb dX0_read_87 (by decide) ?_
                  refine lv_aload_n hx hb dX0_read_93 rfl (lv_at hl 1 rfl) ?_
                  refine va_get (D := (dC, dI)) (ci := 0) (v := .ref aR) (C := RX0) (T := TX0) (N := 6) hx hb hts in_X0 hown hK hP 0 rfl rfl 1 (by decide) (hts _ q140) (fun _ h9 => h9) rfl dX0_read_94 ?_
                  refine va_get (D := (dC, dI)) (ci := 2) (v := .int (nI u.1)) (C := RX2) (T := TX2) (N := 4) hx hb hts in_X2 hown hK hP 3 rfl rfl 2 (by decide) (hts _ q108) (fun _ h9 => h9) rfl dX0_read_97 ?_
                  refine lv_iload_n hx hb dX0_read_100 rfl (lv_at hl 3 rfl) ?_
                  refine lv_isub hx hb dX0_read_101 ?_
                  refine lv_topi (fun z_11 ez_11 => ?_)
                  rw [show z_11 = nI (c_ + 1) from by rw [ez_11]; rw [hu1, pk_sub (by omega), show a + c_ + 1 - a = c_ + 1 by omega]]
                  exact W.iret (v := nI (c_ + 1)) hx hb hr (fun t ht hW => ⟨⟨nI (c_ + 1), (gp_val 2 f a c_, nI u.1, nI n, u.2.1, u.2.2), rfl, ⟨fun _ => ⟨rfl, rfl⟩, fun z => absurd hok z⟩, by rw [ht]; exact hP, hD⟩, hS.F ht⟩) hS.2.2 dX0_read_102
                · obtain ⟨hP1, hD1⟩ := hB
                  rw [ht] at hP1
                  obtain ⟨hP, hD⟩ := va_join (wr := [(aX, .inr (0, [.ref aF, .ref aR, .ref aO, .ref aA, .int (nI n), .long v])), (aE, .inr (5, es))]) (w1 := [(aR, .inr (2, [.ref aF, .ref aA, .int (nI u.1), .int (nI n)])), (aF, .inr (1, [.ref aE, .int u.2.1, .int u.2.2])), (aA, .inl (cB, 1000, .inl f))]) hP hD [3, 1, 4] [0, 2] rfl rfl (by decide) (by decide) hk1 hFc hP1 hD1
                  have hP := hP.sub (ws' := [(aX, .inr (0, [.ref aF, .ref aR, .ref aO, .ref aA, .int (nI n), .long v])), (aF, .inr (1, [.ref aE, .int u.2.1, .int u.2.2])), (aE, .inr (5, es)), (aR, .inr (2, [.ref aF, .ref aA, .int (nI u.1), .int (nI n)])), (aA, .inl (cB, 1000, .inl f))]) [0, 3, 1, 2, 4] rfl
                  have hD := hD.sub (ws' := [(aX, .inr (0, [.ref aF, .ref aR, .ref aO, .ref aA, .int (nI n), .long v])), (aF, .inr (1, [.ref aE, .int u.2.1, .int u.2.2])), (aE, .inr (5, es)), (aR, .inr (2, [.ref aF, .ref aA, .int (nI u.1), .int (nI n)])), (aA, .inl (cB, 1000, .inl f))]) [0, 3, 1, 2, 4] (by decide) rfl
                  generalize H1 = H at hP hS ⊢
                  refine vt_catch (own := RX0) (nm := RJ3) (index := 63) (hpc := 90) (lo := 40) (hi := 87) hown (hts _ q174) (hK.1 5 _ rfl).2 hh (by decide) ⟨by decide, by decide⟩ (va_recv hK hP (ci := 5) (q0 := 2) rfl rfl) ?_
                  refine lv_astore_n (lv' := [(3, .ref aE), (0, .ref aX), (1, .int (nI 2)), (2, .int (nI a))]) hx hb dX0_read_90 rfl hl (by decide) rfl (fun ls hl => ?_)
                  refine lv_iconst (v := (-1)) hx hb dX0_read_91 (by decide) ?_
                  exact W.iret (v := (-1)) hx hb hr (fun t ht hW => ⟨⟨(-1), (v, nI u.1, nI n, u.2.1, u.2.2), rfl, ⟨fun z => absurd z hw, fun _ => ⟨rfl, rfl⟩⟩, by rw [ht]; exact hP, hD⟩, hS.F ht⟩) hS.2.2 dX0_read_92
              · exact absurd c_7 (by decide)
            · exact absurd c_6 (by decide)
          · exact absurd (nI_le ha (by omega)) c_4
end
section
set_option maxRecDepth 100000
set_option maxHeartbeats 4000000 in
/-- GroupedNumbersModel.word(w): four bytes more -/
theorem m_M_word (l : Launch) (dC : Nat → ClassId) (dI : Nat → Nat → Nat) (cB : ClassId) (aY aM aN : Nat) (n k : Nat) (v : Int64) (f : Nat → Int32) (w : Int32) (sz : Nat) (hn : n + 4 ≤ 1000) : Met l yX4_word (ws_ yX4_word cX4_word 3 none) ({ frames := 0, cells := 0, slots := 0, locals := 0 }) (gC dC dI [.ref aY, .int w] [(aY, .inr (4, [.ref aM, .ref aN, .int (nI n), .int (nI k), .long v])), (aM, .inl (cB, 1000, .inl f))] [(cB, .byte)] sz) (va_Qv (fun _ : Unit => True) (fun _ t => gB dC dI (va_A [(aY, .inr (4, [.ref aM, .ref aN, .int (nI n), .int (nI k), .long v])), (aM, .inl (cB, 1000, .inl f))] sz) [(aY, .inr (4, [.ref aM, .ref aN, .int (nI (n + 4)), .int (nI k), .long v])), (aM, .inl (cB, 1000, .inl (gp_put f n w)))] t) (va_A [(aY, .inr (4, [.ref aM, .ref aN, .int (nI n), .int (nI k), .long v])), (aM, .inl (cB, 1000, .inl f))] sz)) 0 0 (va_A [(aY, .inr (4, [.ref aM, .ref aN, .int (nI n), .int (nI k), .long v])), (aM, .inl (cB, 1000, .inl f))] sz) := by
  refine Met.ofW (cc := cX4_word) (maxL := 3) (ret := none) (by decide) rfl ?_
  intro p e s m args below meth c s₁ B hml hv
  obtain ⟨rfl, hsz, hP, hK, hD0⟩ := hv
  have hx := B.exec
  have hb := B.bytes
  have hr := B.returns
  have hts0 := atoms_spec (ws := (ws_ yX4_word cX4_word 3 none)) B.pre
  have hts : ∀ w ∈ lw_all, w.before _ s = true := fun w h => hts0 w (List.mem_cons_of_mem _ h)
  have hown : s.vm.findClass RX4 = some m.cls := findClass_of_methodNamed B.named
  have hlocks := B.notSynchronized
  subst hsz
  have hD := hD0.self (sz := s.heap.size)
  generalize hAe : va_A [(aY, .inr (4, [.ref aM, .ref aN, .int (nI n), .int (nI k), .long v])), (aM, .inl (cB, 1000, .inl f))] s.heap.size = A at hD ⊢
  have hA : ∀ q : Nat, s.heap.size ≤ q → A q := fun q h => by rw [← hAe]; exact Or.inr h
  have hS : va_S A s.heap s.heap [] := va_S.rf
  have hP : va_P (dC, dI) vwCl [(aY, .inr (4, [.ref aM, .ref aN, .int (nI n), .int (nI k), .long v])), (aM, .inl (cB, 1000, .inl f))] s.heap := hP
  have hl := lv_entry ([.ref aY, .int w]) (n := 3) (Nat.le_of_ble_eq_true rfl)
  rw [lg_entry_eq]
  generalize (lg_sl ([.ref aY, .int w]) ++ List.replicate (3 - (lg_sl ([.ref aY, .int w])).length) Slot.unset).toArray = ls at hl ⊢
  have hl : lv_has ls 3 [(0, .ref aY), (1, .int w)] := hl
  refine lv_iconst (v := 0) hx hb dX4_word_0 (by decide) ?_
  refine lv_istore_n (lv' := [(2, .int 0), (0, .ref aY), (1, .int w)]) hx hb dX4_word_1 rfl hl (by decide) rfl (fun ls hl => ?_)
  refine lv_iload_n hx hb dX4_word_2 rfl (lv_at hl 0 rfl) ?_
  refine lv_iconst (v := 4) hx hb dX4_word_3 (by decide) ?_
  refine lv_icmp_ge (tgt := 42) hx hb dX4_word_4 (by decide) (fun c_1 => ?_) (fun c_1 => ?_)
  · exact absurd c_1 (by decide)
  · refine lv_aload_n hx hb dX4_word_7 rfl (lv_at hl 1 rfl) ?_
    refine va_get (D := (dC, dI)) (ci := 4) (v := .ref aM) (C := RX4) (T := TX4) (N := 5) hx hb hts in_X4 hown hK hP 0 rfl rfl 0 (by decide) (hts _ q255) (fun _ h9 => h9) rfl dX4_word_8 ?_
    refine lv_aload_n hx hb dX4_word_11 rfl (lv_at hl 1 rfl) ?_
    refine va_get (D := (dC, dI)) (ci := 4) (v := .int (nI n)) (C := RX4) (T := TX4) (N := 5) hx hb hts in_X4 hown hK hP 0 rfl rfl 2 (by decide) (hts _ q257) (fun _ h9 => h9) rfl dX4_word_12 ?_
    refine lv_iload_n hx hb dX4_word_15 rfl (lv_at hl 2 rfl) ?_
    refine lv_bipush (v := 24) hx hb dX4_word_16 (by decide) ?_
    refine lv_bipush (v := 8) hx hb dX4_word_18 (by decide) ?_
    refine lv_iload_n hx hb dX4_word_20 rfl (lv_at hl 0 rfl) ?_
    refine lv_imul hx hb dX4_word_21 ?_
    refine lv_isub hx hb dX4_word_22 ?_
    refine lv_topi (fun z_2 ez_2 => ?_)
    rw [show z_2 = 24 from by rw [ez_2]; decide]
    refine lv_ishr hx hb dX4_word_23 ?_
    refine lv_i2b (v := ((w >>> (24 &&& 31))).toInt8.toInt32) hx hb dX4_word_24 rfl ?_
    refine va_bast hx hb hK hP hD hS 1 0 rfl rfl (vp_in_nI (by omega) (by omega)) dX4_word_25 (fun H locs hP hD hS => ?_)
    have hP : va_P (dC, dI) vwCl [(aY, .inr (4, [.ref aM, .ref aN, .int (nI n), .int (nI k), .long v])), (aM, .inl (cB, 1000, .inl (upd f ((nI n)).toNatClampNeg (vp_nar .byte ((((w >>> (24 &&& 31))).toInt8.toInt32))))))] H := hP
    have hD : va_D A [(aY, .inr (4, [.ref aM, .ref aN, .int (nI n), .int (nI k), .long v])), (aM, .inl (cB, 1000, .inl (upd f ((nI n)).toNatClampNeg (vp_nar .byte ((((w >>> (24 &&& 31))).toInt8.toInt32))))))] := hD
    have ef : upd f ((nI n)).toNatClampNeg (vp_nar .byte ((((w >>> (24 &&& 31))).toInt8.toInt32))) = upd f n (gp_b w 24) := by rw [nI_clamp (by omega), pk_vb]; rfl
    rw [ef] at hP hD
    clear ef
    have hP : va_P (dC, dI) vwCl [(aY, .inr (4, [.ref aM, .ref aN, .int (nI n), .int (nI k), .long v])), (aM, .inl (cB, 1000, .inl (upd f n (gp_b w 24))))] H := hP
    have hD : va_D A [(aY, .inr (4, [.ref aM, .ref aN, .int (nI n), .int (nI k), .long v])), (aM, .inl (cB, 1000, .inl (upd f n (gp_b w 24))))] := hD
    refine lv_aload_n hx hb dX4_word_26 rfl (lv_at hl 1 rfl) ?_
    refine lv_dup hx hb dX4_word_27 rfl ?_
    refine va_get (D := (dC, dI)) (ci := 4) (v := .int (nI n)) (C := RX4) (T := TX4) (N := 5) hx hb hts in_X4 hown hK hP 0 rfl rfl 2 (by decide) (hts _ q257) (fun _ h9 => h9) rfl dX4_word_28 ?_
    refine lv_iconst (v := 1) hx hb dX4_word_31 (by decide) ?_
    refine lv_iadd hx hb dX4_word_32 ?_
    refine lv_topi (fun z_3 ez_3 => ?_)
    rw [show z_3 = nI (n + 1) from by rw [ez_3]; exact nI_1 _]
    refine va_put (D := (dC, dI)) (ci := 4) (v := .int (nI (n + 1))) (ty := .int) (C := RX4) (T := TX4) (N := 5) hx hb hts in_X4 tyX4 tyX4_ok nmX4 hown hK hP hD hS 0 rfl rfl 2 (by decide) (hts _ q257) (fun _ h9 => h9) rfl (by decide +kernel) rfl rfl (Nat.le_of_ble_eq_true rfl) dX4_word_33 (fun H locs hP hD hS => ?_)
    have hP : va_P (dC, dI) vwCl [(aY, .inr (4, [.ref aM, .ref aN, .int (nI (n + 1)), .int (nI k), .long v])), (aM, .inl (cB, 1000, .inl (upd f n (gp_b w 24))))] H := hP
    have hD : va_D A [(aY, .inr (4, [.ref aM, .ref aN, .int (nI (n + 1)), .int (nI k), .long v])), (aM, .inl (cB, 1000, .inl (upd f n (gp_b w 24))))] := hD
    refine lv_iinc (v := 1) (lv' := [(2, .int (1)), (0, .ref aY), (1, .int w)]) hx hb dX4_word_36 hl (k := 0) rfl (by decide) (by decide) rfl (fun ls hl => ?_)
    refine lv_goto (tgt := 2) hx hb dX4_word_39 (by decide) ?_
    refine lv_iload_n hx hb dX4_word_2 rfl (lv_at hl 0 rfl) ?_
    refine lv_iconst (v := 4) hx hb dX4_word_3 (by decide) ?_
    refine lv_icmp_ge (tgt := 42) hx hb dX4_word_4 (by decide) (fun c_4 => ?_) (fun c_4 => ?_)
    · exact absurd c_4 (by decide)
    · refine lv_aload_n hx hb dX4_word_7 rfl (lv_at hl 1 rfl) ?_
      refine va_get (D := (dC, dI)) (ci := 4) (v := .ref aM) (C := RX4) (T := TX4) (N := 5) hx hb hts in_X4 hown hK hP 0 rfl rfl 0 (by decide) (hts _ q255) (fun _ h9 => h9) rfl dX4_word_8 ?_
      refine lv_aload_n hx hb dX4_word_11 rfl (lv_at hl 1 rfl) ?_
      refine va_get (D := (dC, dI)) (ci := 4) (v := .int (nI (n + 1))) (C := RX4) (T := TX4) (N := 5) hx hb hts in_X4 hown hK hP 0 rfl rfl 2 (by decide) (hts _ q257) (fun _ h9 => h9) rfl dX4_word_12 ?_
      refine lv_iload_n hx hb dX4_word_15 rfl (lv_at hl 2 rfl) ?_
      refine lv_bipush (v := 24) hx hb dX4_word_16 (by decide) ?_
      refine lv_bipush (v := 8) hx hb dX4_word_18 (by decide) ?_
      refine lv_iload_n hx hb dX4_word_20 rfl (lv_at hl 0 rfl) ?_
      refine lv_imul hx hb dX4_word_21 ?_
      refine lv_isub hx hb dX4_word_22 ?_
      refine lv_topi (fun z_5 ez_5 => ?_)
      rw [show z_5 = 16 from by rw [ez_5]; decide]
      refine lv_ishr hx hb dX4_word_23 ?_
      refine lv_i2b (v := ((w >>> (16 &&& 31))).toInt8.toInt32) hx hb dX4_word_24 rfl ?_
      refine va_bast hx hb hK hP hD hS 1 0 rfl rfl (vp_in_nI (by omega) (by omega)) dX4_word_25 (fun H locs hP hD hS => ?_)
      have hP : va_P (dC, dI) vwCl [(aY, .inr (4, [.ref aM, .ref aN, .int (nI (n + 1)), .int (nI k), .long v])), (aM, .inl (cB, 1000, .inl (upd (upd f n (gp_b w 24)) ((nI (n + 1))).toNatClampNeg (vp_nar .byte ((((w >>> (16 &&& 31))).toInt8.toInt32))))))] H := hP
      have hD : va_D A [(aY, .inr (4, [.ref aM, .ref aN, .int (nI (n + 1)), .int (nI k), .long v])), (aM, .inl (cB, 1000, .inl (upd (upd f n (gp_b w 24)) ((nI (n + 1))).toNatClampNeg (vp_nar .byte ((((w >>> (16 &&& 31))).toInt8.toInt32))))))] := hD
      have ef : upd (upd f n (gp_b w 24)) ((nI (n + 1))).toNatClampNeg (vp_nar .byte ((((w >>> (16 &&& 31))).toInt8.toInt32))) = upd (upd f n (gp_b w 24)) (n + 1) (gp_b w 16) := by rw [nI_clamp (by omega), pk_vb]; rfl
      rw [ef] at hP hD
      clear ef
      have hP : va_P (dC, dI) vwCl [(aY, .inr (4, [.ref aM, .ref aN, .int (nI (n + 1)), .int (nI k), .long v])), (aM, .inl (cB, 1000, .inl (upd (upd f n (gp_b w 24)) (n + 1) (gp_b w 16))))] H := hP
      have hD : va_D A [(aY, .inr (4, [.ref aM, .ref aN, .int (nI (n + 1)), .int (nI k), .long v])), (aM, .inl (cB, 1000, .inl (upd (upd f n (gp_b w 24)) (n + 1) (gp_b w 16))))] := hD
      refine lv_aload_n hx hb dX4_word_26 rfl (lv_at hl 1 rfl) ?_
      refine lv_dup hx hb dX4_word_27 rfl ?_
      refine va_get (D := (dC, dI)) (ci := 4) (v := .int (nI (n + 1))) (C := RX4) (T := TX4) (N := 5) hx hb hts in_X4 hown hK hP 0 rfl rfl 2 (by decide) (hts _ q257) (fun _ h9 => h9) rfl dX4_word_28 ?_
      refine lv_iconst (v := 1) hx hb dX4_word_31 (by decide) ?_
      refine lv_iadd hx hb dX4_word_32 ?_
      refine lv_topi (fun z_6 ez_6 => ?_)
      rw [show z_6 = nI (n + 2) from by rw [ez_6]; exact nI_1 _]
      refine va_put (D := (dC, dI)) (ci := 4) (v := .int (nI (n + 2))) (ty := .int) (C := RX4) (T := TX4) (N := 5) hx hb hts in_X4 tyX4 tyX4_ok nmX4 hown hK hP hD hS 0 rfl rfl 2 (by decide) (hts _ q257) (fun _ h9 => h9) rfl (by decide +kernel) rfl rfl (Nat.le_of_ble_eq_true rfl) dX4_word_33 (fun H locs hP hD hS => ?_)
      have hP : va_P (dC, dI) vwCl [(aY, .inr (4, [.ref aM, .ref aN, .int (nI (n + 2)), .int (nI k), .long v])), (aM, .inl (cB, 1000, .inl (upd (upd f n (gp_b w 24)) (n + 1) (gp_b w 16))))] H := hP
      have hD : va_D A [(aY, .inr (4, [.ref aM, .ref aN, .int (nI (n + 2)), .int (nI k), .long v])), (aM, .inl (cB, 1000, .inl (upd (upd f n (gp_b w 24)) (n + 1) (gp_b w 16))))] := hD
      refine lv_iinc (v := 2) (lv' := [(2, .int (2)), (0, .ref aY), (1, .int w)]) hx hb dX4_word_36 hl (k := 0) rfl (by decide) (by decide) rfl (fun ls hl => ?_)
      refine lv_goto (tgt := 2) hx hb dX4_word_39 (by decide) ?_
      refine lv_iload_n hx hb dX4_word_2 rfl (lv_at hl 0 rfl) ?_
      refine lv_iconst (v := 4) hx hb dX4_word_3 (by decide) ?_
      refine lv_icmp_ge (tgt := 42) hx hb dX4_word_4 (by decide) (fun c_7 => ?_) (fun c_7 => ?_)
      · exact absurd c_7 (by decide)
      · refine lv_aload_n hx hb dX4_word_7 rfl (lv_at hl 1 rfl) ?_
        refine va_get (D := (dC, dI)) (ci := 4) (v := .ref aM) (C := RX4) (T := TX4) (N := 5) hx hb hts in_X4 hown hK hP 0 rfl rfl 0 (by decide) (hts _ q255) (fun _ h9 => h9) rfl dX4_word_8 ?_
        refine lv_aload_n hx hb dX4_word_11 rfl (lv_at hl 1 rfl) ?_
        refine va_get (D := (dC, dI)) (ci := 4) (v := .int (nI (n + 2))) (C := RX4) (T := TX4) (N := 5) hx hb hts in_X4 hown hK hP 0 rfl rfl 2 (by decide) (hts _ q257) (fun _ h9 => h9) rfl dX4_word_12 ?_
        refine lv_iload_n hx hb dX4_word_15 rfl (lv_at hl 2 rfl) ?_
        refine lv_bipush (v := 24) hx hb dX4_word_16 (by decide) ?_
        refine lv_bipush (v := 8) hx hb dX4_word_18 (by decide) ?_
        refine lv_iload_n hx hb dX4_word_20 rfl (lv_at hl 0 rfl) ?_
        refine lv_imul hx hb dX4_word_21 ?_
        refine lv_isub hx hb dX4_word_22 ?_
        refine lv_topi (fun z_8 ez_8 => ?_)
        rw [show z_8 = 8 from by rw [ez_8]; decide]
        refine lv_ishr hx hb dX4_word_23 ?_
        refine lv_i2b (v := ((w >>> (8 &&& 31))).toInt8.toInt32) hx hb dX4_word_24 rfl ?_
        refine va_bast hx hb hK hP hD hS 1 0 rfl rfl (vp_in_nI (by omega) (by omega)) dX4_word_25 (fun H locs hP hD hS => ?_)
        have hP : va_P (dC, dI) vwCl [(aY, .inr (4, [.ref aM, .ref aN, .int (nI (n + 2)), .int (nI k), .long v])), (aM, .inl (cB, 1000, .inl (upd (upd (upd f n (gp_b w 24)) (n + 1) (gp_b w 16)) ((nI (n + 2))).toNatClampNeg (vp_nar .byte ((((w >>> (8 &&& 31))).toInt8.toInt32))))))] H := hP
        have hD : va_D A [(aY, .inr (4, [.ref aM, .ref aN, .int (nI (n + 2)), .int (nI k), .long v])), (aM, .inl (cB, 1000, .inl (upd (upd (upd f n (gp_b w 24)) (n + 1) (gp_b w 16)) ((nI (n + 2))).toNatClampNeg (vp_nar .byte ((((w >>> (8 &&& 31))).toInt8.toInt32))))))] := hD
        have ef : upd (upd (upd f n (gp_b w 24)) (n + 1) (gp_b w 16)) ((nI (n + 2))).toNatClampNeg (vp_nar .byte ((((w >>> (8 &&& 31))).toInt8.toInt32))) = upd (upd (upd f n (gp_b w 24)) (n + 1) (gp_b w 16)) (n + 2) (gp_b w 8) := by rw [nI_clamp (by omega), pk_vb]; rfl
        rw [ef] at hP hD
        clear ef
        have hP : va_P (dC, dI) vwCl [(aY, .inr (4, [.ref aM, .ref aN, .int (nI (n + 2)), .int (nI k), .long v])), (aM, .inl (cB, 1000, .inl (upd (upd (upd f n (gp_b w 24)) (n + 1) (gp_b w 16)) (n + 2) (gp_b w 8))))] H := hP
        have hD : va_D A [(aY, .inr (4, [.ref aM, .ref aN, .int (nI (n + 2)), .int (nI k), .long v])), (aM, .inl (cB, 1000, .inl (upd (upd (upd f n (gp_b w 24)) (n + 1) (gp_b w 16)) (n + 2) (gp_b w 8))))] := hD
        refine lv_aload_n hx hb dX4_word_26 rfl (lv_at hl 1 rfl) ?_
        refine lv_dup hx hb dX4_word_27 rfl ?_
        refine va_get (D := (dC, dI)) (ci := 4) (v := .int (nI (n + 2))) (C := RX4) (T := TX4) (N := 5) hx hb hts in_X4 hown hK hP 0 rfl rfl 2 (by decide) (hts _ q257) (fun _ h9 => h9) rfl dX4_word_28 ?_
        refine lv_iconst (v := 1) hx hb dX4_word_31 (by decide) ?_
        refine lv_iadd hx hb dX4_word_32 ?_
        refine lv_topi (fun z_9 ez_9 => ?_)
        rw [show z_9 = nI (n + 3) from by rw [ez_9]; exact nI_1 _]
        refine va_put (D := (dC, dI)) (ci := 4) (v := .int (nI (n + 3))) (ty := .int) (C := RX4) (T := TX4) (N := 5) hx hb hts in_X4 tyX4 tyX4_ok nmX4 hown hK hP hD hS 0 rfl rfl 2 (by decide) (hts _ q257) (fun _ h9 => h9) rfl (by decide +kernel) rfl rfl (Nat.le_of_ble_eq_true rfl) dX4_word_33 (fun H locs hP hD hS => ?_)
        have hP : va_P (dC, dI) vwCl [(aY, .inr (4, [.ref aM, .ref aN, .int (nI (n + 3)), .int (nI k), .long v])), (aM, .inl (cB, 1000, .inl (upd (upd (upd f n (gp_b w 24)) (n + 1) (gp_b w 16)) (n + 2) (gp_b w 8))))] H := hP
        have hD : va_D A [(aY, .inr (4, [.ref aM, .ref aN, .int (nI (n + 3)), .int (nI k), .long v])), (aM, .inl (cB, 1000, .inl (upd (upd (upd f n (gp_b w 24)) (n + 1) (gp_b w 16)) (n + 2) (gp_b w 8))))] := hD
        refine lv_iinc (v := 3) (lv' := [(2, .int (3)), (0, .ref aY), (1, .int w)]) hx hb dX4_word_36 hl (k := 0) rfl (by decide) (by decide) rfl (fun ls hl => ?_)
        refine lv_goto (tgt := 2) hx hb dX4_word_39 (by decide) ?_
        refine lv_iload_n hx hb dX4_word_2 rfl (lv_at hl 0 rfl) ?_
        refine lv_iconst (v := 4) hx hb dX4_word_3 (by decide) ?_
        refine lv_icmp_ge (tgt := 42) hx hb dX4_word_4 (by decide) (fun c_10 => ?_) (fun c_10 => ?_)
        · exact absurd c_10 (by decide)
        · refine lv_aload_n hx hb dX4_word_7 rfl (lv_at hl 1 rfl) ?_
          refine va_get (D := (dC, dI)) (ci := 4) (v := .ref aM) (C := RX4) (T := TX4) (N := 5) hx hb hts in_X4 hown hK hP 0 rfl rfl 0 (by decide) (hts _ q255) (fun _ h9 => h9) rfl dX4_word_8 ?_
          refine lv_aload_n hx hb dX4_word_11 rfl (lv_at hl 1 rfl) ?_
          refine va_get (D := (dC, dI)) (ci := 4) (v := .int (nI (n + 3))) (C := RX4) (T := TX4) (N := 5) hx hb hts in_X4 hown hK hP 0 rfl rfl 2 (by decide) (hts _ q257) (fun _ h9 => h9) rfl dX4_word_12 ?_
          refine lv_iload_n hx hb dX4_word_15 rfl (lv_at hl 2 rfl) ?_
          refine lv_bipush (v := 24) hx hb dX4_word_16 (by decide) ?_
          refine lv_bipush (v := 8) hx hb dX4_word_18 (by decide) ?_
          refine lv_iload_n hx hb dX4_word_20 rfl (lv_at hl 0 rfl) ?_
          refine lv_imul hx hb dX4_word_21 ?_
          refine lv_isub hx hb dX4_word_22 ?_
          refine lv_topi (fun z_11 ez_11 => ?_)
          rw [show z_11 = 0 from by rw [ez_11]; decide]
          refine lv_ishr hx hb dX4_word_23 ?_
          refine lv_i2b (v := ((w >>> (0 &&& 31))).toInt8.toInt32) hx hb dX4_word_24 rfl ?_
          refine va_bast hx hb hK hP hD hS 1 0 rfl rfl (vp_in_nI (by omega) (by omega)) dX4_word_25 (fun H locs hP hD hS => ?_)
          have hP : va_P (dC, dI) vwCl [(aY, .inr (4, [.ref aM, .ref aN, .int (nI (n + 3)), .int (nI k), .long v])), (aM, .inl (cB, 1000, .inl (upd (upd (upd (upd f n (gp_b w 24)) (n + 1) (gp_b w 16)) (n + 2) (gp_b w 8)) ((nI (n + 3))).toNatClampNeg (vp_nar .byte ((((w >>> (0 &&& 31))).toInt8.toInt32))))))] H := hP
          have hD : va_D A [(aY, .inr (4, [.ref aM, .ref aN, .int (nI (n + 3)), .int (nI k), .long v])), (aM, .inl (cB, 1000, .inl (upd (upd (upd (upd f n (gp_b w 24)) (n + 1) (gp_b w 16)) (n + 2) (gp_b w 8)) ((nI (n + 3))).toNatClampNeg (vp_nar .byte ((((w >>> (0 &&& 31))).toInt8.toInt32))))))] := hD
          have ef : upd (upd (upd (upd f n (gp_b w 24)) (n + 1) (gp_b w 16)) (n + 2) (gp_b w 8)) ((nI (n + 3))).toNatClampNeg (vp_nar .byte ((((w >>> (0 &&& 31))).toInt8.toInt32))) = upd (upd (upd (upd f n (gp_b w 24)) (n + 1) (gp_b w 16)) (n + 2) (gp_b w 8)) (n + 3) (gp_b w 0) := by rw [nI_clamp (by omega), pk_vb]; rfl
          rw [ef] at hP hD
          clear ef
          have hP : va_P (dC, dI) vwCl [(aY, .inr (4, [.ref aM, .ref aN, .int (nI (n + 3)), .int (nI k), .long v])), (aM, .inl (cB, 1000, .inl (upd (upd (upd (upd f n (gp_b w 24)) (n + 1) (gp_b w 16)) (n + 2) (gp_b w 8)) (n + 3) (gp_b w 0))))] H := hP
          have hD : va_D A [(aY, .inr (4, [.ref aM, .ref aN, .int (nI (n + 3)), .int (nI k), .long v])), (aM, .inl (cB, 1000, .inl (upd (upd (upd (upd f n (gp_b w 24)) (n + 1) (gp_b w 16)) (n + 2) (gp_b w 8)) (n + 3) (gp_b w 0))))] := hD
          refine lv_aload_n hx hb dX4_word_26 rfl (lv_at hl 1 rfl) ?_
          refine lv_dup hx hb dX4_word_27 rfl ?_
          refine va_get (D := (dC, dI)) (ci := 4) (v := .int (nI (n + 3))) (C := RX4) (T := TX4) (N := 5) hx hb hts in_X4 hown hK hP 0 rfl rfl 2 (by decide) (hts _ q257) (fun _ h9 => h9) rfl dX4_word_28 ?_
          refine lv_iconst (v := 1) hx hb dX4_word_31 (by decide) ?_
          refine lv_iadd hx hb dX4_word_32 ?_
          refine lv_topi (fun z_12 ez_12 => ?_)
          rw [show z_12 = nI (n + 4) from by rw [ez_12]; exact nI_1 _]
          refine va_put (D := (dC, dI)) (ci := 4) (v := .int (nI (n + 4))) (ty := .int) (C := RX4) (T := TX4) (N := 5) hx hb hts in_X4 tyX4 tyX4_ok nmX4 hown hK hP hD hS 0 rfl rfl 2 (by decide) (hts _ q257) (fun _ h9 => h9) rfl (by decide +kernel) rfl rfl (Nat.le_of_ble_eq_true rfl) dX4_word_33 (fun H locs hP hD hS => ?_)
          have hP : va_P (dC, dI) vwCl [(aY, .inr (4, [.ref aM, .ref aN, .int (nI (n + 4)), .int (nI k), .long v])), (aM, .inl (cB, 1000, .inl (upd (upd (upd (upd f n (gp_b w 24)) (n + 1) (gp_b w 16)) (n + 2) (gp_b w 8)) (n + 3) (gp_b w 0))))] H := hP
          have hD : va_D A [(aY, .inr (4, [.ref aM, .ref aN, .int (nI (n + 4)), .int (nI k), .long v])), (aM, .inl (cB, 1000, .inl (upd (upd (upd (upd f n (gp_b w 24)) (n + 1) (gp_b w 16)) (n + 2) (gp_b w 8)) (n + 3) (gp_b w 0))))] := hD
          refine lv_iinc (v := 4) (lv' := [(2, .int (4)), (0, .ref aY), (1, .int w)]) hx hb dX4_word_36 hl (k := 0) rfl (by decide) (by decide) rfl (fun ls hl => ?_)
          refine lv_goto (tgt := 2) hx hb dX4_word_39 (by decide) ?_
          refine lv_iload_n hx hb dX4_word_2 rfl (lv_at hl 0 rfl) ?_
          refine lv_iconst (v := 4) hx hb dX4_word_3 (by decide) ?_
          refine lv_icmp_ge (tgt := 42) hx hb dX4_word_4 (by decide) (fun c_13 => ?_) (fun c_13 => ?_)
          · have hP : va_P (dC, dI) vwCl [(aY, .inr (4, [.ref aM, .ref aN, .int (nI (n + 4)), .int (nI k), .long v])), (aM, .inl (cB, 1000, .inl (gp_put f n w)))] H := hP
            have hD : va_D A [(aY, .inr (4, [.ref aM, .ref aN, .int (nI (n + 4)), .int (nI k), .long v])), (aM, .inl (cB, 1000, .inl (gp_put f n w)))] := hD
            exact W.vret hx hb hr (fun t ht hW => ⟨⟨(), rfl, trivial, by rw [ht]; exact hP, hD⟩, hS.F ht⟩) hS.2.2 dX4_word_42
          · exact absurd (by decide) c_13
set_option maxHeartbeats 4000000 in
/-- GroupedNumbersModel.feed: twenty bytes more -/
theorem m_M_feed (l : Launch) (dC : Nat → ClassId) (dI : Nat → Nat → Nat) (cB : ClassId) (aY aM aN : Nat) (n k : Nat) (v : Int64) (f : Nat → Int32) (w1 w2 w3 w4 w5 : Int32) (sz : Nat) (hn : n + 20 ≤ 1000) : Met l yX4_feed (ws_ yX4_feed cX4_feed 6 (some .int)) ({ frames := 1, cells := 0, slots := 0, locals := 22 }) (gC dC dI [.ref aY, .int w1, .int w2, .int w3, .int w4, .int w5] [(aY, .inr (4, [.ref aM, .ref aN, .int (nI n), .int (nI k), .long v])), (aM, .inl (cB, 1000, .inl f))] [(cB, .byte)] sz) (va_Qi (fun (r : Int32) (_ : Unit) => r = nI (n + 20)) (fun (_ : Unit) t => gB dC dI (va_A [(aY, .inr (4, [.ref aM, .ref aN, .int (nI n), .int (nI k), .long v])), (aM, .inl (cB, 1000, .inl f))] sz) [(aY, .inr (4, [.ref aM, .ref aN, .int (nI (n + 20)), .int (nI k), .long v])), (aM, .inl (cB, 1000, .inl (gp_feed f n w1 w2 w3 w4 w5)))] t) (va_A [(aY, .inr (4, [.ref aM, .ref aN, .int (nI n), .int (nI k), .long v])), (aM, .inl (cB, 1000, .inl f))] sz)) 0 0 (va_A [(aY, .inr (4, [.ref aM, .ref aN, .int (nI n), .int (nI k), .long v])), (aM, .inl (cB, 1000, .inl f))] sz) := by
  refine Met.ofW (cc := cX4_feed) (maxL := 6) (ret := (some .int)) (by decide) rfl ?_
  intro p e s m args below meth c s₁ B hml hv
  obtain ⟨rfl, hsz, hP, hK, hD0⟩ := hv
  have hx := B.exec
  have hb := B.bytes
  have hr := B.returns
  have hts0 := atoms_spec (ws := (ws_ yX4_feed cX4_feed 6 (some .int))) B.pre
  have hts : ∀ w ∈ lw_all, w.before _ s = true := fun w h => hts0 w (List.mem_cons_of_mem _ h)
  have hown : s.vm.findClass RX4 = some m.cls := findClass_of_methodNamed B.named
  have hlocks := B.notSynchronized
  subst hsz
  have hD := hD0.self (sz := s.heap.size)
  generalize hAe : va_A [(aY, .inr (4, [.ref aM, .ref aN, .int (nI n), .int (nI k), .long v])), (aM, .inl (cB, 1000, .inl f))] s.heap.size = A at hD ⊢
  have hA : ∀ q : Nat, s.heap.size ≤ q → A q := fun q h => by rw [← hAe]; exact Or.inr h
  have hS : va_S A s.heap s.heap [] := va_S.rf
  have hP : va_P (dC, dI) vwCl [(aY, .inr (4, [.ref aM, .ref aN, .int (nI n), .int (nI k), .long v])), (aM, .inl (cB, 1000, .inl f))] s.heap := hP
  have hl := lv_entry ([.ref aY, .int w1, .int w2, .int w3, .int w4, .int w5]) (n := 6) (Nat.le_of_ble_eq_true rfl)
  rw [lg_entry_eq]
  generalize (lg_sl ([.ref aY, .int w1, .int w2, .int w3, .int w4, .int w5]) ++ List.replicate (6 - (lg_sl ([.ref aY, .int w1, .int w2, .int w3, .int w4, .int w5])).length) Slot.unset).toArray = ls at hl ⊢
  have hl : lv_has ls 6 [(0, .ref aY), (1, .int w1), (2, .int w2), (3, .int w3), (4, .int w4), (5, .int w5)] := hl
  refine lv_aload_n hx hb dX4_feed_0 rfl (lv_at hl 0 rfl) ?_
  refine va_get (D := (dC, dI)) (ci := 4) (v := .int (nI n)) (C := RX4) (T := TX4) (N := 5) hx hb hts in_X4 hown hK hP 0 rfl rfl 2 (by decide) (hts _ q257) (fun _ h9 => h9) rfl dX4_feed_1 ?_
  refine lv_bipush (v := 20) hx hb dX4_feed_4 (by decide) ?_
  refine lv_iadd hx hb dX4_feed_6 ?_
  refine lv_topi (fun z_1 ez_1 => ?_)
  rw [show z_1 = nI (n + 20) from by rw [ez_1]; exact nI_add n 20]
  refine lv_sipush (v := 1000) hx hb dX4_feed_7 (by decide) ?_
  refine lv_icmp_le (tgt := 15) hx hb dX4_feed_10 (by decide) (fun c_2 => ?_) (fun c_2 => ?_)
  · refine lv_aload_n hx hb dX4_feed_15 rfl (lv_at hl 0 rfl) ?_
    refine lv_iload_n hx hb dX4_feed_16 rfl (lv_at hl 1 rfl) ?_
    have hPc := hP.sub (ws' := [(aY, .inr (4, [.ref aM, .ref aN, .int (nI n), .int (nI k), .long v])), (aM, .inl (cB, 1000, .inl f))]) [0, 1] rfl
    have hDc := hD.sub (ws' := [(aY, .inr (4, [.ref aM, .ref aN, .int (nI n), .int (nI k), .long v])), (aM, .inl (cB, 1000, .inl f))]) [0, 1] (by decide) rfl
    have hFc := va_free (wc := [(aY, .inr (4, [.ref aM, .ref aN, .int (nI n), .int (nI k), .long v])), (aM, .inl (cB, 1000, .inl f))]) hD hS hA [0, 1] rfl
    refine va_callv (va_runV (As := [.int w1]) (rest := []) ⟨hx, hb, hml, hown, hts⟩ (m_M_word l dC dI cB aY aM aN n k v f w1 _ (by omega)) (cwV 1 hts (lw_V q275 q277 qs2 q12 q278) rfl rfl rfl (by decide +kernel) ⟨Nat.le_of_ble_eq_true rfl, Nat.le_of_ble_eq_true rfl⟩) ⟨gC_bl, va_recv hK hPc (ci := 4) (q0 := 0) rfl rfl, gC_of hPc hK hDc⟩ rfl rfl hl.1 rfl (lv_room (Nat.le_of_ble_eq_true rfl)) dX4_feed_17 ⟨Nat.le_of_ble_eq_true rfl, Nat.le_of_ble_eq_true rfl⟩) hS (fun q _ h => hFc q h) hFc (fun u t H1 locs ht hvm hw hB hz1 hk1 hS => ?_)
    obtain ⟨hP1, hD1⟩ := hB
    rw [ht] at hP1
    obtain ⟨hP, hD⟩ := va_join (wr := []) (w1 := [(aY, .inr (4, [.ref aM, .ref aN, .int (nI (n + 4)), .int (nI k), .long v])), (aM, .inl (cB, 1000, .inl (gp_put f n w1)))]) hP hD [0, 1] [] rfl rfl (by decide) (by decide) hk1 hFc hP1 hD1
    have hP := hP.sub (ws' := [(aY, .inr (4, [.ref aM, .ref aN, .int (nI (n + 4)), .int (nI k), .long v])), (aM, .inl (cB, 1000, .inl (gp_put f n w1)))]) [0, 1] rfl
    have hD := hD.sub (ws' := [(aY, .inr (4, [.ref aM, .ref aN, .int (nI (n + 4)), .int (nI k), .long v])), (aM, .inl (cB, 1000, .inl (gp_put f n w1)))]) [0, 1] (by decide) rfl
    generalize H1 = H at hP hS ⊢
    refine lv_aload_n hx hb dX4_feed_20 rfl (lv_at hl 0 rfl) ?_
    refine lv_iload_n hx hb dX4_feed_21 rfl (lv_at hl 2 rfl) ?_
    have hPc := hP.sub (ws' := [(aY, .inr (4, [.ref aM, .ref aN, .int (nI (n + 4)), .int (nI k), .long v])), (aM, .inl (cB, 1000, .inl (gp_put f n w1)))]) [0, 1] rfl
    have hDc := hD.sub (ws' := [(aY, .inr (4, [.ref aM, .ref aN, .int (nI (n + 4)), .int (nI k), .long v])), (aM, .inl (cB, 1000, .inl (gp_put f n w1)))]) [0, 1] (by decide) rfl
    have hFc := va_free (wc := [(aY, .inr (4, [.ref aM, .ref aN, .int (nI (n + 4)), .int (nI k), .long v])), (aM, .inl (cB, 1000, .inl (gp_put f n w1)))]) hD hS hA [0, 1] rfl
    refine va_callv (va_runV (As := [.int w2]) (rest := []) ⟨hx, hb, hml, hown, hts⟩ (m_M_word l dC dI cB aY aM aN (n + 4) k v (gp_put f n w1) w2 _ (by omega)) (cwV 1 hts (lw_V q275 q277 qs2 q12 q278) rfl rfl rfl (by decide +kernel) ⟨Nat.le_of_ble_eq_true rfl, Nat.le_of_ble_eq_true rfl⟩) ⟨gC_bl, va_recv hK hPc (ci := 4) (q0 := 0) rfl rfl, gC_of hPc hK hDc⟩ rfl rfl hl.1 rfl (lv_room (Nat.le_of_ble_eq_true rfl)) dX4_feed_22 ⟨Nat.le_of_ble_eq_true rfl, Nat.le_of_ble_eq_true rfl⟩) hS (fun q _ h => hFc q h) hFc (fun u t H1 locs ht hvm hw hB hz1 hk1 hS => ?_)
    obtain ⟨hP1, hD1⟩ := hB
    rw [ht] at hP1
    obtain ⟨hP, hD⟩ := va_join (wr := []) (w1 := [(aY, .inr (4, [.ref aM, .ref aN, .int (nI (n + 8)), .int (nI k), .long v])), (aM, .inl (cB, 1000, .inl (gp_put (gp_put f n w1) (n + 4) w2)))]) hP hD [0, 1] [] rfl rfl (by decide) (by decide) hk1 hFc hP1 hD1
    have hP := hP.sub (ws' := [(aY, .inr (4, [.ref aM, .ref aN, .int (nI (n + 8)), .int (nI k), .long v])), (aM, .inl (cB, 1000, .inl (gp_put (gp_put f n w1) (n + 4) w2)))]) [0, 1] rfl
    have hD := hD.sub (ws' := [(aY, .inr (4, [.ref aM, .ref aN, .int (nI (n + 8)), .int (nI k), .long v])), (aM, .inl (cB, 1000, .inl (gp_put (gp_put f n w1) (n + 4) w2)))]) [0, 1] (by decide) rfl
    generalize H1 = H at hP hS ⊢
    refine lv_aload_n hx hb dX4_feed_25 rfl (lv_at hl 0 rfl) ?_
    refine lv_iload_n hx hb dX4_feed_26 rfl (lv_at hl 3 rfl) ?_
    have hPc := hP.sub (ws' := [(aY, .inr (4, [.ref aM, .ref aN, .int (nI (n + 8)), .int (nI k), .long v])), (aM, .inl (cB, 1000, .inl (gp_put (gp_put f n w1) (n + 4) w2)))]) [0, 1] rfl
    have hDc := hD.sub (ws' := [(aY, .inr (4, [.ref aM, .ref aN, .int (nI (n + 8)), .int (nI k), .long v])), (aM, .inl (cB, 1000, .inl (gp_put (gp_put f n w1) (n + 4) w2)))]) [0, 1] (by decide) rfl
    have hFc := va_free (wc := [(aY, .inr (4, [.ref aM, .ref aN, .int (nI (n + 8)), .int (nI k), .long v])), (aM, .inl (cB, 1000, .inl (gp_put (gp_put f n w1) (n + 4) w2)))]) hD hS hA [0, 1] rfl
    refine va_callv (va_runV (As := [.int w3]) (rest := []) ⟨hx, hb, hml, hown, hts⟩ (m_M_word l dC dI cB aY aM aN (n + 8) k v (gp_put (gp_put f n w1) (n + 4) w2) w3 _ (by omega)) (cwV 1 hts (lw_V q275 q277 qs2 q12 q278) rfl rfl rfl (by decide +kernel) ⟨Nat.le_of_ble_eq_true rfl, Nat.le_of_ble_eq_true rfl⟩) ⟨gC_bl, va_recv hK hPc (ci := 4) (q0 := 0) rfl rfl, gC_of hPc hK hDc⟩ rfl rfl hl.1 rfl (lv_room (Nat.le_of_ble_eq_true rfl)) dX4_feed_27 ⟨Nat.le_of_ble_eq_true rfl, Nat.le_of_ble_eq_true rfl⟩) hS (fun q _ h => hFc q h) hFc (fun u t H1 locs ht hvm hw hB hz1 hk1 hS => ?_)
    obtain ⟨hP1, hD1⟩ := hB
    rw [ht] at hP1
    obtain ⟨hP, hD⟩ := va_join (wr := []) (w1 := [(aY, .inr (4, [.ref aM, .ref aN, .int (nI (n + 12)), .int (nI k), .long v])), (aM, .inl (cB, 1000, .inl (gp_put (gp_put (gp_put f n w1) (n + 4) w2) (n + 8) w3)))]) hP hD [0, 1] [] rfl rfl (by decide) (by decide) hk1 hFc hP1 hD1
    have hP := hP.sub (ws' := [(aY, .inr (4, [.ref aM, .ref aN, .int (nI (n + 12)), .int (nI k), .long v])), (aM, .inl (cB, 1000, .inl (gp_put (gp_put (gp_put f n w1) (n + 4) w2) (n + 8) w3)))]) [0, 1] rfl
    have hD := hD.sub (ws' := [(aY, .inr (4, [.ref aM, .ref aN, .int (nI (n + 12)), .int (nI k), .long v])), (aM, .inl (cB, 1000, .inl (gp_put (gp_put (gp_put f n w1) (n + 4) w2) (n + 8) w3)))]) [0, 1] (by decide) rfl
    generalize H1 = H at hP hS ⊢
    refine lv_aload_n hx hb dX4_feed_30 rfl (lv_at hl 0 rfl) ?_
    refine lv_iload hx hb dX4_feed_31 (lv_at hl 4 rfl) ?_
    have hPc := hP.sub (ws' := [(aY, .inr (4, [.ref aM, .ref aN, .int (nI (n + 12)), .int (nI k), .long v])), (aM, .inl (cB, 1000, .inl (gp_put (gp_put (gp_put f n w1) (n + 4) w2) (n + 8) w3)))]) [0, 1] rfl
    have hDc := hD.sub (ws' := [(aY, .inr (4, [.ref aM, .ref aN, .int (nI (n + 12)), .int (nI k), .long v])), (aM, .inl (cB, 1000, .inl (gp_put (gp_put (gp_put f n w1) (n + 4) w2) (n + 8) w3)))]) [0, 1] (by decide) rfl
    have hFc := va_free (wc := [(aY, .inr (4, [.ref aM, .ref aN, .int (nI (n + 12)), .int (nI k), .long v])), (aM, .inl (cB, 1000, .inl (gp_put (gp_put (gp_put f n w1) (n + 4) w2) (n + 8) w3)))]) hD hS hA [0, 1] rfl
    refine va_callv (va_runV (As := [.int w4]) (rest := []) ⟨hx, hb, hml, hown, hts⟩ (m_M_word l dC dI cB aY aM aN (n + 12) k v (gp_put (gp_put (gp_put f n w1) (n + 4) w2) (n + 8) w3) w4 _ (by omega)) (cwV 1 hts (lw_V q275 q277 qs2 q12 q278) rfl rfl rfl (by decide +kernel) ⟨Nat.le_of_ble_eq_true rfl, Nat.le_of_ble_eq_true rfl⟩) ⟨gC_bl, va_recv hK hPc (ci := 4) (q0 := 0) rfl rfl, gC_of hPc hK hDc⟩ rfl rfl hl.1 rfl (lv_room (Nat.le_of_ble_eq_true rfl)) dX4_feed_33 ⟨Nat.le_of_ble_eq_true rfl, Nat.le_of_ble_eq_true rfl⟩) hS (fun q _ h => hFc q h) hFc (fun u t H1 locs ht hvm hw hB hz1 hk1 hS => ?_)
    obtain ⟨hP1, hD1⟩ := hB
    rw [ht] at hP1
    obtain ⟨hP, hD⟩ := va_join (wr := []) (w1 := [(aY, .inr (4, [.ref aM, .ref aN, .int (nI (n + 16)), .int (nI k), .long v])), (aM, .inl (cB, 1000, .inl (gp_put (gp_put (gp_put (gp_put f n w1) (n + 4) w2) (n + 8) w3) (n + 12) w4)))]) hP hD [0, 1] [] rfl rfl (by decide) (by decide) hk1 hFc hP1 hD1
    have hP := hP.sub (ws' := [(aY, .inr (4, [.ref aM, .ref aN, .int (nI (n + 16)), .int (nI k), .long v])), (aM, .inl (cB, 1000, .inl (gp_put (gp_put (gp_put (gp_put f n w1) (n + 4) w2) (n + 8) w3) (n + 12) w4)))]) [0, 1] rfl
    have hD := hD.sub (ws' := [(aY, .inr (4, [.ref aM, .ref aN, .int (nI (n + 16)), .int (nI k), .long v])), (aM, .inl (cB, 1000, .inl (gp_put (gp_put (gp_put (gp_put f n w1) (n + 4) w2) (n + 8) w3) (n + 12) w4)))]) [0, 1] (by decide) rfl
    generalize H1 = H at hP hS ⊢
    refine lv_aload_n hx hb dX4_feed_36 rfl (lv_at hl 0 rfl) ?_
    refine lv_iload hx hb dX4_feed_37 (lv_at hl 5 rfl) ?_
    have hPc := hP.sub (ws' := [(aY, .inr (4, [.ref aM, .ref aN, .int (nI (n + 16)), .int (nI k), .long v])), (aM, .inl (cB, 1000, .inl (gp_put (gp_put (gp_put (gp_put f n w1) (n + 4) w2) (n + 8) w3) (n + 12) w4)))]) [0, 1] rfl
    have hDc := hD.sub (ws' := [(aY, .inr (4, [.ref aM, .ref aN, .int (nI (n + 16)), .int (nI k), .long v])), (aM, .inl (cB, 1000, .inl (gp_put (gp_put (gp_put (gp_put f n w1) (n + 4) w2) (n + 8) w3) (n + 12) w4)))]) [0, 1] (by decide) rfl
    have hFc := va_free (wc := [(aY, .inr (4, [.ref aM, .ref aN, .int (nI (n + 16)), .int (nI k), .long v])), (aM, .inl (cB, 1000, .inl (gp_put (gp_put (gp_put (gp_put f n w1) (n + 4) w2) (n + 8) w3) (n + 12) w4)))]) hD hS hA [0, 1] rfl
    refine va_callv (va_runV (As := [.int w5]) (rest := []) ⟨hx, hb, hml, hown, hts⟩ (m_M_word l dC dI cB aY aM aN (n + 16) k v (gp_put (gp_put (gp_put (gp_put f n w1) (n + 4) w2) (n + 8) w3) (n + 12) w4) w5 _ (by omega)) (cwV 1 hts (lw_V q275 q277 qs2 q12 q278) rfl rfl rfl (by decide +kernel) ⟨Nat.le_of_ble_eq_true rfl, Nat.le_of_ble_eq_true rfl⟩) ⟨gC_bl, va_recv hK hPc (ci := 4) (q0 := 0) rfl rfl, gC_of hPc hK hDc⟩ rfl rfl hl.1 rfl (lv_room (Nat.le_of_ble_eq_true rfl)) dX4_feed_39 ⟨Nat.le_of_ble_eq_true rfl, Nat.le_of_ble_eq_true rfl⟩) hS (fun q _ h => hFc q h) hFc (fun u t H1 locs ht hvm hw hB hz1 hk1 hS => ?_)
    obtain ⟨hP1, hD1⟩ := hB
    rw [ht] at hP1
    obtain ⟨hP, hD⟩ := va_join (wr := []) (w1 := [(aY, .inr (4, [.ref aM, .ref aN, .int (nI (n + 20)), .int (nI k), .long v])), (aM, .inl (cB, 1000, .inl (gp_put (gp_put (gp_put (gp_put (gp_put f n w1) (n + 4) w2) (n + 8) w3) (n + 12) w4) (n + 16) w5)))]) hP hD [0, 1] [] rfl rfl (by decide) (by decide) hk1 hFc hP1 hD1
    have hP := hP.sub (ws' := [(aY, .inr (4, [.ref aM, .ref aN, .int (nI (n + 20)), .int (nI k), .long v])), (aM, .inl (cB, 1000, .inl (gp_put (gp_put (gp_put (gp_put (gp_put f n w1) (n + 4) w2) (n + 8) w3) (n + 12) w4) (n + 16) w5)))]) [0, 1] rfl
    have hD := hD.sub (ws' := [(aY, .inr (4, [.ref aM, .ref aN, .int (nI (n + 20)), .int (nI k), .long v])), (aM, .inl (cB, 1000, .inl (gp_put (gp_put (gp_put (gp_put (gp_put f n w1) (n + 4) w2) (n + 8) w3) (n + 12) w4) (n + 16) w5)))]) [0, 1] (by decide) rfl
    generalize H1 = H at hP hS ⊢
    refine lv_aload_n hx hb dX4_feed_42 rfl (lv_at hl 0 rfl) ?_
    refine va_get (D := (dC, dI)) (ci := 4) (v := .int (nI (n + 20))) (C := RX4) (T := TX4) (N := 5) hx hb hts in_X4 hown hK hP 0 rfl rfl 2 (by decide) (hts _ q257) (fun _ h9 => h9) rfl dX4_feed_43 ?_
    have hP : va_P (dC, dI) vwCl [(aY, .inr (4, [.ref aM, .ref aN, .int (nI (n + 20)), .int (nI k), .long v])), (aM, .inl (cB, 1000, .inl (gp_feed f n w1 w2 w3 w4 w5)))] H := hP
    have hD : va_D A [(aY, .inr (4, [.ref aM, .ref aN, .int (nI (n + 20)), .int (nI k), .long v])), (aM, .inl (cB, 1000, .inl (gp_feed f n w1 w2 w3 w4 w5)))] := hD
    exact W.iret (v := nI (n + 20)) hx hb hr (fun t ht hW => ⟨⟨nI (n + 20), (), rfl, rfl, by rw [ht]; exact hP, hD⟩, hS.F ht⟩) hS.2.2 dX4_feed_46
  · exact absurd (nI_le (a := n + 20) (b := 1000) hn (by omega)) c_2
set_option maxHeartbeats 4000000 in
/-- GroupedNumbersModel.feed, no room -/
theorem m_M_feedN (l : Launch) (dC : Nat → ClassId) (dI : Nat → Nat → Nat) (cB : ClassId) (aY aM aN : Nat) (n k : Nat) (v : Int64) (f : Nat → Int32) (w1 w2 w3 w4 w5 : Int32) (sz : Nat) (hn : ¬ n + 20 ≤ 1000) (hn2 : n ≤ 1000) : Met l yX4_feed (ws_ yX4_feed cX4_feed 6 (some .int)) ({ frames := 1, cells := 0, slots := 0, locals := 22 }) (gC dC dI [.ref aY, .int w1, .int w2, .int w3, .int w4, .int w5] [(aY, .inr (4, [.ref aM, .ref aN, .int (nI n), .int (nI k), .long v])), (aM, .inl (cB, 1000, .inl f))] [(cB, .byte)] sz) (va_Qi (fun (r : Int32) (_ : Unit) => r = -1) (fun (_ : Unit) t => gB dC dI (va_A [(aY, .inr (4, [.ref aM, .ref aN, .int (nI n), .int (nI k), .long v])), (aM, .inl (cB, 1000, .inl f))] sz) [(aY, .inr (4, [.ref aM, .ref aN, .int (nI n), .int (nI k), .long v])), (aM, .inl (cB, 1000, .inl f))] t) (va_A [(aY, .inr (4, [.ref aM, .ref aN, .int (nI n), .int (nI k), .long v])), (aM, .inl (cB, 1000, .inl f))] sz)) 0 0 (va_A [(aY, .inr (4, [.ref aM, .ref aN, .int (nI n), .int (nI k), .long v])), (aM, .inl (cB, 1000, .inl f))] sz) := by
  refine Met.ofW (cc := cX4_feed) (maxL := 6) (ret := (some .int)) (by decide) rfl ?_
  intro p e s m args below meth c s₁ B hml hv
  obtain ⟨rfl, hsz, hP, hK, hD0⟩ := hv
  have hx := B.exec
  have hb := B.bytes
  have hr := B.returns
  have hts0 := atoms_spec (ws := (ws_ yX4_feed cX4_feed 6 (some .int))) B.pre
  have hts : ∀ w ∈ lw_all, w.before _ s = true := fun w h => hts0 w (List.mem_cons_of_mem _ h)
  have hown : s.vm.findClass RX4 = some m.cls := findClass_of_methodNamed B.named
  have hlocks := B.notSynchronized
  subst hsz
  have hD := hD0.self (sz := s.heap.size)
  generalize hAe : va_A [(aY, .inr (4, [.ref aM, .ref aN, .int (nI n), .int (nI k), .long v])), (aM, .inl (cB, 1000, .inl f))] s.heap.size = A at hD ⊢
  have hA : ∀ q : Nat, s.heap.size ≤ q → A q := fun q h => by rw [← hAe]; exact Or.inr h
  have hS : va_S A s.heap s.heap [] := va_S.rf
  have hP : va_P (dC, dI) vwCl [(aY, .inr (4, [.ref aM, .ref aN, .int (nI n), .int (nI k), .long v])), (aM, .inl (cB, 1000, .inl f))] s.heap := hP
  have hl := lv_entry ([.ref aY, .int w1, .int w2, .int w3, .int w4, .int w5]) (n := 6) (Nat.le_of_ble_eq_true rfl)
  rw [lg_entry_eq]
  generalize (lg_sl ([.ref aY, .int w1, .int w2, .int w3, .int w4, .int w5]) ++ List.replicate (6 - (lg_sl ([.ref aY, .int w1, .int w2, .int w3, .int w4, .int w5])).length) Slot.unset).toArray = ls at hl ⊢
  have hl : lv_has ls 6 [(0, .ref aY), (1, .int w1), (2, .int w2), (3, .int w3), (4, .int w4), (5, .int w5)] := hl
  refine lv_aload_n hx hb dX4_feed_0 rfl (lv_at hl 0 rfl) ?_
  refine va_get (D := (dC, dI)) (ci := 4) (v := .int (nI n)) (C := RX4) (T := TX4) (N := 5) hx hb hts in_X4 hown hK hP 0 rfl rfl 2 (by decide) (hts _ q257) (fun _ h9 => h9) rfl dX4_feed_1 ?_
  refine lv_bipush (v := 20) hx hb dX4_feed_4 (by decide) ?_
  refine lv_iadd hx hb dX4_feed_6 ?_
  refine lv_topi (fun z_1 ez_1 => ?_)
  rw [show z_1 = nI (n + 20) from by rw [ez_1]; exact nI_add n 20]
  refine lv_sipush (v := 1000) hx hb dX4_feed_7 (by decide) ?_
  refine lv_icmp_le (tgt := 15) hx hb dX4_feed_10 (by decide) (fun c_2 => ?_) (fun c_2 => ?_)
  · exact absurd (gp_le (b := 1000) (by omega) (by omega) c_2) hn
  · refine lv_iconst (v := (-1)) hx hb dX4_feed_13 (by decide) ?_
    exact W.iret (v := (-1)) hx hb hr (fun t ht hW => ⟨⟨(-1), (), rfl, rfl, by rw [ht]; exact hP, hD⟩, hS.F ht⟩) hS.2.2 dX4_feed_14
set_option maxHeartbeats 4000000 in
/-- GroupedNumbersModel.end(j) -/
theorem m_M_end (l : Launch) (dC : Nat → ClassId) (dI : Nat → Nat → Nat) (cB : ClassId) (aY aM aN : Nat) (n k j : Nat) (v : Int64) (sz : Nat) (hj : j ≤ n) (hn : n ≤ 1000) : Met l yX4_end (ws_ yX4_end cX4_end 2 (some .int)) ({ frames := 0, cells := 0, slots := 0, locals := 0 }) (gC dC dI [.ref aY, .int (nI j)] [(aY, .inr (4, [.ref aM, .ref aN, .int (nI n), .int (nI k), .long v]))] [(cB, .byte)] sz) (va_Qi (fun (r : Int32) (_ : Unit) => r = nI j) (fun (_ : Unit) t => gB dC dI (va_A [(aY, .inr (4, [.ref aM, .ref aN, .int (nI n), .int (nI k), .long v]))] sz) [(aY, .inr (4, [.ref aM, .ref aN, .int (nI j), .int (nI k), .long v]))] t) (va_A [(aY, .inr (4, [.ref aM, .ref aN, .int (nI n), .int (nI k), .long v]))] sz)) 0 0 (va_A [(aY, .inr (4, [.ref aM, .ref aN, .int (nI n), .int (nI k), .long v]))] sz) := by
  refine Met.ofW (cc := cX4_end) (maxL := 2) (ret := (some .int)) (by decide) rfl ?_
  intro p e s m args below meth c s₁ B hml hv
  obtain ⟨rfl, hsz, hP, hK, hD0⟩ := hv
  have hx := B.exec
  have hb := B.bytes
  have hr := B.returns
  have hts0 := atoms_spec (ws := (ws_ yX4_end cX4_end 2 (some .int))) B.pre
  have hts : ∀ w ∈ lw_all, w.before _ s = true := fun w h => hts0 w (List.mem_cons_of_mem _ h)
  have hown : s.vm.findClass RX4 = some m.cls := findClass_of_methodNamed B.named
  have hlocks := B.notSynchronized
  subst hsz
  have hD := hD0.self (sz := s.heap.size)
  generalize hAe : va_A [(aY, .inr (4, [.ref aM, .ref aN, .int (nI n), .int (nI k), .long v]))] s.heap.size = A at hD ⊢
  have hA : ∀ q : Nat, s.heap.size ≤ q → A q := fun q h => by rw [← hAe]; exact Or.inr h
  have hS : va_S A s.heap s.heap [] := va_S.rf
  have hP : va_P (dC, dI) vwCl [(aY, .inr (4, [.ref aM, .ref aN, .int (nI n), .int (nI k), .long v]))] s.heap := hP
  have hl := lv_entry ([.ref aY, .int (nI j)]) (n := 2) (Nat.le_of_ble_eq_true rfl)
  rw [lg_entry_eq]
  generalize (lg_sl ([.ref aY, .int (nI j)]) ++ List.replicate (2 - (lg_sl ([.ref aY, .int (nI j)])).length) Slot.unset).toArray = ls at hl ⊢
  have hl : lv_has ls 2 [(0, .ref aY), (1, .int (nI j))] := hl
  refine lv_iload_n hx hb dX4_end_0 rfl (lv_at hl 1 rfl) ?_
  refine lv_if_lt (tgt := 12) hx hb dX4_end_1 (by decide) (fun c_1 => ?_) (fun c_1 => ?_)
  · exact absurd c_1 (nI_pos (by omega))
  · refine lv_iload_n hx hb dX4_end_4 rfl (lv_at hl 1 rfl) ?_
    refine lv_aload_n hx hb dX4_end_5 rfl (lv_at hl 0 rfl) ?_
    refine va_get (D := (dC, dI)) (ci := 4) (v := .int (nI n)) (C := RX4) (T := TX4) (N := 5) hx hb hts in_X4 hown hK hP 0 rfl rfl 2 (by decide) (hts _ q257) (fun _ h9 => h9) rfl dX4_end_6 ?_
    refine lv_icmp_le (tgt := 14) hx hb dX4_end_9 (by decide) (fun c_2 => ?_) (fun c_2 => ?_)
    · refine lv_aload_n hx hb dX4_end_14 rfl (lv_at hl 0 rfl) ?_
      refine lv_iload_n hx hb dX4_end_15 rfl (lv_at hl 1 rfl) ?_
      refine va_put (D := (dC, dI)) (ci := 4) (v := .int (nI j)) (ty := .int) (C := RX4) (T := TX4) (N := 5) hx hb hts in_X4 tyX4 tyX4_ok nmX4 hown hK hP hD hS 0 rfl rfl 2 (by decide) (hts _ q257) (fun _ h9 => h9) rfl (by decide +kernel) rfl rfl (Nat.le_of_ble_eq_true rfl) dX4_end_16 (fun H locs hP hD hS => ?_)
      have hP : va_P (dC, dI) vwCl [(aY, .inr (4, [.ref aM, .ref aN, .int (nI j), .int (nI k), .long v]))] H := hP
      have hD : va_D A [(aY, .inr (4, [.ref aM, .ref aN, .int (nI j), .int (nI k), .long v]))] := hD
      refine lv_iload_n hx hb dX4_end_19 rfl (lv_at hl 1 rfl) ?_
      exact W.iret (v := nI j) hx hb hr (fun t ht hW => ⟨⟨nI j, (), rfl, rfl, by rw [ht]; exact hP, hD⟩, hS.F ht⟩) hS.2.2 dX4_end_20
    · exact absurd (nI_le hj (by omega)) c_2
set_option maxHeartbeats 4000000 in
/-- GroupedNumbersModel.end, refused -/
theorem m_M_endN (l : Launch) (dC : Nat → ClassId) (dI : Nat → Nat → Nat) (cB : ClassId) (aY aM aN : Nat) (n k : Nat) (v : Int64) (x : Int32) (sz : Nat) (hx0 : x < 0 ∨ nI n < x) : Met l yX4_end (ws_ yX4_end cX4_end 2 (some .int)) ({ frames := 0, cells := 0, slots := 0, locals := 0 }) (gC dC dI [.ref aY, .int x] [(aY, .inr (4, [.ref aM, .ref aN, .int (nI n), .int (nI k), .long v]))] [(cB, .byte)] sz) (va_Qi (fun (r : Int32) (_ : Unit) => r = -1) (fun (_ : Unit) t => gB dC dI (va_A [(aY, .inr (4, [.ref aM, .ref aN, .int (nI n), .int (nI k), .long v]))] sz) [(aY, .inr (4, [.ref aM, .ref aN, .int (nI n), .int (nI k), .long v]))] t) (va_A [(aY, .inr (4, [.ref aM, .ref aN, .int (nI n), .int (nI k), .long v]))] sz)) 0 0 (va_A [(aY, .inr (4, [.ref aM, .ref aN, .int (nI n), .int (nI k), .long v]))] sz) := by
  refine Met.ofW (cc := cX4_end) (maxL := 2) (ret := (some .int)) (by decide) rfl ?_
  intro p e s m args below meth c s₁ B hml hv
  obtain ⟨rfl, hsz, hP, hK, hD0⟩ := hv
  have hx := B.exec
  have hb := B.bytes
  have hr := B.returns
  have hts0 := atoms_spec (ws := (ws_ yX4_end cX4_end 2 (some .int))) B.pre
  have hts : ∀ w ∈ lw_all, w.before _ s = true := fun w h => hts0 w (List.mem_cons_of_mem _ h)
  have hown : s.vm.findClass RX4 = some m.cls := findClass_of_methodNamed B.named
  have hlocks := B.notSynchronized
  subst hsz
  have hD := hD0.self (sz := s.heap.size)
  generalize hAe : va_A [(aY, .inr (4, [.ref aM, .ref aN, .int (nI n), .int (nI k), .long v]))] s.heap.size = A at hD ⊢
  have hA : ∀ q : Nat, s.heap.size ≤ q → A q := fun q h => by rw [← hAe]; exact Or.inr h
  have hS : va_S A s.heap s.heap [] := va_S.rf
  have hP : va_P (dC, dI) vwCl [(aY, .inr (4, [.ref aM, .ref aN, .int (nI n), .int (nI k), .long v]))] s.heap := hP
  have hl := lv_entry ([.ref aY, .int x]) (n := 2) (Nat.le_of_ble_eq_true rfl)
  rw [lg_entry_eq]
  generalize (lg_sl ([.ref aY, .int x]) ++ List.replicate (2 - (lg_sl ([.ref aY, .int x])).length) Slot.unset).toArray = ls at hl ⊢
  have hl : lv_has ls 2 [(0, .ref aY), (1, .int x)] := hl
  refine lv_iload_n hx hb dX4_end_0 rfl (lv_at hl 1 rfl) ?_
  refine lv_if_lt (tgt := 12) hx hb dX4_end_1 (by decide) (fun c_1 => ?_) (fun c_1 => ?_)
  · refine lv_iconst (v := (-1)) hx hb dX4_end_12 (by decide) ?_
    exact W.iret (v := (-1)) hx hb hr (fun t ht hW => ⟨⟨(-1), (), rfl, rfl, by rw [ht]; exact hP, hD⟩, hS.F ht⟩) hS.2.2 dX4_end_13
  · refine lv_iload_n hx hb dX4_end_4 rfl (lv_at hl 1 rfl) ?_
    refine lv_aload_n hx hb dX4_end_5 rfl (lv_at hl 0 rfl) ?_
    refine va_get (D := (dC, dI)) (ci := 4) (v := .int (nI n)) (C := RX4) (T := TX4) (N := 5) hx hb hts in_X4 hown hK hP 0 rfl rfl 2 (by decide) (hts _ q257) (fun _ h9 => h9) rfl dX4_end_6 ?_
    refine lv_icmp_le (tgt := 14) hx hb dX4_end_9 (by decide) (fun c_2 => ?_) (fun c_2 => ?_)
    · exact absurd hx0 (fun z => z.elim c_1 (Int32.not_lt.mpr c_2))
    · refine lv_iconst (v := (-1)) hx hb dX4_end_12 (by decide) ?_
      exact W.iret (v := (-1)) hx hb hr (fun t ht hW => ⟨⟨(-1), (), rfl, rfl, by rw [ht]; exact hP, hD⟩, hS.F ht⟩) hS.2.2 dX4_end_13
set_option maxHeartbeats 4000000 in
/-- GroupedNumbersModel.value() -/
theorem m_M_value (l : Launch) (dC : Nat → ClassId) (dI : Nat → Nat → Nat) (cB : ClassId) (aY aM aN : Nat) (n k : Nat) (v : Int64) (sz : Nat)  : Met l yX4_value (ws_ yX4_value cX4_value 1 (some .long)) ({ frames := 0, cells := 0, slots := 0, locals := 0 }) (gC dC dI [.ref aY] [(aY, .inr (4, [.ref aM, .ref aN, .int (nI n), .int (nI k), .long v]))] [(cB, .byte)] sz) (va_Ql (fun (r : Int64) (_ : Unit) => r = v) (fun (_ : Unit) t => gB dC dI (va_A [(aY, .inr (4, [.ref aM, .ref aN, .int (nI n), .int (nI k), .long v]))] sz) [(aY, .inr (4, [.ref aM, .ref aN, .int (nI n), .int (nI k), .long v]))] t) (va_A [(aY, .inr (4, [.ref aM, .ref aN, .int (nI n), .int (nI k), .long v]))] sz)) 0 0 (va_A [(aY, .inr (4, [.ref aM, .ref aN, .int (nI n), .int (nI k), .long v]))] sz) := by
  refine Met.ofW (cc := cX4_value) (maxL := 1) (ret := (some .long)) (by decide) rfl ?_
  intro p e s m args below meth c s₁ B hml hv
  obtain ⟨rfl, hsz, hP, hK, hD0⟩ := hv
  have hx := B.exec
  have hb := B.bytes
  have hr := B.returns
  have hts0 := atoms_spec (ws := (ws_ yX4_value cX4_value 1 (some .long))) B.pre
  have hts : ∀ w ∈ lw_all, w.before _ s = true := fun w h => hts0 w (List.mem_cons_of_mem _ h)
  have hown : s.vm.findClass RX4 = some m.cls := findClass_of_methodNamed B.named
  have hlocks := B.notSynchronized
  subst hsz
  have hD := hD0.self (sz := s.heap.size)
  generalize hAe : va_A [(aY, .inr (4, [.ref aM, .ref aN, .int (nI n), .int (nI k), .long v]))] s.heap.size = A at hD ⊢
  have hA : ∀ q : Nat, s.heap.size ≤ q → A q := fun q h => by rw [← hAe]; exact Or.inr h
  have hS : va_S A s.heap s.heap [] := va_S.rf
  have hP : va_P (dC, dI) vwCl [(aY, .inr (4, [.ref aM, .ref aN, .int (nI n), .int (nI k), .long v]))] s.heap := hP
  have hl := lv_entry ([.ref aY]) (n := 1) (Nat.le_of_ble_eq_true rfl)
  rw [lg_entry_eq]
  generalize (lg_sl ([.ref aY]) ++ List.replicate (1 - (lg_sl ([.ref aY])).length) Slot.unset).toArray = ls at hl ⊢
  have hl : lv_has ls 1 [(0, .ref aY)] := hl
  refine lv_aload_n hx hb dX4_value_0 rfl (lv_at hl 0 rfl) ?_
  refine va_get (D := (dC, dI)) (ci := 4) (v := .long v) (C := RX4) (T := TX4) (N := 5) hx hb hts in_X4 hown hK hP 0 rfl rfl 4 (by decide) (hts _ q259) (fun _ h9 => h9) rfl dX4_value_1 ?_
  exact W.lret (v := v) hx hb hr (fun t ht hW => ⟨⟨v, (), rfl, rfl, by rw [ht]; exact hP, hD⟩, hS.F ht⟩) hS.2.2 dX4_value_4
set_option maxHeartbeats 4000000 in
/-- GroupedNumbersModel.size() -/
theorem m_M_size (l : Launch) (dC : Nat → ClassId) (dI : Nat → Nat → Nat) (cB : ClassId) (aY aM aN : Nat) (n k : Nat) (v : Int64) (sz : Nat)  : Met l yX4_size (ws_ yX4_size cX4_size 1 (some .int)) ({ frames := 0, cells := 0, slots := 0, locals := 0 }) (gC dC dI [.ref aY] [(aY, .inr (4, [.ref aM, .ref aN, .int (nI n), .int (nI k), .long v]))] [(cB, .byte)] sz) (va_Qi (fun (r : Int32) (_ : Unit) => r = nI k) (fun (_ : Unit) t => gB dC dI (va_A [(aY, .inr (4, [.ref aM, .ref aN, .int (nI n), .int (nI k), .long v]))] sz) [(aY, .inr (4, [.ref aM, .ref aN, .int (nI n), .int (nI k), .long v]))] t) (va_A [(aY, .inr (4, [.ref aM, .ref aN, .int (nI n), .int (nI k), .long v]))] sz)) 0 0 (va_A [(aY, .inr (4, [.ref aM, .ref aN, .int (nI n), .int (nI k), .long v]))] sz) := by
  refine Met.ofW (cc := cX4_size) (maxL := 1) (ret := (some .int)) (by decide) rfl ?_
  intro p e s m args below meth c s₁ B hml hv
  obtain ⟨rfl, hsz, hP, hK, hD0⟩ := hv
  have hx := B.exec
  have hb := B.bytes
  have hr := B.returns
  have hts0 := atoms_spec (ws := (ws_ yX4_size cX4_size 1 (some .int))) B.pre
  have hts : ∀ w ∈ lw_all, w.before _ s = true := fun w h => hts0 w (List.mem_cons_of_mem _ h)
  have hown : s.vm.findClass RX4 = some m.cls := findClass_of_methodNamed B.named
  have hlocks := B.notSynchronized
  subst hsz
  have hD := hD0.self (sz := s.heap.size)
  generalize hAe : va_A [(aY, .inr (4, [.ref aM, .ref aN, .int (nI n), .int (nI k), .long v]))] s.heap.size = A at hD ⊢
  have hA : ∀ q : Nat, s.heap.size ≤ q → A q := fun q h => by rw [← hAe]; exact Or.inr h
  have hS : va_S A s.heap s.heap [] := va_S.rf
  have hP : va_P (dC, dI) vwCl [(aY, .inr (4, [.ref aM, .ref aN, .int (nI n), .int (nI k), .long v]))] s.heap := hP
  have hl := lv_entry ([.ref aY]) (n := 1) (Nat.le_of_ble_eq_true rfl)
  rw [lg_entry_eq]
  generalize (lg_sl ([.ref aY]) ++ List.replicate (1 - (lg_sl ([.ref aY])).length) Slot.unset).toArray = ls at hl ⊢
  have hl : lv_has ls 1 [(0, .ref aY)] := hl
  refine lv_aload_n hx hb dX4_size_0 rfl (lv_at hl 0 rfl) ?_
  refine va_get (D := (dC, dI)) (ci := 4) (v := .int (nI k)) (C := RX4) (T := TX4) (N := 5) hx hb hts in_X4 hown hK hP 0 rfl rfl 3 (by decide) (hts _ q258) (fun _ h9 => h9) rfl dX4_size_1 ?_
  exact W.iret (v := nI k) hx hb hr (fun t ht hW => ⟨⟨nI k, (), rfl, rfl, by rw [ht]; exact hP, hD⟩, hS.F ht⟩) hS.2.2 dX4_size_4
set_option maxHeartbeats 4000000 in
/-- GroupedNumbersModel.at(j) -/
theorem m_M_at (l : Launch) (dC : Nat → ClassId) (dI : Nat → Nat → Nat) (cB : ClassId) (aY aM aN : Nat) (n k j : Nat) (v : Int64) (f : Nat → Int32) (sz : Nat) (hj : j < k) (hk : k ≤ 1000) : Met l yX4_at (ws_ yX4_at cX4_at 2 (some .int)) ({ frames := 0, cells := 0, slots := 0, locals := 0 }) (gC dC dI [.ref aY, .int (nI j)] [(aY, .inr (4, [.ref aM, .ref aN, .int (nI n), .int (nI k), .long v])), (aN, .inl (cB, 1000, .inl f))] [(cB, .byte)] sz) (va_Qi (fun (r : Int32) (_ : Unit) => r = f j &&& 255) (fun (_ : Unit) t => gB dC dI (va_A [(aY, .inr (4, [.ref aM, .ref aN, .int (nI n), .int (nI k), .long v])), (aN, .inl (cB, 1000, .inl f))] sz) [(aY, .inr (4, [.ref aM, .ref aN, .int (nI n), .int (nI k), .long v])), (aN, .inl (cB, 1000, .inl f))] t) (va_A [(aY, .inr (4, [.ref aM, .ref aN, .int (nI n), .int (nI k), .long v])), (aN, .inl (cB, 1000, .inl f))] sz)) 0 0 (va_A [(aY, .inr (4, [.ref aM, .ref aN, .int (nI n), .int (nI k), .long v])), (aN, .inl (cB, 1000, .inl f))] sz) := by
  refine Met.ofW (cc := cX4_at) (maxL := 2) (ret := (some .int)) (by decide) rfl ?_
  intro p e s m args below meth c s₁ B hml hv
  obtain ⟨rfl, hsz, hP, hK, hD0⟩ := hv
  have hx := B.exec
  have hb := B.bytes
  have hr := B.returns
  have hts0 := atoms_spec (ws := (ws_ yX4_at cX4_at 2 (some .int))) B.pre
  have hts : ∀ w ∈ lw_all, w.before _ s = true := fun w h => hts0 w (List.mem_cons_of_mem _ h)
  have hown : s.vm.findClass RX4 = some m.cls := findClass_of_methodNamed B.named
  have hlocks := B.notSynchronized
  subst hsz
  have hD := hD0.self (sz := s.heap.size)
  generalize hAe : va_A [(aY, .inr (4, [.ref aM, .ref aN, .int (nI n), .int (nI k), .long v])), (aN, .inl (cB, 1000, .inl f))] s.heap.size = A at hD ⊢
  have hA : ∀ q : Nat, s.heap.size ≤ q → A q := fun q h => by rw [← hAe]; exact Or.inr h
  have hS : va_S A s.heap s.heap [] := va_S.rf
  have hP : va_P (dC, dI) vwCl [(aY, .inr (4, [.ref aM, .ref aN, .int (nI n), .int (nI k), .long v])), (aN, .inl (cB, 1000, .inl f))] s.heap := hP
  have hl := lv_entry ([.ref aY, .int (nI j)]) (n := 2) (Nat.le_of_ble_eq_true rfl)
  rw [lg_entry_eq]
  generalize (lg_sl ([.ref aY, .int (nI j)]) ++ List.replicate (2 - (lg_sl ([.ref aY, .int (nI j)])).length) Slot.unset).toArray = ls at hl ⊢
  have hl : lv_has ls 2 [(0, .ref aY), (1, .int (nI j))] := hl
  refine lv_iload_n hx hb dX4_at_0 rfl (lv_at hl 1 rfl) ?_
  refine lv_if_lt (tgt := 25) hx hb dX4_at_1 (by decide) (fun c_1 => ?_) (fun c_1 => ?_)
  · exact absurd c_1 (nI_pos (by omega))
  · refine lv_iload_n hx hb dX4_at_4 rfl (lv_at hl 1 rfl) ?_
    refine lv_aload_n hx hb dX4_at_5 rfl (lv_at hl 0 rfl) ?_
    refine va_get (D := (dC, dI)) (ci := 4) (v := .int (nI k)) (C := RX4) (T := TX4) (N := 5) hx hb hts in_X4 hown hK hP 0 rfl rfl 3 (by decide) (hts _ q258) (fun _ h9 => h9) rfl dX4_at_6 ?_
    refine lv_icmp_ge (tgt := 25) hx hb dX4_at_9 (by decide) (fun c_2 => ?_) (fun c_2 => ?_)
    · exact absurd c_2 (nI_ge hj (by omega))
    · refine lv_aload_n hx hb dX4_at_12 rfl (lv_at hl 0 rfl) ?_
      refine va_get (D := (dC, dI)) (ci := 4) (v := .ref aN) (C := RX4) (T := TX4) (N := 5) hx hb hts in_X4 hown hK hP 0 rfl rfl 1 (by decide) (hts _ q256) (fun _ h9 => h9) rfl dX4_at_13 ?_
      refine lv_iload_n hx hb dX4_at_16 rfl (lv_at hl 1 rfl) ?_
      refine va_bald hx hb hK hP 1 0 rfl rfl (vp_in_nI (by omega) (by omega)) dX4_at_17 ?_
      refine lv_topi (fun z_3 ez_3 => ?_)
      rw [show z_3 = f j from by rw [ez_3]; rw [nI_clamp (by omega)]]
      refine lv_sipush (v := 255) hx hb dX4_at_18 (by decide) ?_
      refine lv_iand hx hb dX4_at_21 ?_
      refine lv_goto (tgt := 26) hx hb dX4_at_22 (by decide) ?_
      exact W.iret (v := f j &&& 255) hx hb hr (fun t ht hW => ⟨⟨f j &&& 255, (), rfl, rfl, by rw [ht]; exact hP, hD⟩, hS.F ht⟩) hS.2.2 dX4_at_26
set_option maxHeartbeats 4000000 in
/-- GroupedNumbersModel.at, none there -/
theorem m_M_atN (l : Launch) (dC : Nat → ClassId) (dI : Nat → Nat → Nat) (cB : ClassId) (aY aM aN : Nat) (n k : Nat) (v : Int64) (f : Nat → Int32) (x : Int32) (sz : Nat) (hx0 : x < 0 ∨ nI k ≤ x) : Met l yX4_at (ws_ yX4_at cX4_at 2 (some .int)) ({ frames := 0, cells := 0, slots := 0, locals := 0 }) (gC dC dI [.ref aY, .int x] [(aY, .inr (4, [.ref aM, .ref aN, .int (nI n), .int (nI k), .long v])), (aN, .inl (cB, 1000, .inl f))] [(cB, .byte)] sz) (va_Qi (fun (r : Int32) (_ : Unit) => r = -1) (fun (_ : Unit) t => gB dC dI (va_A [(aY, .inr (4, [.ref aM, .ref aN, .int (nI n), .int (nI k), .long v])), (aN, .inl (cB, 1000, .inl f))] sz) [(aY, .inr (4, [.ref aM, .ref aN, .int (nI n), .int (nI k), .long v])), (aN, .inl (cB, 1000, .inl f))] t) (va_A [(aY, .inr (4, [.ref aM, .ref aN, .int (nI n), .int (nI k), .long v])), (aN, .inl (cB, 1000, .inl f))] sz)) 0 0 (va_A [(aY, .inr (4, [.ref aM, .ref aN, .int (nI n), .int (nI k), .long v])), (aN, .inl (cB, 1000, .inl f))] sz) := by
  refine Met.ofW (cc := cX4_at) (maxL := 2) (ret := (some .int)) (by decide) rfl ?_
  intro p e s m args below meth c s₁ B hml hv
  obtain ⟨rfl, hsz, hP, hK, hD0⟩ := hv
  have hx := B.exec
  have hb := B.bytes
  have hr := B.returns
  have hts0 := atoms_spec (ws := (ws_ yX4_at cX4_at 2 (some .int))) B.pre
  have hts : ∀ w ∈ lw_all, w.before _ s = true := fun w h => hts0 w (List.mem_cons_of_mem _ h)
  have hown : s.vm.findClass RX4 = some m.cls := findClass_of_methodNamed B.named
  have hlocks := B.notSynchronized
  subst hsz
  have hD := hD0.self (sz := s.heap.size)
  generalize hAe : va_A [(aY, .inr (4, [.ref aM, .ref aN, .int (nI n), .int (nI k), .long v])), (aN, .inl (cB, 1000, .inl f))] s.heap.size = A at hD ⊢
  have hA : ∀ q : Nat, s.heap.size ≤ q → A q := fun q h => by rw [← hAe]; exact Or.inr h
  have hS : va_S A s.heap s.heap [] := va_S.rf
  have hP : va_P (dC, dI) vwCl [(aY, .inr (4, [.ref aM, .ref aN, .int (nI n), .int (nI k), .long v])), (aN, .inl (cB, 1000, .inl f))] s.heap := hP
  have hl := lv_entry ([.ref aY, .int x]) (n := 2) (Nat.le_of_ble_eq_true rfl)
  rw [lg_entry_eq]
  generalize (lg_sl ([.ref aY, .int x]) ++ List.replicate (2 - (lg_sl ([.ref aY, .int x])).length) Slot.unset).toArray = ls at hl ⊢
  have hl : lv_has ls 2 [(0, .ref aY), (1, .int x)] := hl
  refine lv_iload_n hx hb dX4_at_0 rfl (lv_at hl 1 rfl) ?_
  refine lv_if_lt (tgt := 25) hx hb dX4_at_1 (by decide) (fun c_1 => ?_) (fun c_1 => ?_)
  · refine lv_iconst (v := (-1)) hx hb dX4_at_25 (by decide) ?_
    exact W.iret (v := (-1)) hx hb hr (fun t ht hW => ⟨⟨(-1), (), rfl, rfl, by rw [ht]; exact hP, hD⟩, hS.F ht⟩) hS.2.2 dX4_at_26
  · refine lv_iload_n hx hb dX4_at_4 rfl (lv_at hl 1 rfl) ?_
    refine lv_aload_n hx hb dX4_at_5 rfl (lv_at hl 0 rfl) ?_
    refine va_get (D := (dC, dI)) (ci := 4) (v := .int (nI k)) (C := RX4) (T := TX4) (N := 5) hx hb hts in_X4 hown hK hP 0 rfl rfl 3 (by decide) (hts _ q258) (fun _ h9 => h9) rfl dX4_at_6 ?_
    refine lv_icmp_ge (tgt := 25) hx hb dX4_at_9 (by decide) (fun c_2 => ?_) (fun c_2 => ?_)
    · refine lv_iconst (v := (-1)) hx hb dX4_at_25 (by decide) ?_
      exact W.iret (v := (-1)) hx hb hr (fun t ht hW => ⟨⟨(-1), (), rfl, rfl, by rw [ht]; exact hP, hD⟩, hS.F ht⟩) hS.2.2 dX4_at_26
    · exact absurd hx0 (fun z => z.elim c_1 c_2)
set_option maxHeartbeats 4000000 in
/-- GroupedNumbersModel.clear() -/
theorem m_M_clear (l : Launch) (dC : Nat → ClassId) (dI : Nat → Nat → Nat) (cB : ClassId) (aY aM aN : Nat) (n k : Nat) (v : Int64) (sz : Nat)  : Met l yX4_clear (ws_ yX4_clear cX4_clear 1 none) ({ frames := 0, cells := 0, slots := 0, locals := 0 }) (gC dC dI [.ref aY] [(aY, .inr (4, [.ref aM, .ref aN, .int (nI n), .int (nI k), .long v]))] [(cB, .byte)] sz) (va_Qv (fun _ : Unit => True) (fun _ t => gB dC dI (va_A [(aY, .inr (4, [.ref aM, .ref aN, .int (nI n), .int (nI k), .long v]))] sz) [(aY, .inr (4, [.ref aM, .ref aN, .int (nI 0), .int (nI 0), .long v]))] t) (va_A [(aY, .inr (4, [.ref aM, .ref aN, .int (nI n), .int (nI k), .long v]))] sz)) 0 0 (va_A [(aY, .inr (4, [.ref aM, .ref aN, .int (nI n), .int (nI k), .long v]))] sz) := by
  refine Met.ofW (cc := cX4_clear) (maxL := 1) (ret := none) (by decide) rfl ?_
  intro p e s m args below meth c s₁ B hml hv
  obtain ⟨rfl, hsz, hP, hK, hD0⟩ := hv
  have hx := B.exec
  have hb := B.bytes
  have hr := B.returns
  have hts0 := atoms_spec (ws := (ws_ yX4_clear cX4_clear 1 none)) B.pre
  have hts : ∀ w ∈ lw_all, w.before _ s = true := fun w h => hts0 w (List.mem_cons_of_mem _ h)
  have hown : s.vm.findClass RX4 = some m.cls := findClass_of_methodNamed B.named
  have hlocks := B.notSynchronized
  subst hsz
  have hD := hD0.self (sz := s.heap.size)
  generalize hAe : va_A [(aY, .inr (4, [.ref aM, .ref aN, .int (nI n), .int (nI k), .long v]))] s.heap.size = A at hD ⊢
  have hA : ∀ q : Nat, s.heap.size ≤ q → A q := fun q h => by rw [← hAe]; exact Or.inr h
  have hS : va_S A s.heap s.heap [] := va_S.rf
  have hP : va_P (dC, dI) vwCl [(aY, .inr (4, [.ref aM, .ref aN, .int (nI n), .int (nI k), .long v]))] s.heap := hP
  have hl := lv_entry ([.ref aY]) (n := 1) (Nat.le_of_ble_eq_true rfl)
  rw [lg_entry_eq]
  generalize (lg_sl ([.ref aY]) ++ List.replicate (1 - (lg_sl ([.ref aY])).length) Slot.unset).toArray = ls at hl ⊢
  have hl : lv_has ls 1 [(0, .ref aY)] := hl
  refine lv_aload_n hx hb dX4_clear_0 rfl (lv_at hl 0 rfl) ?_
  refine lv_iconst (v := 0) hx hb dX4_clear_1 (by decide) ?_
  refine lv_topi (fun z_1 ez_1 => ?_)
  rw [show z_1 = nI 0 from by rw [ez_1]; rfl]
  refine va_put (D := (dC, dI)) (ci := 4) (v := .int (nI 0)) (ty := .int) (C := RX4) (T := TX4) (N := 5) hx hb hts in_X4 tyX4 tyX4_ok nmX4 hown hK hP hD hS 0 rfl rfl 2 (by decide) (hts _ q257) (fun _ h9 => h9) rfl (by decide +kernel) rfl rfl (Nat.le_of_ble_eq_true rfl) dX4_clear_2 (fun H locs hP hD hS => ?_)
  have hP : va_P (dC, dI) vwCl [(aY, .inr (4, [.ref aM, .ref aN, .int (nI 0), .int (nI k), .long v]))] H := hP
  have hD : va_D A [(aY, .inr (4, [.ref aM, .ref aN, .int (nI 0), .int (nI k), .long v]))] := hD
  refine lv_aload_n hx hb dX4_clear_5 rfl (lv_at hl 0 rfl) ?_
  refine lv_iconst (v := 0) hx hb dX4_clear_6 (by decide) ?_
  refine lv_topi (fun z_2 ez_2 => ?_)
  rw [show z_2 = nI 0 from by rw [ez_2]; rfl]
  refine va_put (D := (dC, dI)) (ci := 4) (v := .int (nI 0)) (ty := .int) (C := RX4) (T := TX4) (N := 5) hx hb hts in_X4 tyX4 tyX4_ok nmX4 hown hK hP hD hS 0 rfl rfl 3 (by decide) (hts _ q258) (fun _ h9 => h9) rfl (by decide +kernel) rfl rfl (Nat.le_of_ble_eq_true rfl) dX4_clear_7 (fun H locs hP hD hS => ?_)
  have hP : va_P (dC, dI) vwCl [(aY, .inr (4, [.ref aM, .ref aN, .int (nI 0), .int (nI 0), .long v]))] H := hP
  have hD : va_D A [(aY, .inr (4, [.ref aM, .ref aN, .int (nI 0), .int (nI 0), .long v]))] := hD
  exact W.vret hx hb hr (fun t ht hW => ⟨⟨(), rfl, trivial, by rw [ht]; exact hP, hD⟩, hS.F ht⟩) hS.2.2 dX4_clear_10
set_option maxHeartbeats 4000000 in
/-- GroupedNumbersModel.isEnough(how, v, n) -/
theorem m_M_enough (l : Launch) (dC : Nat → ClassId) (dI : Nat → Nat → Nat) (cB : ClassId) (hw n : Nat) (v : Int64) (sz : Nat) (hw2 : hw ≤ 2) (h1 : 1 ≤ n) (h10 : n ≤ 10) (hv : hw = 0 → 0 ≤ v.toInt) : Met l yX4_isEnough (ws_ yX4_isEnough cX4_isEnough 5 (some .boolean)) ({ frames := 0, cells := 0, slots := 0, locals := 0 }) (gC dC dI [.int (nI hw), .long v, .int (nI n)] [] [(cB, .byte)] sz) (va_Qi (fun (r : Int32) (_ : Unit) => (r = 1 ∧ ¬ gp_more hw (gp_left v (n - 1))) ∨ (r = 0 ∧ gp_more hw (gp_left v (n - 1)))) (fun (_ : Unit) t => gB dC dI (va_A [] sz) [] t) (va_A [] sz)) 0 0 (va_A [] sz) := by
  refine Met.ofW (cc := cX4_isEnough) (maxL := 5) (ret := (some .boolean)) (by decide) rfl ?_
  intro p e s m args below meth c s₁ B hml hv
  obtain ⟨rfl, hsz, hP, hK, hD0⟩ := hv
  have hx := B.exec
  have hb := B.bytes
  have hr := B.returns
  have hts0 := atoms_spec (ws := (ws_ yX4_isEnough cX4_isEnough 5 (some .boolean))) B.pre
  have hts : ∀ w ∈ lw_all, w.before _ s = true := fun w h => hts0 w (List.mem_cons_of_mem _ h)
  have hown : s.vm.findClass RX4 = some m.cls := findClass_of_methodNamed B.named
  have hlocks := B.notSynchronized
  subst hsz
  have hD := hD0.self (sz := s.heap.size)
  generalize hAe : va_A [] s.heap.size = A at hD ⊢
  have hA : ∀ q : Nat, s.heap.size ≤ q → A q := fun q h => by rw [← hAe]; exact Or.inr h
  have hS : va_S A s.heap s.heap [] := va_S.rf
  have hP : va_P (dC, dI) vwCl [] s.heap := hP
  have hl := lv_entry ([.int (nI hw), .long v, .int (nI n)]) (n := 5) (Nat.le_of_ble_eq_true rfl)
  rw [lg_entry_eq]
  generalize (lg_sl ([.int (nI hw), .long v, .int (nI n)]) ++ List.replicate (5 - (lg_sl ([.int (nI hw), .long v, .int (nI n)])).length) Slot.unset).toArray = ls at hl ⊢
  have hl : lv_has ls 5 [(0, .int (nI hw)), (1, .long v), (3, .int (nI n))] := hl
  refine lv_bipush (v := 7) hx hb dX4_isEnough_0 (by decide) ?_
  refine lv_iload_n hx hb dX4_isEnough_2 rfl (lv_at hl 2 rfl) ?_
  refine lv_imul hx hb dX4_isEnough_3 ?_
  refine lv_istore (lv' := [(4, .int (7 * (nI n))), (0, .int (nI hw)), (1, .long v), (3, .int (nI n))]) hx hb dX4_isEnough_4 hl (by decide) rfl (fun ls hl => ?_)
  refine lv_iload hx hb dX4_isEnough_6 (lv_at hl 0 rfl) ?_
  refine lv_bipush (v := 63) hx hb dX4_isEnough_8 (by decide) ?_
  refine lv_icmp_le (tgt := 15) hx hb dX4_isEnough_10 (by decide) (fun c_1 => ?_) (fun c_1 => ?_)
  · have h9 : n ≤ 9 := by
      rcases (show n ≤ 9 ∨ n = 10 by omega) with q | q
      · exact q
      · subst q; exact absurd c_1 gp_gt63
    refine lv_iload_n hx hb dX4_isEnough_15 rfl (lv_at hl 1 rfl) ?_
    refine lv_if_ne (tgt := 36) hx hb dX4_isEnough_16 (by decide) (fun c_2 => ?_) (fun c_2 => ?_)
    · have h0 : hw ≠ 0 := fun z => c_2 (by rw [z]; rfl)
      have hq := gp_enoughS h0 v h1 h9
      refine lv_lload_n hx hb dX4_isEnough_36 rfl (lv_at hl 2 rfl) ?_
      refine lv_iload hx hb dX4_isEnough_37 (lv_at hl 0 rfl) ?_
      refine lv_iconst (v := 1) hx hb dX4_isEnough_39 (by decide) ?_
      refine lv_isub hx hb dX4_isEnough_40 ?_
      refine lv_lshr (v := (v >>> ((((7 * (nI n)) - 1)).toInt64 &&& 63))) hx hb dX4_isEnough_41 rfl ?_
      refine lv_lconst (v := 0) hx hb dX4_isEnough_42 rfl ?_
      refine W.lcmp hx hb dX4_isEnough_43 ?_
      refine lv_if_eq (tgt := 60) hx hb dX4_isEnough_44 (by decide) (fun c_3 => ?_) (fun c_3 => ?_)
      · refine lv_iconst (v := 1) hx hb dX4_isEnough_60 (by decide) ?_
        refine lv_goto (tgt := 65) hx hb dX4_isEnough_61 (by decide) ?_
        exact W.zret (v := 1) hx hb hr rfl (fun t ht hW => ⟨⟨1, (), rfl, Or.inl ⟨rfl, hq.mp (Or.inl ((lg_cmp_eq _ _).mp c_3))⟩, by rw [ht]; exact hP, hD⟩, hS.F ht⟩) hS.2.2 dX4_isEnough_65
      · refine lv_lload_n hx hb dX4_isEnough_47 rfl (lv_at hl 2 rfl) ?_
        refine lv_iload hx hb dX4_isEnough_48 (lv_at hl 0 rfl) ?_
        refine lv_iconst (v := 1) hx hb dX4_isEnough_50 (by decide) ?_
        refine lv_isub hx hb dX4_isEnough_51 ?_
        refine lv_lshr (v := (v >>> ((((7 * (nI n)) - 1)).toInt64 &&& 63))) hx hb dX4_isEnough_52 rfl ?_
        refine lv_ldc2 (v := (-1)) hx hb hown (hts _ q287) dX4_isEnough_53 ?_
        refine W.lcmp hx hb dX4_isEnough_56 ?_
        refine lv_if_ne (tgt := 64) hx hb dX4_isEnough_57 (by decide) (fun c_4 => ?_) (fun c_4 => ?_)
        · refine lv_iconst (v := 0) hx hb dX4_isEnough_64 (by decide) ?_
          exact W.zret (v := 0) hx hb hr rfl (fun t ht hW => ⟨⟨0, (), rfl, Or.inr ⟨rfl, Classical.byContradiction fun z => (hq.mpr z).elim (mt (lg_cmp_eq _ _).mpr c_3) (mt (lg_cmp_eq _ _).mpr c_4)⟩, by rw [ht]; exact hP, hD⟩, hS.F ht⟩) hS.2.2 dX4_isEnough_65
        · refine lv_iconst (v := 1) hx hb dX4_isEnough_60 (by decide) ?_
          refine lv_goto (tgt := 65) hx hb dX4_isEnough_61 (by decide) ?_
          exact W.zret (v := 1) hx hb hr rfl (fun t ht hW => ⟨⟨1, (), rfl, Or.inl ⟨rfl, hq.mp (Or.inr ((lg_cmp_eq _ _).mp c_4))⟩, by rw [ht]; exact hP, hD⟩, hS.F ht⟩) hS.2.2 dX4_isEnough_65
    · have h0 : 0 = hw := ((nI_eq (b := 0) (by omega) (by omega)).mp c_2).symm
      subst h0
      have hq := gp_enough0 (hv rfl) h1 h9
      refine lv_lload_n hx hb dX4_isEnough_19 rfl (lv_at hl 2 rfl) ?_
      refine lv_iload hx hb dX4_isEnough_20 (lv_at hl 0 rfl) ?_
      refine lv_lshr (v := (v >>> (((7 * (nI n))).toInt64 &&& 63))) hx hb dX4_isEnough_22 rfl ?_
      refine lv_lconst (v := 0) hx hb dX4_isEnough_23 rfl ?_
      refine W.lcmp hx hb dX4_isEnough_24 ?_
      refine lv_if_ne (tgt := 32) hx hb dX4_isEnough_25 (by decide) (fun c_3 => ?_) (fun c_3 => ?_)
      · refine lv_iconst (v := 0) hx hb dX4_isEnough_32 (by decide) ?_
        refine lv_goto (tgt := 65) hx hb dX4_isEnough_33 (by decide) ?_
        exact W.zret (v := 0) hx hb hr rfl (fun t ht hW => ⟨⟨0, (), rfl, Or.inr ⟨rfl, Classical.byContradiction fun z => c_3 ((lg_cmp_eq _ _).mpr (hq.mpr z))⟩, by rw [ht]; exact hP, hD⟩, hS.F ht⟩) hS.2.2 dX4_isEnough_65
      · refine lv_iconst (v := 1) hx hb dX4_isEnough_28 (by decide) ?_
        refine lv_goto (tgt := 65) hx hb dX4_isEnough_29 (by decide) ?_
        exact W.zret (v := 1) hx hb hr rfl (fun t ht hW => ⟨⟨1, (), rfl, Or.inl ⟨rfl, hq.mp ((lg_cmp_eq _ _).mp c_3)⟩, by rw [ht]; exact hP, hD⟩, hS.F ht⟩) hS.2.2 dX4_isEnough_65
  · have h9 : 10 = n := by
      rcases (show n ≤ 9 ∨ 10 = n by omega) with q | q
      · exact absurd (gp_le63 n (by omega)) c_1
      · exact q
    subst h9
    refine lv_iconst (v := 1) hx hb dX4_isEnough_13 (by decide) ?_
    exact W.zret (v := 1) hx hb hr rfl (fun t ht hW => ⟨⟨1, (), rfl, Or.inl ⟨rfl, gp_enough10 v⟩, by rw [ht]; exact hP, hD⟩, hS.F ht⟩) hS.2.2 dX4_isEnough_14
end
section
set_option maxRecDepth 100000
set_option maxHeartbeats 4000000 in
/-- the first loop of GroupedNumbersModel.read: j groups go on -/
theorem lo_M_count {p : Program} {l : Launch} {e : Env} {R : Room} {s : State} {m : MethodId} {args : Array Value} {below : List Frame} {meth : Method} {c : Code} {Q : State → Prop} {dC : Nat → ClassId} {dI : Nat → Nat → Nat} {cB : ClassId} {A : Nat → Prop} {cells slots : Nat} (hx : p.tables.exec = Jvm.exec) (hb : c.code = cX4_read) (hml : c.maxLocals = 9) (hown : s.vm.findClass RX4 = some m.cls) (hts : ∀ w ∈ lw_all, w.before args s = true) (hA : ∀ q : Nat, s.heap.size ≤ q → A q) (hK : va_K (dC, dI) vwCl [(cB, .byte)] s) (aY aM aN : Nat) (n k hw a c_ most : Nat) (v : Int64) (f : Nat → Int32) (hn : n ≤ 1000) (ha : a ≤ n) (hm : most ≤ 10) (hI : gp_Is f a n most c_) (H : Heap) (locs : List Loc) (hP : va_P (dC, dI) vwCl [(aY, .inr (4, [.ref aM, .ref aN, .int (nI n), .int (nI k), .long v])), (aM, .inl (cB, 1000, .inl f))] H)
    (kx : ∀ (ls : Array Slot), lv_has ls 9 [(4, .int (nI c_)), (3, .int (nI most)), (0, .ref aY), (1, .int (nI hw)), (2, .int (nI a))] → W p l e R s m args below meth c H locs cells slots Q (F0 m 74 ls [])) :
    ∀ (i j : Nat), j + i = most → j ≤ c_ → ∀ (ls : Array Slot), lv_has ls 9 [(4, .int (nI j)), (3, .int (nI most)), (0, .ref aY), (1, .int (nI hw)), (2, .int (nI a))] → W p l e R s m args below meth c H locs cells slots Q (F0 m 39 ls []) := by
  have hcm := hI.1
  intro i
  induction i with
  | zero =>
    intro j hj hjc ls hl
    refine lv_iload hx hb dX4_read_39 (lv_at hl 0 rfl) ?_
    refine lv_iload_n hx hb dX4_read_41 rfl (lv_at hl 1 rfl) ?_
    refine lv_icmp_ge (tgt := 74) hx hb dX4_read_42 (by decide) (fun c_1 => ?_) (fun c_1 => ?_)
    · obtain rfl : c_ = j := by have := gp_le (by omega) (by omega) c_1; omega
      exact kx ls hl
    · exact absurd (nI_le (by omega) (by omega)) c_1
  | succ i ih =>
    intro j hj hjc ls hl
    refine lv_iload hx hb dX4_read_39 (lv_at hl 0 rfl) ?_
    refine lv_iload_n hx hb dX4_read_41 rfl (lv_at hl 1 rfl) ?_
    refine lv_icmp_ge (tgt := 74) hx hb dX4_read_42 (by decide) (fun c_1 => ?_) (fun c_1 => ?_)
    · obtain rfl : c_ = j := by have := gp_le (by omega) (by omega) c_1; omega
      exact kx ls hl
    · refine lv_iload_n hx hb dX4_read_45 rfl (lv_at hl 4 rfl) ?_
      refine lv_iload hx hb dX4_read_46 (lv_at hl 0 rfl) ?_
      refine lv_iadd hx hb dX4_read_48 ?_
      refine lv_topi (fun z_2 ez_2 => ?_)
      rw [show z_2 = nI (a + j) from by rw [ez_2]; exact nI_add a j]
      refine lv_aload_n hx hb dX4_read_49 rfl (lv_at hl 2 rfl) ?_
      refine va_get (D := (dC, dI)) (ci := 4) (v := .int (nI n)) (C := RX4) (T := TX4) (N := 5) hx hb hts in_X4 hown hK hP 0 rfl rfl 2 (by decide) (hts _ q257) (fun _ h9 => h9) rfl dX4_read_50 ?_
      refine lv_icmp_ge (tgt := 74) hx hb dX4_read_53 (by decide) (fun c_3 => ?_) (fun c_3 => ?_)
      · have h2 : n ≤ a + j := gp_le (by omega) (by omega) c_3
        obtain rfl : c_ = j := by
          rcases Nat.lt_or_ge j c_ with q | q
          · have := (hI.2.1 j q).1; omega
          · omega
        exact kx ls hl
      · have h2 : a + j < n := gp_nle (by omega) (by omega) c_3
        refine lv_aload_n hx hb dX4_read_56 rfl (lv_at hl 2 rfl) ?_
        refine va_get (D := (dC, dI)) (ci := 4) (v := .ref aM) (C := RX4) (T := TX4) (N := 5) hx hb hts in_X4 hown hK hP 0 rfl rfl 0 (by decide) (hts _ q255) (fun _ h9 => h9) rfl dX4_read_57 ?_
        refine lv_iload_n hx hb dX4_read_60 rfl (lv_at hl 4 rfl) ?_
        refine lv_iload hx hb dX4_read_61 (lv_at hl 0 rfl) ?_
        refine lv_iadd hx hb dX4_read_63 ?_
        refine lv_topi (fun z_4 ez_4 => ?_)
        rw [show z_4 = nI (a + j) from by rw [ez_4]; exact nI_add a j]
        refine va_bald hx hb hK hP 1 0 rfl rfl (vp_in_nI (by omega) (by omega)) dX4_read_64 ?_
        refine lv_topi (fun z_5 ez_5 => ?_)
        rw [show z_5 = f (a + j) from by rw [ez_5]; rw [nI_clamp (by omega)]]
        refine lv_if_ge (tgt := 74) hx hb dX4_read_65 (by decide) (fun c_6 => ?_) (fun c_6 => ?_)
        · obtain rfl : c_ = j := by
            rcases Nat.lt_or_ge j c_ with q | q
            · exact absurd (hI.2.1 j q).2 (Int32.not_lt.mpr c_6)
            · omega
          exact kx ls hl
        · have h3 : j < c_ := by
            rcases Nat.lt_or_ge j c_ with q | q
            · exact q
            · have e : c_ = j := by omega
              subst e
              rcases hI.2.2 (by omega) with r | r
              · omega
              · exact absurd (Int32.not_lt.mp r) c_6
          refine lv_iinc (v := nI (j + 1)) (lv' := [(4, .int (nI (j + 1))), (3, .int (nI most)), (0, .ref aY), (1, .int (nI hw)), (2, .int (nI a))]) hx hb dX4_read_68 hl (k := 0) rfl (nI_1 j) (by decide) rfl (fun ls hl => ?_)
          refine lv_goto (tgt := 39) hx hb dX4_read_71 (by decide) ?_
          exact ih (j + 1) (by omega) h3 ls (lv_sub hl [0, 1, 2, 3, 4] rfl)
set_option maxHeartbeats 4000000 in
/-- the second loop of GroupedNumbersModel.read: d groups are left -/
theorem lo_M_horner {p : Program} {l : Launch} {e : Env} {R : Room} {s : State} {m : MethodId} {args : Array Value} {below : List Frame} {meth : Method} {c : Code} {Q : State → Prop} {dC : Nat → ClassId} {dI : Nat → Nat → Nat} {cB : ClassId} {A : Nat → Prop} {cells slots : Nat} (hx : p.tables.exec = Jvm.exec) (hb : c.code = cX4_read) (hml : c.maxLocals = 9) (hown : s.vm.findClass RX4 = some m.cls) (hts : ∀ w ∈ lw_all, w.before args s = true) (hA : ∀ q : Nat, s.heap.size ≤ q → A q) (hK : va_K (dC, dI) vwCl [(cB, .byte)] s) (aY aM aN : Nat) (n k hw a c_ : Nat) (v r : Int64) (f : Nat → Int32) (hn : a + c_ + 1 ≤ 1000) (H : Heap) (locs : List Loc) (hP : va_P (dC, dI) vwCl [(aY, .inr (4, [.ref aM, .ref aN, .int (nI n), .int (nI k), .long v])), (aM, .inl (cB, 1000, .inl f))] H)
    (kx : ∀ (ls : Array Slot) (ix : Int32), lv_has ls 9 [(8, .int ix), (6, .long r), (0, .ref aY), (1, .int (nI hw)), (2, .int (nI a)), (4, .int (nI (c_ + 1)))] → W p l e R s m args below meth c H locs cells slots Q (F0 m 238 ls [])) :
    ∀ (d : Nat) (w : Int64) (ix : Int32), d ≤ c_ + 1 → ix = nI d - 1 → gp_hor f a d w = r → ∀ (ls : Array Slot), lv_has ls 9 [(8, .int ix), (6, .long w), (0, .ref aY), (1, .int (nI hw)), (2, .int (nI a)), (4, .int (nI (c_ + 1)))] → W p l e R s m args below meth c H locs cells slots Q (F0 m 206 ls []) := by
  intro d
  induction d with
  | zero =>
    intro w ix hd hix hwr ls hl
    have hwr : w = r := hwr
    subst hwr
    refine lv_iload hx hb dX4_read_206 (lv_at hl 0 rfl) ?_
    refine lv_if_lt (tgt := 238) hx hb dX4_read_208 (by decide) (fun c_1 => ?_) (fun c_1 => ?_)
    · exact kx ls ix hl
    · exact absurd (by rw [hix]; decide) c_1
  | succ d ih =>
    intro w ix hd hix hwr ls hl
    have hix : nI d = ix := by rw [hix, nI_pred]
    subst hix
    refine lv_iload hx hb dX4_read_206 (lv_at hl 0 rfl) ?_
    refine lv_if_lt (tgt := 238) hx hb dX4_read_208 (by decide) (fun c_1 => ?_) (fun c_1 => ?_)
    · exact absurd c_1 (nI_pos (by omega))
    · refine lv_lload hx hb dX4_read_211 (lv_at hl 1 rfl) ?_
      refine lv_bipush (v := 7) hx hb dX4_read_213 (by decide) ?_
      refine lv_lshl (v := (w <<< (((7 : Int32)).toInt64 &&& 63))) hx hb dX4_read_215 rfl ?_
      refine lv_aload_n hx hb dX4_read_216 rfl (lv_at hl 2 rfl) ?_
      refine va_get (D := (dC, dI)) (ci := 4) (v := .ref aM) (C := RX4) (T := TX4) (N := 5) hx hb hts in_X4 hown hK hP 0 rfl rfl 0 (by decide) (hts _ q255) (fun _ h9 => h9) rfl dX4_read_217 ?_
      refine lv_iload_n hx hb dX4_read_220 rfl (lv_at hl 4 rfl) ?_
      refine lv_iload hx hb dX4_read_221 (lv_at hl 0 rfl) ?_
      refine lv_iadd hx hb dX4_read_223 ?_
      refine lv_topi (fun z_2 ez_2 => ?_)
      rw [show z_2 = nI (a + d) from by rw [ez_2]; exact nI_add a d]
      refine va_bald hx hb hK hP 1 0 rfl rfl (vp_in_nI (by omega) (by omega)) dX4_read_224 ?_
      refine lv_topi (fun z_3 ez_3 => ?_)
      rw [show z_3 = f (a + d) from by rw [ez_3]; rw [nI_clamp (by omega)]]
      refine lv_bipush (v := 127) hx hb dX4_read_225 (by decide) ?_
      refine lv_iand hx hb dX4_read_227 ?_
      refine lv_i2l (v := (((f (a + d)) &&& 127)).toInt64) hx hb dX4_read_228 rfl ?_
      refine lv_lor hx hb dX4_read_229 ?_
      refine lv_lstore (lv' := [(6, .long ((w <<< (((7 : Int32)).toInt64 &&& 63)) ||| ((((f (a + d)) &&& 127)).toInt64))), (8, .int (nI d)), (0, .ref aY), (1, .int (nI hw)), (2, .int (nI a)), (4, .int (nI (c_ + 1)))]) hx hb dX4_read_230 hl (by decide) rfl (fun ls hl => ?_)
      refine lv_iinc (v := nI d - 1) (lv' := [(8, .int (nI d - 1)), (6, .long ((w <<< (((7 : Int32)).toInt64 &&& 63)) ||| ((((f (a + d)) &&& 127)).toInt64))), (0, .ref aY), (1, .int (nI hw)), (2, .int (nI a)), (4, .int (nI (c_ + 1)))]) hx hb dX4_read_232 hl (k := 1) rfl (by rw [Int32.sub_eq_add_neg]; rfl) (by decide) rfl (fun ls hl => ?_)
      refine lv_goto (tgt := 206) hx hb dX4_read_235 (by decide) ?_
      exact ih _ _ (by omega) rfl hwr ls (lv_sub hl [0, 1, 2, 3, 4, 5] rfl)
set_option maxHeartbeats 4000000 in
/-- GroupedNumbersModel.read, refused -/
theorem m_M_readN (l : Launch) (dC : Nat → ClassId) (dI : Nat → Nat → Nat) (cB : ClassId) (aY aM aN : Nat) (n k : Nat) (v : Int64) (f : Nat → Int32) (x y : Int32) (sz : Nat) (hx0 : (x < 0 ∨ 2 < x) ∨ (y < 0 ∨ nI n < y)) : Met l yX4_read (ws_ yX4_read cX4_read 9 (some .int)) ({ frames := 0, cells := 0, slots := 0, locals := 0 }) (gC dC dI [.ref aY, .int x, .int y] [(aY, .inr (4, [.ref aM, .ref aN, .int (nI n), .int (nI k), .long v])), (aM, .inl (cB, 1000, .inl f))] [(cB, .byte)] sz) (va_Qi (fun (r : Int32) (_ : Unit) => r = -2) (fun (_ : Unit) t => gB dC dI (va_A [(aY, .inr (4, [.ref aM, .ref aN, .int (nI n), .int (nI k), .long v])), (aM, .inl (cB, 1000, .inl f))] sz) [(aY, .inr (4, [.ref aM, .ref aN, .int (nI n), .int (nI k), .long v])), (aM, .inl (cB, 1000, .inl f))] t) (va_A [(aY, .inr (4, [.ref aM, .ref aN, .int (nI n), .int (nI k), .long v])), (aM, .inl (cB, 1000, .inl f))] sz)) 0 0 (va_A [(aY, .inr (4, [.ref aM, .ref aN, .int (nI n), .int (nI k), .long v])), (aM, .inl (cB, 1000, .inl f))] sz) := by
  refine Met.ofW (cc := cX4_read) (maxL := 9) (ret := (some .int)) (by decide) rfl ?_
  intro p e s m args below meth c s₁ B hml hv
  obtain ⟨rfl, hsz, hP, hK, hD0⟩ := hv
  have hx := B.exec
  have hb := B.bytes
  have hr := B.returns
  have hts0 := atoms_spec (ws := (ws_ yX4_read cX4_read 9 (some .int))) B.pre
  have hts : ∀ w ∈ lw_all, w.before _ s = true := fun w h => hts0 w (List.mem_cons_of_mem _ h)
  have hown : s.vm.findClass RX4 = some m.cls := findClass_of_methodNamed B.named
  have hlocks := B.notSynchronized
  subst hsz
  have hD := hD0.self (sz := s.heap.size)
  generalize hAe : va_A [(aY, .inr (4, [.ref aM, .ref aN, .int (nI n), .int (nI k), .long v])), (aM, .inl (cB, 1000, .inl f))] s.heap.size = A at hD ⊢
  have hA : ∀ q : Nat, s.heap.size ≤ q → A q := fun q h => by rw [← hAe]; exact Or.inr h
  have hS : va_S A s.heap s.heap [] := va_S.rf
  have hP : va_P (dC, dI) vwCl [(aY, .inr (4, [.ref aM, .ref aN, .int (nI n), .int (nI k), .long v])), (aM, .inl (cB, 1000, .inl f))] s.heap := hP
  have hl := lv_entry ([.ref aY, .int x, .int y]) (n := 9) (Nat.le_of_ble_eq_true rfl)
  rw [lg_entry_eq]
  generalize (lg_sl ([.ref aY, .int x, .int y]) ++ List.replicate (9 - (lg_sl ([.ref aY, .int x, .int y])).length) Slot.unset).toArray = ls at hl ⊢
  have hl : lv_has ls 9 [(0, .ref aY), (1, .int x), (2, .int y)] := hl
  refine lv_iload_n hx hb dX4_read_0 rfl (lv_at hl 1 rfl) ?_
  refine lv_if_lt (tgt := 21) hx hb dX4_read_1 (by decide) (fun c_1 => ?_) (fun c_1 => ?_)
  · refine lv_bipush (v := (-2)) hx hb dX4_read_21 (by decide) ?_
    exact W.iret (v := (-2)) hx hb hr (fun t ht hW => ⟨⟨(-2), (), rfl, rfl, by rw [ht]; exact hP, hD⟩, hS.F ht⟩) hS.2.2 dX4_read_23
  · refine lv_iload_n hx hb dX4_read_4 rfl (lv_at hl 1 rfl) ?_
    refine lv_iconst (v := 2) hx hb dX4_read_5 (by decide) ?_
    refine lv_icmp_gt (tgt := 21) hx hb dX4_read_6 (by decide) (fun c_2 => ?_) (fun c_2 => ?_)
    · refine lv_bipush (v := (-2)) hx hb dX4_read_21 (by decide) ?_
      exact W.iret (v := (-2)) hx hb hr (fun t ht hW => ⟨⟨(-2), (), rfl, rfl, by rw [ht]; exact hP, hD⟩, hS.F ht⟩) hS.2.2 dX4_read_23
    · refine lv_iload_n hx hb dX4_read_9 rfl (lv_at hl 2 rfl) ?_
      refine lv_if_lt (tgt := 21) hx hb dX4_read_10 (by decide) (fun c_3 => ?_) (fun c_3 => ?_)
      · refine lv_bipush (v := (-2)) hx hb dX4_read_21 (by decide) ?_
        exact W.iret (v := (-2)) hx hb hr (fun t ht hW => ⟨⟨(-2), (), rfl, rfl, by rw [ht]; exact hP, hD⟩, hS.F ht⟩) hS.2.2 dX4_read_23
      · refine lv_iload_n hx hb dX4_read_13 rfl (lv_at hl 2 rfl) ?_
        refine lv_aload_n hx hb dX4_read_14 rfl (lv_at hl 0 rfl) ?_
        refine va_get (D := (dC, dI)) (ci := 4) (v := .int (nI n)) (C := RX4) (T := TX4) (N := 5) hx hb hts in_X4 hown hK hP 0 rfl rfl 2 (by decide) (hts _ q257) (fun _ h9 => h9) rfl dX4_read_15 ?_
        refine lv_icmp_le (tgt := 24) hx hb dX4_read_18 (by decide) (fun c_4 => ?_) (fun c_4 => ?_)
        · exact absurd hx0 (fun z => z.elim (fun z => z.elim c_1 c_2) (fun z => z.elim c_3 (Int32.not_lt.mpr c_4)))
        · refine lv_bipush (v := (-2)) hx hb dX4_read_21 (by decide) ?_
          exact W.iret (v := (-2)) hx hb hr (fun t ht hW => ⟨⟨(-2), (), rfl, rfl, by rw [ht]; exact hP, hD⟩, hS.F ht⟩) hS.2.2 dX4_read_23
set_option maxHeartbeats 4000000 in
/-- GroupedNumbersModel.read(how, a) -/
theorem m_M_read (l : Launch) (dC : Nat → ClassId) (dI : Nat → Nat → Nat) (cB : ClassId) (aY aM aN : Nat) (n k : Nat) (v : Int64) (f : Nat → Int32) (hw a c_ most : Nat) (sz : Nat) (hw2 : hw ≤ 2) (ha : a ≤ n) (hn : n ≤ 1000) (hm : most = if hw = 2 then 9 + 1 else 4 + 1) (hI : gp_Is f a n most c_) : Met l yX4_read (ws_ yX4_read cX4_read 9 (some .int)) ({ frames := 0, cells := 0, slots := 0, locals := 0 }) (gC dC dI [.ref aY, .int (nI hw), .int (nI a)] [(aY, .inr (4, [.ref aM, .ref aN, .int (nI n), .int (nI k), .long v])), (aM, .inl (cB, 1000, .inl f))] [(cB, .byte)] sz) (va_Qi (fun (r : Int32) (u : Int64) => (gp_ok hw most n a c_ f → r = nI (c_ + 1) ∧ u = gp_val hw f a c_) ∧ (¬ gp_ok hw most n a c_ f → r = -1 ∧ u = v)) (fun (u : Int64) t => gB dC dI (va_A [(aY, .inr (4, [.ref aM, .ref aN, .int (nI n), .int (nI k), .long v])), (aM, .inl (cB, 1000, .inl f))] sz) [(aY, .inr (4, [.ref aM, .ref aN, .int (nI n), .int (nI k), .long u])), (aM, .inl (cB, 1000, .inl f))] t) (va_A [(aY, .inr (4, [.ref aM, .ref aN, .int (nI n), .int (nI k), .long v])), (aM, .inl (cB, 1000, .inl f))] sz)) 0 0 (va_A [(aY, .inr (4, [.ref aM, .ref aN, .int (nI n), .int (nI k), .long v])), (aM, .inl (cB, 1000, .inl f))] sz) := by
  refine Met.ofW (cc := cX4_read) (maxL := 9) (ret := (some .int)) (by decide) rfl ?_
  intro p e s m args below meth c s₁ B hml hv
  obtain ⟨rfl, hsz, hP, hK, hD0⟩ := hv
  have hx := B.exec
  have hb := B.bytes
  have hr := B.returns
  have hts0 := atoms_spec (ws := (ws_ yX4_read cX4_read 9 (some .int))) B.pre
  have hts : ∀ w ∈ lw_all, w.before _ s = true := fun w h => hts0 w (List.mem_cons_of_mem _ h)
  have hown : s.vm.findClass RX4 = some m.cls := findClass_of_methodNamed B.named
  have hlocks := B.notSynchronized
  subst hsz
  have hD := hD0.self (sz := s.heap.size)
  generalize hAe : va_A [(aY, .inr (4, [.ref aM, .ref aN, .int (nI n), .int (nI k), .long v])), (aM, .inl (cB, 1000, .inl f))] s.heap.size = A at hD ⊢
  have hA : ∀ q : Nat, s.heap.size ≤ q → A q := fun q h => by rw [← hAe]; exact Or.inr h
  have hS : va_S A s.heap s.heap [] := va_S.rf
  have hP : va_P (dC, dI) vwCl [(aY, .inr (4, [.ref aM, .ref aN, .int (nI n), .int (nI k), .long v])), (aM, .inl (cB, 1000, .inl f))] s.heap := hP
  have hl := lv_entry ([.ref aY, .int (nI hw), .int (nI a)]) (n := 9) (Nat.le_of_ble_eq_true rfl)
  rw [lg_entry_eq]
  generalize (lg_sl ([.ref aY, .int (nI hw), .int (nI a)]) ++ List.replicate (9 - (lg_sl ([.ref aY, .int (nI hw), .int (nI a)])).length) Slot.unset).toArray = ls at hl ⊢
  have hl : lv_has ls 9 [(0, .ref aY), (1, .int (nI hw)), (2, .int (nI a))] := hl
  rcases (show hw = 0 ∨ hw = 1 ∨ hw = 2 by omega) with rfl | rfl | rfl
  · have hm : most = 4 + 1 := hm
    subst hm
    refine lv_iload_n hx hb dX4_read_0 rfl (lv_at hl 1 rfl) ?_
    refine lv_if_lt (tgt := 21) hx hb dX4_read_1 (by decide) (fun c_1 => ?_) (fun c_1 => ?_)
    · exact absurd c_1 (by decide)
    · refine lv_iload_n hx hb dX4_read_4 rfl (lv_at hl 1 rfl) ?_
      refine lv_iconst (v := 2) hx hb dX4_read_5 (by decide) ?_
      refine lv_icmp_gt (tgt := 21) hx hb dX4_read_6 (by decide) (fun c_2 => ?_) (fun c_2 => ?_)
      · exact absurd c_2 (by decide)
      · refine lv_iload_n hx hb dX4_read_9 rfl (lv_at hl 2 rfl) ?_
        refine lv_if_lt (tgt := 21) hx hb dX4_read_10 (by decide) (fun c_3 => ?_) (fun c_3 => ?_)
        · exact absurd c_3 (nI_pos (by omega))
        · refine lv_iload_n hx hb dX4_read_13 rfl (lv_at hl 2 rfl) ?_
          refine lv_aload_n hx hb dX4_read_14 rfl (lv_at hl 0 rfl) ?_
          refine va_get (D := (dC, dI)) (ci := 4) (v := .int (nI n)) (C := RX4) (T := TX4) (N := 5) hx hb hts in_X4 hown hK hP 0 rfl rfl 2 (by decide) (hts _ q257) (fun _ h9 => h9) rfl dX4_read_15 ?_
          refine lv_icmp_le (tgt := 24) hx hb dX4_read_18 (by decide) (fun c_4 => ?_) (fun c_4 => ?_)
          · refine lv_iload_n hx hb dX4_read_24 rfl (lv_at hl 1 rfl) ?_
            refine lv_iconst (v := 2) hx hb dX4_read_25 (by decide) ?_
            refine lv_icmp_ne (tgt := 34) hx hb dX4_read_26 (by decide) (fun c_5 => ?_) (fun c_5 => ?_)
            · refine lv_iconst (v := 5) hx hb dX4_read_34 (by decide) ?_
              refine lv_topi (fun z_6 ez_6 => ?_)
              rw [show z_6 = nI (4 + 1) from by rw [ez_6]; rfl]
              refine lv_istore_n (lv' := [(3, .int (nI (4 + 1))), (0, .ref aY), (1, .int (nI 0)), (2, .int (nI a))]) hx hb dX4_read_35 rfl hl (by decide) rfl (fun ls hl => ?_)
              refine lv_iconst (v := 0) hx hb dX4_read_36 (by decide) ?_
              refine lv_topi (fun z_7 ez_7 => ?_)
              rw [show z_7 = nI 0 from by rw [ez_7]; rfl]
              refine lv_istore (lv' := [(4, .int (nI 0)), (3, .int (nI (4 + 1))), (0, .ref aY), (1, .int (nI 0)), (2, .int (nI a))]) hx hb dX4_read_37 hl (by decide) rfl (fun ls hl => ?_)
              refine lo_M_count (cB := cB) (A := A) hx hb hml hown hts hA hK aY aM aN n k 0 a c_ (4 + 1) v f hn ha (by omega) hI _ _ hP (fun ls hl => ?_) (4 + 1) 0 (by omega) (Nat.zero_le _) ls (lv_sub hl [0, 1, 2, 3, 4] rfl)
              have hcm := hI.1
              refine lv_iload hx hb dX4_read_74 (lv_at hl 0 rfl) ?_
              refine lv_iload_n hx hb dX4_read_76 rfl (lv_at hl 1 rfl) ?_
              refine lv_icmp_eq (tgt := 91) hx hb dX4_read_77 (by decide) (fun c_8 => ?_) (fun c_8 => ?_)
              · have hno : ¬ gp_ok 0 (4 + 1) n a c_ f := fun z => by have := (nI_eq (by omega) (by omega)).mp c_8; have := z.1; omega
                refine lv_iconst (v := (-1)) hx hb dX4_read_91 (by decide) ?_
                exact W.iret (v := (-1)) hx hb hr (fun t ht hW => ⟨⟨(-1), v, rfl, ⟨fun z => absurd z hno, fun _ => ⟨rfl, rfl⟩⟩, by rw [ht]; exact hP, hD⟩, hS.F ht⟩) hS.2.2 dX4_read_92
              · have hlt : c_ < 4 + 1 := by
                  rcases Nat.lt_or_ge c_ (4 + 1) with q | q
                  · exact q
                  · exact absurd (by rw [show c_ = 4 + 1 by omega]) c_8
                refine lv_iload_n hx hb dX4_read_80 rfl (lv_at hl 4 rfl) ?_
                refine lv_iload hx hb dX4_read_81 (lv_at hl 0 rfl) ?_
                refine lv_iadd hx hb dX4_read_83 ?_
                refine lv_topi (fun z_9 ez_9 => ?_)
                rw [show z_9 = nI (a + c_) from by rw [ez_9]; exact nI_add a c_]
                refine lv_aload_n hx hb dX4_read_84 rfl (lv_at hl 2 rfl) ?_
                refine va_get (D := (dC, dI)) (ci := 4) (v := .int (nI n)) (C := RX4) (T := TX4) (N := 5) hx hb hts in_X4 hown hK hP 0 rfl rfl 2 (by decide) (hts _ q257) (fun _ h9 => h9) rfl dX4_read_85 ?_
                refine lv_icmp_lt (tgt := 93) hx hb dX4_read_88 (by decide) (fun c_10 => ?_) (fun c_10 => ?_)
                · have han : a + c_ < n := (nI_ltI (by omega) (by omega)).mp c_10
                  refine lv_iinc (v := nI (c_ + 1)) (lv' := [(4, .int (nI (c_ + 1))), (3, .int (nI (4 + 1))), (0, .ref aY), (1, .int (nI 0)), (2, .int (nI a))]) hx hb dX4_read_93 hl (k := 0) rfl (nI_1 c_) (by decide) rfl (fun ls hl => ?_)
                  refine lv_aload_n hx hb dX4_read_96 rfl (lv_at hl 2 rfl) ?_
                  refine va_get (D := (dC, dI)) (ci := 4) (v := .ref aM) (C := RX4) (T := TX4) (N := 5) hx hb hts in_X4 hown hK hP 0 rfl rfl 0 (by decide) (hts _ q255) (fun _ h9 => h9) rfl dX4_read_97 ?_
                  refine lv_iload_n hx hb dX4_read_100 rfl (lv_at hl 4 rfl) ?_
                  refine lv_iload hx hb dX4_read_101 (lv_at hl 0 rfl) ?_
                  refine lv_iadd hx hb dX4_read_103 ?_
                  refine lv_topi (fun z_11 ez_11 => ?_)
                  rw [show z_11 = nI (a + c_ + 1) from by rw [ez_11]; exact nI_add a (c_ + 1)]
                  refine lv_iconst (v := 1) hx hb dX4_read_104 (by decide) ?_
                  refine lv_isub hx hb dX4_read_105 ?_
                  refine lv_topi (fun z_12 ez_12 => ?_)
                  rw [show z_12 = nI (a + c_) from by rw [ez_12]; exact nI_pred (a + c_)]
                  refine va_bald hx hb hK hP 1 0 rfl rfl (vp_in_nI (by omega) (by omega)) dX4_read_106 ?_
                  refine lv_topi (fun z_13 ez_13 => ?_)
                  rw [show z_13 = f (a + c_) from by rw [ez_13]; rw [nI_clamp (by omega)]]
                  refine lv_istore (lv' := [(5, .int (f (a + c_))), (4, .int (nI (c_ + 1))), (3, .int (nI (4 + 1))), (0, .ref aY), (1, .int (nI 0)), (2, .int (nI a))]) hx hb dX4_read_107 hl (by decide) rfl (fun ls hl => ?_)
                  have tl : gp_ok 0 (4 + 1) n a c_ f → W p l e (headSpec (ws_ yX4_read cX4_read 9 (some .int)) ({ frames := 0, cells := 0, slots := 0, locals := 0 })).room s m ([.ref aY, .int (nI 0), .int (nI a)] : List Value).toArray below meth c s.heap [] 0 0 (MQ below (va_Qi (fun (r : Int32) (u : Int64) => (gp_ok 0 (4 + 1) n a c_ f → r = nI (c_ + 1) ∧ u = gp_val 0 f a c_) ∧ (¬ gp_ok 0 (4 + 1) n a c_ f → r = -1 ∧ u = v)) (fun (u : Int64) t => gB dC dI A [(aY, .inr (4, [.ref aM, .ref aN, .int (nI n), .int (nI k), .long u])), (aM, .inl (cB, 1000, .inl f))] t) A) ([.ref aY, .int (nI 0), .int (nI a)] : List Value).toArray s 0 0 A) (F0 m 180 ls []) := by
                    intro hok
                    refine lv_iload_n hx hb dX4_read_180 rfl (lv_at hl 4 rfl) ?_
                    refine lv_if_le (tgt := 197) hx hb dX4_read_181 (by decide) (fun c_14 => ?_) (fun c_14 => ?_)
                    · refine lv_lconst (v := 0) hx hb dX4_read_197 rfl ?_
                      refine lv_topl (fun z_15 ez_15 => ?_)
                      rw [show z_15 = gp_sg 0 f a c_ from by rw [ez_15]; exact gp_sg0.symm]
                      refine lv_lstore (lv' := [(6, .long (gp_sg 0 f a c_)), (5, .int (f (a + c_))), (4, .int (nI (c_ + 1))), (3, .int (nI (4 + 1))), (0, .ref aY), (1, .int (nI 0)), (2, .int (nI a))]) hx hb dX4_read_198 hl (by decide) rfl (fun ls hl => ?_)
                      refine lv_iload hx hb dX4_read_200 (lv_at hl 2 rfl) ?_
                      refine lv_iconst (v := 1) hx hb dX4_read_202 (by decide) ?_
                      refine lv_isub hx hb dX4_read_203 ?_
                      refine lv_istore (lv' := [(8, .int ((nI (c_ + 1)) - 1)), (6, .long (gp_sg 0 f a c_)), (5, .int (f (a + c_))), (4, .int (nI (c_ + 1))), (3, .int (nI (4 + 1))), (0, .ref aY), (1, .int (nI 0)), (2, .int (nI a))]) hx hb dX4_read_204 hl (by decide) rfl (fun ls hl => ?_)
                      refine lo_M_horner (cB := cB) (A := A) hx hb hml hown hts hA hK aY aM aN n k 0 a c_ v (gp_raw 0 f a c_) f (by omega) _ _ hP (fun ls ix hl => ?_) (c_ + 1) _ _ (Nat.le_refl _) rfl rfl ls (lv_sub hl [0, 1, 5, 6, 7, 3] rfl)
                      refine lv_aload_n hx hb dX4_read_238 rfl (lv_at hl 2 rfl) ?_
                      refine lv_iload_n hx hb dX4_read_239 rfl (lv_at hl 3 rfl) ?_
                      refine lv_iconst (v := 1) hx hb dX4_read_240 (by decide) ?_
                      refine lv_icmp_ne (tgt := 251) hx hb dX4_read_241 (by decide) (fun c_16 => ?_) (fun c_16 => ?_)
                      · refine lv_lload hx hb dX4_read_251 (lv_at hl 1 rfl) ?_
                        refine lv_topl (fun z_17 ez_17 => ?_)
                        rw [show z_17 = gp_val 0 f a c_ from by rw [ez_17]; rfl]
                        refine va_put (D := (dC, dI)) (ci := 4) (v := .long (gp_val 0 f a c_)) (ty := .long) (C := RX4) (T := TX4) (N := 5) hx hb hts in_X4 tyX4 tyX4_ok nmX4 hown hK hP hD hS 0 rfl rfl 4 (by decide) (hts _ q259) (fun _ h9 => h9) rfl (by decide +kernel) rfl rfl (Nat.le_of_ble_eq_true rfl) dX4_read_253 (fun H locs hP hD hS => ?_)
                        have hP : va_P (dC, dI) vwCl [(aY, .inr (4, [.ref aM, .ref aN, .int (nI n), .int (nI k), .long (gp_val 0 f a c_)])), (aM, .inl (cB, 1000, .inl f))] H := hP
                        have hD : va_D A [(aY, .inr (4, [.ref aM, .ref aN, .int (nI n), .int (nI k), .long (gp_val 0 f a c_)])), (aM, .inl (cB, 1000, .inl f))] := hD
                        refine lv_iload hx hb dX4_read_256 (lv_at hl 5 rfl) ?_
                        exact W.iret (v := nI (c_ + 1)) hx hb hr (fun t ht hW => ⟨⟨nI (c_ + 1), (gp_val 0 f a c_), rfl, ⟨fun _ => ⟨rfl, rfl⟩, fun z => absurd hok z⟩, by rw [ht]; exact hP, hD⟩, hS.F ht⟩) hS.2.2 dX4_read_258
                      · exact absurd c_16 (by decide)
                    · exact absurd (by decide) c_14
                  rcases Nat.lt_or_ge (c_ + 1) (4 + 1) with hl1 | hl1
                  · have hne : ¬ nI (c_ + 1) = nI (4 + 1) := fun z => by have := (nI_eq (by omega) (by omega)).mp z; omega
                    refine lv_iload hx hb dX4_read_109 (lv_at hl 1 rfl) ?_
                    refine lv_iload_n hx hb dX4_read_111 rfl (lv_at hl 2 rfl) ?_
                    refine lv_icmp_ne (tgt := 128) hx hb dX4_read_112 (by decide) (fun c_14 => ?_) (fun c_14 => ?_)
                    · refine lv_iload hx hb dX4_read_128 (lv_at hl 1 rfl) ?_
                      refine lv_iload_n hx hb dX4_read_130 rfl (lv_at hl 2 rfl) ?_
                      refine lv_icmp_ne (tgt := 155) hx hb dX4_read_131 (by decide) (fun c_15 => ?_) (fun c_15 => ?_)
                      · refine lv_iload hx hb dX4_read_155 (lv_at hl 1 rfl) ?_
                        refine lv_iload_n hx hb dX4_read_157 rfl (lv_at hl 2 rfl) ?_
                        refine lv_icmp_ne (tgt := 180) hx hb dX4_read_158 (by decide) (fun c_16 => ?_) (fun c_16 => ?_)
                        · exact tl ⟨hlt, han, fun z => absurd z.1 (by omega)⟩
                        · exact absurd c_16 hne
                      · exact absurd c_15 hne
                    · exact absurd c_14 hne
                  · have heq : 4 = c_ := by omega
                    subst heq
                    refine lv_iload hx hb dX4_read_109 (lv_at hl 1 rfl) ?_
                    refine lv_iload_n hx hb dX4_read_111 rfl (lv_at hl 2 rfl) ?_
                    refine lv_icmp_ne (tgt := 128) hx hb dX4_read_112 (by decide) (fun c_14 => ?_) (fun c_14 => ?_)
                    · exact absurd rfl c_14
                    · refine lv_iload_n hx hb dX4_read_115 rfl (lv_at hl 4 rfl) ?_
                      refine lv_if_ne (tgt := 128) hx hb dX4_read_116 (by decide) (fun c_15 => ?_) (fun c_15 => ?_)
                      · exact absurd rfl c_15
                      · refine lv_iload hx hb dX4_read_119 (lv_at hl 0 rfl) ?_
                        refine lv_bipush (v := 15) hx hb dX4_read_121 (by decide) ?_
                        refine lv_icmp_le (tgt := 128) hx hb dX4_read_123 (by decide) (fun c_16 => ?_) (fun c_16 => ?_)
                        · have hnb : ¬ gp_bad 0 (f (a + 4)) := fun z => z.elim (fun z => Int32.not_lt.mpr c_16 z.2) (fun z => z.elim (fun z => absurd z.1 (by decide)) (fun z => absurd z.1 (by decide)))
                          refine lv_iload hx hb dX4_read_128 (lv_at hl 1 rfl) ?_
                          refine lv_iload_n hx hb dX4_read_130 rfl (lv_at hl 2 rfl) ?_
                          refine lv_icmp_ne (tgt := 155) hx hb dX4_read_131 (by decide) (fun c_17 => ?_) (fun c_17 => ?_)
                          · exact absurd rfl c_17
                          · refine lv_iload_n hx hb dX4_read_134 rfl (lv_at hl 4 rfl) ?_
                            refine lv_iconst (v := 1) hx hb dX4_read_135 (by decide) ?_
                            refine lv_icmp_ne (tgt := 155) hx hb dX4_read_136 (by decide) (fun c_18 => ?_) (fun c_18 => ?_)
                            · refine lv_iload hx hb dX4_read_155 (lv_at hl 1 rfl) ?_
                              refine lv_iload_n hx hb dX4_read_157 rfl (lv_at hl 2 rfl) ?_
                              refine lv_icmp_ne (tgt := 180) hx hb dX4_read_158 (by decide) (fun c_19 => ?_) (fun c_19 => ?_)
                              · exact absurd rfl c_19
                              · refine lv_iload_n hx hb dX4_read_161 rfl (lv_at hl 4 rfl) ?_
                                refine lv_iconst (v := 2) hx hb dX4_read_162 (by decide) ?_
                                refine lv_icmp_ne (tgt := 180) hx hb dX4_read_163 (by decide) (fun c_20 => ?_) (fun c_20 => ?_)
                                · exact tl ⟨hlt, han, fun z => hnb z.2⟩
                                · exact absurd c_20 (by decide)
                            · exact absurd c_18 (by decide)
                        · have hno : ¬ gp_ok 0 (4 + 1) n a 4 f := fun z => z.2.2 ⟨rfl, Or.inl ⟨rfl, Int32.not_le.mp c_16⟩⟩
                          refine lv_iconst (v := (-1)) hx hb dX4_read_126 (by decide) ?_
                          exact W.iret (v := (-1)) hx hb hr (fun t ht hW => ⟨⟨(-1), v, rfl, ⟨fun z => absurd z hno, fun _ => ⟨rfl, rfl⟩⟩, by rw [ht]; exact hP, hD⟩, hS.F ht⟩) hS.2.2 dX4_read_127
                · have hno : ¬ gp_ok 0 (4 + 1) n a c_ f := fun z => c_10 (nI_lt z.2.1 (by omega))
                  refine lv_iconst (v := (-1)) hx hb dX4_read_91 (by decide) ?_
                  exact W.iret (v := (-1)) hx hb hr (fun t ht hW => ⟨⟨(-1), v, rfl, ⟨fun z => absurd z hno, fun _ => ⟨rfl, rfl⟩⟩, by rw [ht]; exact hP, hD⟩, hS.F ht⟩) hS.2.2 dX4_read_92
            · exact absurd c_5 (by decide)
          · exact absurd (nI_le ha (by omega)) c_4
  · have hm : most = 4 + 1 := hm
    subst hm
    refine lv_iload_n hx hb dX4_read_0 rfl (lv_at hl 1 rfl) ?_
    refine lv_if_lt (tgt := 21) hx hb dX4_read_1 (by decide) (fun c_1 => ?_) (fun c_1 => ?_)
    · exact absurd c_1 (by decide)
    · refine lv_iload_n hx hb dX4_read_4 rfl (lv_at hl 1 rfl) ?_
      refine lv_iconst (v := 2) hx hb dX4_read_5 (by decide) ?_
      refine lv_icmp_gt (tgt := 21) hx hb dX4_read_6 (by decide) (fun c_2 => ?_) (fun c_2 => ?_)
      · exact absurd c_2 (by decide)
      · refine lv_iload_n hx hb dX4_read_9 rfl (lv_at hl 2 rfl) ?_
        refine lv_if_lt (tgt := 21) hx hb dX4_read_10 (by decide) (fun c_3 => ?_) (fun c_3 => ?_)
        · exact absurd c_3 (nI_pos (by omega))
        · refine lv_iload_n hx hb dX4_read_13 rfl (lv_at hl 2 rfl) ?_
          refine lv_aload_n hx hb dX4_read_14 rfl (lv_at hl 0 rfl) ?_
          refine va_get (D := (dC, dI)) (ci := 4) (v := .int (nI n)) (C := RX4) (T := TX4) (N := 5) hx hb hts in_X4 hown hK hP 0 rfl rfl 2 (by decide) (hts _ q257) (fun _ h9 => h9) rfl dX4_read_15 ?_
          refine lv_icmp_le (tgt := 24) hx hb dX4_read_18 (by decide) (fun c_4 => ?_) (fun c_4 => ?_)
          · refine lv_iload_n hx hb dX4_read_24 rfl (lv_at hl 1 rfl) ?_
            refine lv_iconst (v := 2) hx hb dX4_read_25 (by decide) ?_
            refine lv_icmp_ne (tgt := 34) hx hb dX4_read_26 (by decide) (fun c_5 => ?_) (fun c_5 => ?_)
            · refine lv_iconst (v := 5) hx hb dX4_read_34 (by decide) ?_
              refine lv_topi (fun z_6 ez_6 => ?_)
              rw [show z_6 = nI (4 + 1) from by rw [ez_6]; rfl]
              refine lv_istore_n (lv' := [(3, .int (nI (4 + 1))), (0, .ref aY), (1, .int (nI 1)), (2, .int (nI a))]) hx hb dX4_read_35 rfl hl (by decide) rfl (fun ls hl => ?_)
              refine lv_iconst (v := 0) hx hb dX4_read_36 (by decide) ?_
              refine lv_topi (fun z_7 ez_7 => ?_)
              rw [show z_7 = nI 0 from by rw [ez_7]; rfl]
              refine lv_istore (lv' := [(4, .int (nI 0)), (3, .int (nI (4 + 1))), (0, .ref aY), (1, .int (nI 1)), (2, .int (nI a))]) hx hb dX4_read_37 hl (by decide) rfl (fun ls hl => ?_)
              refine lo_M_count (cB := cB) (A := A) hx hb hml hown hts hA hK aY aM aN n k 1 a c_ (4 + 1) v f hn ha (by omega) hI _ _ hP (fun ls hl => ?_) (4 + 1) 0 (by omega) (Nat.zero_le _) ls (lv_sub hl [0, 1, 2, 3, 4] rfl)
              have hcm := hI.1
              refine lv_iload hx hb dX4_read_74 (lv_at hl 0 rfl) ?_
              refine lv_iload_n hx hb dX4_read_76 rfl (lv_at hl 1 rfl) ?_
              refine lv_icmp_eq (tgt := 91) hx hb dX4_read_77 (by decide) (fun c_8 => ?_) (fun c_8 => ?_)
              · have hno : ¬ gp_ok 1 (4 + 1) n a c_ f := fun z => by have := (nI_eq (by omega) (by omega)).mp c_8; have := z.1; omega
                refine lv_iconst (v := (-1)) hx hb dX4_read_91 (by decide) ?_
                exact W.iret (v := (-1)) hx hb hr (fun t ht hW => ⟨⟨(-1), v, rfl, ⟨fun z => absurd z hno, fun _ => ⟨rfl, rfl⟩⟩, by rw [ht]; exact hP, hD⟩, hS.F ht⟩) hS.2.2 dX4_read_92
              · have hlt : c_ < 4 + 1 := by
                  rcases Nat.lt_or_ge c_ (4 + 1) with q | q
                  · exact q
                  · exact absurd (by rw [show c_ = 4 + 1 by omega]) c_8
                refine lv_iload_n hx hb dX4_read_80 rfl (lv_at hl 4 rfl) ?_
                refine lv_iload hx hb dX4_read_81 (lv_at hl 0 rfl) ?_
                refine lv_iadd hx hb dX4_read_83 ?_
                refine lv_topi (fun z_9 ez_9 => ?_)
                rw [show z_9 = nI (a + c_) from by rw [ez_9]; exact nI_add a c_]
                refine lv_aload_n hx hb dX4_read_84 rfl (lv_at hl 2 rfl) ?_
                refine va_get (D := (dC, dI)) (ci := 4) (v := .int (nI n)) (C := RX4) (T := TX4) (N := 5) hx hb hts in_X4 hown hK hP 0 rfl rfl 2 (by decide) (hts _ q257) (fun _ h9 => h9) rfl dX4_read_85 ?_
                refine lv_icmp_lt (tgt := 93) hx hb dX4_read_88 (by decide) (fun c_10 => ?_) (fun c_10 => ?_)
                · have han : a + c_ < n := (nI_ltI (by omega) (by omega)).mp c_10
                  refine lv_iinc (v := nI (c_ + 1)) (lv' := [(4, .int (nI (c_ + 1))), (3, .int (nI (4 + 1))), (0, .ref aY), (1, .int (nI 1)), (2, .int (nI a))]) hx hb dX4_read_93 hl (k := 0) rfl (nI_1 c_) (by decide) rfl (fun ls hl => ?_)
                  refine lv_aload_n hx hb dX4_read_96 rfl (lv_at hl 2 rfl) ?_
                  refine va_get (D := (dC, dI)) (ci := 4) (v := .ref aM) (C := RX4) (T := TX4) (N := 5) hx hb hts in_X4 hown hK hP 0 rfl rfl 0 (by decide) (hts _ q255) (fun _ h9 => h9) rfl dX4_read_97 ?_
                  refine lv_iload_n hx hb dX4_read_100 rfl (lv_at hl 4 rfl) ?_
                  refine lv_iload hx hb dX4_read_101 (lv_at hl 0 rfl) ?_
                  refine lv_iadd hx hb dX4_read_103 ?_
                  refine lv_topi (fun z_11 ez_11 => ?_)
                  rw [show z_11 = nI (a + c_ + 1) from by rw [ez_11]; exact nI_add a (c_ + 1)]
                  refine lv_iconst (v := 1) hx hb dX4_read_104 (by decide) ?_
                  refine lv_isub hx hb dX4_read_105 ?_
                  refine lv_topi (fun z_12 ez_12 => ?_)
                  rw [show z_12 = nI (a + c_) from by rw [ez_12]; exact nI_pred (a + c_)]
                  refine va_bald hx hb hK hP 1 0 rfl rfl (vp_in_nI (by omega) (by omega)) dX4_read_106 ?_
                  refine lv_topi (fun z_13 ez_13 => ?_)
                  rw [show z_13 = f (a + c_) from by rw [ez_13]; rw [nI_clamp (by omega)]]
                  refine lv_istore (lv' := [(5, .int (f (a + c_))), (4, .int (nI (c_ + 1))), (3, .int (nI (4 + 1))), (0, .ref aY), (1, .int (nI 1)), (2, .int (nI a))]) hx hb dX4_read_107 hl (by decide) rfl (fun ls hl => ?_)
                  have tl : gp_ok 1 (4 + 1) n a c_ f → W p l e (headSpec (ws_ yX4_read cX4_read 9 (some .int)) ({ frames := 0, cells := 0, slots := 0, locals := 0 })).room s m ([.ref aY, .int (nI 1), .int (nI a)] : List Value).toArray below meth c s.heap [] 0 0 (MQ below (va_Qi (fun (r : Int32) (u : Int64) => (gp_ok 1 (4 + 1) n a c_ f → r = nI (c_ + 1) ∧ u = gp_val 1 f a c_) ∧ (¬ gp_ok 1 (4 + 1) n a c_ f → r = -1 ∧ u = v)) (fun (u : Int64) t => gB dC dI A [(aY, .inr (4, [.ref aM, .ref aN, .int (nI n), .int (nI k), .long u])), (aM, .inl (cB, 1000, .inl f))] t) A) ([.ref aY, .int (nI 1), .int (nI a)] : List Value).toArray s 0 0 A) (F0 m 180 ls []) := by
                    intro hok
                    refine lv_iload_n hx hb dX4_read_180 rfl (lv_at hl 4 rfl) ?_
                    refine lv_if_le (tgt := 197) hx hb dX4_read_181 (by decide) (fun c_14 => ?_) (fun c_14 => ?_)
                    · exact absurd c_14 (by decide)
                    · refine lv_iload hx hb dX4_read_184 (lv_at hl 0 rfl) ?_
                      refine lv_bipush (v := 63) hx hb dX4_read_186 (by decide) ?_
                      refine lv_icmp_le (tgt := 197) hx hb dX4_read_188 (by decide) (fun c_15 => ?_) (fun c_15 => ?_)
                      · refine lv_lconst (v := 0) hx hb dX4_read_197 rfl ?_
                        refine lv_topl (fun z_16 ez_16 => ?_)
                        rw [show z_16 = gp_sg 1 f a c_ from by rw [ez_16]; exact (gp_sgP c_15).symm]
                        refine lv_lstore (lv' := [(6, .long (gp_sg 1 f a c_)), (5, .int (f (a + c_))), (4, .int (nI (c_ + 1))), (3, .int (nI (4 + 1))), (0, .ref aY), (1, .int (nI 1)), (2, .int (nI a))]) hx hb dX4_read_198 hl (by decide) rfl (fun ls hl => ?_)
                        refine lv_iload hx hb dX4_read_200 (lv_at hl 2 rfl) ?_
                        refine lv_iconst (v := 1) hx hb dX4_read_202 (by decide) ?_
                        refine lv_isub hx hb dX4_read_203 ?_
                        refine lv_istore (lv' := [(8, .int ((nI (c_ + 1)) - 1)), (6, .long (gp_sg 1 f a c_)), (5, .int (f (a + c_))), (4, .int (nI (c_ + 1))), (3, .int (nI (4 + 1))), (0, .ref aY), (1, .int (nI 1)), (2, .int (nI a))]) hx hb dX4_read_204 hl (by decide) rfl (fun ls hl => ?_)
                        refine lo_M_horner (cB := cB) (A := A) hx hb hml hown hts hA hK aY aM aN n k 1 a c_ v (gp_raw 1 f a c_) f (by omega) _ _ hP (fun ls ix hl => ?_) (c_ + 1) _ _ (Nat.le_refl _) rfl rfl ls (lv_sub hl [0, 1, 5, 6, 7, 3] rfl)
                        refine lv_aload_n hx hb dX4_read_238 rfl (lv_at hl 2 rfl) ?_
                        refine lv_iload_n hx hb dX4_read_239 rfl (lv_at hl 3 rfl) ?_
                        refine lv_iconst (v := 1) hx hb dX4_read_240 (by decide) ?_
                        refine lv_icmp_ne (tgt := 251) hx hb dX4_read_241 (by decide) (fun c_17 => ?_) (fun c_17 => ?_)
                        · exact absurd rfl c_17
                        · refine lv_lload hx hb dX4_read_244 (lv_at hl 1 rfl) ?_
                          refine lv_l2i (v := ((gp_raw 1 f a c_)).toInt32) hx hb dX4_read_246 rfl ?_
                          refine lv_i2l (v := ((((gp_raw 1 f a c_)).toInt32)).toInt64) hx hb dX4_read_247 rfl ?_
                          refine lv_goto (tgt := 253) hx hb dX4_read_248 (by decide) ?_
                          refine lv_topl (fun z_18 ez_18 => ?_)
                          rw [show z_18 = gp_val 1 f a c_ from by rw [ez_18]; rfl]
                          refine va_put (D := (dC, dI)) (ci := 4) (v := .long (gp_val 1 f a c_)) (ty := .long) (C := RX4) (T := TX4) (N := 5) hx hb hts in_X4 tyX4 tyX4_ok nmX4 hown hK hP hD hS 0 rfl rfl 4 (by decide) (hts _ q259) (fun _ h9 => h9) rfl (by decide +kernel) rfl rfl (Nat.le_of_ble_eq_true rfl) dX4_read_253 (fun H locs hP hD hS => ?_)
                          have hP : va_P (dC, dI) vwCl [(aY, .inr (4, [.ref aM, .ref aN, .int (nI n), .int (nI k), .long (gp_val 1 f a c_)])), (aM, .inl (cB, 1000, .inl f))] H := hP
                          have hD : va_D A [(aY, .inr (4, [.ref aM, .ref aN, .int (nI n), .int (nI k), .long (gp_val 1 f a c_)])), (aM, .inl (cB, 1000, .inl f))] := hD
                          refine lv_iload hx hb dX4_read_256 (lv_at hl 5 rfl) ?_
                          exact W.iret (v := nI (c_ + 1)) hx hb hr (fun t ht hW => ⟨⟨nI (c_ + 1), (gp_val 1 f a c_), rfl, ⟨fun _ => ⟨rfl, rfl⟩, fun z => absurd hok z⟩, by rw [ht]; exact hP, hD⟩, hS.F ht⟩) hS.2.2 dX4_read_258
                      · refine lv_ldc2 (v := (-1)) hx hb hown (hts _ q287) dX4_read_191 ?_
                        refine lv_goto (tgt := 198) hx hb dX4_read_194 (by decide) ?_
                        refine lv_topl (fun z_16 ez_16 => ?_)
                        rw [show z_16 = gp_sg 1 f a c_ from by rw [ez_16]; exact (gp_sgN (by decide) c_15).symm]
                        refine lv_lstore (lv' := [(6, .long (gp_sg 1 f a c_)), (5, .int (f (a + c_))), (4, .int (nI (c_ + 1))), (3, .int (nI (4 + 1))), (0, .ref aY), (1, .int (nI 1)), (2, .int (nI a))]) hx hb dX4_read_198 hl (by decide) rfl (fun ls hl => ?_)
                        refine lv_iload hx hb dX4_read_200 (lv_at hl 2 rfl) ?_
                        refine lv_iconst (v := 1) hx hb dX4_read_202 (by decide) ?_
                        refine lv_isub hx hb dX4_read_203 ?_
                        refine lv_istore (lv' := [(8, .int ((nI (c_ + 1)) - 1)), (6, .long (gp_sg 1 f a c_)), (5, .int (f (a + c_))), (4, .int (nI (c_ + 1))), (3, .int (nI (4 + 1))), (0, .ref aY), (1, .int (nI 1)), (2, .int (nI a))]) hx hb dX4_read_204 hl (by decide) rfl (fun ls hl => ?_)
                        refine lo_M_horner (cB := cB) (A := A) hx hb hml hown hts hA hK aY aM aN n k 1 a c_ v (gp_raw 1 f a c_) f (by omega) _ _ hP (fun ls ix hl => ?_) (c_ + 1) _ _ (Nat.le_refl _) rfl rfl ls (lv_sub hl [0, 1, 5, 6, 7, 3] rfl)
                        refine lv_aload_n hx hb dX4_read_238 rfl (lv_at hl 2 rfl) ?_
                        refine lv_iload_n hx hb dX4_read_239 rfl (lv_at hl 3 rfl) ?_
                        refine lv_iconst (v := 1) hx hb dX4_read_240 (by decide) ?_
                        refine lv_icmp_ne (tgt := 251) hx hb dX4_read_241 (by decide) (fun c_17 => ?_) (fun c_17 => ?_)
                        · exact absurd rfl c_17
                        · refine lv_lload hx hb dX4_read_244 (lv_at hl 1 rfl) ?_
                          refine lv_l2i (v := ((gp_raw 1 f a c_)).toInt32) hx hb dX4_read_246 rfl ?_
                          refine lv_i2l (v := ((((gp_raw 1 f a c_)).toInt32)).toInt64) hx hb dX4_read_247 rfl ?_
                          refine lv_goto (tgt := 253) hx hb dX4_read_248 (by decide) ?_
                          refine lv_topl (fun z_18 ez_18 => ?_)
                          rw [show z_18 = gp_val 1 f a c_ from by rw [ez_18]; rfl]
                          refine va_put (D := (dC, dI)) (ci := 4) (v := .long (gp_val 1 f a c_)) (ty := .long) (C := RX4) (T := TX4) (N := 5) hx hb hts in_X4 tyX4 tyX4_ok nmX4 hown hK hP hD hS 0 rfl rfl 4 (by decide) (hts _ q259) (fun _ h9 => h9) rfl (by decide +kernel) rfl rfl (Nat.le_of_ble_eq_true rfl) dX4_read_253 (fun H locs hP hD hS => ?_)
                          have hP : va_P (dC, dI) vwCl [(aY, .inr (4, [.ref aM, .ref aN, .int (nI n), .int (nI k), .long (gp_val 1 f a c_)])), (aM, .inl (cB, 1000, .inl f))] H := hP
                          have hD : va_D A [(aY, .inr (4, [.ref aM, .ref aN, .int (nI n), .int (nI k), .long (gp_val 1 f a c_)])), (aM, .inl (cB, 1000, .inl f))] := hD
                          refine lv_iload hx hb dX4_read_256 (lv_at hl 5 rfl) ?_
                          exact W.iret (v := nI (c_ + 1)) hx hb hr (fun t ht hW => ⟨⟨nI (c_ + 1), (gp_val 1 f a c_), rfl, ⟨fun _ => ⟨rfl, rfl⟩, fun z => absurd hok z⟩, by rw [ht]; exact hP, hD⟩, hS.F ht⟩) hS.2.2 dX4_read_258
                  rcases Nat.lt_or_ge (c_ + 1) (4 + 1) with hl1 | hl1
                  · have hne : ¬ nI (c_ + 1) = nI (4 + 1) := fun z => by have := (nI_eq (by omega) (by omega)).mp z; omega
                    refine lv_iload hx hb dX4_read_109 (lv_at hl 1 rfl) ?_
                    refine lv_iload_n hx hb dX4_read_111 rfl (lv_at hl 2 rfl) ?_
                    refine lv_icmp_ne (tgt := 128) hx hb dX4_read_112 (by decide) (fun c_14 => ?_) (fun c_14 => ?_)
                    · refine lv_iload hx hb dX4_read_128 (lv_at hl 1 rfl) ?_
                      refine lv_iload_n hx hb dX4_read_130 rfl (lv_at hl 2 rfl) ?_
                      refine lv_icmp_ne (tgt := 155) hx hb dX4_read_131 (by decide) (fun c_15 => ?_) (fun c_15 => ?_)
                      · refine lv_iload hx hb dX4_read_155 (lv_at hl 1 rfl) ?_
                        refine lv_iload_n hx hb dX4_read_157 rfl (lv_at hl 2 rfl) ?_
                        refine lv_icmp_ne (tgt := 180) hx hb dX4_read_158 (by decide) (fun c_16 => ?_) (fun c_16 => ?_)
                        · exact tl ⟨hlt, han, fun z => absurd z.1 (by omega)⟩
                        · exact absurd c_16 hne
                      · exact absurd c_15 hne
                    · exact absurd c_14 hne
                  · have heq : 4 = c_ := by omega
                    subst heq
                    refine lv_iload hx hb dX4_read_109 (lv_at hl 1 rfl) ?_
                    refine lv_iload_n hx hb dX4_read_111 rfl (lv_at hl 2 rfl) ?_
                    refine lv_icmp_ne (tgt := 128) hx hb dX4_read_112 (by decide) (fun c_14 => ?_) (fun c_14 => ?_)
                    · exact absurd rfl c_14
                    · refine lv_iload_n hx hb dX4_read_115 rfl (lv_at hl 4 rfl) ?_
                      refine lv_if_ne (tgt := 128) hx hb dX4_read_116 (by decide) (fun c_15 => ?_) (fun c_15 => ?_)
                      · refine lv_iload hx hb dX4_read_128 (lv_at hl 1 rfl) ?_
                        refine lv_iload_n hx hb dX4_read_130 rfl (lv_at hl 2 rfl) ?_
                        refine lv_icmp_ne (tgt := 155) hx hb dX4_read_131 (by decide) (fun c_16 => ?_) (fun c_16 => ?_)
                        · exact absurd rfl c_16
                        · refine lv_iload_n hx hb dX4_read_134 rfl (lv_at hl 4 rfl) ?_
                          refine lv_iconst (v := 1) hx hb dX4_read_135 (by decide) ?_
                          refine lv_icmp_ne (tgt := 155) hx hb dX4_read_136 (by decide) (fun c_17 => ?_) (fun c_17 => ?_)
                          · exact absurd rfl c_17
                          · refine lv_iload hx hb dX4_read_139 (lv_at hl 0 rfl) ?_
                            refine lv_bipush (v := 7) hx hb dX4_read_141 (by decide) ?_
                            refine lv_icmp_le (tgt := 155) hx hb dX4_read_143 (by decide) (fun c_18 => ?_) (fun c_18 => ?_)
                            · have hnb : ¬ gp_bad 1 (f (a + 4)) := fun z => z.elim (fun z => absurd z.1 (by decide)) (fun z => z.elim (fun z => Int32.not_lt.mpr c_18 z.2.1) (fun z => absurd z.1 (by decide)))
                              refine lv_iload hx hb dX4_read_155 (lv_at hl 1 rfl) ?_
                              refine lv_iload_n hx hb dX4_read_157 rfl (lv_at hl 2 rfl) ?_
                              refine lv_icmp_ne (tgt := 180) hx hb dX4_read_158 (by decide) (fun c_19 => ?_) (fun c_19 => ?_)
                              · exact absurd rfl c_19
                              · refine lv_iload_n hx hb dX4_read_161 rfl (lv_at hl 4 rfl) ?_
                                refine lv_iconst (v := 2) hx hb dX4_read_162 (by decide) ?_
                                refine lv_icmp_ne (tgt := 180) hx hb dX4_read_163 (by decide) (fun c_20 => ?_) (fun c_20 => ?_)
                                · exact tl ⟨hlt, han, fun z => hnb z.2⟩
                                · exact absurd c_20 (by decide)
                            · refine lv_iload hx hb dX4_read_146 (lv_at hl 0 rfl) ?_
                              refine lv_bipush (v := 120) hx hb dX4_read_148 (by decide) ?_
                              refine lv_icmp_ge (tgt := 155) hx hb dX4_read_150 (by decide) (fun c_19 => ?_) (fun c_19 => ?_)
                              · have hnb : ¬ gp_bad 1 (f (a + 4)) := fun z => z.elim (fun z => absurd z.1 (by decide)) (fun z => z.elim (fun z => Int32.not_lt.mpr c_19 z.2.2) (fun z => absurd z.1 (by decide)))
                                refine lv_iload hx hb dX4_read_155 (lv_at hl 1 rfl) ?_
                                refine lv_iload_n hx hb dX4_read_157 rfl (lv_at hl 2 rfl) ?_
                                refine lv_icmp_ne (tgt := 180) hx hb dX4_read_158 (by decide) (fun c_20 => ?_) (fun c_20 => ?_)
                                · exact absurd rfl c_20
                                · refine lv_iload_n hx hb dX4_read_161 rfl (lv_at hl 4 rfl) ?_
                                  refine lv_iconst (v := 2) hx hb dX4_read_162 (by decide) ?_
                                  refine lv_icmp_ne (tgt := 180) hx hb dX4_read_163 (by decide) (fun c_21 => ?_) (fun c_21 => ?_)
                                  · exact tl ⟨hlt, han, fun z => hnb z.2⟩
                                  · exact absurd c_21 (by decide)
                              · have hno : ¬ gp_ok 1 (4 + 1) n a 4 f := fun z => z.2.2 ⟨rfl, Or.inr (Or.inl ⟨rfl, Int32.not_le.mp c_18, Int32.not_le.mp c_19⟩)⟩
                                refine lv_iconst (v := (-1)) hx hb dX4_read_153 (by decide) ?_
                                exact W.iret (v := (-1)) hx hb hr (fun t ht hW => ⟨⟨(-1), v, rfl, ⟨fun z => absurd z hno, fun _ => ⟨rfl, rfl⟩⟩, by rw [ht]; exact hP, hD⟩, hS.F ht⟩) hS.2.2 dX4_read_154
                      · exact absurd c_15 (by decide)
                · have hno : ¬ gp_ok 1 (4 + 1) n a c_ f := fun z => c_10 (nI_lt z.2.1 (by omega))
                  refine lv_iconst (v := (-1)) hx hb dX4_read_91 (by decide) ?_
                  exact W.iret (v := (-1)) hx hb hr (fun t ht hW => ⟨⟨(-1), v, rfl, ⟨fun z => absurd z hno, fun _ => ⟨rfl, rfl⟩⟩, by rw [ht]; exact hP, hD⟩, hS.F ht⟩) hS.2.2 dX4_read_92
            · exact absurd c_5 (by decide)
          · exact absurd (nI_le ha (by omega)) c_4
  · have hm : most = 9 + 1 := hm
    subst hm
    refine lv_iload_n hx hb dX4_read_0 rfl (lv_at hl 1 rfl) ?_
    refine lv_if_lt (tgt := 21) hx hb dX4_read_1 (by decide) (fun c_1 => ?_) (fun c_1 => ?_)
    · exact absurd c_1 (by decide)
    · refine lv_iload_n hx hb dX4_read_4 rfl (lv_at hl 1 rfl) ?_
      refine lv_iconst (v := 2) hx hb dX4_read_5 (by decide) ?_
      refine lv_icmp_gt (tgt := 21) hx hb dX4_read_6 (by decide) (fun c_2 => ?_) (fun c_2 => ?_)
      · exact absurd c_2 (by decide)
      · refine lv_iload_n hx hb dX4_read_9 rfl (lv_at hl 2 rfl) ?_
        refine lv_if_lt (tgt := 21) hx hb dX4_read_10 (by decide) (fun c_3 => ?_) (fun c_3 => ?_)
        · exact absurd c_3 (nI_pos (by omega))
        · refine lv_iload_n hx hb dX4_read_13 rfl (lv_at hl 2 rfl) ?_
          refine lv_aload_n hx hb dX4_read_14 rfl (lv_at hl 0 rfl) ?_
          refine va_get (D := (dC, dI)) (ci := 4) (v := .int (nI n)) (C := RX4) (T := TX4) (N := 5) hx hb hts in_X4 hown hK hP 0 rfl rfl 2 (by decide) (hts _ q257) (fun _ h9 => h9) rfl dX4_read_15 ?_
          refine lv_icmp_le (tgt := 24) hx hb dX4_read_18 (by decide) (fun c_4 => ?_) (fun c_4 => ?_)
          · refine lv_iload_n hx hb dX4_read_24 rfl (lv_at hl 1 rfl) ?_
            refine lv_iconst (v := 2) hx hb dX4_read_25 (by decide) ?_
            refine lv_icmp_ne (tgt := 34) hx hb dX4_read_26 (by decide) (fun c_5 => ?_) (fun c_5 => ?_)
            · exact absurd rfl c_5
            · refine lv_bipush (v := 10) hx hb dX4_read_29 (by decide) ?_
              refine lv_goto (tgt := 35) hx hb dX4_read_31 (by decide) ?_
              refine lv_topi (fun z_6 ez_6 => ?_)
              rw [show z_6 = nI (9 + 1) from by rw [ez_6]; rfl]
              refine lv_istore_n (lv' := [(3, .int (nI (9 + 1))), (0, .ref aY), (1, .int (nI 2)), (2, .int (nI a))]) hx hb dX4_read_35 rfl hl (by decide) rfl (fun ls hl => ?_)
              refine lv_iconst (v := 0) hx hb dX4_read_36 (by decide) ?_
              refine lv_topi (fun z_7 ez_7 => ?_)
              rw [show z_7 = nI 0 from by rw [ez_7]; rfl]
              refine lv_istore (lv' := [(4, .int (nI 0)), (3, .int (nI (9 + 1))), (0, .ref aY), (1, .int (nI 2)), (2, .int (nI a))]) hx hb dX4_read_37 hl (by decide) rfl (fun ls hl => ?_)
              refine lo_M_count (cB := cB) (A := A) hx hb hml hown hts hA hK aY aM aN n k 2 a c_ (9 + 1) v f hn ha (by omega) hI _ _ hP (fun ls hl => ?_) (9 + 1) 0 (by omega) (Nat.zero_le _) ls (lv_sub hl [0, 1, 2, 3, 4] rfl)
              have hcm := hI.1
              refine lv_iload hx hb dX4_read_74 (lv_at hl 0 rfl) ?_
              refine lv_iload_n hx hb dX4_read_76 rfl (lv_at hl 1 rfl) ?_
              refine lv_icmp_eq (tgt := 91) hx hb dX4_read_77 (by decide) (fun c_8 => ?_) (fun c_8 => ?_)
              · have hno : ¬ gp_ok 2 (9 + 1) n a c_ f := fun z => by have := (nI_eq (by omega) (by omega)).mp c_8; have := z.1; omega
                refine lv_iconst (v := (-1)) hx hb dX4_read_91 (by decide) ?_
                exact W.iret (v := (-1)) hx hb hr (fun t ht hW => ⟨⟨(-1), v, rfl, ⟨fun z => absurd z hno, fun _ => ⟨rfl, rfl⟩⟩, by rw [ht]; exact hP, hD⟩, hS.F ht⟩) hS.2.2 dX4_read_92
              · have hlt : c_ < 9 + 1 := by
                  rcases Nat.lt_or_ge c_ (9 + 1) with q | q
                  · exact q
                  · exact absurd (by rw [show c_ = 9 + 1 by omega]) c_8
                refine lv_iload_n hx hb dX4_read_80 rfl (lv_at hl 4 rfl) ?_
                refine lv_iload hx hb dX4_read_81 (lv_at hl 0 rfl) ?_
                refine lv_iadd hx hb dX4_read_83 ?_
                refine lv_topi (fun z_9 ez_9 => ?_)
                rw [show z_9 = nI (a + c_) from by rw [ez_9]; exact nI_add a c_]
                refine lv_aload_n hx hb dX4_read_84 rfl (lv_at hl 2 rfl) ?_
                refine va_get (D := (dC, dI)) (ci := 4) (v := .int (nI n)) (C := RX4) (T := TX4) (N := 5) hx hb hts in_X4 hown hK hP 0 rfl rfl 2 (by decide) (hts _ q257) (fun _ h9 => h9) rfl dX4_read_85 ?_
                refine lv_icmp_lt (tgt := 93) hx hb dX4_read_88 (by decide) (fun c_10 => ?_) (fun c_10 => ?_)
                · have han : a + c_ < n := (nI_ltI (by omega) (by omega)).mp c_10
                  refine lv_iinc (v := nI (c_ + 1)) (lv' := [(4, .int (nI (c_ + 1))), (3, .int (nI (9 + 1))), (0, .ref aY), (1, .int (nI 2)), (2, .int (nI a))]) hx hb dX4_read_93 hl (k := 0) rfl (nI_1 c_) (by decide) rfl (fun ls hl => ?_)
                  refine lv_aload_n hx hb dX4_read_96 rfl (lv_at hl 2 rfl) ?_
                  refine va_get (D := (dC, dI)) (ci := 4) (v := .ref aM) (C := RX4) (T := TX4) (N := 5) hx hb hts in_X4 hown hK hP 0 rfl rfl 0 (by decide) (hts _ q255) (fun _ h9 => h9) rfl dX4_read_97 ?_
                  refine lv_iload_n hx hb dX4_read_100 rfl (lv_at hl 4 rfl) ?_
                  refine lv_iload hx hb dX4_read_101 (lv_at hl 0 rfl) ?_
                  refine lv_iadd hx hb dX4_read_103 ?_
                  refine lv_topi (fun z_11 ez_11 => ?_)
                  rw [show z_11 = nI (a + c_ + 1) from by rw [ez_11]; exact nI_add a (c_ + 1)]
                  refine lv_iconst (v := 1) hx hb dX4_read_104 (by decide) ?_
                  refine lv_isub hx hb dX4_read_105 ?_
                  refine lv_topi (fun z_12 ez_12 => ?_)
                  rw [show z_12 = nI (a + c_) from by rw [ez_12]; exact nI_pred (a + c_)]
                  refine va_bald hx hb hK hP 1 0 rfl rfl (vp_in_nI (by omega) (by omega)) dX4_read_106 ?_
                  refine lv_topi (fun z_13 ez_13 => ?_)
                  rw [show z_13 = f (a + c_) from by rw [ez_13]; rw [nI_clamp (by omega)]]
                  refine lv_istore (lv' := [(5, .int (f (a + c_))), (4, .int (nI (c_ + 1))), (3, .int (nI (9 + 1))), (0, .ref aY), (1, .int (nI 2)), (2, .int (nI a))]) hx hb dX4_read_107 hl (by decide) rfl (fun ls hl => ?_)
                  have tl : gp_ok 2 (9 + 1) n a c_ f → W p l e (headSpec (ws_ yX4_read cX4_read 9 (some .int)) ({ frames := 0, cells := 0, slots := 0, locals := 0 })).room s m ([.ref aY, .int (nI 2), .int (nI a)] : List Value).toArray below meth c s.heap [] 0 0 (MQ below (va_Qi (fun (r : Int32) (u : Int64) => (gp_ok 2 (9 + 1) n a c_ f → r = nI (c_ + 1) ∧ u = gp_val 2 f a c_) ∧ (¬ gp_ok 2 (9 + 1) n a c_ f → r = -1 ∧ u = v)) (fun (u : Int64) t => gB dC dI A [(aY, .inr (4, [.ref aM, .ref aN, .int (nI n), .int (nI k), .long u])), (aM, .inl (cB, 1000, .inl f))] t) A) ([.ref aY, .int (nI 2), .int (nI a)] : List Value).toArray s 0 0 A) (F0 m 180 ls []) := by
                    intro hok
                    refine lv_iload_n hx hb dX4_read_180 rfl (lv_at hl 4 rfl) ?_
                    refine lv_if_le (tgt := 197) hx hb dX4_read_181 (by decide) (fun c_14 => ?_) (fun c_14 => ?_)
                    · exact absurd c_14 (by decide)
                    · refine lv_iload hx hb dX4_read_184 (lv_at hl 0 rfl) ?_
                      refine lv_bipush (v := 63) hx hb dX4_read_186 (by decide) ?_
                      refine lv_icmp_le (tgt := 197) hx hb dX4_read_188 (by decide) (fun c_15 => ?_) (fun c_15 => ?_)
                      · refine lv_lconst (v := 0) hx hb dX4_read_197 rfl ?_
                        refine lv_topl (fun z_16 ez_16 => ?_)
                        rw [show z_16 = gp_sg 2 f a c_ from by rw [ez_16]; exact (gp_sgP c_15).symm]
                        refine lv_lstore (lv' := [(6, .long (gp_sg 2 f a c_)), (5, .int (f (a + c_))), (4, .int (nI (c_ + 1))), (3, .int (nI (9 + 1))), (0, .ref aY), (1, .int (nI 2)), (2, .int (nI a))]) hx hb dX4_read_198 hl (by decide) rfl (fun ls hl => ?_)
                        refine lv_iload hx hb dX4_read_200 (lv_at hl 2 rfl) ?_
                        refine lv_iconst (v := 1) hx hb dX4_read_202 (by decide) ?_
                        refine lv_isub hx hb dX4_read_203 ?_
                        refine lv_istore (lv' := [(8, .int ((nI (c_ + 1)) - 1)), (6, .long (gp_sg 2 f a c_)), (5, .int (f (a + c_))), (4, .int (nI (c_ + 1))), (3, .int (nI (9 + 1))), (0, .ref aY), (1, .int (nI 2)), (2, .int (nI a))]) hx hb dX4_read_204 hl (by decide) rfl (fun ls hl => ?_)
                        refine lo_M_horner (cB := cB) (A := A) hx hb hml hown hts hA hK aY aM aN n k 2 a c_ v (gp_raw 2 f a c_) f (by omega) _ _ hP (fun ls ix hl => ?_) (c_ + 1) _ _ (Nat.le_refl _) rfl rfl ls (lv_sub hl [0, 1, 5, 6, 7, 3] rfl)
                        refine lv_aload_n hx hb dX4_read_238 rfl (lv_at hl 2 rfl) ?_
                        refine lv_iload_n hx hb dX4_read_239 rfl (lv_at hl 3 rfl) ?_
                        refine lv_iconst (v := 1) hx hb dX4_read_240 (by decide) ?_
                        refine lv_icmp_ne (tgt := 251) hx hb dX4_read_241 (by decide) (fun c_17 => ?_) (fun c_17 => ?_)
                        · refine lv_lload hx hb dX4_read_251 (lv_at hl 1 rfl) ?_
                          refine lv_topl (fun z_18 ez_18 => ?_)
                          rw [show z_18 = gp_val 2 f a c_ from by rw [ez_18]; rfl]
                          refine va_put (D := (dC, dI)) (ci := 4) (v := .long (gp_val 2 f a c_)) (ty := .long) (C := RX4) (T := TX4) (N := 5) hx hb hts in_X4 tyX4 tyX4_ok nmX4 hown hK hP hD hS 0 rfl rfl 4 (by decide) (hts _ q259) (fun _ h9 => h9) rfl (by decide +kernel) rfl rfl (Nat.le_of_ble_eq_true rfl) dX4_read_253 (fun H locs hP hD hS => ?_)
                          have hP : va_P (dC, dI) vwCl [(aY, .inr (4, [.ref aM, .ref aN, .int (nI n), .int (nI k), .long (gp_val 2 f a c_)])), (aM, .inl (cB, 1000, .inl f))] H := hP
                          have hD : va_D A [(aY, .inr (4, [.ref aM, .ref aN, .int (nI n), .int (nI k), .long (gp_val 2 f a c_)])), (aM, .inl (cB, 1000, .inl f))] := hD
                          refine lv_iload hx hb dX4_read_256 (lv_at hl 5 rfl) ?_
                          exact W.iret (v := nI (c_ + 1)) hx hb hr (fun t ht hW => ⟨⟨nI (c_ + 1), (gp_val 2 f a c_), rfl, ⟨fun _ => ⟨rfl, rfl⟩, fun z => absurd hok z⟩, by rw [ht]; exact hP, hD⟩, hS.F ht⟩) hS.2.2 dX4_read_258
                        · exact absurd c_17 (by decide)
                      · refine lv_ldc2 (v := (-1)) hx hb hown (hts _ q287) dX4_read_191 ?_
                        refine lv_goto (tgt := 198) hx hb dX4_read_194 (by decide) ?_
                        refine lv_topl (fun z_16 ez_16 => ?_)
                        rw [show z_16 = gp_sg 2 f a c_ from by rw [ez_16]; exact (gp_sgN (by decide) c_15).symm]
                        refine lv_lstore (lv' := [(6, .long (gp_sg 2 f a c_)), (5, .int (f (a + c_))), (4, .int (nI (c_ + 1))), (3, .int (nI (9 + 1))), (0, .ref aY), (1, .int (nI 2)), (2, .int (nI a))]) hx hb dX4_read_198 hl (by decide) rfl (fun ls hl => ?_)
                        refine lv_iload hx hb dX4_read_200 (lv_at hl 2 rfl) ?_
                        refine lv_iconst (v := 1) hx hb dX4_read_202 (by decide) ?_
                        refine lv_isub hx hb dX4_read_203 ?_
                        refine lv_istore (lv' := [(8, .int ((nI (c_ + 1)) - 1)), (6, .long (gp_sg 2 f a c_)), (5, .int (f (a + c_))), (4, .int (nI (c_ + 1))), (3, .int (nI (9 + 1))), (0, .ref aY), (1, .int (nI 2)), (2, .int (nI a))]) hx hb dX4_read_204 hl (by decide) rfl (fun ls hl => ?_)
                        refine lo_M_horner (cB := cB) (A := A) hx hb hml hown hts hA hK aY aM aN n k 2 a c_ v (gp_raw 2 f a c_) f (by omega) _ _ hP (fun ls ix hl => ?_) (c_ + 1) _ _ (Nat.le_refl _) rfl rfl ls (lv_sub hl [0, 1, 5, 6, 7, 3] rfl)
                        refine lv_aload_n hx hb dX4_read_238 rfl (lv_at hl 2 rfl) ?_
                        refine lv_iload_n hx hb dX4_read_239 rfl (lv_at hl 3 rfl) ?_
                        refine lv_iconst (v := 1) hx hb dX4_read_240 (by decide) ?_
                        refine lv_icmp_ne (tgt := 251) hx hb dX4_read_241 (by decide) (fun c_17 => ?_) (fun c_17 => ?_)
                        · refine lv_lload hx hb dX4_read_251 (lv_at hl 1 rfl) ?_
                          refine lv_topl (fun z_18 ez_18 => ?_)
                          rw [show z_18 = gp_val 2 f a c_ from by rw [ez_18]; rfl]
                          refine va_put (D := (dC, dI)) (ci := 4) (v := .long (gp_val 2 f a c_)) (ty := .long) (C := RX4) (T := TX4) (N := 5) hx hb hts in_X4 tyX4 tyX4_ok nmX4 hown hK hP hD hS 0 rfl rfl 4 (by decide) (hts _ q259) (fun _ h9 => h9) rfl (by decide +kernel) rfl rfl (Nat.le_of_ble_eq_true rfl) dX4_read_253 (fun H locs hP hD hS => ?_)
                          have hP : va_P (dC, dI) vwCl [(aY, .inr (4, [.ref aM, .ref aN, .int (nI n), .int (nI k), .long (gp_val 2 f a c_)])), (aM, .inl (cB, 1000, .inl f))] H := hP
                          have hD : va_D A [(aY, .inr (4, [.ref aM, .ref aN, .int (nI n), .int (nI k), .long (gp_val 2 f a c_)])), (aM, .inl (cB, 1000, .inl f))] := hD
                          refine lv_iload hx hb dX4_read_256 (lv_at hl 5 rfl) ?_
                          exact W.iret (v := nI (c_ + 1)) hx hb hr (fun t ht hW => ⟨⟨nI (c_ + 1), (gp_val 2 f a c_), rfl, ⟨fun _ => ⟨rfl, rfl⟩, fun z => absurd hok z⟩, by rw [ht]; exact hP, hD⟩, hS.F ht⟩) hS.2.2 dX4_read_258
                        · exact absurd c_17 (by decide)
                  rcases Nat.lt_or_ge (c_ + 1) (9 + 1) with hl1 | hl1
                  · have hne : ¬ nI (c_ + 1) = nI (9 + 1) := fun z => by have := (nI_eq (by omega) (by omega)).mp z; omega
                    refine lv_iload hx hb dX4_read_109 (lv_at hl 1 rfl) ?_
                    refine lv_iload_n hx hb dX4_read_111 rfl (lv_at hl 2 rfl) ?_
                    refine lv_icmp_ne (tgt := 128) hx hb dX4_read_112 (by decide) (fun c_14 => ?_) (fun c_14 => ?_)
                    · refine lv_iload hx hb dX4_read_128 (lv_at hl 1 rfl) ?_
                      refine lv_iload_n hx hb dX4_read_130 rfl (lv_at hl 2 rfl) ?_
                      refine lv_icmp_ne (tgt := 155) hx hb dX4_read_131 (by decide) (fun c_15 => ?_) (fun c_15 => ?_)
                      · refine lv_iload hx hb dX4_read_155 (lv_at hl 1 rfl) ?_
                        refine lv_iload_n hx hb dX4_read_157 rfl (lv_at hl 2 rfl) ?_
                        refine lv_icmp_ne (tgt := 180) hx hb dX4_read_158 (by decide) (fun c_16 => ?_) (fun c_16 => ?_)
                        · exact tl ⟨hlt, han, fun z => absurd z.1 (by omega)⟩
                        · exact absurd c_16 hne
                      · exact absurd c_15 hne
                    · exact absurd c_14 hne
                  · have heq : 9 = c_ := by omega
                    subst heq
                    refine lv_iload hx hb dX4_read_109 (lv_at hl 1 rfl) ?_
                    refine lv_iload_n hx hb dX4_read_111 rfl (lv_at hl 2 rfl) ?_
                    refine lv_icmp_ne (tgt := 128) hx hb dX4_read_112 (by decide) (fun c_14 => ?_) (fun c_14 => ?_)
                    · exact absurd rfl c_14
                    · refine lv_iload_n hx hb dX4_read_115 rfl (lv_at hl 4 rfl) ?_
                      refine lv_if_ne (tgt := 128) hx hb dX4_read_116 (by decide) (fun c_15 => ?_) (fun c_15 => ?_)
                      · refine lv_iload hx hb dX4_read_128 (lv_at hl 1 rfl) ?_
                        refine lv_iload_n hx hb dX4_read_130 rfl (lv_at hl 2 rfl) ?_
                        refine lv_icmp_ne (tgt := 155) hx hb dX4_read_131 (by decide) (fun c_16 => ?_) (fun c_16 => ?_)
                        · exact absurd rfl c_16
                        · refine lv_iload_n hx hb dX4_read_134 rfl (lv_at hl 4 rfl) ?_
                          refine lv_iconst (v := 1) hx hb dX4_read_135 (by decide) ?_
                          refine lv_icmp_ne (tgt := 155) hx hb dX4_read_136 (by decide) (fun c_17 => ?_) (fun c_17 => ?_)
                          · refine lv_iload hx hb dX4_read_155 (lv_at hl 1 rfl) ?_
                            refine lv_iload_n hx hb dX4_read_157 rfl (lv_at hl 2 rfl) ?_
                            refine lv_icmp_ne (tgt := 180) hx hb dX4_read_158 (by decide) (fun c_18 => ?_) (fun c_18 => ?_)
                            · exact absurd rfl c_18
                            · refine lv_iload_n hx hb dX4_read_161 rfl (lv_at hl 4 rfl) ?_
                              refine lv_iconst (v := 2) hx hb dX4_read_162 (by decide) ?_
                              refine lv_icmp_ne (tgt := 180) hx hb dX4_read_163 (by decide) (fun c_19 => ?_) (fun c_19 => ?_)
                              · exact absurd rfl c_19
                              · refine lv_iload hx hb dX4_read_166 (lv_at hl 0 rfl) ?_
                                refine lv_if_le (tgt := 180) hx hb dX4_read_168 (by decide) (fun c_20 => ?_) (fun c_20 => ?_)
                                · have hnb : ¬ gp_bad 2 (f (a + 9)) := fun z => z.elim (fun z => absurd z.1 (by decide)) (fun z => z.elim (fun z => absurd z.1 (by decide)) (fun z => Int32.not_lt.mpr c_20 z.2.1))
                                  exact tl ⟨hlt, han, fun z => hnb z.2⟩
                                · refine lv_iload hx hb dX4_read_171 (lv_at hl 0 rfl) ?_
                                  refine lv_bipush (v := 127) hx hb dX4_read_173 (by decide) ?_
                                  refine lv_icmp_ge (tgt := 180) hx hb dX4_read_175 (by decide) (fun c_21 => ?_) (fun c_21 => ?_)
                                  · have hnb : ¬ gp_bad 2 (f (a + 9)) := fun z => z.elim (fun z => absurd z.1 (by decide)) (fun z => z.elim (fun z => absurd z.1 (by decide)) (fun z => Int32.not_lt.mpr c_21 z.2.2))
                                    exact tl ⟨hlt, han, fun z => hnb z.2⟩
                                  · have hno : ¬ gp_ok 2 (9 + 1) n a 9 f := fun z => z.2.2 ⟨rfl, Or.inr (Or.inr ⟨rfl, Int32.not_le.mp c_20, Int32.not_le.mp c_21⟩)⟩
                                    refine lv_iconst (v := (-1)) hx hb dX4_read_178 (by decide) ?_
                                    exact W.iret (v := (-1)) hx hb hr (fun t ht hW => ⟨⟨(-1), v, rfl, ⟨fun z => absurd z hno, fun _ => ⟨rfl, rfl⟩⟩, by rw [ht]; exact hP, hD⟩, hS.F ht⟩) hS.2.2 dX4_read_179
                          · exact absurd c_17 (by decide)
                      · exact absurd c_15 (by decide)
                · have hno : ¬ gp_ok 2 (9 + 1) n a c_ f := fun z => c_10 (nI_lt z.2.1 (by omega))
                  refine lv_iconst (v := (-1)) hx hb dX4_read_91 (by decide) ?_
                  exact W.iret (v := (-1)) hx hb hr (fun t ht hW => ⟨⟨(-1), v, rfl, ⟨fun z => absurd z hno, fun _ => ⟨rfl, rfl⟩⟩, by rw [ht]; exact hP, hD⟩, hS.F ht⟩) hS.2.2 dX4_read_92
          · exact absurd (nI_le ha (by omega)) c_4
end
section
set_option maxRecDepth 100000
set_option maxHeartbeats 4000000 in
/-- the first loop of GroupedNumbersModel.write: j + 1 groups are asked -/
theorem lo_M_enough {p : Program} {l : Launch} {e : Env} {R : Room} {s : State} {m : MethodId} {args : Array Value} {below : List Frame} {meth : Method} {c : Code} {Q : State → Prop} {dC : Nat → ClassId} {dI : Nat → Nat → Nat} {cB : ClassId} {A : Nat → Prop} {cells slots : Nat} (hx : p.tables.exec = Jvm.exec) (hb : c.code = cX4_write) (hml : c.maxLocals = 7) (hown : s.vm.findClass RX4 = some m.cls) (hts : ∀ w ∈ lw_all, w.before args s = true) (hA : ∀ q : Nat, s.heap.size ≤ q → A q) (hK : va_K (dC, dI) vwCl [(cB, .byte)] s) (hRf : 1 ≤ R.frames) (hRl : 24 ≤ R.locals) (hRc : cells ≤ R.cells) (hRs : slots ≤ R.slots) (aY aM aN : Nat) (n k hw n2 : Nat) (v p0 : Int64) (f : Nat → Int32) (hw2 : hw ≤ 2) (hv : hw = 0 → 0 ≤ p0.toInt) (hl0 : gp_Len hw p0 (n2 + 1))
    (kx : ∀ (H : Heap) (locs : List Loc) (ls : Array Slot), va_P (dC, dI) vwCl [(aY, .inr (4, [.ref aM, .ref aN, .int (nI n), .int (nI k), .long v])), (aN, .inl (cB, 1000, .inl f))] H → va_D A [(aY, .inr (4, [.ref aM, .ref aN, .int (nI n), .int (nI k), .long v])), (aN, .inl (cB, 1000, .inl f))] → va_S A s.heap H locs → lv_has ls 7 [(4, .int (nI (n2 + 1))), (0, .ref aY), (1, .int (nI hw)), (2, .long p0)] → W p l e R s m args below meth c H locs cells slots Q (F0 m 64 ls [])) :
    ∀ (i j : Nat), j + i = n2 → ∀ (H : Heap) (locs : List Loc) (ls : Array Slot), va_P (dC, dI) vwCl [(aY, .inr (4, [.ref aM, .ref aN, .int (nI n), .int (nI k), .long v])), (aN, .inl (cB, 1000, .inl f))] H → va_D A [(aY, .inr (4, [.ref aM, .ref aN, .int (nI n), .int (nI k), .long v])), (aN, .inl (cB, 1000, .inl f))] → va_S A s.heap H locs → lv_has ls 7 [(4, .int (nI (j + 1))), (0, .ref aY), (1, .int (nI hw)), (2, .long p0)] → W p l e R s m args below meth c H locs cells slots Q (F0 m 48 ls []) := by
  have hn9 : n2 + 1 ≤ 10 := hl0.2.1
  intro i
  induction i with
  | zero =>
    intro j hj H locs ls hP hD hS hl
    obtain rfl : n2 = j := by omega
    have hm : ¬ gp_more hw (gp_left p0 n2) := hl0.2.2.2
    refine lv_iload_n hx hb dX4_write_48 rfl (lv_at hl 2 rfl) ?_
    refine lv_lload_n hx hb dX4_write_49 rfl (lv_at hl 3 rfl) ?_
    refine lv_iload hx hb dX4_write_50 (lv_at hl 0 rfl) ?_
    have hPc := hP.sub (ws' := []) [] rfl
    have hDc := hD.sub (ws' := []) [] (by decide) rfl
    have hFc := va_free (wc := []) hD hS hA [] rfl
    refine va_calli (va_runS (As := [.int (nI hw), .long p0, .int (nI (n2 + 1))]) (rest := []) ⟨hx, hb, hml, hown, hts⟩ (m_M_enough l dC dI cB hw (n2 + 1) p0 _ hw2 (by omega) (by omega) hv) (va_cwS 3 hts (lw_S q297 q298 q12 q299) rfl rfl rfl (by decide +kernel) ⟨Nat.le_trans (Nat.le_of_ble_eq_true rfl) hRf, Nat.le_trans (Nat.le_of_ble_eq_true rfl) hRl⟩) ⟨gC_bl, gC_of hPc hK hDc⟩ rfl rfl hl.1 rfl (lv_room (Nat.le_of_ble_eq_true rfl)) dX4_write_52 ⟨hRc, hRs⟩) hS (fun q _ h => hFc q h) hFc (fun r_1 u t H1 locs ht hvm hwA hB hz1 hk1 hS => ?_)
    obtain ⟨hP1, hD1⟩ := hB
    rw [ht] at hP1
    obtain ⟨hP, hD⟩ := va_join (wr := [(aY, .inr (4, [.ref aM, .ref aN, .int (nI n), .int (nI k), .long v])), (aN, .inl (cB, 1000, .inl f))]) (w1 := []) hP hD [] [0, 1] rfl rfl (by decide) (by decide) hk1 hFc hP1 hD1
    have hP := hP.sub (ws' := [(aY, .inr (4, [.ref aM, .ref aN, .int (nI n), .int (nI k), .long v])), (aN, .inl (cB, 1000, .inl f))]) [0, 1] rfl
    have hD := hD.sub (ws' := [(aY, .inr (4, [.ref aM, .ref aN, .int (nI n), .int (nI k), .long v])), (aN, .inl (cB, 1000, .inl f))]) [0, 1] (by decide) rfl
    generalize H1 = H at hP hS ⊢
    refine lv_if_ne (tgt := 64) hx hb dX4_write_55 (by decide) (fun c_2 => ?_) (fun c_2 => ?_)
    · exact kx H locs ls hP hD hS hl
    · exact absurd (hwA.resolve_left (fun z => absurd (z.1.symm.trans c_2) (by decide))).2 hm
  | succ i ih =>
    intro j hj H locs ls hP hD hS hl
    have hm := hl0.2.2.1 j (by omega)
    refine lv_iload_n hx hb dX4_write_48 rfl (lv_at hl 2 rfl) ?_
    refine lv_lload_n hx hb dX4_write_49 rfl (lv_at hl 3 rfl) ?_
    refine lv_iload hx hb dX4_write_50 (lv_at hl 0 rfl) ?_
    have hPc := hP.sub (ws' := []) [] rfl
    have hDc := hD.sub (ws' := []) [] (by decide) rfl
    have hFc := va_free (wc := []) hD hS hA [] rfl
    refine va_calli (va_runS (As := [.int (nI hw), .long p0, .int (nI (j + 1))]) (rest := []) ⟨hx, hb, hml, hown, hts⟩ (m_M_enough l dC dI cB hw (j + 1) p0 _ hw2 (by omega) (by omega) hv) (va_cwS 3 hts (lw_S q297 q298 q12 q299) rfl rfl rfl (by decide +kernel) ⟨Nat.le_trans (Nat.le_of_ble_eq_true rfl) hRf, Nat.le_trans (Nat.le_of_ble_eq_true rfl) hRl⟩) ⟨gC_bl, gC_of hPc hK hDc⟩ rfl rfl hl.1 rfl (lv_room (Nat.le_of_ble_eq_true rfl)) dX4_write_52 ⟨hRc, hRs⟩) hS (fun q _ h => hFc q h) hFc (fun r_1 u t H1 locs ht hvm hwA hB hz1 hk1 hS => ?_)
    obtain ⟨hP1, hD1⟩ := hB
    rw [ht] at hP1
    obtain ⟨hP, hD⟩ := va_join (wr := [(aY, .inr (4, [.ref aM, .ref aN, .int (nI n), .int (nI k), .long v])), (aN, .inl (cB, 1000, .inl f))]) (w1 := []) hP hD [] [0, 1] rfl rfl (by decide) (by decide) hk1 hFc hP1 hD1
    have hP := hP.sub (ws' := [(aY, .inr (4, [.ref aM, .ref aN, .int (nI n), .int (nI k), .long v])), (aN, .inl (cB, 1000, .inl f))]) [0, 1] rfl
    have hD := hD.sub (ws' := [(aY, .inr (4, [.ref aM, .ref aN, .int (nI n), .int (nI k), .long v])), (aN, .inl (cB, 1000, .inl f))]) [0, 1] (by decide) rfl
    generalize H1 = H at hP hS ⊢
    refine lv_if_ne (tgt := 64) hx hb dX4_write_55 (by decide) (fun c_2 => ?_) (fun c_2 => ?_)
    · exact absurd hm (hwA.resolve_right (fun z => c_2 z.1)).2
    · refine lv_iinc (v := nI (j + 1 + 1)) (lv' := [(4, .int (nI (j + 1 + 1))), (0, .ref aY), (1, .int (nI hw)), (2, .long p0)]) hx hb dX4_write_58 hl (k := 0) rfl (nI_1 _) (by decide) rfl (fun ls hl => ?_)
      refine lv_goto (tgt := 48) hx hb dX4_write_61 (by decide) ?_
      exact ih (j + 1) (by omega) H locs ls hP hD hS (lv_sub hl [0, 1, 2, 3] rfl)
set_option maxHeartbeats 4000000 in
/-- the second loop of GroupedNumbersModel.write: j bytes are out -/
theorem lo_M_emit {p : Program} {l : Launch} {e : Env} {R : Room} {s : State} {m : MethodId} {args : Array Value} {below : List Frame} {meth : Method} {c : Code} {Q : State → Prop} {dC : Nat → ClassId} {dI : Nat → Nat → Nat} {cB : ClassId} {A : Nat → Prop} {cells slots : Nat} (hx : p.tables.exec = Jvm.exec) (hb : c.code = cX4_write) (hml : c.maxLocals = 7) (hown : s.vm.findClass RX4 = some m.cls) (hts : ∀ w ∈ lw_all, w.before args s = true) (hA : ∀ q : Nat, s.heap.size ≤ q → A q) (hK : va_K (dC, dI) vwCl [(cB, .byte)] s) (hRf : 1 ≤ R.frames) (hRl : 24 ≤ R.locals) (hRc : cells ≤ R.cells) (hRs : slots ≤ R.slots) (aY aM aN : Nat) (n k n2 : Nat) (v p0 : Int64) (f : Nat → Int32) (hn9 : n2 + 1 ≤ 10) (hk : k + n2 + 1 ≤ 1000)
    (kx : ∀ (H : Heap) (locs : List Loc) (ls : Array Slot), va_P (dC, dI) vwCl [(aY, .inr (4, [.ref aM, .ref aN, .int (nI n), .int (nI (k + (n2 + 1))), .long v])), (aN, .inl (cB, 1000, .inl (gp_emit p0 (n2 + 1) f k (n2 + 1))))] H → va_D A [(aY, .inr (4, [.ref aM, .ref aN, .int (nI n), .int (nI (k + (n2 + 1))), .long v])), (aN, .inl (cB, 1000, .inl (gp_emit p0 (n2 + 1) f k (n2 + 1))))] → va_S A s.heap H locs → lv_has ls 7 [(5, .int (nI (n2 + 1))), (4, .int (nI (n2 + 1))), (0, .ref aY), (2, .long p0)] → W p l e R s m args below meth c H locs cells slots Q (F0 m 154 ls [])) :
    ∀ (i j : Nat), j + i = n2 + 1 → ∀ (H : Heap) (locs : List Loc) (ls : Array Slot), va_P (dC, dI) vwCl [(aY, .inr (4, [.ref aM, .ref aN, .int (nI n), .int (nI (k + j)), .long v])), (aN, .inl (cB, 1000, .inl (gp_emit p0 (n2 + 1) f k j)))] H → va_D A [(aY, .inr (4, [.ref aM, .ref aN, .int (nI n), .int (nI (k + j)), .long v])), (aN, .inl (cB, 1000, .inl (gp_emit p0 (n2 + 1) f k j)))] → va_S A s.heap H locs → lv_has ls 7 [(5, .int (nI j)), (4, .int (nI (n2 + 1))), (0, .ref aY), (2, .long p0)] → W p l e R s m args below meth c H locs cells slots Q (F0 m 83 ls []) := by
  intro i
  induction i with
  | zero =>
    intro j hj H locs ls hP hD hS hl
    have hj : n2 + 1 = j := by omega
    subst hj
    refine lv_iload hx hb dX4_write_83 (lv_at hl 0 rfl) ?_
    refine lv_iload hx hb dX4_write_85 (lv_at hl 1 rfl) ?_
    refine lv_icmp_ge (tgt := 154) hx hb dX4_write_87 (by decide) (fun c_1 => ?_) (fun c_1 => ?_)
    · exact kx H locs ls hP hD hS hl
    · exact absurd (nI_le (Nat.le_refl _) (by omega)) c_1
  | succ i ih =>
    intro j hj H locs ls hP hD hS hl
    refine lv_iload hx hb dX4_write_83 (lv_at hl 0 rfl) ?_
    refine lv_iload hx hb dX4_write_85 (lv_at hl 1 rfl) ?_
    refine lv_icmp_ge (tgt := 154) hx hb dX4_write_87 (by decide) (fun c_1 => ?_) (fun c_1 => ?_)
    · exact absurd c_1 (nI_ge (by omega) (by omega))
    · refine lv_lload_n hx hb dX4_write_90 rfl (lv_at hl 3 rfl) ?_
      refine lv_bipush (v := 7) hx hb dX4_write_91 (by decide) ?_
      refine lv_iload hx hb dX4_write_93 (lv_at hl 0 rfl) ?_
      refine lv_imul hx hb dX4_write_95 ?_
      refine lv_bipush (v := 63) hx hb dX4_write_96 (by decide) ?_
      refine va_mmin hx hb (hml.trans hl.1.symm) hown (hts _ q300) (hts _ q301) (hts _ q13) (hts _ q302) (Nat.le_trans (Nat.le_of_ble_eq_true rfl) hRf) (Nat.le_trans (Nat.le_of_ble_eq_true rfl) hRl) hRc hRs dX4_write_98 ?_
      refine lv_topi (fun z_2 ez_2 => ?_)
      rw [show z_2 = 7 * nI j from by rw [ez_2]; exact gp_min j (by omega)]
      refine lv_lshr (v := (p0 >>> (((7 * nI j)).toInt64 &&& 63))) hx hb dX4_write_101 rfl ?_
      refine lv_topl (fun z_3 ez_3 => ?_)
      rw [show z_3 = gp_left p0 j from by rw [ez_3]; exact gp_sh7 p0 (by omega)]
      refine lv_l2i (v := ((gp_left p0 j)).toInt32) hx hb dX4_write_102 rfl ?_
      refine lv_bipush (v := 127) hx hb dX4_write_103 (by decide) ?_
      refine lv_iand hx hb dX4_write_105 ?_
      refine lv_topi (fun z_4 ez_4 => ?_)
      rw [show z_4 = (gp_left p0 j &&& 127).toInt32 from by rw [ez_4]; exact gp_byteR _]
      refine lv_istore (lv' := [(6, .int ((gp_left p0 j &&& 127).toInt32)), (5, .int (nI j)), (4, .int (nI (n2 + 1))), (0, .ref aY), (2, .long p0)]) hx hb dX4_write_106 hl (by decide) rfl (fun ls hl => ?_)
      refine lv_aload_n hx hb dX4_write_108 rfl (lv_at hl 3 rfl) ?_
      refine va_get (D := (dC, dI)) (ci := 4) (v := .ref aN) (C := RX4) (T := TX4) (N := 5) hx hb hts in_X4 hown hK hP 0 rfl rfl 1 (by decide) (hts _ q256) (fun _ h9 => h9) rfl dX4_write_109 ?_
      refine lv_aload_n hx hb dX4_write_112 rfl (lv_at hl 3 rfl) ?_
      refine va_get (D := (dC, dI)) (ci := 4) (v := .int (nI (k + j))) (C := RX4) (T := TX4) (N := 5) hx hb hts in_X4 hown hK hP 0 rfl rfl 3 (by decide) (hts _ q258) (fun _ h9 => h9) rfl dX4_write_113 ?_
      refine lv_iload hx hb dX4_write_116 (lv_at hl 1 rfl) ?_
      refine lv_iload hx hb dX4_write_118 (lv_at hl 2 rfl) ?_
      refine lv_iconst (v := 1) hx hb dX4_write_120 (by decide) ?_
      refine lv_isub hx hb dX4_write_121 ?_
      refine lv_topi (fun z_5 ez_5 => ?_)
      rw [show z_5 = nI n2 from by rw [ez_5]; exact nI_pred n2]
      refine lv_icmp_ge (tgt := 134) hx hb dX4_write_122 (by decide) (fun c_6 => ?_) (fun c_6 => ?_)
      · have h2 : n2 ≤ j := gp_le (by omega) (by omega) c_6
        refine lv_iload hx hb dX4_write_134 (lv_at hl 0 rfl) ?_
        refine lv_i2b (v := (((gp_left p0 j &&& 127).toInt32)).toInt8.toInt32) hx hb dX4_write_136 rfl ?_
        refine va_bast hx hb hK hP hD hS 1 0 rfl rfl (vp_in_nI (by omega) (by omega)) dX4_write_137 (fun H locs hP hD hS => ?_)
        have hP : va_P (dC, dI) vwCl [(aY, .inr (4, [.ref aM, .ref aN, .int (nI n), .int (nI (k + j)), .long v])), (aN, .inl (cB, 1000, .inl (upd (gp_emit p0 (n2 + 1) f k j) ((nI (k + j))).toNatClampNeg (vp_nar .byte (((((gp_left p0 j &&& 127).toInt32)).toInt8.toInt32))))))] H := hP
        have hD : va_D A [(aY, .inr (4, [.ref aM, .ref aN, .int (nI n), .int (nI (k + j)), .long v])), (aN, .inl (cB, 1000, .inl (upd (gp_emit p0 (n2 + 1) f k j) ((nI (k + j))).toNatClampNeg (vp_nar .byte (((((gp_left p0 j &&& 127).toInt32)).toInt8.toInt32))))))] := hD
        have ef : upd (gp_emit p0 (n2 + 1) f k j) ((nI (k + j))).toNatClampNeg (vp_nar .byte (((((gp_left p0 j &&& 127).toInt32)).toInt8.toInt32))) = gp_emit p0 (n2 + 1) f k (j + 1) := by rw [nI_clamp (by omega), pk_vb]; show _ = upd _ _ (gp_byte p0 (n2 + 1) j); rw [gp_byte, if_neg (by omega)]
        rw [ef] at hP hD
        clear ef
        have hP : va_P (dC, dI) vwCl [(aY, .inr (4, [.ref aM, .ref aN, .int (nI n), .int (nI (k + j)), .long v])), (aN, .inl (cB, 1000, .inl (gp_emit p0 (n2 + 1) f k (j + 1))))] H := hP
        have hD : va_D A [(aY, .inr (4, [.ref aM, .ref aN, .int (nI n), .int (nI (k + j)), .long v])), (aN, .inl (cB, 1000, .inl (gp_emit p0 (n2 + 1) f k (j + 1))))] := hD
        refine lv_aload_n hx hb dX4_write_138 rfl (lv_at hl 3 rfl) ?_
        refine lv_dup hx hb dX4_write_139 rfl ?_
        refine va_get (D := (dC, dI)) (ci := 4) (v := .int (nI (k + j))) (C := RX4) (T := TX4) (N := 5) hx hb hts in_X4 hown hK hP 0 rfl rfl 3 (by decide) (hts _ q258) (fun _ h9 => h9) rfl dX4_write_140 ?_
        refine lv_iconst (v := 1) hx hb dX4_write_143 (by decide) ?_
        refine lv_iadd hx hb dX4_write_144 ?_
        refine lv_topi (fun z_7 ez_7 => ?_)
        rw [show z_7 = nI (k + (j + 1)) from by rw [ez_7]; exact nI_1 (k + j)]
        refine va_put (D := (dC, dI)) (ci := 4) (v := .int (nI (k + (j + 1)))) (ty := .int) (C := RX4) (T := TX4) (N := 5) hx hb hts in_X4 tyX4 tyX4_ok nmX4 hown hK hP hD hS 0 rfl rfl 3 (by decide) (hts _ q258) (fun _ h9 => h9) rfl (by decide +kernel) rfl rfl (Nat.le_of_ble_eq_true rfl) dX4_write_145 (fun H locs hP hD hS => ?_)
        have hP : va_P (dC, dI) vwCl [(aY, .inr (4, [.ref aM, .ref aN, .int (nI n), .int (nI (k + (j + 1))), .long v])), (aN, .inl (cB, 1000, .inl (gp_emit p0 (n2 + 1) f k (j + 1))))] H := hP
        have hD : va_D A [(aY, .inr (4, [.ref aM, .ref aN, .int (nI n), .int (nI (k + (j + 1))), .long v])), (aN, .inl (cB, 1000, .inl (gp_emit p0 (n2 + 1) f k (j + 1))))] := hD
        refine lv_iinc (v := nI (j + 1)) (lv' := [(5, .int (nI (j + 1))), (6, .int ((gp_left p0 j &&& 127).toInt32)), (4, .int (nI (n2 + 1))), (0, .ref aY), (2, .long p0)]) hx hb dX4_write_148 hl (k := 1) rfl (nI_1 j) (by decide) rfl (fun ls hl => ?_)
        refine lv_goto (tgt := 83) hx hb dX4_write_151 (by decide) ?_
        exact ih (j + 1) (by omega) H locs ls hP hD hS (lv_sub hl [0, 2, 3, 4] rfl)
      · have h2 : j < n2 := gp_nle (by omega) (by omega) c_6
        refine lv_iload hx hb dX4_write_125 (lv_at hl 0 rfl) ?_
        refine lv_sipush (v := 128) hx hb dX4_write_127 (by decide) ?_
        refine lv_ior hx hb dX4_write_130 ?_
        refine lv_goto (tgt := 136) hx hb dX4_write_131 (by decide) ?_
        refine lv_i2b (v := ((((gp_left p0 j &&& 127).toInt32) ||| 128)).toInt8.toInt32) hx hb dX4_write_136 rfl ?_
        refine va_bast hx hb hK hP hD hS 1 0 rfl rfl (vp_in_nI (by omega) (by omega)) dX4_write_137 (fun H locs hP hD hS => ?_)
        have hP : va_P (dC, dI) vwCl [(aY, .inr (4, [.ref aM, .ref aN, .int (nI n), .int (nI (k + j)), .long v])), (aN, .inl (cB, 1000, .inl (upd (gp_emit p0 (n2 + 1) f k j) ((nI (k + j))).toNatClampNeg (vp_nar .byte ((((((gp_left p0 j &&& 127).toInt32) ||| 128)).toInt8.toInt32))))))] H := hP
        have hD : va_D A [(aY, .inr (4, [.ref aM, .ref aN, .int (nI n), .int (nI (k + j)), .long v])), (aN, .inl (cB, 1000, .inl (upd (gp_emit p0 (n2 + 1) f k j) ((nI (k + j))).toNatClampNeg (vp_nar .byte ((((((gp_left p0 j &&& 127).toInt32) ||| 128)).toInt8.toInt32))))))] := hD
        have ef : upd (gp_emit p0 (n2 + 1) f k j) ((nI (k + j))).toNatClampNeg (vp_nar .byte ((((((gp_left p0 j &&& 127).toInt32) ||| 128)).toInt8.toInt32))) = gp_emit p0 (n2 + 1) f k (j + 1) := by rw [nI_clamp (by omega), pk_vb]; show _ = upd _ _ (gp_byte p0 (n2 + 1) j); rw [gp_byte, if_pos (by omega)]
        rw [ef] at hP hD
        clear ef
        have hP : va_P (dC, dI) vwCl [(aY, .inr (4, [.ref aM, .ref aN, .int (nI n), .int (nI (k + j)), .long v])), (aN, .inl (cB, 1000, .inl (gp_emit p0 (n2 + 1) f k (j + 1))))] H := hP
        have hD : va_D A [(aY, .inr (4, [.ref aM, .ref aN, .int (nI n), .int (nI (k + j)), .long v])), (aN, .inl (cB, 1000, .inl (gp_emit p0 (n2 + 1) f k (j + 1))))] := hD
        refine lv_aload_n hx hb dX4_write_138 rfl (lv_at hl 3 rfl) ?_
        refine lv_dup hx hb dX4_write_139 rfl ?_
        refine va_get (D := (dC, dI)) (ci := 4) (v := .int (nI (k + j))) (C := RX4) (T := TX4) (N := 5) hx hb hts in_X4 hown hK hP 0 rfl rfl 3 (by decide) (hts _ q258) (fun _ h9 => h9) rfl dX4_write_140 ?_
        refine lv_iconst (v := 1) hx hb dX4_write_143 (by decide) ?_
        refine lv_iadd hx hb dX4_write_144 ?_
        refine lv_topi (fun z_7 ez_7 => ?_)
        rw [show z_7 = nI (k + (j + 1)) from by rw [ez_7]; exact nI_1 (k + j)]
        refine va_put (D := (dC, dI)) (ci := 4) (v := .int (nI (k + (j + 1)))) (ty := .int) (C := RX4) (T := TX4) (N := 5) hx hb hts in_X4 tyX4 tyX4_ok nmX4 hown hK hP hD hS 0 rfl rfl 3 (by decide) (hts _ q258) (fun _ h9 => h9) rfl (by decide +kernel) rfl rfl (Nat.le_of_ble_eq_true rfl) dX4_write_145 (fun H locs hP hD hS => ?_)
        have hP : va_P (dC, dI) vwCl [(aY, .inr (4, [.ref aM, .ref aN, .int (nI n), .int (nI (k + (j + 1))), .long v])), (aN, .inl (cB, 1000, .inl (gp_emit p0 (n2 + 1) f k (j + 1))))] H := hP
        have hD : va_D A [(aY, .inr (4, [.ref aM, .ref aN, .int (nI n), .int (nI (k + (j + 1))), .long v])), (aN, .inl (cB, 1000, .inl (gp_emit p0 (n2 + 1) f k (j + 1))))] := hD
        refine lv_iinc (v := nI (j + 1)) (lv' := [(5, .int (nI (j + 1))), (6, .int ((gp_left p0 j &&& 127).toInt32)), (4, .int (nI (n2 + 1))), (0, .ref aY), (2, .long p0)]) hx hb dX4_write_148 hl (k := 1) rfl (nI_1 j) (by decide) rfl (fun ls hl => ?_)
        refine lv_goto (tgt := 83) hx hb dX4_write_151 (by decide) ?_
        exact ih (j + 1) (by omega) H locs ls hP hD hS (lv_sub hl [0, 2, 3, 4] rfl)
set_option maxHeartbeats 4000000 in
/-- GroupedNumbersModel.write, no such way -/
theorem m_M_writeN (l : Launch) (dC : Nat → ClassId) (dI : Nat → Nat → Nat) (cB : ClassId) (aY aM aN : Nat) (n k : Nat) (v p0 : Int64) (f : Nat → Int32) (x : Int32) (sz : Nat) (hx0 : x < 0 ∨ 2 < x) : Met l yX4_write (ws_ yX4_write cX4_write 7 (some .int)) ({ frames := 1, cells := 0, slots := 0, locals := 24 }) (gC dC dI [.ref aY, .int x, .long p0] [(aY, .inr (4, [.ref aM, .ref aN, .int (nI n), .int (nI k), .long v])), (aN, .inl (cB, 1000, .inl f))] [(cB, .byte)] sz) (va_Qi (fun (r : Int32) (_ : Unit) => r = -2) (fun (_ : Unit) t => gB dC dI (va_A [(aY, .inr (4, [.ref aM, .ref aN, .int (nI n), .int (nI k), .long v])), (aN, .inl (cB, 1000, .inl f))] sz) [(aY, .inr (4, [.ref aM, .ref aN, .int (nI n), .int (nI k), .long v])), (aN, .inl (cB, 1000, .inl f))] t) (va_A [(aY, .inr (4, [.ref aM, .ref aN, .int (nI n), .int (nI k), .long v])), (aN, .inl (cB, 1000, .inl f))] sz)) 0 0 (va_A [(aY, .inr (4, [.ref aM, .ref aN, .int (nI n), .int (nI k), .long v])), (aN, .inl (cB, 1000, .inl f))] sz) := by
  refine Met.ofW (cc := cX4_write) (maxL := 7) (ret := (some .int)) (by decide) rfl ?_
  intro p e s m args below meth c s₁ B hml hv
  obtain ⟨rfl, hsz, hP, hK, hD0⟩ := hv
  have hx := B.exec
  have hb := B.bytes
  have hr := B.returns
  have hts0 := atoms_spec (ws := (ws_ yX4_write cX4_write 7 (some .int))) B.pre
  have hts : ∀ w ∈ lw_all, w.before _ s = true := fun w h => hts0 w (List.mem_cons_of_mem _ h)
  have hown : s.vm.findClass RX4 = some m.cls := findClass_of_methodNamed B.named
  have hlocks := B.notSynchronized
  subst hsz
  have hD := hD0.self (sz := s.heap.size)
  generalize hAe : va_A [(aY, .inr (4, [.ref aM, .ref aN, .int (nI n), .int (nI k), .long v])), (aN, .inl (cB, 1000, .inl f))] s.heap.size = A at hD ⊢
  have hA : ∀ q : Nat, s.heap.size ≤ q → A q := fun q h => by rw [← hAe]; exact Or.inr h
  have hS : va_S A s.heap s.heap [] := va_S.rf
  have hP : va_P (dC, dI) vwCl [(aY, .inr (4, [.ref aM, .ref aN, .int (nI n), .int (nI k), .long v])), (aN, .inl (cB, 1000, .inl f))] s.heap := hP
  have hl := lv_entry ([.ref aY, .int x, .long p0]) (n := 7) (Nat.le_of_ble_eq_true rfl)
  rw [lg_entry_eq]
  generalize (lg_sl ([.ref aY, .int x, .long p0]) ++ List.replicate (7 - (lg_sl ([.ref aY, .int x, .long p0])).length) Slot.unset).toArray = ls at hl ⊢
  have hl : lv_has ls 7 [(0, .ref aY), (1, .int x), (2, .long p0)] := hl
  refine lv_iload_n hx hb dX4_write_0 rfl (lv_at hl 1 rfl) ?_
  refine lv_if_lt (tgt := 9) hx hb dX4_write_1 (by decide) (fun c_1 => ?_) (fun c_1 => ?_)
  · refine lv_bipush (v := (-2)) hx hb dX4_write_9 (by decide) ?_
    exact W.iret (v := (-2)) hx hb hr (fun t ht hW => ⟨⟨(-2), (), rfl, rfl, by rw [ht]; exact hP, hD⟩, hS.F ht⟩) hS.2.2 dX4_write_11
  · refine lv_iload_n hx hb dX4_write_4 rfl (lv_at hl 1 rfl) ?_
    refine lv_iconst (v := 2) hx hb dX4_write_5 (by decide) ?_
    refine lv_icmp_le (tgt := 12) hx hb dX4_write_6 (by decide) (fun c_2 => ?_) (fun c_2 => ?_)
    · exact absurd hx0 (fun z => z.elim c_1 (Int32.not_lt.mpr c_2))
    · refine lv_bipush (v := (-2)) hx hb dX4_write_9 (by decide) ?_
      exact W.iret (v := (-2)) hx hb hr (fun t ht hW => ⟨⟨(-2), (), rfl, rfl, by rw [ht]; exact hP, hD⟩, hS.F ht⟩) hS.2.2 dX4_write_11
set_option maxHeartbeats 4000000 in
/-- GroupedNumbersModel.write, out of range -/
theorem m_M_writeR (l : Launch) (dC : Nat → ClassId) (dI : Nat → Nat → Nat) (cB : ClassId) (aY aM aN : Nat) (n k : Nat) (v p0 : Int64) (f : Nat → Int32) (hw : Nat) (sz : Nat) (hw2 : hw ≤ 2) (hr0 : gp_rng hw p0) : Met l yX4_write (ws_ yX4_write cX4_write 7 (some .int)) ({ frames := 1, cells := 0, slots := 0, locals := 24 }) (gC dC dI [.ref aY, .int (nI hw), .long p0] [(aY, .inr (4, [.ref aM, .ref aN, .int (nI n), .int (nI k), .long v])), (aN, .inl (cB, 1000, .inl f))] [(cB, .byte)] sz) (va_Qi (fun (r : Int32) (_ : Unit) => r = -1) (fun (_ : Unit) t => gB dC dI (va_A [(aY, .inr (4, [.ref aM, .ref aN, .int (nI n), .int (nI k), .long v])), (aN, .inl (cB, 1000, .inl f))] sz) [(aY, .inr (4, [.ref aM, .ref aN, .int (nI n), .int (nI k), .long v])), (aN, .inl (cB, 1000, .inl f))] t) (va_A [(aY, .inr (4, [.ref aM, .ref aN, .int (nI n), .int (nI k), .long v])), (aN, .inl (cB, 1000, .inl f))] sz)) 0 0 (va_A [(aY, .inr (4, [.ref aM, .ref aN, .int (nI n), .int (nI k), .long v])), (aN, .inl (cB, 1000, .inl f))] sz) := by
  refine Met.ofW (cc := cX4_write) (maxL := 7) (ret := (some .int)) (by decide) rfl ?_
  intro p e s m args below meth c s₁ B hml hv
  obtain ⟨rfl, hsz, hP, hK, hD0⟩ := hv
  have hx := B.exec
  have hb := B.bytes
  have hr := B.returns
  have hts0 := atoms_spec (ws := (ws_ yX4_write cX4_write 7 (some .int))) B.pre
  have hts : ∀ w ∈ lw_all, w.before _ s = true := fun w h => hts0 w (List.mem_cons_of_mem _ h)
  have hown : s.vm.findClass RX4 = some m.cls := findClass_of_methodNamed B.named
  have hlocks := B.notSynchronized
  subst hsz
  have hD := hD0.self (sz := s.heap.size)
  generalize hAe : va_A [(aY, .inr (4, [.ref aM, .ref aN, .int (nI n), .int (nI k), .long v])), (aN, .inl (cB, 1000, .inl f))] s.heap.size = A at hD ⊢
  have hA : ∀ q : Nat, s.heap.size ≤ q → A q := fun q h => by rw [← hAe]; exact Or.inr h
  have hS : va_S A s.heap s.heap [] := va_S.rf
  have hP : va_P (dC, dI) vwCl [(aY, .inr (4, [.ref aM, .ref aN, .int (nI n), .int (nI k), .long v])), (aN, .inl (cB, 1000, .inl f))] s.heap := hP
  have hl := lv_entry ([.ref aY, .int (nI hw), .long p0]) (n := 7) (Nat.le_of_ble_eq_true rfl)
  rw [lg_entry_eq]
  generalize (lg_sl ([.ref aY, .int (nI hw), .long p0]) ++ List.replicate (7 - (lg_sl ([.ref aY, .int (nI hw), .long p0])).length) Slot.unset).toArray = ls at hl ⊢
  have hl : lv_has ls 7 [(0, .ref aY), (1, .int (nI hw)), (2, .long p0)] := hl
  rcases (show hw = 0 ∨ hw = 1 ∨ hw = 2 by omega) with rfl | rfl | rfl
  · refine lv_iload_n hx hb dX4_write_0 rfl (lv_at hl 1 rfl) ?_
    refine lv_if_lt (tgt := 9) hx hb dX4_write_1 (by decide) (fun c_1 => ?_) (fun c_1 => ?_)
    · exact absurd c_1 (by decide)
    · refine lv_iload_n hx hb dX4_write_4 rfl (lv_at hl 1 rfl) ?_
      refine lv_iconst (v := 2) hx hb dX4_write_5 (by decide) ?_
      refine lv_icmp_le (tgt := 12) hx hb dX4_write_6 (by decide) (fun c_2 => ?_) (fun c_2 => ?_)
      · refine lv_iload_n hx hb dX4_write_12 rfl (lv_at hl 1 rfl) ?_
        refine lv_if_ne (tgt := 30) hx hb dX4_write_13 (by decide) (fun c_3 => ?_) (fun c_3 => ?_)
        · exact absurd rfl c_3
        · refine lv_lload_n hx hb dX4_write_16 rfl (lv_at hl 2 rfl) ?_
          refine lv_lconst (v := 0) hx hb dX4_write_17 rfl ?_
          refine W.lcmp hx hb dX4_write_18 ?_
          refine lv_if_lt (tgt := 43) hx hb dX4_write_19 (by decide) (fun c_4 => ?_) (fun c_4 => ?_)
          · refine lv_iconst (v := (-1)) hx hb dX4_write_43 (by decide) ?_
            exact W.iret (v := (-1)) hx hb hr (fun t ht hW => ⟨⟨(-1), (), rfl, rfl, by rw [ht]; exact hP, hD⟩, hS.F ht⟩) hS.2.2 dX4_write_44
          · refine lv_lload_n hx hb dX4_write_22 rfl (lv_at hl 2 rfl) ?_
            refine lv_ldc2 (v := 4294967295) hx hb hown (hts _ q296) dX4_write_23 ?_
            refine W.lcmp hx hb dX4_write_26 ?_
            refine lv_if_gt (tgt := 43) hx hb dX4_write_27 (by decide) (fun c_5 => ?_) (fun c_5 => ?_)
            · refine lv_iconst (v := (-1)) hx hb dX4_write_43 (by decide) ?_
              exact W.iret (v := (-1)) hx hb hr (fun t ht hW => ⟨⟨(-1), (), rfl, rfl, by rw [ht]; exact hP, hD⟩, hS.F ht⟩) hS.2.2 dX4_write_44
            · exact absurd hr0 (fun z => z.elim (fun z => z.2.elim (gp_clt' c_4) (mt (lg_cmp_gt _ _).mpr c_5)) (fun z => absurd z.1 (by decide)))
      · exact absurd (by decide) c_2
  · refine lv_iload_n hx hb dX4_write_0 rfl (lv_at hl 1 rfl) ?_
    refine lv_if_lt (tgt := 9) hx hb dX4_write_1 (by decide) (fun c_1 => ?_) (fun c_1 => ?_)
    · exact absurd c_1 (by decide)
    · refine lv_iload_n hx hb dX4_write_4 rfl (lv_at hl 1 rfl) ?_
      refine lv_iconst (v := 2) hx hb dX4_write_5 (by decide) ?_
      refine lv_icmp_le (tgt := 12) hx hb dX4_write_6 (by decide) (fun c_2 => ?_) (fun c_2 => ?_)
      · refine lv_iload_n hx hb dX4_write_12 rfl (lv_at hl 1 rfl) ?_
        refine lv_if_ne (tgt := 30) hx hb dX4_write_13 (by decide) (fun c_3 => ?_) (fun c_3 => ?_)
        · refine lv_iload_n hx hb dX4_write_30 rfl (lv_at hl 1 rfl) ?_
          refine lv_iconst (v := 1) hx hb dX4_write_31 (by decide) ?_
          refine lv_icmp_ne (tgt := 45) hx hb dX4_write_32 (by decide) (fun c_4 => ?_) (fun c_4 => ?_)
          · exact absurd rfl c_4
          · refine lv_lload_n hx hb dX4_write_35 rfl (lv_at hl 2 rfl) ?_
            refine lv_lload_n hx hb dX4_write_36 rfl (lv_at hl 2 rfl) ?_
            refine lv_l2i (v := (p0).toInt32) hx hb dX4_write_37 rfl ?_
            refine lv_i2l (v := (((p0).toInt32)).toInt64) hx hb dX4_write_38 rfl ?_
            refine W.lcmp hx hb dX4_write_39 ?_
            refine lv_if_eq (tgt := 45) hx hb dX4_write_40 (by decide) (fun c_5 => ?_) (fun c_5 => ?_)
            · exact absurd hr0 (fun z => z.elim (fun z => absurd z.1 (by decide)) (fun z => z.2 ((lg_cmp_eq _ _).mp c_5)))
            · refine lv_iconst (v := (-1)) hx hb dX4_write_43 (by decide) ?_
              exact W.iret (v := (-1)) hx hb hr (fun t ht hW => ⟨⟨(-1), (), rfl, rfl, by rw [ht]; exact hP, hD⟩, hS.F ht⟩) hS.2.2 dX4_write_44
        · exact absurd c_3 (by decide)
      · exact absurd (by decide) c_2
  · refine lv_iload_n hx hb dX4_write_0 rfl (lv_at hl 1 rfl) ?_
    refine lv_if_lt (tgt := 9) hx hb dX4_write_1 (by decide) (fun c_1 => ?_) (fun c_1 => ?_)
    · exact absurd c_1 (by decide)
    · refine lv_iload_n hx hb dX4_write_4 rfl (lv_at hl 1 rfl) ?_
      refine lv_iconst (v := 2) hx hb dX4_write_5 (by decide) ?_
      refine lv_icmp_le (tgt := 12) hx hb dX4_write_6 (by decide) (fun c_2 => ?_) (fun c_2 => ?_)
      · refine lv_iload_n hx hb dX4_write_12 rfl (lv_at hl 1 rfl) ?_
        refine lv_if_ne (tgt := 30) hx hb dX4_write_13 (by decide) (fun c_3 => ?_) (fun c_3 => ?_)
        · refine lv_iload_n hx hb dX4_write_30 rfl (lv_at hl 1 rfl) ?_
          refine lv_iconst (v := 1) hx hb dX4_write_31 (by decide) ?_
          refine lv_icmp_ne (tgt := 45) hx hb dX4_write_32 (by decide) (fun c_4 => ?_) (fun c_4 => ?_)
          · exact absurd hr0 (fun z => z.elim (fun z => absurd z.1 (by decide)) (fun z => absurd z.1 (by decide)))
          · exact absurd c_4 (by decide)
        · exact absurd c_3 (by decide)
      · exact absurd (by decide) c_2
set_option maxHeartbeats 4000000 in
/-- GroupedNumbersModel.write, no room -/
theorem m_M_writeF (l : Launch) (dC : Nat → ClassId) (dI : Nat → Nat → Nat) (cB : ClassId) (aY aM aN : Nat) (n k : Nat) (v p0 : Int64) (f : Nat → Int32) (hw : Nat) (n2 : Nat) (sz : Nat) (hw2 : hw ≤ 2) (hr0 : ¬ gp_rng hw p0) (hl0 : gp_Len hw p0 (n2 + 1)) (hk0 : k ≤ 1000) (hk : 1000 < k + n2 + 1) : Met l yX4_write (ws_ yX4_write cX4_write 7 (some .int)) ({ frames := 1, cells := 0, slots := 0, locals := 24 }) (gC dC dI [.ref aY, .int (nI hw), .long p0] [(aY, .inr (4, [.ref aM, .ref aN, .int (nI n), .int (nI k), .long v])), (aN, .inl (cB, 1000, .inl f))] [(cB, .byte)] sz) (va_Qi (fun (r : Int32) (_ : Unit) => r = -2) (fun (_ : Unit) t => gB dC dI (va_A [(aY, .inr (4, [.ref aM, .ref aN, .int (nI n), .int (nI k), .long v])), (aN, .inl (cB, 1000, .inl f))] sz) [(aY, .inr (4, [.ref aM, .ref aN, .int (nI n), .int (nI k), .long v])), (aN, .inl (cB, 1000, .inl f))] t) (va_A [(aY, .inr (4, [.ref aM, .ref aN, .int (nI n), .int (nI k), .long v])), (aN, .inl (cB, 1000, .inl f))] sz)) 0 0 (va_A [(aY, .inr (4, [.ref aM, .ref aN, .int (nI n), .int (nI k), .long v])), (aN, .inl (cB, 1000, .inl f))] sz) := by
  refine Met.ofW (cc := cX4_write) (maxL := 7) (ret := (some .int)) (by decide) rfl ?_
  intro p e s m args below meth c s₁ B hml hv
  obtain ⟨rfl, hsz, hP, hK, hD0⟩ := hv
  have hx := B.exec
  have hb := B.bytes
  have hr := B.returns
  have hts0 := atoms_spec (ws := (ws_ yX4_write cX4_write 7 (some .int))) B.pre
  have hts : ∀ w ∈ lw_all, w.before _ s = true := fun w h => hts0 w (List.mem_cons_of_mem _ h)
  have hown : s.vm.findClass RX4 = some m.cls := findClass_of_methodNamed B.named
  have hlocks := B.notSynchronized
  subst hsz
  have hD := hD0.self (sz := s.heap.size)
  generalize hAe : va_A [(aY, .inr (4, [.ref aM, .ref aN, .int (nI n), .int (nI k), .long v])), (aN, .inl (cB, 1000, .inl f))] s.heap.size = A at hD ⊢
  have hA : ∀ q : Nat, s.heap.size ≤ q → A q := fun q h => by rw [← hAe]; exact Or.inr h
  have hS : va_S A s.heap s.heap [] := va_S.rf
  have hP : va_P (dC, dI) vwCl [(aY, .inr (4, [.ref aM, .ref aN, .int (nI n), .int (nI k), .long v])), (aN, .inl (cB, 1000, .inl f))] s.heap := hP
  have hl := lv_entry ([.ref aY, .int (nI hw), .long p0]) (n := 7) (Nat.le_of_ble_eq_true rfl)
  rw [lg_entry_eq]
  generalize (lg_sl ([.ref aY, .int (nI hw), .long p0]) ++ List.replicate (7 - (lg_sl ([.ref aY, .int (nI hw), .long p0])).length) Slot.unset).toArray = ls at hl ⊢
  have hl : lv_has ls 7 [(0, .ref aY), (1, .int (nI hw)), (2, .long p0)] := hl
  have hn9 : n2 + 1 ≤ 10 := hl0.2.1
  rcases (show hw = 0 ∨ hw = 1 ∨ hw = 2 by omega) with rfl | rfl | rfl
  · refine lv_iload_n hx hb dX4_write_0 rfl (lv_at hl 1 rfl) ?_
    refine lv_if_lt (tgt := 9) hx hb dX4_write_1 (by decide) (fun c_1 => ?_) (fun c_1 => ?_)
    · exact absurd c_1 (by decide)
    · refine lv_iload_n hx hb dX4_write_4 rfl (lv_at hl 1 rfl) ?_
      refine lv_iconst (v := 2) hx hb dX4_write_5 (by decide) ?_
      refine lv_icmp_le (tgt := 12) hx hb dX4_write_6 (by decide) (fun c_2 => ?_) (fun c_2 => ?_)
      · refine lv_iload_n hx hb dX4_write_12 rfl (lv_at hl 1 rfl) ?_
        refine lv_if_ne (tgt := 30) hx hb dX4_write_13 (by decide) (fun c_3 => ?_) (fun c_3 => ?_)
        · exact absurd rfl c_3
        · refine lv_lload_n hx hb dX4_write_16 rfl (lv_at hl 2 rfl) ?_
          refine lv_lconst (v := 0) hx hb dX4_write_17 rfl ?_
          refine W.lcmp hx hb dX4_write_18 ?_
          refine lv_if_lt (tgt := 43) hx hb dX4_write_19 (by decide) (fun c_4 => ?_) (fun c_4 => ?_)
          · exact absurd (Or.inl ⟨rfl, Or.inl (gp_clt c_4)⟩) hr0
          · refine lv_lload_n hx hb dX4_write_22 rfl (lv_at hl 2 rfl) ?_
            refine lv_ldc2 (v := 4294967295) hx hb hown (hts _ q296) dX4_write_23 ?_
            refine W.lcmp hx hb dX4_write_26 ?_
            refine lv_if_gt (tgt := 43) hx hb dX4_write_27 (by decide) (fun c_5 => ?_) (fun c_5 => ?_)
            · exact absurd (Or.inl ⟨rfl, Or.inr ((lg_cmp_gt _ _).mp c_5)⟩) hr0
            · refine lv_iload_n hx hb dX4_write_30 rfl (lv_at hl 1 rfl) ?_
              refine lv_iconst (v := 1) hx hb dX4_write_31 (by decide) ?_
              refine lv_icmp_ne (tgt := 45) hx hb dX4_write_32 (by decide) (fun c_6 => ?_) (fun c_6 => ?_)
              · refine lv_iconst (v := 1) hx hb dX4_write_45 (by decide) ?_
                refine lv_topi (fun z_7 ez_7 => ?_)
                rw [show z_7 = nI (0 + 1) from by rw [ez_7]; rfl]
                refine lv_istore (lv' := [(4, .int (nI (0 + 1))), (0, .ref aY), (1, .int (nI 0)), (2, .long p0)]) hx hb dX4_write_46 hl (by decide) rfl (fun ls hl => ?_)
                refine lo_M_enough hx hb hml hown hts hA hK (Nat.le_of_ble_eq_true rfl) (Nat.le_of_ble_eq_true rfl) (Nat.zero_le _) (Nat.zero_le _) aY aM aN n k 0 n2 v p0 f (by decide) (fun _ => gp_rng0 hr0) hl0 (fun H locs ls hP hD hS hl => ?_) n2 0 (by omega) s.heap [] ls hP hD hS (lv_sub hl [0, 1, 2, 3] rfl)
                refine lv_aload_n hx hb dX4_write_64 rfl (lv_at hl 1 rfl) ?_
                refine va_get (D := (dC, dI)) (ci := 4) (v := .int (nI k)) (C := RX4) (T := TX4) (N := 5) hx hb hts in_X4 hown hK hP 0 rfl rfl 3 (by decide) (hts _ q258) (fun _ h9 => h9) rfl dX4_write_65 ?_
                refine lv_iload hx hb dX4_write_68 (lv_at hl 0 rfl) ?_
                refine lv_iadd hx hb dX4_write_70 ?_
                refine lv_topi (fun z_8 ez_8 => ?_)
                rw [show z_8 = nI (k + (n2 + 1)) from by rw [ez_8]; exact nI_add k (n2 + 1)]
                refine lv_sipush (v := 1000) hx hb dX4_write_71 (by decide) ?_
                refine lv_icmp_le (tgt := 80) hx hb dX4_write_74 (by decide) (fun c_9 => ?_) (fun c_9 => ?_)
                · exact absurd (gp_le (b := 1000) (by omega) (by omega) c_9) (by omega)
                · refine lv_bipush (v := (-2)) hx hb dX4_write_77 (by decide) ?_
                  exact W.iret (v := (-2)) hx hb hr (fun t ht hW => ⟨⟨(-2), (), rfl, rfl, by rw [ht]; exact hP, hD⟩, hS.F ht⟩) hS.2.2 dX4_write_79
              · exact absurd c_6 (by decide)
      · exact absurd (by decide) c_2
  · refine lv_iload_n hx hb dX4_write_0 rfl (lv_at hl 1 rfl) ?_
    refine lv_if_lt (tgt := 9) hx hb dX4_write_1 (by decide) (fun c_1 => ?_) (fun c_1 => ?_)
    · exact absurd c_1 (by decide)
    · refine lv_iload_n hx hb dX4_write_4 rfl (lv_at hl 1 rfl) ?_
      refine lv_iconst (v := 2) hx hb dX4_write_5 (by decide) ?_
      refine lv_icmp_le (tgt := 12) hx hb dX4_write_6 (by decide) (fun c_2 => ?_) (fun c_2 => ?_)
      · refine lv_iload_n hx hb dX4_write_12 rfl (lv_at hl 1 rfl) ?_
        refine lv_if_ne (tgt := 30) hx hb dX4_write_13 (by decide) (fun c_3 => ?_) (fun c_3 => ?_)
        · refine lv_iload_n hx hb dX4_write_30 rfl (lv_at hl 1 rfl) ?_
          refine lv_iconst (v := 1) hx hb dX4_write_31 (by decide) ?_
          refine lv_icmp_ne (tgt := 45) hx hb dX4_write_32 (by decide) (fun c_4 => ?_) (fun c_4 => ?_)
          · exact absurd rfl c_4
          · refine lv_lload_n hx hb dX4_write_35 rfl (lv_at hl 2 rfl) ?_
            refine lv_lload_n hx hb dX4_write_36 rfl (lv_at hl 2 rfl) ?_
            refine lv_l2i (v := (p0).toInt32) hx hb dX4_write_37 rfl ?_
            refine lv_i2l (v := (((p0).toInt32)).toInt64) hx hb dX4_write_38 rfl ?_
            refine W.lcmp hx hb dX4_write_39 ?_
            refine lv_if_eq (tgt := 45) hx hb dX4_write_40 (by decide) (fun c_5 => ?_) (fun c_5 => ?_)
            · refine lv_iconst (v := 1) hx hb dX4_write_45 (by decide) ?_
              refine lv_topi (fun z_6 ez_6 => ?_)
              rw [show z_6 = nI (0 + 1) from by rw [ez_6]; rfl]
              refine lv_istore (lv' := [(4, .int (nI (0 + 1))), (0, .ref aY), (1, .int (nI 1)), (2, .long p0)]) hx hb dX4_write_46 hl (by decide) rfl (fun ls hl => ?_)
              refine lo_M_enough hx hb hml hown hts hA hK (Nat.le_of_ble_eq_true rfl) (Nat.le_of_ble_eq_true rfl) (Nat.zero_le _) (Nat.zero_le _) aY aM aN n k 1 n2 v p0 f (by decide) (fun z => absurd z (by decide)) hl0 (fun H locs ls hP hD hS hl => ?_) n2 0 (by omega) s.heap [] ls hP hD hS (lv_sub hl [0, 1, 2, 3] rfl)
              refine lv_aload_n hx hb dX4_write_64 rfl (lv_at hl 1 rfl) ?_
              refine va_get (D := (dC, dI)) (ci := 4) (v := .int (nI k)) (C := RX4) (T := TX4) (N := 5) hx hb hts in_X4 hown hK hP 0 rfl rfl 3 (by decide) (hts _ q258) (fun _ h9 => h9) rfl dX4_write_65 ?_
              refine lv_iload hx hb dX4_write_68 (lv_at hl 0 rfl) ?_
              refine lv_iadd hx hb dX4_write_70 ?_
              refine lv_topi (fun z_7 ez_7 => ?_)
              rw [show z_7 = nI (k + (n2 + 1)) from by rw [ez_7]; exact nI_add k (n2 + 1)]
              refine lv_sipush (v := 1000) hx hb dX4_write_71 (by decide) ?_
              refine lv_icmp_le (tgt := 80) hx hb dX4_write_74 (by decide) (fun c_8 => ?_) (fun c_8 => ?_)
              · exact absurd (gp_le (b := 1000) (by omega) (by omega) c_8) (by omega)
              · refine lv_bipush (v := (-2)) hx hb dX4_write_77 (by decide) ?_
                exact W.iret (v := (-2)) hx hb hr (fun t ht hW => ⟨⟨(-2), (), rfl, rfl, by rw [ht]; exact hP, hD⟩, hS.F ht⟩) hS.2.2 dX4_write_79
            · exact absurd (Or.inr ⟨rfl, mt (lg_cmp_eq _ _).mpr c_5⟩) hr0
        · exact absurd c_3 (by decide)
      · exact absurd (by decide) c_2
  · refine lv_iload_n hx hb dX4_write_0 rfl (lv_at hl 1 rfl) ?_
    refine lv_if_lt (tgt := 9) hx hb dX4_write_1 (by decide) (fun c_1 => ?_) (fun c_1 => ?_)
    · exact absurd c_1 (by decide)
    · refine lv_iload_n hx hb dX4_write_4 rfl (lv_at hl 1 rfl) ?_
      refine lv_iconst (v := 2) hx hb dX4_write_5 (by decide) ?_
      refine lv_icmp_le (tgt := 12) hx hb dX4_write_6 (by decide) (fun c_2 => ?_) (fun c_2 => ?_)
      · refine lv_iload_n hx hb dX4_write_12 rfl (lv_at hl 1 rfl) ?_
        refine lv_if_ne (tgt := 30) hx hb dX4_write_13 (by decide) (fun c_3 => ?_) (fun c_3 => ?_)
        · refine lv_iload_n hx hb dX4_write_30 rfl (lv_at hl 1 rfl) ?_
          refine lv_iconst (v := 1) hx hb dX4_write_31 (by decide) ?_
          refine lv_icmp_ne (tgt := 45) hx hb dX4_write_32 (by decide) (fun c_4 => ?_) (fun c_4 => ?_)
          · refine lv_iconst (v := 1) hx hb dX4_write_45 (by decide) ?_
            refine lv_topi (fun z_5 ez_5 => ?_)
            rw [show z_5 = nI (0 + 1) from by rw [ez_5]; rfl]
            refine lv_istore (lv' := [(4, .int (nI (0 + 1))), (0, .ref aY), (1, .int (nI 2)), (2, .long p0)]) hx hb dX4_write_46 hl (by decide) rfl (fun ls hl => ?_)
            refine lo_M_enough hx hb hml hown hts hA hK (Nat.le_of_ble_eq_true rfl) (Nat.le_of_ble_eq_true rfl) (Nat.zero_le _) (Nat.zero_le _) aY aM aN n k 2 n2 v p0 f (by decide) (fun z => absurd z (by decide)) hl0 (fun H locs ls hP hD hS hl => ?_) n2 0 (by omega) s.heap [] ls hP hD hS (lv_sub hl [0, 1, 2, 3] rfl)
            refine lv_aload_n hx hb dX4_write_64 rfl (lv_at hl 1 rfl) ?_
            refine va_get (D := (dC, dI)) (ci := 4) (v := .int (nI k)) (C := RX4) (T := TX4) (N := 5) hx hb hts in_X4 hown hK hP 0 rfl rfl 3 (by decide) (hts _ q258) (fun _ h9 => h9) rfl dX4_write_65 ?_
            refine lv_iload hx hb dX4_write_68 (lv_at hl 0 rfl) ?_
            refine lv_iadd hx hb dX4_write_70 ?_
            refine lv_topi (fun z_6 ez_6 => ?_)
            rw [show z_6 = nI (k + (n2 + 1)) from by rw [ez_6]; exact nI_add k (n2 + 1)]
            refine lv_sipush (v := 1000) hx hb dX4_write_71 (by decide) ?_
            refine lv_icmp_le (tgt := 80) hx hb dX4_write_74 (by decide) (fun c_7 => ?_) (fun c_7 => ?_)
            · exact absurd (gp_le (b := 1000) (by omega) (by omega) c_7) (by omega)
            · refine lv_bipush (v := (-2)) hx hb dX4_write_77 (by decide) ?_
              exact W.iret (v := (-2)) hx hb hr (fun t ht hW => ⟨⟨(-2), (), rfl, rfl, by rw [ht]; exact hP, hD⟩, hS.F ht⟩) hS.2.2 dX4_write_79
          · exact absurd c_4 (by decide)
        · exact absurd c_3 (by decide)
      · exact absurd (by decide) c_2
set_option maxHeartbeats 4000000 in
/-- GroupedNumbersModel.write: n2 + 1 bytes more -/
theorem m_M_write (l : Launch) (dC : Nat → ClassId) (dI : Nat → Nat → Nat) (cB : ClassId) (aY aM aN : Nat) (n k : Nat) (v p0 : Int64) (f : Nat → Int32) (hw : Nat) (n2 : Nat) (sz : Nat) (hw2 : hw ≤ 2) (hr0 : ¬ gp_rng hw p0) (hl0 : gp_Len hw p0 (n2 + 1)) (hk : k + n2 + 1 ≤ 1000) : Met l yX4_write (ws_ yX4_write cX4_write 7 (some .int)) ({ frames := 1, cells := 0, slots := 0, locals := 24 }) (gC dC dI [.ref aY, .int (nI hw), .long p0] [(aY, .inr (4, [.ref aM, .ref aN, .int (nI n), .int (nI k), .long v])), (aN, .inl (cB, 1000, .inl f))] [(cB, .byte)] sz) (va_Qi (fun (r : Int32) (_ : Unit) => r = nI (n2 + 1)) (fun (_ : Unit) t => gB dC dI (va_A [(aY, .inr (4, [.ref aM, .ref aN, .int (nI n), .int (nI k), .long v])), (aN, .inl (cB, 1000, .inl f))] sz) [(aY, .inr (4, [.ref aM, .ref aN, .int (nI n), .int (nI (k + n2 + 1)), .long v])), (aN, .inl (cB, 1000, .inl (gp_emit p0 (n2 + 1) f k (n2 + 1))))] t) (va_A [(aY, .inr (4, [.ref aM, .ref aN, .int (nI n), .int (nI k), .long v])), (aN, .inl (cB, 1000, .inl f))] sz)) 0 0 (va_A [(aY, .inr (4, [.ref aM, .ref aN, .int (nI n), .int (nI k), .long v])), (aN, .inl (cB, 1000, .inl f))] sz) := by
  refine Met.ofW (cc := cX4_write) (maxL := 7) (ret := (some .int)) (by decide) rfl ?_
  intro p e s m args below meth c s₁ B hml hv
  obtain ⟨rfl, hsz, hP, hK, hD0⟩ := hv
  have hx := B.exec
  have hb := B.bytes
  have hr := B.returns
  have hts0 := atoms_spec (ws := (ws_ yX4_write cX4_write 7 (some .int))) B.pre
  have hts : ∀ w ∈ lw_all, w.before _ s = true := fun w h => hts0 w (List.mem_cons_of_mem _ h)
  have hown : s.vm.findClass RX4 = some m.cls := findClass_of_methodNamed B.named
  have hlocks := B.notSynchronized
  subst hsz
  have hD := hD0.self (sz := s.heap.size)
  generalize hAe : va_A [(aY, .inr (4, [.ref aM, .ref aN, .int (nI n), .int (nI k), .long v])), (aN, .inl (cB, 1000, .inl f))] s.heap.size = A at hD ⊢
  have hA : ∀ q : Nat, s.heap.size ≤ q → A q := fun q h => by rw [← hAe]; exact Or.inr h
  have hS : va_S A s.heap s.heap [] := va_S.rf
  have hP : va_P (dC, dI) vwCl [(aY, .inr (4, [.ref aM, .ref aN, .int (nI n), .int (nI k), .long v])), (aN, .inl (cB, 1000, .inl f))] s.heap := hP
  have hl := lv_entry ([.ref aY, .int (nI hw), .long p0]) (n := 7) (Nat.le_of_ble_eq_true rfl)
  rw [lg_entry_eq]
  generalize (lg_sl ([.ref aY, .int (nI hw), .long p0]) ++ List.replicate (7 - (lg_sl ([.ref aY, .int (nI hw), .long p0])).length) Slot.unset).toArray = ls at hl ⊢
  have hl : lv_has ls 7 [(0, .ref aY), (1, .int (nI hw)), (2, .long p0)] := hl
  rcases (show hw = 0 ∨ hw = 1 ∨ hw = 2 by omega) with rfl | rfl | rfl
  · refine lv_iload_n hx hb dX4_write_0 rfl (lv_at hl 1 rfl) ?_
    refine lv_if_lt (tgt := 9) hx hb dX4_write_1 (by decide) (fun c_1 => ?_) (fun c_1 => ?_)
    · exact absurd c_1 (by decide)
    · refine lv_iload_n hx hb dX4_write_4 rfl (lv_at hl 1 rfl) ?_
      refine lv_iconst (v := 2) hx hb dX4_write_5 (by decide) ?_
      refine lv_icmp_le (tgt := 12) hx hb dX4_write_6 (by decide) (fun c_2 => ?_) (fun c_2 => ?_)
      · refine lv_iload_n hx hb dX4_write_12 rfl (lv_at hl 1 rfl) ?_
        refine lv_if_ne (tgt := 30) hx hb dX4_write_13 (by decide) (fun c_3 => ?_) (fun c_3 => ?_)
        · exact absurd rfl c_3
        · refine lv_lload_n hx hb dX4_write_16 rfl (lv_at hl 2 rfl) ?_
          refine lv_lconst (v := 0) hx hb dX4_write_17 rfl ?_
          refine W.lcmp hx hb dX4_write_18 ?_
          refine lv_if_lt (tgt := 43) hx hb dX4_write_19 (by decide) (fun c_4 => ?_) (fun c_4 => ?_)
          · exact absurd (Or.inl ⟨rfl, Or.inl (gp_clt c_4)⟩) hr0
          · refine lv_lload_n hx hb dX4_write_22 rfl (lv_at hl 2 rfl) ?_
            refine lv_ldc2 (v := 4294967295) hx hb hown (hts _ q296) dX4_write_23 ?_
            refine W.lcmp hx hb dX4_write_26 ?_
            refine lv_if_gt (tgt := 43) hx hb dX4_write_27 (by decide) (fun c_5 => ?_) (fun c_5 => ?_)
            · exact absurd (Or.inl ⟨rfl, Or.inr ((lg_cmp_gt _ _).mp c_5)⟩) hr0
            · refine lv_iload_n hx hb dX4_write_30 rfl (lv_at hl 1 rfl) ?_
              refine lv_iconst (v := 1) hx hb dX4_write_31 (by decide) ?_
              refine lv_icmp_ne (tgt := 45) hx hb dX4_write_32 (by decide) (fun c_6 => ?_) (fun c_6 => ?_)
              · refine lv_iconst (v := 1) hx hb dX4_write_45 (by decide) ?_
                refine lv_topi (fun z_7 ez_7 => ?_)
                rw [show z_7 = nI (0 + 1) from by rw [ez_7]; rfl]
                refine lv_istore (lv' := [(4, .int (nI (0 + 1))), (0, .ref aY), (1, .int (nI 0)), (2, .long p0)]) hx hb dX4_write_46 hl (by decide) rfl (fun ls hl => ?_)
                refine lo_M_enough hx hb hml hown hts hA hK (Nat.le_of_ble_eq_true rfl) (Nat.le_of_ble_eq_true rfl) (Nat.zero_le _) (Nat.zero_le _) aY aM aN n k 0 n2 v p0 f (by decide) (fun _ => gp_rng0 hr0) hl0 (fun H locs ls hP hD hS hl => ?_) n2 0 (by omega) s.heap [] ls hP hD hS (lv_sub hl [0, 1, 2, 3] rfl)
                refine lv_aload_n hx hb dX4_write_64 rfl (lv_at hl 1 rfl) ?_
                refine va_get (D := (dC, dI)) (ci := 4) (v := .int (nI k)) (C := RX4) (T := TX4) (N := 5) hx hb hts in_X4 hown hK hP 0 rfl rfl 3 (by decide) (hts _ q258) (fun _ h9 => h9) rfl dX4_write_65 ?_
                refine lv_iload hx hb dX4_write_68 (lv_at hl 0 rfl) ?_
                refine lv_iadd hx hb dX4_write_70 ?_
                refine lv_topi (fun z_8 ez_8 => ?_)
                rw [show z_8 = nI (k + (n2 + 1)) from by rw [ez_8]; exact nI_add k (n2 + 1)]
                refine lv_sipush (v := 1000) hx hb dX4_write_71 (by decide) ?_
                refine lv_icmp_le (tgt := 80) hx hb dX4_write_74 (by decide) (fun c_9 => ?_) (fun c_9 => ?_)
                · refine lv_iconst (v := 0) hx hb dX4_write_80 (by decide) ?_
                  refine lv_topi (fun z_10 ez_10 => ?_)
                  rw [show z_10 = nI 0 from by rw [ez_10]; rfl]
                  refine lv_istore (lv' := [(5, .int (nI 0)), (4, .int (nI (n2 + 1))), (0, .ref aY), (1, .int (nI 0)), (2, .long p0)]) hx hb dX4_write_81 hl (by decide) rfl (fun ls hl => ?_)
                  refine lo_M_emit hx hb hml hown hts hA hK (Nat.le_of_ble_eq_true rfl) (Nat.le_of_ble_eq_true rfl) (Nat.zero_le _) (Nat.zero_le _) aY aM aN n k n2 v p0 f hl0.2.1 hk (fun H locs ls hP hD hS hl => ?_) (n2 + 1) 0 (by omega) H locs ls hP hD hS (lv_sub hl [0, 1, 2, 4] rfl)
                  refine lv_iload hx hb dX4_write_154 (lv_at hl 1 rfl) ?_
                  exact W.iret (v := nI (n2 + 1)) hx hb hr (fun t ht hW => ⟨⟨nI (n2 + 1), (), rfl, rfl, by rw [ht]; exact hP, hD⟩, hS.F ht⟩) hS.2.2 dX4_write_156
                · exact absurd (nI_le (a := k + (n2 + 1)) (b := 1000) (by omega) (by omega)) c_9
              · exact absurd c_6 (by decide)
      · exact absurd (by decide) c_2
  · refine lv_iload_n hx hb dX4_write_0 rfl (lv_at hl 1 rfl) ?_
    refine lv_if_lt (tgt := 9) hx hb dX4_write_1 (by decide) (fun c_1 => ?_) (fun c_1 => ?_)
    · exact absurd c_1 (by decide)
    · refine lv_iload_n hx hb dX4_write_4 rfl (lv_at hl 1 rfl) ?_
      refine lv_iconst (v := 2) hx hb dX4_write_5 (by decide) ?_
      refine lv_icmp_le (tgt := 12) hx hb dX4_write_6 (by decide) (fun c_2 => ?_) (fun c_2 => ?_)
      · refine lv_iload_n hx hb dX4_write_12 rfl (lv_at hl 1 rfl) ?_
        refine lv_if_ne (tgt := 30) hx hb dX4_write_13 (by decide) (fun c_3 => ?_) (fun c_3 => ?_)
        · refine lv_iload_n hx hb dX4_write_30 rfl (lv_at hl 1 rfl) ?_
          refine lv_iconst (v := 1) hx hb dX4_write_31 (by decide) ?_
          refine lv_icmp_ne (tgt := 45) hx hb dX4_write_32 (by decide) (fun c_4 => ?_) (fun c_4 => ?_)
          · exact absurd rfl c_4
          · refine lv_lload_n hx hb dX4_write_35 rfl (lv_at hl 2 rfl) ?_
            refine lv_lload_n hx hb dX4_write_36 rfl (lv_at hl 2 rfl) ?_
            refine lv_l2i (v := (p0).toInt32) hx hb dX4_write_37 rfl ?_
            refine lv_i2l (v := (((p0).toInt32)).toInt64) hx hb dX4_write_38 rfl ?_
            refine W.lcmp hx hb dX4_write_39 ?_
            refine lv_if_eq (tgt := 45) hx hb dX4_write_40 (by decide) (fun c_5 => ?_) (fun c_5 => ?_)
            · refine lv_iconst (v := 1) hx hb dX4_write_45 (by decide) ?_
              refine lv_topi (fun z_6 ez_6 => ?_)
              rw [show z_6 = nI (0 + 1) from by rw [ez_6]; rfl]
              refine lv_istore (lv' := [(4, .int (nI (0 + 1))), (0, .ref aY), (1, .int (nI 1)), (2, .long p0)]) hx hb dX4_write_46 hl (by decide) rfl (fun ls hl => ?_)
              refine lo_M_enough hx hb hml hown hts hA hK (Nat.le_of_ble_eq_true rfl) (Nat.le_of_ble_eq_true rfl) (Nat.zero_le _) (Nat.zero_le _) aY aM aN n k 1 n2 v p0 f (by decide) (fun z => absurd z (by decide)) hl0 (fun H locs ls hP hD hS hl => ?_) n2 0 (by omega) s.heap [] ls hP hD hS (lv_sub hl [0, 1, 2, 3] rfl)
              refine lv_aload_n hx hb dX4_write_64 rfl (lv_at hl 1 rfl) ?_
              refine va_get (D := (dC, dI)) (ci := 4) (v := .int (nI k)) (C := RX4) (T := TX4) (N := 5) hx hb hts in_X4 hown hK hP 0 rfl rfl 3 (by decide) (hts _ q258) (fun _ h9 => h9) rfl dX4_write_65 ?_
              refine lv_iload hx hb dX4_write_68 (lv_at hl 0 rfl) ?_
              refine lv_iadd hx hb dX4_write_70 ?_
              refine lv_topi (fun z_7 ez_7 => ?_)
              rw [show z_7 = nI (k + (n2 + 1)) from by rw [ez_7]; exact nI_add k (n2 + 1)]
              refine lv_sipush (v := 1000) hx hb dX4_write_71 (by decide) ?_
              refine lv_icmp_le (tgt := 80) hx hb dX4_write_74 (by decide) (fun c_8 => ?_) (fun c_8 => ?_)
              · refine lv_iconst (v := 0) hx hb dX4_write_80 (by decide) ?_
                refine lv_topi (fun z_9 ez_9 => ?_)
                rw [show z_9 = nI 0 from by rw [ez_9]; rfl]
                refine lv_istore (lv' := [(5, .int (nI 0)), (4, .int (nI (n2 + 1))), (0, .ref aY), (1, .int (nI 1)), (2, .long p0)]) hx hb dX4_write_81 hl (by decide) rfl (fun ls hl => ?_)
                refine lo_M_emit hx hb hml hown hts hA hK (Nat.le_of_ble_eq_true rfl) (Nat.le_of_ble_eq_true rfl) (Nat.zero_le _) (Nat.zero_le _) aY aM aN n k n2 v p0 f hl0.2.1 hk (fun H locs ls hP hD hS hl => ?_) (n2 + 1) 0 (by omega) H locs ls hP hD hS (lv_sub hl [0, 1, 2, 4] rfl)
                refine lv_iload hx hb dX4_write_154 (lv_at hl 1 rfl) ?_
                exact W.iret (v := nI (n2 + 1)) hx hb hr (fun t ht hW => ⟨⟨nI (n2 + 1), (), rfl, rfl, by rw [ht]; exact hP, hD⟩, hS.F ht⟩) hS.2.2 dX4_write_156
              · exact absurd (nI_le (a := k + (n2 + 1)) (b := 1000) (by omega) (by omega)) c_8
            · exact absurd (Or.inr ⟨rfl, mt (lg_cmp_eq _ _).mpr c_5⟩) hr0
        · exact absurd c_3 (by decide)
      · exact absurd (by decide) c_2
  · refine lv_iload_n hx hb dX4_write_0 rfl (lv_at hl 1 rfl) ?_
    refine lv_if_lt (tgt := 9) hx hb dX4_write_1 (by decide) (fun c_1 => ?_) (fun c_1 => ?_)
    · exact absurd c_1 (by decide)
    · refine lv_iload_n hx hb dX4_write_4 rfl (lv_at hl 1 rfl) ?_
      refine lv_iconst (v := 2) hx hb dX4_write_5 (by decide) ?_
      refine lv_icmp_le (tgt := 12) hx hb dX4_write_6 (by decide) (fun c_2 => ?_) (fun c_2 => ?_)
      · refine lv_iload_n hx hb dX4_write_12 rfl (lv_at hl 1 rfl) ?_
        refine lv_if_ne (tgt := 30) hx hb dX4_write_13 (by decide) (fun c_3 => ?_) (fun c_3 => ?_)
        · refine lv_iload_n hx hb dX4_write_30 rfl (lv_at hl 1 rfl) ?_
          refine lv_iconst (v := 1) hx hb dX4_write_31 (by decide) ?_
          refine lv_icmp_ne (tgt := 45) hx hb dX4_write_32 (by decide) (fun c_4 => ?_) (fun c_4 => ?_)
          · refine lv_iconst (v := 1) hx hb dX4_write_45 (by decide) ?_
            refine lv_topi (fun z_5 ez_5 => ?_)
            rw [show z_5 = nI (0 + 1) from by rw [ez_5]; rfl]
            refine lv_istore (lv' := [(4, .int (nI (0 + 1))), (0, .ref aY), (1, .int (nI 2)), (2, .long p0)]) hx hb dX4_write_46 hl (by decide) rfl (fun ls hl => ?_)
            refine lo_M_enough hx hb hml hown hts hA hK (Nat.le_of_ble_eq_true rfl) (Nat.le_of_ble_eq_true rfl) (Nat.zero_le _) (Nat.zero_le _) aY aM aN n k 2 n2 v p0 f (by decide) (fun z => absurd z (by decide)) hl0 (fun H locs ls hP hD hS hl => ?_) n2 0 (by omega) s.heap [] ls hP hD hS (lv_sub hl [0, 1, 2, 3] rfl)
            refine lv_aload_n hx hb dX4_write_64 rfl (lv_at hl 1 rfl) ?_
            refine va_get (D := (dC, dI)) (ci := 4) (v := .int (nI k)) (C := RX4) (T := TX4) (N := 5) hx hb hts in_X4 hown hK hP 0 rfl rfl 3 (by decide) (hts _ q258) (fun _ h9 => h9) rfl dX4_write_65 ?_
            refine lv_iload hx hb dX4_write_68 (lv_at hl 0 rfl) ?_
            refine lv_iadd hx hb dX4_write_70 ?_
            refine lv_topi (fun z_6 ez_6 => ?_)
            rw [show z_6 = nI (k + (n2 + 1)) from by rw [ez_6]; exact nI_add k (n2 + 1)]
            refine lv_sipush (v := 1000) hx hb dX4_write_71 (by decide) ?_
            refine lv_icmp_le (tgt := 80) hx hb dX4_write_74 (by decide) (fun c_7 => ?_) (fun c_7 => ?_)
            · refine lv_iconst (v := 0) hx hb dX4_write_80 (by decide) ?_
              refine lv_topi (fun z_8 ez_8 => ?_)
              rw [show z_8 = nI 0 from by rw [ez_8]; rfl]
              refine lv_istore (lv' := [(5, .int (nI 0)), (4, .int (nI (n2 + 1))), (0, .ref aY), (1, .int (nI 2)), (2, .long p0)]) hx hb dX4_write_81 hl (by decide) rfl (fun ls hl => ?_)
              refine lo_M_emit hx hb hml hown hts hA hK (Nat.le_of_ble_eq_true rfl) (Nat.le_of_ble_eq_true rfl) (Nat.zero_le _) (Nat.zero_le _) aY aM aN n k n2 v p0 f hl0.2.1 hk (fun H locs ls hP hD hS hl => ?_) (n2 + 1) 0 (by omega) H locs ls hP hD hS (lv_sub hl [0, 1, 2, 4] rfl)
              refine lv_iload hx hb dX4_write_154 (lv_at hl 1 rfl) ?_
              exact W.iret (v := nI (n2 + 1)) hx hb hr (fun t ht hW => ⟨⟨nI (n2 + 1), (), rfl, rfl, by rw [ht]; exact hP, hD⟩, hS.F ht⟩) hS.2.2 dX4_write_156
            · exact absurd (nI_le (a := k + (n2 + 1)) (b := 1000) (by omega) (by omega)) c_7
          · exact absurd c_4 (by decide)
        · exact absurd c_3 (by decide)
      · exact absurd (by decide) c_2
end
section
/-! WHAT AN EXCEPTION'S MAKING ASKS OF THE START, CARRIED: words that don't ride in the lists, and two statics of java.lang.Throwable -/
set_option maxRecDepth 100000
/-- a static of Throwable of which only 'a reference or null' is said; its cell is not among A -/
def th_Z (A : Nat → Prop) (n d : String) (U : State) : Prop := ∃ (c : ClassId) (k : Class) (i : Nat) (fd : Field) (a : Nat) (cell : Cell) (v : Value), U.vm.findClass RJ0 = some c ∧ U.fieldFound? RJ0 n d = some (c, k, i, fd) ∧ fd.isStatic = true ∧ k.statics = some a ∧ U.heap[a]? = some cell ∧ cell.vm.isStatics = true ∧ cell.cls = c ∧
  fd.slot < cell.slots.size ∧ k.staticTypes[fd.slot]? = some fd.type ∧ cell.slots[fd.slot]? = some v ∧ (v = .null ∨ ∃ x, v = .ref x) ∧ ¬ A a
theorem th_Z.of {A : Nat → Prop} {n d : String} {args : Array Value} {s : State} (hl : (Cond.laysStatic RJ0 n d).before args s = true) (hr : (Cond.isRef (.static RJ0 n d)).before args s = true) (hA : ∀ a : Nat, a < s.heap.size → ¬ A a) : th_Z A n d s := by
  obtain ⟨c, k, i, f, a, cell, hc, hi, hst, ha, hcell, hs, hcls, hlt, hty⟩ := Cond.laysStatic_spec hl
  obtain ⟨u, hu⟩ := Cond.staticRefV hi hst ha hcell hs hr
  refine ⟨c, k, i, f, a, cell, u.v, hc, hi, hst, ha, hcell, hs, hcls, hlt, hty, hu, ?_, hA a (Array.getElem?_eq_some_iff.mp hcell).1⟩
  have h2 := fits_refV_object "x" u
  cases hv : u.v with
  | ref x => exact Or.inr ⟨x, rfl⟩
  | null => exact Or.inl rfl
  | _ => rw [hv] at h2; simp [fits] at h2
theorem th_Z.move {A B : Nat → Prop} {n d : String} {s U : State} (h : th_Z A n d s) (hvm : s.vm.Alike U.vm) (hk : ∀ a : Nat, a < s.heap.size → ¬ A a → U.heap[a]? = s.heap[a]?) (hAB : ∀ q, B q → A q) : th_Z B n d U := by
  obtain ⟨c, k, i, fd, a, cell, v, h1, h2, h3, h4, h5, h6, h7, h8, h9, h10, h11, h12⟩ := h
  obtain ⟨k', hi', he⟩ := State.fieldFound?_setVm hvm h2
  exact ⟨c, k', i, fd, a, cell, v, by rw [hvm.findClass]; exact h1, hi', h3, by rw [he]; exact h4, by rw [hk a (Array.getElem?_eq_some_iff.mp h5).1 h12]; exact h5, h6, h7, h8, by rw [he]; exact h9, h10, h11, fun z => h12 (hAB a z)⟩
theorem th_Z.lays {A : Nat → Prop} {n d : String} {args : Array Value} {U : State} (h : th_Z A n d U) : (Cond.laysStatic RJ0 n d).before args U = true := by
  obtain ⟨c, k, i, fd, a, cell, v, h1, h2, h3, h4, h5, h6, h7, h8, h9, -⟩ := h
  simp [Cond.before, Cond.holds, Cond.value, h1, h2, h3, h4, h5, h6, h7, h8, h9]
theorem th_Z.isRef {A : Nat → Prop} {n d : String} {args : Array Value} {U : State} (h : th_Z A n d U) : (Cond.isRef (.static RJ0 n d)).before args U = true := by
  obtain ⟨c, k, i, fd, a, cell, v, h1, h2, h3, h4, h5, h6, h7, h8, h9, h10, h11, -⟩ := h
  have he : (Term.static RJ0 n d).eval args U none [] U = some v := by
    simp [Term.eval, State.fieldNamed?, h2, h3, h4, h5, h6, h10]
  simp only [Cond.before, Cond.holds, Cond.value, he]
  rcases h11 with e | ⟨x, e⟩ <;> simp [e]
/-- all of it -/
def th_X (A : Nat → Prop) (U : State) : Prop := (va_Nw (.declares ⟨RJ2, "<init>", "()V"⟩) U ∧ va_Nw (.declares ⟨RJ1, "<init>", "()V"⟩) U ∧ va_Nw (.declares ⟨RJ0, "<init>", "()V"⟩) U ∧ va_Nw (.castable RJ3 RJ3) U) ∧
  th_Z A "UNASSIGNED_STACK" "[Ljava/lang/StackTraceElement;" U ∧ th_Z A "SUPPRESSED_SENTINEL" "Ljava/util/List;" U
theorem th_X.move {A B : Nat → Prop} {s U : State} (h : th_X A s) (hW : s.WarmedH U.vm) (hk : ∀ a : Nat, a < s.heap.size → ¬ A a → U.heap[a]? = s.heap[a]?) (hAB : ∀ q, B q → A q) : th_X B U := by
  obtain ⟨⟨w1, w2, w3, w4⟩, h1, h2⟩ := h
  exact ⟨⟨va_Nw.warmD hW w1, va_Nw.warmD hW w2, va_Nw.warmD hW w3, va_Nw.warmC hW w4⟩, h1.move hW.alike hk hAB, h2.move hW.alike hk hAB⟩
theorem th_X.call {A : Nat → Prop} {U : State} {g : JFrame} {mk : MethodId} {a : Array Value} (h : th_X A U) : th_X A (U.calling g mk a) := by
  obtain ⟨⟨w1, w2, w3, w4⟩, h1, h2⟩ := h
  have hvm : U.vm.Alike (U.calling g mk a).vm := Vm.Alike.refl U.vm
  exact ⟨⟨va_Nw.same rfl (rfl : U.vm = (U.calling g mk a).vm) w1, va_Nw.same rfl (rfl : U.vm = (U.calling g mk a).vm) w2, va_Nw.same rfl (rfl : U.vm = (U.calling g mk a).vm) w3, va_Nw.same rfl (rfl : U.vm = (U.calling g mk a).vm) w4⟩,
    h1.move hvm (fun _ _ _ => rfl) (fun _ z => z), h2.move hvm (fun _ _ _ => rfl) (fun _ z => z)⟩
theorem th_atoms {A : Nat → Prop} {args : Array Value} {s : State} (hts : ∀ w ∈ lw_all, w.before args s = true) (hX : th_X A s) : ∀ a ∈ Bundle.ownAtoms0 RX1 9 RJ3 [RJ2, RJ1], a.before args s = true := by
  obtain ⟨⟨w1, w2, w3, w4⟩, h1, h2⟩ := hX
  exact List.forall_mem_cons.mpr ⟨hts _ q6, List.forall_mem_cons.mpr ⟨hts _ q50, List.forall_mem_cons.mpr ⟨hts _ q59, List.forall_mem_cons.mpr ⟨hts _ q61, List.forall_mem_cons.mpr ⟨hts _ q64, List.forall_mem_cons.mpr ⟨hts _ q66, List.forall_mem_cons.mpr ⟨hts _ q51, List.forall_mem_cons.mpr ⟨hts _ q52, List.forall_mem_cons.mpr ⟨hts _ q20, List.forall_mem_cons.mpr ⟨hts _ q21, List.forall_mem_cons.mpr ⟨hts _ q53, List.forall_mem_cons.mpr ⟨hts _ q58, List.forall_mem_cons.mpr ⟨hts _ q62, List.forall_mem_cons.mpr ⟨hts _ q78, List.forall_mem_cons.mpr ⟨hts _ q40, List.forall_mem_cons.mpr ⟨hts _ q79, List.forall_mem_cons.mpr ⟨hts _ q42, List.forall_mem_cons.mpr ⟨hts _ q80, List.forall_mem_cons.mpr ⟨hts _ q44, List.forall_mem_cons.mpr ⟨hts _ q54, List.forall_mem_cons.mpr ⟨h1.lays, List.forall_mem_cons.mpr ⟨hts _ q56, List.forall_mem_cons.mpr ⟨h2.lays, List.forall_mem_cons.mpr ⟨hts _ q46, List.forall_mem_cons.mpr ⟨hts _ q68, List.forall_mem_cons.mpr ⟨hts _ q69, List.forall_mem_cons.mpr ⟨hts _ q70, List.forall_mem_cons.mpr ⟨hts _ q71, List.forall_mem_cons.mpr ⟨va_Nw.use rfl w1, List.forall_mem_cons.mpr ⟨hts _ q71, List.forall_mem_cons.mpr ⟨hts _ q72, List.forall_mem_cons.mpr ⟨hts _ q73, List.forall_mem_cons.mpr ⟨hts _ q74, List.forall_mem_cons.mpr ⟨va_Nw.use rfl w2, List.forall_mem_cons.mpr ⟨hts _ q74, List.forall_mem_cons.mpr ⟨hts _ q75, List.forall_mem_cons.mpr ⟨hts _ q76, List.forall_mem_cons.mpr ⟨hts _ q51, List.forall_mem_cons.mpr ⟨va_Nw.use rfl w3, List.forall_mem_cons.mpr ⟨hts _ q67, List.forall_mem_cons.mpr ⟨hts _ q29, List.forall_mem_cons.mpr ⟨va_Nw.use rfl w4, List.forall_mem_cons.mpr ⟨hts _ q37, List.forall_mem_cons.mpr ⟨hts _ q38, List.forall_mem_cons.mpr ⟨hts _ q39, List.forall_mem_cons.mpr ⟨hts _ q41, List.forall_mem_cons.mpr ⟨hts _ q43, List.forall_mem_cons.mpr ⟨hts _ q45, List.forall_mem_cons.mpr ⟨h1.isRef, List.forall_mem_cons.mpr ⟨h2.isRef, List.forall_mem_cons.mpr ⟨hts _ q49, List.forall_mem_cons.mpr ⟨hts _ q48, List.forall_mem_cons.mpr ⟨hts _ q47, fun _ h => absurd h List.not_mem_nil⟩⟩⟩⟩⟩⟩⟩⟩⟩⟩⟩⟩⟩⟩⟩⟩⟩⟩⟩⟩⟩⟩⟩⟩⟩⟩⟩⟩⟩⟩⟩⟩⟩⟩⟩⟩⟩⟩⟩⟩⟩⟩⟩⟩⟩⟩⟩⟩⟩⟩⟩⟩⟩
end
section
/-! A CALL THROUGH AN OBJECT OF A METHOD WITH HANDLERS -/
section VTW
variable {p : Program} {l : Launch} {e : Env} {R : Room} {s : State} {m : MethodId} {args : Array Value} {below : List Frame} {meth : Method} {c : Code} {H : Heap} {locs : List Loc} {cells slots : Nat}
theorem vt_runVW {y : MethodName} {bytes cc : ByteArray} {maxL nL mc ms n index : Nat} {ret : Option FieldType} {hh : List (Nat × Nat × Nat × Nat)} {ws ws' : List Cond} {rm : Room} {Pc : Array Value → State → Prop} {Qc : Array Value → State → Outcome → State → Prop} {free : Addr → Prop} {Ts : List Cond} {own C : String} {b : Addr} {As rest : List Value} {g : JFrame}
    (S : CallFix p m c cc nL s args Ts own) (hM : Met l y ws rm Pc Qc mc ms free) (ht : ∀ w ∈ Ts, w.before args s = true) (hT : GoodIn Ts (wsV own index C y ws)) (hw : ws = Cond.codeWith y bytes maxL ret hh :: ws') (hrc : rm.cells = mc) (hrs : rm.slots = ms)
    (hd : y.cls = C ∧ y.cls ≠ "java/lang/invoke/MethodHandle" ∧ y.cls ≠ "java/lang/invoke/VarHandle" ∧ (parseMethodDescriptor y.desc).map (fun d => d.parameters.length) = some n) (hR : rm.frames + 1 ≤ R.frames ∧ 8 + (maxL + 11) + rm.locals ≤ R.locals) (hp : PreV s H C b Pc As)
    (hg : g.method = m) (hn : As.length = n) (hsize : g.locals.size = nL) (hstack : g.stack = As.reverse ++ .ref b :: rest) (hW : 2 * g.monitorRoom + (rest.map fun v => v.category).sum ≤ 8) (hdg : decode cc g.pc = .ok (.invokevirtual index, 3)) (hf : cells + mc ≤ R.cells ∧ slots + ms ≤ R.slots) :
    va_Run p l e R s m args below meth c H locs cells slots mc ms g rest (Qc (Value.ref b :: As).toArray) free := by
  obtain ⟨hC, hd1, hd2, hd3⟩ := hd
  subst hC
  have ok : ∀ w ∈ wsV own index y.cls y ws, w.before args s = true := fun w h => ht w (hT w h).1
  have hG : GoodIn Ts ws := fun w h => hT w (by unfold wsV; exact List.mem_append_right _ h)
  have hc : Cond.codeWith y bytes maxL ret hh ∈ ws := by rw [hw]; exact List.mem_cons_self
  have hini : (Cond.initialized y.cls).before args s = true := ok _ (by simp [wsV])
  have hl : (Cond.methodLink own index y).before args s = true := ok _ (by simp [wsV])
  have hin : (Cond.instanceMethod y).before args s = true := ok _ (by simp [wsV])
  have hse : (Cond.selects y.cls y y).before args s = true := ok _ (by simp [wsV])
  have hcode : (Cond.codeWith y bytes maxL ret hh).before args s = true := ht _ (hG _ hc).1
  have hK : Back l R p e below s args y 3 8 (PreOf R mc ms Pc) (PostOf Qc mc ms free) := va_backW (hh := hh) (bytes := bytes) (maxL := maxL) (ret := ret) hM hp.1 hrc hrs hR.1 hR.2 (pay_in ht hG) hc (fun a' U hW => word_at hW (Or.inl (by first | rfl | simp [Cond.onTables, Cond.keeps, Cond.steady])) hini)
  obtain ⟨hx, hb, hml, ho, -⟩ := S
  obtain ⟨-, ⟨cellB, hcB, hoB, hclB⟩, hPc⟩ := hp
  intro T hT0 X
  obtain ⟨mk, methM, hnamed, hmethM, hstM, habM⟩ := Cond.instanceMethod_spec hin
  obtain ⟨m9, methM', cM, hn9, hmethM', -, -, -, -, -, -, hsigM⟩ := Cond.codeWith_spec hcode
  cases hnamed.symm.trans hn9
  cases hmethM.symm.trans hmethM'
  obtain ⟨c2, r2, m2, q1, q2, q3, q4, kP, hkP, hkPi⟩ := Cond.selects_spec hse
  cases hclB.symm.trans q1
  cases (State.methodFound?_of_named hnamed ⟨hd1, hd2⟩).symm.trans q2
  cases hnamed.symm.trans q3
  have hselP : selectMethod e.platform s.vm cellB.cls mk = .method mk := by rw [Launch.admits_selectMethod X.admits]; exact q4
  have hlen : As.length = methM.sig.parameters.length := by
    rw [hsigM] at hd3
    exact hn.trans (Option.some.inj hd3).symm
  obtain ⟨vm₁, X₁, hstep₁⟩ := X.invokevirtual hx ho hl hnamed hmethM hstM hkP hkPi ⟨hd1, hd2⟩ (a := b) (cell := cellB) (by rw [hT0]; exact hcB)
    (fun z h => by rw [h] at hoB; cases hoB) hselP hmethM habM hkP hkPi (g := g) hg (argsL := As) (rest := rest) hlen hstack (by rw [hb]; exact hdg)
  obtain ⟨v, ⟨U', l2, c2', s2⟩, X', ⟨g', mk', t, L, e1, e2, hq, h1, hL, h2, h3⟩, hsteps⟩ := hK m meth c ⟨T.setVm vm₁, locs, cells, slots⟩ { g with stack := rest } (.invokevirtual index) mk (Value.ref b :: As).toArray X₁ hg (hsize.trans hml.symm) (by rw [hb]; exact hdg) hW (X₁.named hnamed) ⟨hf.1, hf.2, hPc (T.setVm vm₁) hT0 X₁.warmed⟩
  dsimp only [Pt.U, Pt.locs, Pt.cells, Pt.slots] at X' e1 e2 h1 h2 h3 hsteps
  subst h1; subst h2; subst h3
  exact ⟨v, (T.setVm vm₁).calling g' mk' (Value.ref b :: As).toArray, t, U', L, hT0, X', hL, e1, e2, hq, fun target h => hstep₁ _ fun acts => by rw [doInvoke_state]; exact hsteps.trans h⟩
end VTW
end
section
set_option maxRecDepth 100000
set_option maxHeartbeats 4000000 in
/-- Fault(): its stop is made -/
theorem m_F_init (l : Launch) (dC : Nat → ClassId) (dI : Nat → Nat → Nat) (cB : ClassId) (aF : Nat) (sz : Nat) (hfl : l.flags = flags0) : Met l yX1_init (ws_ yX1_init cX1_init 1 none) ({ frames := 6, cells := 1, slots := 6, locals := 82 }) (fun a U => (gC dC dI [.ref aF] [(aF, .inr (1, [.null, .int 0, .int 0]))] [(cB, .byte)] sz) a U ∧ th_X (va_A [(aF, .inr (1, [.null, .int 0, .int 0]))] sz) U) (va_Qv (fun _ : Nat × List Value => True) (fun (u : Nat × List Value) t => gB dC dI (va_A [(aF, .inr (1, [.null, .int 0, .int 0]))] sz) [(aF, .inr (1, [.ref u.1, .int 0, .int 0])), (u.1, .inr (5, u.2))] t) (va_A [(aF, .inr (1, [.null, .int 0, .int 0]))] sz)) 1 6 (va_A [(aF, .inr (1, [.null, .int 0, .int 0]))] sz) := by
  refine Met.ofW (cc := cX1_init) (maxL := 1) (ret := none) (by decide) rfl ?_
  intro p e s m args below meth c s₁ B hml hv
  obtain ⟨hv, hX⟩ := hv
  obtain ⟨rfl, hsz, hP, hK, hD0⟩ := hv
  have hx := B.exec
  have hb := B.bytes
  have hr := B.returns
  have hts0 := atoms_spec (ws := (ws_ yX1_init cX1_init 1 none)) B.pre
  have hts : ∀ w ∈ lw_all, w.before _ s = true := fun w h => hts0 w (List.mem_cons_of_mem _ h)
  have hown : s.vm.findClass RX1 = some m.cls := findClass_of_methodNamed B.named
  have hlocks := B.notSynchronized
  have hin : meth.name = "<init>" := (name_of_methodNamed B.named B.method).1
  subst hsz
  have hD := hD0.self (sz := s.heap.size)
  generalize hAe : va_A [(aF, .inr (1, [.null, .int 0, .int 0]))] s.heap.size = A at hD hX ⊢
  have hA : ∀ q : Nat, s.heap.size ≤ q → A q := fun q h => by rw [← hAe]; exact Or.inr h
  have hS : va_S A s.heap s.heap [] := va_S.rf
  have hP : va_P (dC, dI) vwCl [(aF, .inr (1, [.null, .int 0, .int 0]))] s.heap := hP
  have hl := lv_entry ([.ref aF]) (n := 1) (Nat.le_of_ble_eq_true rfl)
  rw [lg_entry_eq]
  generalize (lg_sl ([.ref aF]) ++ List.replicate (1 - (lg_sl ([.ref aF])).length) Slot.unset).toArray = ls at hl ⊢
  have hl : lv_has ls 1 [(0, .ref aF)] := hl
  have htr : e.platform.stackTraces = false := by
    rw [(Stand.of_body B).admits.platform]
    show l.stackTraces = false
    rw [Launch.stackTraces, hfl]
    decide +kernel
  refine lv_aload_n hx hb dX1_init_0 rfl (lv_at hl 0 rfl) ?_
  refine W.objInit hx hb hown (hts _ q27) (hts _ q20) (hts _ q21) rfl (by rw [hml]; exact hl.1) rfl dX1_init_1 (Nat.le_of_ble_eq_true rfl) (Nat.le_of_ble_eq_true rfl) ?_
  refine W.eq (g2 := F0 m 4 ls []) rfl ?_
  refine lv_aload_n hx hb dX1_init_4 rfl (lv_at hl 0 rfl) ?_
  refine vi_newE (own := RX1) (cls := RJ3) (names := [RJ2, RJ1]) (ix := 7) (ic := 9) (N := 6) (ci := 5) (T := TJ3) (rest := [.ref aF]) hx hb htr (hml.trans hl.1.symm) hown (by decide +kernel) (by decide +kernel) (th_atoms hts hX) (hts _ q28) (hts _ q9) (hts _ q29) hts in_J3 hK hP hD hS hA rfl (Nat.le_of_ble_eq_true rfl) (Nat.le_of_ble_eq_true rfl) dX1_init_5 dX1_init_8 dX1_init_9 (Nat.le_of_ble_eq_true rfl) (Nat.le_of_ble_eq_true rfl) (fun aE es H locs hP hD hS => ?_)
  have hP : va_P (dC, dI) vwCl [(aF, .inr (1, [.null, .int 0, .int 0])), (aE, .inr (5, es))] H := hP
  have hD : va_D A [(aF, .inr (1, [.null, .int 0, .int 0])), (aE, .inr (5, es))] := hD
  refine W.widen (k := 1) (n := 6) (Nat.le_of_ble_eq_true rfl) (Nat.le_of_ble_eq_true rfl) ?_
  refine va_putF (D := (dC, dI)) (ci := 1) (v := .ref aE) (ty := .object "java/lang/IllegalStateException") (C := RX1) (T := TX1) (N := 3) hx hb hts in_X1 tyX1 tyX1_ok nmX1 hown hK hP hD hS 0 rfl rfl 0 (by decide) (hts _ q89) (fun _ h9 => h9) rfl hin rfl (by decide +kernel) rfl rfl (Nat.le_of_ble_eq_true rfl) dX1_init_12 (fun H locs hP hD hS => ?_)
  have hP : va_P (dC, dI) vwCl [(aF, .inr (1, [.ref aE, .int 0, .int 0])), (aE, .inr (5, es))] H := hP
  have hD : va_D A [(aF, .inr (1, [.ref aE, .int 0, .int 0])), (aE, .inr (5, es))] := hD
  have hP9 := hP.sub (ws' := [(aF, .inr (1, [.ref aE, .int 0, .int 0])), (aE, .inr (5, es))]) [0, 1] rfl
  have hD9 := hD.sub (ws' := [(aF, .inr (1, [.ref aE, .int 0, .int 0])), (aE, .inr (5, es))]) [0, 1] (by decide) rfl
  exact W.vret hx hb hr (fun t ht hW => ⟨⟨(aE, es), rfl, trivial, by rw [ht]; exact hP9, hD9⟩, hS.F ht⟩) hS.2.2 dX1_init_15
set_option maxHeartbeats 4000000 in
/-- Reader(fault): an empty row -/
theorem m_R_init (l : Launch) (dC : Nat → ClassId) (dI : Nat → Nat → Nat) (cB : ClassId) (aR aF : Nat) (sz : Nat)  : Met l yX2_init (ws_ yX2_init cX2_init 2 none) ({ frames := 1, cells := 1, slots := 0, locals := 14 }) (gC dC dI [.ref aR, .ref aF] [(aR, .inr (2, [.null, .null, .int 0, .int 0]))] [(cB, .byte)] sz) (va_Qv (fun _ : Nat => True) (fun (u : Nat) t => gB dC dI (va_A [(aR, .inr (2, [.null, .null, .int 0, .int 0]))] sz) [(aR, .inr (2, [.ref aF, .ref u, .int 0, .int 0]))] t) (va_A [(aR, .inr (2, [.null, .null, .int 0, .int 0]))] sz)) 1 0 (va_A [(aR, .inr (2, [.null, .null, .int 0, .int 0]))] sz) := by
  refine Met.ofW (cc := cX2_init) (maxL := 2) (ret := none) (by decide) rfl ?_
  intro p e s m args below meth c s₁ B hml hv
  obtain ⟨rfl, hsz, hP, hK, hD0⟩ := hv
  have hx := B.exec
  have hb := B.bytes
  have hr := B.returns
  have hts0 := atoms_spec (ws := (ws_ yX2_init cX2_init 2 none)) B.pre
  have hts : ∀ w ∈ lw_all, w.before _ s = true := fun w h => hts0 w (List.mem_cons_of_mem _ h)
  have hown : s.vm.findClass RX2 = some m.cls := findClass_of_methodNamed B.named
  have hlocks := B.notSynchronized
  have hin : meth.name = "<init>" := (name_of_methodNamed B.named B.method).1
  subst hsz
  have hD := hD0.self (sz := s.heap.size)
  generalize hAe : va_A [(aR, .inr (2, [.null, .null, .int 0, .int 0]))] s.heap.size = A at hD ⊢
  have hA : ∀ q : Nat, s.heap.size ≤ q → A q := fun q h => by rw [← hAe]; exact Or.inr h
  have hS : va_S A s.heap s.heap [] := va_S.rf
  have hP : va_P (dC, dI) vwCl [(aR, .inr (2, [.null, .null, .int 0, .int 0]))] s.heap := hP
  have hl := lv_entry ([.ref aR, .ref aF]) (n := 2) (Nat.le_of_ble_eq_true rfl)
  rw [lg_entry_eq]
  generalize (lg_sl ([.ref aR, .ref aF]) ++ List.replicate (2 - (lg_sl ([.ref aR, .ref aF])).length) Slot.unset).toArray = ls at hl ⊢
  have hl : lv_has ls 2 [(0, .ref aR), (1, .ref aF)] := hl
  refine lv_aload_n hx hb dX2_init_0 rfl (lv_at hl 0 rfl) ?_
  refine W.objInit hx hb hown (hts _ q104) (hts _ q20) (hts _ q21) rfl (by rw [hml]; exact hl.1) rfl dX2_init_1 (Nat.le_of_ble_eq_true rfl) (Nat.le_of_ble_eq_true rfl) ?_
  refine W.eq (g2 := F0 m 4 ls []) rfl ?_
  refine lv_aload_n hx hb dX2_init_4 rfl (lv_at hl 0 rfl) ?_
  refine lv_iconst (v := 0) hx hb dX2_init_5 (by decide) ?_
  refine va_newa (atype := .byte) (ty := .byte) (a0 := (0, .inl (fun _ => 0))) (N' := 0) hx hb (hts _ q119) rfl hK hP hD hS hA (fun _ => rfl) (by decide) (by decide) (by decide) (Nat.le_of_ble_eq_true rfl) (Nat.le_of_ble_eq_true rfl) dX2_init_6 (fun rb cB2 H hK2 hP hD hS => ?_)
  have e2 := (gK_one hK2).symm
  subst e2
  clear hK2
  have hP : va_P (dC, dI) vwCl [(aR, .inr (2, [.null, .null, .int 0, .int 0])), (rb, .inl (cB, 0, .inl (fun _ => 0)))] H := hP
  have hD : va_D A [(aR, .inr (2, [.null, .null, .int 0, .int 0])), (rb, .inl (cB, 0, .inl (fun _ => 0)))] := hD
  refine W.widen (k := 1) (n := 0) (Nat.le_of_ble_eq_true rfl) (Nat.le_of_ble_eq_true rfl) ?_
  refine va_put (D := (dC, dI)) (ci := 2) (v := .ref rb) (ty := .array .byte) (C := RX2) (T := TX2) (N := 4) hx hb hts in_X2 tyX2 tyX2_ok nmX2 hown hK hP hD hS 0 rfl rfl 1 (by decide) (hts _ q106) (fun _ h9 => h9) rfl (by decide +kernel) rfl rfl (Nat.le_of_ble_eq_true rfl) dX2_init_8 (fun H locs hP hD hS => ?_)
  have hP : va_P (dC, dI) vwCl [(aR, .inr (2, [.null, .ref rb, .int 0, .int 0])), (rb, .inl (cB, 0, .inl (fun _ => 0)))] H := hP
  have hD : va_D A [(aR, .inr (2, [.null, .ref rb, .int 0, .int 0])), (rb, .inl (cB, 0, .inl (fun _ => 0)))] := hD
  refine lv_aload_n hx hb dX2_init_11 rfl (lv_at hl 0 rfl) ?_
  refine lv_aload_n hx hb dX2_init_12 rfl (lv_at hl 1 rfl) ?_
  refine va_putF (D := (dC, dI)) (ci := 2) (v := .ref aF) (ty := .object "GroupedNumbers$Fault") (C := RX2) (T := TX2) (N := 4) hx hb hts in_X2 tyX2 tyX2_ok nmX2 hown hK hP hD hS 0 rfl rfl 0 (by decide) (hts _ q105) (fun _ h9 => h9) rfl hin rfl (by decide +kernel) rfl rfl (Nat.le_of_ble_eq_true rfl) dX2_init_13 (fun H locs hP hD hS => ?_)
  have hP : va_P (dC, dI) vwCl [(aR, .inr (2, [.ref aF, .ref rb, .int 0, .int 0])), (rb, .inl (cB, 0, .inl (fun _ => 0)))] H := hP
  have hD : va_D A [(aR, .inr (2, [.ref aF, .ref rb, .int 0, .int 0])), (rb, .inl (cB, 0, .inl (fun _ => 0)))] := hD
  have hP9 := hP.sub (ws' := [(aR, .inr (2, [.ref aF, .ref rb, .int 0, .int 0]))]) [0] rfl
  have hD9 := hD.sub (ws' := [(aR, .inr (2, [.ref aF, .ref rb, .int 0, .int 0]))]) [0] (by decide) rfl
  exact W.vret hx hb hr (fun t ht hW => ⟨⟨rb, rfl, trivial, by rw [ht]; exact hP9, hD9⟩, hS.F ht⟩) hS.2.2 dX2_init_16
set_option maxHeartbeats 4000000 in
/-- Out(): 4096 bytes, none used -/
theorem m_O_init (l : Launch) (dC : Nat → ClassId) (dI : Nat → Nat → Nat) (cB : ClassId) (aO : Nat) (sz : Nat)  : Met l yX3_init (ws_ yX3_init cX3_init 1 none) ({ frames := 1, cells := 1, slots := 4096, locals := 14 }) (gC dC dI [.ref aO] [(aO, .inr (3, [.null, .int 0]))] [(cB, .byte)] sz) (va_Qv (fun _ : Nat => True) (fun (u : Nat) t => gB dC dI (va_A [(aO, .inr (3, [.null, .int 0]))] sz) [(aO, .inr (3, [.ref u, .int 0])), (u, .inl (cB, 4096, .inl (fun _ => 0)))] t) (va_A [(aO, .inr (3, [.null, .int 0]))] sz)) 1 4096 (va_A [(aO, .inr (3, [.null, .int 0]))] sz) := by
  refine Met.ofW (cc := cX3_init) (maxL := 1) (ret := none) (by decide) rfl ?_
  intro p e s m args below meth c s₁ B hml hv
  obtain ⟨rfl, hsz, hP, hK, hD0⟩ := hv
  have hx := B.exec
  have hb := B.bytes
  have hr := B.returns
  have hts0 := atoms_spec (ws := (ws_ yX3_init cX3_init 1 none)) B.pre
  have hts : ∀ w ∈ lw_all, w.before _ s = true := fun w h => hts0 w (List.mem_cons_of_mem _ h)
  have hown : s.vm.findClass RX3 = some m.cls := findClass_of_methodNamed B.named
  have hlocks := B.notSynchronized
  have hin : meth.name = "<init>" := (name_of_methodNamed B.named B.method).1
  subst hsz
  have hD := hD0.self (sz := s.heap.size)
  generalize hAe : va_A [(aO, .inr (3, [.null, .int 0]))] s.heap.size = A at hD ⊢
  have hA : ∀ q : Nat, s.heap.size ≤ q → A q := fun q h => by rw [← hAe]; exact Or.inr h
  have hS : va_S A s.heap s.heap [] := va_S.rf
  have hP : va_P (dC, dI) vwCl [(aO, .inr (3, [.null, .int 0]))] s.heap := hP
  have hl := lv_entry ([.ref aO]) (n := 1) (Nat.le_of_ble_eq_true rfl)
  rw [lg_entry_eq]
  generalize (lg_sl ([.ref aO]) ++ List.replicate (1 - (lg_sl ([.ref aO])).length) Slot.unset).toArray = ls at hl ⊢
  have hl : lv_has ls 1 [(0, .ref aO)] := hl
  refine lv_aload_n hx hb dX3_init_0 rfl (lv_at hl 0 rfl) ?_
  refine W.objInit hx hb hown (hts _ q125) (hts _ q20) (hts _ q21) rfl (by rw [hml]; exact hl.1) rfl dX3_init_1 (Nat.le_of_ble_eq_true rfl) (Nat.le_of_ble_eq_true rfl) ?_
  refine W.eq (g2 := F0 m 4 ls []) rfl ?_
  refine lv_aload_n hx hb dX3_init_4 rfl (lv_at hl 0 rfl) ?_
  refine lv_sipush (v := 4096) hx hb dX3_init_5 (by decide) ?_
  refine va_newa (atype := .byte) (ty := .byte) (a0 := (4096, .inl (fun _ => 0))) (N' := 4096) hx hb (hts _ q119) rfl hK hP hD hS hA (fun _ => rfl) (by decide) (by decide) (by decide) (Nat.le_of_ble_eq_true rfl) (Nat.le_of_ble_eq_true rfl) dX3_init_8 (fun aB cB2 H hK2 hP hD hS => ?_)
  have e2 := (gK_one hK2).symm
  subst e2
  clear hK2
  have hP : va_P (dC, dI) vwCl [(aO, .inr (3, [.null, .int 0])), (aB, .inl (cB, 4096, .inl (fun _ => 0)))] H := hP
  have hD : va_D A [(aO, .inr (3, [.null, .int 0])), (aB, .inl (cB, 4096, .inl (fun _ => 0)))] := hD
  refine W.widen (k := 1) (n := 4096) (Nat.le_of_ble_eq_true rfl) (Nat.le_of_ble_eq_true rfl) ?_
  refine va_put (D := (dC, dI)) (ci := 3) (v := .ref aB) (ty := .array .byte) (C := RX3) (T := TX3) (N := 2) hx hb hts in_X3 tyX3 tyX3_ok nmX3 hown hK hP hD hS 0 rfl rfl 0 (by decide) (hts _ q126) (fun _ h9 => h9) rfl (by decide +kernel) rfl rfl (Nat.le_of_ble_eq_true rfl) dX3_init_10 (fun H locs hP hD hS => ?_)
  have hP : va_P (dC, dI) vwCl [(aO, .inr (3, [.ref aB, .int 0])), (aB, .inl (cB, 4096, .inl (fun _ => 0)))] H := hP
  have hD : va_D A [(aO, .inr (3, [.ref aB, .int 0])), (aB, .inl (cB, 4096, .inl (fun _ => 0)))] := hD
  have hP9 := hP.sub (ws' := [(aO, .inr (3, [.ref aB, .int 0])), (aB, .inl (cB, 4096, .inl (fun _ => 0)))]) [0, 1] rfl
  have hD9 := hD.sub (ws' := [(aO, .inr (3, [.ref aB, .int 0])), (aB, .inl (cB, 4096, .inl (fun _ => 0)))]) [0, 1] (by decide) rfl
  exact W.vret hx hb hr (fun t ht hW => ⟨⟨aB, rfl, trivial, by rw [ht]; exact hP9, hD9⟩, hS.F ht⟩) hS.2.2 dX3_init_13
set_option maxHeartbeats 4000000 in
/-- GroupedNumbers(): all its parts are made -/
theorem m_G_init (l : Launch) (dC : Nat → ClassId) (dI : Nat → Nat → Nat) (cB : ClassId) (aX : Nat) (sz : Nat) (hfl : l.flags = flags0) : Met l yX0_init (ws_ yX0_init cX0_init 1 none) ({ frames := 7, cells := 7, slots := 5111, locals := 102 }) (fun a U => (gC dC dI [.ref aX] [(aX, .inr (0, [.null, .null, .null, .null, .int 0, .long 0]))] [(cB, .byte)] sz) a U ∧ th_X (va_A [(aX, .inr (0, [.null, .null, .null, .null, .int 0, .long 0]))] sz) U ∧ va_Nw (.methodLinkNest RX0 9 yX1_init RX0) U ∧ va_Nw (.methodLinkNest RX0 27 yX3_init RX0) U) (va_Qv (fun _ : Nat × Nat × Nat × Nat × Nat × Nat × Nat × List Value => True) (fun (u : Nat × Nat × Nat × Nat × Nat × Nat × Nat × List Value) t => gB dC dI (va_A [(aX, .inr (0, [.null, .null, .null, .null, .int 0, .long 0]))] sz) [(aX, .inr (0, [.ref u.1, .ref u.2.1, .ref u.2.2.1, .ref u.2.2.2.1, .int 0, .long 0])), (u.1, .inr (1, [.ref u.2.2.2.2.1, .int 0, .int (-1)])), (u.2.2.2.2.1, .inr (5, u.2.2.2.2.2.2.2)), (u.2.1, .inr (2, [.ref u.1, .ref u.2.2.2.2.2.1, .int 0, .int 0])), (u.2.2.2.1, .inl (cB, 1000, .inl (fun _ => 0))), (u.2.2.1, .inr (3, [.ref u.2.2.2.2.2.2.1, .int 0])), (u.2.2.2.2.2.2.1, .inl (cB, 4096, .inl (fun _ => 0)))] t) (va_A [(aX, .inr (0, [.null, .null, .null, .null, .int 0, .long 0]))] sz)) 7 5111 (va_A [(aX, .inr (0, [.null, .null, .null, .null, .int 0, .long 0]))] sz) := by
  refine Met.ofW (cc := cX0_init) (maxL := 1) (ret := none) (by decide) rfl ?_
  intro p e s m args below meth c s₁ B hml hv
  obtain ⟨hv, hX⟩ := hv
  obtain ⟨rfl, hsz, hP, hK, hD0⟩ := hv
  have hx := B.exec
  have hb := B.bytes
  have hr := B.returns
  have hts0 := atoms_spec (ws := (ws_ yX0_init cX0_init 1 none)) B.pre
  have hts : ∀ w ∈ lw_all, w.before _ s = true := fun w h => hts0 w (List.mem_cons_of_mem _ h)
  have hown : s.vm.findClass RX0 = some m.cls := findClass_of_methodNamed B.named
  have hlocks := B.notSynchronized
  have hin : meth.name = "<init>" := (name_of_methodNamed B.named B.method).1
  subst hsz
  have hD := hD0.self (sz := s.heap.size)
  generalize hAe : va_A [(aX, .inr (0, [.null, .null, .null, .null, .int 0, .long 0]))] s.heap.size = A at hD hX ⊢
  have hA : ∀ q : Nat, s.heap.size ≤ q → A q := fun q h => by rw [← hAe]; exact Or.inr h
  have hS : va_S A s.heap s.heap [] := va_S.rf
  have hP : va_P (dC, dI) vwCl [(aX, .inr (0, [.null, .null, .null, .null, .int 0, .long 0]))] s.heap := hP
  have hl := lv_entry ([.ref aX]) (n := 1) (Nat.le_of_ble_eq_true rfl)
  rw [lg_entry_eq]
  generalize (lg_sl ([.ref aX]) ++ List.replicate (1 - (lg_sl ([.ref aX])).length) Slot.unset).toArray = ls at hl ⊢
  have hl : lv_has ls 1 [(0, .ref aX)] := hl
  obtain ⟨hX, hN1, hN2⟩ := hX
  refine lv_aload_n hx hb dX0_init_0 rfl (lv_at hl 0 rfl) ?_
  refine W.objInit hx hb hown (hts _ q19) (hts _ q20) (hts _ q21) rfl (by rw [hml]; exact hl.1) rfl dX0_init_1 (Nat.le_of_ble_eq_true rfl) (Nat.le_of_ble_eq_true rfl) ?_
  refine W.eq (g2 := F0 m 4 ls []) rfl ?_
  refine lv_aload_n hx hb dX0_init_4 rfl (lv_at hl 0 rfl) ?_
  refine va_new (ci := 1) (fs := [.null, .int 0, .int 0]) (C := RX1) (T := TX1) (N := 3) hx hb hts in_X1 tyX1 tyX1_ok hown (hts _ q22) (hts _ q23) (hts _ q5) hK hP hD hS hA rfl (fun j hj => by rcases (show j = 0 ∨ j = 1 ∨ j = 2 by omega) with rfl | rfl | rfl <;> rfl) (Nat.le_of_ble_eq_true rfl) (Nat.le_of_ble_eq_true rfl) dX0_init_5 (fun aF H hP hD hS => ?_)
  have hP : va_P (dC, dI) vwCl [(aX, .inr (0, [.null, .null, .null, .null, .int 0, .long 0])), (aF, .inr (1, [.null, .int 0, .int 0]))] H := hP
  have hD : va_D A [(aX, .inr (0, [.null, .null, .null, .null, .int 0, .long 0])), (aF, .inr (1, [.null, .int 0, .int 0]))] := hD
  refine W.widen (k := 1) (n := 3) (Nat.le_of_ble_eq_true rfl) (Nat.le_of_ble_eq_true rfl) ?_
  refine lv_dup hx hb dX0_init_8 rfl ?_
  have hPc := hP.sub (ws' := [(aF, .inr (1, [.null, .int 0, .int 0]))]) [1] rfl
  have hDc := hD.sub (ws' := [(aF, .inr (1, [.null, .int 0, .int 0]))]) [1] (by decide) rfl
  have hFc := va_free (wc := [(aF, .inr (1, [.null, .int 0, .int 0]))]) hD hS hA [1] rfl
  refine va_callv (va_runIN (As := []) (rest := [.ref aF, .ref aX]) ⟨hx, hb, hml, hown, hts⟩ (m_F_init l dC dI cB aF _ hfl) ⟨va_cnB 0 hts (lw_meth q26) rfl rfl rfl hN1 (hts _ q5) (by decide +kernel) ⟨Nat.le_of_ble_eq_true rfl, Nat.le_of_ble_eq_true rfl⟩, rfl, hts _ q25⟩ ⟨fun a U g mk q => ⟨gC_bl a U g mk q.1, th_X.call q.2⟩, fun U hU hW => ⟨gC_of hPc hK hDc U hU hW, th_X.move hX hW (fun a h1 h2 => by rw [hU]; exact hS.2.1 a h1 h2) hFc⟩⟩ rfl rfl hl.1 rfl (lv_room (Nat.le_of_ble_eq_true rfl)) dX0_init_9 ⟨Nat.le_of_ble_eq_true rfl, Nat.le_of_ble_eq_true rfl⟩) hS (fun q _ h => hFc q h) hFc (fun u t H1 locs ht hvm hw hB hz1 hk1 hS => ?_)
  obtain ⟨aE, es⟩ := u
  obtain ⟨hP1, hD1⟩ := hB
  rw [ht] at hP1
  obtain ⟨hP, hD⟩ := va_join (wr := [(aX, .inr (0, [.null, .null, .null, .null, .int 0, .long 0]))]) (w1 := [(aF, .inr (1, [.ref aE, .int 0, .int 0])), (aE, .inr (5, es))]) hP hD [1] [0] rfl rfl (by decide) (by decide) hk1 hFc hP1 hD1
  generalize H1 = H at hP hS ⊢
  clear ht hz1 hk1
  have hP : va_P (dC, dI) vwCl [(aX, .inr (0, [.null, .null, .null, .null, .int 0, .long 0])), (aF, .inr (1, [.ref aE, .int 0, .int 0])), (aE, .inr (5, es))] H := hP
  have hD : va_D A [(aX, .inr (0, [.null, .null, .null, .null, .int 0, .long 0])), (aF, .inr (1, [.ref aE, .int 0, .int 0])), (aE, .inr (5, es))] := hD
  refine W.widen (k := 2) (n := 9) (Nat.le_of_ble_eq_true rfl) (Nat.le_of_ble_eq_true rfl) ?_
  refine va_putF (D := (dC, dI)) (ci := 0) (v := .ref aF) (ty := .object "GroupedNumbers$Fault") (C := RX0) (T := TX0) (N := 6) hx hb hts in_X0 tyX0 tyX0_ok nmX0 hown hK hP hD hS 0 rfl rfl 0 (by decide) (hts _ q139) (fun _ h9 => h9) rfl hin rfl (by decide +kernel) rfl rfl (Nat.le_of_ble_eq_true rfl) dX0_init_12 (fun H locs hP hD hS => ?_)
  have hP : va_P (dC, dI) vwCl [(aX, .inr (0, [.ref aF, .null, .null, .null, .int 0, .long 0])), (aF, .inr (1, [.ref aE, .int 0, .int 0])), (aE, .inr (5, es))] H := hP
  have hD : va_D A [(aX, .inr (0, [.ref aF, .null, .null, .null, .int 0, .long 0])), (aF, .inr (1, [.ref aE, .int 0, .int 0])), (aE, .inr (5, es))] := hD
  refine lv_aload_n hx hb dX0_init_15 rfl (lv_at hl 0 rfl) ?_
  refine va_new (ci := 2) (fs := [.null, .null, .int 0, .int 0]) (C := RX2) (T := TX2) (N := 4) hx hb hts in_X2 tyX2 tyX2_ok hown (hts _ q99) (hts _ q100) (hts _ q10) hK hP hD hS hA rfl (fun j hj => by rcases (show j = 0 ∨ j = 1 ∨ j = 2 ∨ j = 3 by omega) with rfl | rfl | rfl | rfl <;> rfl) (Nat.le_of_ble_eq_true rfl) (Nat.le_of_ble_eq_true rfl) dX0_init_16 (fun aR H hP hD hS => ?_)
  have hP : va_P (dC, dI) vwCl [(aX, .inr (0, [.ref aF, .null, .null, .null, .int 0, .long 0])), (aF, .inr (1, [.ref aE, .int 0, .int 0])), (aE, .inr (5, es)), (aR, .inr (2, [.null, .null, .int 0, .int 0]))] H := hP
  have hD : va_D A [(aX, .inr (0, [.ref aF, .null, .null, .null, .int 0, .long 0])), (aF, .inr (1, [.ref aE, .int 0, .int 0])), (aE, .inr (5, es)), (aR, .inr (2, [.null, .null, .int 0, .int 0]))] := hD
  refine W.widen (k := 3) (n := 13) (Nat.le_of_ble_eq_true rfl) (Nat.le_of_ble_eq_true rfl) ?_
  refine lv_dup hx hb dX0_init_19 rfl ?_
  refine lv_aload_n hx hb dX0_init_20 rfl (lv_at hl 0 rfl) ?_
  refine va_get (D := (dC, dI)) (ci := 0) (v := .ref aF) (C := RX0) (T := TX0) (N := 6) hx hb hts in_X0 hown hK hP 0 rfl rfl 0 (by decide) (hts _ q139) (fun _ h9 => h9) rfl dX0_init_21 ?_
  have hPc := hP.sub (ws' := [(aR, .inr (2, [.null, .null, .int 0, .int 0]))]) [3] rfl
  have hDc := hD.sub (ws' := [(aR, .inr (2, [.null, .null, .int 0, .int 0]))]) [3] (by decide) rfl
  have hFc := va_free (wc := [(aR, .inr (2, [.null, .null, .int 0, .int 0]))]) hD hS hA [3] rfl
  refine va_callv (va_runI (As := [.ref aF]) (rest := [.ref aR, .ref aX]) ⟨hx, hb, hml, hown, hts⟩ (m_R_init l dC dI cB aR aF _) (cwI 1 hts (lw_meth q103) rfl rfl rfl (hts _ q10) (hts _ q101) (hts _ q102) rfl (by decide +kernel) ⟨Nat.le_of_ble_eq_true rfl, Nat.le_of_ble_eq_true rfl⟩) ⟨gC_bl, gC_of hPc hK hDc⟩ rfl rfl hl.1 rfl (lv_room (Nat.le_of_ble_eq_true rfl)) dX0_init_24 ⟨Nat.le_of_ble_eq_true rfl, Nat.le_of_ble_eq_true rfl⟩) hS (fun q _ h => hFc q h) hFc (fun rb t H1 locs ht hvm hw hB hz1 hk1 hS => ?_)
  obtain ⟨hP1, hD1⟩ := hB
  rw [ht] at hP1
  obtain ⟨hP, hD⟩ := va_join (wr := [(aX, .inr (0, [.ref aF, .null, .null, .null, .int 0, .long 0])), (aF, .inr (1, [.ref aE, .int 0, .int 0])), (aE, .inr (5, es))]) (w1 := [(aR, .inr (2, [.ref aF, .ref rb, .int 0, .int 0]))]) hP hD [3] [0, 1, 2] rfl rfl (by decide) (by decide) hk1 hFc hP1 hD1
  generalize H1 = H at hP hS ⊢
  clear ht hz1 hk1
  have hP : va_P (dC, dI) vwCl [(aX, .inr (0, [.ref aF, .null, .null, .null, .int 0, .long 0])), (aF, .inr (1, [.ref aE, .int 0, .int 0])), (aE, .inr (5, es)), (aR, .inr (2, [.ref aF, .ref rb, .int 0, .int 0]))] H := hP
  have hD : va_D A [(aX, .inr (0, [.ref aF, .null, .null, .null, .int 0, .long 0])), (aF, .inr (1, [.ref aE, .int 0, .int 0])), (aE, .inr (5, es)), (aR, .inr (2, [.ref aF, .ref rb, .int 0, .int 0]))] := hD
  refine W.widen (k := 4) (n := 13) (Nat.le_of_ble_eq_true rfl) (Nat.le_of_ble_eq_true rfl) ?_
  refine va_putF (D := (dC, dI)) (ci := 0) (v := .ref aR) (ty := .object "GroupedNumbers$Reader") (C := RX0) (T := TX0) (N := 6) hx hb hts in_X0 tyX0 tyX0_ok nmX0 hown hK hP hD hS 0 rfl rfl 1 (by decide) (hts _ q140) (fun _ h9 => h9) rfl hin rfl (by decide +kernel) rfl rfl (Nat.le_of_ble_eq_true rfl) dX0_init_27 (fun H locs hP hD hS => ?_)
  have hP : va_P (dC, dI) vwCl [(aX, .inr (0, [.ref aF, .ref aR, .null, .null, .int 0, .long 0])), (aF, .inr (1, [.ref aE, .int 0, .int 0])), (aE, .inr (5, es)), (aR, .inr (2, [.ref aF, .ref rb, .int 0, .int 0]))] H := hP
  have hD : va_D A [(aX, .inr (0, [.ref aF, .ref aR, .null, .null, .int 0, .long 0])), (aF, .inr (1, [.ref aE, .int 0, .int 0])), (aE, .inr (5, es)), (aR, .inr (2, [.ref aF, .ref rb, .int 0, .int 0]))] := hD
  refine lv_aload_n hx hb dX0_init_30 rfl (lv_at hl 0 rfl) ?_
  refine va_new (ci := 3) (fs := [.null, .int 0]) (C := RX3) (T := TX3) (N := 2) hx hb hts in_X3 tyX3 tyX3_ok hown (hts _ q120) (hts _ q121) (hts _ q11) hK hP hD hS hA rfl (fun j hj => by rcases (show j = 0 ∨ j = 1 by omega) with rfl | rfl <;> rfl) (Nat.le_of_ble_eq_true rfl) (Nat.le_of_ble_eq_true rfl) dX0_init_31 (fun aO H hP hD hS => ?_)
  have hP : va_P (dC, dI) vwCl [(aX, .inr (0, [.ref aF, .ref aR, .null, .null, .int 0, .long 0])), (aF, .inr (1, [.ref aE, .int 0, .int 0])), (aE, .inr (5, es)), (aR, .inr (2, [.ref aF, .ref rb, .int 0, .int 0])), (aO, .inr (3, [.null, .int 0]))] H := hP
  have hD : va_D A [(aX, .inr (0, [.ref aF, .ref aR, .null, .null, .int 0, .long 0])), (aF, .inr (1, [.ref aE, .int 0, .int 0])), (aE, .inr (5, es)), (aR, .inr (2, [.ref aF, .ref rb, .int 0, .int 0])), (aO, .inr (3, [.null, .int 0]))] := hD
  refine W.widen (k := 5) (n := 15) (Nat.le_of_ble_eq_true rfl) (Nat.le_of_ble_eq_true rfl) ?_
  refine lv_dup hx hb dX0_init_34 rfl ?_
  have hPc := hP.sub (ws' := [(aO, .inr (3, [.null, .int 0]))]) [4] rfl
  have hDc := hD.sub (ws' := [(aO, .inr (3, [.null, .int 0]))]) [4] (by decide) rfl
  have hFc := va_free (wc := [(aO, .inr (3, [.null, .int 0]))]) hD hS hA [4] rfl
  refine va_callv (va_runIN (As := []) (rest := [.ref aO, .ref aX]) ⟨hx, hb, hml, hown, hts⟩ (m_O_init l dC dI cB aO _) ⟨va_cnB 0 hts (lw_meth q124) rfl rfl rfl hN2 (hts _ q11) (by decide +kernel) ⟨Nat.le_of_ble_eq_true rfl, Nat.le_of_ble_eq_true rfl⟩, rfl, hts _ q123⟩ ⟨gC_bl, gC_of hPc hK hDc⟩ rfl rfl hl.1 rfl (lv_room (Nat.le_of_ble_eq_true rfl)) dX0_init_35 ⟨Nat.le_of_ble_eq_true rfl, Nat.le_of_ble_eq_true rfl⟩) hS (fun q _ h => hFc q h) hFc (fun aB t H1 locs ht hvm hw hB hz1 hk1 hS => ?_)
  obtain ⟨hP1, hD1⟩ := hB
  rw [ht] at hP1
  obtain ⟨hP, hD⟩ := va_join (wr := [(aX, .inr (0, [.ref aF, .ref aR, .null, .null, .int 0, .long 0])), (aF, .inr (1, [.ref aE, .int 0, .int 0])), (aE, .inr (5, es)), (aR, .inr (2, [.ref aF, .ref rb, .int 0, .int 0]))]) (w1 := [(aO, .inr (3, [.ref aB, .int 0])), (aB, .inl (cB, 4096, .inl (fun _ => 0)))]) hP hD [4] [0, 1, 2, 3] rfl rfl (by decide) (by decide) hk1 hFc hP1 hD1
  generalize H1 = H at hP hS ⊢
  clear ht hz1 hk1
  have hP : va_P (dC, dI) vwCl [(aX, .inr (0, [.ref aF, .ref aR, .null, .null, .int 0, .long 0])), (aF, .inr (1, [.ref aE, .int 0, .int 0])), (aE, .inr (5, es)), (aR, .inr (2, [.ref aF, .ref rb, .int 0, .int 0])), (aO, .inr (3, [.ref aB, .int 0])), (aB, .inl (cB, 4096, .inl (fun _ => 0)))] H := hP
  have hD : va_D A [(aX, .inr (0, [.ref aF, .ref aR, .null, .null, .int 0, .long 0])), (aF, .inr (1, [.ref aE, .int 0, .int 0])), (aE, .inr (5, es)), (aR, .inr (2, [.ref aF, .ref rb, .int 0, .int 0])), (aO, .inr (3, [.ref aB, .int 0])), (aB, .inl (cB, 4096, .inl (fun _ => 0)))] := hD
  refine W.widen (k := 6) (n := 4111) (Nat.le_of_ble_eq_true rfl) (Nat.le_of_ble_eq_true rfl) ?_
  refine va_putF (D := (dC, dI)) (ci := 0) (v := .ref aO) (ty := .object "GroupedNumbers$Out") (C := RX0) (T := TX0) (N := 6) hx hb hts in_X0 tyX0 tyX0_ok nmX0 hown hK hP hD hS 0 rfl rfl 2 (by decide) (hts _ q141) (fun _ h9 => h9) rfl hin rfl (by decide +kernel) rfl rfl (Nat.le_of_ble_eq_true rfl) dX0_init_38 (fun H locs hP hD hS => ?_)
  have hP : va_P (dC, dI) vwCl [(aX, .inr (0, [.ref aF, .ref aR, .ref aO, .null, .int 0, .long 0])), (aF, .inr (1, [.ref aE, .int 0, .int 0])), (aE, .inr (5, es)), (aR, .inr (2, [.ref aF, .ref rb, .int 0, .int 0])), (aO, .inr (3, [.ref aB, .int 0])), (aB, .inl (cB, 4096, .inl (fun _ => 0)))] H := hP
  have hD : va_D A [(aX, .inr (0, [.ref aF, .ref aR, .ref aO, .null, .int 0, .long 0])), (aF, .inr (1, [.ref aE, .int 0, .int 0])), (aE, .inr (5, es)), (aR, .inr (2, [.ref aF, .ref rb, .int 0, .int 0])), (aO, .inr (3, [.ref aB, .int 0])), (aB, .inl (cB, 4096, .inl (fun _ => 0)))] := hD
  refine lv_aload_n hx hb dX0_init_41 rfl (lv_at hl 0 rfl) ?_
  refine lv_sipush (v := 1000) hx hb dX0_init_42 (by decide) ?_
  refine va_newa (atype := .byte) (ty := .byte) (a0 := (1000, .inl (fun _ => 0))) (N' := 1000) hx hb (hts _ q119) rfl hK hP hD hS hA (fun _ => rfl) (by decide) (by decide) (by decide) (Nat.le_of_ble_eq_true rfl) (Nat.le_of_ble_eq_true rfl) dX0_init_45 (fun aA cB2 H hK2 hP hD hS => ?_)
  have e2 := (gK_one hK2).symm
  subst e2
  clear hK2
  have hP : va_P (dC, dI) vwCl [(aX, .inr (0, [.ref aF, .ref aR, .ref aO, .null, .int 0, .long 0])), (aF, .inr (1, [.ref aE, .int 0, .int 0])), (aE, .inr (5, es)), (aR, .inr (2, [.ref aF, .ref rb, .int 0, .int 0])), (aO, .inr (3, [.ref aB, .int 0])), (aB, .inl (cB, 4096, .inl (fun _ => 0))), (aA, .inl (cB, 1000, .inl (fun _ => 0)))] H := hP
  have hD : va_D A [(aX, .inr (0, [.ref aF, .ref aR, .ref aO, .null, .int 0, .long 0])), (aF, .inr (1, [.ref aE, .int 0, .int 0])), (aE, .inr (5, es)), (aR, .inr (2, [.ref aF, .ref rb, .int 0, .int 0])), (aO, .inr (3, [.ref aB, .int 0])), (aB, .inl (cB, 4096, .inl (fun _ => 0))), (aA, .inl (cB, 1000, .inl (fun _ => 0)))] := hD
  refine W.widen (k := 7) (n := 5111) (Nat.le_of_ble_eq_true rfl) (Nat.le_of_ble_eq_true rfl) ?_
  refine va_putF (D := (dC, dI)) (ci := 0) (v := .ref aA) (ty := .array .byte) (C := RX0) (T := TX0) (N := 6) hx hb hts in_X0 tyX0 tyX0_ok nmX0 hown hK hP hD hS 0 rfl rfl 3 (by decide) (hts _ q142) (fun _ h9 => h9) rfl hin rfl (by decide +kernel) rfl rfl (Nat.le_of_ble_eq_true rfl) dX0_init_47 (fun H locs hP hD hS => ?_)
  have hP : va_P (dC, dI) vwCl [(aX, .inr (0, [.ref aF, .ref aR, .ref aO, .ref aA, .int 0, .long 0])), (aF, .inr (1, [.ref aE, .int 0, .int 0])), (aE, .inr (5, es)), (aR, .inr (2, [.ref aF, .ref rb, .int 0, .int 0])), (aO, .inr (3, [.ref aB, .int 0])), (aB, .inl (cB, 4096, .inl (fun _ => 0))), (aA, .inl (cB, 1000, .inl (fun _ => 0)))] H := hP
  have hD : va_D A [(aX, .inr (0, [.ref aF, .ref aR, .ref aO, .ref aA, .int 0, .long 0])), (aF, .inr (1, [.ref aE, .int 0, .int 0])), (aE, .inr (5, es)), (aR, .inr (2, [.ref aF, .ref rb, .int 0, .int 0])), (aO, .inr (3, [.ref aB, .int 0])), (aB, .inl (cB, 4096, .inl (fun _ => 0))), (aA, .inl (cB, 1000, .inl (fun _ => 0)))] := hD
  refine lv_aload_n hx hb dX0_init_50 rfl (lv_at hl 0 rfl) ?_
  refine va_get (D := (dC, dI)) (ci := 0) (v := .ref aF) (C := RX0) (T := TX0) (N := 6) hx hb hts in_X0 hown hK hP 0 rfl rfl 0 (by decide) (hts _ q139) (fun _ h9 => h9) rfl dX0_init_51 ?_
  have hPc := hP.sub (ws' := [(aF, .inr (1, [.ref aE, .int 0, .int 0]))]) [1] rfl
  have hDc := hD.sub (ws' := [(aF, .inr (1, [.ref aE, .int 0, .int 0]))]) [1] (by decide) rfl
  have hFc := va_free (wc := [(aF, .inr (1, [.ref aE, .int 0, .int 0]))]) hD hS hA [1] rfl
  refine va_callv (va_runV (As := []) (rest := []) ⟨hx, hb, hml, hown, hts⟩ (m_F_begin l dC dI cB aF aE 0 0 _) (cwV 0 hts (lw_V q135 q136 q137 q5 q138) rfl rfl rfl (by decide +kernel) ⟨Nat.le_of_ble_eq_true rfl, Nat.le_of_ble_eq_true rfl⟩) ⟨gC_bl, va_recv hK hPc (ci := 1) (q0 := 0) rfl rfl, gC_of hPc hK hDc⟩ rfl rfl hl.1 rfl (lv_room (Nat.le_of_ble_eq_true rfl)) dX0_init_54 ⟨Nat.le_of_ble_eq_true rfl, Nat.le_of_ble_eq_true rfl⟩) hS (fun q _ h => hFc q h) hFc (fun u t H1 locs ht hvm hw hB hz1 hk1 hS => ?_)
  obtain ⟨hP1, hD1⟩ := hB
  rw [ht] at hP1
  obtain ⟨hP, hD⟩ := va_join (wr := [(aX, .inr (0, [.ref aF, .ref aR, .ref aO, .ref aA, .int 0, .long 0])), (aE, .inr (5, es)), (aR, .inr (2, [.ref aF, .ref rb, .int 0, .int 0])), (aO, .inr (3, [.ref aB, .int 0])), (aB, .inl (cB, 4096, .inl (fun _ => 0))), (aA, .inl (cB, 1000, .inl (fun _ => 0)))]) (w1 := [(aF, .inr (1, [.ref aE, .int 0, .int (-1)]))]) hP hD [1] [0, 2, 3, 4, 5, 6] rfl rfl (by decide) (by decide) hk1 hFc hP1 hD1
  have hP := hP.sub (ws' := [(aX, .inr (0, [.ref aF, .ref aR, .ref aO, .ref aA, .int 0, .long 0])), (aF, .inr (1, [.ref aE, .int 0, .int (-1)])), (aE, .inr (5, es)), (aR, .inr (2, [.ref aF, .ref rb, .int 0, .int 0])), (aO, .inr (3, [.ref aB, .int 0])), (aB, .inl (cB, 4096, .inl (fun _ => 0))), (aA, .inl (cB, 1000, .inl (fun _ => 0)))]) [0, 6, 1, 2, 3, 4, 5] rfl
  have hD := hD.sub (ws' := [(aX, .inr (0, [.ref aF, .ref aR, .ref aO, .ref aA, .int 0, .long 0])), (aF, .inr (1, [.ref aE, .int 0, .int (-1)])), (aE, .inr (5, es)), (aR, .inr (2, [.ref aF, .ref rb, .int 0, .int 0])), (aO, .inr (3, [.ref aB, .int 0])), (aB, .inl (cB, 4096, .inl (fun _ => 0))), (aA, .inl (cB, 1000, .inl (fun _ => 0)))]) [0, 6, 1, 2, 3, 4, 5] (by decide) rfl
  generalize H1 = H at hP hS ⊢
  have hP9 := hP.sub (ws' := [(aX, .inr (0, [.ref aF, .ref aR, .ref aO, .ref aA, .int 0, .long 0])), (aF, .inr (1, [.ref aE, .int 0, .int (-1)])), (aE, .inr (5, es)), (aR, .inr (2, [.ref aF, .ref rb, .int 0, .int 0])), (aA, .inl (cB, 1000, .inl (fun _ => 0))), (aO, .inr (3, [.ref aB, .int 0])), (aB, .inl (cB, 4096, .inl (fun _ => 0)))]) [0, 1, 2, 3, 6, 4, 5] rfl
  have hD9 := hD.sub (ws' := [(aX, .inr (0, [.ref aF, .ref aR, .ref aO, .ref aA, .int 0, .long 0])), (aF, .inr (1, [.ref aE, .int 0, .int (-1)])), (aE, .inr (5, es)), (aR, .inr (2, [.ref aF, .ref rb, .int 0, .int 0])), (aA, .inl (cB, 1000, .inl (fun _ => 0))), (aO, .inr (3, [.ref aB, .int 0])), (aB, .inl (cB, 4096, .inl (fun _ => 0)))]) [0, 1, 2, 3, 6, 4, 5] (by decide) rfl
  exact W.vret hx hb hr (fun t ht hW => ⟨⟨(aF, aR, aO, aA, aE, rb, aB, es), rfl, trivial, by rw [ht]; exact hP9, hD9⟩, hS.F ht⟩) hS.2.2 dX0_init_57
set_option maxHeartbeats 4000000 in
/-- GroupedNumbersModel(): two empty rows -/
theorem m_M_init (l : Launch) (dC : Nat → ClassId) (dI : Nat → Nat → Nat) (cB : ClassId) (aY : Nat) (sz : Nat)  : Met l yX4_init (ws_ yX4_init cX4_init 1 none) ({ frames := 1, cells := 2, slots := 2000, locals := 14 }) (gC dC dI [.ref aY] [(aY, .inr (4, [.null, .null, .int 0, .int 0, .long 0]))] [(cB, .byte)] sz) (va_Qv (fun _ : Nat × Nat => True) (fun (u : Nat × Nat) t => gB dC dI (va_A [(aY, .inr (4, [.null, .null, .int 0, .int 0, .long 0]))] sz) [(aY, .inr (4, [.ref u.1, .ref u.2, .int 0, .int 0, .long 0])), (u.1, .inl (cB, 1000, .inl (fun _ => 0))), (u.2, .inl (cB, 1000, .inl (fun _ => 0)))] t) (va_A [(aY, .inr (4, [.null, .null, .int 0, .int 0, .long 0]))] sz)) 2 2000 (va_A [(aY, .inr (4, [.null, .null, .int 0, .int 0, .long 0]))] sz) := by
  refine Met.ofW (cc := cX4_init) (maxL := 1) (ret := none) (by decide) rfl ?_
  intro p e s m args below meth c s₁ B hml hv
  obtain ⟨rfl, hsz, hP, hK, hD0⟩ := hv
  have hx := B.exec
  have hb := B.bytes
  have hr := B.returns
  have hts0 := atoms_spec (ws := (ws_ yX4_init cX4_init 1 none)) B.pre
  have hts : ∀ w ∈ lw_all, w.before _ s = true := fun w h => hts0 w (List.mem_cons_of_mem _ h)
  have hown : s.vm.findClass RX4 = some m.cls := findClass_of_methodNamed B.named
  have hlocks := B.notSynchronized
  have hin : meth.name = "<init>" := (name_of_methodNamed B.named B.method).1
  subst hsz
  have hD := hD0.self (sz := s.heap.size)
  generalize hAe : va_A [(aY, .inr (4, [.null, .null, .int 0, .int 0, .long 0]))] s.heap.size = A at hD ⊢
  have hA : ∀ q : Nat, s.heap.size ≤ q → A q := fun q h => by rw [← hAe]; exact Or.inr h
  have hS : va_S A s.heap s.heap [] := va_S.rf
  have hP : va_P (dC, dI) vwCl [(aY, .inr (4, [.null, .null, .int 0, .int 0, .long 0]))] s.heap := hP
  have hl := lv_entry ([.ref aY]) (n := 1) (Nat.le_of_ble_eq_true rfl)
  rw [lg_entry_eq]
  generalize (lg_sl ([.ref aY]) ++ List.replicate (1 - (lg_sl ([.ref aY])).length) Slot.unset).toArray = ls at hl ⊢
  have hl : lv_has ls 1 [(0, .ref aY)] := hl
  refine lv_aload_n hx hb dX4_init_0 rfl (lv_at hl 0 rfl) ?_
  refine W.objInit hx hb hown (hts _ q254) (hts _ q20) (hts _ q21) rfl (by rw [hml]; exact hl.1) rfl dX4_init_1 (Nat.le_of_ble_eq_true rfl) (Nat.le_of_ble_eq_true rfl) ?_
  refine W.eq (g2 := F0 m 4 ls []) rfl ?_
  refine lv_aload_n hx hb dX4_init_4 rfl (lv_at hl 0 rfl) ?_
  refine lv_sipush (v := 1000) hx hb dX4_init_5 (by decide) ?_
  refine va_newa (atype := .byte) (ty := .byte) (a0 := (1000, .inl (fun _ => 0))) (N' := 1000) hx hb (hts _ q119) rfl hK hP hD hS hA (fun _ => rfl) (by decide) (by decide) (by decide) (Nat.le_of_ble_eq_true rfl) (Nat.le_of_ble_eq_true rfl) dX4_init_8 (fun aM cB2 H hK2 hP hD hS => ?_)
  have e2 := (gK_one hK2).symm
  subst e2
  clear hK2
  have hP : va_P (dC, dI) vwCl [(aY, .inr (4, [.null, .null, .int 0, .int 0, .long 0])), (aM, .inl (cB, 1000, .inl (fun _ => 0)))] H := hP
  have hD : va_D A [(aY, .inr (4, [.null, .null, .int 0, .int 0, .long 0])), (aM, .inl (cB, 1000, .inl (fun _ => 0)))] := hD
  refine W.widen (k := 1) (n := 1000) (Nat.le_of_ble_eq_true rfl) (Nat.le_of_ble_eq_true rfl) ?_
  refine va_putF (D := (dC, dI)) (ci := 4) (v := .ref aM) (ty := .array .byte) (C := RX4) (T := TX4) (N := 5) hx hb hts in_X4 tyX4 tyX4_ok nmX4 hown hK hP hD hS 0 rfl rfl 0 (by decide) (hts _ q255) (fun _ h9 => h9) rfl hin rfl (by decide +kernel) rfl rfl (Nat.le_of_ble_eq_true rfl) dX4_init_10 (fun H locs hP hD hS => ?_)
  have hP : va_P (dC, dI) vwCl [(aY, .inr (4, [.ref aM, .null, .int 0, .int 0, .long 0])), (aM, .inl (cB, 1000, .inl (fun _ => 0)))] H := hP
  have hD : va_D A [(aY, .inr (4, [.ref aM, .null, .int 0, .int 0, .long 0])), (aM, .inl (cB, 1000, .inl (fun _ => 0)))] := hD
  refine lv_aload_n hx hb dX4_init_13 rfl (lv_at hl 0 rfl) ?_
  refine lv_sipush (v := 1000) hx hb dX4_init_14 (by decide) ?_
  refine va_newa (atype := .byte) (ty := .byte) (a0 := (1000, .inl (fun _ => 0))) (N' := 1000) hx hb (hts _ q119) rfl hK hP hD hS hA (fun _ => rfl) (by decide) (by decide) (by decide) (Nat.le_of_ble_eq_true rfl) (Nat.le_of_ble_eq_true rfl) dX4_init_17 (fun aN cB2 H hK2 hP hD hS => ?_)
  have e2 := (gK_one hK2).symm
  subst e2
  clear hK2
  have hP : va_P (dC, dI) vwCl [(aY, .inr (4, [.ref aM, .null, .int 0, .int 0, .long 0])), (aM, .inl (cB, 1000, .inl (fun _ => 0))), (aN, .inl (cB, 1000, .inl (fun _ => 0)))] H := hP
  have hD : va_D A [(aY, .inr (4, [.ref aM, .null, .int 0, .int 0, .long 0])), (aM, .inl (cB, 1000, .inl (fun _ => 0))), (aN, .inl (cB, 1000, .inl (fun _ => 0)))] := hD
  refine W.widen (k := 2) (n := 2000) (Nat.le_of_ble_eq_true rfl) (Nat.le_of_ble_eq_true rfl) ?_
  refine va_putF (D := (dC, dI)) (ci := 4) (v := .ref aN) (ty := .array .byte) (C := RX4) (T := TX4) (N := 5) hx hb hts in_X4 tyX4 tyX4_ok nmX4 hown hK hP hD hS 0 rfl rfl 1 (by decide) (hts _ q256) (fun _ h9 => h9) rfl hin rfl (by decide +kernel) rfl rfl (Nat.le_of_ble_eq_true rfl) dX4_init_19 (fun H locs hP hD hS => ?_)
  have hP : va_P (dC, dI) vwCl [(aY, .inr (4, [.ref aM, .ref aN, .int 0, .int 0, .long 0])), (aM, .inl (cB, 1000, .inl (fun _ => 0))), (aN, .inl (cB, 1000, .inl (fun _ => 0)))] H := hP
  have hD : va_D A [(aY, .inr (4, [.ref aM, .ref aN, .int 0, .int 0, .long 0])), (aM, .inl (cB, 1000, .inl (fun _ => 0))), (aN, .inl (cB, 1000, .inl (fun _ => 0)))] := hD
  have hP9 := hP.sub (ws' := [(aY, .inr (4, [.ref aM, .ref aN, .int 0, .int 0, .long 0])), (aM, .inl (cB, 1000, .inl (fun _ => 0))), (aN, .inl (cB, 1000, .inl (fun _ => 0)))]) [0, 1, 2] rfl
  have hD9 := hD.sub (ws' := [(aY, .inr (4, [.ref aM, .ref aN, .int 0, .int 0, .long 0])), (aM, .inl (cB, 1000, .inl (fun _ => 0))), (aN, .inl (cB, 1000, .inl (fun _ => 0)))]) [0, 1, 2] (by decide) rfl
  exact W.vret hx hb hr (fun t ht hW => ⟨⟨(aM, aN), rfl, trivial, by rw [ht]; exact hP9, hD9⟩, hS.F ht⟩) hS.2.2 dX4_init_22
end
section
set_option maxRecDepth 100000
def R_law : String := "GroupedNumbersLaw"
def gl_long (a b : Int32) : Int64 := (a.toInt64 <<< ((32 : Int32).toInt64 &&& 63)) ||| (b.toInt64 &&& 4294967295)
theorem gp_ixk (x : Int32) {k : Nat} (hk : k < 2 ^ 30) : (x < 0 ∨ nI k ≤ x) ∨ ∃ j : Nat, j < k ∧ x = nI j := by
  by_cases h : x < 0
  · exact Or.inl (Or.inl h)
  · obtain ⟨j, hj, rfl⟩ := nI_of h
    rcases Nat.lt_or_ge j k with q | q
    · exact Or.inr ⟨j, q, rfl⟩
    · exact Or.inl (Or.inr (nI_le q hj))
theorem gp_len_ex1 (hw : Nat) (v : Int64) : ∃ n, gp_Len hw v (n + 1) := by
  obtain ⟨n, hn⟩ := gp_len_ex hw v
  have h1 := hn.1
  exact ⟨n - 1, by rw [show n - 1 + 1 = n by omega]; exact hn⟩
theorem gp_fit {i L : Nat} (hi : i ≤ 1000) (hL : L ≤ 1000) (c : ¬ nI L - 6 < nI i) : i + 6 ≤ L := by
  have h1 := Int32.le_iff_toInt_le.mp (Int32.not_lt.mp c)
  rw [show (6 : Int32) = nI 6 from rfl, pk_sub_toInt (by omega) (by omega), nI_toInt (by omega)] at h1
  omega
theorem gp_sw (x : Int32) : x &&& 7 = 0 ∨ x &&& 7 = 1 ∨ x &&& 7 = 2 ∨ x &&& 7 = 3 ∨ x &&& 7 = 4 ∨ x &&& 7 = 5 ∨ x &&& 7 = 6 ∨ x &&& 7 = 7 := by
  obtain ⟨j, hj, e⟩ := pk_andE x (m := 7) 3 (by decide)
  rw [e]
  have hj : j < 8 := hj
  rcases (show j = 0 ∨ j = 1 ∨ j = 2 ∨ j = 3 ∨ j = 4 ∨ j = 5 ∨ j = 6 ∨ j = 7 by omega) with q | q | q | q | q | q | q | q <;> subst q <;> decide
set_option maxHeartbeats 4000000 in
/-- feed -/
theorem lw_feed {p : Program} {l : Launch} {e : Env} {R : Room} {s : State} {m : MethodId} {args : Array Value} {below : List Frame} {meth : Method} {c : Code} {Q : State → Prop} {dC : Nat → ClassId} {dI : Nat → Nat → Nat} {cB : ClassId} {A : Nat → Prop} {cells slots : Nat} (hx : p.tables.exec = Jvm.exec) (hb : c.code = cL_law) (hml : c.maxLocals = 4) (hown : s.vm.findClass R_law = some m.cls) (hts : ∀ w ∈ lw_all, w.before args s = true) (hA : ∀ q : Nat, s.heap.size ≤ q → A q) (hK : va_K (dC, dI) vwCl [(cB, .byte)] s) (hRf : 5 ≤ R.frames) (hRl : 113 ≤ R.locals) (hRc : cells ≤ R.cells) (hRs : slots ≤ R.slots) {b L : Nat} {xs : Nat → Int32} (hX : va_X b L xs s s.heap) (hbl : b < s.heap.size) (hbA : ¬ A b) (hL : L ≤ 384) (i : Nat) (hi : i + 6 ≤ L) (aX aF aR aO aA aE aB aY aM aN : Nat)
    (kx : ∀ (n k : Nat) (v : Int64) (f g : Nat → Int32) (es : List Value) (rb : Nat) (nb pl ra re : Int32) (H : Heap) (locs : List Loc) (ls : Array Slot), n ≤ 1000 → k ≤ 1000 → gp_By f → va_P (dC, dI) vwCl [(aX, .inr (0, [.ref aF, .ref aR, .ref aO, .ref aA, .int (nI n), .long v])), (aF, .inr (1, [.ref aE, .int nb, .int pl])), (aE, .inr (5, es)), (aR, .inr (2, [.ref aF, .ref rb, .int ra, .int re])), (aA, .inl (cB, 1000, .inl f)), (aO, .inr (3, [.ref aB, .int (nI k)])), (aB, .inl (cB, 4096, .inl g)), (aY, .inr (4, [.ref aM, .ref aN, .int (nI n), .int (nI k), .long v])), (aM, .inl (cB, 1000, .inl f)), (aN, .inl (cB, 1000, .inl g))] H → va_D A [(aX, .inr (0, [.ref aF, .ref aR, .ref aO, .ref aA, .int (nI n), .long v])), (aF, .inr (1, [.ref aE, .int nb, .int pl])), (aE, .inr (5, es)), (aR, .inr (2, [.ref aF, .ref rb, .int ra, .int re])), (aA, .inl (cB, 1000, .inl f)), (aO, .inr (3, [.ref aB, .int (nI k)])), (aB, .inl (cB, 4096, .inl g)), (aY, .inr (4, [.ref aM, .ref aN, .int (nI n), .int (nI k), .long v])), (aM, .inl (cB, 1000, .inl f)), (aN, .inl (cB, 1000, .inl g))] → va_S A s.heap H locs → lv_has ls 4 [(0, .ref b), (1, .ref aX), (2, .ref aY), (3, .int (nI (i + 6)))] → W p l e R s m args below meth c H locs cells slots Q (F0 m 18 ls [])) :
    ∀ (n k : Nat) (v : Int64) (f g : Nat → Int32) (es : List Value) (rb : Nat) (nb pl ra re : Int32) (H : Heap) (locs : List Loc) (ls : Array Slot), n ≤ 1000 → k ≤ 1000 → gp_By f → va_P (dC, dI) vwCl [(aX, .inr (0, [.ref aF, .ref aR, .ref aO, .ref aA, .int (nI n), .long v])), (aF, .inr (1, [.ref aE, .int nb, .int pl])), (aE, .inr (5, es)), (aR, .inr (2, [.ref aF, .ref rb, .int ra, .int re])), (aA, .inl (cB, 1000, .inl f)), (aO, .inr (3, [.ref aB, .int (nI k)])), (aB, .inl (cB, 4096, .inl g)), (aY, .inr (4, [.ref aM, .ref aN, .int (nI n), .int (nI k), .long v])), (aM, .inl (cB, 1000, .inl f)), (aN, .inl (cB, 1000, .inl g))] H → va_D A [(aX, .inr (0, [.ref aF, .ref aR, .ref aO, .ref aA, .int (nI n), .long v])), (aF, .inr (1, [.ref aE, .int nb, .int pl])), (aE, .inr (5, es)), (aR, .inr (2, [.ref aF, .ref rb, .int ra, .int re])), (aA, .inl (cB, 1000, .inl f)), (aO, .inr (3, [.ref aB, .int (nI k)])), (aB, .inl (cB, 4096, .inl g)), (aY, .inr (4, [.ref aM, .ref aN, .int (nI n), .int (nI k), .long v])), (aM, .inl (cB, 1000, .inl f)), (aN, .inl (cB, 1000, .inl g))] → va_S A s.heap H locs → lv_has ls 4 [(0, .ref b), (1, .ref aX), (2, .ref aY), (3, .int (nI i))] → W p l e R s m args below meth c H locs cells slots Q (F0 m 80 ls []) := by
  intro n k v f g es rb nb pl ra re H locs ls hn hk hBy hP hD hS hl
  by_cases hc : n + 20 ≤ 1000
  · refine lv_aload_n hx hb dL_law_80 rfl (lv_at hl 1 rfl) ?_
    refine lv_aload_n hx hb dL_law_81 rfl (lv_at hl 0 rfl) ?_
    refine lv_iload_n hx hb dL_law_82 rfl (lv_at hl 3 rfl) ?_
    refine lv_iconst (v := 1) hx hb dL_law_83 (by decide) ?_
    refine lv_iadd hx hb dL_law_84 ?_
    refine lv_topi (fun z_1 ez_1 => ?_)
    rw [show z_1 = nI (i + 1) from by rw [ez_1]; exact nI_add i 1]
    refine va_sld hx hb hX hbl hbA hS (i := (nI (i + 1))) (vp_in_nI (by omega) (by omega)) dL_law_85 ?_
    refine lv_topi (fun z_2 ez_2 => ?_)
    rw [show z_2 = xs (i + 1) from by rw [ez_2]; rw [nI_clamp (by omega)]]
    refine lv_aload_n hx hb dL_law_86 rfl (lv_at hl 0 rfl) ?_
    refine lv_iload_n hx hb dL_law_87 rfl (lv_at hl 3 rfl) ?_
    refine lv_iconst (v := 2) hx hb dL_law_88 (by decide) ?_
    refine lv_iadd hx hb dL_law_89 ?_
    refine lv_topi (fun z_3 ez_3 => ?_)
    rw [show z_3 = nI (i + 2) from by rw [ez_3]; exact nI_add i 2]
    refine va_sld hx hb hX hbl hbA hS (i := (nI (i + 2))) (vp_in_nI (by omega) (by omega)) dL_law_90 ?_
    refine lv_topi (fun z_4 ez_4 => ?_)
    rw [show z_4 = xs (i + 2) from by rw [ez_4]; rw [nI_clamp (by omega)]]
    refine lv_aload_n hx hb dL_law_91 rfl (lv_at hl 0 rfl) ?_
    refine lv_iload_n hx hb dL_law_92 rfl (lv_at hl 3 rfl) ?_
    refine lv_iconst (v := 3) hx hb dL_law_93 (by decide) ?_
    refine lv_iadd hx hb dL_law_94 ?_
    refine lv_topi (fun z_5 ez_5 => ?_)
    rw [show z_5 = nI (i + 3) from by rw [ez_5]; exact nI_add i 3]
    refine va_sld hx hb hX hbl hbA hS (i := (nI (i + 3))) (vp_in_nI (by omega) (by omega)) dL_law_95 ?_
    refine lv_topi (fun z_6 ez_6 => ?_)
    rw [show z_6 = xs (i + 3) from by rw [ez_6]; rw [nI_clamp (by omega)]]
    refine lv_aload_n hx hb dL_law_96 rfl (lv_at hl 0 rfl) ?_
    refine lv_iload_n hx hb dL_law_97 rfl (lv_at hl 3 rfl) ?_
    refine lv_iconst (v := 4) hx hb dL_law_98 (by decide) ?_
    refine lv_iadd hx hb dL_law_99 ?_
    refine lv_topi (fun z_7 ez_7 => ?_)
    rw [show z_7 = nI (i + 4) from by rw [ez_7]; exact nI_add i 4]
    refine va_sld hx hb hX hbl hbA hS (i := (nI (i + 4))) (vp_in_nI (by omega) (by omega)) dL_law_100 ?_
    refine lv_topi (fun z_8 ez_8 => ?_)
    rw [show z_8 = xs (i + 4) from by rw [ez_8]; rw [nI_clamp (by omega)]]
    refine lv_aload_n hx hb dL_law_101 rfl (lv_at hl 0 rfl) ?_
    refine lv_iload_n hx hb dL_law_102 rfl (lv_at hl 3 rfl) ?_
    refine lv_iconst (v := 5) hx hb dL_law_103 (by decide) ?_
    refine lv_iadd hx hb dL_law_104 ?_
    refine lv_topi (fun z_9 ez_9 => ?_)
    rw [show z_9 = nI (i + 5) from by rw [ez_9]; exact nI_add i 5]
    refine va_sld hx hb hX hbl hbA hS (i := (nI (i + 5))) (vp_in_nI (by omega) (by omega)) dL_law_105 ?_
    refine lv_topi (fun z_10 ez_10 => ?_)
    rw [show z_10 = xs (i + 5) from by rw [ez_10]; rw [nI_clamp (by omega)]]
    have hPc := hP.sub (ws' := [(aX, .inr (0, [.ref aF, .ref aR, .ref aO, .ref aA, .int (nI n), .long v])), (aA, .inl (cB, 1000, .inl f))]) [0, 4] rfl
    have hDc := hD.sub (ws' := [(aX, .inr (0, [.ref aF, .ref aR, .ref aO, .ref aA, .int (nI n), .long v])), (aA, .inl (cB, 1000, .inl f))]) [0, 4] (by decide) rfl
    have hFc := va_free (wc := [(aX, .inr (0, [.ref aF, .ref aR, .ref aO, .ref aA, .int (nI n), .long v])), (aA, .inl (cB, 1000, .inl f))]) hD hS hA [0, 4] rfl
    refine va_calli (va_runV (As := [.int (xs (i + 1)), .int (xs (i + 2)), .int (xs (i + 3)), .int (xs (i + 4)), .int (xs (i + 5))]) (rest := []) ⟨hx, hb, hml, hown, hts⟩ (m_G_feed l dC dI cB aX aF aR aO aA n v f (xs (i + 1)) (xs (i + 2)) (xs (i + 3)) (xs (i + 4)) (xs (i + 5)) _ hc) (cwV 5 hts (lw_V q158 q159 q160 q4 q161) rfl rfl rfl (by decide +kernel) ⟨Nat.le_trans (Nat.le_of_ble_eq_true rfl) hRf, Nat.le_trans (Nat.le_of_ble_eq_true rfl) hRl⟩) ⟨gC_bl, va_recv hK hPc (ci := 0) (q0 := 0) rfl rfl, gC_of hPc hK hDc⟩ rfl rfl hl.1 rfl (lv_room (Nat.le_of_ble_eq_true rfl)) dL_law_106 ⟨hRc, hRs⟩) hS (fun q _ h => hFc q h) hFc (fun r_11 u t H1 locs ht hvm hw hB hz1 hk1 hS => ?_)
    obtain ⟨hP1, hD1⟩ := hB
    rw [ht] at hP1
    obtain ⟨hP, hD⟩ := va_join (wr := [(aF, .inr (1, [.ref aE, .int nb, .int pl])), (aE, .inr (5, es)), (aR, .inr (2, [.ref aF, .ref rb, .int ra, .int re])), (aO, .inr (3, [.ref aB, .int (nI k)])), (aB, .inl (cB, 4096, .inl g)), (aY, .inr (4, [.ref aM, .ref aN, .int (nI n), .int (nI k), .long v])), (aM, .inl (cB, 1000, .inl f)), (aN, .inl (cB, 1000, .inl g))]) (w1 := [(aX, .inr (0, [.ref aF, .ref aR, .ref aO, .ref aA, .int (nI (n + 20)), .long v])), (aA, .inl (cB, 1000, .inl (gp_feed f n (xs (i + 1)) (xs (i + 2)) (xs (i + 3)) (xs (i + 4)) (xs (i + 5)))))]) hP hD [0, 4] [1, 2, 3, 5, 6, 7, 8, 9] rfl rfl (by decide) (by decide) hk1 hFc hP1 hD1
    have hP := hP.sub (ws' := [(aX, .inr (0, [.ref aF, .ref aR, .ref aO, .ref aA, .int (nI (n + 20)), .long v])), (aF, .inr (1, [.ref aE, .int nb, .int pl])), (aE, .inr (5, es)), (aR, .inr (2, [.ref aF, .ref rb, .int ra, .int re])), (aA, .inl (cB, 1000, .inl (gp_feed f n (xs (i + 1)) (xs (i + 2)) (xs (i + 3)) (xs (i + 4)) (xs (i + 5))))), (aO, .inr (3, [.ref aB, .int (nI k)])), (aB, .inl (cB, 4096, .inl g)), (aY, .inr (4, [.ref aM, .ref aN, .int (nI n), .int (nI k), .long v])), (aM, .inl (cB, 1000, .inl f)), (aN, .inl (cB, 1000, .inl g))]) [8, 0, 1, 2, 9, 3, 4, 5, 6, 7] rfl
    have hD := hD.sub (ws' := [(aX, .inr (0, [.ref aF, .ref aR, .ref aO, .ref aA, .int (nI (n + 20)), .long v])), (aF, .inr (1, [.ref aE, .int nb, .int pl])), (aE, .inr (5, es)), (aR, .inr (2, [.ref aF, .ref rb, .int ra, .int re])), (aA, .inl (cB, 1000, .inl (gp_feed f n (xs (i + 1)) (xs (i + 2)) (xs (i + 3)) (xs (i + 4)) (xs (i + 5))))), (aO, .inr (3, [.ref aB, .int (nI k)])), (aB, .inl (cB, 4096, .inl g)), (aY, .inr (4, [.ref aM, .ref aN, .int (nI n), .int (nI k), .long v])), (aM, .inl (cB, 1000, .inl f)), (aN, .inl (cB, 1000, .inl g))]) [8, 0, 1, 2, 9, 3, 4, 5, 6, 7] (by decide) rfl
    generalize H1 = H at hP hS ⊢
    have hw1 := hw
    refine lv_aload_n hx hb dL_law_109 rfl (lv_at hl 2 rfl) ?_
    refine lv_aload_n hx hb dL_law_110 rfl (lv_at hl 0 rfl) ?_
    refine lv_iload_n hx hb dL_law_111 rfl (lv_at hl 3 rfl) ?_
    refine lv_iconst (v := 1) hx hb dL_law_112 (by decide) ?_
    refine lv_iadd hx hb dL_law_113 ?_
    refine lv_topi (fun z_12 ez_12 => ?_)
    rw [show z_12 = nI (i + 1) from by rw [ez_12]; exact nI_add i 1]
    refine va_sld hx hb hX hbl hbA hS (i := (nI (i + 1))) (vp_in_nI (by omega) (by omega)) dL_law_114 ?_
    refine lv_topi (fun z_13 ez_13 => ?_)
    rw [show z_13 = xs (i + 1) from by rw [ez_13]; rw [nI_clamp (by omega)]]
    refine lv_aload_n hx hb dL_law_115 rfl (lv_at hl 0 rfl) ?_
    refine lv_iload_n hx hb dL_law_116 rfl (lv_at hl 3 rfl) ?_
    refine lv_iconst (v := 2) hx hb dL_law_117 (by decide) ?_
    refine lv_iadd hx hb dL_law_118 ?_
    refine lv_topi (fun z_14 ez_14 => ?_)
    rw [show z_14 = nI (i + 2) from by rw [ez_14]; exact nI_add i 2]
    refine va_sld hx hb hX hbl hbA hS (i := (nI (i + 2))) (vp_in_nI (by omega) (by omega)) dL_law_119 ?_
    refine lv_topi (fun z_15 ez_15 => ?_)
    rw [show z_15 = xs (i + 2) from by rw [ez_15]; rw [nI_clamp (by omega)]]
    refine lv_aload_n hx hb dL_law_120 rfl (lv_at hl 0 rfl) ?_
    refine lv_iload_n hx hb dL_law_121 rfl (lv_at hl 3 rfl) ?_
    refine lv_iconst (v := 3) hx hb dL_law_122 (by decide) ?_
    refine lv_iadd hx hb dL_law_123 ?_
    refine lv_topi (fun z_16 ez_16 => ?_)
    rw [show z_16 = nI (i + 3) from by rw [ez_16]; exact nI_add i 3]
    refine va_sld hx hb hX hbl hbA hS (i := (nI (i + 3))) (vp_in_nI (by omega) (by omega)) dL_law_124 ?_
    refine lv_topi (fun z_17 ez_17 => ?_)
    rw [show z_17 = xs (i + 3) from by rw [ez_17]; rw [nI_clamp (by omega)]]
    refine lv_aload_n hx hb dL_law_125 rfl (lv_at hl 0 rfl) ?_
    refine lv_iload_n hx hb dL_law_126 rfl (lv_at hl 3 rfl) ?_
    refine lv_iconst (v := 4) hx hb dL_law_127 (by decide) ?_
    refine lv_iadd hx hb dL_law_128 ?_
    refine lv_topi (fun z_18 ez_18 => ?_)
    rw [show z_18 = nI (i + 4) from by rw [ez_18]; exact nI_add i 4]
    refine va_sld hx hb hX hbl hbA hS (i := (nI (i + 4))) (vp_in_nI (by omega) (by omega)) dL_law_129 ?_
    refine lv_topi (fun z_19 ez_19 => ?_)
    rw [show z_19 = xs (i + 4) from by rw [ez_19]; rw [nI_clamp (by omega)]]
    refine lv_aload_n hx hb dL_law_130 rfl (lv_at hl 0 rfl) ?_
    refine lv_iload_n hx hb dL_law_131 rfl (lv_at hl 3 rfl) ?_
    refine lv_iconst (v := 5) hx hb dL_law_132 (by decide) ?_
    refine lv_iadd hx hb dL_law_133 ?_
    refine lv_topi (fun z_20 ez_20 => ?_)
    rw [show z_20 = nI (i + 5) from by rw [ez_20]; exact nI_add i 5]
    refine va_sld hx hb hX hbl hbA hS (i := (nI (i + 5))) (vp_in_nI (by omega) (by omega)) dL_law_134 ?_
    refine lv_topi (fun z_21 ez_21 => ?_)
    rw [show z_21 = xs (i + 5) from by rw [ez_21]; rw [nI_clamp (by omega)]]
    have hPc := hP.sub (ws' := [(aY, .inr (4, [.ref aM, .ref aN, .int (nI n), .int (nI k), .long v])), (aM, .inl (cB, 1000, .inl f))]) [7, 8] rfl
    have hDc := hD.sub (ws' := [(aY, .inr (4, [.ref aM, .ref aN, .int (nI n), .int (nI k), .long v])), (aM, .inl (cB, 1000, .inl f))]) [7, 8] (by decide) rfl
    have hFc := va_free (wc := [(aY, .inr (4, [.ref aM, .ref aN, .int (nI n), .int (nI k), .long v])), (aM, .inl (cB, 1000, .inl f))]) hD hS hA [7, 8] rfl
    refine va_calli (va_runV (As := [.int (xs (i + 1)), .int (xs (i + 2)), .int (xs (i + 3)), .int (xs (i + 4)), .int (xs (i + 5))]) (rest := [.int r_11]) ⟨hx, hb, hml, hown, hts⟩ (m_M_feed l dC dI cB aY aM aN n k v f (xs (i + 1)) (xs (i + 2)) (xs (i + 3)) (xs (i + 4)) (xs (i + 5)) _ hc) (cwV 5 hts (lw_V q271 q272 q273 q12 q274) rfl rfl rfl (by decide +kernel) ⟨Nat.le_trans (Nat.le_of_ble_eq_true rfl) hRf, Nat.le_trans (Nat.le_of_ble_eq_true rfl) hRl⟩) ⟨gC_bl, va_recv hK hPc (ci := 4) (q0 := 0) rfl rfl, gC_of hPc hK hDc⟩ rfl rfl hl.1 rfl (lv_room (Nat.le_of_ble_eq_true rfl)) dL_law_135 ⟨hRc, hRs⟩) hS (fun q _ h => hFc q h) hFc (fun r_22 u t H1 locs ht hvm hw hB hz1 hk1 hS => ?_)
    obtain ⟨hP1, hD1⟩ := hB
    rw [ht] at hP1
    obtain ⟨hP, hD⟩ := va_join (wr := [(aX, .inr (0, [.ref aF, .ref aR, .ref aO, .ref aA, .int (nI (n + 20)), .long v])), (aF, .inr (1, [.ref aE, .int nb, .int pl])), (aE, .inr (5, es)), (aR, .inr (2, [.ref aF, .ref rb, .int ra, .int re])), (aA, .inl (cB, 1000, .inl (gp_feed f n (xs (i + 1)) (xs (i + 2)) (xs (i + 3)) (xs (i + 4)) (xs (i + 5))))), (aO, .inr (3, [.ref aB, .int (nI k)])), (aB, .inl (cB, 4096, .inl g)), (aN, .inl (cB, 1000, .inl g))]) (w1 := [(aY, .inr (4, [.ref aM, .ref aN, .int (nI (n + 20)), .int (nI k), .long v])), (aM, .inl (cB, 1000, .inl (gp_feed f n (xs (i + 1)) (xs (i + 2)) (xs (i + 3)) (xs (i + 4)) (xs (i + 5)))))]) hP hD [7, 8] [0, 1, 2, 3, 4, 5, 6, 9] rfl rfl (by decide) (by decide) hk1 hFc hP1 hD1
    have hP := hP.sub (ws' := [(aX, .inr (0, [.ref aF, .ref aR, .ref aO, .ref aA, .int (nI (n + 20)), .long v])), (aF, .inr (1, [.ref aE, .int nb, .int pl])), (aE, .inr (5, es)), (aR, .inr (2, [.ref aF, .ref rb, .int ra, .int re])), (aA, .inl (cB, 1000, .inl (gp_feed f n (xs (i + 1)) (xs (i + 2)) (xs (i + 3)) (xs (i + 4)) (xs (i + 5))))), (aO, .inr (3, [.ref aB, .int (nI k)])), (aB, .inl (cB, 4096, .inl g)), (aY, .inr (4, [.ref aM, .ref aN, .int (nI (n + 20)), .int (nI k), .long v])), (aM, .inl (cB, 1000, .inl (gp_feed f n (xs (i + 1)) (xs (i + 2)) (xs (i + 3)) (xs (i + 4)) (xs (i + 5))))), (aN, .inl (cB, 1000, .inl g))]) [0, 1, 2, 3, 4, 5, 6, 8, 9, 7] rfl
    have hD := hD.sub (ws' := [(aX, .inr (0, [.ref aF, .ref aR, .ref aO, .ref aA, .int (nI (n + 20)), .long v])), (aF, .inr (1, [.ref aE, .int nb, .int pl])), (aE, .inr (5, es)), (aR, .inr (2, [.ref aF, .ref rb, .int ra, .int re])), (aA, .inl (cB, 1000, .inl (gp_feed f n (xs (i + 1)) (xs (i + 2)) (xs (i + 3)) (xs (i + 4)) (xs (i + 5))))), (aO, .inr (3, [.ref aB, .int (nI k)])), (aB, .inl (cB, 4096, .inl g)), (aY, .inr (4, [.ref aM, .ref aN, .int (nI (n + 20)), .int (nI k), .long v])), (aM, .inl (cB, 1000, .inl (gp_feed f n (xs (i + 1)) (xs (i + 2)) (xs (i + 3)) (xs (i + 4)) (xs (i + 5))))), (aN, .inl (cB, 1000, .inl g))]) [0, 1, 2, 3, 4, 5, 6, 8, 9, 7] (by decide) rfl
    generalize H1 = H at hP hS ⊢
    refine lv_icmp_eq (tgt := 323) hx hb dL_law_138 (by decide) (fun c_23 => ?_) (fun c_23 => ?_)
    · refine lv_iinc (v := nI (i + 6)) (lv' := [(3, .int (nI (i + 6))), (0, .ref b), (1, .ref aX), (2, .ref aY)]) hx hb dL_law_323 hl (k := 3) rfl (nI_add i 6) (by decide) rfl (fun ls hl => ?_)
      refine lv_goto (tgt := 18) hx hb dL_law_326 (by decide) ?_
      exact kx (n + 20) k v (gp_feed f n (xs (i + 1)) (xs (i + 2)) (xs (i + 3)) (xs (i + 4)) (xs (i + 5))) g es rb nb pl ra re H locs ls hc hk (gp_By_feed hBy) hP hD hS (lv_sub hl [1, 2, 3, 0] rfl)
    · exact absurd (hw1.trans hw.symm) c_23
  · refine lv_aload_n hx hb dL_law_80 rfl (lv_at hl 1 rfl) ?_
    refine lv_aload_n hx hb dL_law_81 rfl (lv_at hl 0 rfl) ?_
    refine lv_iload_n hx hb dL_law_82 rfl (lv_at hl 3 rfl) ?_
    refine lv_iconst (v := 1) hx hb dL_law_83 (by decide) ?_
    refine lv_iadd hx hb dL_law_84 ?_
    refine lv_topi (fun z_1 ez_1 => ?_)
    rw [show z_1 = nI (i + 1) from by rw [ez_1]; exact nI_add i 1]
    refine va_sld hx hb hX hbl hbA hS (i := (nI (i + 1))) (vp_in_nI (by omega) (by omega)) dL_law_85 ?_
    refine lv_topi (fun z_2 ez_2 => ?_)
    rw [show z_2 = xs (i + 1) from by rw [ez_2]; rw [nI_clamp (by omega)]]
    refine lv_aload_n hx hb dL_law_86 rfl (lv_at hl 0 rfl) ?_
    refine lv_iload_n hx hb dL_law_87 rfl (lv_at hl 3 rfl) ?_
    refine lv_iconst (v := 2) hx hb dL_law_88 (by decide) ?_
    refine lv_iadd hx hb dL_law_89 ?_
    refine lv_topi (fun z_3 ez_3 => ?_)
    rw [show z_3 = nI (i + 2) from by rw [ez_3]; exact nI_add i 2]
    refine va_sld hx hb hX hbl hbA hS (i := (nI (i + 2))) (vp_in_nI (by omega) (by omega)) dL_law_90 ?_
    refine lv_topi (fun z_4 ez_4 => ?_)
    rw [show z_4 = xs (i + 2) from by rw [ez_4]; rw [nI_clamp (by omega)]]
    refine lv_aload_n hx hb dL_law_91 rfl (lv_at hl 0 rfl) ?_
    refine lv_iload_n hx hb dL_law_92 rfl (lv_at hl 3 rfl) ?_
    refine lv_iconst (v := 3) hx hb dL_law_93 (by decide) ?_
    refine lv_iadd hx hb dL_law_94 ?_
    refine lv_topi (fun z_5 ez_5 => ?_)
    rw [show z_5 = nI (i + 3) from by rw [ez_5]; exact nI_add i 3]
    refine va_sld hx hb hX hbl hbA hS (i := (nI (i + 3))) (vp_in_nI (by omega) (by omega)) dL_law_95 ?_
    refine lv_topi (fun z_6 ez_6 => ?_)
    rw [show z_6 = xs (i + 3) from by rw [ez_6]; rw [nI_clamp (by omega)]]
    refine lv_aload_n hx hb dL_law_96 rfl (lv_at hl 0 rfl) ?_
    refine lv_iload_n hx hb dL_law_97 rfl (lv_at hl 3 rfl) ?_
    refine lv_iconst (v := 4) hx hb dL_law_98 (by decide) ?_
    refine lv_iadd hx hb dL_law_99 ?_
    refine lv_topi (fun z_7 ez_7 => ?_)
    rw [show z_7 = nI (i + 4) from by rw [ez_7]; exact nI_add i 4]
    refine va_sld hx hb hX hbl hbA hS (i := (nI (i + 4))) (vp_in_nI (by omega) (by omega)) dL_law_100 ?_
    refine lv_topi (fun z_8 ez_8 => ?_)
    rw [show z_8 = xs (i + 4) from by rw [ez_8]; rw [nI_clamp (by omega)]]
    refine lv_aload_n hx hb dL_law_101 rfl (lv_at hl 0 rfl) ?_
    refine lv_iload_n hx hb dL_law_102 rfl (lv_at hl 3 rfl) ?_
    refine lv_iconst (v := 5) hx hb dL_law_103 (by decide) ?_
    refine lv_iadd hx hb dL_law_104 ?_
    refine lv_topi (fun z_9 ez_9 => ?_)
    rw [show z_9 = nI (i + 5) from by rw [ez_9]; exact nI_add i 5]
    refine va_sld hx hb hX hbl hbA hS (i := (nI (i + 5))) (vp_in_nI (by omega) (by omega)) dL_law_105 ?_
    refine lv_topi (fun z_10 ez_10 => ?_)
    rw [show z_10 = xs (i + 5) from by rw [ez_10]; rw [nI_clamp (by omega)]]
    have hPc := hP.sub (ws' := [(aX, .inr (0, [.ref aF, .ref aR, .ref aO, .ref aA, .int (nI n), .long v])), (aA, .inl (cB, 1000, .inl f))]) [0, 4] rfl
    have hDc := hD.sub (ws' := [(aX, .inr (0, [.ref aF, .ref aR, .ref aO, .ref aA, .int (nI n), .long v])), (aA, .inl (cB, 1000, .inl f))]) [0, 4] (by decide) rfl
    have hFc := va_free (wc := [(aX, .inr (0, [.ref aF, .ref aR, .ref aO, .ref aA, .int (nI n), .long v])), (aA, .inl (cB, 1000, .inl f))]) hD hS hA [0, 4] rfl
    refine va_calli (va_runV (As := [.int (xs (i + 1)), .int (xs (i + 2)), .int (xs (i + 3)), .int (xs (i + 4)), .int (xs (i + 5))]) (rest := []) ⟨hx, hb, hml, hown, hts⟩ (m_G_feedN l dC dI cB aX aF aR aO aA n v f (xs (i + 1)) (xs (i + 2)) (xs (i + 3)) (xs (i + 4)) (xs (i + 5)) _ hc hn) (cwV 5 hts (lw_V q158 q159 q160 q4 q161) rfl rfl rfl (by decide +kernel) ⟨Nat.le_trans (Nat.le_of_ble_eq_true rfl) hRf, Nat.le_trans (Nat.le_of_ble_eq_true rfl) hRl⟩) ⟨gC_bl, va_recv hK hPc (ci := 0) (q0 := 0) rfl rfl, gC_of hPc hK hDc⟩ rfl rfl hl.1 rfl (lv_room (Nat.le_of_ble_eq_true rfl)) dL_law_106 ⟨hRc, hRs⟩) hS (fun q _ h => hFc q h) hFc (fun r_11 u t H1 locs ht hvm hw hB hz1 hk1 hS => ?_)
    obtain ⟨hP1, hD1⟩ := hB
    rw [ht] at hP1
    obtain ⟨hP, hD⟩ := va_join (wr := [(aF, .inr (1, [.ref aE, .int nb, .int pl])), (aE, .inr (5, es)), (aR, .inr (2, [.ref aF, .ref rb, .int ra, .int re])), (aO, .inr (3, [.ref aB, .int (nI k)])), (aB, .inl (cB, 4096, .inl g)), (aY, .inr (4, [.ref aM, .ref aN, .int (nI n), .int (nI k), .long v])), (aM, .inl (cB, 1000, .inl f)), (aN, .inl (cB, 1000, .inl g))]) (w1 := [(aX, .inr (0, [.ref aF, .ref aR, .ref aO, .ref aA, .int (nI n), .long v])), (aA, .inl (cB, 1000, .inl f))]) hP hD [0, 4] [1, 2, 3, 5, 6, 7, 8, 9] rfl rfl (by decide) (by decide) hk1 hFc hP1 hD1
    have hP := hP.sub (ws' := [(aX, .inr (0, [.ref aF, .ref aR, .ref aO, .ref aA, .int (nI n), .long v])), (aF, .inr (1, [.ref aE, .int nb, .int pl])), (aE, .inr (5, es)), (aR, .inr (2, [.ref aF, .ref rb, .int ra, .int re])), (aA, .inl (cB, 1000, .inl f)), (aO, .inr (3, [.ref aB, .int (nI k)])), (aB, .inl (cB, 4096, .inl g)), (aY, .inr (4, [.ref aM, .ref aN, .int (nI n), .int (nI k), .long v])), (aM, .inl (cB, 1000, .inl f)), (aN, .inl (cB, 1000, .inl g))]) [8, 0, 1, 2, 9, 3, 4, 5, 6, 7] rfl
    have hD := hD.sub (ws' := [(aX, .inr (0, [.ref aF, .ref aR, .ref aO, .ref aA, .int (nI n), .long v])), (aF, .inr (1, [.ref aE, .int nb, .int pl])), (aE, .inr (5, es)), (aR, .inr (2, [.ref aF, .ref rb, .int ra, .int re])), (aA, .inl (cB, 1000, .inl f)), (aO, .inr (3, [.ref aB, .int (nI k)])), (aB, .inl (cB, 4096, .inl g)), (aY, .inr (4, [.ref aM, .ref aN, .int (nI n), .int (nI k), .long v])), (aM, .inl (cB, 1000, .inl f)), (aN, .inl (cB, 1000, .inl g))]) [8, 0, 1, 2, 9, 3, 4, 5, 6, 7] (by decide) rfl
    generalize H1 = H at hP hS ⊢
    have hw1 := hw
    refine lv_aload_n hx hb dL_law_109 rfl (lv_at hl 2 rfl) ?_
    refine lv_aload_n hx hb dL_law_110 rfl (lv_at hl 0 rfl) ?_
    refine lv_iload_n hx hb dL_law_111 rfl (lv_at hl 3 rfl) ?_
    refine lv_iconst (v := 1) hx hb dL_law_112 (by decide) ?_
    refine lv_iadd hx hb dL_law_113 ?_
    refine lv_topi (fun z_12 ez_12 => ?_)
    rw [show z_12 = nI (i + 1) from by rw [ez_12]; exact nI_add i 1]
    refine va_sld hx hb hX hbl hbA hS (i := (nI (i + 1))) (vp_in_nI (by omega) (by omega)) dL_law_114 ?_
    refine lv_topi (fun z_13 ez_13 => ?_)
    rw [show z_13 = xs (i + 1) from by rw [ez_13]; rw [nI_clamp (by omega)]]
    refine lv_aload_n hx hb dL_law_115 rfl (lv_at hl 0 rfl) ?_
    refine lv_iload_n hx hb dL_law_116 rfl (lv_at hl 3 rfl) ?_
    refine lv_iconst (v := 2) hx hb dL_law_117 (by decide) ?_
    refine lv_iadd hx hb dL_law_118 ?_
    refine lv_topi (fun z_14 ez_14 => ?_)
    rw [show z_14 = nI (i + 2) from by rw [ez_14]; exact nI_add i 2]
    refine va_sld hx hb hX hbl hbA hS (i := (nI (i + 2))) (vp_in_nI (by omega) (by omega)) dL_law_119 ?_
    refine lv_topi (fun z_15 ez_15 => ?_)
    rw [show z_15 = xs (i + 2) from by rw [ez_15]; rw [nI_clamp (by omega)]]
    refine lv_aload_n hx hb dL_law_120 rfl (lv_at hl 0 rfl) ?_
    refine lv_iload_n hx hb dL_law_121 rfl (lv_at hl 3 rfl) ?_
    refine lv_iconst (v := 3) hx hb dL_law_122 (by decide) ?_
    refine lv_iadd hx hb dL_law_123 ?_
    refine lv_topi (fun z_16 ez_16 => ?_)
    rw [show z_16 = nI (i + 3) from by rw [ez_16]; exact nI_add i 3]
    refine va_sld hx hb hX hbl hbA hS (i := (nI (i + 3))) (vp_in_nI (by omega) (by omega)) dL_law_124 ?_
    refine lv_topi (fun z_17 ez_17 => ?_)
    rw [show z_17 = xs (i + 3) from by rw [ez_17]; rw [nI_clamp (by omega)]]
    refine lv_aload_n hx hb dL_law_125 rfl (lv_at hl 0 rfl) ?_
    refine lv_iload_n hx hb dL_law_126 rfl (lv_at hl 3 rfl) ?_
    refine lv_iconst (v := 4) hx hb dL_law_127 (by decide) ?_
    refine lv_iadd hx hb dL_law_128 ?_
    refine lv_topi (fun z_18 ez_18 => ?_)
    rw [show z_18 = nI (i + 4) from by rw [ez_18]; exact nI_add i 4]
    refine va_sld hx hb hX hbl hbA hS (i := (nI (i + 4))) (vp_in_nI (by omega) (by omega)) dL_law_129 ?_
    refine lv_topi (fun z_19 ez_19 => ?_)
    rw [show z_19 = xs (i + 4) from by rw [ez_19]; rw [nI_clamp (by omega)]]
    refine lv_aload_n hx hb dL_law_130 rfl (lv_at hl 0 rfl) ?_
    refine lv_iload_n hx hb dL_law_131 rfl (lv_at hl 3 rfl) ?_
    refine lv_iconst (v := 5) hx hb dL_law_132 (by decide) ?_
    refine lv_iadd hx hb dL_law_133 ?_
    refine lv_topi (fun z_20 ez_20 => ?_)
    rw [show z_20 = nI (i + 5) from by rw [ez_20]; exact nI_add i 5]
    refine va_sld hx hb hX hbl hbA hS (i := (nI (i + 5))) (vp_in_nI (by omega) (by omega)) dL_law_134 ?_
    refine lv_topi (fun z_21 ez_21 => ?_)
    rw [show z_21 = xs (i + 5) from by rw [ez_21]; rw [nI_clamp (by omega)]]
    have hPc := hP.sub (ws' := [(aY, .inr (4, [.ref aM, .ref aN, .int (nI n), .int (nI k), .long v])), (aM, .inl (cB, 1000, .inl f))]) [7, 8] rfl
    have hDc := hD.sub (ws' := [(aY, .inr (4, [.ref aM, .ref aN, .int (nI n), .int (nI k), .long v])), (aM, .inl (cB, 1000, .inl f))]) [7, 8] (by decide) rfl
    have hFc := va_free (wc := [(aY, .inr (4, [.ref aM, .ref aN, .int (nI n), .int (nI k), .long v])), (aM, .inl (cB, 1000, .inl f))]) hD hS hA [7, 8] rfl
    refine va_calli (va_runV (As := [.int (xs (i + 1)), .int (xs (i + 2)), .int (xs (i + 3)), .int (xs (i + 4)), .int (xs (i + 5))]) (rest := [.int r_11]) ⟨hx, hb, hml, hown, hts⟩ (m_M_feedN l dC dI cB aY aM aN n k v f (xs (i + 1)) (xs (i + 2)) (xs (i + 3)) (xs (i + 4)) (xs (i + 5)) _ hc hn) (cwV 5 hts (lw_V q271 q272 q273 q12 q274) rfl rfl rfl (by decide +kernel) ⟨Nat.le_trans (Nat.le_of_ble_eq_true rfl) hRf, Nat.le_trans (Nat.le_of_ble_eq_true rfl) hRl⟩) ⟨gC_bl, va_recv hK hPc (ci := 4) (q0 := 0) rfl rfl, gC_of hPc hK hDc⟩ rfl rfl hl.1 rfl (lv_room (Nat.le_of_ble_eq_true rfl)) dL_law_135 ⟨hRc, hRs⟩) hS (fun q _ h => hFc q h) hFc (fun r_22 u t H1 locs ht hvm hw hB hz1 hk1 hS => ?_)
    obtain ⟨hP1, hD1⟩ := hB
    rw [ht] at hP1
    obtain ⟨hP, hD⟩ := va_join (wr := [(aX, .inr (0, [.ref aF, .ref aR, .ref aO, .ref aA, .int (nI n), .long v])), (aF, .inr (1, [.ref aE, .int nb, .int pl])), (aE, .inr (5, es)), (aR, .inr (2, [.ref aF, .ref rb, .int ra, .int re])), (aA, .inl (cB, 1000, .inl f)), (aO, .inr (3, [.ref aB, .int (nI k)])), (aB, .inl (cB, 4096, .inl g)), (aN, .inl (cB, 1000, .inl g))]) (w1 := [(aY, .inr (4, [.ref aM, .ref aN, .int (nI n), .int (nI k), .long v])), (aM, .inl (cB, 1000, .inl f))]) hP hD [7, 8] [0, 1, 2, 3, 4, 5, 6, 9] rfl rfl (by decide) (by decide) hk1 hFc hP1 hD1
    have hP := hP.sub (ws' := [(aX, .inr (0, [.ref aF, .ref aR, .ref aO, .ref aA, .int (nI n), .long v])), (aF, .inr (1, [.ref aE, .int nb, .int pl])), (aE, .inr (5, es)), (aR, .inr (2, [.ref aF, .ref rb, .int ra, .int re])), (aA, .inl (cB, 1000, .inl f)), (aO, .inr (3, [.ref aB, .int (nI k)])), (aB, .inl (cB, 4096, .inl g)), (aY, .inr (4, [.ref aM, .ref aN, .int (nI n), .int (nI k), .long v])), (aM, .inl (cB, 1000, .inl f)), (aN, .inl (cB, 1000, .inl g))]) [0, 1, 2, 3, 4, 5, 6, 8, 9, 7] rfl
    have hD := hD.sub (ws' := [(aX, .inr (0, [.ref aF, .ref aR, .ref aO, .ref aA, .int (nI n), .long v])), (aF, .inr (1, [.ref aE, .int nb, .int pl])), (aE, .inr (5, es)), (aR, .inr (2, [.ref aF, .ref rb, .int ra, .int re])), (aA, .inl (cB, 1000, .inl f)), (aO, .inr (3, [.ref aB, .int (nI k)])), (aB, .inl (cB, 4096, .inl g)), (aY, .inr (4, [.ref aM, .ref aN, .int (nI n), .int (nI k), .long v])), (aM, .inl (cB, 1000, .inl f)), (aN, .inl (cB, 1000, .inl g))]) [0, 1, 2, 3, 4, 5, 6, 8, 9, 7] (by decide) rfl
    generalize H1 = H at hP hS ⊢
    refine lv_icmp_eq (tgt := 323) hx hb dL_law_138 (by decide) (fun c_23 => ?_) (fun c_23 => ?_)
    · refine lv_iinc (v := nI (i + 6)) (lv' := [(3, .int (nI (i + 6))), (0, .ref b), (1, .ref aX), (2, .ref aY)]) hx hb dL_law_323 hl (k := 3) rfl (nI_add i 6) (by decide) rfl (fun ls hl => ?_)
      refine lv_goto (tgt := 18) hx hb dL_law_326 (by decide) ?_
      exact kx n k v f g es rb nb pl ra re H locs ls hn hk hBy hP hD hS (lv_sub hl [1, 2, 3, 0] rfl)
    · exact absurd (hw1.trans hw.symm) c_23
end
section
set_option maxRecDepth 100000
set_option maxHeartbeats 4000000 in
/-- end -/
theorem lw_end {p : Program} {l : Launch} {e : Env} {R : Room} {s : State} {m : MethodId} {args : Array Value} {below : List Frame} {meth : Method} {c : Code} {Q : State → Prop} {dC : Nat → ClassId} {dI : Nat → Nat → Nat} {cB : ClassId} {A : Nat → Prop} {cells slots : Nat} (hx : p.tables.exec = Jvm.exec) (hb : c.code = cL_law) (hml : c.maxLocals = 4) (hown : s.vm.findClass R_law = some m.cls) (hts : ∀ w ∈ lw_all, w.before args s = true) (hA : ∀ q : Nat, s.heap.size ≤ q → A q) (hK : va_K (dC, dI) vwCl [(cB, .byte)] s) (hRf : 5 ≤ R.frames) (hRl : 113 ≤ R.locals) (hRc : cells ≤ R.cells) (hRs : slots ≤ R.slots) {b L : Nat} {xs : Nat → Int32} (hX : va_X b L xs s s.heap) (hbl : b < s.heap.size) (hbA : ¬ A b) (hL : L ≤ 384) (i : Nat) (hi : i + 6 ≤ L) (aX aF aR aO aA aE aB aY aM aN : Nat)
    (kx : ∀ (n k : Nat) (v : Int64) (f g : Nat → Int32) (es : List Value) (rb : Nat) (nb pl ra re : Int32) (H : Heap) (locs : List Loc) (ls : Array Slot), n ≤ 1000 → k ≤ 1000 → gp_By f → va_P (dC, dI) vwCl [(aX, .inr (0, [.ref aF, .ref aR, .ref aO, .ref aA, .int (nI n), .long v])), (aF, .inr (1, [.ref aE, .int nb, .int pl])), (aE, .inr (5, es)), (aR, .inr (2, [.ref aF, .ref rb, .int ra, .int re])), (aA, .inl (cB, 1000, .inl f)), (aO, .inr (3, [.ref aB, .int (nI k)])), (aB, .inl (cB, 4096, .inl g)), (aY, .inr (4, [.ref aM, .ref aN, .int (nI n), .int (nI k), .long v])), (aM, .inl (cB, 1000, .inl f)), (aN, .inl (cB, 1000, .inl g))] H → va_D A [(aX, .inr (0, [.ref aF, .ref aR, .ref aO, .ref aA, .int (nI n), .long v])), (aF, .inr (1, [.ref aE, .int nb, .int pl])), (aE, .inr (5, es)), (aR, .inr (2, [.ref aF, .ref rb, .int ra, .int re])), (aA, .inl (cB, 1000, .inl f)), (aO, .inr (3, [.ref aB, .int (nI k)])), (aB, .inl (cB, 4096, .inl g)), (aY, .inr (4, [.ref aM, .ref aN, .int (nI n), .int (nI k), .long v])), (aM, .inl (cB, 1000, .inl f)), (aN, .inl (cB, 1000, .inl g))] → va_S A s.heap H locs → lv_has ls 4 [(0, .ref b), (1, .ref aX), (2, .ref aY), (3, .int (nI (i + 6)))] → W p l e R s m args below meth c H locs cells slots Q (F0 m 18 ls [])) :
    ∀ (n k : Nat) (v : Int64) (f g : Nat → Int32) (es : List Value) (rb : Nat) (nb pl ra re : Int32) (H : Heap) (locs : List Loc) (ls : Array Slot), n ≤ 1000 → k ≤ 1000 → gp_By f → va_P (dC, dI) vwCl [(aX, .inr (0, [.ref aF, .ref aR, .ref aO, .ref aA, .int (nI n), .long v])), (aF, .inr (1, [.ref aE, .int nb, .int pl])), (aE, .inr (5, es)), (aR, .inr (2, [.ref aF, .ref rb, .int ra, .int re])), (aA, .inl (cB, 1000, .inl f)), (aO, .inr (3, [.ref aB, .int (nI k)])), (aB, .inl (cB, 4096, .inl g)), (aY, .inr (4, [.ref aM, .ref aN, .int (nI n), .int (nI k), .long v])), (aM, .inl (cB, 1000, .inl f)), (aN, .inl (cB, 1000, .inl g))] H → va_D A [(aX, .inr (0, [.ref aF, .ref aR, .ref aO, .ref aA, .int (nI n), .long v])), (aF, .inr (1, [.ref aE, .int nb, .int pl])), (aE, .inr (5, es)), (aR, .inr (2, [.ref aF, .ref rb, .int ra, .int re])), (aA, .inl (cB, 1000, .inl f)), (aO, .inr (3, [.ref aB, .int (nI k)])), (aB, .inl (cB, 4096, .inl g)), (aY, .inr (4, [.ref aM, .ref aN, .int (nI n), .int (nI k), .long v])), (aM, .inl (cB, 1000, .inl f)), (aN, .inl (cB, 1000, .inl g))] → va_S A s.heap H locs → lv_has ls 4 [(0, .ref b), (1, .ref aX), (2, .ref aY), (3, .int (nI i))] → W p l e R s m args below meth c H locs cells slots Q (F0 m 143 ls []) := by
  intro n k v f g es rb nb pl ra re H locs ls hn hk hBy hP hD hS hl
  rcases gp_ix (xs (i + 1)) (n := n) (by omega) with hc | ⟨j, hj, ej⟩
  · refine lv_aload_n hx hb dL_law_143 rfl (lv_at hl 1 rfl) ?_
    refine lv_aload_n hx hb dL_law_144 rfl (lv_at hl 0 rfl) ?_
    refine lv_iload_n hx hb dL_law_145 rfl (lv_at hl 3 rfl) ?_
    refine lv_iconst (v := 1) hx hb dL_law_146 (by decide) ?_
    refine lv_iadd hx hb dL_law_147 ?_
    refine lv_topi (fun z_1 ez_1 => ?_)
    rw [show z_1 = nI (i + 1) from by rw [ez_1]; exact nI_add i 1]
    refine va_sld hx hb hX hbl hbA hS (i := (nI (i + 1))) (vp_in_nI (by omega) (by omega)) dL_law_148 ?_
    refine lv_topi (fun z_2 ez_2 => ?_)
    rw [show z_2 = xs (i + 1) from by rw [ez_2]; rw [nI_clamp (by omega)]]
    have hPc := hP.sub (ws' := [(aX, .inr (0, [.ref aF, .ref aR, .ref aO, .ref aA, .int (nI n), .long v]))]) [0] rfl
    have hDc := hD.sub (ws' := [(aX, .inr (0, [.ref aF, .ref aR, .ref aO, .ref aA, .int (nI n), .long v]))]) [0] (by decide) rfl
    have hFc := va_free (wc := [(aX, .inr (0, [.ref aF, .ref aR, .ref aO, .ref aA, .int (nI n), .long v]))]) hD hS hA [0] rfl
    refine va_calli (va_runV (As := [.int (xs (i + 1))]) (rest := []) ⟨hx, hb, hml, hown, hts⟩ (m_G_endN l dC dI cB aX aF aR aO aA n v (xs (i + 1)) _ hc) (cwV 1 hts (lw_V q166 q167 q168 q4 q169) rfl rfl rfl (by decide +kernel) ⟨Nat.le_trans (Nat.le_of_ble_eq_true rfl) hRf, Nat.le_trans (Nat.le_of_ble_eq_true rfl) hRl⟩) ⟨gC_bl, va_recv hK hPc (ci := 0) (q0 := 0) rfl rfl, gC_of hPc hK hDc⟩ rfl rfl hl.1 rfl (lv_room (Nat.le_of_ble_eq_true rfl)) dL_law_149 ⟨hRc, hRs⟩) hS (fun q _ h => hFc q h) hFc (fun r_3 u t H1 locs ht hvm hw hB hz1 hk1 hS => ?_)
    obtain ⟨hP1, hD1⟩ := hB
    rw [ht] at hP1
    obtain ⟨hP, hD⟩ := va_join (wr := [(aF, .inr (1, [.ref aE, .int nb, .int pl])), (aE, .inr (5, es)), (aR, .inr (2, [.ref aF, .ref rb, .int ra, .int re])), (aA, .inl (cB, 1000, .inl f)), (aO, .inr (3, [.ref aB, .int (nI k)])), (aB, .inl (cB, 4096, .inl g)), (aY, .inr (4, [.ref aM, .ref aN, .int (nI n), .int (nI k), .long v])), (aM, .inl (cB, 1000, .inl f)), (aN, .inl (cB, 1000, .inl g))]) (w1 := [(aX, .inr (0, [.ref aF, .ref aR, .ref aO, .ref aA, .int (nI n), .long v]))]) hP hD [0] [1, 2, 3, 4, 5, 6, 7, 8, 9] rfl rfl (by decide) (by decide) hk1 hFc hP1 hD1
    have hP := hP.sub (ws' := [(aX, .inr (0, [.ref aF, .ref aR, .ref aO, .ref aA, .int (nI n), .long v])), (aF, .inr (1, [.ref aE, .int nb, .int pl])), (aE, .inr (5, es)), (aR, .inr (2, [.ref aF, .ref rb, .int ra, .int re])), (aA, .inl (cB, 1000, .inl f)), (aO, .inr (3, [.ref aB, .int (nI k)])), (aB, .inl (cB, 4096, .inl g)), (aY, .inr (4, [.ref aM, .ref aN, .int (nI n), .int (nI k), .long v])), (aM, .inl (cB, 1000, .inl f)), (aN, .inl (cB, 1000, .inl g))]) [9, 0, 1, 2, 3, 4, 5, 6, 7, 8] rfl
    have hD := hD.sub (ws' := [(aX, .inr (0, [.ref aF, .ref aR, .ref aO, .ref aA, .int (nI n), .long v])), (aF, .inr (1, [.ref aE, .int nb, .int pl])), (aE, .inr (5, es)), (aR, .inr (2, [.ref aF, .ref rb, .int ra, .int re])), (aA, .inl (cB, 1000, .inl f)), (aO, .inr (3, [.ref aB, .int (nI k)])), (aB, .inl (cB, 4096, .inl g)), (aY, .inr (4, [.ref aM, .ref aN, .int (nI n), .int (nI k), .long v])), (aM, .inl (cB, 1000, .inl f)), (aN, .inl (cB, 1000, .inl g))]) [9, 0, 1, 2, 3, 4, 5, 6, 7, 8] (by decide) rfl
    generalize H1 = H at hP hS ⊢
    have hw1 := hw
    refine lv_aload_n hx hb dL_law_152 rfl (lv_at hl 2 rfl) ?_
    refine lv_aload_n hx hb dL_law_153 rfl (lv_at hl 0 rfl) ?_
    refine lv_iload_n hx hb dL_law_154 rfl (lv_at hl 3 rfl) ?_
    refine lv_iconst (v := 1) hx hb dL_law_155 (by decide) ?_
    refine lv_iadd hx hb dL_law_156 ?_
    refine lv_topi (fun z_4 ez_4 => ?_)
    rw [show z_4 = nI (i + 1) from by rw [ez_4]; exact nI_add i 1]
    refine va_sld hx hb hX hbl hbA hS (i := (nI (i + 1))) (vp_in_nI (by omega) (by omega)) dL_law_157 ?_
    refine lv_topi (fun z_5 ez_5 => ?_)
    rw [show z_5 = xs (i + 1) from by rw [ez_5]; rw [nI_clamp (by omega)]]
    have hPc := hP.sub (ws' := [(aY, .inr (4, [.ref aM, .ref aN, .int (nI n), .int (nI k), .long v]))]) [7] rfl
    have hDc := hD.sub (ws' := [(aY, .inr (4, [.ref aM, .ref aN, .int (nI n), .int (nI k), .long v]))]) [7] (by decide) rfl
    have hFc := va_free (wc := [(aY, .inr (4, [.ref aM, .ref aN, .int (nI n), .int (nI k), .long v]))]) hD hS hA [7] rfl
    refine va_calli (va_runV (As := [.int (xs (i + 1))]) (rest := [.int r_3]) ⟨hx, hb, hml, hown, hts⟩ (m_M_endN l dC dI cB aY aM aN n k v (xs (i + 1)) _ hc) (cwV 1 hts (lw_V q279 q280 q281 q12 q282) rfl rfl rfl (by decide +kernel) ⟨Nat.le_trans (Nat.le_of_ble_eq_true rfl) hRf, Nat.le_trans (Nat.le_of_ble_eq_true rfl) hRl⟩) ⟨gC_bl, va_recv hK hPc (ci := 4) (q0 := 0) rfl rfl, gC_of hPc hK hDc⟩ rfl rfl hl.1 rfl (lv_room (Nat.le_of_ble_eq_true rfl)) dL_law_158 ⟨hRc, hRs⟩) hS (fun q _ h => hFc q h) hFc (fun r_6 u t H1 locs ht hvm hw hB hz1 hk1 hS => ?_)
    obtain ⟨hP1, hD1⟩ := hB
    rw [ht] at hP1
    obtain ⟨hP, hD⟩ := va_join (wr := [(aX, .inr (0, [.ref aF, .ref aR, .ref aO, .ref aA, .int (nI n), .long v])), (aF, .inr (1, [.ref aE, .int nb, .int pl])), (aE, .inr (5, es)), (aR, .inr (2, [.ref aF, .ref rb, .int ra, .int re])), (aA, .inl (cB, 1000, .inl f)), (aO, .inr (3, [.ref aB, .int (nI k)])), (aB, .inl (cB, 4096, .inl g)), (aM, .inl (cB, 1000, .inl f)), (aN, .inl (cB, 1000, .inl g))]) (w1 := [(aY, .inr (4, [.ref aM, .ref aN, .int (nI n), .int (nI k), .long v]))]) hP hD [7] [0, 1, 2, 3, 4, 5, 6, 8, 9] rfl rfl (by decide) (by decide) hk1 hFc hP1 hD1
    have hP := hP.sub (ws' := [(aX, .inr (0, [.ref aF, .ref aR, .ref aO, .ref aA, .int (nI n), .long v])), (aF, .inr (1, [.ref aE, .int nb, .int pl])), (aE, .inr (5, es)), (aR, .inr (2, [.ref aF, .ref rb, .int ra, .int re])), (aA, .inl (cB, 1000, .inl f)), (aO, .inr (3, [.ref aB, .int (nI k)])), (aB, .inl (cB, 4096, .inl g)), (aY, .inr (4, [.ref aM, .ref aN, .int (nI n), .int (nI k), .long v])), (aM, .inl (cB, 1000, .inl f)), (aN, .inl (cB, 1000, .inl g))]) [0, 1, 2, 3, 4, 5, 6, 9, 7, 8] rfl
    have hD := hD.sub (ws' := [(aX, .inr (0, [.ref aF, .ref aR, .ref aO, .ref aA, .int (nI n), .long v])), (aF, .inr (1, [.ref aE, .int nb, .int pl])), (aE, .inr (5, es)), (aR, .inr (2, [.ref aF, .ref rb, .int ra, .int re])), (aA, .inl (cB, 1000, .inl f)), (aO, .inr (3, [.ref aB, .int (nI k)])), (aB, .inl (cB, 4096, .inl g)), (aY, .inr (4, [.ref aM, .ref aN, .int (nI n), .int (nI k), .long v])), (aM, .inl (cB, 1000, .inl f)), (aN, .inl (cB, 1000, .inl g))]) [0, 1, 2, 3, 4, 5, 6, 9, 7, 8] (by decide) rfl
    generalize H1 = H at hP hS ⊢
    refine lv_icmp_eq (tgt := 323) hx hb dL_law_161 (by decide) (fun c_7 => ?_) (fun c_7 => ?_)
    · refine lv_iinc (v := nI (i + 6)) (lv' := [(3, .int (nI (i + 6))), (0, .ref b), (1, .ref aX), (2, .ref aY)]) hx hb dL_law_323 hl (k := 3) rfl (nI_add i 6) (by decide) rfl (fun ls hl => ?_)
      refine lv_goto (tgt := 18) hx hb dL_law_326 (by decide) ?_
      exact kx n k v f g es rb nb pl ra re H locs ls hn hk hBy hP hD hS (lv_sub hl [1, 2, 3, 0] rfl)
    · exact absurd (hw1.trans hw.symm) c_7
  · refine lv_aload_n hx hb dL_law_143 rfl (lv_at hl 1 rfl) ?_
    refine lv_aload_n hx hb dL_law_144 rfl (lv_at hl 0 rfl) ?_
    refine lv_iload_n hx hb dL_law_145 rfl (lv_at hl 3 rfl) ?_
    refine lv_iconst (v := 1) hx hb dL_law_146 (by decide) ?_
    refine lv_iadd hx hb dL_law_147 ?_
    refine lv_topi (fun z_1 ez_1 => ?_)
    rw [show z_1 = nI (i + 1) from by rw [ez_1]; exact nI_add i 1]
    refine va_sld hx hb hX hbl hbA hS (i := (nI (i + 1))) (vp_in_nI (by omega) (by omega)) dL_law_148 ?_
    refine lv_topi (fun z_2 ez_2 => ?_)
    rw [show z_2 = nI j from by rw [ez_2]; rw [nI_clamp (by omega)]; exact ej]
    have hPc := hP.sub (ws' := [(aX, .inr (0, [.ref aF, .ref aR, .ref aO, .ref aA, .int (nI n), .long v]))]) [0] rfl
    have hDc := hD.sub (ws' := [(aX, .inr (0, [.ref aF, .ref aR, .ref aO, .ref aA, .int (nI n), .long v]))]) [0] (by decide) rfl
    have hFc := va_free (wc := [(aX, .inr (0, [.ref aF, .ref aR, .ref aO, .ref aA, .int (nI n), .long v]))]) hD hS hA [0] rfl
    refine va_calli (va_runV (As := [.int (nI j)]) (rest := []) ⟨hx, hb, hml, hown, hts⟩ (m_G_end l dC dI cB aX aF aR aO aA n j v _ hj hn) (cwV 1 hts (lw_V q166 q167 q168 q4 q169) rfl rfl rfl (by decide +kernel) ⟨Nat.le_trans (Nat.le_of_ble_eq_true rfl) hRf, Nat.le_trans (Nat.le_of_ble_eq_true rfl) hRl⟩) ⟨gC_bl, va_recv hK hPc (ci := 0) (q0 := 0) rfl rfl, gC_of hPc hK hDc⟩ rfl rfl hl.1 rfl (lv_room (Nat.le_of_ble_eq_true rfl)) dL_law_149 ⟨hRc, hRs⟩) hS (fun q _ h => hFc q h) hFc (fun r_3 u t H1 locs ht hvm hw hB hz1 hk1 hS => ?_)
    obtain ⟨hP1, hD1⟩ := hB
    rw [ht] at hP1
    obtain ⟨hP, hD⟩ := va_join (wr := [(aF, .inr (1, [.ref aE, .int nb, .int pl])), (aE, .inr (5, es)), (aR, .inr (2, [.ref aF, .ref rb, .int ra, .int re])), (aA, .inl (cB, 1000, .inl f)), (aO, .inr (3, [.ref aB, .int (nI k)])), (aB, .inl (cB, 4096, .inl g)), (aY, .inr (4, [.ref aM, .ref aN, .int (nI n), .int (nI k), .long v])), (aM, .inl (cB, 1000, .inl f)), (aN, .inl (cB, 1000, .inl g))]) (w1 := [(aX, .inr (0, [.ref aF, .ref aR, .ref aO, .ref aA, .int (nI j), .long v]))]) hP hD [0] [1, 2, 3, 4, 5, 6, 7, 8, 9] rfl rfl (by decide) (by decide) hk1 hFc hP1 hD1
    have hP := hP.sub (ws' := [(aX, .inr (0, [.ref aF, .ref aR, .ref aO, .ref aA, .int (nI j), .long v])), (aF, .inr (1, [.ref aE, .int nb, .int pl])), (aE, .inr (5, es)), (aR, .inr (2, [.ref aF, .ref rb, .int ra, .int re])), (aA, .inl (cB, 1000, .inl f)), (aO, .inr (3, [.ref aB, .int (nI k)])), (aB, .inl (cB, 4096, .inl g)), (aY, .inr (4, [.ref aM, .ref aN, .int (nI n), .int (nI k), .long v])), (aM, .inl (cB, 1000, .inl f)), (aN, .inl (cB, 1000, .inl g))]) [9, 0, 1, 2, 3, 4, 5, 6, 7, 8] rfl
    have hD := hD.sub (ws' := [(aX, .inr (0, [.ref aF, .ref aR, .ref aO, .ref aA, .int (nI j), .long v])), (aF, .inr (1, [.ref aE, .int nb, .int pl])), (aE, .inr (5, es)), (aR, .inr (2, [.ref aF, .ref rb, .int ra, .int re])), (aA, .inl (cB, 1000, .inl f)), (aO, .inr (3, [.ref aB, .int (nI k)])), (aB, .inl (cB, 4096, .inl g)), (aY, .inr (4, [.ref aM, .ref aN, .int (nI n), .int (nI k), .long v])), (aM, .inl (cB, 1000, .inl f)), (aN, .inl (cB, 1000, .inl g))]) [9, 0, 1, 2, 3, 4, 5, 6, 7, 8] (by decide) rfl
    generalize H1 = H at hP hS ⊢
    have hw1 := hw
    refine lv_aload_n hx hb dL_law_152 rfl (lv_at hl 2 rfl) ?_
    refine lv_aload_n hx hb dL_law_153 rfl (lv_at hl 0 rfl) ?_
    refine lv_iload_n hx hb dL_law_154 rfl (lv_at hl 3 rfl) ?_
    refine lv_iconst (v := 1) hx hb dL_law_155 (by decide) ?_
    refine lv_iadd hx hb dL_law_156 ?_
    refine lv_topi (fun z_4 ez_4 => ?_)
    rw [show z_4 = nI (i + 1) from by rw [ez_4]; exact nI_add i 1]
    refine va_sld hx hb hX hbl hbA hS (i := (nI (i + 1))) (vp_in_nI (by omega) (by omega)) dL_law_157 ?_
    refine lv_topi (fun z_5 ez_5 => ?_)
    rw [show z_5 = nI j from by rw [ez_5]; rw [nI_clamp (by omega)]; exact ej]
    have hPc := hP.sub (ws' := [(aY, .inr (4, [.ref aM, .ref aN, .int (nI n), .int (nI k), .long v]))]) [7] rfl
    have hDc := hD.sub (ws' := [(aY, .inr (4, [.ref aM, .ref aN, .int (nI n), .int (nI k), .long v]))]) [7] (by decide) rfl
    have hFc := va_free (wc := [(aY, .inr (4, [.ref aM, .ref aN, .int (nI n), .int (nI k), .long v]))]) hD hS hA [7] rfl
    refine va_calli (va_runV (As := [.int (nI j)]) (rest := [.int r_3]) ⟨hx, hb, hml, hown, hts⟩ (m_M_end l dC dI cB aY aM aN n k j v _ hj hn) (cwV 1 hts (lw_V q279 q280 q281 q12 q282) rfl rfl rfl (by decide +kernel) ⟨Nat.le_trans (Nat.le_of_ble_eq_true rfl) hRf, Nat.le_trans (Nat.le_of_ble_eq_true rfl) hRl⟩) ⟨gC_bl, va_recv hK hPc (ci := 4) (q0 := 0) rfl rfl, gC_of hPc hK hDc⟩ rfl rfl hl.1 rfl (lv_room (Nat.le_of_ble_eq_true rfl)) dL_law_158 ⟨hRc, hRs⟩) hS (fun q _ h => hFc q h) hFc (fun r_6 u t H1 locs ht hvm hw hB hz1 hk1 hS => ?_)
    obtain ⟨hP1, hD1⟩ := hB
    rw [ht] at hP1
    obtain ⟨hP, hD⟩ := va_join (wr := [(aX, .inr (0, [.ref aF, .ref aR, .ref aO, .ref aA, .int (nI j), .long v])), (aF, .inr (1, [.ref aE, .int nb, .int pl])), (aE, .inr (5, es)), (aR, .inr (2, [.ref aF, .ref rb, .int ra, .int re])), (aA, .inl (cB, 1000, .inl f)), (aO, .inr (3, [.ref aB, .int (nI k)])), (aB, .inl (cB, 4096, .inl g)), (aM, .inl (cB, 1000, .inl f)), (aN, .inl (cB, 1000, .inl g))]) (w1 := [(aY, .inr (4, [.ref aM, .ref aN, .int (nI j), .int (nI k), .long v]))]) hP hD [7] [0, 1, 2, 3, 4, 5, 6, 8, 9] rfl rfl (by decide) (by decide) hk1 hFc hP1 hD1
    have hP := hP.sub (ws' := [(aX, .inr (0, [.ref aF, .ref aR, .ref aO, .ref aA, .int (nI j), .long v])), (aF, .inr (1, [.ref aE, .int nb, .int pl])), (aE, .inr (5, es)), (aR, .inr (2, [.ref aF, .ref rb, .int ra, .int re])), (aA, .inl (cB, 1000, .inl f)), (aO, .inr (3, [.ref aB, .int (nI k)])), (aB, .inl (cB, 4096, .inl g)), (aY, .inr (4, [.ref aM, .ref aN, .int (nI j), .int (nI k), .long v])), (aM, .inl (cB, 1000, .inl f)), (aN, .inl (cB, 1000, .inl g))]) [0, 1, 2, 3, 4, 5, 6, 9, 7, 8] rfl
    have hD := hD.sub (ws' := [(aX, .inr (0, [.ref aF, .ref aR, .ref aO, .ref aA, .int (nI j), .long v])), (aF, .inr (1, [.ref aE, .int nb, .int pl])), (aE, .inr (5, es)), (aR, .inr (2, [.ref aF, .ref rb, .int ra, .int re])), (aA, .inl (cB, 1000, .inl f)), (aO, .inr (3, [.ref aB, .int (nI k)])), (aB, .inl (cB, 4096, .inl g)), (aY, .inr (4, [.ref aM, .ref aN, .int (nI j), .int (nI k), .long v])), (aM, .inl (cB, 1000, .inl f)), (aN, .inl (cB, 1000, .inl g))]) [0, 1, 2, 3, 4, 5, 6, 9, 7, 8] (by decide) rfl
    generalize H1 = H at hP hS ⊢
    refine lv_icmp_eq (tgt := 323) hx hb dL_law_161 (by decide) (fun c_7 => ?_) (fun c_7 => ?_)
    · refine lv_iinc (v := nI (i + 6)) (lv' := [(3, .int (nI (i + 6))), (0, .ref b), (1, .ref aX), (2, .ref aY)]) hx hb dL_law_323 hl (k := 3) rfl (nI_add i 6) (by decide) rfl (fun ls hl => ?_)
      refine lv_goto (tgt := 18) hx hb dL_law_326 (by decide) ?_
      exact kx j k v f g es rb nb pl ra re H locs ls (Nat.le_trans hj hn) hk hBy hP hD hS (lv_sub hl [1, 2, 3, 0] rfl)
    · exact absurd (hw1.trans hw.symm) c_7
set_option maxHeartbeats 4000000 in
/-- value -/
theorem lw_value {p : Program} {l : Launch} {e : Env} {R : Room} {s : State} {m : MethodId} {args : Array Value} {below : List Frame} {meth : Method} {c : Code} {Q : State → Prop} {dC : Nat → ClassId} {dI : Nat → Nat → Nat} {cB : ClassId} {A : Nat → Prop} {cells slots : Nat} (hx : p.tables.exec = Jvm.exec) (hb : c.code = cL_law) (hml : c.maxLocals = 4) (hown : s.vm.findClass R_law = some m.cls) (hts : ∀ w ∈ lw_all, w.before args s = true) (hA : ∀ q : Nat, s.heap.size ≤ q → A q) (hK : va_K (dC, dI) vwCl [(cB, .byte)] s) (hRf : 5 ≤ R.frames) (hRl : 113 ≤ R.locals) (hRc : cells ≤ R.cells) (hRs : slots ≤ R.slots) {b L : Nat} {xs : Nat → Int32} (hX : va_X b L xs s s.heap) (hbl : b < s.heap.size) (hbA : ¬ A b) (hL : L ≤ 384) (i : Nat) (hi : i + 6 ≤ L) (aX aF aR aO aA aE aB aY aM aN : Nat)
    (kx : ∀ (n k : Nat) (v : Int64) (f g : Nat → Int32) (es : List Value) (rb : Nat) (nb pl ra re : Int32) (H : Heap) (locs : List Loc) (ls : Array Slot), n ≤ 1000 → k ≤ 1000 → gp_By f → va_P (dC, dI) vwCl [(aX, .inr (0, [.ref aF, .ref aR, .ref aO, .ref aA, .int (nI n), .long v])), (aF, .inr (1, [.ref aE, .int nb, .int pl])), (aE, .inr (5, es)), (aR, .inr (2, [.ref aF, .ref rb, .int ra, .int re])), (aA, .inl (cB, 1000, .inl f)), (aO, .inr (3, [.ref aB, .int (nI k)])), (aB, .inl (cB, 4096, .inl g)), (aY, .inr (4, [.ref aM, .ref aN, .int (nI n), .int (nI k), .long v])), (aM, .inl (cB, 1000, .inl f)), (aN, .inl (cB, 1000, .inl g))] H → va_D A [(aX, .inr (0, [.ref aF, .ref aR, .ref aO, .ref aA, .int (nI n), .long v])), (aF, .inr (1, [.ref aE, .int nb, .int pl])), (aE, .inr (5, es)), (aR, .inr (2, [.ref aF, .ref rb, .int ra, .int re])), (aA, .inl (cB, 1000, .inl f)), (aO, .inr (3, [.ref aB, .int (nI k)])), (aB, .inl (cB, 4096, .inl g)), (aY, .inr (4, [.ref aM, .ref aN, .int (nI n), .int (nI k), .long v])), (aM, .inl (cB, 1000, .inl f)), (aN, .inl (cB, 1000, .inl g))] → va_S A s.heap H locs → lv_has ls 4 [(0, .ref b), (1, .ref aX), (2, .ref aY), (3, .int (nI (i + 6)))] → W p l e R s m args below meth c H locs cells slots Q (F0 m 18 ls [])) :
    ∀ (n k : Nat) (v : Int64) (f g : Nat → Int32) (es : List Value) (rb : Nat) (nb pl ra re : Int32) (H : Heap) (locs : List Loc) (ls : Array Slot), n ≤ 1000 → k ≤ 1000 → gp_By f → va_P (dC, dI) vwCl [(aX, .inr (0, [.ref aF, .ref aR, .ref aO, .ref aA, .int (nI n), .long v])), (aF, .inr (1, [.ref aE, .int nb, .int pl])), (aE, .inr (5, es)), (aR, .inr (2, [.ref aF, .ref rb, .int ra, .int re])), (aA, .inl (cB, 1000, .inl f)), (aO, .inr (3, [.ref aB, .int (nI k)])), (aB, .inl (cB, 4096, .inl g)), (aY, .inr (4, [.ref aM, .ref aN, .int (nI n), .int (nI k), .long v])), (aM, .inl (cB, 1000, .inl f)), (aN, .inl (cB, 1000, .inl g))] H → va_D A [(aX, .inr (0, [.ref aF, .ref aR, .ref aO, .ref aA, .int (nI n), .long v])), (aF, .inr (1, [.ref aE, .int nb, .int pl])), (aE, .inr (5, es)), (aR, .inr (2, [.ref aF, .ref rb, .int ra, .int re])), (aA, .inl (cB, 1000, .inl f)), (aO, .inr (3, [.ref aB, .int (nI k)])), (aB, .inl (cB, 4096, .inl g)), (aY, .inr (4, [.ref aM, .ref aN, .int (nI n), .int (nI k), .long v])), (aM, .inl (cB, 1000, .inl f)), (aN, .inl (cB, 1000, .inl g))] → va_S A s.heap H locs → lv_has ls 4 [(0, .ref b), (1, .ref aX), (2, .ref aY), (3, .int (nI i))] → W p l e R s m args below meth c H locs cells slots Q (F0 m 199 ls []) := by
  intro n k v f g es rb nb pl ra re H locs ls hn hk hBy hP hD hS hl
  refine lv_aload_n hx hb dL_law_199 rfl (lv_at hl 1 rfl) ?_
  have hPc := hP.sub (ws' := [(aX, .inr (0, [.ref aF, .ref aR, .ref aO, .ref aA, .int (nI n), .long v]))]) [0] rfl
  have hDc := hD.sub (ws' := [(aX, .inr (0, [.ref aF, .ref aR, .ref aO, .ref aA, .int (nI n), .long v]))]) [0] (by decide) rfl
  have hFc := va_free (wc := [(aX, .inr (0, [.ref aF, .ref aR, .ref aO, .ref aA, .int (nI n), .long v]))]) hD hS hA [0] rfl
  refine va_calll (va_runV (As := []) (rest := []) ⟨hx, hb, hml, hown, hts⟩ (m_G_value l dC dI cB aX aF aR aO aA n v _) (cwV 0 hts (lw_V q203 q204 q205 q4 q206) rfl rfl rfl (by decide +kernel) ⟨Nat.le_trans (Nat.le_of_ble_eq_true rfl) hRf, Nat.le_trans (Nat.le_of_ble_eq_true rfl) hRl⟩) ⟨gC_bl, va_recv hK hPc (ci := 0) (q0 := 0) rfl rfl, gC_of hPc hK hDc⟩ rfl rfl hl.1 rfl (lv_room (Nat.le_of_ble_eq_true rfl)) dL_law_200 ⟨hRc, hRs⟩) hS (fun q _ h => hFc q h) hFc (fun r_1 u t H1 locs ht hvm hw hB hz1 hk1 hS => ?_)
  obtain ⟨hP1, hD1⟩ := hB
  rw [ht] at hP1
  obtain ⟨hP, hD⟩ := va_join (wr := [(aF, .inr (1, [.ref aE, .int nb, .int pl])), (aE, .inr (5, es)), (aR, .inr (2, [.ref aF, .ref rb, .int ra, .int re])), (aA, .inl (cB, 1000, .inl f)), (aO, .inr (3, [.ref aB, .int (nI k)])), (aB, .inl (cB, 4096, .inl g)), (aY, .inr (4, [.ref aM, .ref aN, .int (nI n), .int (nI k), .long v])), (aM, .inl (cB, 1000, .inl f)), (aN, .inl (cB, 1000, .inl g))]) (w1 := [(aX, .inr (0, [.ref aF, .ref aR, .ref aO, .ref aA, .int (nI n), .long v]))]) hP hD [0] [1, 2, 3, 4, 5, 6, 7, 8, 9] rfl rfl (by decide) (by decide) hk1 hFc hP1 hD1
  have hP := hP.sub (ws' := [(aX, .inr (0, [.ref aF, .ref aR, .ref aO, .ref aA, .int (nI n), .long v])), (aF, .inr (1, [.ref aE, .int nb, .int pl])), (aE, .inr (5, es)), (aR, .inr (2, [.ref aF, .ref rb, .int ra, .int re])), (aA, .inl (cB, 1000, .inl f)), (aO, .inr (3, [.ref aB, .int (nI k)])), (aB, .inl (cB, 4096, .inl g)), (aY, .inr (4, [.ref aM, .ref aN, .int (nI n), .int (nI k), .long v])), (aM, .inl (cB, 1000, .inl f)), (aN, .inl (cB, 1000, .inl g))]) [9, 0, 1, 2, 3, 4, 5, 6, 7, 8] rfl
  have hD := hD.sub (ws' := [(aX, .inr (0, [.ref aF, .ref aR, .ref aO, .ref aA, .int (nI n), .long v])), (aF, .inr (1, [.ref aE, .int nb, .int pl])), (aE, .inr (5, es)), (aR, .inr (2, [.ref aF, .ref rb, .int ra, .int re])), (aA, .inl (cB, 1000, .inl f)), (aO, .inr (3, [.ref aB, .int (nI k)])), (aB, .inl (cB, 4096, .inl g)), (aY, .inr (4, [.ref aM, .ref aN, .int (nI n), .int (nI k), .long v])), (aM, .inl (cB, 1000, .inl f)), (aN, .inl (cB, 1000, .inl g))]) [9, 0, 1, 2, 3, 4, 5, 6, 7, 8] (by decide) rfl
  generalize H1 = H at hP hS ⊢
  have hw1 := hw
  refine lv_aload_n hx hb dL_law_203 rfl (lv_at hl 2 rfl) ?_
  have hPc := hP.sub (ws' := [(aY, .inr (4, [.ref aM, .ref aN, .int (nI n), .int (nI k), .long v]))]) [7] rfl
  have hDc := hD.sub (ws' := [(aY, .inr (4, [.ref aM, .ref aN, .int (nI n), .int (nI k), .long v]))]) [7] (by decide) rfl
  have hFc := va_free (wc := [(aY, .inr (4, [.ref aM, .ref aN, .int (nI n), .int (nI k), .long v]))]) hD hS hA [7] rfl
  refine va_calll (va_runV (As := []) (rest := [.long r_1]) ⟨hx, hb, hml, hown, hts⟩ (m_M_value l dC dI cB aY aM aN n k v _) (cwV 0 hts (lw_V q288 q289 q290 q12 q291) rfl rfl rfl (by decide +kernel) ⟨Nat.le_trans (Nat.le_of_ble_eq_true rfl) hRf, Nat.le_trans (Nat.le_of_ble_eq_true rfl) hRl⟩) ⟨gC_bl, va_recv hK hPc (ci := 4) (q0 := 0) rfl rfl, gC_of hPc hK hDc⟩ rfl rfl hl.1 rfl (lv_room (Nat.le_of_ble_eq_true rfl)) dL_law_204 ⟨hRc, hRs⟩) hS (fun q _ h => hFc q h) hFc (fun r_2 u t H1 locs ht hvm hw hB hz1 hk1 hS => ?_)
  obtain ⟨hP1, hD1⟩ := hB
  rw [ht] at hP1
  obtain ⟨hP, hD⟩ := va_join (wr := [(aX, .inr (0, [.ref aF, .ref aR, .ref aO, .ref aA, .int (nI n), .long v])), (aF, .inr (1, [.ref aE, .int nb, .int pl])), (aE, .inr (5, es)), (aR, .inr (2, [.ref aF, .ref rb, .int ra, .int re])), (aA, .inl (cB, 1000, .inl f)), (aO, .inr (3, [.ref aB, .int (nI k)])), (aB, .inl (cB, 4096, .inl g)), (aM, .inl (cB, 1000, .inl f)), (aN, .inl (cB, 1000, .inl g))]) (w1 := [(aY, .inr (4, [.ref aM, .ref aN, .int (nI n), .int (nI k), .long v]))]) hP hD [7] [0, 1, 2, 3, 4, 5, 6, 8, 9] rfl rfl (by decide) (by decide) hk1 hFc hP1 hD1
  have hP := hP.sub (ws' := [(aX, .inr (0, [.ref aF, .ref aR, .ref aO, .ref aA, .int (nI n), .long v])), (aF, .inr (1, [.ref aE, .int nb, .int pl])), (aE, .inr (5, es)), (aR, .inr (2, [.ref aF, .ref rb, .int ra, .int re])), (aA, .inl (cB, 1000, .inl f)), (aO, .inr (3, [.ref aB, .int (nI k)])), (aB, .inl (cB, 4096, .inl g)), (aY, .inr (4, [.ref aM, .ref aN, .int (nI n), .int (nI k), .long v])), (aM, .inl (cB, 1000, .inl f)), (aN, .inl (cB, 1000, .inl g))]) [0, 1, 2, 3, 4, 5, 6, 9, 7, 8] rfl
  have hD := hD.sub (ws' := [(aX, .inr (0, [.ref aF, .ref aR, .ref aO, .ref aA, .int (nI n), .long v])), (aF, .inr (1, [.ref aE, .int nb, .int pl])), (aE, .inr (5, es)), (aR, .inr (2, [.ref aF, .ref rb, .int ra, .int re])), (aA, .inl (cB, 1000, .inl f)), (aO, .inr (3, [.ref aB, .int (nI k)])), (aB, .inl (cB, 4096, .inl g)), (aY, .inr (4, [.ref aM, .ref aN, .int (nI n), .int (nI k), .long v])), (aM, .inl (cB, 1000, .inl f)), (aN, .inl (cB, 1000, .inl g))]) [0, 1, 2, 3, 4, 5, 6, 9, 7, 8] (by decide) rfl
  generalize H1 = H at hP hS ⊢
  refine W.lcmp hx hb dL_law_207 ?_
  refine lv_if_eq (tgt := 323) hx hb dL_law_208 (by decide) (fun c_3 => ?_) (fun c_3 => ?_)
  · refine lv_iinc (v := nI (i + 6)) (lv' := [(3, .int (nI (i + 6))), (0, .ref b), (1, .ref aX), (2, .ref aY)]) hx hb dL_law_323 hl (k := 3) rfl (nI_add i 6) (by decide) rfl (fun ls hl => ?_)
    refine lv_goto (tgt := 18) hx hb dL_law_326 (by decide) ?_
    exact kx n k v f g es rb nb pl ra re H locs ls hn hk hBy hP hD hS (lv_sub hl [1, 2, 3, 0] rfl)
  · exact absurd ((lg_cmp_eq _ _).mpr (hw1.trans hw.symm)) c_3
set_option maxHeartbeats 4000000 in
/-- size -/
theorem lw_size {p : Program} {l : Launch} {e : Env} {R : Room} {s : State} {m : MethodId} {args : Array Value} {below : List Frame} {meth : Method} {c : Code} {Q : State → Prop} {dC : Nat → ClassId} {dI : Nat → Nat → Nat} {cB : ClassId} {A : Nat → Prop} {cells slots : Nat} (hx : p.tables.exec = Jvm.exec) (hb : c.code = cL_law) (hml : c.maxLocals = 4) (hown : s.vm.findClass R_law = some m.cls) (hts : ∀ w ∈ lw_all, w.before args s = true) (hA : ∀ q : Nat, s.heap.size ≤ q → A q) (hK : va_K (dC, dI) vwCl [(cB, .byte)] s) (hRf : 5 ≤ R.frames) (hRl : 113 ≤ R.locals) (hRc : cells ≤ R.cells) (hRs : slots ≤ R.slots) {b L : Nat} {xs : Nat → Int32} (hX : va_X b L xs s s.heap) (hbl : b < s.heap.size) (hbA : ¬ A b) (hL : L ≤ 384) (i : Nat) (hi : i + 6 ≤ L) (aX aF aR aO aA aE aB aY aM aN : Nat)
    (kx : ∀ (n k : Nat) (v : Int64) (f g : Nat → Int32) (es : List Value) (rb : Nat) (nb pl ra re : Int32) (H : Heap) (locs : List Loc) (ls : Array Slot), n ≤ 1000 → k ≤ 1000 → gp_By f → va_P (dC, dI) vwCl [(aX, .inr (0, [.ref aF, .ref aR, .ref aO, .ref aA, .int (nI n), .long v])), (aF, .inr (1, [.ref aE, .int nb, .int pl])), (aE, .inr (5, es)), (aR, .inr (2, [.ref aF, .ref rb, .int ra, .int re])), (aA, .inl (cB, 1000, .inl f)), (aO, .inr (3, [.ref aB, .int (nI k)])), (aB, .inl (cB, 4096, .inl g)), (aY, .inr (4, [.ref aM, .ref aN, .int (nI n), .int (nI k), .long v])), (aM, .inl (cB, 1000, .inl f)), (aN, .inl (cB, 1000, .inl g))] H → va_D A [(aX, .inr (0, [.ref aF, .ref aR, .ref aO, .ref aA, .int (nI n), .long v])), (aF, .inr (1, [.ref aE, .int nb, .int pl])), (aE, .inr (5, es)), (aR, .inr (2, [.ref aF, .ref rb, .int ra, .int re])), (aA, .inl (cB, 1000, .inl f)), (aO, .inr (3, [.ref aB, .int (nI k)])), (aB, .inl (cB, 4096, .inl g)), (aY, .inr (4, [.ref aM, .ref aN, .int (nI n), .int (nI k), .long v])), (aM, .inl (cB, 1000, .inl f)), (aN, .inl (cB, 1000, .inl g))] → va_S A s.heap H locs → lv_has ls 4 [(0, .ref b), (1, .ref aX), (2, .ref aY), (3, .int (nI (i + 6)))] → W p l e R s m args below meth c H locs cells slots Q (F0 m 18 ls [])) :
    ∀ (n k : Nat) (v : Int64) (f g : Nat → Int32) (es : List Value) (rb : Nat) (nb pl ra re : Int32) (H : Heap) (locs : List Loc) (ls : Array Slot), n ≤ 1000 → k ≤ 1000 → gp_By f → va_P (dC, dI) vwCl [(aX, .inr (0, [.ref aF, .ref aR, .ref aO, .ref aA, .int (nI n), .long v])), (aF, .inr (1, [.ref aE, .int nb, .int pl])), (aE, .inr (5, es)), (aR, .inr (2, [.ref aF, .ref rb, .int ra, .int re])), (aA, .inl (cB, 1000, .inl f)), (aO, .inr (3, [.ref aB, .int (nI k)])), (aB, .inl (cB, 4096, .inl g)), (aY, .inr (4, [.ref aM, .ref aN, .int (nI n), .int (nI k), .long v])), (aM, .inl (cB, 1000, .inl f)), (aN, .inl (cB, 1000, .inl g))] H → va_D A [(aX, .inr (0, [.ref aF, .ref aR, .ref aO, .ref aA, .int (nI n), .long v])), (aF, .inr (1, [.ref aE, .int nb, .int pl])), (aE, .inr (5, es)), (aR, .inr (2, [.ref aF, .ref rb, .int ra, .int re])), (aA, .inl (cB, 1000, .inl f)), (aO, .inr (3, [.ref aB, .int (nI k)])), (aB, .inl (cB, 4096, .inl g)), (aY, .inr (4, [.ref aM, .ref aN, .int (nI n), .int (nI k), .long v])), (aM, .inl (cB, 1000, .inl f)), (aN, .inl (cB, 1000, .inl g))] → va_S A s.heap H locs → lv_has ls 4 [(0, .ref b), (1, .ref aX), (2, .ref aY), (3, .int (nI i))] → W p l e R s m args below meth c H locs cells slots Q (F0 m 276 ls []) := by
  intro n k v f g es rb nb pl ra re H locs ls hn hk hBy hP hD hS hl
  refine lv_aload_n hx hb dL_law_276 rfl (lv_at hl 1 rfl) ?_
  have hPc := hP.sub (ws' := [(aX, .inr (0, [.ref aF, .ref aR, .ref aO, .ref aA, .int (nI n), .long v])), (aO, .inr (3, [.ref aB, .int (nI k)]))]) [0, 5] rfl
  have hDc := hD.sub (ws' := [(aX, .inr (0, [.ref aF, .ref aR, .ref aO, .ref aA, .int (nI n), .long v])), (aO, .inr (3, [.ref aB, .int (nI k)]))]) [0, 5] (by decide) rfl
  have hFc := va_free (wc := [(aX, .inr (0, [.ref aF, .ref aR, .ref aO, .ref aA, .int (nI n), .long v])), (aO, .inr (3, [.ref aB, .int (nI k)]))]) hD hS hA [0, 5] rfl
  refine va_calli (va_runV (As := []) (rest := []) ⟨hx, hb, hml, hown, hts⟩ (m_G_size l dC dI cB aX aF aR aO aA aB n k v _) (cwV 0 hts (lw_V q233 q234 q235 q4 q236) rfl rfl rfl (by decide +kernel) ⟨Nat.le_trans (Nat.le_of_ble_eq_true rfl) hRf, Nat.le_trans (Nat.le_of_ble_eq_true rfl) hRl⟩) ⟨gC_bl, va_recv hK hPc (ci := 0) (q0 := 0) rfl rfl, gC_of hPc hK hDc⟩ rfl rfl hl.1 rfl (lv_room (Nat.le_of_ble_eq_true rfl)) dL_law_277 ⟨hRc, hRs⟩) hS (fun q _ h => hFc q h) hFc (fun r_1 u t H1 locs ht hvm hw hB hz1 hk1 hS => ?_)
  obtain ⟨hP1, hD1⟩ := hB
  rw [ht] at hP1
  obtain ⟨hP, hD⟩ := va_join (wr := [(aF, .inr (1, [.ref aE, .int nb, .int pl])), (aE, .inr (5, es)), (aR, .inr (2, [.ref aF, .ref rb, .int ra, .int re])), (aA, .inl (cB, 1000, .inl f)), (aB, .inl (cB, 4096, .inl g)), (aY, .inr (4, [.ref aM, .ref aN, .int (nI n), .int (nI k), .long v])), (aM, .inl (cB, 1000, .inl f)), (aN, .inl (cB, 1000, .inl g))]) (w1 := [(aX, .inr (0, [.ref aF, .ref aR, .ref aO, .ref aA, .int (nI n), .long v])), (aO, .inr (3, [.ref aB, .int (nI k)]))]) hP hD [0, 5] [1, 2, 3, 4, 6, 7, 8, 9] rfl rfl (by decide) (by decide) hk1 hFc hP1 hD1
  have hP := hP.sub (ws' := [(aX, .inr (0, [.ref aF, .ref aR, .ref aO, .ref aA, .int (nI n), .long v])), (aF, .inr (1, [.ref aE, .int nb, .int pl])), (aE, .inr (5, es)), (aR, .inr (2, [.ref aF, .ref rb, .int ra, .int re])), (aA, .inl (cB, 1000, .inl f)), (aO, .inr (3, [.ref aB, .int (nI k)])), (aB, .inl (cB, 4096, .inl g)), (aY, .inr (4, [.ref aM, .ref aN, .int (nI n), .int (nI k), .long v])), (aM, .inl (cB, 1000, .inl f)), (aN, .inl (cB, 1000, .inl g))]) [8, 0, 1, 2, 3, 9, 4, 5, 6, 7] rfl
  have hD := hD.sub (ws' := [(aX, .inr (0, [.ref aF, .ref aR, .ref aO, .ref aA, .int (nI n), .long v])), (aF, .inr (1, [.ref aE, .int nb, .int pl])), (aE, .inr (5, es)), (aR, .inr (2, [.ref aF, .ref rb, .int ra, .int re])), (aA, .inl (cB, 1000, .inl f)), (aO, .inr (3, [.ref aB, .int (nI k)])), (aB, .inl (cB, 4096, .inl g)), (aY, .inr (4, [.ref aM, .ref aN, .int (nI n), .int (nI k), .long v])), (aM, .inl (cB, 1000, .inl f)), (aN, .inl (cB, 1000, .inl g))]) [8, 0, 1, 2, 3, 9, 4, 5, 6, 7] (by decide) rfl
  generalize H1 = H at hP hS ⊢
  have hw1 := hw
  refine lv_aload_n hx hb dL_law_280 rfl (lv_at hl 2 rfl) ?_
  have hPc := hP.sub (ws' := [(aY, .inr (4, [.ref aM, .ref aN, .int (nI n), .int (nI k), .long v]))]) [7] rfl
  have hDc := hD.sub (ws' := [(aY, .inr (4, [.ref aM, .ref aN, .int (nI n), .int (nI k), .long v]))]) [7] (by decide) rfl
  have hFc := va_free (wc := [(aY, .inr (4, [.ref aM, .ref aN, .int (nI n), .int (nI k), .long v]))]) hD hS hA [7] rfl
  refine va_calli (va_runV (As := []) (rest := [.int r_1]) ⟨hx, hb, hml, hown, hts⟩ (m_M_size l dC dI cB aY aM aN n k v _) (cwV 0 hts (lw_V q303 q304 q305 q12 q306) rfl rfl rfl (by decide +kernel) ⟨Nat.le_trans (Nat.le_of_ble_eq_true rfl) hRf, Nat.le_trans (Nat.le_of_ble_eq_true rfl) hRl⟩) ⟨gC_bl, va_recv hK hPc (ci := 4) (q0 := 0) rfl rfl, gC_of hPc hK hDc⟩ rfl rfl hl.1 rfl (lv_room (Nat.le_of_ble_eq_true rfl)) dL_law_281 ⟨hRc, hRs⟩) hS (fun q _ h => hFc q h) hFc (fun r_2 u t H1 locs ht hvm hw hB hz1 hk1 hS => ?_)
  obtain ⟨hP1, hD1⟩ := hB
  rw [ht] at hP1
  obtain ⟨hP, hD⟩ := va_join (wr := [(aX, .inr (0, [.ref aF, .ref aR, .ref aO, .ref aA, .int (nI n), .long v])), (aF, .inr (1, [.ref aE, .int nb, .int pl])), (aE, .inr (5, es)), (aR, .inr (2, [.ref aF, .ref rb, .int ra, .int re])), (aA, .inl (cB, 1000, .inl f)), (aO, .inr (3, [.ref aB, .int (nI k)])), (aB, .inl (cB, 4096, .inl g)), (aM, .inl (cB, 1000, .inl f)), (aN, .inl (cB, 1000, .inl g))]) (w1 := [(aY, .inr (4, [.ref aM, .ref aN, .int (nI n), .int (nI k), .long v]))]) hP hD [7] [0, 1, 2, 3, 4, 5, 6, 8, 9] rfl rfl (by decide) (by decide) hk1 hFc hP1 hD1
  have hP := hP.sub (ws' := [(aX, .inr (0, [.ref aF, .ref aR, .ref aO, .ref aA, .int (nI n), .long v])), (aF, .inr (1, [.ref aE, .int nb, .int pl])), (aE, .inr (5, es)), (aR, .inr (2, [.ref aF, .ref rb, .int ra, .int re])), (aA, .inl (cB, 1000, .inl f)), (aO, .inr (3, [.ref aB, .int (nI k)])), (aB, .inl (cB, 4096, .inl g)), (aY, .inr (4, [.ref aM, .ref aN, .int (nI n), .int (nI k), .long v])), (aM, .inl (cB, 1000, .inl f)), (aN, .inl (cB, 1000, .inl g))]) [0, 1, 2, 3, 4, 5, 6, 9, 7, 8] rfl
  have hD := hD.sub (ws' := [(aX, .inr (0, [.ref aF, .ref aR, .ref aO, .ref aA, .int (nI n), .long v])), (aF, .inr (1, [.ref aE, .int nb, .int pl])), (aE, .inr (5, es)), (aR, .inr (2, [.ref aF, .ref rb, .int ra, .int re])), (aA, .inl (cB, 1000, .inl f)), (aO, .inr (3, [.ref aB, .int (nI k)])), (aB, .inl (cB, 4096, .inl g)), (aY, .inr (4, [.ref aM, .ref aN, .int (nI n), .int (nI k), .long v])), (aM, .inl (cB, 1000, .inl f)), (aN, .inl (cB, 1000, .inl g))]) [0, 1, 2, 3, 4, 5, 6, 9, 7, 8] (by decide) rfl
  generalize H1 = H at hP hS ⊢
  refine lv_icmp_eq (tgt := 323) hx hb dL_law_284 (by decide) (fun c_3 => ?_) (fun c_3 => ?_)
  · refine lv_iinc (v := nI (i + 6)) (lv' := [(3, .int (nI (i + 6))), (0, .ref b), (1, .ref aX), (2, .ref aY)]) hx hb dL_law_323 hl (k := 3) rfl (nI_add i 6) (by decide) rfl (fun ls hl => ?_)
    refine lv_goto (tgt := 18) hx hb dL_law_326 (by decide) ?_
    exact kx n k v f g es rb nb pl ra re H locs ls hn hk hBy hP hD hS (lv_sub hl [1, 2, 3, 0] rfl)
  · exact absurd (hw1.trans hw.symm) c_3
set_option maxHeartbeats 4000000 in
/-- at -/
theorem lw_at6 {p : Program} {l : Launch} {e : Env} {R : Room} {s : State} {m : MethodId} {args : Array Value} {below : List Frame} {meth : Method} {c : Code} {Q : State → Prop} {dC : Nat → ClassId} {dI : Nat → Nat → Nat} {cB : ClassId} {A : Nat → Prop} {cells slots : Nat} (hx : p.tables.exec = Jvm.exec) (hb : c.code = cL_law) (hml : c.maxLocals = 4) (hown : s.vm.findClass R_law = some m.cls) (hts : ∀ w ∈ lw_all, w.before args s = true) (hA : ∀ q : Nat, s.heap.size ≤ q → A q) (hK : va_K (dC, dI) vwCl [(cB, .byte)] s) (hRf : 5 ≤ R.frames) (hRl : 113 ≤ R.locals) (hRc : cells ≤ R.cells) (hRs : slots ≤ R.slots) {b L : Nat} {xs : Nat → Int32} (hX : va_X b L xs s s.heap) (hbl : b < s.heap.size) (hbA : ¬ A b) (hL : L ≤ 384) (i : Nat) (hi : i + 6 ≤ L) (aX aF aR aO aA aE aB aY aM aN : Nat)
    (kx : ∀ (n k : Nat) (v : Int64) (f g : Nat → Int32) (es : List Value) (rb : Nat) (nb pl ra re : Int32) (H : Heap) (locs : List Loc) (ls : Array Slot), n ≤ 1000 → k ≤ 1000 → gp_By f → va_P (dC, dI) vwCl [(aX, .inr (0, [.ref aF, .ref aR, .ref aO, .ref aA, .int (nI n), .long v])), (aF, .inr (1, [.ref aE, .int nb, .int pl])), (aE, .inr (5, es)), (aR, .inr (2, [.ref aF, .ref rb, .int ra, .int re])), (aA, .inl (cB, 1000, .inl f)), (aO, .inr (3, [.ref aB, .int (nI k)])), (aB, .inl (cB, 4096, .inl g)), (aY, .inr (4, [.ref aM, .ref aN, .int (nI n), .int (nI k), .long v])), (aM, .inl (cB, 1000, .inl f)), (aN, .inl (cB, 1000, .inl g))] H → va_D A [(aX, .inr (0, [.ref aF, .ref aR, .ref aO, .ref aA, .int (nI n), .long v])), (aF, .inr (1, [.ref aE, .int nb, .int pl])), (aE, .inr (5, es)), (aR, .inr (2, [.ref aF, .ref rb, .int ra, .int re])), (aA, .inl (cB, 1000, .inl f)), (aO, .inr (3, [.ref aB, .int (nI k)])), (aB, .inl (cB, 4096, .inl g)), (aY, .inr (4, [.ref aM, .ref aN, .int (nI n), .int (nI k), .long v])), (aM, .inl (cB, 1000, .inl f)), (aN, .inl (cB, 1000, .inl g))] → va_S A s.heap H locs → lv_has ls 4 [(0, .ref b), (1, .ref aX), (2, .ref aY), (3, .int (nI (i + 6)))] → W p l e R s m args below meth c H locs cells slots Q (F0 m 18 ls [])) :
    ∀ (n k : Nat) (v : Int64) (f g : Nat → Int32) (es : List Value) (rb : Nat) (nb pl ra re : Int32) (H : Heap) (locs : List Loc) (ls : Array Slot), n ≤ 1000 → k ≤ 1000 → gp_By f → va_P (dC, dI) vwCl [(aX, .inr (0, [.ref aF, .ref aR, .ref aO, .ref aA, .int (nI n), .long v])), (aF, .inr (1, [.ref aE, .int nb, .int pl])), (aE, .inr (5, es)), (aR, .inr (2, [.ref aF, .ref rb, .int ra, .int re])), (aA, .inl (cB, 1000, .inl f)), (aO, .inr (3, [.ref aB, .int (nI k)])), (aB, .inl (cB, 4096, .inl g)), (aY, .inr (4, [.ref aM, .ref aN, .int (nI n), .int (nI k), .long v])), (aM, .inl (cB, 1000, .inl f)), (aN, .inl (cB, 1000, .inl g))] H → va_D A [(aX, .inr (0, [.ref aF, .ref aR, .ref aO, .ref aA, .int (nI n), .long v])), (aF, .inr (1, [.ref aE, .int nb, .int pl])), (aE, .inr (5, es)), (aR, .inr (2, [.ref aF, .ref rb, .int ra, .int re])), (aA, .inl (cB, 1000, .inl f)), (aO, .inr (3, [.ref aB, .int (nI k)])), (aB, .inl (cB, 4096, .inl g)), (aY, .inr (4, [.ref aM, .ref aN, .int (nI n), .int (nI k), .long v])), (aM, .inl (cB, 1000, .inl f)), (aN, .inl (cB, 1000, .inl g))] → va_S A s.heap H locs → lv_has ls 4 [(0, .ref b), (1, .ref aX), (2, .ref aY), (3, .int (nI i))] → W p l e R s m args below meth c H locs cells slots Q (F0 m 289 ls []) := by
  intro n k v f g es rb nb pl ra re H locs ls hn hk hBy hP hD hS hl
  rcases gp_ixk (xs (i + 1)) (k := k) (by omega) with hc | ⟨j, hj, ej⟩
  · refine lv_aload_n hx hb dL_law_289 rfl (lv_at hl 1 rfl) ?_
    refine lv_aload_n hx hb dL_law_290 rfl (lv_at hl 0 rfl) ?_
    refine lv_iload_n hx hb dL_law_291 rfl (lv_at hl 3 rfl) ?_
    refine lv_iconst (v := 1) hx hb dL_law_292 (by decide) ?_
    refine lv_iadd hx hb dL_law_293 ?_
    refine lv_topi (fun z_1 ez_1 => ?_)
    rw [show z_1 = nI (i + 1) from by rw [ez_1]; exact nI_add i 1]
    refine va_sld hx hb hX hbl hbA hS (i := (nI (i + 1))) (vp_in_nI (by omega) (by omega)) dL_law_294 ?_
    refine lv_topi (fun z_2 ez_2 => ?_)
    rw [show z_2 = xs (i + 1) from by rw [ez_2]; rw [nI_clamp (by omega)]]
    have hPc := hP.sub (ws' := [(aX, .inr (0, [.ref aF, .ref aR, .ref aO, .ref aA, .int (nI n), .long v])), (aO, .inr (3, [.ref aB, .int (nI k)])), (aB, .inl (cB, 4096, .inl g))]) [0, 5, 6] rfl
    have hDc := hD.sub (ws' := [(aX, .inr (0, [.ref aF, .ref aR, .ref aO, .ref aA, .int (nI n), .long v])), (aO, .inr (3, [.ref aB, .int (nI k)])), (aB, .inl (cB, 4096, .inl g))]) [0, 5, 6] (by decide) rfl
    have hFc := va_free (wc := [(aX, .inr (0, [.ref aF, .ref aR, .ref aO, .ref aA, .int (nI n), .long v])), (aO, .inr (3, [.ref aB, .int (nI k)])), (aB, .inl (cB, 4096, .inl g))]) hD hS hA [0, 5, 6] rfl
    refine va_calli (va_runV (As := [.int (xs (i + 1))]) (rest := []) ⟨hx, hb, hml, hown, hts⟩ (m_G_atN l dC dI cB aX aF aR aO aA aB n k v g (xs (i + 1)) _ hc) (cwV 1 hts (lw_V q237 q238 q239 q4 q240) rfl rfl rfl (by decide +kernel) ⟨Nat.le_trans (Nat.le_of_ble_eq_true rfl) hRf, Nat.le_trans (Nat.le_of_ble_eq_true rfl) hRl⟩) ⟨gC_bl, va_recv hK hPc (ci := 0) (q0 := 0) rfl rfl, gC_of hPc hK hDc⟩ rfl rfl hl.1 rfl (lv_room (Nat.le_of_ble_eq_true rfl)) dL_law_295 ⟨hRc, hRs⟩) hS (fun q _ h => hFc q h) hFc (fun r_3 u t H1 locs ht hvm hw hB hz1 hk1 hS => ?_)
    obtain ⟨hP1, hD1⟩ := hB
    rw [ht] at hP1
    obtain ⟨hP, hD⟩ := va_join (wr := [(aF, .inr (1, [.ref aE, .int nb, .int pl])), (aE, .inr (5, es)), (aR, .inr (2, [.ref aF, .ref rb, .int ra, .int re])), (aA, .inl (cB, 1000, .inl f)), (aY, .inr (4, [.ref aM, .ref aN, .int (nI n), .int (nI k), .long v])), (aM, .inl (cB, 1000, .inl f)), (aN, .inl (cB, 1000, .inl g))]) (w1 := [(aX, .inr (0, [.ref aF, .ref aR, .ref aO, .ref aA, .int (nI n), .long v])), (aO, .inr (3, [.ref aB, .int (nI k)])), (aB, .inl (cB, 4096, .inl g))]) hP hD [0, 5, 6] [1, 2, 3, 4, 7, 8, 9] rfl rfl (by decide) (by decide) hk1 hFc hP1 hD1
    have hP := hP.sub (ws' := [(aX, .inr (0, [.ref aF, .ref aR, .ref aO, .ref aA, .int (nI n), .long v])), (aF, .inr (1, [.ref aE, .int nb, .int pl])), (aE, .inr (5, es)), (aR, .inr (2, [.ref aF, .ref rb, .int ra, .int re])), (aA, .inl (cB, 1000, .inl f)), (aO, .inr (3, [.ref aB, .int (nI k)])), (aB, .inl (cB, 4096, .inl g)), (aY, .inr (4, [.ref aM, .ref aN, .int (nI n), .int (nI k), .long v])), (aM, .inl (cB, 1000, .inl f)), (aN, .inl (cB, 1000, .inl g))]) [7, 0, 1, 2, 3, 8, 9, 4, 5, 6] rfl
    have hD := hD.sub (ws' := [(aX, .inr (0, [.ref aF, .ref aR, .ref aO, .ref aA, .int (nI n), .long v])), (aF, .inr (1, [.ref aE, .int nb, .int pl])), (aE, .inr (5, es)), (aR, .inr (2, [.ref aF, .ref rb, .int ra, .int re])), (aA, .inl (cB, 1000, .inl f)), (aO, .inr (3, [.ref aB, .int (nI k)])), (aB, .inl (cB, 4096, .inl g)), (aY, .inr (4, [.ref aM, .ref aN, .int (nI n), .int (nI k), .long v])), (aM, .inl (cB, 1000, .inl f)), (aN, .inl (cB, 1000, .inl g))]) [7, 0, 1, 2, 3, 8, 9, 4, 5, 6] (by decide) rfl
    generalize H1 = H at hP hS ⊢
    have hw1 := hw
    refine lv_aload_n hx hb dL_law_298 rfl (lv_at hl 2 rfl) ?_
    refine lv_aload_n hx hb dL_law_299 rfl (lv_at hl 0 rfl) ?_
    refine lv_iload_n hx hb dL_law_300 rfl (lv_at hl 3 rfl) ?_
    refine lv_iconst (v := 1) hx hb dL_law_301 (by decide) ?_
    refine lv_iadd hx hb dL_law_302 ?_
    refine lv_topi (fun z_4 ez_4 => ?_)
    rw [show z_4 = nI (i + 1) from by rw [ez_4]; exact nI_add i 1]
    refine va_sld hx hb hX hbl hbA hS (i := (nI (i + 1))) (vp_in_nI (by omega) (by omega)) dL_law_303 ?_
    refine lv_topi (fun z_5 ez_5 => ?_)
    rw [show z_5 = xs (i + 1) from by rw [ez_5]; rw [nI_clamp (by omega)]]
    have hPc := hP.sub (ws' := [(aY, .inr (4, [.ref aM, .ref aN, .int (nI n), .int (nI k), .long v])), (aN, .inl (cB, 1000, .inl g))]) [7, 9] rfl
    have hDc := hD.sub (ws' := [(aY, .inr (4, [.ref aM, .ref aN, .int (nI n), .int (nI k), .long v])), (aN, .inl (cB, 1000, .inl g))]) [7, 9] (by decide) rfl
    have hFc := va_free (wc := [(aY, .inr (4, [.ref aM, .ref aN, .int (nI n), .int (nI k), .long v])), (aN, .inl (cB, 1000, .inl g))]) hD hS hA [7, 9] rfl
    refine va_calli (va_runV (As := [.int (xs (i + 1))]) (rest := [.int r_3]) ⟨hx, hb, hml, hown, hts⟩ (m_M_atN l dC dI cB aY aM aN n k v g (xs (i + 1)) _ hc) (cwV 1 hts (lw_V q307 q308 q309 q12 q310) rfl rfl rfl (by decide +kernel) ⟨Nat.le_trans (Nat.le_of_ble_eq_true rfl) hRf, Nat.le_trans (Nat.le_of_ble_eq_true rfl) hRl⟩) ⟨gC_bl, va_recv hK hPc (ci := 4) (q0 := 0) rfl rfl, gC_of hPc hK hDc⟩ rfl rfl hl.1 rfl (lv_room (Nat.le_of_ble_eq_true rfl)) dL_law_304 ⟨hRc, hRs⟩) hS (fun q _ h => hFc q h) hFc (fun r_6 u t H1 locs ht hvm hw hB hz1 hk1 hS => ?_)
    obtain ⟨hP1, hD1⟩ := hB
    rw [ht] at hP1
    obtain ⟨hP, hD⟩ := va_join (wr := [(aX, .inr (0, [.ref aF, .ref aR, .ref aO, .ref aA, .int (nI n), .long v])), (aF, .inr (1, [.ref aE, .int nb, .int pl])), (aE, .inr (5, es)), (aR, .inr (2, [.ref aF, .ref rb, .int ra, .int re])), (aA, .inl (cB, 1000, .inl f)), (aO, .inr (3, [.ref aB, .int (nI k)])), (aB, .inl (cB, 4096, .inl g)), (aM, .inl (cB, 1000, .inl f))]) (w1 := [(aY, .inr (4, [.ref aM, .ref aN, .int (nI n), .int (nI k), .long v])), (aN, .inl (cB, 1000, .inl g))]) hP hD [7, 9] [0, 1, 2, 3, 4, 5, 6, 8] rfl rfl (by decide) (by decide) hk1 hFc hP1 hD1
    have hP := hP.sub (ws' := [(aX, .inr (0, [.ref aF, .ref aR, .ref aO, .ref aA, .int (nI n), .long v])), (aF, .inr (1, [.ref aE, .int nb, .int pl])), (aE, .inr (5, es)), (aR, .inr (2, [.ref aF, .ref rb, .int ra, .int re])), (aA, .inl (cB, 1000, .inl f)), (aO, .inr (3, [.ref aB, .int (nI k)])), (aB, .inl (cB, 4096, .inl g)), (aY, .inr (4, [.ref aM, .ref aN, .int (nI n), .int (nI k), .long v])), (aM, .inl (cB, 1000, .inl f)), (aN, .inl (cB, 1000, .inl g))]) [0, 1, 2, 3, 4, 5, 6, 8, 7, 9] rfl
    have hD := hD.sub (ws' := [(aX, .inr (0, [.ref aF, .ref aR, .ref aO, .ref aA, .int (nI n), .long v])), (aF, .inr (1, [.ref aE, .int nb, .int pl])), (aE, .inr (5, es)), (aR, .inr (2, [.ref aF, .ref rb, .int ra, .int re])), (aA, .inl (cB, 1000, .inl f)), (aO, .inr (3, [.ref aB, .int (nI k)])), (aB, .inl (cB, 4096, .inl g)), (aY, .inr (4, [.ref aM, .ref aN, .int (nI n), .int (nI k), .long v])), (aM, .inl (cB, 1000, .inl f)), (aN, .inl (cB, 1000, .inl g))]) [0, 1, 2, 3, 4, 5, 6, 8, 7, 9] (by decide) rfl
    generalize H1 = H at hP hS ⊢
    refine lv_icmp_eq (tgt := 323) hx hb dL_law_307 (by decide) (fun c_7 => ?_) (fun c_7 => ?_)
    · refine lv_iinc (v := nI (i + 6)) (lv' := [(3, .int (nI (i + 6))), (0, .ref b), (1, .ref aX), (2, .ref aY)]) hx hb dL_law_323 hl (k := 3) rfl (nI_add i 6) (by decide) rfl (fun ls hl => ?_)
      refine lv_goto (tgt := 18) hx hb dL_law_326 (by decide) ?_
      exact kx n k v f g es rb nb pl ra re H locs ls hn hk hBy hP hD hS (lv_sub hl [1, 2, 3, 0] rfl)
    · exact absurd (hw1.trans hw.symm) c_7
  · refine lv_aload_n hx hb dL_law_289 rfl (lv_at hl 1 rfl) ?_
    refine lv_aload_n hx hb dL_law_290 rfl (lv_at hl 0 rfl) ?_
    refine lv_iload_n hx hb dL_law_291 rfl (lv_at hl 3 rfl) ?_
    refine lv_iconst (v := 1) hx hb dL_law_292 (by decide) ?_
    refine lv_iadd hx hb dL_law_293 ?_
    refine lv_topi (fun z_1 ez_1 => ?_)
    rw [show z_1 = nI (i + 1) from by rw [ez_1]; exact nI_add i 1]
    refine va_sld hx hb hX hbl hbA hS (i := (nI (i + 1))) (vp_in_nI (by omega) (by omega)) dL_law_294 ?_
    refine lv_topi (fun z_2 ez_2 => ?_)
    rw [show z_2 = nI j from by rw [ez_2]; rw [nI_clamp (by omega)]; exact ej]
    have hPc := hP.sub (ws' := [(aX, .inr (0, [.ref aF, .ref aR, .ref aO, .ref aA, .int (nI n), .long v])), (aO, .inr (3, [.ref aB, .int (nI k)])), (aB, .inl (cB, 4096, .inl g))]) [0, 5, 6] rfl
    have hDc := hD.sub (ws' := [(aX, .inr (0, [.ref aF, .ref aR, .ref aO, .ref aA, .int (nI n), .long v])), (aO, .inr (3, [.ref aB, .int (nI k)])), (aB, .inl (cB, 4096, .inl g))]) [0, 5, 6] (by decide) rfl
    have hFc := va_free (wc := [(aX, .inr (0, [.ref aF, .ref aR, .ref aO, .ref aA, .int (nI n), .long v])), (aO, .inr (3, [.ref aB, .int (nI k)])), (aB, .inl (cB, 4096, .inl g))]) hD hS hA [0, 5, 6] rfl
    refine va_calli (va_runV (As := [.int (nI j)]) (rest := []) ⟨hx, hb, hml, hown, hts⟩ (m_G_at l dC dI cB aX aF aR aO aA aB n k j v g _ hj hk) (cwV 1 hts (lw_V q237 q238 q239 q4 q240) rfl rfl rfl (by decide +kernel) ⟨Nat.le_trans (Nat.le_of_ble_eq_true rfl) hRf, Nat.le_trans (Nat.le_of_ble_eq_true rfl) hRl⟩) ⟨gC_bl, va_recv hK hPc (ci := 0) (q0 := 0) rfl rfl, gC_of hPc hK hDc⟩ rfl rfl hl.1 rfl (lv_room (Nat.le_of_ble_eq_true rfl)) dL_law_295 ⟨hRc, hRs⟩) hS (fun q _ h => hFc q h) hFc (fun r_3 u t H1 locs ht hvm hw hB hz1 hk1 hS => ?_)
    obtain ⟨hP1, hD1⟩ := hB
    rw [ht] at hP1
    obtain ⟨hP, hD⟩ := va_join (wr := [(aF, .inr (1, [.ref aE, .int nb, .int pl])), (aE, .inr (5, es)), (aR, .inr (2, [.ref aF, .ref rb, .int ra, .int re])), (aA, .inl (cB, 1000, .inl f)), (aY, .inr (4, [.ref aM, .ref aN, .int (nI n), .int (nI k), .long v])), (aM, .inl (cB, 1000, .inl f)), (aN, .inl (cB, 1000, .inl g))]) (w1 := [(aX, .inr (0, [.ref aF, .ref aR, .ref aO, .ref aA, .int (nI n), .long v])), (aO, .inr (3, [.ref aB, .int (nI k)])), (aB, .inl (cB, 4096, .inl g))]) hP hD [0, 5, 6] [1, 2, 3, 4, 7, 8, 9] rfl rfl (by decide) (by decide) hk1 hFc hP1 hD1
    have hP := hP.sub (ws' := [(aX, .inr (0, [.ref aF, .ref aR, .ref aO, .ref aA, .int (nI n), .long v])), (aF, .inr (1, [.ref aE, .int nb, .int pl])), (aE, .inr (5, es)), (aR, .inr (2, [.ref aF, .ref rb, .int ra, .int re])), (aA, .inl (cB, 1000, .inl f)), (aO, .inr (3, [.ref aB, .int (nI k)])), (aB, .inl (cB, 4096, .inl g)), (aY, .inr (4, [.ref aM, .ref aN, .int (nI n), .int (nI k), .long v])), (aM, .inl (cB, 1000, .inl f)), (aN, .inl (cB, 1000, .inl g))]) [7, 0, 1, 2, 3, 8, 9, 4, 5, 6] rfl
    have hD := hD.sub (ws' := [(aX, .inr (0, [.ref aF, .ref aR, .ref aO, .ref aA, .int (nI n), .long v])), (aF, .inr (1, [.ref aE, .int nb, .int pl])), (aE, .inr (5, es)), (aR, .inr (2, [.ref aF, .ref rb, .int ra, .int re])), (aA, .inl (cB, 1000, .inl f)), (aO, .inr (3, [.ref aB, .int (nI k)])), (aB, .inl (cB, 4096, .inl g)), (aY, .inr (4, [.ref aM, .ref aN, .int (nI n), .int (nI k), .long v])), (aM, .inl (cB, 1000, .inl f)), (aN, .inl (cB, 1000, .inl g))]) [7, 0, 1, 2, 3, 8, 9, 4, 5, 6] (by decide) rfl
    generalize H1 = H at hP hS ⊢
    have hw1 := hw
    refine lv_aload_n hx hb dL_law_298 rfl (lv_at hl 2 rfl) ?_
    refine lv_aload_n hx hb dL_law_299 rfl (lv_at hl 0 rfl) ?_
    refine lv_iload_n hx hb dL_law_300 rfl (lv_at hl 3 rfl) ?_
    refine lv_iconst (v := 1) hx hb dL_law_301 (by decide) ?_
    refine lv_iadd hx hb dL_law_302 ?_
    refine lv_topi (fun z_4 ez_4 => ?_)
    rw [show z_4 = nI (i + 1) from by rw [ez_4]; exact nI_add i 1]
    refine va_sld hx hb hX hbl hbA hS (i := (nI (i + 1))) (vp_in_nI (by omega) (by omega)) dL_law_303 ?_
    refine lv_topi (fun z_5 ez_5 => ?_)
    rw [show z_5 = nI j from by rw [ez_5]; rw [nI_clamp (by omega)]; exact ej]
    have hPc := hP.sub (ws' := [(aY, .inr (4, [.ref aM, .ref aN, .int (nI n), .int (nI k), .long v])), (aN, .inl (cB, 1000, .inl g))]) [7, 9] rfl
    have hDc := hD.sub (ws' := [(aY, .inr (4, [.ref aM, .ref aN, .int (nI n), .int (nI k), .long v])), (aN, .inl (cB, 1000, .inl g))]) [7, 9] (by decide) rfl
    have hFc := va_free (wc := [(aY, .inr (4, [.ref aM, .ref aN, .int (nI n), .int (nI k), .long v])), (aN, .inl (cB, 1000, .inl g))]) hD hS hA [7, 9] rfl
    refine va_calli (va_runV (As := [.int (nI j)]) (rest := [.int r_3]) ⟨hx, hb, hml, hown, hts⟩ (m_M_at l dC dI cB aY aM aN n k j v g _ hj hk) (cwV 1 hts (lw_V q307 q308 q309 q12 q310) rfl rfl rfl (by decide +kernel) ⟨Nat.le_trans (Nat.le_of_ble_eq_true rfl) hRf, Nat.le_trans (Nat.le_of_ble_eq_true rfl) hRl⟩) ⟨gC_bl, va_recv hK hPc (ci := 4) (q0 := 0) rfl rfl, gC_of hPc hK hDc⟩ rfl rfl hl.1 rfl (lv_room (Nat.le_of_ble_eq_true rfl)) dL_law_304 ⟨hRc, hRs⟩) hS (fun q _ h => hFc q h) hFc (fun r_6 u t H1 locs ht hvm hw hB hz1 hk1 hS => ?_)
    obtain ⟨hP1, hD1⟩ := hB
    rw [ht] at hP1
    obtain ⟨hP, hD⟩ := va_join (wr := [(aX, .inr (0, [.ref aF, .ref aR, .ref aO, .ref aA, .int (nI n), .long v])), (aF, .inr (1, [.ref aE, .int nb, .int pl])), (aE, .inr (5, es)), (aR, .inr (2, [.ref aF, .ref rb, .int ra, .int re])), (aA, .inl (cB, 1000, .inl f)), (aO, .inr (3, [.ref aB, .int (nI k)])), (aB, .inl (cB, 4096, .inl g)), (aM, .inl (cB, 1000, .inl f))]) (w1 := [(aY, .inr (4, [.ref aM, .ref aN, .int (nI n), .int (nI k), .long v])), (aN, .inl (cB, 1000, .inl g))]) hP hD [7, 9] [0, 1, 2, 3, 4, 5, 6, 8] rfl rfl (by decide) (by decide) hk1 hFc hP1 hD1
    have hP := hP.sub (ws' := [(aX, .inr (0, [.ref aF, .ref aR, .ref aO, .ref aA, .int (nI n), .long v])), (aF, .inr (1, [.ref aE, .int nb, .int pl])), (aE, .inr (5, es)), (aR, .inr (2, [.ref aF, .ref rb, .int ra, .int re])), (aA, .inl (cB, 1000, .inl f)), (aO, .inr (3, [.ref aB, .int (nI k)])), (aB, .inl (cB, 4096, .inl g)), (aY, .inr (4, [.ref aM, .ref aN, .int (nI n), .int (nI k), .long v])), (aM, .inl (cB, 1000, .inl f)), (aN, .inl (cB, 1000, .inl g))]) [0, 1, 2, 3, 4, 5, 6, 8, 7, 9] rfl
    have hD := hD.sub (ws' := [(aX, .inr (0, [.ref aF, .ref aR, .ref aO, .ref aA, .int (nI n), .long v])), (aF, .inr (1, [.ref aE, .int nb, .int pl])), (aE, .inr (5, es)), (aR, .inr (2, [.ref aF, .ref rb, .int ra, .int re])), (aA, .inl (cB, 1000, .inl f)), (aO, .inr (3, [.ref aB, .int (nI k)])), (aB, .inl (cB, 4096, .inl g)), (aY, .inr (4, [.ref aM, .ref aN, .int (nI n), .int (nI k), .long v])), (aM, .inl (cB, 1000, .inl f)), (aN, .inl (cB, 1000, .inl g))]) [0, 1, 2, 3, 4, 5, 6, 8, 7, 9] (by decide) rfl
    generalize H1 = H at hP hS ⊢
    refine lv_icmp_eq (tgt := 323) hx hb dL_law_307 (by decide) (fun c_7 => ?_) (fun c_7 => ?_)
    · refine lv_iinc (v := nI (i + 6)) (lv' := [(3, .int (nI (i + 6))), (0, .ref b), (1, .ref aX), (2, .ref aY)]) hx hb dL_law_323 hl (k := 3) rfl (nI_add i 6) (by decide) rfl (fun ls hl => ?_)
      refine lv_goto (tgt := 18) hx hb dL_law_326 (by decide) ?_
      exact kx n k v f g es rb nb pl ra re H locs ls hn hk hBy hP hD hS (lv_sub hl [1, 2, 3, 0] rfl)
    · exact absurd (hw1.trans hw.symm) c_7
set_option maxHeartbeats 4000000 in
/-- clear -/
theorem lw_clear {p : Program} {l : Launch} {e : Env} {R : Room} {s : State} {m : MethodId} {args : Array Value} {below : List Frame} {meth : Method} {c : Code} {Q : State → Prop} {dC : Nat → ClassId} {dI : Nat → Nat → Nat} {cB : ClassId} {A : Nat → Prop} {cells slots : Nat} (hx : p.tables.exec = Jvm.exec) (hb : c.code = cL_law) (hml : c.maxLocals = 4) (hown : s.vm.findClass R_law = some m.cls) (hts : ∀ w ∈ lw_all, w.before args s = true) (hA : ∀ q : Nat, s.heap.size ≤ q → A q) (hK : va_K (dC, dI) vwCl [(cB, .byte)] s) (hRf : 5 ≤ R.frames) (hRl : 113 ≤ R.locals) (hRc : cells ≤ R.cells) (hRs : slots ≤ R.slots) {b L : Nat} {xs : Nat → Int32} (hX : va_X b L xs s s.heap) (hbl : b < s.heap.size) (hbA : ¬ A b) (hL : L ≤ 384) (i : Nat) (hi : i + 6 ≤ L) (aX aF aR aO aA aE aB aY aM aN : Nat)
    (kx : ∀ (n k : Nat) (v : Int64) (f g : Nat → Int32) (es : List Value) (rb : Nat) (nb pl ra re : Int32) (H : Heap) (locs : List Loc) (ls : Array Slot), n ≤ 1000 → k ≤ 1000 → gp_By f → va_P (dC, dI) vwCl [(aX, .inr (0, [.ref aF, .ref aR, .ref aO, .ref aA, .int (nI n), .long v])), (aF, .inr (1, [.ref aE, .int nb, .int pl])), (aE, .inr (5, es)), (aR, .inr (2, [.ref aF, .ref rb, .int ra, .int re])), (aA, .inl (cB, 1000, .inl f)), (aO, .inr (3, [.ref aB, .int (nI k)])), (aB, .inl (cB, 4096, .inl g)), (aY, .inr (4, [.ref aM, .ref aN, .int (nI n), .int (nI k), .long v])), (aM, .inl (cB, 1000, .inl f)), (aN, .inl (cB, 1000, .inl g))] H → va_D A [(aX, .inr (0, [.ref aF, .ref aR, .ref aO, .ref aA, .int (nI n), .long v])), (aF, .inr (1, [.ref aE, .int nb, .int pl])), (aE, .inr (5, es)), (aR, .inr (2, [.ref aF, .ref rb, .int ra, .int re])), (aA, .inl (cB, 1000, .inl f)), (aO, .inr (3, [.ref aB, .int (nI k)])), (aB, .inl (cB, 4096, .inl g)), (aY, .inr (4, [.ref aM, .ref aN, .int (nI n), .int (nI k), .long v])), (aM, .inl (cB, 1000, .inl f)), (aN, .inl (cB, 1000, .inl g))] → va_S A s.heap H locs → lv_has ls 4 [(0, .ref b), (1, .ref aX), (2, .ref aY), (3, .int (nI (i + 6)))] → W p l e R s m args below meth c H locs cells slots Q (F0 m 18 ls [])) :
    ∀ (n k : Nat) (v : Int64) (f g : Nat → Int32) (es : List Value) (rb : Nat) (nb pl ra re : Int32) (H : Heap) (locs : List Loc) (ls : Array Slot), n ≤ 1000 → k ≤ 1000 → gp_By f → va_P (dC, dI) vwCl [(aX, .inr (0, [.ref aF, .ref aR, .ref aO, .ref aA, .int (nI n), .long v])), (aF, .inr (1, [.ref aE, .int nb, .int pl])), (aE, .inr (5, es)), (aR, .inr (2, [.ref aF, .ref rb, .int ra, .int re])), (aA, .inl (cB, 1000, .inl f)), (aO, .inr (3, [.ref aB, .int (nI k)])), (aB, .inl (cB, 4096, .inl g)), (aY, .inr (4, [.ref aM, .ref aN, .int (nI n), .int (nI k), .long v])), (aM, .inl (cB, 1000, .inl f)), (aN, .inl (cB, 1000, .inl g))] H → va_D A [(aX, .inr (0, [.ref aF, .ref aR, .ref aO, .ref aA, .int (nI n), .long v])), (aF, .inr (1, [.ref aE, .int nb, .int pl])), (aE, .inr (5, es)), (aR, .inr (2, [.ref aF, .ref rb, .int ra, .int re])), (aA, .inl (cB, 1000, .inl f)), (aO, .inr (3, [.ref aB, .int (nI k)])), (aB, .inl (cB, 4096, .inl g)), (aY, .inr (4, [.ref aM, .ref aN, .int (nI n), .int (nI k), .long v])), (aM, .inl (cB, 1000, .inl f)), (aN, .inl (cB, 1000, .inl g))] → va_S A s.heap H locs → lv_has ls 4 [(0, .ref b), (1, .ref aX), (2, .ref aY), (3, .int (nI i))] → W p l e R s m args below meth c H locs cells slots Q (F0 m 312 ls []) := by
  intro n k v f g es rb nb pl ra re H locs ls hn hk hBy hP hD hS hl
  refine lv_aload_n hx hb dL_law_312 rfl (lv_at hl 1 rfl) ?_
  have hPc := hP.sub (ws' := [(aX, .inr (0, [.ref aF, .ref aR, .ref aO, .ref aA, .int (nI n), .long v])), (aO, .inr (3, [.ref aB, .int (nI k)]))]) [0, 5] rfl
  have hDc := hD.sub (ws' := [(aX, .inr (0, [.ref aF, .ref aR, .ref aO, .ref aA, .int (nI n), .long v])), (aO, .inr (3, [.ref aB, .int (nI k)]))]) [0, 5] (by decide) rfl
  have hFc := va_free (wc := [(aX, .inr (0, [.ref aF, .ref aR, .ref aO, .ref aA, .int (nI n), .long v])), (aO, .inr (3, [.ref aB, .int (nI k)]))]) hD hS hA [0, 5] rfl
  refine va_callv (va_runV (As := []) (rest := []) ⟨hx, hb, hml, hown, hts⟩ (m_G_clear l dC dI cB aX aF aR aO aA aB n k v _) (cwV 0 hts (lw_V q241 q242 q243 q4 q244) rfl rfl rfl (by decide +kernel) ⟨Nat.le_trans (Nat.le_of_ble_eq_true rfl) hRf, Nat.le_trans (Nat.le_of_ble_eq_true rfl) hRl⟩) ⟨gC_bl, va_recv hK hPc (ci := 0) (q0 := 0) rfl rfl, gC_of hPc hK hDc⟩ rfl rfl hl.1 rfl (lv_room (Nat.le_of_ble_eq_true rfl)) dL_law_313 ⟨hRc, hRs⟩) hS (fun q _ h => hFc q h) hFc (fun u t H1 locs ht hvm hw hB hz1 hk1 hS => ?_)
  obtain ⟨hP1, hD1⟩ := hB
  rw [ht] at hP1
  obtain ⟨hP, hD⟩ := va_join (wr := [(aF, .inr (1, [.ref aE, .int nb, .int pl])), (aE, .inr (5, es)), (aR, .inr (2, [.ref aF, .ref rb, .int ra, .int re])), (aA, .inl (cB, 1000, .inl f)), (aB, .inl (cB, 4096, .inl g)), (aY, .inr (4, [.ref aM, .ref aN, .int (nI n), .int (nI k), .long v])), (aM, .inl (cB, 1000, .inl f)), (aN, .inl (cB, 1000, .inl g))]) (w1 := [(aX, .inr (0, [.ref aF, .ref aR, .ref aO, .ref aA, .int (nI 0), .long v])), (aO, .inr (3, [.ref aB, .int (nI 0)]))]) hP hD [0, 5] [1, 2, 3, 4, 6, 7, 8, 9] rfl rfl (by decide) (by decide) hk1 hFc hP1 hD1
  have hP := hP.sub (ws' := [(aX, .inr (0, [.ref aF, .ref aR, .ref aO, .ref aA, .int (nI 0), .long v])), (aF, .inr (1, [.ref aE, .int nb, .int pl])), (aE, .inr (5, es)), (aR, .inr (2, [.ref aF, .ref rb, .int ra, .int re])), (aA, .inl (cB, 1000, .inl f)), (aO, .inr (3, [.ref aB, .int (nI 0)])), (aB, .inl (cB, 4096, .inl g)), (aY, .inr (4, [.ref aM, .ref aN, .int (nI n), .int (nI k), .long v])), (aM, .inl (cB, 1000, .inl f)), (aN, .inl (cB, 1000, .inl g))]) [8, 0, 1, 2, 3, 9, 4, 5, 6, 7] rfl
  have hD := hD.sub (ws' := [(aX, .inr (0, [.ref aF, .ref aR, .ref aO, .ref aA, .int (nI 0), .long v])), (aF, .inr (1, [.ref aE, .int nb, .int pl])), (aE, .inr (5, es)), (aR, .inr (2, [.ref aF, .ref rb, .int ra, .int re])), (aA, .inl (cB, 1000, .inl f)), (aO, .inr (3, [.ref aB, .int (nI 0)])), (aB, .inl (cB, 4096, .inl g)), (aY, .inr (4, [.ref aM, .ref aN, .int (nI n), .int (nI k), .long v])), (aM, .inl (cB, 1000, .inl f)), (aN, .inl (cB, 1000, .inl g))]) [8, 0, 1, 2, 3, 9, 4, 5, 6, 7] (by decide) rfl
  generalize H1 = H at hP hS ⊢
  refine lv_aload_n hx hb dL_law_316 rfl (lv_at hl 2 rfl) ?_
  have hPc := hP.sub (ws' := [(aY, .inr (4, [.ref aM, .ref aN, .int (nI n), .int (nI k), .long v]))]) [7] rfl
  have hDc := hD.sub (ws' := [(aY, .inr (4, [.ref aM, .ref aN, .int (nI n), .int (nI k), .long v]))]) [7] (by decide) rfl
  have hFc := va_free (wc := [(aY, .inr (4, [.ref aM, .ref aN, .int (nI n), .int (nI k), .long v]))]) hD hS hA [7] rfl
  refine va_callv (va_runV (As := []) (rest := []) ⟨hx, hb, hml, hown, hts⟩ (m_M_clear l dC dI cB aY aM aN n k v _) (cwV 0 hts (lw_V q311 q312 q313 q12 q314) rfl rfl rfl (by decide +kernel) ⟨Nat.le_trans (Nat.le_of_ble_eq_true rfl) hRf, Nat.le_trans (Nat.le_of_ble_eq_true rfl) hRl⟩) ⟨gC_bl, va_recv hK hPc (ci := 4) (q0 := 0) rfl rfl, gC_of hPc hK hDc⟩ rfl rfl hl.1 rfl (lv_room (Nat.le_of_ble_eq_true rfl)) dL_law_317 ⟨hRc, hRs⟩) hS (fun q _ h => hFc q h) hFc (fun u t H1 locs ht hvm hw hB hz1 hk1 hS => ?_)
  obtain ⟨hP1, hD1⟩ := hB
  rw [ht] at hP1
  obtain ⟨hP, hD⟩ := va_join (wr := [(aX, .inr (0, [.ref aF, .ref aR, .ref aO, .ref aA, .int (nI 0), .long v])), (aF, .inr (1, [.ref aE, .int nb, .int pl])), (aE, .inr (5, es)), (aR, .inr (2, [.ref aF, .ref rb, .int ra, .int re])), (aA, .inl (cB, 1000, .inl f)), (aO, .inr (3, [.ref aB, .int (nI 0)])), (aB, .inl (cB, 4096, .inl g)), (aM, .inl (cB, 1000, .inl f)), (aN, .inl (cB, 1000, .inl g))]) (w1 := [(aY, .inr (4, [.ref aM, .ref aN, .int (nI 0), .int (nI 0), .long v]))]) hP hD [7] [0, 1, 2, 3, 4, 5, 6, 8, 9] rfl rfl (by decide) (by decide) hk1 hFc hP1 hD1
  have hP := hP.sub (ws' := [(aX, .inr (0, [.ref aF, .ref aR, .ref aO, .ref aA, .int (nI 0), .long v])), (aF, .inr (1, [.ref aE, .int nb, .int pl])), (aE, .inr (5, es)), (aR, .inr (2, [.ref aF, .ref rb, .int ra, .int re])), (aA, .inl (cB, 1000, .inl f)), (aO, .inr (3, [.ref aB, .int (nI 0)])), (aB, .inl (cB, 4096, .inl g)), (aY, .inr (4, [.ref aM, .ref aN, .int (nI 0), .int (nI 0), .long v])), (aM, .inl (cB, 1000, .inl f)), (aN, .inl (cB, 1000, .inl g))]) [0, 1, 2, 3, 4, 5, 6, 9, 7, 8] rfl
  have hD := hD.sub (ws' := [(aX, .inr (0, [.ref aF, .ref aR, .ref aO, .ref aA, .int (nI 0), .long v])), (aF, .inr (1, [.ref aE, .int nb, .int pl])), (aE, .inr (5, es)), (aR, .inr (2, [.ref aF, .ref rb, .int ra, .int re])), (aA, .inl (cB, 1000, .inl f)), (aO, .inr (3, [.ref aB, .int (nI 0)])), (aB, .inl (cB, 4096, .inl g)), (aY, .inr (4, [.ref aM, .ref aN, .int (nI 0), .int (nI 0), .long v])), (aM, .inl (cB, 1000, .inl f)), (aN, .inl (cB, 1000, .inl g))]) [0, 1, 2, 3, 4, 5, 6, 9, 7, 8] (by decide) rfl
  generalize H1 = H at hP hS ⊢
  refine lv_goto (tgt := 323) hx hb dL_law_320 (by decide) ?_
  refine lv_iinc (v := nI (i + 6)) (lv' := [(3, .int (nI (i + 6))), (0, .ref b), (1, .ref aX), (2, .ref aY)]) hx hb dL_law_323 hl (k := 3) rfl (nI_add i 6) (by decide) rfl (fun ls hl => ?_)
  refine lv_goto (tgt := 18) hx hb dL_law_326 (by decide) ?_
  exact kx 0 0 v f g es rb nb pl ra re H locs ls (by decide) (by decide) hBy hP hD hS (lv_sub hl [1, 2, 3, 0] rfl)
end
section
set_option maxRecDepth 100000
set_option maxHeartbeats 4000000 in
/-- write -/
theorem lw_write {p : Program} {l : Launch} {e : Env} {R : Room} {s : State} {m : MethodId} {args : Array Value} {below : List Frame} {meth : Method} {c : Code} {Q : State → Prop} {dC : Nat → ClassId} {dI : Nat → Nat → Nat} {cB : ClassId} {A : Nat → Prop} {cells slots : Nat} (hx : p.tables.exec = Jvm.exec) (hb : c.code = cL_law) (hml : c.maxLocals = 4) (hown : s.vm.findClass R_law = some m.cls) (hts : ∀ w ∈ lw_all, w.before args s = true) (hA : ∀ q : Nat, s.heap.size ≤ q → A q) (hK : va_K (dC, dI) vwCl [(cB, .byte)] s) (hRf : 5 ≤ R.frames) (hRl : 113 ≤ R.locals) (hRc : cells ≤ R.cells) (hRs : slots ≤ R.slots) {b L : Nat} {xs : Nat → Int32} (hX : va_X b L xs s s.heap) (hbl : b < s.heap.size) (hbA : ¬ A b) (hL : L ≤ 384) (i : Nat) (hi : i + 6 ≤ L) (aX aF aR aO aA aE aB aY aM aN : Nat)
    (kx : ∀ (n k : Nat) (v : Int64) (f g : Nat → Int32) (es : List Value) (rb : Nat) (nb pl ra re : Int32) (H : Heap) (locs : List Loc) (ls : Array Slot), n ≤ 1000 → k ≤ 1000 → gp_By f → va_P (dC, dI) vwCl [(aX, .inr (0, [.ref aF, .ref aR, .ref aO, .ref aA, .int (nI n), .long v])), (aF, .inr (1, [.ref aE, .int nb, .int pl])), (aE, .inr (5, es)), (aR, .inr (2, [.ref aF, .ref rb, .int ra, .int re])), (aA, .inl (cB, 1000, .inl f)), (aO, .inr (3, [.ref aB, .int (nI k)])), (aB, .inl (cB, 4096, .inl g)), (aY, .inr (4, [.ref aM, .ref aN, .int (nI n), .int (nI k), .long v])), (aM, .inl (cB, 1000, .inl f)), (aN, .inl (cB, 1000, .inl g))] H → va_D A [(aX, .inr (0, [.ref aF, .ref aR, .ref aO, .ref aA, .int (nI n), .long v])), (aF, .inr (1, [.ref aE, .int nb, .int pl])), (aE, .inr (5, es)), (aR, .inr (2, [.ref aF, .ref rb, .int ra, .int re])), (aA, .inl (cB, 1000, .inl f)), (aO, .inr (3, [.ref aB, .int (nI k)])), (aB, .inl (cB, 4096, .inl g)), (aY, .inr (4, [.ref aM, .ref aN, .int (nI n), .int (nI k), .long v])), (aM, .inl (cB, 1000, .inl f)), (aN, .inl (cB, 1000, .inl g))] → va_S A s.heap H locs → lv_has ls 4 [(0, .ref b), (1, .ref aX), (2, .ref aY), (3, .int (nI (i + 6)))] → W p l e R s m args below meth c H locs cells slots Q (F0 m 18 ls [])) :
    ∀ (n k : Nat) (v : Int64) (f g : Nat → Int32) (es : List Value) (rb : Nat) (nb pl ra re : Int32) (H : Heap) (locs : List Loc) (ls : Array Slot), n ≤ 1000 → k ≤ 1000 → gp_By f → va_P (dC, dI) vwCl [(aX, .inr (0, [.ref aF, .ref aR, .ref aO, .ref aA, .int (nI n), .long v])), (aF, .inr (1, [.ref aE, .int nb, .int pl])), (aE, .inr (5, es)), (aR, .inr (2, [.ref aF, .ref rb, .int ra, .int re])), (aA, .inl (cB, 1000, .inl f)), (aO, .inr (3, [.ref aB, .int (nI k)])), (aB, .inl (cB, 4096, .inl g)), (aY, .inr (4, [.ref aM, .ref aN, .int (nI n), .int (nI k), .long v])), (aM, .inl (cB, 1000, .inl f)), (aN, .inl (cB, 1000, .inl g))] H → va_D A [(aX, .inr (0, [.ref aF, .ref aR, .ref aO, .ref aA, .int (nI n), .long v])), (aF, .inr (1, [.ref aE, .int nb, .int pl])), (aE, .inr (5, es)), (aR, .inr (2, [.ref aF, .ref rb, .int ra, .int re])), (aA, .inl (cB, 1000, .inl f)), (aO, .inr (3, [.ref aB, .int (nI k)])), (aB, .inl (cB, 4096, .inl g)), (aY, .inr (4, [.ref aM, .ref aN, .int (nI n), .int (nI k), .long v])), (aM, .inl (cB, 1000, .inl f)), (aN, .inl (cB, 1000, .inl g))] → va_S A s.heap H locs → lv_has ls 4 [(0, .ref b), (1, .ref aX), (2, .ref aY), (3, .int (nI i))] → W p l e R s m args below meth c H locs cells slots Q (F0 m 213 ls []) := by
  intro n k v f g es rb nb pl ra re H locs ls hn hk hBy hP hD hS hl
  rcases gp_ix (xs (i + 1)) (n := 2) (by omega) with hc | ⟨hh, hh2, ej⟩
  · refine lv_aload_n hx hb dL_law_213 rfl (lv_at hl 1 rfl) ?_
    refine lv_aload_n hx hb dL_law_214 rfl (lv_at hl 0 rfl) ?_
    refine lv_iload_n hx hb dL_law_215 rfl (lv_at hl 3 rfl) ?_
    refine lv_iconst (v := 1) hx hb dL_law_216 (by decide) ?_
    refine lv_iadd hx hb dL_law_217 ?_
    refine lv_topi (fun z_1 ez_1 => ?_)
    rw [show z_1 = nI (i + 1) from by rw [ez_1]; exact nI_add i 1]
    refine va_sld hx hb hX hbl hbA hS (i := (nI (i + 1))) (vp_in_nI (by omega) (by omega)) dL_law_218 ?_
    refine lv_topi (fun z_2 ez_2 => ?_)
    rw [show z_2 = xs (i + 1) from by rw [ez_2]; rw [nI_clamp (by omega)]]
    refine lv_aload_n hx hb dL_law_219 rfl (lv_at hl 0 rfl) ?_
    refine lv_iload_n hx hb dL_law_220 rfl (lv_at hl 3 rfl) ?_
    refine lv_iconst (v := 2) hx hb dL_law_221 (by decide) ?_
    refine lv_iadd hx hb dL_law_222 ?_
    refine lv_topi (fun z_3 ez_3 => ?_)
    rw [show z_3 = nI (i + 2) from by rw [ez_3]; exact nI_add i 2]
    refine va_sld hx hb hX hbl hbA hS (i := (nI (i + 2))) (vp_in_nI (by omega) (by omega)) dL_law_223 ?_
    refine lv_topi (fun z_4 ez_4 => ?_)
    rw [show z_4 = xs (i + 2) from by rw [ez_4]; rw [nI_clamp (by omega)]]
    refine lv_i2l (v := ((xs (i + 2))).toInt64) hx hb dL_law_224 rfl ?_
    refine lv_bipush (v := 32) hx hb dL_law_225 (by decide) ?_
    refine lv_lshl (v := ((((xs (i + 2))).toInt64) <<< (((32 : Int32)).toInt64 &&& 63))) hx hb dL_law_227 rfl ?_
    refine lv_aload_n hx hb dL_law_228 rfl (lv_at hl 0 rfl) ?_
    refine lv_iload_n hx hb dL_law_229 rfl (lv_at hl 3 rfl) ?_
    refine lv_iconst (v := 3) hx hb dL_law_230 (by decide) ?_
    refine lv_iadd hx hb dL_law_231 ?_
    refine lv_topi (fun z_5 ez_5 => ?_)
    rw [show z_5 = nI (i + 3) from by rw [ez_5]; exact nI_add i 3]
    refine va_sld hx hb hX hbl hbA hS (i := (nI (i + 3))) (vp_in_nI (by omega) (by omega)) dL_law_232 ?_
    refine lv_topi (fun z_6 ez_6 => ?_)
    rw [show z_6 = xs (i + 3) from by rw [ez_6]; rw [nI_clamp (by omega)]]
    refine lv_i2l (v := ((xs (i + 3))).toInt64) hx hb dL_law_233 rfl ?_
    refine lv_ldc2 (v := 4294967295) hx hb hown (hts _ q315) dL_law_234 ?_
    refine lv_land hx hb dL_law_237 ?_
    refine lv_lor hx hb dL_law_238 ?_
    refine lv_topl (fun z_7 ez_7 => ?_)
    rw [show z_7 = gl_long (xs (i + 2)) (xs (i + 3)) from by rw [ez_7]; rfl]
    have hPc := hP.sub (ws' := [(aX, .inr (0, [.ref aF, .ref aR, .ref aO, .ref aA, .int (nI n), .long v])), (aO, .inr (3, [.ref aB, .int (nI k)])), (aB, .inl (cB, 4096, .inl g))]) [0, 5, 6] rfl
    have hDc := hD.sub (ws' := [(aX, .inr (0, [.ref aF, .ref aR, .ref aO, .ref aA, .int (nI n), .long v])), (aO, .inr (3, [.ref aB, .int (nI k)])), (aB, .inl (cB, 4096, .inl g))]) [0, 5, 6] (by decide) rfl
    have hFc := va_free (wc := [(aX, .inr (0, [.ref aF, .ref aR, .ref aO, .ref aA, .int (nI n), .long v])), (aO, .inr (3, [.ref aB, .int (nI k)])), (aB, .inl (cB, 4096, .inl g))]) hD hS hA [0, 5, 6] rfl
    refine va_calli (va_runV (As := [.int (xs (i + 1)), .long (gl_long (xs (i + 2)) (xs (i + 3)))]) (rest := []) ⟨hx, hb, hml, hown, hts⟩ (m_G_writeN l dC dI cB aX aF aR aO aA aB n k v (gl_long (xs (i + 2)) (xs (i + 3))) g (xs (i + 1)) _ hc) (cwV 2 hts (lw_V q207 q208 q209 q4 q210) rfl rfl rfl (by decide +kernel) ⟨Nat.le_trans (Nat.le_of_ble_eq_true rfl) hRf, Nat.le_trans (Nat.le_of_ble_eq_true rfl) hRl⟩) ⟨gC_bl, va_recv hK hPc (ci := 0) (q0 := 0) rfl rfl, gC_of hPc hK hDc⟩ rfl rfl hl.1 rfl (lv_room (Nat.le_of_ble_eq_true rfl)) dL_law_239 ⟨hRc, hRs⟩) hS (fun q _ h => hFc q h) hFc (fun r_8 u t H1 locs ht hvm hw hB hz1 hk1 hS => ?_)
    obtain ⟨hP1, hD1⟩ := hB
    rw [ht] at hP1
    obtain ⟨hP, hD⟩ := va_join (wr := [(aF, .inr (1, [.ref aE, .int nb, .int pl])), (aE, .inr (5, es)), (aR, .inr (2, [.ref aF, .ref rb, .int ra, .int re])), (aA, .inl (cB, 1000, .inl f)), (aY, .inr (4, [.ref aM, .ref aN, .int (nI n), .int (nI k), .long v])), (aM, .inl (cB, 1000, .inl f)), (aN, .inl (cB, 1000, .inl g))]) (w1 := [(aX, .inr (0, [.ref aF, .ref aR, .ref aO, .ref aA, .int (nI n), .long v])), (aO, .inr (3, [.ref aB, .int (nI k)])), (aB, .inl (cB, 4096, .inl g))]) hP hD [0, 5, 6] [1, 2, 3, 4, 7, 8, 9] rfl rfl (by decide) (by decide) hk1 hFc hP1 hD1
    have hP := hP.sub (ws' := [(aX, .inr (0, [.ref aF, .ref aR, .ref aO, .ref aA, .int (nI n), .long v])), (aF, .inr (1, [.ref aE, .int nb, .int pl])), (aE, .inr (5, es)), (aR, .inr (2, [.ref aF, .ref rb, .int ra, .int re])), (aA, .inl (cB, 1000, .inl f)), (aO, .inr (3, [.ref aB, .int (nI k)])), (aB, .inl (cB, 4096, .inl g)), (aY, .inr (4, [.ref aM, .ref aN, .int (nI n), .int (nI k), .long v])), (aM, .inl (cB, 1000, .inl f)), (aN, .inl (cB, 1000, .inl g))]) [7, 0, 1, 2, 3, 8, 9, 4, 5, 6] rfl
    have hD := hD.sub (ws' := [(aX, .inr (0, [.ref aF, .ref aR, .ref aO, .ref aA, .int (nI n), .long v])), (aF, .inr (1, [.ref aE, .int nb, .int pl])), (aE, .inr (5, es)), (aR, .inr (2, [.ref aF, .ref rb, .int ra, .int re])), (aA, .inl (cB, 1000, .inl f)), (aO, .inr (3, [.ref aB, .int (nI k)])), (aB, .inl (cB, 4096, .inl g)), (aY, .inr (4, [.ref aM, .ref aN, .int (nI n), .int (nI k), .long v])), (aM, .inl (cB, 1000, .inl f)), (aN, .inl (cB, 1000, .inl g))]) [7, 0, 1, 2, 3, 8, 9, 4, 5, 6] (by decide) rfl
    generalize H1 = H at hP hS ⊢
    have hw1 := hw
    refine lv_aload_n hx hb dL_law_242 rfl (lv_at hl 2 rfl) ?_
    refine lv_aload_n hx hb dL_law_243 rfl (lv_at hl 0 rfl) ?_
    refine lv_iload_n hx hb dL_law_244 rfl (lv_at hl 3 rfl) ?_
    refine lv_iconst (v := 1) hx hb dL_law_245 (by decide) ?_
    refine lv_iadd hx hb dL_law_246 ?_
    refine lv_topi (fun z_9 ez_9 => ?_)
    rw [show z_9 = nI (i + 1) from by rw [ez_9]; exact nI_add i 1]
    refine va_sld hx hb hX hbl hbA hS (i := (nI (i + 1))) (vp_in_nI (by omega) (by omega)) dL_law_247 ?_
    refine lv_topi (fun z_10 ez_10 => ?_)
    rw [show z_10 = xs (i + 1) from by rw [ez_10]; rw [nI_clamp (by omega)]]
    refine lv_aload_n hx hb dL_law_248 rfl (lv_at hl 0 rfl) ?_
    refine lv_iload_n hx hb dL_law_249 rfl (lv_at hl 3 rfl) ?_
    refine lv_iconst (v := 2) hx hb dL_law_250 (by decide) ?_
    refine lv_iadd hx hb dL_law_251 ?_
    refine lv_topi (fun z_11 ez_11 => ?_)
    rw [show z_11 = nI (i + 2) from by rw [ez_11]; exact nI_add i 2]
    refine va_sld hx hb hX hbl hbA hS (i := (nI (i + 2))) (vp_in_nI (by omega) (by omega)) dL_law_252 ?_
    refine lv_topi (fun z_12 ez_12 => ?_)
    rw [show z_12 = xs (i + 2) from by rw [ez_12]; rw [nI_clamp (by omega)]]
    refine lv_i2l (v := ((xs (i + 2))).toInt64) hx hb dL_law_253 rfl ?_
    refine lv_bipush (v := 32) hx hb dL_law_254 (by decide) ?_
    refine lv_lshl (v := ((((xs (i + 2))).toInt64) <<< (((32 : Int32)).toInt64 &&& 63))) hx hb dL_law_256 rfl ?_
    refine lv_aload_n hx hb dL_law_257 rfl (lv_at hl 0 rfl) ?_
    refine lv_iload_n hx hb dL_law_258 rfl (lv_at hl 3 rfl) ?_
    refine lv_iconst (v := 3) hx hb dL_law_259 (by decide) ?_
    refine lv_iadd hx hb dL_law_260 ?_
    refine lv_topi (fun z_13 ez_13 => ?_)
    rw [show z_13 = nI (i + 3) from by rw [ez_13]; exact nI_add i 3]
    refine va_sld hx hb hX hbl hbA hS (i := (nI (i + 3))) (vp_in_nI (by omega) (by omega)) dL_law_261 ?_
    refine lv_topi (fun z_14 ez_14 => ?_)
    rw [show z_14 = xs (i + 3) from by rw [ez_14]; rw [nI_clamp (by omega)]]
    refine lv_i2l (v := ((xs (i + 3))).toInt64) hx hb dL_law_262 rfl ?_
    refine lv_ldc2 (v := 4294967295) hx hb hown (hts _ q315) dL_law_263 ?_
    refine lv_land hx hb dL_law_266 ?_
    refine lv_lor hx hb dL_law_267 ?_
    refine lv_topl (fun z_15 ez_15 => ?_)
    rw [show z_15 = gl_long (xs (i + 2)) (xs (i + 3)) from by rw [ez_15]; rfl]
    have hPc := hP.sub (ws' := [(aY, .inr (4, [.ref aM, .ref aN, .int (nI n), .int (nI k), .long v])), (aN, .inl (cB, 1000, .inl g))]) [7, 9] rfl
    have hDc := hD.sub (ws' := [(aY, .inr (4, [.ref aM, .ref aN, .int (nI n), .int (nI k), .long v])), (aN, .inl (cB, 1000, .inl g))]) [7, 9] (by decide) rfl
    have hFc := va_free (wc := [(aY, .inr (4, [.ref aM, .ref aN, .int (nI n), .int (nI k), .long v])), (aN, .inl (cB, 1000, .inl g))]) hD hS hA [7, 9] rfl
    refine va_calli (va_runV (As := [.int (xs (i + 1)), .long (gl_long (xs (i + 2)) (xs (i + 3)))]) (rest := [.int r_8]) ⟨hx, hb, hml, hown, hts⟩ (m_M_writeN l dC dI cB aY aM aN n k v (gl_long (xs (i + 2)) (xs (i + 3))) g (xs (i + 1)) _ hc) (cwV 2 hts (lw_V q292 q293 q294 q12 q295) rfl rfl rfl (by decide +kernel) ⟨Nat.le_trans (Nat.le_of_ble_eq_true rfl) hRf, Nat.le_trans (Nat.le_of_ble_eq_true rfl) hRl⟩) ⟨gC_bl, va_recv hK hPc (ci := 4) (q0 := 0) rfl rfl, gC_of hPc hK hDc⟩ rfl rfl hl.1 rfl (lv_room (Nat.le_of_ble_eq_true rfl)) dL_law_268 ⟨hRc, hRs⟩) hS (fun q _ h => hFc q h) hFc (fun r_16 u t H1 locs ht hvm hw hB hz1 hk1 hS => ?_)
    obtain ⟨hP1, hD1⟩ := hB
    rw [ht] at hP1
    obtain ⟨hP, hD⟩ := va_join (wr := [(aX, .inr (0, [.ref aF, .ref aR, .ref aO, .ref aA, .int (nI n), .long v])), (aF, .inr (1, [.ref aE, .int nb, .int pl])), (aE, .inr (5, es)), (aR, .inr (2, [.ref aF, .ref rb, .int ra, .int re])), (aA, .inl (cB, 1000, .inl f)), (aO, .inr (3, [.ref aB, .int (nI k)])), (aB, .inl (cB, 4096, .inl g)), (aM, .inl (cB, 1000, .inl f))]) (w1 := [(aY, .inr (4, [.ref aM, .ref aN, .int (nI n), .int (nI k), .long v])), (aN, .inl (cB, 1000, .inl g))]) hP hD [7, 9] [0, 1, 2, 3, 4, 5, 6, 8] rfl rfl (by decide) (by decide) hk1 hFc hP1 hD1
    have hP := hP.sub (ws' := [(aX, .inr (0, [.ref aF, .ref aR, .ref aO, .ref aA, .int (nI n), .long v])), (aF, .inr (1, [.ref aE, .int nb, .int pl])), (aE, .inr (5, es)), (aR, .inr (2, [.ref aF, .ref rb, .int ra, .int re])), (aA, .inl (cB, 1000, .inl f)), (aO, .inr (3, [.ref aB, .int (nI k)])), (aB, .inl (cB, 4096, .inl g)), (aY, .inr (4, [.ref aM, .ref aN, .int (nI n), .int (nI k), .long v])), (aM, .inl (cB, 1000, .inl f)), (aN, .inl (cB, 1000, .inl g))]) [0, 1, 2, 3, 4, 5, 6, 8, 7, 9] rfl
    have hD := hD.sub (ws' := [(aX, .inr (0, [.ref aF, .ref aR, .ref aO, .ref aA, .int (nI n), .long v])), (aF, .inr (1, [.ref aE, .int nb, .int pl])), (aE, .inr (5, es)), (aR, .inr (2, [.ref aF, .ref rb, .int ra, .int re])), (aA, .inl (cB, 1000, .inl f)), (aO, .inr (3, [.ref aB, .int (nI k)])), (aB, .inl (cB, 4096, .inl g)), (aY, .inr (4, [.ref aM, .ref aN, .int (nI n), .int (nI k), .long v])), (aM, .inl (cB, 1000, .inl f)), (aN, .inl (cB, 1000, .inl g))]) [0, 1, 2, 3, 4, 5, 6, 8, 7, 9] (by decide) rfl
    generalize H1 = H at hP hS ⊢
    refine lv_icmp_eq (tgt := 323) hx hb dL_law_271 (by decide) (fun c_17 => ?_) (fun c_17 => ?_)
    · refine lv_iinc (v := nI (i + 6)) (lv' := [(3, .int (nI (i + 6))), (0, .ref b), (1, .ref aX), (2, .ref aY)]) hx hb dL_law_323 hl (k := 3) rfl (nI_add i 6) (by decide) rfl (fun ls hl => ?_)
      refine lv_goto (tgt := 18) hx hb dL_law_326 (by decide) ?_
      exact kx n k v f g es rb nb pl ra re H locs ls hn hk hBy hP hD hS (lv_sub hl [1, 2, 3, 0] rfl)
    · exact absurd (hw1.trans hw.symm) c_17
  · by_cases hr0 : gp_rng hh (gl_long (xs (i + 2)) (xs (i + 3)))
    · refine lv_aload_n hx hb dL_law_213 rfl (lv_at hl 1 rfl) ?_
      refine lv_aload_n hx hb dL_law_214 rfl (lv_at hl 0 rfl) ?_
      refine lv_iload_n hx hb dL_law_215 rfl (lv_at hl 3 rfl) ?_
      refine lv_iconst (v := 1) hx hb dL_law_216 (by decide) ?_
      refine lv_iadd hx hb dL_law_217 ?_
      refine lv_topi (fun z_1 ez_1 => ?_)
      rw [show z_1 = nI (i + 1) from by rw [ez_1]; exact nI_add i 1]
      refine va_sld hx hb hX hbl hbA hS (i := (nI (i + 1))) (vp_in_nI (by omega) (by omega)) dL_law_218 ?_
      refine lv_topi (fun z_2 ez_2 => ?_)
      rw [show z_2 = nI hh from by rw [ez_2]; rw [nI_clamp (by omega)]; exact ej]
      refine lv_aload_n hx hb dL_law_219 rfl (lv_at hl 0 rfl) ?_
      refine lv_iload_n hx hb dL_law_220 rfl (lv_at hl 3 rfl) ?_
      refine lv_iconst (v := 2) hx hb dL_law_221 (by decide) ?_
      refine lv_iadd hx hb dL_law_222 ?_
      refine lv_topi (fun z_3 ez_3 => ?_)
      rw [show z_3 = nI (i + 2) from by rw [ez_3]; exact nI_add i 2]
      refine va_sld hx hb hX hbl hbA hS (i := (nI (i + 2))) (vp_in_nI (by omega) (by omega)) dL_law_223 ?_
      refine lv_topi (fun z_4 ez_4 => ?_)
      rw [show z_4 = xs (i + 2) from by rw [ez_4]; rw [nI_clamp (by omega)]]
      refine lv_i2l (v := ((xs (i + 2))).toInt64) hx hb dL_law_224 rfl ?_
      refine lv_bipush (v := 32) hx hb dL_law_225 (by decide) ?_
      refine lv_lshl (v := ((((xs (i + 2))).toInt64) <<< (((32 : Int32)).toInt64 &&& 63))) hx hb dL_law_227 rfl ?_
      refine lv_aload_n hx hb dL_law_228 rfl (lv_at hl 0 rfl) ?_
      refine lv_iload_n hx hb dL_law_229 rfl (lv_at hl 3 rfl) ?_
      refine lv_iconst (v := 3) hx hb dL_law_230 (by decide) ?_
      refine lv_iadd hx hb dL_law_231 ?_
      refine lv_topi (fun z_5 ez_5 => ?_)
      rw [show z_5 = nI (i + 3) from by rw [ez_5]; exact nI_add i 3]
      refine va_sld hx hb hX hbl hbA hS (i := (nI (i + 3))) (vp_in_nI (by omega) (by omega)) dL_law_232 ?_
      refine lv_topi (fun z_6 ez_6 => ?_)
      rw [show z_6 = xs (i + 3) from by rw [ez_6]; rw [nI_clamp (by omega)]]
      refine lv_i2l (v := ((xs (i + 3))).toInt64) hx hb dL_law_233 rfl ?_
      refine lv_ldc2 (v := 4294967295) hx hb hown (hts _ q315) dL_law_234 ?_
      refine lv_land hx hb dL_law_237 ?_
      refine lv_lor hx hb dL_law_238 ?_
      refine lv_topl (fun z_7 ez_7 => ?_)
      rw [show z_7 = gl_long (xs (i + 2)) (xs (i + 3)) from by rw [ez_7]; rfl]
      have hPc := hP.sub (ws' := [(aX, .inr (0, [.ref aF, .ref aR, .ref aO, .ref aA, .int (nI n), .long v])), (aO, .inr (3, [.ref aB, .int (nI k)])), (aB, .inl (cB, 4096, .inl g))]) [0, 5, 6] rfl
      have hDc := hD.sub (ws' := [(aX, .inr (0, [.ref aF, .ref aR, .ref aO, .ref aA, .int (nI n), .long v])), (aO, .inr (3, [.ref aB, .int (nI k)])), (aB, .inl (cB, 4096, .inl g))]) [0, 5, 6] (by decide) rfl
      have hFc := va_free (wc := [(aX, .inr (0, [.ref aF, .ref aR, .ref aO, .ref aA, .int (nI n), .long v])), (aO, .inr (3, [.ref aB, .int (nI k)])), (aB, .inl (cB, 4096, .inl g))]) hD hS hA [0, 5, 6] rfl
      refine va_calli (va_runV (As := [.int (nI hh), .long (gl_long (xs (i + 2)) (xs (i + 3)))]) (rest := []) ⟨hx, hb, hml, hown, hts⟩ (m_G_writeR l dC dI cB aX aF aR aO aA aB n k v (gl_long (xs (i + 2)) (xs (i + 3))) g hh _ hh2 hr0) (cwV 2 hts (lw_V q207 q208 q209 q4 q210) rfl rfl rfl (by decide +kernel) ⟨Nat.le_trans (Nat.le_of_ble_eq_true rfl) hRf, Nat.le_trans (Nat.le_of_ble_eq_true rfl) hRl⟩) ⟨gC_bl, va_recv hK hPc (ci := 0) (q0 := 0) rfl rfl, gC_of hPc hK hDc⟩ rfl rfl hl.1 rfl (lv_room (Nat.le_of_ble_eq_true rfl)) dL_law_239 ⟨hRc, hRs⟩) hS (fun q _ h => hFc q h) hFc (fun r_8 u t H1 locs ht hvm hw hB hz1 hk1 hS => ?_)
      obtain ⟨hP1, hD1⟩ := hB
      rw [ht] at hP1
      obtain ⟨hP, hD⟩ := va_join (wr := [(aF, .inr (1, [.ref aE, .int nb, .int pl])), (aE, .inr (5, es)), (aR, .inr (2, [.ref aF, .ref rb, .int ra, .int re])), (aA, .inl (cB, 1000, .inl f)), (aY, .inr (4, [.ref aM, .ref aN, .int (nI n), .int (nI k), .long v])), (aM, .inl (cB, 1000, .inl f)), (aN, .inl (cB, 1000, .inl g))]) (w1 := [(aX, .inr (0, [.ref aF, .ref aR, .ref aO, .ref aA, .int (nI n), .long v])), (aO, .inr (3, [.ref aB, .int (nI k)])), (aB, .inl (cB, 4096, .inl g))]) hP hD [0, 5, 6] [1, 2, 3, 4, 7, 8, 9] rfl rfl (by decide) (by decide) hk1 hFc hP1 hD1
      have hP := hP.sub (ws' := [(aX, .inr (0, [.ref aF, .ref aR, .ref aO, .ref aA, .int (nI n), .long v])), (aF, .inr (1, [.ref aE, .int nb, .int pl])), (aE, .inr (5, es)), (aR, .inr (2, [.ref aF, .ref rb, .int ra, .int re])), (aA, .inl (cB, 1000, .inl f)), (aO, .inr (3, [.ref aB, .int (nI k)])), (aB, .inl (cB, 4096, .inl g)), (aY, .inr (4, [.ref aM, .ref aN, .int (nI n), .int (nI k), .long v])), (aM, .inl (cB, 1000, .inl f)), (aN, .inl (cB, 1000, .inl g))]) [7, 0, 1, 2, 3, 8, 9, 4, 5, 6] rfl
      have hD := hD.sub (ws' := [(aX, .inr (0, [.ref aF, .ref aR, .ref aO, .ref aA, .int (nI n), .long v])), (aF, .inr (1, [.ref aE, .int nb, .int pl])), (aE, .inr (5, es)), (aR, .inr (2, [.ref aF, .ref rb, .int ra, .int re])), (aA, .inl (cB, 1000, .inl f)), (aO, .inr (3, [.ref aB, .int (nI k)])), (aB, .inl (cB, 4096, .inl g)), (aY, .inr (4, [.ref aM, .ref aN, .int (nI n), .int (nI k), .long v])), (aM, .inl (cB, 1000, .inl f)), (aN, .inl (cB, 1000, .inl g))]) [7, 0, 1, 2, 3, 8, 9, 4, 5, 6] (by decide) rfl
      generalize H1 = H at hP hS ⊢
      have hw1 := hw
      refine lv_aload_n hx hb dL_law_242 rfl (lv_at hl 2 rfl) ?_
      refine lv_aload_n hx hb dL_law_243 rfl (lv_at hl 0 rfl) ?_
      refine lv_iload_n hx hb dL_law_244 rfl (lv_at hl 3 rfl) ?_
      refine lv_iconst (v := 1) hx hb dL_law_245 (by decide) ?_
      refine lv_iadd hx hb dL_law_246 ?_
      refine lv_topi (fun z_9 ez_9 => ?_)
      rw [show z_9 = nI (i + 1) from by rw [ez_9]; exact nI_add i 1]
      refine va_sld hx hb hX hbl hbA hS (i := (nI (i + 1))) (vp_in_nI (by omega) (by omega)) dL_law_247 ?_
      refine lv_topi (fun z_10 ez_10 => ?_)
      rw [show z_10 = nI hh from by rw [ez_10]; rw [nI_clamp (by omega)]; exact ej]
      refine lv_aload_n hx hb dL_law_248 rfl (lv_at hl 0 rfl) ?_
      refine lv_iload_n hx hb dL_law_249 rfl (lv_at hl 3 rfl) ?_
      refine lv_iconst (v := 2) hx hb dL_law_250 (by decide) ?_
      refine lv_iadd hx hb dL_law_251 ?_
      refine lv_topi (fun z_11 ez_11 => ?_)
      rw [show z_11 = nI (i + 2) from by rw [ez_11]; exact nI_add i 2]
      refine va_sld hx hb hX hbl hbA hS (i := (nI (i + 2))) (vp_in_nI (by omega) (by omega)) dL_law_252 ?_
      refine lv_topi (fun z_12 ez_12 => ?_)
      rw [show z_12 = xs (i + 2) from by rw [ez_12]; rw [nI_clamp (by omega)]]
      refine lv_i2l (v := ((xs (i + 2))).toInt64) hx hb dL_law_253 rfl ?_
      refine lv_bipush (v := 32) hx hb dL_law_254 (by decide) ?_
      refine lv_lshl (v := ((((xs (i + 2))).toInt64) <<< (((32 : Int32)).toInt64 &&& 63))) hx hb dL_law_256 rfl ?_
      refine lv_aload_n hx hb dL_law_257 rfl (lv_at hl 0 rfl) ?_
      refine lv_iload_n hx hb dL_law_258 rfl (lv_at hl 3 rfl) ?_
      refine lv_iconst (v := 3) hx hb dL_law_259 (by decide) ?_
      refine lv_iadd hx hb dL_law_260 ?_
      refine lv_topi (fun z_13 ez_13 => ?_)
      rw [show z_13 = nI (i + 3) from by rw [ez_13]; exact nI_add i 3]
      refine va_sld hx hb hX hbl hbA hS (i := (nI (i + 3))) (vp_in_nI (by omega) (by omega)) dL_law_261 ?_
      refine lv_topi (fun z_14 ez_14 => ?_)
      rw [show z_14 = xs (i + 3) from by rw [ez_14]; rw [nI_clamp (by omega)]]
      refine lv_i2l (v := ((xs (i + 3))).toInt64) hx hb dL_law_262 rfl ?_
      refine lv_ldc2 (v := 4294967295) hx hb hown (hts _ q315) dL_law_263 ?_
      refine lv_land hx hb dL_law_266 ?_
      refine lv_lor hx hb dL_law_267 ?_
      refine lv_topl (fun z_15 ez_15 => ?_)
      rw [show z_15 = gl_long (xs (i + 2)) (xs (i + 3)) from by rw [ez_15]; rfl]
      have hPc := hP.sub (ws' := [(aY, .inr (4, [.ref aM, .ref aN, .int (nI n), .int (nI k), .long v])), (aN, .inl (cB, 1000, .inl g))]) [7, 9] rfl
      have hDc := hD.sub (ws' := [(aY, .inr (4, [.ref aM, .ref aN, .int (nI n), .int (nI k), .long v])), (aN, .inl (cB, 1000, .inl g))]) [7, 9] (by decide) rfl
      have hFc := va_free (wc := [(aY, .inr (4, [.ref aM, .ref aN, .int (nI n), .int (nI k), .long v])), (aN, .inl (cB, 1000, .inl g))]) hD hS hA [7, 9] rfl
      refine va_calli (va_runV (As := [.int (nI hh), .long (gl_long (xs (i + 2)) (xs (i + 3)))]) (rest := [.int r_8]) ⟨hx, hb, hml, hown, hts⟩ (m_M_writeR l dC dI cB aY aM aN n k v (gl_long (xs (i + 2)) (xs (i + 3))) g hh _ hh2 hr0) (cwV 2 hts (lw_V q292 q293 q294 q12 q295) rfl rfl rfl (by decide +kernel) ⟨Nat.le_trans (Nat.le_of_ble_eq_true rfl) hRf, Nat.le_trans (Nat.le_of_ble_eq_true rfl) hRl⟩) ⟨gC_bl, va_recv hK hPc (ci := 4) (q0 := 0) rfl rfl, gC_of hPc hK hDc⟩ rfl rfl hl.1 rfl (lv_room (Nat.le_of_ble_eq_true rfl)) dL_law_268 ⟨hRc, hRs⟩) hS (fun q _ h => hFc q h) hFc (fun r_16 u t H1 locs ht hvm hw hB hz1 hk1 hS => ?_)
      obtain ⟨hP1, hD1⟩ := hB
      rw [ht] at hP1
      obtain ⟨hP, hD⟩ := va_join (wr := [(aX, .inr (0, [.ref aF, .ref aR, .ref aO, .ref aA, .int (nI n), .long v])), (aF, .inr (1, [.ref aE, .int nb, .int pl])), (aE, .inr (5, es)), (aR, .inr (2, [.ref aF, .ref rb, .int ra, .int re])), (aA, .inl (cB, 1000, .inl f)), (aO, .inr (3, [.ref aB, .int (nI k)])), (aB, .inl (cB, 4096, .inl g)), (aM, .inl (cB, 1000, .inl f))]) (w1 := [(aY, .inr (4, [.ref aM, .ref aN, .int (nI n), .int (nI k), .long v])), (aN, .inl (cB, 1000, .inl g))]) hP hD [7, 9] [0, 1, 2, 3, 4, 5, 6, 8] rfl rfl (by decide) (by decide) hk1 hFc hP1 hD1
      have hP := hP.sub (ws' := [(aX, .inr (0, [.ref aF, .ref aR, .ref aO, .ref aA, .int (nI n), .long v])), (aF, .inr (1, [.ref aE, .int nb, .int pl])), (aE, .inr (5, es)), (aR, .inr (2, [.ref aF, .ref rb, .int ra, .int re])), (aA, .inl (cB, 1000, .inl f)), (aO, .inr (3, [.ref aB, .int (nI k)])), (aB, .inl (cB, 4096, .inl g)), (aY, .inr (4, [.ref aM, .ref aN, .int (nI n), .int (nI k), .long v])), (aM, .inl (cB, 1000, .inl f)), (aN, .inl (cB, 1000, .inl g))]) [0, 1, 2, 3, 4, 5, 6, 8, 7, 9] rfl
      have hD := hD.sub (ws' := [(aX, .inr (0, [.ref aF, .ref aR, .ref aO, .ref aA, .int (nI n), .long v])), (aF, .inr (1, [.ref aE, .int nb, .int pl])), (aE, .inr (5, es)), (aR, .inr (2, [.ref aF, .ref rb, .int ra, .int re])), (aA, .inl (cB, 1000, .inl f)), (aO, .inr (3, [.ref aB, .int (nI k)])), (aB, .inl (cB, 4096, .inl g)), (aY, .inr (4, [.ref aM, .ref aN, .int (nI n), .int (nI k), .long v])), (aM, .inl (cB, 1000, .inl f)), (aN, .inl (cB, 1000, .inl g))]) [0, 1, 2, 3, 4, 5, 6, 8, 7, 9] (by decide) rfl
      generalize H1 = H at hP hS ⊢
      refine lv_icmp_eq (tgt := 323) hx hb dL_law_271 (by decide) (fun c_17 => ?_) (fun c_17 => ?_)
      · refine lv_iinc (v := nI (i + 6)) (lv' := [(3, .int (nI (i + 6))), (0, .ref b), (1, .ref aX), (2, .ref aY)]) hx hb dL_law_323 hl (k := 3) rfl (nI_add i 6) (by decide) rfl (fun ls hl => ?_)
        refine lv_goto (tgt := 18) hx hb dL_law_326 (by decide) ?_
        exact kx n k v f g es rb nb pl ra re H locs ls hn hk hBy hP hD hS (lv_sub hl [1, 2, 3, 0] rfl)
      · exact absurd (hw1.trans hw.symm) c_17
    · obtain ⟨n2, hl0⟩ := gp_len_ex1 hh (gl_long (xs (i + 2)) (xs (i + 3)))
      by_cases hk2 : k + n2 + 1 ≤ 1000
      · refine lv_aload_n hx hb dL_law_213 rfl (lv_at hl 1 rfl) ?_
        refine lv_aload_n hx hb dL_law_214 rfl (lv_at hl 0 rfl) ?_
        refine lv_iload_n hx hb dL_law_215 rfl (lv_at hl 3 rfl) ?_
        refine lv_iconst (v := 1) hx hb dL_law_216 (by decide) ?_
        refine lv_iadd hx hb dL_law_217 ?_
        refine lv_topi (fun z_1 ez_1 => ?_)
        rw [show z_1 = nI (i + 1) from by rw [ez_1]; exact nI_add i 1]
        refine va_sld hx hb hX hbl hbA hS (i := (nI (i + 1))) (vp_in_nI (by omega) (by omega)) dL_law_218 ?_
        refine lv_topi (fun z_2 ez_2 => ?_)
        rw [show z_2 = nI hh from by rw [ez_2]; rw [nI_clamp (by omega)]; exact ej]
        refine lv_aload_n hx hb dL_law_219 rfl (lv_at hl 0 rfl) ?_
        refine lv_iload_n hx hb dL_law_220 rfl (lv_at hl 3 rfl) ?_
        refine lv_iconst (v := 2) hx hb dL_law_221 (by decide) ?_
        refine lv_iadd hx hb dL_law_222 ?_
        refine lv_topi (fun z_3 ez_3 => ?_)
        rw [show z_3 = nI (i + 2) from by rw [ez_3]; exact nI_add i 2]
        refine va_sld hx hb hX hbl hbA hS (i := (nI (i + 2))) (vp_in_nI (by omega) (by omega)) dL_law_223 ?_
        refine lv_topi (fun z_4 ez_4 => ?_)
        rw [show z_4 = xs (i + 2) from by rw [ez_4]; rw [nI_clamp (by omega)]]
        refine lv_i2l (v := ((xs (i + 2))).toInt64) hx hb dL_law_224 rfl ?_
        refine lv_bipush (v := 32) hx hb dL_law_225 (by decide) ?_
        refine lv_lshl (v := ((((xs (i + 2))).toInt64) <<< (((32 : Int32)).toInt64 &&& 63))) hx hb dL_law_227 rfl ?_
        refine lv_aload_n hx hb dL_law_228 rfl (lv_at hl 0 rfl) ?_
        refine lv_iload_n hx hb dL_law_229 rfl (lv_at hl 3 rfl) ?_
        refine lv_iconst (v := 3) hx hb dL_law_230 (by decide) ?_
        refine lv_iadd hx hb dL_law_231 ?_
        refine lv_topi (fun z_5 ez_5 => ?_)
        rw [show z_5 = nI (i + 3) from by rw [ez_5]; exact nI_add i 3]
        refine va_sld hx hb hX hbl hbA hS (i := (nI (i + 3))) (vp_in_nI (by omega) (by omega)) dL_law_232 ?_
        refine lv_topi (fun z_6 ez_6 => ?_)
        rw [show z_6 = xs (i + 3) from by rw [ez_6]; rw [nI_clamp (by omega)]]
        refine lv_i2l (v := ((xs (i + 3))).toInt64) hx hb dL_law_233 rfl ?_
        refine lv_ldc2 (v := 4294967295) hx hb hown (hts _ q315) dL_law_234 ?_
        refine lv_land hx hb dL_law_237 ?_
        refine lv_lor hx hb dL_law_238 ?_
        refine lv_topl (fun z_7 ez_7 => ?_)
        rw [show z_7 = gl_long (xs (i + 2)) (xs (i + 3)) from by rw [ez_7]; rfl]
        have hPc := hP.sub (ws' := [(aX, .inr (0, [.ref aF, .ref aR, .ref aO, .ref aA, .int (nI n), .long v])), (aO, .inr (3, [.ref aB, .int (nI k)])), (aB, .inl (cB, 4096, .inl g))]) [0, 5, 6] rfl
        have hDc := hD.sub (ws' := [(aX, .inr (0, [.ref aF, .ref aR, .ref aO, .ref aA, .int (nI n), .long v])), (aO, .inr (3, [.ref aB, .int (nI k)])), (aB, .inl (cB, 4096, .inl g))]) [0, 5, 6] (by decide) rfl
        have hFc := va_free (wc := [(aX, .inr (0, [.ref aF, .ref aR, .ref aO, .ref aA, .int (nI n), .long v])), (aO, .inr (3, [.ref aB, .int (nI k)])), (aB, .inl (cB, 4096, .inl g))]) hD hS hA [0, 5, 6] rfl
        refine va_calli (va_runV (As := [.int (nI hh), .long (gl_long (xs (i + 2)) (xs (i + 3)))]) (rest := []) ⟨hx, hb, hml, hown, hts⟩ (m_G_write l dC dI cB aX aF aR aO aA aB n k v (gl_long (xs (i + 2)) (xs (i + 3))) g hh n2 _ hh2 hr0 hl0 hk2) (cwV 2 hts (lw_V q207 q208 q209 q4 q210) rfl rfl rfl (by decide +kernel) ⟨Nat.le_trans (Nat.le_of_ble_eq_true rfl) hRf, Nat.le_trans (Nat.le_of_ble_eq_true rfl) hRl⟩) ⟨gC_bl, va_recv hK hPc (ci := 0) (q0 := 0) rfl rfl, gC_of hPc hK hDc⟩ rfl rfl hl.1 rfl (lv_room (Nat.le_of_ble_eq_true rfl)) dL_law_239 ⟨hRc, hRs⟩) hS (fun q _ h => hFc q h) hFc (fun r_8 u t H1 locs ht hvm hw hB hz1 hk1 hS => ?_)
        obtain ⟨hP1, hD1⟩ := hB
        rw [ht] at hP1
        obtain ⟨hP, hD⟩ := va_join (wr := [(aF, .inr (1, [.ref aE, .int nb, .int pl])), (aE, .inr (5, es)), (aR, .inr (2, [.ref aF, .ref rb, .int ra, .int re])), (aA, .inl (cB, 1000, .inl f)), (aY, .inr (4, [.ref aM, .ref aN, .int (nI n), .int (nI k), .long v])), (aM, .inl (cB, 1000, .inl f)), (aN, .inl (cB, 1000, .inl g))]) (w1 := [(aX, .inr (0, [.ref aF, .ref aR, .ref aO, .ref aA, .int (nI n), .long v])), (aO, .inr (3, [.ref aB, .int (nI (k + n2 + 1))])), (aB, .inl (cB, 4096, .inl (gp_emit (gl_long (xs (i + 2)) (xs (i + 3))) (n2 + 1) g k (n2 + 1))))]) hP hD [0, 5, 6] [1, 2, 3, 4, 7, 8, 9] rfl rfl (by decide) (by decide) hk1 hFc hP1 hD1
        have hP := hP.sub (ws' := [(aX, .inr (0, [.ref aF, .ref aR, .ref aO, .ref aA, .int (nI n), .long v])), (aF, .inr (1, [.ref aE, .int nb, .int pl])), (aE, .inr (5, es)), (aR, .inr (2, [.ref aF, .ref rb, .int ra, .int re])), (aA, .inl (cB, 1000, .inl f)), (aO, .inr (3, [.ref aB, .int (nI (k + n2 + 1))])), (aB, .inl (cB, 4096, .inl (gp_emit (gl_long (xs (i + 2)) (xs (i + 3))) (n2 + 1) g k (n2 + 1)))), (aY, .inr (4, [.ref aM, .ref aN, .int (nI n), .int (nI k), .long v])), (aM, .inl (cB, 1000, .inl f)), (aN, .inl (cB, 1000, .inl g))]) [7, 0, 1, 2, 3, 8, 9, 4, 5, 6] rfl
        have hD := hD.sub (ws' := [(aX, .inr (0, [.ref aF, .ref aR, .ref aO, .ref aA, .int (nI n), .long v])), (aF, .inr (1, [.ref aE, .int nb, .int pl])), (aE, .inr (5, es)), (aR, .inr (2, [.ref aF, .ref rb, .int ra, .int re])), (aA, .inl (cB, 1000, .inl f)), (aO, .inr (3, [.ref aB, .int (nI (k + n2 + 1))])), (aB, .inl (cB, 4096, .inl (gp_emit (gl_long (xs (i + 2)) (xs (i + 3))) (n2 + 1) g k (n2 + 1)))), (aY, .inr (4, [.ref aM, .ref aN, .int (nI n), .int (nI k), .long v])), (aM, .inl (cB, 1000, .inl f)), (aN, .inl (cB, 1000, .inl g))]) [7, 0, 1, 2, 3, 8, 9, 4, 5, 6] (by decide) rfl
        generalize H1 = H at hP hS ⊢
        have hw1 := hw
        refine lv_aload_n hx hb dL_law_242 rfl (lv_at hl 2 rfl) ?_
        refine lv_aload_n hx hb dL_law_243 rfl (lv_at hl 0 rfl) ?_
        refine lv_iload_n hx hb dL_law_244 rfl (lv_at hl 3 rfl) ?_
        refine lv_iconst (v := 1) hx hb dL_law_245 (by decide) ?_
        refine lv_iadd hx hb dL_law_246 ?_
        refine lv_topi (fun z_9 ez_9 => ?_)
        rw [show z_9 = nI (i + 1) from by rw [ez_9]; exact nI_add i 1]
        refine va_sld hx hb hX hbl hbA hS (i := (nI (i + 1))) (vp_in_nI (by omega) (by omega)) dL_law_247 ?_
        refine lv_topi (fun z_10 ez_10 => ?_)
        rw [show z_10 = nI hh from by rw [ez_10]; rw [nI_clamp (by omega)]; exact ej]
        refine lv_aload_n hx hb dL_law_248 rfl (lv_at hl 0 rfl) ?_
        refine lv_iload_n hx hb dL_law_249 rfl (lv_at hl 3 rfl) ?_
        refine lv_iconst (v := 2) hx hb dL_law_250 (by decide) ?_
        refine lv_iadd hx hb dL_law_251 ?_
        refine lv_topi (fun z_11 ez_11 => ?_)
        rw [show z_11 = nI (i + 2) from by rw [ez_11]; exact nI_add i 2]
        refine va_sld hx hb hX hbl hbA hS (i := (nI (i + 2))) (vp_in_nI (by omega) (by omega)) dL_law_252 ?_
        refine lv_topi (fun z_12 ez_12 => ?_)
        rw [show z_12 = xs (i + 2) from by rw [ez_12]; rw [nI_clamp (by omega)]]
        refine lv_i2l (v := ((xs (i + 2))).toInt64) hx hb dL_law_253 rfl ?_
        refine lv_bipush (v := 32) hx hb dL_law_254 (by decide) ?_
        refine lv_lshl (v := ((((xs (i + 2))).toInt64) <<< (((32 : Int32)).toInt64 &&& 63))) hx hb dL_law_256 rfl ?_
        refine lv_aload_n hx hb dL_law_257 rfl (lv_at hl 0 rfl) ?_
        refine lv_iload_n hx hb dL_law_258 rfl (lv_at hl 3 rfl) ?_
        refine lv_iconst (v := 3) hx hb dL_law_259 (by decide) ?_
        refine lv_iadd hx hb dL_law_260 ?_
        refine lv_topi (fun z_13 ez_13 => ?_)
        rw [show z_13 = nI (i + 3) from by rw [ez_13]; exact nI_add i 3]
        refine va_sld hx hb hX hbl hbA hS (i := (nI (i + 3))) (vp_in_nI (by omega) (by omega)) dL_law_261 ?_
        refine lv_topi (fun z_14 ez_14 => ?_)
        rw [show z_14 = xs (i + 3) from by rw [ez_14]; rw [nI_clamp (by omega)]]
        refine lv_i2l (v := ((xs (i + 3))).toInt64) hx hb dL_law_262 rfl ?_
        refine lv_ldc2 (v := 4294967295) hx hb hown (hts _ q315) dL_law_263 ?_
        refine lv_land hx hb dL_law_266 ?_
        refine lv_lor hx hb dL_law_267 ?_
        refine lv_topl (fun z_15 ez_15 => ?_)
        rw [show z_15 = gl_long (xs (i + 2)) (xs (i + 3)) from by rw [ez_15]; rfl]
        have hPc := hP.sub (ws' := [(aY, .inr (4, [.ref aM, .ref aN, .int (nI n), .int (nI k), .long v])), (aN, .inl (cB, 1000, .inl g))]) [7, 9] rfl
        have hDc := hD.sub (ws' := [(aY, .inr (4, [.ref aM, .ref aN, .int (nI n), .int (nI k), .long v])), (aN, .inl (cB, 1000, .inl g))]) [7, 9] (by decide) rfl
        have hFc := va_free (wc := [(aY, .inr (4, [.ref aM, .ref aN, .int (nI n), .int (nI k), .long v])), (aN, .inl (cB, 1000, .inl g))]) hD hS hA [7, 9] rfl
        refine va_calli (va_runV (As := [.int (nI hh), .long (gl_long (xs (i + 2)) (xs (i + 3)))]) (rest := [.int r_8]) ⟨hx, hb, hml, hown, hts⟩ (m_M_write l dC dI cB aY aM aN n k v (gl_long (xs (i + 2)) (xs (i + 3))) g hh n2 _ hh2 hr0 hl0 hk2) (cwV 2 hts (lw_V q292 q293 q294 q12 q295) rfl rfl rfl (by decide +kernel) ⟨Nat.le_trans (Nat.le_of_ble_eq_true rfl) hRf, Nat.le_trans (Nat.le_of_ble_eq_true rfl) hRl⟩) ⟨gC_bl, va_recv hK hPc (ci := 4) (q0 := 0) rfl rfl, gC_of hPc hK hDc⟩ rfl rfl hl.1 rfl (lv_room (Nat.le_of_ble_eq_true rfl)) dL_law_268 ⟨hRc, hRs⟩) hS (fun q _ h => hFc q h) hFc (fun r_16 u t H1 locs ht hvm hw hB hz1 hk1 hS => ?_)
        obtain ⟨hP1, hD1⟩ := hB
        rw [ht] at hP1
        obtain ⟨hP, hD⟩ := va_join (wr := [(aX, .inr (0, [.ref aF, .ref aR, .ref aO, .ref aA, .int (nI n), .long v])), (aF, .inr (1, [.ref aE, .int nb, .int pl])), (aE, .inr (5, es)), (aR, .inr (2, [.ref aF, .ref rb, .int ra, .int re])), (aA, .inl (cB, 1000, .inl f)), (aO, .inr (3, [.ref aB, .int (nI (k + n2 + 1))])), (aB, .inl (cB, 4096, .inl (gp_emit (gl_long (xs (i + 2)) (xs (i + 3))) (n2 + 1) g k (n2 + 1)))), (aM, .inl (cB, 1000, .inl f))]) (w1 := [(aY, .inr (4, [.ref aM, .ref aN, .int (nI n), .int (nI (k + n2 + 1)), .long v])), (aN, .inl (cB, 1000, .inl (gp_emit (gl_long (xs (i + 2)) (xs (i + 3))) (n2 + 1) g k (n2 + 1))))]) hP hD [7, 9] [0, 1, 2, 3, 4, 5, 6, 8] rfl rfl (by decide) (by decide) hk1 hFc hP1 hD1
        have hP := hP.sub (ws' := [(aX, .inr (0, [.ref aF, .ref aR, .ref aO, .ref aA, .int (nI n), .long v])), (aF, .inr (1, [.ref aE, .int nb, .int pl])), (aE, .inr (5, es)), (aR, .inr (2, [.ref aF, .ref rb, .int ra, .int re])), (aA, .inl (cB, 1000, .inl f)), (aO, .inr (3, [.ref aB, .int (nI (k + n2 + 1))])), (aB, .inl (cB, 4096, .inl (gp_emit (gl_long (xs (i + 2)) (xs (i + 3))) (n2 + 1) g k (n2 + 1)))), (aY, .inr (4, [.ref aM, .ref aN, .int (nI n), .int (nI (k + n2 + 1)), .long v])), (aM, .inl (cB, 1000, .inl f)), (aN, .inl (cB, 1000, .inl (gp_emit (gl_long (xs (i + 2)) (xs (i + 3))) (n2 + 1) g k (n2 + 1))))]) [0, 1, 2, 3, 4, 5, 6, 8, 7, 9] rfl
        have hD := hD.sub (ws' := [(aX, .inr (0, [.ref aF, .ref aR, .ref aO, .ref aA, .int (nI n), .long v])), (aF, .inr (1, [.ref aE, .int nb, .int pl])), (aE, .inr (5, es)), (aR, .inr (2, [.ref aF, .ref rb, .int ra, .int re])), (aA, .inl (cB, 1000, .inl f)), (aO, .inr (3, [.ref aB, .int (nI (k + n2 + 1))])), (aB, .inl (cB, 4096, .inl (gp_emit (gl_long (xs (i + 2)) (xs (i + 3))) (n2 + 1) g k (n2 + 1)))), (aY, .inr (4, [.ref aM, .ref aN, .int (nI n), .int (nI (k + n2 + 1)), .long v])), (aM, .inl (cB, 1000, .inl f)), (aN, .inl (cB, 1000, .inl (gp_emit (gl_long (xs (i + 2)) (xs (i + 3))) (n2 + 1) g k (n2 + 1))))]) [0, 1, 2, 3, 4, 5, 6, 8, 7, 9] (by decide) rfl
        generalize H1 = H at hP hS ⊢
        refine lv_icmp_eq (tgt := 323) hx hb dL_law_271 (by decide) (fun c_17 => ?_) (fun c_17 => ?_)
        · refine lv_iinc (v := nI (i + 6)) (lv' := [(3, .int (nI (i + 6))), (0, .ref b), (1, .ref aX), (2, .ref aY)]) hx hb dL_law_323 hl (k := 3) rfl (nI_add i 6) (by decide) rfl (fun ls hl => ?_)
          refine lv_goto (tgt := 18) hx hb dL_law_326 (by decide) ?_
          exact kx n (k + n2 + 1) v f (gp_emit (gl_long (xs (i + 2)) (xs (i + 3))) (n2 + 1) g k (n2 + 1)) es rb nb pl ra re H locs ls hn hk2 hBy hP hD hS (lv_sub hl [1, 2, 3, 0] rfl)
        · exact absurd (hw1.trans hw.symm) c_17
      · refine lv_aload_n hx hb dL_law_213 rfl (lv_at hl 1 rfl) ?_
        refine lv_aload_n hx hb dL_law_214 rfl (lv_at hl 0 rfl) ?_
        refine lv_iload_n hx hb dL_law_215 rfl (lv_at hl 3 rfl) ?_
        refine lv_iconst (v := 1) hx hb dL_law_216 (by decide) ?_
        refine lv_iadd hx hb dL_law_217 ?_
        refine lv_topi (fun z_1 ez_1 => ?_)
        rw [show z_1 = nI (i + 1) from by rw [ez_1]; exact nI_add i 1]
        refine va_sld hx hb hX hbl hbA hS (i := (nI (i + 1))) (vp_in_nI (by omega) (by omega)) dL_law_218 ?_
        refine lv_topi (fun z_2 ez_2 => ?_)
        rw [show z_2 = nI hh from by rw [ez_2]; rw [nI_clamp (by omega)]; exact ej]
        refine lv_aload_n hx hb dL_law_219 rfl (lv_at hl 0 rfl) ?_
        refine lv_iload_n hx hb dL_law_220 rfl (lv_at hl 3 rfl) ?_
        refine lv_iconst (v := 2) hx hb dL_law_221 (by decide) ?_
        refine lv_iadd hx hb dL_law_222 ?_
        refine lv_topi (fun z_3 ez_3 => ?_)
        rw [show z_3 = nI (i + 2) from by rw [ez_3]; exact nI_add i 2]
        refine va_sld hx hb hX hbl hbA hS (i := (nI (i + 2))) (vp_in_nI (by omega) (by omega)) dL_law_223 ?_
        refine lv_topi (fun z_4 ez_4 => ?_)
        rw [show z_4 = xs (i + 2) from by rw [ez_4]; rw [nI_clamp (by omega)]]
        refine lv_i2l (v := ((xs (i + 2))).toInt64) hx hb dL_law_224 rfl ?_
        refine lv_bipush (v := 32) hx hb dL_law_225 (by decide) ?_
        refine lv_lshl (v := ((((xs (i + 2))).toInt64) <<< (((32 : Int32)).toInt64 &&& 63))) hx hb dL_law_227 rfl ?_
        refine lv_aload_n hx hb dL_law_228 rfl (lv_at hl 0 rfl) ?_
        refine lv_iload_n hx hb dL_law_229 rfl (lv_at hl 3 rfl) ?_
        refine lv_iconst (v := 3) hx hb dL_law_230 (by decide) ?_
        refine lv_iadd hx hb dL_law_231 ?_
        refine lv_topi (fun z_5 ez_5 => ?_)
        rw [show z_5 = nI (i + 3) from by rw [ez_5]; exact nI_add i 3]
        refine va_sld hx hb hX hbl hbA hS (i := (nI (i + 3))) (vp_in_nI (by omega) (by omega)) dL_law_232 ?_
        refine lv_topi (fun z_6 ez_6 => ?_)
        rw [show z_6 = xs (i + 3) from by rw [ez_6]; rw [nI_clamp (by omega)]]
        refine lv_i2l (v := ((xs (i + 3))).toInt64) hx hb dL_law_233 rfl ?_
        refine lv_ldc2 (v := 4294967295) hx hb hown (hts _ q315) dL_law_234 ?_
        refine lv_land hx hb dL_law_237 ?_
        refine lv_lor hx hb dL_law_238 ?_
        refine lv_topl (fun z_7 ez_7 => ?_)
        rw [show z_7 = gl_long (xs (i + 2)) (xs (i + 3)) from by rw [ez_7]; rfl]
        have hPc := hP.sub (ws' := [(aX, .inr (0, [.ref aF, .ref aR, .ref aO, .ref aA, .int (nI n), .long v])), (aO, .inr (3, [.ref aB, .int (nI k)])), (aB, .inl (cB, 4096, .inl g))]) [0, 5, 6] rfl
        have hDc := hD.sub (ws' := [(aX, .inr (0, [.ref aF, .ref aR, .ref aO, .ref aA, .int (nI n), .long v])), (aO, .inr (3, [.ref aB, .int (nI k)])), (aB, .inl (cB, 4096, .inl g))]) [0, 5, 6] (by decide) rfl
        have hFc := va_free (wc := [(aX, .inr (0, [.ref aF, .ref aR, .ref aO, .ref aA, .int (nI n), .long v])), (aO, .inr (3, [.ref aB, .int (nI k)])), (aB, .inl (cB, 4096, .inl g))]) hD hS hA [0, 5, 6] rfl
        refine va_calli (va_runV (As := [.int (nI hh), .long (gl_long (xs (i + 2)) (xs (i + 3)))]) (rest := []) ⟨hx, hb, hml, hown, hts⟩ (m_G_writeF l dC dI cB aX aF aR aO aA aB n k v (gl_long (xs (i + 2)) (xs (i + 3))) g hh n2 _ hh2 hr0 hl0 hk (by omega)) (cwV 2 hts (lw_V q207 q208 q209 q4 q210) rfl rfl rfl (by decide +kernel) ⟨Nat.le_trans (Nat.le_of_ble_eq_true rfl) hRf, Nat.le_trans (Nat.le_of_ble_eq_true rfl) hRl⟩) ⟨gC_bl, va_recv hK hPc (ci := 0) (q0 := 0) rfl rfl, gC_of hPc hK hDc⟩ rfl rfl hl.1 rfl (lv_room (Nat.le_of_ble_eq_true rfl)) dL_law_239 ⟨hRc, hRs⟩) hS (fun q _ h => hFc q h) hFc (fun r_8 u t H1 locs ht hvm hw hB hz1 hk1 hS => ?_)
        obtain ⟨hP1, hD1⟩ := hB
        rw [ht] at hP1
        obtain ⟨hP, hD⟩ := va_join (wr := [(aF, .inr (1, [.ref aE, .int nb, .int pl])), (aE, .inr (5, es)), (aR, .inr (2, [.ref aF, .ref rb, .int ra, .int re])), (aA, .inl (cB, 1000, .inl f)), (aY, .inr (4, [.ref aM, .ref aN, .int (nI n), .int (nI k), .long v])), (aM, .inl (cB, 1000, .inl f)), (aN, .inl (cB, 1000, .inl g))]) (w1 := [(aX, .inr (0, [.ref aF, .ref aR, .ref aO, .ref aA, .int (nI n), .long v])), (aO, .inr (3, [.ref aB, .int (nI k)])), (aB, .inl (cB, 4096, .inl g))]) hP hD [0, 5, 6] [1, 2, 3, 4, 7, 8, 9] rfl rfl (by decide) (by decide) hk1 hFc hP1 hD1
        have hP := hP.sub (ws' := [(aX, .inr (0, [.ref aF, .ref aR, .ref aO, .ref aA, .int (nI n), .long v])), (aF, .inr (1, [.ref aE, .int nb, .int pl])), (aE, .inr (5, es)), (aR, .inr (2, [.ref aF, .ref rb, .int ra, .int re])), (aA, .inl (cB, 1000, .inl f)), (aO, .inr (3, [.ref aB, .int (nI k)])), (aB, .inl (cB, 4096, .inl g)), (aY, .inr (4, [.ref aM, .ref aN, .int (nI n), .int (nI k), .long v])), (aM, .inl (cB, 1000, .inl f)), (aN, .inl (cB, 1000, .inl g))]) [7, 0, 1, 2, 3, 8, 9, 4, 5, 6] rfl
        have hD := hD.sub (ws' := [(aX, .inr (0, [.ref aF, .ref aR, .ref aO, .ref aA, .int (nI n), .long v])), (aF, .inr (1, [.ref aE, .int nb, .int pl])), (aE, .inr (5, es)), (aR, .inr (2, [.ref aF, .ref rb, .int ra, .int re])), (aA, .inl (cB, 1000, .inl f)), (aO, .inr (3, [.ref aB, .int (nI k)])), (aB, .inl (cB, 4096, .inl g)), (aY, .inr (4, [.ref aM, .ref aN, .int (nI n), .int (nI k), .long v])), (aM, .inl (cB, 1000, .inl f)), (aN, .inl (cB, 1000, .inl g))]) [7, 0, 1, 2, 3, 8, 9, 4, 5, 6] (by decide) rfl
        generalize H1 = H at hP hS ⊢
        have hw1 := hw
        refine lv_aload_n hx hb dL_law_242 rfl (lv_at hl 2 rfl) ?_
        refine lv_aload_n hx hb dL_law_243 rfl (lv_at hl 0 rfl) ?_
        refine lv_iload_n hx hb dL_law_244 rfl (lv_at hl 3 rfl) ?_
        refine lv_iconst (v := 1) hx hb dL_law_245 (by decide) ?_
        refine lv_iadd hx hb dL_law_246 ?_
        refine lv_topi (fun z_9 ez_9 => ?_)
        rw [show z_9 = nI (i + 1) from by rw [ez_9]; exact nI_add i 1]
        refine va_sld hx hb hX hbl hbA hS (i := (nI (i + 1))) (vp_in_nI (by omega) (by omega)) dL_law_247 ?_
        refine lv_topi (fun z_10 ez_10 => ?_)
        rw [show z_10 = nI hh from by rw [ez_10]; rw [nI_clamp (by omega)]; exact ej]
        refine lv_aload_n hx hb dL_law_248 rfl (lv_at hl 0 rfl) ?_
        refine lv_iload_n hx hb dL_law_249 rfl (lv_at hl 3 rfl) ?_
        refine lv_iconst (v := 2) hx hb dL_law_250 (by decide) ?_
        refine lv_iadd hx hb dL_law_251 ?_
        refine lv_topi (fun z_11 ez_11 => ?_)
        rw [show z_11 = nI (i + 2) from by rw [ez_11]; exact nI_add i 2]
        refine va_sld hx hb hX hbl hbA hS (i := (nI (i + 2))) (vp_in_nI (by omega) (by omega)) dL_law_252 ?_
        refine lv_topi (fun z_12 ez_12 => ?_)
        rw [show z_12 = xs (i + 2) from by rw [ez_12]; rw [nI_clamp (by omega)]]
        refine lv_i2l (v := ((xs (i + 2))).toInt64) hx hb dL_law_253 rfl ?_
        refine lv_bipush (v := 32) hx hb dL_law_254 (by decide) ?_
        refine lv_lshl (v := ((((xs (i + 2))).toInt64) <<< (((32 : Int32)).toInt64 &&& 63))) hx hb dL_law_256 rfl ?_
        refine lv_aload_n hx hb dL_law_257 rfl (lv_at hl 0 rfl) ?_
        refine lv_iload_n hx hb dL_law_258 rfl (lv_at hl 3 rfl) ?_
        refine lv_iconst (v := 3) hx hb dL_law_259 (by decide) ?_
        refine lv_iadd hx hb dL_law_260 ?_
        refine lv_topi (fun z_13 ez_13 => ?_)
        rw [show z_13 = nI (i + 3) from by rw [ez_13]; exact nI_add i 3]
        refine va_sld hx hb hX hbl hbA hS (i := (nI (i + 3))) (vp_in_nI (by omega) (by omega)) dL_law_261 ?_
        refine lv_topi (fun z_14 ez_14 => ?_)
        rw [show z_14 = xs (i + 3) from by rw [ez_14]; rw [nI_clamp (by omega)]]
        refine lv_i2l (v := ((xs (i + 3))).toInt64) hx hb dL_law_262 rfl ?_
        refine lv_ldc2 (v := 4294967295) hx hb hown (hts _ q315) dL_law_263 ?_
        refine lv_land hx hb dL_law_266 ?_
        refine lv_lor hx hb dL_law_267 ?_
        refine lv_topl (fun z_15 ez_15 => ?_)
        rw [show z_15 = gl_long (xs (i + 2)) (xs (i + 3)) from by rw [ez_15]; rfl]
        have hPc := hP.sub (ws' := [(aY, .inr (4, [.ref aM, .ref aN, .int (nI n), .int (nI k), .long v])), (aN, .inl (cB, 1000, .inl g))]) [7, 9] rfl
        have hDc := hD.sub (ws' := [(aY, .inr (4, [.ref aM, .ref aN, .int (nI n), .int (nI k), .long v])), (aN, .inl (cB, 1000, .inl g))]) [7, 9] (by decide) rfl
        have hFc := va_free (wc := [(aY, .inr (4, [.ref aM, .ref aN, .int (nI n), .int (nI k), .long v])), (aN, .inl (cB, 1000, .inl g))]) hD hS hA [7, 9] rfl
        refine va_calli (va_runV (As := [.int (nI hh), .long (gl_long (xs (i + 2)) (xs (i + 3)))]) (rest := [.int r_8]) ⟨hx, hb, hml, hown, hts⟩ (m_M_writeF l dC dI cB aY aM aN n k v (gl_long (xs (i + 2)) (xs (i + 3))) g hh n2 _ hh2 hr0 hl0 hk (by omega)) (cwV 2 hts (lw_V q292 q293 q294 q12 q295) rfl rfl rfl (by decide +kernel) ⟨Nat.le_trans (Nat.le_of_ble_eq_true rfl) hRf, Nat.le_trans (Nat.le_of_ble_eq_true rfl) hRl⟩) ⟨gC_bl, va_recv hK hPc (ci := 4) (q0 := 0) rfl rfl, gC_of hPc hK hDc⟩ rfl rfl hl.1 rfl (lv_room (Nat.le_of_ble_eq_true rfl)) dL_law_268 ⟨hRc, hRs⟩) hS (fun q _ h => hFc q h) hFc (fun r_16 u t H1 locs ht hvm hw hB hz1 hk1 hS => ?_)
        obtain ⟨hP1, hD1⟩ := hB
        rw [ht] at hP1
        obtain ⟨hP, hD⟩ := va_join (wr := [(aX, .inr (0, [.ref aF, .ref aR, .ref aO, .ref aA, .int (nI n), .long v])), (aF, .inr (1, [.ref aE, .int nb, .int pl])), (aE, .inr (5, es)), (aR, .inr (2, [.ref aF, .ref rb, .int ra, .int re])), (aA, .inl (cB, 1000, .inl f)), (aO, .inr (3, [.ref aB, .int (nI k)])), (aB, .inl (cB, 4096, .inl g)), (aM, .inl (cB, 1000, .inl f))]) (w1 := [(aY, .inr (4, [.ref aM, .ref aN, .int (nI n), .int (nI k), .long v])), (aN, .inl (cB, 1000, .inl g))]) hP hD [7, 9] [0, 1, 2, 3, 4, 5, 6, 8] rfl rfl (by decide) (by decide) hk1 hFc hP1 hD1
        have hP := hP.sub (ws' := [(aX, .inr (0, [.ref aF, .ref aR, .ref aO, .ref aA, .int (nI n), .long v])), (aF, .inr (1, [.ref aE, .int nb, .int pl])), (aE, .inr (5, es)), (aR, .inr (2, [.ref aF, .ref rb, .int ra, .int re])), (aA, .inl (cB, 1000, .inl f)), (aO, .inr (3, [.ref aB, .int (nI k)])), (aB, .inl (cB, 4096, .inl g)), (aY, .inr (4, [.ref aM, .ref aN, .int (nI n), .int (nI k), .long v])), (aM, .inl (cB, 1000, .inl f)), (aN, .inl (cB, 1000, .inl g))]) [0, 1, 2, 3, 4, 5, 6, 8, 7, 9] rfl
        have hD := hD.sub (ws' := [(aX, .inr (0, [.ref aF, .ref aR, .ref aO, .ref aA, .int (nI n), .long v])), (aF, .inr (1, [.ref aE, .int nb, .int pl])), (aE, .inr (5, es)), (aR, .inr (2, [.ref aF, .ref rb, .int ra, .int re])), (aA, .inl (cB, 1000, .inl f)), (aO, .inr (3, [.ref aB, .int (nI k)])), (aB, .inl (cB, 4096, .inl g)), (aY, .inr (4, [.ref aM, .ref aN, .int (nI n), .int (nI k), .long v])), (aM, .inl (cB, 1000, .inl f)), (aN, .inl (cB, 1000, .inl g))]) [0, 1, 2, 3, 4, 5, 6, 8, 7, 9] (by decide) rfl
        generalize H1 = H at hP hS ⊢
        refine lv_icmp_eq (tgt := 323) hx hb dL_law_271 (by decide) (fun c_17 => ?_) (fun c_17 => ?_)
        · refine lv_iinc (v := nI (i + 6)) (lv' := [(3, .int (nI (i + 6))), (0, .ref b), (1, .ref aX), (2, .ref aY)]) hx hb dL_law_323 hl (k := 3) rfl (nI_add i 6) (by decide) rfl (fun ls hl => ?_)
          refine lv_goto (tgt := 18) hx hb dL_law_326 (by decide) ?_
          exact kx n k v f g es rb nb pl ra re H locs ls hn hk hBy hP hD hS (lv_sub hl [1, 2, 3, 0] rfl)
        · exact absurd (hw1.trans hw.symm) c_17
end
section
set_option maxRecDepth 100000
set_option maxHeartbeats 4000000 in
/-- read -/
theorem lw_read {p : Program} {l : Launch} {e : Env} {R : Room} {s : State} {m : MethodId} {args : Array Value} {below : List Frame} {meth : Method} {c : Code} {Q : State → Prop} {dC : Nat → ClassId} {dI : Nat → Nat → Nat} {cB : ClassId} {A : Nat → Prop} {cells slots : Nat} (hx : p.tables.exec = Jvm.exec) (hb : c.code = cL_law) (hml : c.maxLocals = 4) (hown : s.vm.findClass R_law = some m.cls) (hts : ∀ w ∈ lw_all, w.before args s = true) (hA : ∀ q : Nat, s.heap.size ≤ q → A q) (hK : va_K (dC, dI) vwCl [(cB, .byte)] s) (hRf : 5 ≤ R.frames) (hRl : 113 ≤ R.locals) (hRc : cells ≤ R.cells) (hRs : slots ≤ R.slots) {b L : Nat} {xs : Nat → Int32} (hX : va_X b L xs s s.heap) (hbl : b < s.heap.size) (hbA : ¬ A b) (hL : L ≤ 384) (i : Nat) (hi : i + 6 ≤ L) (aX aF aR aO aA aE aB aY aM aN : Nat)
    (kx : ∀ (n k : Nat) (v : Int64) (f g : Nat → Int32) (es : List Value) (rb : Nat) (nb pl ra re : Int32) (H : Heap) (locs : List Loc) (ls : Array Slot), n ≤ 1000 → k ≤ 1000 → gp_By f → va_P (dC, dI) vwCl [(aX, .inr (0, [.ref aF, .ref aR, .ref aO, .ref aA, .int (nI n), .long v])), (aF, .inr (1, [.ref aE, .int nb, .int pl])), (aE, .inr (5, es)), (aR, .inr (2, [.ref aF, .ref rb, .int ra, .int re])), (aA, .inl (cB, 1000, .inl f)), (aO, .inr (3, [.ref aB, .int (nI k)])), (aB, .inl (cB, 4096, .inl g)), (aY, .inr (4, [.ref aM, .ref aN, .int (nI n), .int (nI k), .long v])), (aM, .inl (cB, 1000, .inl f)), (aN, .inl (cB, 1000, .inl g))] H → va_D A [(aX, .inr (0, [.ref aF, .ref aR, .ref aO, .ref aA, .int (nI n), .long v])), (aF, .inr (1, [.ref aE, .int nb, .int pl])), (aE, .inr (5, es)), (aR, .inr (2, [.ref aF, .ref rb, .int ra, .int re])), (aA, .inl (cB, 1000, .inl f)), (aO, .inr (3, [.ref aB, .int (nI k)])), (aB, .inl (cB, 4096, .inl g)), (aY, .inr (4, [.ref aM, .ref aN, .int (nI n), .int (nI k), .long v])), (aM, .inl (cB, 1000, .inl f)), (aN, .inl (cB, 1000, .inl g))] → va_S A s.heap H locs → lv_has ls 4 [(0, .ref b), (1, .ref aX), (2, .ref aY), (3, .int (nI (i + 6)))] → W p l e R s m args below meth c H locs cells slots Q (F0 m 18 ls [])) :
    ∀ (n k : Nat) (v : Int64) (f g : Nat → Int32) (es : List Value) (rb : Nat) (nb pl ra re : Int32) (H : Heap) (locs : List Loc) (ls : Array Slot), n ≤ 1000 → k ≤ 1000 → gp_By f → va_P (dC, dI) vwCl [(aX, .inr (0, [.ref aF, .ref aR, .ref aO, .ref aA, .int (nI n), .long v])), (aF, .inr (1, [.ref aE, .int nb, .int pl])), (aE, .inr (5, es)), (aR, .inr (2, [.ref aF, .ref rb, .int ra, .int re])), (aA, .inl (cB, 1000, .inl f)), (aO, .inr (3, [.ref aB, .int (nI k)])), (aB, .inl (cB, 4096, .inl g)), (aY, .inr (4, [.ref aM, .ref aN, .int (nI n), .int (nI k), .long v])), (aM, .inl (cB, 1000, .inl f)), (aN, .inl (cB, 1000, .inl g))] H → va_D A [(aX, .inr (0, [.ref aF, .ref aR, .ref aO, .ref aA, .int (nI n), .long v])), (aF, .inr (1, [.ref aE, .int nb, .int pl])), (aE, .inr (5, es)), (aR, .inr (2, [.ref aF, .ref rb, .int ra, .int re])), (aA, .inl (cB, 1000, .inl f)), (aO, .inr (3, [.ref aB, .int (nI k)])), (aB, .inl (cB, 4096, .inl g)), (aY, .inr (4, [.ref aM, .ref aN, .int (nI n), .int (nI k), .long v])), (aM, .inl (cB, 1000, .inl f)), (aN, .inl (cB, 1000, .inl g))] → va_S A s.heap H locs → lv_has ls 4 [(0, .ref b), (1, .ref aX), (2, .ref aY), (3, .int (nI i))] → W p l e R s m args below meth c H locs cells slots Q (F0 m 166 ls []) := by
  intro n k v f g es rb nb pl ra re H locs ls hn hk hBy hP hD hS hl
  rcases gp_ix (xs (i + 1)) (n := 2) (by omega) with hc | ⟨hh, hh2, e1⟩
  · refine lv_aload_n hx hb dL_law_166 rfl (lv_at hl 1 rfl) ?_
    refine lv_aload_n hx hb dL_law_167 rfl (lv_at hl 0 rfl) ?_
    refine lv_iload_n hx hb dL_law_168 rfl (lv_at hl 3 rfl) ?_
    refine lv_iconst (v := 1) hx hb dL_law_169 (by decide) ?_
    refine lv_iadd hx hb dL_law_170 ?_
    refine lv_topi (fun z_1 ez_1 => ?_)
    rw [show z_1 = nI (i + 1) from by rw [ez_1]; exact nI_add i 1]
    refine va_sld hx hb hX hbl hbA hS (i := (nI (i + 1))) (vp_in_nI (by omega) (by omega)) dL_law_171 ?_
    refine lv_topi (fun z_2 ez_2 => ?_)
    rw [show z_2 = xs (i + 1) from by rw [ez_2]; rw [nI_clamp (by omega)]]
    refine lv_aload_n hx hb dL_law_172 rfl (lv_at hl 0 rfl) ?_
    refine lv_iload_n hx hb dL_law_173 rfl (lv_at hl 3 rfl) ?_
    refine lv_iconst (v := 2) hx hb dL_law_174 (by decide) ?_
    refine lv_iadd hx hb dL_law_175 ?_
    refine lv_topi (fun z_3 ez_3 => ?_)
    rw [show z_3 = nI (i + 2) from by rw [ez_3]; exact nI_add i 2]
    refine va_sld hx hb hX hbl hbA hS (i := (nI (i + 2))) (vp_in_nI (by omega) (by omega)) dL_law_176 ?_
    refine lv_topi (fun z_4 ez_4 => ?_)
    rw [show z_4 = xs (i + 2) from by rw [ez_4]; rw [nI_clamp (by omega)]]
    have hPc := hP.sub (ws' := [(aX, .inr (0, [.ref aF, .ref aR, .ref aO, .ref aA, .int (nI n), .long v])), (aF, .inr (1, [.ref aE, .int nb, .int pl])), (aE, .inr (5, es)), (aR, .inr (2, [.ref aF, .ref rb, .int ra, .int re])), (aA, .inl (cB, 1000, .inl f))]) [0, 1, 2, 3, 4] rfl
    have hDc := hD.sub (ws' := [(aX, .inr (0, [.ref aF, .ref aR, .ref aO, .ref aA, .int (nI n), .long v])), (aF, .inr (1, [.ref aE, .int nb, .int pl])), (aE, .inr (5, es)), (aR, .inr (2, [.ref aF, .ref rb, .int ra, .int re])), (aA, .inl (cB, 1000, .inl f))]) [0, 1, 2, 3, 4] (by decide) rfl
    have hFc := va_free (wc := [(aX, .inr (0, [.ref aF, .ref aR, .ref aO, .ref aA, .int (nI n), .long v])), (aF, .inr (1, [.ref aE, .int nb, .int pl])), (aE, .inr (5, es)), (aR, .inr (2, [.ref aF, .ref rb, .int ra, .int re])), (aA, .inl (cB, 1000, .inl f))]) hD hS hA [0, 1, 2, 3, 4] rfl
    refine va_calli (vt_runVW (n := 2) (As := [.int (xs (i + 1)), .int (xs (i + 2))]) (rest := []) ⟨hx, hb, hml, hown, hts⟩ (m_G_readN l dC dI cB aX aF aR aO aA aE rb n v f es nb pl ra re (xs (i + 1)) (xs (i + 2)) _ (Or.inl hc)) hts (lw_VW q170 q171 q172 q4 q173) rfl rfl rfl (by decide +kernel) ⟨Nat.le_trans (Nat.le_of_ble_eq_true rfl) hRf, Nat.le_trans (Nat.le_of_ble_eq_true rfl) hRl⟩ ⟨gC_bl, va_recv hK hPc (ci := 0) (q0 := 0) rfl rfl, gC_of hPc hK hDc⟩ rfl rfl hl.1 rfl (lv_room (Nat.le_of_ble_eq_true rfl)) dL_law_177 ⟨hRc, hRs⟩) hS (fun q _ h => hFc q h) hFc (fun r_5 u t H1 locs ht hvm hw hB hz1 hk1 hS => ?_)
    obtain ⟨hP1, hD1⟩ := hB
    rw [ht] at hP1
    obtain ⟨hP, hD⟩ := va_join (wr := [(aO, .inr (3, [.ref aB, .int (nI k)])), (aB, .inl (cB, 4096, .inl g)), (aY, .inr (4, [.ref aM, .ref aN, .int (nI n), .int (nI k), .long v])), (aM, .inl (cB, 1000, .inl f)), (aN, .inl (cB, 1000, .inl g))]) (w1 := [(aX, .inr (0, [.ref aF, .ref aR, .ref aO, .ref aA, .int (nI n), .long v])), (aF, .inr (1, [.ref aE, .int nb, .int pl])), (aE, .inr (5, es)), (aR, .inr (2, [.ref aF, .ref rb, .int ra, .int re])), (aA, .inl (cB, 1000, .inl f))]) hP hD [0, 1, 2, 3, 4] [5, 6, 7, 8, 9] rfl rfl (by decide) (by decide) hk1 hFc hP1 hD1
    have hP := hP.sub (ws' := [(aX, .inr (0, [.ref aF, .ref aR, .ref aO, .ref aA, .int (nI n), .long v])), (aF, .inr (1, [.ref aE, .int nb, .int pl])), (aE, .inr (5, es)), (aR, .inr (2, [.ref aF, .ref rb, .int ra, .int re])), (aA, .inl (cB, 1000, .inl f)), (aO, .inr (3, [.ref aB, .int (nI k)])), (aB, .inl (cB, 4096, .inl g)), (aY, .inr (4, [.ref aM, .ref aN, .int (nI n), .int (nI k), .long v])), (aM, .inl (cB, 1000, .inl f)), (aN, .inl (cB, 1000, .inl g))]) [5, 6, 7, 8, 9, 0, 1, 2, 3, 4] rfl
    have hD := hD.sub (ws' := [(aX, .inr (0, [.ref aF, .ref aR, .ref aO, .ref aA, .int (nI n), .long v])), (aF, .inr (1, [.ref aE, .int nb, .int pl])), (aE, .inr (5, es)), (aR, .inr (2, [.ref aF, .ref rb, .int ra, .int re])), (aA, .inl (cB, 1000, .inl f)), (aO, .inr (3, [.ref aB, .int (nI k)])), (aB, .inl (cB, 4096, .inl g)), (aY, .inr (4, [.ref aM, .ref aN, .int (nI n), .int (nI k), .long v])), (aM, .inl (cB, 1000, .inl f)), (aN, .inl (cB, 1000, .inl g))]) [5, 6, 7, 8, 9, 0, 1, 2, 3, 4] (by decide) rfl
    generalize H1 = H at hP hS ⊢
    have hw1 := hw
    refine lv_aload_n hx hb dL_law_180 rfl (lv_at hl 2 rfl) ?_
    refine lv_aload_n hx hb dL_law_181 rfl (lv_at hl 0 rfl) ?_
    refine lv_iload_n hx hb dL_law_182 rfl (lv_at hl 3 rfl) ?_
    refine lv_iconst (v := 1) hx hb dL_law_183 (by decide) ?_
    refine lv_iadd hx hb dL_law_184 ?_
    refine lv_topi (fun z_6 ez_6 => ?_)
    rw [show z_6 = nI (i + 1) from by rw [ez_6]; exact nI_add i 1]
    refine va_sld hx hb hX hbl hbA hS (i := (nI (i + 1))) (vp_in_nI (by omega) (by omega)) dL_law_185 ?_
    refine lv_topi (fun z_7 ez_7 => ?_)
    rw [show z_7 = xs (i + 1) from by rw [ez_7]; rw [nI_clamp (by omega)]]
    refine lv_aload_n hx hb dL_law_186 rfl (lv_at hl 0 rfl) ?_
    refine lv_iload_n hx hb dL_law_187 rfl (lv_at hl 3 rfl) ?_
    refine lv_iconst (v := 2) hx hb dL_law_188 (by decide) ?_
    refine lv_iadd hx hb dL_law_189 ?_
    refine lv_topi (fun z_8 ez_8 => ?_)
    rw [show z_8 = nI (i + 2) from by rw [ez_8]; exact nI_add i 2]
    refine va_sld hx hb hX hbl hbA hS (i := (nI (i + 2))) (vp_in_nI (by omega) (by omega)) dL_law_190 ?_
    refine lv_topi (fun z_9 ez_9 => ?_)
    rw [show z_9 = xs (i + 2) from by rw [ez_9]; rw [nI_clamp (by omega)]]
    have hPc := hP.sub (ws' := [(aY, .inr (4, [.ref aM, .ref aN, .int (nI n), .int (nI k), .long v])), (aM, .inl (cB, 1000, .inl f))]) [7, 8] rfl
    have hDc := hD.sub (ws' := [(aY, .inr (4, [.ref aM, .ref aN, .int (nI n), .int (nI k), .long v])), (aM, .inl (cB, 1000, .inl f))]) [7, 8] (by decide) rfl
    have hFc := va_free (wc := [(aY, .inr (4, [.ref aM, .ref aN, .int (nI n), .int (nI k), .long v])), (aM, .inl (cB, 1000, .inl f))]) hD hS hA [7, 8] rfl
    refine va_calli (va_runV (As := [.int (xs (i + 1)), .int (xs (i + 2))]) (rest := [.int r_5]) ⟨hx, hb, hml, hown, hts⟩ (m_M_readN l dC dI cB aY aM aN n k v f (xs (i + 1)) (xs (i + 2)) _ (Or.inl hc)) (cwV 2 hts (lw_V q283 q284 q285 q12 q286) rfl rfl rfl (by decide +kernel) ⟨Nat.le_trans (Nat.le_of_ble_eq_true rfl) hRf, Nat.le_trans (Nat.le_of_ble_eq_true rfl) hRl⟩) ⟨gC_bl, va_recv hK hPc (ci := 4) (q0 := 0) rfl rfl, gC_of hPc hK hDc⟩ rfl rfl hl.1 rfl (lv_room (Nat.le_of_ble_eq_true rfl)) dL_law_191 ⟨hRc, hRs⟩) hS (fun q _ h => hFc q h) hFc (fun r_10 u t H1 locs ht hvm hw hB hz1 hk1 hS => ?_)
    obtain ⟨hP1, hD1⟩ := hB
    rw [ht] at hP1
    obtain ⟨hP, hD⟩ := va_join (wr := [(aX, .inr (0, [.ref aF, .ref aR, .ref aO, .ref aA, .int (nI n), .long v])), (aF, .inr (1, [.ref aE, .int nb, .int pl])), (aE, .inr (5, es)), (aR, .inr (2, [.ref aF, .ref rb, .int ra, .int re])), (aA, .inl (cB, 1000, .inl f)), (aO, .inr (3, [.ref aB, .int (nI k)])), (aB, .inl (cB, 4096, .inl g)), (aN, .inl (cB, 1000, .inl g))]) (w1 := [(aY, .inr (4, [.ref aM, .ref aN, .int (nI n), .int (nI k), .long v])), (aM, .inl (cB, 1000, .inl f))]) hP hD [7, 8] [0, 1, 2, 3, 4, 5, 6, 9] rfl rfl (by decide) (by decide) hk1 hFc hP1 hD1
    have hP := hP.sub (ws' := [(aX, .inr (0, [.ref aF, .ref aR, .ref aO, .ref aA, .int (nI n), .long v])), (aF, .inr (1, [.ref aE, .int nb, .int pl])), (aE, .inr (5, es)), (aR, .inr (2, [.ref aF, .ref rb, .int ra, .int re])), (aA, .inl (cB, 1000, .inl f)), (aO, .inr (3, [.ref aB, .int (nI k)])), (aB, .inl (cB, 4096, .inl g)), (aY, .inr (4, [.ref aM, .ref aN, .int (nI n), .int (nI k), .long v])), (aM, .inl (cB, 1000, .inl f)), (aN, .inl (cB, 1000, .inl g))]) [0, 1, 2, 3, 4, 5, 6, 8, 9, 7] rfl
    have hD := hD.sub (ws' := [(aX, .inr (0, [.ref aF, .ref aR, .ref aO, .ref aA, .int (nI n), .long v])), (aF, .inr (1, [.ref aE, .int nb, .int pl])), (aE, .inr (5, es)), (aR, .inr (2, [.ref aF, .ref rb, .int ra, .int re])), (aA, .inl (cB, 1000, .inl f)), (aO, .inr (3, [.ref aB, .int (nI k)])), (aB, .inl (cB, 4096, .inl g)), (aY, .inr (4, [.ref aM, .ref aN, .int (nI n), .int (nI k), .long v])), (aM, .inl (cB, 1000, .inl f)), (aN, .inl (cB, 1000, .inl g))]) [0, 1, 2, 3, 4, 5, 6, 8, 9, 7] (by decide) rfl
    generalize H1 = H at hP hS ⊢
    refine lv_icmp_eq (tgt := 323) hx hb dL_law_194 (by decide) (fun c_11 => ?_) (fun c_11 => ?_)
    · refine lv_iinc (v := nI (i + 6)) (lv' := [(3, .int (nI (i + 6))), (0, .ref b), (1, .ref aX), (2, .ref aY)]) hx hb dL_law_323 hl (k := 3) rfl (nI_add i 6) (by decide) rfl (fun ls hl => ?_)
      refine lv_goto (tgt := 18) hx hb dL_law_326 (by decide) ?_
      exact kx n k v f g es rb nb pl ra re H locs ls hn hk hBy hP hD hS (lv_sub hl [1, 2, 3, 0] rfl)
    · exact absurd (hw1.trans hw.symm) c_11
  · rcases gp_ix (xs (i + 2)) (n := n) (by omega) with hc | ⟨a, ha, e2⟩
    · refine lv_aload_n hx hb dL_law_166 rfl (lv_at hl 1 rfl) ?_
      refine lv_aload_n hx hb dL_law_167 rfl (lv_at hl 0 rfl) ?_
      refine lv_iload_n hx hb dL_law_168 rfl (lv_at hl 3 rfl) ?_
      refine lv_iconst (v := 1) hx hb dL_law_169 (by decide) ?_
      refine lv_iadd hx hb dL_law_170 ?_
      refine lv_topi (fun z_1 ez_1 => ?_)
      rw [show z_1 = nI (i + 1) from by rw [ez_1]; exact nI_add i 1]
      refine va_sld hx hb hX hbl hbA hS (i := (nI (i + 1))) (vp_in_nI (by omega) (by omega)) dL_law_171 ?_
      refine lv_topi (fun z_2 ez_2 => ?_)
      rw [show z_2 = xs (i + 1) from by rw [ez_2]; rw [nI_clamp (by omega)]]
      refine lv_aload_n hx hb dL_law_172 rfl (lv_at hl 0 rfl) ?_
      refine lv_iload_n hx hb dL_law_173 rfl (lv_at hl 3 rfl) ?_
      refine lv_iconst (v := 2) hx hb dL_law_174 (by decide) ?_
      refine lv_iadd hx hb dL_law_175 ?_
      refine lv_topi (fun z_3 ez_3 => ?_)
      rw [show z_3 = nI (i + 2) from by rw [ez_3]; exact nI_add i 2]
      refine va_sld hx hb hX hbl hbA hS (i := (nI (i + 2))) (vp_in_nI (by omega) (by omega)) dL_law_176 ?_
      refine lv_topi (fun z_4 ez_4 => ?_)
      rw [show z_4 = xs (i + 2) from by rw [ez_4]; rw [nI_clamp (by omega)]]
      have hPc := hP.sub (ws' := [(aX, .inr (0, [.ref aF, .ref aR, .ref aO, .ref aA, .int (nI n), .long v])), (aF, .inr (1, [.ref aE, .int nb, .int pl])), (aE, .inr (5, es)), (aR, .inr (2, [.ref aF, .ref rb, .int ra, .int re])), (aA, .inl (cB, 1000, .inl f))]) [0, 1, 2, 3, 4] rfl
      have hDc := hD.sub (ws' := [(aX, .inr (0, [.ref aF, .ref aR, .ref aO, .ref aA, .int (nI n), .long v])), (aF, .inr (1, [.ref aE, .int nb, .int pl])), (aE, .inr (5, es)), (aR, .inr (2, [.ref aF, .ref rb, .int ra, .int re])), (aA, .inl (cB, 1000, .inl f))]) [0, 1, 2, 3, 4] (by decide) rfl
      have hFc := va_free (wc := [(aX, .inr (0, [.ref aF, .ref aR, .ref aO, .ref aA, .int (nI n), .long v])), (aF, .inr (1, [.ref aE, .int nb, .int pl])), (aE, .inr (5, es)), (aR, .inr (2, [.ref aF, .ref rb, .int ra, .int re])), (aA, .inl (cB, 1000, .inl f))]) hD hS hA [0, 1, 2, 3, 4] rfl
      refine va_calli (vt_runVW (n := 2) (As := [.int (xs (i + 1)), .int (xs (i + 2))]) (rest := []) ⟨hx, hb, hml, hown, hts⟩ (m_G_readN l dC dI cB aX aF aR aO aA aE rb n v f es nb pl ra re (xs (i + 1)) (xs (i + 2)) _ (Or.inr hc)) hts (lw_VW q170 q171 q172 q4 q173) rfl rfl rfl (by decide +kernel) ⟨Nat.le_trans (Nat.le_of_ble_eq_true rfl) hRf, Nat.le_trans (Nat.le_of_ble_eq_true rfl) hRl⟩ ⟨gC_bl, va_recv hK hPc (ci := 0) (q0 := 0) rfl rfl, gC_of hPc hK hDc⟩ rfl rfl hl.1 rfl (lv_room (Nat.le_of_ble_eq_true rfl)) dL_law_177 ⟨hRc, hRs⟩) hS (fun q _ h => hFc q h) hFc (fun r_5 u t H1 locs ht hvm hw hB hz1 hk1 hS => ?_)
      obtain ⟨hP1, hD1⟩ := hB
      rw [ht] at hP1
      obtain ⟨hP, hD⟩ := va_join (wr := [(aO, .inr (3, [.ref aB, .int (nI k)])), (aB, .inl (cB, 4096, .inl g)), (aY, .inr (4, [.ref aM, .ref aN, .int (nI n), .int (nI k), .long v])), (aM, .inl (cB, 1000, .inl f)), (aN, .inl (cB, 1000, .inl g))]) (w1 := [(aX, .inr (0, [.ref aF, .ref aR, .ref aO, .ref aA, .int (nI n), .long v])), (aF, .inr (1, [.ref aE, .int nb, .int pl])), (aE, .inr (5, es)), (aR, .inr (2, [.ref aF, .ref rb, .int ra, .int re])), (aA, .inl (cB, 1000, .inl f))]) hP hD [0, 1, 2, 3, 4] [5, 6, 7, 8, 9] rfl rfl (by decide) (by decide) hk1 hFc hP1 hD1
      have hP := hP.sub (ws' := [(aX, .inr (0, [.ref aF, .ref aR, .ref aO, .ref aA, .int (nI n), .long v])), (aF, .inr (1, [.ref aE, .int nb, .int pl])), (aE, .inr (5, es)), (aR, .inr (2, [.ref aF, .ref rb, .int ra, .int re])), (aA, .inl (cB, 1000, .inl f)), (aO, .inr (3, [.ref aB, .int (nI k)])), (aB, .inl (cB, 4096, .inl g)), (aY, .inr (4, [.ref aM, .ref aN, .int (nI n), .int (nI k), .long v])), (aM, .inl (cB, 1000, .inl f)), (aN, .inl (cB, 1000, .inl g))]) [5, 6, 7, 8, 9, 0, 1, 2, 3, 4] rfl
      have hD := hD.sub (ws' := [(aX, .inr (0, [.ref aF, .ref aR, .ref aO, .ref aA, .int (nI n), .long v])), (aF, .inr (1, [.ref aE, .int nb, .int pl])), (aE, .inr (5, es)), (aR, .inr (2, [.ref aF, .ref rb, .int ra, .int re])), (aA, .inl (cB, 1000, .inl f)), (aO, .inr (3, [.ref aB, .int (nI k)])), (aB, .inl (cB, 4096, .inl g)), (aY, .inr (4, [.ref aM, .ref aN, .int (nI n), .int (nI k), .long v])), (aM, .inl (cB, 1000, .inl f)), (aN, .inl (cB, 1000, .inl g))]) [5, 6, 7, 8, 9, 0, 1, 2, 3, 4] (by decide) rfl
      generalize H1 = H at hP hS ⊢
      have hw1 := hw
      refine lv_aload_n hx hb dL_law_180 rfl (lv_at hl 2 rfl) ?_
      refine lv_aload_n hx hb dL_law_181 rfl (lv_at hl 0 rfl) ?_
      refine lv_iload_n hx hb dL_law_182 rfl (lv_at hl 3 rfl) ?_
      refine lv_iconst (v := 1) hx hb dL_law_183 (by decide) ?_
      refine lv_iadd hx hb dL_law_184 ?_
      refine lv_topi (fun z_6 ez_6 => ?_)
      rw [show z_6 = nI (i + 1) from by rw [ez_6]; exact nI_add i 1]
      refine va_sld hx hb hX hbl hbA hS (i := (nI (i + 1))) (vp_in_nI (by omega) (by omega)) dL_law_185 ?_
      refine lv_topi (fun z_7 ez_7 => ?_)
      rw [show z_7 = xs (i + 1) from by rw [ez_7]; rw [nI_clamp (by omega)]]
      refine lv_aload_n hx hb dL_law_186 rfl (lv_at hl 0 rfl) ?_
      refine lv_iload_n hx hb dL_law_187 rfl (lv_at hl 3 rfl) ?_
      refine lv_iconst (v := 2) hx hb dL_law_188 (by decide) ?_
      refine lv_iadd hx hb dL_law_189 ?_
      refine lv_topi (fun z_8 ez_8 => ?_)
      rw [show z_8 = nI (i + 2) from by rw [ez_8]; exact nI_add i 2]
      refine va_sld hx hb hX hbl hbA hS (i := (nI (i + 2))) (vp_in_nI (by omega) (by omega)) dL_law_190 ?_
      refine lv_topi (fun z_9 ez_9 => ?_)
      rw [show z_9 = xs (i + 2) from by rw [ez_9]; rw [nI_clamp (by omega)]]
      have hPc := hP.sub (ws' := [(aY, .inr (4, [.ref aM, .ref aN, .int (nI n), .int (nI k), .long v])), (aM, .inl (cB, 1000, .inl f))]) [7, 8] rfl
      have hDc := hD.sub (ws' := [(aY, .inr (4, [.ref aM, .ref aN, .int (nI n), .int (nI k), .long v])), (aM, .inl (cB, 1000, .inl f))]) [7, 8] (by decide) rfl
      have hFc := va_free (wc := [(aY, .inr (4, [.ref aM, .ref aN, .int (nI n), .int (nI k), .long v])), (aM, .inl (cB, 1000, .inl f))]) hD hS hA [7, 8] rfl
      refine va_calli (va_runV (As := [.int (xs (i + 1)), .int (xs (i + 2))]) (rest := [.int r_5]) ⟨hx, hb, hml, hown, hts⟩ (m_M_readN l dC dI cB aY aM aN n k v f (xs (i + 1)) (xs (i + 2)) _ (Or.inr hc)) (cwV 2 hts (lw_V q283 q284 q285 q12 q286) rfl rfl rfl (by decide +kernel) ⟨Nat.le_trans (Nat.le_of_ble_eq_true rfl) hRf, Nat.le_trans (Nat.le_of_ble_eq_true rfl) hRl⟩) ⟨gC_bl, va_recv hK hPc (ci := 4) (q0 := 0) rfl rfl, gC_of hPc hK hDc⟩ rfl rfl hl.1 rfl (lv_room (Nat.le_of_ble_eq_true rfl)) dL_law_191 ⟨hRc, hRs⟩) hS (fun q _ h => hFc q h) hFc (fun r_10 u t H1 locs ht hvm hw hB hz1 hk1 hS => ?_)
      obtain ⟨hP1, hD1⟩ := hB
      rw [ht] at hP1
      obtain ⟨hP, hD⟩ := va_join (wr := [(aX, .inr (0, [.ref aF, .ref aR, .ref aO, .ref aA, .int (nI n), .long v])), (aF, .inr (1, [.ref aE, .int nb, .int pl])), (aE, .inr (5, es)), (aR, .inr (2, [.ref aF, .ref rb, .int ra, .int re])), (aA, .inl (cB, 1000, .inl f)), (aO, .inr (3, [.ref aB, .int (nI k)])), (aB, .inl (cB, 4096, .inl g)), (aN, .inl (cB, 1000, .inl g))]) (w1 := [(aY, .inr (4, [.ref aM, .ref aN, .int (nI n), .int (nI k), .long v])), (aM, .inl (cB, 1000, .inl f))]) hP hD [7, 8] [0, 1, 2, 3, 4, 5, 6, 9] rfl rfl (by decide) (by decide) hk1 hFc hP1 hD1
      have hP := hP.sub (ws' := [(aX, .inr (0, [.ref aF, .ref aR, .ref aO, .ref aA, .int (nI n), .long v])), (aF, .inr (1, [.ref aE, .int nb, .int pl])), (aE, .inr (5, es)), (aR, .inr (2, [.ref aF, .ref rb, .int ra, .int re])), (aA, .inl (cB, 1000, .inl f)), (aO, .inr (3, [.ref aB, .int (nI k)])), (aB, .inl (cB, 4096, .inl g)), (aY, .inr (4, [.ref aM, .ref aN, .int (nI n), .int (nI k), .long v])), (aM, .inl (cB, 1000, .inl f)), (aN, .inl (cB, 1000, .inl g))]) [0, 1, 2, 3, 4, 5, 6, 8, 9, 7] rfl
      have hD := hD.sub (ws' := [(aX, .inr (0, [.ref aF, .ref aR, .ref aO, .ref aA, .int (nI n), .long v])), (aF, .inr (1, [.ref aE, .int nb, .int pl])), (aE, .inr (5, es)), (aR, .inr (2, [.ref aF, .ref rb, .int ra, .int re])), (aA, .inl (cB, 1000, .inl f)), (aO, .inr (3, [.ref aB, .int (nI k)])), (aB, .inl (cB, 4096, .inl g)), (aY, .inr (4, [.ref aM, .ref aN, .int (nI n), .int (nI k), .long v])), (aM, .inl (cB, 1000, .inl f)), (aN, .inl (cB, 1000, .inl g))]) [0, 1, 2, 3, 4, 5, 6, 8, 9, 7] (by decide) rfl
      generalize H1 = H at hP hS ⊢
      refine lv_icmp_eq (tgt := 323) hx hb dL_law_194 (by decide) (fun c_11 => ?_) (fun c_11 => ?_)
      · refine lv_iinc (v := nI (i + 6)) (lv' := [(3, .int (nI (i + 6))), (0, .ref b), (1, .ref aX), (2, .ref aY)]) hx hb dL_law_323 hl (k := 3) rfl (nI_add i 6) (by decide) rfl (fun ls hl => ?_)
        refine lv_goto (tgt := 18) hx hb dL_law_326 (by decide) ?_
        exact kx n k v f g es rb nb pl ra re H locs ls hn hk hBy hP hD hS (lv_sub hl [1, 2, 3, 0] rfl)
      · exact absurd (hw1.trans hw.symm) c_11
    · obtain ⟨most, hm⟩ : ∃ most : Nat, most = if hh = 2 then 9 + 1 else 4 + 1 := ⟨_, rfl⟩
      obtain ⟨c_, hI⟩ := gp_ex f a n most
      refine lv_aload_n hx hb dL_law_166 rfl (lv_at hl 1 rfl) ?_
      refine lv_aload_n hx hb dL_law_167 rfl (lv_at hl 0 rfl) ?_
      refine lv_iload_n hx hb dL_law_168 rfl (lv_at hl 3 rfl) ?_
      refine lv_iconst (v := 1) hx hb dL_law_169 (by decide) ?_
      refine lv_iadd hx hb dL_law_170 ?_
      refine lv_topi (fun z_1 ez_1 => ?_)
      rw [show z_1 = nI (i + 1) from by rw [ez_1]; exact nI_add i 1]
      refine va_sld hx hb hX hbl hbA hS (i := (nI (i + 1))) (vp_in_nI (by omega) (by omega)) dL_law_171 ?_
      refine lv_topi (fun z_2 ez_2 => ?_)
      rw [show z_2 = nI hh from by rw [ez_2]; rw [nI_clamp (by omega)]; exact e1]
      refine lv_aload_n hx hb dL_law_172 rfl (lv_at hl 0 rfl) ?_
      refine lv_iload_n hx hb dL_law_173 rfl (lv_at hl 3 rfl) ?_
      refine lv_iconst (v := 2) hx hb dL_law_174 (by decide) ?_
      refine lv_iadd hx hb dL_law_175 ?_
      refine lv_topi (fun z_3 ez_3 => ?_)
      rw [show z_3 = nI (i + 2) from by rw [ez_3]; exact nI_add i 2]
      refine va_sld hx hb hX hbl hbA hS (i := (nI (i + 2))) (vp_in_nI (by omega) (by omega)) dL_law_176 ?_
      refine lv_topi (fun z_4 ez_4 => ?_)
      rw [show z_4 = nI a from by rw [ez_4]; rw [nI_clamp (by omega)]; exact e2]
      have hPc := hP.sub (ws' := [(aX, .inr (0, [.ref aF, .ref aR, .ref aO, .ref aA, .int (nI n), .long v])), (aF, .inr (1, [.ref aE, .int nb, .int pl])), (aE, .inr (5, es)), (aR, .inr (2, [.ref aF, .ref rb, .int ra, .int re])), (aA, .inl (cB, 1000, .inl f))]) [0, 1, 2, 3, 4] rfl
      have hDc := hD.sub (ws' := [(aX, .inr (0, [.ref aF, .ref aR, .ref aO, .ref aA, .int (nI n), .long v])), (aF, .inr (1, [.ref aE, .int nb, .int pl])), (aE, .inr (5, es)), (aR, .inr (2, [.ref aF, .ref rb, .int ra, .int re])), (aA, .inl (cB, 1000, .inl f))]) [0, 1, 2, 3, 4] (by decide) rfl
      have hFc := va_free (wc := [(aX, .inr (0, [.ref aF, .ref aR, .ref aO, .ref aA, .int (nI n), .long v])), (aF, .inr (1, [.ref aE, .int nb, .int pl])), (aE, .inr (5, es)), (aR, .inr (2, [.ref aF, .ref rb, .int ra, .int re])), (aA, .inl (cB, 1000, .inl f))]) hD hS hA [0, 1, 2, 3, 4] rfl
      refine va_calli (vt_runVW (n := 2) (As := [.int (nI hh), .int (nI a)]) (rest := []) ⟨hx, hb, hml, hown, hts⟩ (m_G_read l dC dI cB aX aF aR aO aA aE rb n v f es nb pl ra re hh a c_ most _ hh2 ha hn hBy hm hI) hts (lw_VW q170 q171 q172 q4 q173) rfl rfl rfl (by decide +kernel) ⟨Nat.le_trans (Nat.le_of_ble_eq_true rfl) hRf, Nat.le_trans (Nat.le_of_ble_eq_true rfl) hRl⟩ ⟨gC_bl, va_recv hK hPc (ci := 0) (q0 := 0) rfl rfl, gC_of hPc hK hDc⟩ rfl rfl hl.1 rfl (lv_room (Nat.le_of_ble_eq_true rfl)) dL_law_177 ⟨hRc, hRs⟩) hS (fun q _ h => hFc q h) hFc (fun r_5 u t H1 locs ht hvm hw hB hz1 hk1 hS => ?_)
      obtain ⟨hP1, hD1⟩ := hB
      rw [ht] at hP1
      obtain ⟨hP, hD⟩ := va_join (wr := [(aO, .inr (3, [.ref aB, .int (nI k)])), (aB, .inl (cB, 4096, .inl g)), (aY, .inr (4, [.ref aM, .ref aN, .int (nI n), .int (nI k), .long v])), (aM, .inl (cB, 1000, .inl f)), (aN, .inl (cB, 1000, .inl g))]) (w1 := [(aX, .inr (0, [.ref aF, .ref aR, .ref aO, .ref aA, .int (nI n), .long u.1])), (aF, .inr (1, [.ref aE, .int u.2.2.2.1, .int u.2.2.2.2])), (aE, .inr (5, es)), (aR, .inr (2, [.ref aF, .ref aA, .int u.2.1, .int u.2.2.1])), (aA, .inl (cB, 1000, .inl f))]) hP hD [0, 1, 2, 3, 4] [5, 6, 7, 8, 9] rfl rfl (by decide) (by decide) hk1 hFc hP1 hD1
      have hP := hP.sub (ws' := [(aX, .inr (0, [.ref aF, .ref aR, .ref aO, .ref aA, .int (nI n), .long u.1])), (aF, .inr (1, [.ref aE, .int u.2.2.2.1, .int u.2.2.2.2])), (aE, .inr (5, es)), (aR, .inr (2, [.ref aF, .ref aA, .int u.2.1, .int u.2.2.1])), (aA, .inl (cB, 1000, .inl f)), (aO, .inr (3, [.ref aB, .int (nI k)])), (aB, .inl (cB, 4096, .inl g)), (aY, .inr (4, [.ref aM, .ref aN, .int (nI n), .int (nI k), .long v])), (aM, .inl (cB, 1000, .inl f)), (aN, .inl (cB, 1000, .inl g))]) [5, 6, 7, 8, 9, 0, 1, 2, 3, 4] rfl
      have hD := hD.sub (ws' := [(aX, .inr (0, [.ref aF, .ref aR, .ref aO, .ref aA, .int (nI n), .long u.1])), (aF, .inr (1, [.ref aE, .int u.2.2.2.1, .int u.2.2.2.2])), (aE, .inr (5, es)), (aR, .inr (2, [.ref aF, .ref aA, .int u.2.1, .int u.2.2.1])), (aA, .inl (cB, 1000, .inl f)), (aO, .inr (3, [.ref aB, .int (nI k)])), (aB, .inl (cB, 4096, .inl g)), (aY, .inr (4, [.ref aM, .ref aN, .int (nI n), .int (nI k), .long v])), (aM, .inl (cB, 1000, .inl f)), (aN, .inl (cB, 1000, .inl g))]) [5, 6, 7, 8, 9, 0, 1, 2, 3, 4] (by decide) rfl
      generalize H1 = H at hP hS ⊢
      obtain ⟨u1, u2, u3, u4, u5⟩ := u
      have hP : va_P (dC, dI) vwCl [(aX, .inr (0, [.ref aF, .ref aR, .ref aO, .ref aA, .int (nI n), .long u1])), (aF, .inr (1, [.ref aE, .int u4, .int u5])), (aE, .inr (5, es)), (aR, .inr (2, [.ref aF, .ref aA, .int u2, .int u3])), (aA, .inl (cB, 1000, .inl f)), (aO, .inr (3, [.ref aB, .int (nI k)])), (aB, .inl (cB, 4096, .inl g)), (aY, .inr (4, [.ref aM, .ref aN, .int (nI n), .int (nI k), .long v])), (aM, .inl (cB, 1000, .inl f)), (aN, .inl (cB, 1000, .inl g))] H := hP
      have hD : va_D A [(aX, .inr (0, [.ref aF, .ref aR, .ref aO, .ref aA, .int (nI n), .long u1])), (aF, .inr (1, [.ref aE, .int u4, .int u5])), (aE, .inr (5, es)), (aR, .inr (2, [.ref aF, .ref aA, .int u2, .int u3])), (aA, .inl (cB, 1000, .inl f)), (aO, .inr (3, [.ref aB, .int (nI k)])), (aB, .inl (cB, 4096, .inl g)), (aY, .inr (4, [.ref aM, .ref aN, .int (nI n), .int (nI k), .long v])), (aM, .inl (cB, 1000, .inl f)), (aN, .inl (cB, 1000, .inl g))] := hD
      have hw1 : (gp_ok hh most n a c_ f → r_5 = nI (c_ + 1) ∧ u1 = gp_val hh f a c_) ∧ (¬ gp_ok hh most n a c_ f → r_5 = -1 ∧ u1 = v) := hw
      clear hw
      refine lv_aload_n hx hb dL_law_180 rfl (lv_at hl 2 rfl) ?_
      refine lv_aload_n hx hb dL_law_181 rfl (lv_at hl 0 rfl) ?_
      refine lv_iload_n hx hb dL_law_182 rfl (lv_at hl 3 rfl) ?_
      refine lv_iconst (v := 1) hx hb dL_law_183 (by decide) ?_
      refine lv_iadd hx hb dL_law_184 ?_
      refine lv_topi (fun z_6 ez_6 => ?_)
      rw [show z_6 = nI (i + 1) from by rw [ez_6]; exact nI_add i 1]
      refine va_sld hx hb hX hbl hbA hS (i := (nI (i + 1))) (vp_in_nI (by omega) (by omega)) dL_law_185 ?_
      refine lv_topi (fun z_7 ez_7 => ?_)
      rw [show z_7 = nI hh from by rw [ez_7]; rw [nI_clamp (by omega)]; exact e1]
      refine lv_aload_n hx hb dL_law_186 rfl (lv_at hl 0 rfl) ?_
      refine lv_iload_n hx hb dL_law_187 rfl (lv_at hl 3 rfl) ?_
      refine lv_iconst (v := 2) hx hb dL_law_188 (by decide) ?_
      refine lv_iadd hx hb dL_law_189 ?_
      refine lv_topi (fun z_8 ez_8 => ?_)
      rw [show z_8 = nI (i + 2) from by rw [ez_8]; exact nI_add i 2]
      refine va_sld hx hb hX hbl hbA hS (i := (nI (i + 2))) (vp_in_nI (by omega) (by omega)) dL_law_190 ?_
      refine lv_topi (fun z_9 ez_9 => ?_)
      rw [show z_9 = nI a from by rw [ez_9]; rw [nI_clamp (by omega)]; exact e2]
      have hPc := hP.sub (ws' := [(aY, .inr (4, [.ref aM, .ref aN, .int (nI n), .int (nI k), .long v])), (aM, .inl (cB, 1000, .inl f))]) [7, 8] rfl
      have hDc := hD.sub (ws' := [(aY, .inr (4, [.ref aM, .ref aN, .int (nI n), .int (nI k), .long v])), (aM, .inl (cB, 1000, .inl f))]) [7, 8] (by decide) rfl
      have hFc := va_free (wc := [(aY, .inr (4, [.ref aM, .ref aN, .int (nI n), .int (nI k), .long v])), (aM, .inl (cB, 1000, .inl f))]) hD hS hA [7, 8] rfl
      refine va_calli (va_runV (As := [.int (nI hh), .int (nI a)]) (rest := [.int r_5]) ⟨hx, hb, hml, hown, hts⟩ (m_M_read l dC dI cB aY aM aN n k v f hh a c_ most _ hh2 ha hn hm hI) (cwV 2 hts (lw_V q283 q284 q285 q12 q286) rfl rfl rfl (by decide +kernel) ⟨Nat.le_trans (Nat.le_of_ble_eq_true rfl) hRf, Nat.le_trans (Nat.le_of_ble_eq_true rfl) hRl⟩) ⟨gC_bl, va_recv hK hPc (ci := 4) (q0 := 0) rfl rfl, gC_of hPc hK hDc⟩ rfl rfl hl.1 rfl (lv_room (Nat.le_of_ble_eq_true rfl)) dL_law_191 ⟨hRc, hRs⟩) hS (fun q _ h => hFc q h) hFc (fun r_10 u t H1 locs ht hvm hw hB hz1 hk1 hS => ?_)
      obtain ⟨hP1, hD1⟩ := hB
      rw [ht] at hP1
      obtain ⟨hP, hD⟩ := va_join (wr := [(aX, .inr (0, [.ref aF, .ref aR, .ref aO, .ref aA, .int (nI n), .long u1])), (aF, .inr (1, [.ref aE, .int u4, .int u5])), (aE, .inr (5, es)), (aR, .inr (2, [.ref aF, .ref aA, .int u2, .int u3])), (aA, .inl (cB, 1000, .inl f)), (aO, .inr (3, [.ref aB, .int (nI k)])), (aB, .inl (cB, 4096, .inl g)), (aN, .inl (cB, 1000, .inl g))]) (w1 := [(aY, .inr (4, [.ref aM, .ref aN, .int (nI n), .int (nI k), .long u])), (aM, .inl (cB, 1000, .inl f))]) hP hD [7, 8] [0, 1, 2, 3, 4, 5, 6, 9] rfl rfl (by decide) (by decide) hk1 hFc hP1 hD1
      have hP := hP.sub (ws' := [(aX, .inr (0, [.ref aF, .ref aR, .ref aO, .ref aA, .int (nI n), .long u1])), (aF, .inr (1, [.ref aE, .int u4, .int u5])), (aE, .inr (5, es)), (aR, .inr (2, [.ref aF, .ref aA, .int u2, .int u3])), (aA, .inl (cB, 1000, .inl f)), (aO, .inr (3, [.ref aB, .int (nI k)])), (aB, .inl (cB, 4096, .inl g)), (aY, .inr (4, [.ref aM, .ref aN, .int (nI n), .int (nI k), .long u])), (aM, .inl (cB, 1000, .inl f)), (aN, .inl (cB, 1000, .inl g))]) [0, 1, 2, 3, 4, 5, 6, 8, 9, 7] rfl
      have hD := hD.sub (ws' := [(aX, .inr (0, [.ref aF, .ref aR, .ref aO, .ref aA, .int (nI n), .long u1])), (aF, .inr (1, [.ref aE, .int u4, .int u5])), (aE, .inr (5, es)), (aR, .inr (2, [.ref aF, .ref aA, .int u2, .int u3])), (aA, .inl (cB, 1000, .inl f)), (aO, .inr (3, [.ref aB, .int (nI k)])), (aB, .inl (cB, 4096, .inl g)), (aY, .inr (4, [.ref aM, .ref aN, .int (nI n), .int (nI k), .long u])), (aM, .inl (cB, 1000, .inl f)), (aN, .inl (cB, 1000, .inl g))]) [0, 1, 2, 3, 4, 5, 6, 8, 9, 7] (by decide) rfl
      generalize H1 = H at hP hS ⊢
      have hq : r_5 = r_10 ∧ u1 = u := by
        by_cases hok : gp_ok hh most n a c_ f
        · exact ⟨(hw1.1 hok).1.trans (hw.1 hok).1.symm, (hw1.1 hok).2.trans (hw.1 hok).2.symm⟩
        · exact ⟨(hw1.2 hok).1.trans (hw.2 hok).1.symm, (hw1.2 hok).2.trans (hw.2 hok).2.symm⟩
      obtain ⟨hq, hu⟩ := hq
      subst hu
      have hP : va_P (dC, dI) vwCl [(aX, .inr (0, [.ref aF, .ref aR, .ref aO, .ref aA, .int (nI n), .long u1])), (aF, .inr (1, [.ref aE, .int u4, .int u5])), (aE, .inr (5, es)), (aR, .inr (2, [.ref aF, .ref aA, .int u2, .int u3])), (aA, .inl (cB, 1000, .inl f)), (aO, .inr (3, [.ref aB, .int (nI k)])), (aB, .inl (cB, 4096, .inl g)), (aY, .inr (4, [.ref aM, .ref aN, .int (nI n), .int (nI k), .long u1])), (aM, .inl (cB, 1000, .inl f)), (aN, .inl (cB, 1000, .inl g))] H := hP
      have hD : va_D A [(aX, .inr (0, [.ref aF, .ref aR, .ref aO, .ref aA, .int (nI n), .long u1])), (aF, .inr (1, [.ref aE, .int u4, .int u5])), (aE, .inr (5, es)), (aR, .inr (2, [.ref aF, .ref aA, .int u2, .int u3])), (aA, .inl (cB, 1000, .inl f)), (aO, .inr (3, [.ref aB, .int (nI k)])), (aB, .inl (cB, 4096, .inl g)), (aY, .inr (4, [.ref aM, .ref aN, .int (nI n), .int (nI k), .long u1])), (aM, .inl (cB, 1000, .inl f)), (aN, .inl (cB, 1000, .inl g))] := hD
      refine lv_icmp_eq (tgt := 323) hx hb dL_law_194 (by decide) (fun c_11 => ?_) (fun c_11 => ?_)
      · refine lv_iinc (v := nI (i + 6)) (lv' := [(3, .int (nI (i + 6))), (0, .ref b), (1, .ref aX), (2, .ref aY)]) hx hb dL_law_323 hl (k := 3) rfl (nI_add i 6) (by decide) rfl (fun ls hl => ?_)
        refine lv_goto (tgt := 18) hx hb dL_law_326 (by decide) ?_
        exact kx n k u1 f g es aA u4 u5 u2 u3 H locs ls hn hk hBy hP hD hS (lv_sub hl [1, 2, 3, 0] rfl)
      · exact absurd (hq) c_11
end
section
set_option maxRecDepth 100000
set_option maxHeartbeats 4000000 in
/-- the law's loop at its head: both sides hold the same -/
theorem lw_loop {p : Program} {l : Launch} {e : Env} {R : Room} {s : State} {m : MethodId} {args : Array Value} {below : List Frame} {meth : Method} {c : Code} {Q : State → Prop} {dC : Nat → ClassId} {dI : Nat → Nat → Nat} {cB : ClassId} {A : Nat → Prop} {cells slots : Nat} (hx : p.tables.exec = Jvm.exec) (hb : c.code = cL_law) (hml : c.maxLocals = 4) (hown : s.vm.findClass R_law = some m.cls) (hts : ∀ w ∈ lw_all, w.before args s = true) (hA : ∀ q : Nat, s.heap.size ≤ q → A q) (hK : va_K (dC, dI) vwCl [(cB, .byte)] s) (hRf : 5 ≤ R.frames) (hRl : 113 ≤ R.locals) (hRc : cells ≤ R.cells) (hRs : slots ≤ R.slots) {b L : Nat} {xs : Nat → Int32} (hX : va_X b L xs s s.heap) (hbl : b < s.heap.size) (hbA : ¬ A b) (hL : L ≤ 384) (aX aF aR aO aA aE aB aY aM aN : Nat)
    (kend : ∀ (H : Heap) (locs : List Loc) (ls : Array Slot), va_S A s.heap H locs → W p l e R s m args below meth c H locs cells slots Q (F0 m 329 ls [])) :
    ∀ (r i : Nat), i ≤ L → L + 1 ≤ i + r → ∀ (n k : Nat) (v : Int64) (f g : Nat → Int32) (es : List Value) (rb : Nat) (nb pl ra re : Int32) (H : Heap) (locs : List Loc) (ls : Array Slot), n ≤ 1000 → k ≤ 1000 → gp_By f → va_P (dC, dI) vwCl [(aX, .inr (0, [.ref aF, .ref aR, .ref aO, .ref aA, .int (nI n), .long v])), (aF, .inr (1, [.ref aE, .int nb, .int pl])), (aE, .inr (5, es)), (aR, .inr (2, [.ref aF, .ref rb, .int ra, .int re])), (aA, .inl (cB, 1000, .inl f)), (aO, .inr (3, [.ref aB, .int (nI k)])), (aB, .inl (cB, 4096, .inl g)), (aY, .inr (4, [.ref aM, .ref aN, .int (nI n), .int (nI k), .long v])), (aM, .inl (cB, 1000, .inl f)), (aN, .inl (cB, 1000, .inl g))] H → va_D A [(aX, .inr (0, [.ref aF, .ref aR, .ref aO, .ref aA, .int (nI n), .long v])), (aF, .inr (1, [.ref aE, .int nb, .int pl])), (aE, .inr (5, es)), (aR, .inr (2, [.ref aF, .ref rb, .int ra, .int re])), (aA, .inl (cB, 1000, .inl f)), (aO, .inr (3, [.ref aB, .int (nI k)])), (aB, .inl (cB, 4096, .inl g)), (aY, .inr (4, [.ref aM, .ref aN, .int (nI n), .int (nI k), .long v])), (aM, .inl (cB, 1000, .inl f)), (aN, .inl (cB, 1000, .inl g))] → va_S A s.heap H locs → lv_has ls 4 [(0, .ref b), (1, .ref aX), (2, .ref aY), (3, .int (nI i))] → W p l e R s m args below meth c H locs cells slots Q (F0 m 18 ls []) := by
  intro r
  induction r with
  | zero =>
    intro i h1 h2
    exact absurd h2 (by omega)
  | succ r ih =>
    intro i hi0 hir n k v f g es rb nb pl ra re H locs ls hn hk hBy hP hD hS hl
    refine lv_iload_n hx hb dL_law_18 rfl (lv_at hl 3 rfl) ?_
    refine lv_aload_n hx hb dL_law_19 rfl (lv_at hl 0 rfl) ?_
    refine va_slen hx hb hX hbl hbA hS dL_law_20 ?_
    refine lv_topi (fun z_1 ez_1 => ?_)
    rw [show z_1 = nI L from by rw [ez_1]; rfl]
    refine lv_bipush (v := 6) hx hb dL_law_21 (by decide) ?_
    refine lv_isub hx hb dL_law_23 ?_
    refine lv_icmp_gt (tgt := 329) hx hb dL_law_24 (by decide) (fun c_2 => ?_) (fun c_2 => ?_)
    · exact kend H locs ls hS
    · have hi : i + 6 ≤ L := gp_fit (by omega) (by omega) c_2
      have kx : ∀ (n k : Nat) (v : Int64) (f g : Nat → Int32) (es : List Value) (rb : Nat) (nb pl ra re : Int32) (H : Heap) (locs : List Loc) (ls : Array Slot), n ≤ 1000 → k ≤ 1000 → gp_By f → va_P (dC, dI) vwCl [(aX, .inr (0, [.ref aF, .ref aR, .ref aO, .ref aA, .int (nI n), .long v])), (aF, .inr (1, [.ref aE, .int nb, .int pl])), (aE, .inr (5, es)), (aR, .inr (2, [.ref aF, .ref rb, .int ra, .int re])), (aA, .inl (cB, 1000, .inl f)), (aO, .inr (3, [.ref aB, .int (nI k)])), (aB, .inl (cB, 4096, .inl g)), (aY, .inr (4, [.ref aM, .ref aN, .int (nI n), .int (nI k), .long v])), (aM, .inl (cB, 1000, .inl f)), (aN, .inl (cB, 1000, .inl g))] H → va_D A [(aX, .inr (0, [.ref aF, .ref aR, .ref aO, .ref aA, .int (nI n), .long v])), (aF, .inr (1, [.ref aE, .int nb, .int pl])), (aE, .inr (5, es)), (aR, .inr (2, [.ref aF, .ref rb, .int ra, .int re])), (aA, .inl (cB, 1000, .inl f)), (aO, .inr (3, [.ref aB, .int (nI k)])), (aB, .inl (cB, 4096, .inl g)), (aY, .inr (4, [.ref aM, .ref aN, .int (nI n), .int (nI k), .long v])), (aM, .inl (cB, 1000, .inl f)), (aN, .inl (cB, 1000, .inl g))] → va_S A s.heap H locs → lv_has ls 4 [(0, .ref b), (1, .ref aX), (2, .ref aY), (3, .int (nI (i + 6)))] → W p l e R s m args below meth c H locs cells slots Q (F0 m 18 ls []) := ih (i + 6) hi (by omega)
      refine lv_aload_n hx hb dL_law_27 rfl (lv_at hl 0 rfl) ?_
      refine lv_iload_n hx hb dL_law_28 rfl (lv_at hl 3 rfl) ?_
      refine va_sld hx hb hX hbl hbA hS (i := (nI i)) (vp_in_nI (by omega) (by omega)) dL_law_29 ?_
      refine lv_topi (fun z_3 ez_3 => ?_)
      rw [show z_3 = xs i from by rw [ez_3]; rw [nI_clamp (by omega)]]
      refine lv_bipush (v := 7) hx hb dL_law_30 (by decide) ?_
      refine lv_iand hx hb dL_law_32 ?_
      rcases gp_sw (xs i) with q | q | q | q | q | q | q | q
      · rw [q]
        refine lv_tableIn (off := 47) (tgt := 80) hx hb dL_law_33 (by decide) (by decide) rfl (by decide) ?_
        exact lw_feed hx hb hml hown hts hA hK hRf hRl hRc hRs hX hbl hbA hL i hi aX aF aR aO aA aE aB aY aM aN kx n k v f g es rb nb pl ra re H locs ls hn hk hBy hP hD hS hl
      · rw [q]
        refine lv_tableIn (off := 110) (tgt := 143) hx hb dL_law_33 (by decide) (by decide) rfl (by decide) ?_
        exact lw_end hx hb hml hown hts hA hK hRf hRl hRc hRs hX hbl hbA hL i hi aX aF aR aO aA aE aB aY aM aN kx n k v f g es rb nb pl ra re H locs ls hn hk hBy hP hD hS hl
      · rw [q]
        refine lv_tableIn (off := 133) (tgt := 166) hx hb dL_law_33 (by decide) (by decide) rfl (by decide) ?_
        exact lw_read hx hb hml hown hts hA hK hRf hRl hRc hRs hX hbl hbA hL i hi aX aF aR aO aA aE aB aY aM aN kx n k v f g es rb nb pl ra re H locs ls hn hk hBy hP hD hS hl
      · rw [q]
        refine lv_tableIn (off := 166) (tgt := 199) hx hb dL_law_33 (by decide) (by decide) rfl (by decide) ?_
        exact lw_value hx hb hml hown hts hA hK hRf hRl hRc hRs hX hbl hbA hL i hi aX aF aR aO aA aE aB aY aM aN kx n k v f g es rb nb pl ra re H locs ls hn hk hBy hP hD hS hl
      · rw [q]
        refine lv_tableIn (off := 180) (tgt := 213) hx hb dL_law_33 (by decide) (by decide) rfl (by decide) ?_
        exact lw_write hx hb hml hown hts hA hK hRf hRl hRc hRs hX hbl hbA hL i hi aX aF aR aO aA aE aB aY aM aN kx n k v f g es rb nb pl ra re H locs ls hn hk hBy hP hD hS hl
      · rw [q]
        refine lv_tableIn (off := 243) (tgt := 276) hx hb dL_law_33 (by decide) (by decide) rfl (by decide) ?_
        exact lw_size hx hb hml hown hts hA hK hRf hRl hRc hRs hX hbl hbA hL i hi aX aF aR aO aA aE aB aY aM aN kx n k v f g es rb nb pl ra re H locs ls hn hk hBy hP hD hS hl
      · rw [q]
        refine lv_tableIn (off := 256) (tgt := 289) hx hb dL_law_33 (by decide) (by decide) rfl (by decide) ?_
        exact lw_at6 hx hb hml hown hts hA hK hRf hRl hRc hRs hX hbl hbA hL i hi aX aF aR aO aA aE aB aY aM aN kx n k v f g es rb nb pl ra re H locs ls hn hk hBy hP hD hS hl
      · rw [q]
        refine lv_tableIn (off := 279) (tgt := 312) hx hb dL_law_33 (by decide) (by decide) rfl (by decide) ?_
        exact lw_clear hx hb hml hown hts hA hK hRf hRl hRc hRs hX hbl hbA hL i hi aX aF aR aO aA aE aB aY aM aN kx n k v f g es rb nb pl ra re H locs ls hn hk hBy hP hD hS hl
end
section
set_option maxRecDepth 100000
def lw_P (b : Addr) (xs : List Int32) (args : Array Value) (s : State) : Prop := args = #[.ref b] ∧ s.IntsAt b xs ∧ xs.length ≤ 384 ∧ (Jvm.Cond.and given_1 narrow_1).before args s = true
def lw_Q (_ : Array Value) (s : State) (o : Outcome) (t : State) : Prop := o = .returned (some (.int 1)) ∧ Framed s o t [] 601024 7293034
def lw_Z (below : List Frame) (a : Array Value) (s : State) : State → Prop := fun t => ∃ o, t.status = .running ∧ Ended t below o ∧ lw_Q a s o t
/-- the law's own end, with 1 on the stack, nothing written that was there before, its room as the claim has it -/
theorem lw_ret {p : Program} {l : Launch} {e : Env} {s : State} {m : MethodId} {below : List Frame} {meth : Method} {c : Code} {b : Nat} (hx : p.tables.exec = Jvm.exec) (hb : c.code = code) (hr : meth.sig.returnType = ret) (hlocks : meth.locks = false) {pc : Nat} {H : Heap} {ls : Array Slot} (hdg : decode code pc = .ok (.ireturn, 1)) : W p l e room_1 s m #[Value.ref b] below meth c H [] 601024 7293034 (lw_Z below #[Value.ref b] s) (F0 m pc ls [.int 1]) := by
  intro T hT X
  obtain ⟨fs, hret, hrun, hended, hW, hframe⟩ := X.leave (v := some (.int 1)) (hlocks := hlocks) (fun h => by rw [hr] at h; cases h)
  have hmeth' : T.vm.method? m = some meth := X.method'
  refine ⟨T.setFrames fs, ?_, .returned (some (.int 1)), hrun, hended, rfl, ⟨_, rfl⟩, hW, hframe⟩
  jvm_step X.here [X.here.top, hx, hb, hdg, hmeth', hr, ret, narrow_b1]
  (try refine ⟨rfl, ?_⟩); (try refine ⟨rfl, ?_⟩)
  first | (intro acts; rw [hret _ acts rfl rfl rfl]) | rw [hret _ _ rfl rfl rfl]
  exact Steps.refl _
/-- what holds at the law's entry: the machine, the code, the tables' words (any of lw_tbl by 'hts w (by decide +kernel)'), the script of L ints xs at the cell b, what the Statement gives of the start (any of its parts by flat_of_before) -/
def lw_At (p : Program) (s : State) (m : MethodId) (meth : Method) (c : Code) (b L : Nat) (xs : Nat → Int32) : Prop :=
  p.tables.exec = Jvm.exec ∧ c.code = code ∧ meth.sig.returnType = ret ∧ c.maxLocals = 4 ∧ s.vm.findClass R_law = some m.cls ∧ (∀ w ∈ lw_tbl, w.before #[Value.ref b] s = true) ∧ va_X b L xs s s.heap ∧ b < s.heap.size ∧ meth.locks = false ∧ (Jvm.Cond.and given_1 narrow_1).before #[Value.ref b] s = true
/-- the classes, known at the claim's start -/
theorem lw_classes {s0 : State} {b0 : Addr} (ht0 : ∀ w ∈ lw_tbl, w.before #[Value.ref b0] s0 = true) : ∃ (dC : Nat → ClassId) (dI : Nat → Nat → Nat), ∀ (k : Nat) (q : vw_C), vwCl[k]? = some q → u_Kn s0 q.1 q.2.1 q.2.2 (dC k) (dI k) := by
  obtain ⟨c0, i0, h0⟩ := u_known (C := RX0) (T := TX0) (N := 6) (n := 6) ht0 (fun w h => lw_all_tbl (in_X0 w h)) (ht0 _ (lw_all_tbl q15))
  obtain ⟨c1, i1, h1⟩ := u_known (C := RX1) (T := TX1) (N := 3) (n := 3) ht0 (fun w h => lw_all_tbl (in_X1 w h)) (ht0 _ (lw_all_tbl q23))
  obtain ⟨c2, i2, h2⟩ := u_known (C := RX2) (T := TX2) (N := 4) (n := 4) ht0 (fun w h => lw_all_tbl (in_X2 w h)) (ht0 _ (lw_all_tbl q100))
  obtain ⟨c3, i3, h3⟩ := u_known (C := RX3) (T := TX3) (N := 2) (n := 2) ht0 (fun w h => lw_all_tbl (in_X3 w h)) (ht0 _ (lw_all_tbl q121))
  obtain ⟨c4, i4, h4⟩ := u_known (C := RX4) (T := TX4) (N := 5) (n := 5) ht0 (fun w h => lw_all_tbl (in_X4 w h)) (ht0 _ (lw_all_tbl q250))
  obtain ⟨c5, i5, h5⟩ := u_known (C := RJ3) (T := TJ3) (N := 6) (n := 6) ht0 (fun w h => lw_all_tbl (in_J3 w h)) (ht0 _ (lw_all_tbl q29))
  refine ⟨fun k => if k = 0 then c0 else if k = 1 then c1 else if k = 2 then c2 else if k = 3 then c3 else if k = 4 then c4 else c5, fun k => if k = 0 then i0 else if k = 1 then i1 else if k = 2 then i2 else if k = 3 then i3 else if k = 4 then i4 else i5, ?_⟩
  intro k q hq
  match k, hq with
  | 0, hq => cases hq; exact h0
  | 1, hq => cases hq; exact h1
  | 2, hq => cases hq; exact h2
  | 3, hq => cases hq; exact h3
  | 4, hq => cases hq; exact h4
  | 5, hq => cases hq; exact h5
  | k + 6, hq => simp [vwCl] at hq
theorem lw_KB {dC : Nat → ClassId} {dI : Nat → Nat → Nat} {s : State} {args : Array Value} (hts : ∀ w ∈ lw_all, w.before args s = true) (h : ∀ (k : Nat) (q : vw_C), vwCl[k]? = some q → u_Kn s q.1 q.2.1 q.2.2 (dC k) (dI k)) : ∃ cB : ClassId, va_K (dC, dI) vwCl [(cB, .byte)] s := by
  obtain ⟨cB, kB, comp, h1, h2, h3⟩ := Cond.arrayClass_spec (hts _ q119)
  refine ⟨cB, h, fun k q hq => ?_⟩
  have hz : k < 1 := (List.getElem?_eq_some_iff.mp hq).1
  rw [show k = 0 by omega] at hq
  cases hq
  exact ⟨fun n z => ⟨fun k h => (by cases h), kB, h2, comp, h3⟩, h1⟩
set_option maxHeartbeats 4000000 in
/-- from the entry, for every script of at most 384 ints, the law comes to its end with true -/
theorem whole_start {p : Program} {e : Env} {s : State} {m : MethodId} {below : List Frame} {meth : Method} {c : Code} (l : Launch) (hfl : l.flags = flags0) {b L : Nat} {xs : Nat → Int32} (hL : L ≤ 384) (C0 : lw_At p s m meth c b L xs) : W p l e room_1 s m #[Value.ref b] below meth c s.heap [] 0 0 (lw_Z below #[Value.ref b] s) (entryFrame m ([Value.ref b] : List Value).toArray 4) := by
  obtain ⟨hx, hb, hr, hml, hown, hts0, hX, hbl, hlocks, hgv⟩ := C0
  have hts : ∀ w ∈ lw_all, w.before #[Value.ref b] s = true := fun w h => hts0 w (lw_all_tbl h)
  obtain ⟨dC, dI, hKn⟩ := lw_classes hts0
  obtain ⟨cB, hK⟩ := lw_KB hts hKn
  obtain ⟨A, hAd⟩ : ∃ A : Nat → Prop, A = fun q => s.heap.size ≤ q := ⟨_, rfl⟩
  have hA : ∀ q : Nat, s.heap.size ≤ q → A q := fun q h => by rw [hAd]; exact h
  have hAn : ∀ a : Nat, a < s.heap.size → ¬ A a := fun a h => by rw [hAd]; exact Nat.not_le.mpr h
  have hbA : ¬ A b := hAn b hbl
  have hgf := flat_of_before _ hgv
  have hT : th_X A s := ⟨⟨va_Nw.of rfl (hts0 _ q31), va_Nw.of rfl (hts0 _ q33), va_Nw.of rfl (hts0 _ q35), va_Nw.of rfl (hts0 _ q30)⟩, th_Z.of (hts0 _ q55) (hgf _ (by decide +kernel)) hAn, th_Z.of (hts0 _ q57) (hgf _ (by decide +kernel)) hAn⟩
  have hN1 : va_Nw (.methodLinkNest RX0 9 yX1_init RX0) s := va_Nw.of rfl (hts0 _ q24)
  have hN2 : va_Nw (.methodLinkNest RX0 27 yX3_init RX0) s := va_Nw.of rfl (hts0 _ q122)
  have hS : va_S A s.heap s.heap [] := va_S.rf
  have hP : va_P (dC, dI) vwCl [] s.heap := fun k q h => by simp at h
  have hD : va_D A [] := ⟨fun i j p q h => by simp at h, fun k q h => by simp at h⟩
  have hl := lv_entry ([.ref b]) (n := 4) (Nat.le_of_ble_eq_true rfl)
  rw [lg_entry_eq]
  generalize (lg_sl ([.ref b]) ++ List.replicate (4 - (lg_sl ([.ref b])).length) Slot.unset).toArray = ls at hl ⊢
  have hl : lv_has ls 4 [(0, .ref b)] := hl
  refine va_new (ci := 0) (fs := [.null, .null, .null, .null, .int 0, .long 0]) (C := RX0) (T := TX0) (N := 6) hx hb hts in_X0 tyX0 tyX0_ok hown (hts _ q14) (hts _ q15) (hts _ q4) hK hP hD hS hA rfl (fun j hj => by rcases (show j = 0 ∨ j = 1 ∨ j = 2 ∨ j = 3 ∨ j = 4 ∨ j = 5 by omega) with rfl | rfl | rfl | rfl | rfl | rfl <;> rfl) (Nat.le_of_ble_eq_true rfl) (Nat.le_of_ble_eq_true rfl) dL_law_0 (fun aX H hP hD hS => ?_)
  have hP : va_P (dC, dI) vwCl [(aX, .inr (0, [.null, .null, .null, .null, .int 0, .long 0]))] H := hP
  have hD : va_D A [(aX, .inr (0, [.null, .null, .null, .null, .int 0, .long 0]))] := hD
  refine W.widen (k := 1) (n := 6) (Nat.le_of_ble_eq_true rfl) (Nat.le_of_ble_eq_true rfl) ?_
  refine lv_dup hx hb dL_law_3 rfl ?_
  have hPc := hP.sub (ws' := [(aX, .inr (0, [.null, .null, .null, .null, .int 0, .long 0]))]) [0] rfl
  have hDc := hD.sub (ws' := [(aX, .inr (0, [.null, .null, .null, .null, .int 0, .long 0]))]) [0] (by decide) rfl
  have hFc := va_free (wc := [(aX, .inr (0, [.null, .null, .null, .null, .int 0, .long 0]))]) hD hS hA [0] rfl
  refine va_callv (va_runI (As := []) (rest := [.ref aX]) ⟨hx, hb, hml, hown, hts⟩ (m_G_init l dC dI cB aX _ hfl) (cwI 0 hts (lw_meth q18) rfl rfl rfl (hts _ q4) (hts _ q16) (hts _ q17) rfl (by decide +kernel) ⟨Nat.le_of_ble_eq_true rfl, Nat.le_of_ble_eq_true rfl⟩) ⟨fun a U g mk q => ⟨gC_bl a U g mk q.1, th_X.call q.2.1, va_Nw.same rfl (rfl : U.vm = (U.calling g mk a).vm) q.2.2.1, va_Nw.same rfl (rfl : U.vm = (U.calling g mk a).vm) q.2.2.2⟩, fun U hU hW => ⟨gC_of hPc hK hDc U hU hW, th_X.move hT hW (fun a h1 h2 => by rw [hU]; exact hS.2.1 a h1 h2) hFc, va_Nw.warmM hW hN1, va_Nw.warmM hW hN2⟩⟩ rfl rfl hl.1 rfl (lv_room (Nat.le_of_ble_eq_true rfl)) dL_law_4 ⟨Nat.le_of_ble_eq_true rfl, Nat.le_of_ble_eq_true rfl⟩) hS (fun q _ h => hFc q h) hFc (fun u t H1 locs ht hvm hw hB hz1 hk1 hS => ?_)
  obtain ⟨aF, aR, aO, aA, aE, rb, aB, es⟩ := u
  obtain ⟨hP1, hD1⟩ := hB
  rw [ht] at hP1
  obtain ⟨hP, hD⟩ := va_join (wr := []) (w1 := [(aX, .inr (0, [.ref aF, .ref aR, .ref aO, .ref aA, .int 0, .long 0])), (aF, .inr (1, [.ref aE, .int 0, .int (-1)])), (aE, .inr (5, es)), (aR, .inr (2, [.ref aF, .ref rb, .int 0, .int 0])), (aA, .inl (cB, 1000, .inl (fun _ => 0))), (aO, .inr (3, [.ref aB, .int 0])), (aB, .inl (cB, 4096, .inl (fun _ => 0)))]) hP hD [0] [] rfl rfl (by decide) (by decide) hk1 hFc hP1 hD1
  generalize H1 = H at hP hS ⊢
  clear ht hz1 hk1
  have hP : va_P (dC, dI) vwCl [(aX, .inr (0, [.ref aF, .ref aR, .ref aO, .ref aA, .int 0, .long 0])), (aF, .inr (1, [.ref aE, .int 0, .int (-1)])), (aE, .inr (5, es)), (aR, .inr (2, [.ref aF, .ref rb, .int 0, .int 0])), (aA, .inl (cB, 1000, .inl (fun _ => 0))), (aO, .inr (3, [.ref aB, .int 0])), (aB, .inl (cB, 4096, .inl (fun _ => 0)))] H := hP
  have hD : va_D A [(aX, .inr (0, [.ref aF, .ref aR, .ref aO, .ref aA, .int 0, .long 0])), (aF, .inr (1, [.ref aE, .int 0, .int (-1)])), (aE, .inr (5, es)), (aR, .inr (2, [.ref aF, .ref rb, .int 0, .int 0])), (aA, .inl (cB, 1000, .inl (fun _ => 0))), (aO, .inr (3, [.ref aB, .int 0])), (aB, .inl (cB, 4096, .inl (fun _ => 0)))] := hD
  refine W.widen (k := 8) (n := 5117) (Nat.le_of_ble_eq_true rfl) (Nat.le_of_ble_eq_true rfl) ?_
  refine lv_astore_n (lv' := [(1, .ref aX), (0, .ref b)]) hx hb dL_law_7 rfl hl (by decide) rfl (fun ls hl => ?_)
  refine va_new (ci := 4) (fs := [.null, .null, .int 0, .int 0, .long 0]) (C := RX4) (T := TX4) (N := 5) hx hb hts in_X4 tyX4 tyX4_ok hown (hts _ q249) (hts _ q250) (hts _ q12) hK hP hD hS hA rfl (fun j hj => by rcases (show j = 0 ∨ j = 1 ∨ j = 2 ∨ j = 3 ∨ j = 4 by omega) with rfl | rfl | rfl | rfl | rfl <;> rfl) (Nat.le_of_ble_eq_true rfl) (Nat.le_of_ble_eq_true rfl) dL_law_8 (fun aY H hP hD hS => ?_)
  have hP : va_P (dC, dI) vwCl [(aX, .inr (0, [.ref aF, .ref aR, .ref aO, .ref aA, .int 0, .long 0])), (aF, .inr (1, [.ref aE, .int 0, .int (-1)])), (aE, .inr (5, es)), (aR, .inr (2, [.ref aF, .ref rb, .int 0, .int 0])), (aA, .inl (cB, 1000, .inl (fun _ => 0))), (aO, .inr (3, [.ref aB, .int 0])), (aB, .inl (cB, 4096, .inl (fun _ => 0))), (aY, .inr (4, [.null, .null, .int 0, .int 0, .long 0]))] H := hP
  have hD : va_D A [(aX, .inr (0, [.ref aF, .ref aR, .ref aO, .ref aA, .int 0, .long 0])), (aF, .inr (1, [.ref aE, .int 0, .int (-1)])), (aE, .inr (5, es)), (aR, .inr (2, [.ref aF, .ref rb, .int 0, .int 0])), (aA, .inl (cB, 1000, .inl (fun _ => 0))), (aO, .inr (3, [.ref aB, .int 0])), (aB, .inl (cB, 4096, .inl (fun _ => 0))), (aY, .inr (4, [.null, .null, .int 0, .int 0, .long 0]))] := hD
  refine W.widen (k := 9) (n := 5122) (Nat.le_of_ble_eq_true rfl) (Nat.le_of_ble_eq_true rfl) ?_
  refine lv_dup hx hb dL_law_11 rfl ?_
  have hPc := hP.sub (ws' := [(aY, .inr (4, [.null, .null, .int 0, .int 0, .long 0]))]) [7] rfl
  have hDc := hD.sub (ws' := [(aY, .inr (4, [.null, .null, .int 0, .int 0, .long 0]))]) [7] (by decide) rfl
  have hFc := va_free (wc := [(aY, .inr (4, [.null, .null, .int 0, .int 0, .long 0]))]) hD hS hA [7] rfl
  refine va_callv (va_runI (As := []) (rest := [.ref aY]) ⟨hx, hb, hml, hown, hts⟩ (m_M_init l dC dI cB aY _) (cwI 0 hts (lw_meth q253) rfl rfl rfl (hts _ q12) (hts _ q251) (hts _ q252) rfl (by decide +kernel) ⟨Nat.le_of_ble_eq_true rfl, Nat.le_of_ble_eq_true rfl⟩) ⟨gC_bl, gC_of hPc hK hDc⟩ rfl rfl hl.1 rfl (lv_room (Nat.le_of_ble_eq_true rfl)) dL_law_12 ⟨Nat.le_of_ble_eq_true rfl, Nat.le_of_ble_eq_true rfl⟩) hS (fun q _ h => hFc q h) hFc (fun u t H1 locs ht hvm hw hB hz1 hk1 hS => ?_)
  obtain ⟨aM, aN⟩ := u
  obtain ⟨hP1, hD1⟩ := hB
  rw [ht] at hP1
  obtain ⟨hP, hD⟩ := va_join (wr := [(aX, .inr (0, [.ref aF, .ref aR, .ref aO, .ref aA, .int 0, .long 0])), (aF, .inr (1, [.ref aE, .int 0, .int (-1)])), (aE, .inr (5, es)), (aR, .inr (2, [.ref aF, .ref rb, .int 0, .int 0])), (aA, .inl (cB, 1000, .inl (fun _ => 0))), (aO, .inr (3, [.ref aB, .int 0])), (aB, .inl (cB, 4096, .inl (fun _ => 0)))]) (w1 := [(aY, .inr (4, [.ref aM, .ref aN, .int 0, .int 0, .long 0])), (aM, .inl (cB, 1000, .inl (fun _ => 0))), (aN, .inl (cB, 1000, .inl (fun _ => 0)))]) hP hD [7] [0, 1, 2, 3, 4, 5, 6] rfl rfl (by decide) (by decide) hk1 hFc hP1 hD1
  generalize H1 = H at hP hS ⊢
  clear ht hz1 hk1
  have hP : va_P (dC, dI) vwCl [(aX, .inr (0, [.ref aF, .ref aR, .ref aO, .ref aA, .int 0, .long 0])), (aF, .inr (1, [.ref aE, .int 0, .int (-1)])), (aE, .inr (5, es)), (aR, .inr (2, [.ref aF, .ref rb, .int 0, .int 0])), (aA, .inl (cB, 1000, .inl (fun _ => 0))), (aO, .inr (3, [.ref aB, .int 0])), (aB, .inl (cB, 4096, .inl (fun _ => 0))), (aY, .inr (4, [.ref aM, .ref aN, .int 0, .int 0, .long 0])), (aM, .inl (cB, 1000, .inl (fun _ => 0))), (aN, .inl (cB, 1000, .inl (fun _ => 0)))] H := hP
  have hD : va_D A [(aX, .inr (0, [.ref aF, .ref aR, .ref aO, .ref aA, .int 0, .long 0])), (aF, .inr (1, [.ref aE, .int 0, .int (-1)])), (aE, .inr (5, es)), (aR, .inr (2, [.ref aF, .ref rb, .int 0, .int 0])), (aA, .inl (cB, 1000, .inl (fun _ => 0))), (aO, .inr (3, [.ref aB, .int 0])), (aB, .inl (cB, 4096, .inl (fun _ => 0))), (aY, .inr (4, [.ref aM, .ref aN, .int 0, .int 0, .long 0])), (aM, .inl (cB, 1000, .inl (fun _ => 0))), (aN, .inl (cB, 1000, .inl (fun _ => 0)))] := hD
  refine W.widen (k := 11) (n := 7122) (Nat.le_of_ble_eq_true rfl) (Nat.le_of_ble_eq_true rfl) ?_
  refine lv_astore_n (lv' := [(2, .ref aY), (1, .ref aX), (0, .ref b)]) hx hb dL_law_15 rfl hl (by decide) rfl (fun ls hl => ?_)
  refine lv_iconst (v := 0) hx hb dL_law_16 (by decide) ?_
  refine lv_topi (fun z_1 ez_1 => ?_)
  rw [show z_1 = nI 0 from by rw [ez_1]; rfl]
  refine lv_istore_n (lv' := [(3, .int (nI 0)), (2, .ref aY), (1, .ref aX), (0, .ref b)]) hx hb dL_law_17 rfl hl (by decide) rfl (fun ls hl => ?_)
  have hP : va_P (dC, dI) vwCl [(aX, .inr (0, [.ref aF, .ref aR, .ref aO, .ref aA, .int (nI 0), .long 0])), (aF, .inr (1, [.ref aE, .int 0, .int (-1)])), (aE, .inr (5, es)), (aR, .inr (2, [.ref aF, .ref rb, .int 0, .int 0])), (aA, .inl (cB, 1000, .inl (fun _ => 0))), (aO, .inr (3, [.ref aB, .int (nI 0)])), (aB, .inl (cB, 4096, .inl (fun _ => 0))), (aY, .inr (4, [.ref aM, .ref aN, .int (nI 0), .int (nI 0), .long 0])), (aM, .inl (cB, 1000, .inl (fun _ => 0))), (aN, .inl (cB, 1000, .inl (fun _ => 0)))] H := hP
  have hD : va_D A [(aX, .inr (0, [.ref aF, .ref aR, .ref aO, .ref aA, .int (nI 0), .long 0])), (aF, .inr (1, [.ref aE, .int 0, .int (-1)])), (aE, .inr (5, es)), (aR, .inr (2, [.ref aF, .ref rb, .int 0, .int 0])), (aA, .inl (cB, 1000, .inl (fun _ => 0))), (aO, .inr (3, [.ref aB, .int (nI 0)])), (aB, .inl (cB, 4096, .inl (fun _ => 0))), (aY, .inr (4, [.ref aM, .ref aN, .int (nI 0), .int (nI 0), .long 0])), (aM, .inl (cB, 1000, .inl (fun _ => 0))), (aN, .inl (cB, 1000, .inl (fun _ => 0)))] := hD
  refine lw_loop (R := room_1) hx hb hml hown hts hA hK (Nat.le_of_ble_eq_true rfl) (Nat.le_of_ble_eq_true rfl) (Nat.le_of_ble_eq_true rfl) (Nat.le_of_ble_eq_true rfl) hX hbl hbA hL aX aF aR aO aA aE aB aY aM aN (fun H locs ls hS => ?_) (L + 1) 0 (Nat.zero_le _) (by omega) 0 0 0 (fun _ => 0) (fun _ => 0) es rb 0 (-1) 0 0 H locs ls (by decide) (by decide) gp_By0 hP hD hS (lv_sub hl [3, 2, 1, 0] rfl)
  refine lv_iconst (v := 1) hx hb dL_law_329 (by decide) ?_
  refine va_forget (fun q hq => by have h := hS.2.2 q hq; rw [hAd] at h; exact h) ?_
  refine W.widen (k := 601024) (n := 7293034) (Nat.le_of_ble_eq_true rfl) (Nat.le_of_ble_eq_true rfl) ?_
  exact lw_ret hx hb hr hlocks dL_law_330
end
section
set_option maxRecDepth 100000
set_option maxHeartbeats 4000000 in
theorem lw_walk (l : Launch) (hfl : l.flags = flags0) (b : Addr) (xs : List Int32) : MetFree l x (headSpec (Jvm.Cond.code x code maxLocals ret :: tables_1) room_1) (lw_P b xs) (fun _ _ _ _ _ => True) lw_Q := by
  refine MetFree.of_bodyS (code := code) (maxLocals := maxLocals) (ret := ret) (by decide) ?_ ?_
  · intro args s m h hn
    obtain ⟨meth, c, h1, h2, h3, h4, h5, h6, -, -⟩ := Cond.code_spec hn (atoms_spec (ws := Jvm.Cond.code x code maxLocals ret :: tables_1) h _ List.mem_cons_self)
    exact ⟨meth, c, h1, h2, h3, h4, h5, h6⟩
  · intro p e s m args below meth c s₁ B hml0 hP _
    obtain ⟨rfl, hx, hbd, hgv⟩ := hP
    obtain ⟨scr, harrAt, hlist, hof, hsmall⟩ := hx
    obtain ⟨hcb, hkn, -, -⟩ := State.arrayAt?_spec harrAt
    have hown : s.vm.findClass R_law = some m.cls := findClass_of_methodNamed B.named
    have hts0 : ∀ c ∈ (Jvm.Cond.code x code maxLocals ret :: tables_1), c.before #[Value.ref b] s = true := atoms_spec (ws := Jvm.Cond.code x code maxLocals ret :: tables_1) B.pre
    have hts : ∀ w ∈ lw_tbl, w.before #[Value.ref b] s = true := k2_hts_sels lw_privs (fun w hw => hts0 w (List.mem_cons_of_mem _ hw)) lw_privs_ok
    have hml : c.maxLocals = 4 := B.maxLocals_eq (hts0 _ List.mem_cons_self)
    have X₀ : Stand p l e room_1 s m #[Value.ref b] below meth c s₁ [] 0 0 := Stand.of_body B
    have hh0 : s₁.heap = s.heap := by rw [B.state]; rfl
    have hsz : scr.slots.size = xs.length := by rw [← Array.length_toList, hlist, List.length_map]
    have hval : ∀ j : Nat, j < xs.length → scr.slots[j]? = some (.int (xs.getD j 0)) := fun j hj => by
      rw [← Array.getElem?_toList, hlist]
      simp [hj]
    have hbl : b < s.heap.size := (Array.getElem?_eq_some_iff.mp hcb).1
    have hX : va_X b xs.length (fun j => xs.getD j 0) s s.heap := ⟨scr, hcb, hof, hkn, hsz, hval⟩
    have K : W p l e room_1 s m #[Value.ref b] below meth c s₁.heap [] 0 0 (lw_Z below #[Value.ref b] s) (entryFrame m ([Value.ref b] : List Value).toArray 4) := by
      rw [hh0]
      exact whole_start l hfl hbd ⟨B.exec, B.bytes, B.returns, hml, hown, hts, hX, hbl, B.notSynchronized, hgv⟩
    obtain ⟨t, a1, o, b1, b2, b3⟩ := K s₁ rfl X₀
    exact ⟨t, o, a1, b1, b2, b3⟩
theorem lw_pre_spec {args : Array Value} {s : State} (h : (Jvm.Cond.and given_1 narrow_1).before args s = true) (hr : rest_1_c.before args s = true) : ∃ (b : Addr) (xs : List Int32), lw_P b xs args s := by
  have hs := flat_of_before _ h
  have hq := flat_of_before _ hr
  have hc : (Cond.count 1).before args s = true := hs _ (by decide +kernel)
  have harr : (Cond.arrayOf (.arg 0) .int).before args s = true := hs _ (by decide +kernel)
  have hle : (Cond.le (.length (.arg 0)) (.int 384)).before args s = true := hs _ (by decide +kernel)
  have hlen : (Cond.isInt (.length (.arg 0))).before args s = true := hq _ (by decide +kernel)
  have hall : (Cond.all (.arg 0) (.isInt (.elem (.arg 0) (.index 0)))).before args s = true := hq _ (by decide +kernel)
  obtain ⟨b, xs, hb, hx⟩ := State.ints_of_pre rfl harr hlen hall
  have hsm : xs.length < 2 ^ 31 := hx.choose_spec.2.2.2
  have hev : (Term.length (.arg 0)).eval args s none [] s = some (.int xs.length.toInt32) := hx.length_eval hb
  have hv := Cond.le_ints hev (show (Term.int 384).eval args s none [] s = some (.int 384) from rfl)
  have hd : xs.length.toInt32 ≤ 384 := by
    simpa [Cond.before, Cond.holds, hv] using hle
  have hN : xs.length ≤ 384 := (Int32.ofNat_le_ofNat hsm (by decide)).mp (show Int32.ofNat xs.length ≤ Int32.ofNat 384 from hd)
  exact ⟨b, xs, Cond.one_arg hc (show args[0]? = some (.ref b) from hb), hx, hN, h⟩
theorem lw_comes (l : Launch) (hfl : l.flags = flags0) : Comes l x (Jvm.Cond.code x code maxLocals ret :: tables_1) room_1 (fun tb e args s => Calls_1 tb e args s ∧ rest_1 tb e args s ∧ Pre_1 tb e args s)
    (fun _ _ args s o t => lw_Q args s o t) := by
  intro p e ha hc hk s m args below hf hfit hheap happ hpre
  obtain ⟨b, xs, hP⟩ := lw_pre_spec hpre.2.2 hpre.2.1
  obtain ⟨k, o, h1, h2, h3, hQ⟩ := lw_walk l hfl b xs p e ha hc hk s m args below hf ((Spec.applies_iff_loose hf).mp happ).1 hP trivial
  exact ⟨k, o, h1, h2, h3, hQ⟩
theorem lw_frame {s t : State} {o : Outcome} {args : Array Value} (h : Framed s o t [] 601024 7293034) :
    Framed s o t (fieldLocs frame_1_writes args s ++ arrayLocs frame_1_arrays args s ++ staticLocs frame_1_statics s) 601024 7293034 := h
theorem lw_limb (L : Cond) (hL : ∀ (args : Array Value) (s t : State), L.after args s (.returned (some (.int 1))) t = true) :
    ArmFor flags0 classFile x code maxLocals ret World_1 tables_1 room_1 Calls_1 rest_1 Pre_1
      (fun tb e a s o t => postC L tb e a s o t ∧ Framed s o t (fieldLocs frame_1_writes a s ++ arrayLocs frame_1_arrays a s ++ staticLocs frame_1_statics s) 601024 7293034) := by
  intro l hfl _ _ p e ha hc hk s m args below hf hfit hheap happ hpre
  obtain ⟨k, o, h1, h2, h3, rfl, hF⟩ := lw_comes l hfl p e ha hc hk s m args below hf hfit hheap happ hpre
  exact ⟨k, _, h1, h2, h3, hL args s _, lw_frame hF⟩
theorem i_vc : Claimed_1_1 ∧ Claimed_1_2 := ⟨lw_limb limb_1_1 (fun args s t => by simp [limb_1_1, Cond.after, Cond.holds, Cond.value]), lw_limb limb_1_2 (fun args s t => Cond.after_iff.mpr (by
  first | (rw [show limb_1_2 = Cond.eq .result (.int 1) from rfl, Cond.eq_ints (x := 1) (y := 1) rfl rfl]; simp; done) | (simp [limb_1_2, Cond.value, Term.eval]; done)))⟩
end
